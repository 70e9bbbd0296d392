/-! component: pictures of its objects. Colours tell cells apart: 100 and more the parts of a track, 1 what never changes -/
def zo (G : zH) (χ : Nat → Nat) (k a : Nat) (e : zE) : Prop := G a = some e ∧ χ a = k
/-- cells of colours in P are kept -/
def zkee (P : Nat → Prop) (G : zH) (χ : Nat → Nat) (G' : zH) (χ' : Nat → Nat) : Prop := ∀ a e, G a = some e → P (χ a) → G' a = some e ∧ χ' a = χ a
def zcol (χ : Nat → Nat) (q k : Nat) : Nat → Nat := fun x => if x = q then k else χ x
section ZPC
variable {G G' G2 : zH} {χ χ' χ2 : Nat → Nat} {P Q : Nat → Prop} {k k' a b q : Nat} {e e' : zE}
theorem zo.ne (h : zo G χ k a e) (hb : χ b = k') (n : k ≠ k') : a ≠ b := fun q => n (by rw [← h.2, ← hb, q])
theorem zo.kp (h : zo G χ k a e) (hp : P k) (hk : zkee P G χ G' χ') : zo G' χ' k a e := by
  obtain ⟨h1, h2⟩ := hk a e h.1 (by rw [h.2]; exact hp)
  exact ⟨h1, h2.trans h.2⟩
theorem zkee.refl : zkee P G χ G χ := fun _ _ h _ => ⟨h, rfl⟩
theorem zkee.trans (h1 : zkee P G χ G' χ') (h2 : zkee P G' χ' G2 χ2) : zkee P G χ G2 χ2 := fun a e h hp => by
  obtain ⟨a1, a2⟩ := h1 a e h hp
  obtain ⟨b1, b2⟩ := h2 a e a1 (by rw [a2]; exact hp)
  exact ⟨b1, b2.trans a2⟩
theorem zkee.mono (h : zkee P G χ G' χ') (hq : ∀ x, Q x → P x) : zkee Q G χ G' χ' := fun a e h1 h2 => h a e h1 (hq _ h2)
theorem zkee.put (hb : χ b = k) (hk : ¬ P k) : zkee P G χ (zup G b e) χ := fun a x h hp => ⟨(zup_n (fun q => hk (by rw [← hb, ← q]; exact hp))).trans h, rfl⟩
theorem zkee.new (hq : G q = none) : zkee P G χ (zup G q e) (zcol χ q k) := fun a x h _ => by
  have n : a ≠ q := fun z => by rw [z, hq] at h; cases h
  exact ⟨(zup_n n).trans h, if_neg n⟩
theorem zo.newc (hq : G q = none) : zo (zup G q e) (zcol χ q k) k q e := ⟨zup_s, if_pos rfl⟩
theorem zo.put (h : zo G χ k a e) : zo (zup G a e') χ k a e' := ⟨zup_s, h.2⟩
end ZPC
/-- a list's cells, raw -/
def zli (G : zH) (a n : Nat) (f : Nat → Nat) (mc : Int32) (e cap : Nat) (g : Nat → Option Nat) : Prop :=
  G a = some (.inr (13, [.int mc, .ref e, .int (nI n)])) ∧ G e = some (.inl (5, cap, .inr (.inr (.inr (.inr g))))) ∧ (n ≤ cap ∧ 1 ≤ cap ∧ cap ≤ 16) ∧ (∀ i, i < n → g i = some (f i)) ∧ ∀ i, n ≤ i → g i = none
/-- the j-th list of a track (1 vehicles, 2 sources, 3 microphones) -/
def zLi (G : zH) (χ : Nat → Nat) (c j a n : Nat) (f : Nat → Nat) : Prop := ∃ (mc : Int32) (e cap : Nat) (g : Nat → Option Nat), zli G a n f mc e cap g ∧ χ a = c + j ∧ χ e = c + 3 + j
theorem zLi.kp {G G' : zH} {χ χ' : Nat → Nat} {P : Nat → Prop} {c j a n : Nat} {f : Nat → Nat} (h : zLi G χ c j a n f) (h1 : P (c + j)) (h2 : P (c + 3 + j)) (hk : zkee P G χ G' χ') : zLi G' χ' c j a n f := by
  obtain ⟨mc, e, cap, g, ⟨q1, q2, q3⟩, q4, q5⟩ := h
  obtain ⟨a1, a2⟩ := hk a _ q1 (by rw [q4]; exact h1)
  obtain ⟨b1, b2⟩ := hk e _ q2 (by rw [q5]; exact h2)
  exact ⟨mc, e, cap, g, ⟨a1, b1, q3⟩, a2.trans q4, b2.trans q5⟩
/-- a vehicle's object -/
abbrev zvE (S : Nat → Int32) (i : Nat) : zE := .inr (4, [.int (S (16 + 3 * i + 0)), .int (S (16 + 3 * i + 1)), .int (S (16 + 3 * i + 2))])
abbrev zsE (S : Nat → Int32) (va ua : Nat → Nat) (i : Nat) : zE := .inr (5, [.ref (va (zsv S i)), .int (S (28 + 21 * i + 1)), .int (S (28 + 21 * i + 2)), .int (S (28 + 21 * i + 3)), .ref (ua i), .int (S (28 + 21 * i + 4))])
abbrev zmE (S : Nat → Int32) (ra : Nat → Nat) (i : Nat) : zE := .inr (6, [.int (S (154 + 4 * i + 0)), .int (S (154 + 4 * i + 1)), .int (S (154 + 4 * i + 2)), .int (S (154 + 4 * i + 3)), .ref (ra i)])
def zfE (S : Nat → Int32) (va : Nat → Nat) : zE := .inr (if S 10 = 0 then (7, [.ref (va (S 11).toNatClampNeg), .int (S 12), .int (S 14)]) else if S 10 = 1 then (2, [.int (S 12), .int (S 13), .int (S 14)]) else (8, [.int (S 12)]))
abbrev zTf (lv ls lm fo pa su q : Nat) (S : Nat → Int32) : List Value := [.ref lv, .ref ls, .ref lm, .int (S 0), .int (S 1), .int (S 2), .long (lN q), .int (S 4), .int (S 9), .ref fo, .int (S 5), .ref pa, .ref su]
/-- the vehicles of a track -/
def zVs (G : zH) (χ : Nat → Nat) (c a n : Nat) (va : Nat → Nat) (S : Nat → Int32) : Prop := zLi G χ c 1 a n va ∧ ∀ i, i < n → zo G χ 1 (va i) (zvE S i)
def zSs (G : zH) (χ : Nat → Nat) (c a n : Nat) (sa ua va : Nat → Nat) (S : Nat → Int32) : Prop := zLi G χ c 2 a n sa ∧ ∀ i, i < n → zo G χ (c + 20 + i) (sa i) (zsE S va ua i) ∧ ∃ w : Nat → Int32, zo G χ (c + 30 + i) (ua i) (.inl (0, 16, .inl w)) ∧ ∀ j, j < zct S (28 + 21 * i + 4) → w j = S (28 + 21 * i + (5 + j))
def zMs (G : zH) (χ : Nat → Nat) (c a n : Nat) (ma ra : Nat → Nat) (S : Nat → Int32) : Prop := zLi G χ c 3 a n ma ∧ ∀ i, i < n → zo G χ (c + 40 + i) (ma i) (zmE S ra i) ∧ ∃ w : Nat → Int32, zo G χ (c + 50 + i) (ra i) (.inl (0, 256, .inl w)) ∧ ∀ j, j < 256 → w j = S (186 + 256 * i + j)
/-- the rows for beams -/
def zRw (G : zH) (χ : Nat → Nat) (c pa su : Nat) : Prop := (∃ w : Nat → Int32, zo G χ (c + 7) pa (.inl (0, 256, .inl w))) ∧ ∃ w : Nat → Int64, zo G χ (c + 8) su (.inl (1, 256, .inr (.inl w)))
/-- a track -/
def zTr (G : zH) (χ : Nat → Nat) (c a lv ls lm fo pa su : Nat) (va sa ua ma ra : Nat → Nat) (q : Nat) (S : Nat → Int32) : Prop :=
  zo G χ c a (.inr (1, zTf lv ls lm fo pa su q S)) ∧ (S 3 = nI q ∧ q < 2147483648) ∧ zVs G χ c lv (zct S 6) va S ∧ zSs G χ c ls (zct S 7) sa ua va S ∧ zMs G χ c lm (zct S 8) ma ra S ∧ zo G χ 1 fo (zfE S va) ∧ zRw G χ c pa su
section ZPK
variable {G G' : zH} {χ χ' : Nat → Nat} {P : Nat → Prop} {c a n : Nat} {va sa ua ma ra : Nat → Nat} {S S' : Nat → Int32}
theorem zVs.kp (h : zVs G χ c a n va S) (h1 : P (c + 1)) (h2 : P (c + 4)) (h3 : P 1) (hk : zkee P G χ G' χ') (hS : ∀ j, 16 ≤ j → j < 16 + 3 * n → S' j = S j) : zVs G' χ' c a n va S' := by
  refine ⟨h.1.kp h1 h2 hk, fun i hi => ?_⟩
  have := (h.2 i hi).kp h3 hk
  unfold zvE at this ⊢
  rw [hS _ (by omega) (by omega), hS _ (by omega) (by omega), hS _ (by omega) (by omega)]
  exact this
theorem zSs.kp (h : zSs G χ c a n sa ua va S) (h1 : P (c + 2)) (h2 : P (c + 5)) (h3 : ∀ i, i < n → P (c + 20 + i) ∧ P (c + 30 + i)) (hk : zkee P G χ G' χ') (hS : ∀ j, 28 ≤ j → j < 28 + 21 * n → S' j = S j) (hc : ∀ i, i < n → zct S (28 + 21 * i + 4) ≤ 16) : zSs G' χ' c a n sa ua va S' := by
  refine ⟨h.1.kp h1 h2 hk, fun i hi => ?_⟩
  obtain ⟨q1, w, q2, q3⟩ := h.2 i hi
  have := q1.kp (h3 i hi).1 hk
  have e4 : zct S' (28 + 21 * i + 4) = zct S (28 + 21 * i + 4) := by unfold zct; rw [hS _ (by omega) (by omega)]
  have ev : zsv S' i = zsv S i := by unfold zsv; rw [hS _ (by omega) (by omega)]
  refine ⟨?_, w, q2.kp (h3 i hi).2 hk, fun j hj => ?_⟩
  · unfold zsE at this ⊢
    rw [ev, hS _ (by omega) (by omega), hS _ (by omega) (by omega), hS _ (by omega) (by omega), hS (28 + 21 * i + 4) (by omega) (by omega)]
    exact this
  · rw [e4] at hj
    have := hc i hi
    rw [q3 j hj, hS _ (by omega) (by omega)]
theorem zMs.kp (h : zMs G χ c a n ma ra S) (h1 : P (c + 3)) (h2 : P (c + 6)) (h3 : ∀ i, i < n → P (c + 40 + i) ∧ P (c + 50 + i)) (hk : zkee P G χ G' χ') (hS : ∀ j, 154 ≤ j → j < 154 + 4 * n → S' j = S j) (hR : ∀ j, 186 ≤ j → j < 186 + 256 * n → S' j = S j) : zMs G' χ' c a n ma ra S' := by
  refine ⟨h.1.kp h1 h2 hk, fun i hi => ?_⟩
  obtain ⟨q1, w, q2, q3⟩ := h.2 i hi
  have := q1.kp (h3 i hi).1 hk
  refine ⟨?_, w, q2.kp (h3 i hi).2 hk, fun j hj => ?_⟩
  · unfold zmE at this ⊢
    rw [hS _ (by omega) (by omega), hS _ (by omega) (by omega), hS _ (by omega) (by omega), hS _ (by omega) (by omega)]
    exact this
  · rw [q3 j hj, hR _ (by omega) (by omega)]
theorem zfE_eq (hS : ∀ j, 10 ≤ j → j < 15 → S' j = S j) : zfE S' va = zfE S va := by
  unfold zfE
  rw [hS 10 (by omega) (by omega), hS 11 (by omega) (by omega), hS 12 (by omega) (by omega), hS 13 (by omega) (by omega), hS 14 (by omega) (by omega)]
theorem zRw.kp {pa su : Nat} (h : zRw G χ c pa su) (h1 : P (c + 7)) (h2 : P (c + 8)) (hk : zkee P G χ G' χ') : zRw G' χ' c pa su := by
  obtain ⟨⟨w, a1⟩, ⟨w2, a2⟩⟩ := h
  exact ⟨⟨w, a1.kp h1 hk⟩, ⟨w2, a2.kp h2 hk⟩⟩
/-- the whole track is kept -/
theorem zTr.kp {a lv ls lm fo pa su q : Nat} (h : zTr G χ c a lv ls lm fo pa su va sa ua ma ra q S) (g : zGe S) (hP : ∀ x, (c ≤ x ∧ x < c + 100) ∨ x = 1 → P x) (hk : zkee P G χ G' χ') : zTr G' χ' c a lv ls lm fo pa su va sa ua ma ra q S := by
  obtain ⟨h1, h2, h3, h4, h5, h6, h7⟩ := h
  obtain ⟨nv, nv4, ev⟩ := g.nv
  obtain ⟨ns, ns4, es⟩ := g.ns
  obtain ⟨nm, nm4, em⟩ := g.nm
  rw [zct_of ev (by omega)] at h3
  rw [zct_of es (by omega)] at h4
  rw [zct_of em (by omega)] at h5
  refine ⟨h1.kp (hP _ (by omega)) hk, h2, ?_, ?_, ?_, h6.kp (hP _ (by omega)) hk, h7.kp (hP _ (by omega)) (hP _ (by omega)) hk⟩
  · rw [zct_of ev (by omega)]
    exact h3.kp (hP _ (by omega)) (hP _ (by omega)) (hP _ (by omega)) hk (fun _ _ _ => rfl)
  · rw [zct_of es (by omega)]
    refine h4.kp (hP _ (by omega)) (hP _ (by omega)) (fun i hi => ⟨hP _ (by omega), hP _ (by omega)⟩) hk (fun _ _ _ => rfl) (fun i hi => ?_)
    obtain ⟨-, m, m1, m2, e⟩ := g.sn i (by omega) (by rw [es]; exact nI_lt hi (by omega))
    rw [zct_of e (by omega)]
    exact m2
  · rw [zct_of em (by omega)]
    exact h5.kp (hP _ (by omega)) (hP _ (by omega)) (fun i hi => ⟨hP _ (by omega), hP _ (by omega)⟩) hk (fun _ _ _ => rfl) (fun _ _ _ => rfl)
end ZPK
/-- a place as the paths see it -/
def zPl (G : zH) (p : Nat) (S : Nat → Int32) (v : Option Nat) (x y z : Int32) : Prop := (v = none ∧ G p = some (.inr (2, [.int x, .int y, .int z]))) ∨ ∃ k w : Nat, v = some k ∧ G p = some (.inr (7, [.ref w, .int x, .int z])) ∧ G w = some (zvE S k) ∧ y = S (16 + 3 * k + 2)
/-- the distance of a place from a microphone, direct or reflected -/
noncomputable def zdr (S : Nat → Int32) (m : Nat) (v : Option Nat) (x y z r t : Int32) : Int32 := zd (zpx S v x t - S (154 + 4 * m + 0)) (y - S (154 + 4 * m + 1)) ((if r = 0 then z else -z) - S (154 + 4 * m + 2))
def zdrok (S : Nat → Int32) (m : Nat) (v : Option Nat) (x y z r t : Int32) : Prop := zdok (zpx S v x t - S (154 + 4 * m + 0)) (y - S (154 + 4 * m + 1)) ((if r = 0 then z else -z) - S (154 + 4 * m + 2))
