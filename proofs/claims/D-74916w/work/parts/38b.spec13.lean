/-! component: what each change does to the picture of a track -/
theorem zLi_add {G : zH} {χ : Nat → Nat} {c j a n mc' : Nat} {f : Nat → Nat} {mc : Int32} {e cap : Nat} {g : Nat → Option Nat} (hl : zli G a n f mc e cap g) (c1 : χ a = c + j) (c2 : χ e = c + 3 + j) (hj : j = 1 ∨ j = 2 ∨ j = 3)
    {e' cap' x : Nat} {g' : Nat → Option Nat} {m2 : Int32} (he : e' = e ∨ G e' = none) (hg : (n + 1 ≤ cap' ∧ 1 ≤ cap' ∧ cap' ≤ 16) ∧ (∀ i, i < n → g' i = some (f i)) ∧ g' n = some x ∧ ∀ i, n + 1 ≤ i → g' i = none) :
    zLi (zup (zup G e' (.inl (5, cap', .inr (.inr (.inr (.inr g')))))) a (.inr (13, [.int m2, .ref e', .int (nI (n + 1))]))) (zcol χ e' (c + 3 + j)) c j a (n + 1) (fun i => if i = n then x else f i) ∧
    zkee (fun k => k ≠ c + j ∧ k ≠ c + 3 + j) G χ (zup (zup G e' (.inl (5, cap', .inr (.inr (.inr (.inr g')))))) a (.inr (13, [.int m2, .ref e', .int (nI (n + 1))]))) (zcol χ e' (c + 3 + j)) := by
  obtain ⟨h1, h2, h3, h4, h5⟩ := hl
  have hea : ¬ e' = a := by
    rcases he with q | q
    · rw [q]; intro z; rw [z, h1] at h2; cases h2
    · intro z; rw [z, h1] at q; cases q
  have hxe : zcol χ e' (c + 3 + j) e' = c + 3 + j := if_pos rfl
  have hxa : zcol χ e' (c + 3 + j) a = c + j := (if_neg (fun z => hea z.symm)).trans c1
  refine ⟨⟨m2, e', cap', g', ⟨zup_s, (zup_n hea).trans zup_s, hg.1, fun i hi => ?_, hg.2.2.2⟩, hxa, hxe⟩, fun b x hb hp => ?_⟩
  · show g' i = some (if i = n then x else f i)
    by_cases q : i = n
    · subst q; rw [if_pos rfl]; exact hg.2.2.1
    · rw [if_neg q]; exact hg.2.1 i (by omega)
  · have n1 : ¬ b = a := fun z => by rw [z, c1] at hp; exact hp.1 rfl
    have n2 : ¬ b = e' := by
      rcases he with q | q
      · intro z; rw [z, q, c2] at hp; exact hp.2 rfl
      · intro z; rw [z, q] at hb; cases hb
    exact ⟨(zup_n n1).trans ((zup_n n2).trans hb), if_neg n2⟩
section ZTC
variable {G G' : zH} {χ χ' : Nat → Nat} {c a lv ls lm fo pa su : Nat} {va sa ua ma ra : Nat → Nat} {q : Nat} {S S' : Nat → Int32}
/-- a track's own numbers are changed -/
theorem zTr.set (h : zTr G χ c a lv ls lm fo pa su va sa ua ma ra q S) (g : zGe S) (hc : 100 ≤ c) {q' : Nat} (hq : S' 3 = nI q' ∧ q' < 2147483648) (hS : ∀ j, j < 2234 → 6 ≤ j → j ≠ 9 → S' j = S j) : zTr (zup G a (.inr (1, zTf lv ls lm fo pa su q' S'))) χ c a lv ls lm fo pa su va sa ua ma ra q' S' := by
  obtain ⟨h1, h2, h3, h4, h5, h6, h7⟩ := h
  have K : zkee (fun x => x ≠ c) G χ (zup G a (.inr (1, zTf lv ls lm fo pa su q' S'))) χ := zkee.put h1.2 (fun z => z rfl)
  obtain ⟨nv, nv4, ev⟩ := g.nv
  obtain ⟨ns, ns4, es⟩ := g.ns
  obtain ⟨nm, nm4, em⟩ := g.nm
  have z6 : zct S' 6 = zct S 6 := by unfold zct; rw [hS 6 (by decide) (by decide) (by decide)]
  have z7 : zct S' 7 = zct S 7 := by unfold zct; rw [hS 7 (by decide) (by decide) (by decide)]
  have z8 : zct S' 8 = zct S 8 := by unfold zct; rw [hS 8 (by decide) (by decide) (by decide)]
  refine ⟨h1.put, hq, ?_, ?_, ?_, ?_, h7.kp (show c + 7 ≠ c by omega) (show c + 8 ≠ c by omega) K⟩
  · rw [z6]
    rw [zct_of ev (by omega)] at h3 ⊢
    exact h3.kp (show c + 1 ≠ c by omega) (show c + 4 ≠ c by omega) (show 1 ≠ c by omega) K (fun j a1 a2 => hS j (by omega) (by omega) (by omega))
  · rw [z7]
    rw [zct_of es (by omega)] at h4 ⊢
    refine h4.kp (show c + 2 ≠ c by omega) (show c + 5 ≠ c by omega) (fun i hi => ⟨show c + 20 + i ≠ c by omega, show c + 30 + i ≠ c by omega⟩) K (fun j a1 a2 => hS j (by omega) (by omega) (by omega)) (fun i hi => ?_)
    obtain ⟨-, m, m1, m2, e⟩ := g.sn i (by omega) (by rw [es]; exact nI_lt hi (by omega))
    rw [zct_of e (by omega)]
    exact m2
  · rw [z8]
    rw [zct_of em (by omega)] at h5 ⊢
    exact h5.kp (show c + 3 ≠ c by omega) (show c + 6 ≠ c by omega) (fun i hi => ⟨show c + 40 + i ≠ c by omega, show c + 50 + i ≠ c by omega⟩) K (fun j a1 a2 => hS j (by omega) (by omega) (by omega)) (fun j a1 a2 => hS j (by omega) (by omega) (by omega))
  · rw [zfE_eq (fun j a1 a2 => hS j (by omega) (by omega) (by omega))]
    exact h6.kp (show 1 ≠ c by omega) K
/-- .. and what the numbers of another track leave alone -/
theorem zkee_tr (h : zTr G χ c a lv ls lm fo pa su va sa ua ma ra q S) {e : zE} : zkee (fun x => x ≠ c) G χ (zup G a e) χ := zkee.put h.1.2 (fun z => z rfl)
/-- a new focus -/
theorem zTr.foc (h : zTr G χ c a lv ls lm fo pa su va sa ua ma ra q S) (g : zGe S) (hc : 100 ≤ c) {f : Nat} (hf : zo G χ 1 f (zfE S' va)) (hS : ∀ j, j < 2234 → ¬ (10 ≤ j ∧ j < 15) → S' j = S j) : zTr (zup G a (.inr (1, zTf lv ls lm f pa su q S'))) χ c a lv ls lm f pa su va sa ua ma ra q S' := by
  obtain ⟨h1, h2, h3, h4, h5, h6, h7⟩ := h
  have K : zkee (fun x => x ≠ c) G χ (zup G a (.inr (1, zTf lv ls lm f pa su q S'))) χ := zkee.put h1.2 (fun z => z rfl)
  obtain ⟨nv, nv4, ev⟩ := g.nv
  obtain ⟨ns, ns4, es⟩ := g.ns
  obtain ⟨nm, nm4, em⟩ := g.nm
  have z6 : zct S' 6 = zct S 6 := by unfold zct; rw [hS 6 (by decide) (by decide)]
  have z7 : zct S' 7 = zct S 7 := by unfold zct; rw [hS 7 (by decide) (by decide)]
  have z8 : zct S' 8 = zct S 8 := by unfold zct; rw [hS 8 (by decide) (by decide)]
  refine ⟨h1.put, by rw [hS 3 (by decide) (by decide)]; exact h2, ?_, ?_, ?_, hf.kp (show 1 ≠ c by omega) K, h7.kp (show c + 7 ≠ c by omega) (show c + 8 ≠ c by omega) K⟩
  · rw [z6]
    rw [zct_of ev (by omega)] at h3 ⊢
    exact h3.kp (show c + 1 ≠ c by omega) (show c + 4 ≠ c by omega) (show 1 ≠ c by omega) K (fun j a1 a2 => hS j (by omega) (by omega))
  · rw [z7]
    rw [zct_of es (by omega)] at h4 ⊢
    refine h4.kp (show c + 2 ≠ c by omega) (show c + 5 ≠ c by omega) (fun i hi => ⟨show c + 20 + i ≠ c by omega, show c + 30 + i ≠ c by omega⟩) K (fun j a1 a2 => hS j (by omega) (by omega)) (fun i hi => ?_)
    obtain ⟨-, m, m1, m2, e⟩ := g.sn i (by omega) (by rw [es]; exact nI_lt hi (by omega))
    rw [zct_of e (by omega)]
    exact m2
  · rw [z8]
    rw [zct_of em (by omega)] at h5 ⊢
    exact h5.kp (show c + 3 ≠ c by omega) (show c + 6 ≠ c by omega) (fun i hi => ⟨show c + 40 + i ≠ c by omega, show c + 50 + i ≠ c by omega⟩) K (fun j a1 a2 => hS j (by omega) (by omega)) (fun j a1 a2 => hS j (by omega) (by omega))
/-- a weight is changed -/
theorem zTr.wgt (h : zTr G χ c a lv ls lm fo pa su va sa ua ma ra q S) (g : zGe S) (hc : 100 ≤ c) {k : Nat} (hk : k < zct S 8) {x : Int32} (hS' : S' = upd S (154 + 4 * k + 3) x) (h8 : zct S 8 ≤ 8) : zTr (zup G (ma k) (zmE S' ra k)) χ c a lv ls lm fo pa su va sa ua ma ra q S' ∧ zkee (fun y => y ≠ c + 40 + k) G χ (zup G (ma k) (zmE S' ra k)) χ := by
  obtain ⟨h1, h2, h3, h4, h5, h6, h7⟩ := h
  have hk1 := (h5.2 k hk).1
  have hS : ∀ j, j ≠ 154 + 4 * k + 3 → S' j = S j := fun j hj => by rw [hS']; exact if_neg hj
  have K : zkee (fun y => y ≠ c + 40 + k) G χ (zup G (ma k) (zmE S' ra k)) χ := zkee.put hk1.2 (fun z => z rfl)
  obtain ⟨nv, nv4, ev⟩ := g.nv
  obtain ⟨ns, ns4, es⟩ := g.ns
  have z6 : zct S' 6 = zct S 6 := by unfold zct; rw [hS 6 (by omega)]
  have z7 : zct S' 7 = zct S 7 := by unfold zct; rw [hS 7 (by omega)]
  have z8 : zct S' 8 = zct S 8 := by unfold zct; rw [hS 8 (by omega)]
  refine ⟨⟨?_, by rw [hS 3 (by omega)]; exact h2, ?_, ?_, ?_, ?_, h7.kp (show c + 7 ≠ c + 40 + k by omega) (show c + 8 ≠ c + 40 + k by omega) K⟩, K⟩
  · have := h1.kp (show c ≠ c + 40 + k by omega) K
    unfold zTf at this ⊢
    rw [hS 0 (by omega), hS 1 (by omega), hS 2 (by omega), hS 4 (by omega), hS 5 (by omega), hS 9 (by omega)]
    exact this
  · rw [z6]
    rw [zct_of ev (by omega)] at h3 ⊢
    exact h3.kp (show c + 1 ≠ c + 40 + k by omega) (show c + 4 ≠ c + 40 + k by omega) (show 1 ≠ c + 40 + k by omega) K (fun j a1 a2 => hS j (by omega))
  · rw [z7]
    rw [zct_of es (by omega)] at h4 ⊢
    refine h4.kp (show c + 2 ≠ c + 40 + k by omega) (show c + 5 ≠ c + 40 + k by omega) (fun i hi => ⟨show c + 20 + i ≠ c + 40 + k by omega, show c + 30 + i ≠ c + 40 + k by omega⟩) K (fun j a1 a2 => hS j (by omega)) (fun i hi => ?_)
    obtain ⟨-, m, m1, m2, e⟩ := g.sn i (by omega) (by rw [es]; exact nI_lt hi (by omega))
    rw [zct_of e (by omega)]
    exact m2
  · rw [z8]
    refine ⟨h5.1.kp (show c + 3 ≠ c + 40 + k by omega) (show c + 6 ≠ c + 40 + k by omega) K, fun i hi => ?_⟩
    obtain ⟨q1, w, q2, q3⟩ := h5.2 i hi
    refine ⟨?_, w, q2.kp (show c + 50 + i ≠ c + 40 + k by omega) K, fun j hj => by rw [q3 j hj, hS _ (by omega)]⟩
    by_cases e : i = k
    · subst e; exact q1.put
    · have := q1.kp (show c + 40 + i ≠ c + 40 + k by omega) K
      have e9 : zmE S' ra i = zmE S ra i := by
        unfold zmE
        rw [hS _ (by omega), hS _ (by omega), hS _ (by omega), hS _ (by omega)]
      rw [e9]
      exact this
  · rw [zfE_eq (fun j a1 a2 => hS j (by omega))]
    exact h6.kp (show 1 ≠ c + 40 + k by omega) K
/-- the rows for beams are changed -/
theorem zTr.row1 (h : zTr G χ c a lv ls lm fo pa su va sa ua ma ra q S) (g : zGe S) {k b : Nat} {e : zE} (hb : χ b = c + k) (hk : k = 7 ∨ k = 8) (hr : zRw (zup G b e) χ c pa su) (hc : 100 ≤ c) : zTr (zup G b e) χ c a lv ls lm fo pa su va sa ua ma ra q S := by
  obtain ⟨h1, h2, h3, h4, h5, h6, h7⟩ := h
  have K : zkee (fun y => y ≠ c + k) G χ (zup G b e) χ := zkee.put hb (fun z => z rfl)
  obtain ⟨nv, nv4, ev⟩ := g.nv
  obtain ⟨ns, ns4, es⟩ := g.ns
  obtain ⟨nm, nm4, em⟩ := g.nm
  rw [zct_of ev (by omega)] at h3
  rw [zct_of es (by omega)] at h4
  rw [zct_of em (by omega)] at h5
  refine ⟨h1.kp (show c ≠ c + k by omega) K, h2, ?_, ?_, ?_, h6.kp (show 1 ≠ c + k by omega) K, hr⟩
  · rw [zct_of ev (by omega)]
    exact h3.kp (show c + 1 ≠ c + k by omega) (show c + 4 ≠ c + k by omega) (show 1 ≠ c + k by omega) K (fun _ _ _ => rfl)
  · rw [zct_of es (by omega)]
    refine h4.kp (show c + 2 ≠ c + k by omega) (show c + 5 ≠ c + k by omega) (fun i hi => ⟨show c + 20 + i ≠ c + k by omega, show c + 30 + i ≠ c + k by omega⟩) K (fun _ _ _ => rfl) (fun i hi => ?_)
    obtain ⟨-, m, m1, m2, e⟩ := g.sn i (by omega) (by rw [es]; exact nI_lt hi (by omega))
    rw [zct_of e (by omega)]
    exact m2
  · rw [zct_of em (by omega)]
    exact h5.kp (show c + 3 ≠ c + k by omega) (show c + 6 ≠ c + k by omega) (fun i hi => ⟨show c + 40 + i ≠ c + k by omega, show c + 50 + i ≠ c + k by omega⟩) K (fun _ _ _ => rfl) (fun _ _ _ => rfl)
/-- a vehicle is added -/
theorem zTr.addV (h : zTr G χ c a lv ls lm fo pa su va sa ua ma ra q S) (g : zGe S) (hc : 100 ≤ c) {n v : Nat} (hn : S 6 = nI n) (hn4 : n < 4) {x s y : Int32} (hS' : S' = zaV S n x s y) (K : zkee (fun k => k ≠ c + 1 ∧ k ≠ c + 4) G χ G' χ')
    (hl : zLi G' χ' c 1 lv (n + 1) (fun i => if i = n then v else va i)) (hv : zo G' χ' 1 v (.inr (4, [.int x, .int s, .int y]))) : zTr G' χ' c a lv ls lm fo pa su (fun i => if i = n then v else va i) sa ua ma ra q S' := by
  obtain ⟨h1, h2, h3, h4, h5, h6, h7⟩ := h
  have hS : ∀ j, ¬ (j = 6 ∨ 16 + 3 * n ≤ j ∧ j < 16 + 3 * n + 3) → S' j = S j := fun j hj => by
    rw [hS']; simp only [zaV, upd]; rw [if_neg (by omega)]; rw [if_neg (by omega)]; rw [if_neg (by omega)]; rw [if_neg (by omega)]
  obtain ⟨ns, ns4, es⟩ := g.ns
  obtain ⟨nm, nm4, em⟩ := g.nm
  have z6 : zct S' 6 = n + 1 := zct_of (by rw [hS']; exact zaV_6) (by omega)
  have z7 : zct S' 7 = zct S 7 := by unfold zct; rw [hS 7 (by omega)]
  have z8 : zct S' 8 = zct S 8 := by unfold zct; rw [hS 8 (by omega)]
  rw [zct_of hn (by omega)] at h3
  have hsv : ∀ i, i < ns → zsv S i < n := fun i hi => by
    obtain ⟨⟨w, w1, w2⟩, -⟩ := g.sn i (by omega) (by rw [es]; exact nI_lt hi (by omega))
    obtain ⟨e0, e4⟩ := zsv_lt g (show i < 6 by omega)
    rw [w1] at e0
    rw [hn, e0] at w2
    exact (nI_ltI (by omega) (by omega)).mp w2
  refine ⟨?_, by rw [hS 3 (by omega)]; exact h2, ?_, ?_, ?_, ?_, h7.kp (show c + 7 ≠ c + 1 ∧ c + 7 ≠ c + 4 by omega) (show c + 8 ≠ c + 1 ∧ c + 8 ≠ c + 4 by omega) K⟩
  · have := h1.kp (show c ≠ c + 1 ∧ c ≠ c + 4 by omega) K
    unfold zTf at this ⊢
    rw [hS 0 (by omega), hS 1 (by omega), hS 2 (by omega), hS 4 (by omega), hS 5 (by omega), hS 9 (by omega)]
    exact this
  · rw [z6]
    refine ⟨hl, fun i hi => ?_⟩
    show zo G' χ' 1 (if i = n then v else va i) (zvE S' i)
    by_cases e : i = n
    · subst e
      rw [if_pos rfl]
      have e0 : S' (16 + 3 * i + 0) = x := by rw [hS']; simp only [zaV, upd]; rw [if_neg (by omega), if_neg (by omega), if_neg (by omega), if_pos trivial]
      have e1 : S' (16 + 3 * i + 1) = s := by rw [hS']; simp only [zaV, upd]; rw [if_neg (by omega), if_neg (by omega), if_pos trivial]
      have e2 : S' (16 + 3 * i + 2) = y := by rw [hS']; simp only [zaV, upd]; rw [if_neg (by omega), if_pos trivial]
      unfold zvE
      rw [e0, e1, e2]
      exact hv
    · rw [if_neg e]
      have := (h3.2 i (by omega)).kp (show 1 ≠ c + 1 ∧ 1 ≠ c + 4 by omega) K
      unfold zvE at this ⊢
      rw [hS _ (by omega), hS _ (by omega), hS _ (by omega)]
      exact this
  · rw [z7]
    rw [zct_of es (by omega)] at h4 ⊢
    have := h4.kp (S' := S') (show c + 2 ≠ c + 1 ∧ c + 2 ≠ c + 4 by omega) (show c + 5 ≠ c + 1 ∧ c + 5 ≠ c + 4 by omega) (fun i hi => ⟨show c + 20 + i ≠ c + 1 ∧ c + 20 + i ≠ c + 4 by omega, show c + 30 + i ≠ c + 1 ∧ c + 30 + i ≠ c + 4 by omega⟩) K (fun j a1 a2 => hS j (by omega)) (fun i hi => by
      obtain ⟨-, m, m1, m2, e⟩ := g.sn i (by omega) (by rw [es]; exact nI_lt hi (by omega))
      rw [zct_of e (by omega)]
      exact m2)
    refine ⟨this.1, fun i hi => ?_⟩
    obtain ⟨q1, q2⟩ := this.2 i hi
    refine ⟨?_, q2⟩
    have ev : zsv S' i = zsv S i := by unfold zsv; rw [hS _ (by omega)]
    have e9 : (if zsv S' i = n then v else va (zsv S' i)) = va (zsv S' i) := if_neg (by rw [ev]; have := hsv i hi; omega)
    unfold zsE at q1 ⊢
    dsimp only
    rw [e9]
    exact q1
  · rw [z8]
    rw [zct_of em (by omega)] at h5 ⊢
    exact h5.kp (show c + 3 ≠ c + 1 ∧ c + 3 ≠ c + 4 by omega) (show c + 6 ≠ c + 1 ∧ c + 6 ≠ c + 4 by omega) (fun i hi => ⟨show c + 40 + i ≠ c + 1 ∧ c + 40 + i ≠ c + 4 by omega, show c + 50 + i ≠ c + 1 ∧ c + 50 + i ≠ c + 4 by omega⟩) K (fun j a1 a2 => hS j (by omega)) (fun j a1 a2 => hS j (by omega))
  · have e9 : zfE S' (fun i => if i = n then v else va i) = zfE S va := by
      unfold zfE
      rw [hS 10 (by omega), hS 11 (by omega), hS 12 (by omega), hS 13 (by omega), hS 14 (by omega)]
      by_cases h0 : S 10 = 0
      · obtain ⟨w, w4, w1, w2⟩ := g.fv h0
        rw [hn] at w2
        have := (nI_ltI (a := w) (b := n) (by rw [w1] at *; omega) (by omega)).mp w2
        rw [if_pos h0, if_pos h0, w1, nI_clamp (by omega)]
        dsimp only
        rw [if_neg (by omega)]
      · rw [if_neg h0, if_neg h0]
    rw [e9]
    exact h6.kp (show 1 ≠ c + 1 ∧ 1 ≠ c + 4 by omega) K
/-- a microphone is added -/
theorem zTr.addM (h : zTr G χ c a lv ls lm fo pa su va sa ua ma ra q S) (g : zGe S) (hc : 100 ≤ c) {n v r : Nat} (hn : S 8 = nI n) (hn8 : n < 8) {x y z w : Int32} (hS' : S' = zaM S n x y z w) (K : zkee (fun k => k ≠ c + 3 ∧ k ≠ c + 6) G χ G' χ')
    (hl : zLi G' χ' c 3 lm (n + 1) (fun i => if i = n then v else ma i)) (hv : zo G' χ' (c + 40 + n) v (.inr (6, [.int x, .int y, .int z, .int w, .ref r]))) (hr : zo G' χ' (c + 50 + n) r (.inl (0, 256, .inl fun _ => 0))) (h0 : ∀ j, j < 256 → S (186 + 256 * n + j) = 0) : zTr G' χ' c a lv ls lm fo pa su va sa ua (fun i => if i = n then v else ma i) (fun i => if i = n then r else ra i) q S' := by
  obtain ⟨h1, h2, h3, h4, h5, h6, h7⟩ := h
  have hS : ∀ j, ¬ (j = 8 ∨ 154 + 4 * n ≤ j ∧ j < 154 + 4 * n + 4) → S' j = S j := fun j hj => by
    rw [hS']; simp only [zaM, upd]; rw [if_neg (by omega)]; rw [if_neg (by omega)]; rw [if_neg (by omega)]; rw [if_neg (by omega)]; rw [if_neg (by omega)]
  obtain ⟨nv, nv4, ev⟩ := g.nv
  obtain ⟨ns, ns4, es⟩ := g.ns
  have z6 : zct S' 6 = zct S 6 := by unfold zct; rw [hS 6 (by omega)]
  have z7 : zct S' 7 = zct S 7 := by unfold zct; rw [hS 7 (by omega)]
  have z8 : zct S' 8 = n + 1 := zct_of (by rw [hS']; exact zaM_8) (by omega)
  rw [zct_of hn (by omega)] at h5
  refine ⟨?_, by rw [hS 3 (by omega)]; exact h2, ?_, ?_, ?_, ?_, h7.kp (show c + 7 ≠ c + 3 ∧ c + 7 ≠ c + 6 by omega) (show c + 8 ≠ c + 3 ∧ c + 8 ≠ c + 6 by omega) K⟩
  · have := h1.kp (show c ≠ c + 3 ∧ c ≠ c + 6 by omega) K
    unfold zTf at this ⊢
    rw [hS 0 (by omega), hS 1 (by omega), hS 2 (by omega), hS 4 (by omega), hS 5 (by omega), hS 9 (by omega)]
    exact this
  · rw [z6]
    rw [zct_of ev (by omega)] at h3 ⊢
    exact h3.kp (show c + 1 ≠ c + 3 ∧ c + 1 ≠ c + 6 by omega) (show c + 4 ≠ c + 3 ∧ c + 4 ≠ c + 6 by omega) (show 1 ≠ c + 3 ∧ 1 ≠ c + 6 by omega) K (fun j a1 a2 => hS j (by omega))
  · rw [z7]
    rw [zct_of es (by omega)] at h4 ⊢
    exact h4.kp (show c + 2 ≠ c + 3 ∧ c + 2 ≠ c + 6 by omega) (show c + 5 ≠ c + 3 ∧ c + 5 ≠ c + 6 by omega) (fun i hi => ⟨show c + 20 + i ≠ c + 3 ∧ c + 20 + i ≠ c + 6 by omega, show c + 30 + i ≠ c + 3 ∧ c + 30 + i ≠ c + 6 by omega⟩) K (fun j a1 a2 => hS j (by omega)) (fun i hi => by
      obtain ⟨-, m, m1, m2, e⟩ := g.sn i (by omega) (by rw [es]; exact nI_lt hi (by omega))
      rw [zct_of e (by omega)]
      exact m2)
  · rw [z8]
    refine ⟨hl, fun i hi => ?_⟩
    show zo G' χ' (c + 40 + i) (if i = n then v else ma i) (zmE S' (fun i => if i = n then r else ra i) i) ∧ ∃ w : Nat → Int32, zo G' χ' (c + 50 + i) (if i = n then r else ra i) (.inl (0, 256, .inl w)) ∧ ∀ j, j < 256 → w j = S' (186 + 256 * i + j)
    by_cases e : i = n
    · subst e
      rw [if_pos rfl]
      have e0 : S' (154 + 4 * i + 0) = x := by rw [hS']; simp only [zaM, upd]; rw [if_neg (by omega), if_neg (by omega), if_neg (by omega), if_neg (by omega), if_pos trivial]
      have e1 : S' (154 + 4 * i + 1) = y := by rw [hS']; simp only [zaM, upd]; rw [if_neg (by omega), if_neg (by omega), if_neg (by omega), if_pos trivial]
      have e2 : S' (154 + 4 * i + 2) = z := by rw [hS']; simp only [zaM, upd]; rw [if_neg (by omega), if_neg (by omega), if_pos trivial]
      have e3 : S' (154 + 4 * i + 3) = w := by rw [hS']; simp only [zaM, upd]; rw [if_neg (by omega), if_pos trivial]
      refine ⟨?_, fun _ => 0, ?_, fun j hj => by rw [hS _ (by omega)]; exact (h0 j hj).symm⟩
      · show zo G' χ' (c + 40 + i) v (.inr (6, [.int (S' (154 + 4 * i + 0)), .int (S' (154 + 4 * i + 1)), .int (S' (154 + 4 * i + 2)), .int (S' (154 + 4 * i + 3)), .ref (if i = i then r else ra i)]))
        rw [if_pos rfl, e0, e1, e2, e3]
        exact hv
      · rw [if_pos rfl]; exact hr
    · rw [if_neg e, if_neg e]
      obtain ⟨q1, w9, q2, q3⟩ := h5.2 i (by omega)
      have := q1.kp (show c + 40 + i ≠ c + 3 ∧ c + 40 + i ≠ c + 6 by omega) K
      refine ⟨?_, w9, q2.kp (show c + 50 + i ≠ c + 3 ∧ c + 50 + i ≠ c + 6 by omega) K, fun j hj => by rw [q3 j hj, hS _ (by omega)]⟩
      show zo G' χ' (c + 40 + i) (ma i) (.inr (6, [.int (S' (154 + 4 * i + 0)), .int (S' (154 + 4 * i + 1)), .int (S' (154 + 4 * i + 2)), .int (S' (154 + 4 * i + 3)), .ref (if i = n then r else ra i)]))
      rw [if_neg e, hS _ (by omega), hS _ (by omega), hS _ (by omega), hS _ (by omega)]
      exact this
  · rw [zfE_eq (fun j a1 a2 => hS j (by omega))]
    exact h6.kp (show 1 ≠ c + 3 ∧ 1 ≠ c + 6 by omega) K
/-- a source is added, with its first value -/
theorem zTr.addS (h : zTr G χ c a lv ls lm fo pa su va sa ua ma ra q S) (g : zGe S) (hc : 100 ≤ c) {n v s1 u : Nat} (hn : S 7 = nI n) (hn6 : n < 6) (hv4 : v < 2 ^ 31) {o z st x : Int32} (hS' : S' = zaX (zaS S n (nI v) o z st) n 0 x) (K : zkee (fun k => k ≠ c + 2 ∧ k ≠ c + 5) G χ G' χ')
    (hl : zLi G' χ' c 2 ls (n + 1) (fun i => if i = n then s1 else sa i)) (hs : zo G' χ' (c + 20 + n) s1 (.inr (5, [.ref (va v), .int o, .int z, .int st, .ref u, .int (nI 1)]))) {w : Nat → Int32} (hu : zo G' χ' (c + 30 + n) u (.inl (0, 16, .inl w))) (hw : w 0 = x) : zTr G' χ' c a lv ls lm fo pa su va (fun i => if i = n then s1 else sa i) (fun i => if i = n then u else ua i) ma ra q S' := by
  obtain ⟨h1, h2, h3, h4, h5, h6, h7⟩ := h
  have hS : ∀ j, ¬ (j = 7 ∨ 28 + 21 * n ≤ j ∧ j < 28 + 21 * n + 6) → S' j = S j := fun j hj => by
    rw [hS']; simp only [zaX, zaS, upd]; rw [if_neg (by omega)]; rw [if_neg (by omega)]; rw [if_neg (by omega)]; rw [if_neg (by omega)]; rw [if_neg (by omega)]; rw [if_neg (by omega)]; rw [if_neg (by omega)]; rw [if_neg (by omega)]
  have c0 : S' (28 + 21 * n + 0) = nI v := by rw [hS']; simp only [zaX, zaS, upd]; rw [if_neg (by omega), if_neg (by omega), if_neg (by omega), if_neg (by omega), if_neg (by omega), if_neg (by omega), if_neg (by omega), if_pos trivial]
  have c1 : S' (28 + 21 * n + 1) = o := by rw [hS']; simp only [zaX, zaS, upd]; rw [if_neg (by omega), if_neg (by omega), if_neg (by omega), if_neg (by omega), if_neg (by omega), if_neg (by omega), if_pos trivial]
  have c2 : S' (28 + 21 * n + 2) = z := by rw [hS']; simp only [zaX, zaS, upd]; rw [if_neg (by omega), if_neg (by omega), if_neg (by omega), if_neg (by omega), if_neg (by omega), if_pos trivial]
  have c3 : S' (28 + 21 * n + 3) = st := by rw [hS']; simp only [zaX, zaS, upd]; rw [if_neg (by omega), if_neg (by omega), if_neg (by omega), if_neg (by omega), if_pos trivial]
  have c4 : S' (28 + 21 * n + 4) = nI 1 := by rw [hS']; simp only [zaX, upd]; rw [if_pos trivial]
  have c5 : S' (28 + 21 * n + (5 + 0)) = x := by
    rw [hS']
    exact (if_neg (by omega)).trans (if_pos (by omega))
  have c7 : S' 7 = nI (n + 1) := by rw [hS']; simp only [zaX, zaS, upd]; rw [if_neg (by omega), if_neg (by omega), if_pos trivial]
  obtain ⟨nv, nv4, ev⟩ := g.nv
  obtain ⟨nm, nm4, em⟩ := g.nm
  have z6 : zct S' 6 = zct S 6 := by unfold zct; rw [hS 6 (by omega)]
  have z7 : zct S' 7 = n + 1 := zct_of c7 (by omega)
  have z8 : zct S' 8 = zct S 8 := by unfold zct; rw [hS 8 (by omega)]
  rw [zct_of hn (by omega)] at h4
  refine ⟨?_, by rw [hS 3 (by omega)]; exact h2, ?_, ?_, ?_, ?_, h7.kp (show c + 7 ≠ c + 2 ∧ c + 7 ≠ c + 5 by omega) (show c + 8 ≠ c + 2 ∧ c + 8 ≠ c + 5 by omega) K⟩
  · have := h1.kp (show c ≠ c + 2 ∧ c ≠ c + 5 by omega) K
    unfold zTf at this ⊢
    rw [hS 0 (by omega), hS 1 (by omega), hS 2 (by omega), hS 4 (by omega), hS 5 (by omega), hS 9 (by omega)]
    exact this
  · rw [z6]
    rw [zct_of ev (by omega)] at h3 ⊢
    exact h3.kp (show c + 1 ≠ c + 2 ∧ c + 1 ≠ c + 5 by omega) (show c + 4 ≠ c + 2 ∧ c + 4 ≠ c + 5 by omega) (show 1 ≠ c + 2 ∧ 1 ≠ c + 5 by omega) K (fun j a1 a2 => hS j (by omega))
  · rw [z7]
    refine ⟨hl, fun i hi => ?_⟩
    show zo G' χ' (c + 20 + i) (if i = n then s1 else sa i) (.inr (5, [.ref (va (zsv S' i)), .int (S' (28 + 21 * i + 1)), .int (S' (28 + 21 * i + 2)), .int (S' (28 + 21 * i + 3)), .ref (if i = n then u else ua i), .int (S' (28 + 21 * i + 4))])) ∧ ∃ w : Nat → Int32, zo G' χ' (c + 30 + i) (if i = n then u else ua i) (.inl (0, 16, .inl w)) ∧ ∀ j, j < zct S' (28 + 21 * i + 4) → w j = S' (28 + 21 * i + (5 + j))
    by_cases e : i = n
    · subst e
      have evv : zsv S' i = v := by unfold zsv; rw [c0, nI_clamp hv4]
      rw [if_pos rfl, if_pos rfl, evv, c1, c2, c3, c4]
      refine ⟨hs, w, hu, fun j hj => ?_⟩
      rw [zct_of c4 (by omega)] at hj
      have : j = 0 := by omega
      subst this
      rw [c5]; exact hw
    · rw [if_neg e, if_neg e]
      obtain ⟨q1, w9, q2, q3⟩ := h4.2 i (by omega)
      have evv : zsv S' i = zsv S i := by unfold zsv; rw [hS _ (by omega)]
      rw [evv, hS (28 + 21 * i + 1) (by omega), hS (28 + 21 * i + 2) (by omega), hS (28 + 21 * i + 3) (by omega), hS (28 + 21 * i + 4) (by omega)]
      refine ⟨q1.kp (show c + 20 + i ≠ c + 2 ∧ c + 20 + i ≠ c + 5 by omega) K, w9, q2.kp (show c + 30 + i ≠ c + 2 ∧ c + 30 + i ≠ c + 5 by omega) K, fun j hj => ?_⟩
      have e4 : zct S' (28 + 21 * i + 4) = zct S (28 + 21 * i + 4) := by unfold zct; rw [hS _ (by omega)]
      rw [e4] at hj
      obtain ⟨-, m, m1, m2, em⟩ := g.sn i (by omega) (by rw [hn]; exact nI_lt (by omega) (by omega))
      rw [zct_of em (by omega)] at hj
      rw [q3 j (by rw [zct_of em (by omega)]; exact hj), hS _ (by omega)]
  · rw [z8]
    rw [zct_of em (by omega)] at h5 ⊢
    exact h5.kp (show c + 3 ≠ c + 2 ∧ c + 3 ≠ c + 5 by omega) (show c + 6 ≠ c + 2 ∧ c + 6 ≠ c + 5 by omega) (fun i hi => ⟨show c + 40 + i ≠ c + 2 ∧ c + 40 + i ≠ c + 5 by omega, show c + 50 + i ≠ c + 2 ∧ c + 50 + i ≠ c + 5 by omega⟩) K (fun j a1 a2 => hS j (by omega)) (fun j a1 a2 => hS j (by omega))
  · rw [zfE_eq (fun j a1 a2 => hS j (by omega))]
    exact h6.kp (show 1 ≠ c + 2 ∧ 1 ≠ c + 5 by omega) K
/-- a value is added to a source -/
theorem zTr.addX (h : zTr G χ c a lv ls lm fo pa su va sa ua ma ra q S) (g : zGe S) (hc : 100 ≤ c) {k n : Nat} (hk : k < zct S 7) (hn : S (28 + 21 * k + 4) = nI n) (hn16 : n < 16) {x : Int32} (hS' : S' = zaX S k n x) {w w' : Nat → Int32} (hw : ∀ j, j < n → w j = S (28 + 21 * k + (5 + j)))
    (hu : zo G χ (c + 30 + k) (ua k) (.inl (0, 16, .inl w))) : zTr (zup (zup G (ua k) (.inl (0, 16, .inl (upd w n x)))) (sa k) (zsE S' va ua k)) χ c a lv ls lm fo pa su va sa ua ma ra q S' ∧ zkee (fun y => y ≠ c + 20 + k ∧ y ≠ c + 30 + k) G χ (zup (zup G (ua k) (.inl (0, 16, .inl (upd w n x)))) (sa k) (zsE S' va ua k)) χ := by
  obtain ⟨h1, h2, h3, h4, h5, h6, h7⟩ := h
  obtain ⟨ns, ns4, es⟩ := g.ns
  obtain ⟨nv, nv4, ev⟩ := g.nv
  obtain ⟨nm, nm4, em⟩ := g.nm
  rw [zct_of es (by omega)] at h4 hk
  have hS : ∀ j, ¬ (j = 28 + 21 * k + 4 ∨ j = 28 + 21 * k + 5 + n) → S' j = S j := fun j hj => by
    rw [hS']; simp only [zaX, upd]; rw [if_neg (by omega)]; rw [if_neg (by omega)]
  have c4 : S' (28 + 21 * k + 4) = nI (n + 1) := by rw [hS']; simp only [zaX, upd]; rw [if_pos trivial]
  have c5 : S' (28 + 21 * k + (5 + n)) = x := by rw [hS']; simp only [zaX, upd]; rw [if_neg (by omega), if_pos (by omega)]
  have hs := (h4.2 k hk).1
  have K1 : zkee (fun y => y ≠ c + 30 + k) G χ (zup G (ua k) (.inl (0, 16, .inl (upd w n x)))) χ := zkee.put hu.2 (fun z => z rfl)
  have K2 : zkee (fun y => y ≠ c + 20 + k) (zup G (ua k) (.inl (0, 16, .inl (upd w n x)))) χ (zup (zup G (ua k) (.inl (0, 16, .inl (upd w n x)))) (sa k) (zsE S' va ua k)) χ := zkee.put hs.2 (fun z => z rfl)
  have K : zkee (fun y => y ≠ c + 20 + k ∧ y ≠ c + 30 + k) G χ (zup (zup G (ua k) (.inl (0, 16, .inl (upd w n x)))) (sa k) (zsE S' va ua k)) χ := (K1.mono (fun y (hy : y ≠ c + 20 + k ∧ y ≠ c + 30 + k) => hy.2)).trans (K2.mono (fun y hy => hy.1))
  have z6 : zct S' 6 = zct S 6 := by unfold zct; rw [hS 6 (by omega)]
  have z7 : zct S' 7 = ns := zct_of ((hS 7 (by omega)).trans es) (by omega)
  have z8 : zct S' 8 = zct S 8 := by unfold zct; rw [hS 8 (by omega)]
  refine ⟨⟨?_, by rw [hS 3 (by omega)]; exact h2, ?_, ?_, ?_, ?_, h7.kp (show c + 7 ≠ c + 20 + k ∧ c + 7 ≠ c + 30 + k by omega) (show c + 8 ≠ c + 20 + k ∧ c + 8 ≠ c + 30 + k by omega) K⟩, K⟩
  · have := h1.kp (show c ≠ c + 20 + k ∧ c ≠ c + 30 + k by omega) K
    have e9 : zTf lv ls lm fo pa su q S' = zTf lv ls lm fo pa su q S := by
      unfold zTf
      rw [hS 0 (by omega), hS 1 (by omega), hS 2 (by omega), hS 4 (by omega), hS 5 (by omega), hS 9 (by omega)]
    rw [e9]
    exact this
  · rw [z6]
    rw [zct_of ev (by omega)] at h3 ⊢
    exact h3.kp (show c + 1 ≠ c + 20 + k ∧ c + 1 ≠ c + 30 + k by omega) (show c + 4 ≠ c + 20 + k ∧ c + 4 ≠ c + 30 + k by omega) (show 1 ≠ c + 20 + k ∧ 1 ≠ c + 30 + k by omega) K (fun j a1 a2 => hS j (by omega))
  · rw [z7]
    refine ⟨h4.1.kp (show c + 2 ≠ c + 20 + k ∧ c + 2 ≠ c + 30 + k by omega) (show c + 5 ≠ c + 20 + k ∧ c + 5 ≠ c + 30 + k by omega) K, fun i hi => ?_⟩
    by_cases e : i = k
    · subst e
      refine ⟨⟨zup_s, hs.2⟩, upd w n x, ⟨(zup_n (fun z => by have := hs.2; rw [← z, hu.2] at this; omega)).trans zup_s, hu.2⟩, fun j hj => ?_⟩
      rw [zct_of c4 (by omega)] at hj
      by_cases e2 : j = n
      · subst e2
        rw [c5]
        exact if_pos rfl
      · rw [hS _ (by omega), ← hw j (by omega)]
        exact if_neg e2
    · obtain ⟨q1, w9, q2, q3⟩ := h4.2 i hi
      have e9 : zsE S' va ua i = zsE S va ua i := by
        unfold zsE zsv
        rw [hS (28 + 21 * i + 0) (by omega), hS (28 + 21 * i + 1) (by omega), hS (28 + 21 * i + 2) (by omega), hS (28 + 21 * i + 3) (by omega), hS (28 + 21 * i + 4) (by omega)]
      rw [e9]
      refine ⟨q1.kp (show c + 20 + i ≠ c + 20 + k ∧ c + 20 + i ≠ c + 30 + k by omega) K, w9, q2.kp (show c + 30 + i ≠ c + 20 + k ∧ c + 30 + i ≠ c + 30 + k by omega) K, fun j hj => ?_⟩
      have e4 : zct S' (28 + 21 * i + 4) = zct S (28 + 21 * i + 4) := by unfold zct; rw [hS _ (by omega)]
      rw [e4] at hj
      obtain ⟨-, m, m1, m2, em⟩ := g.sn i (by omega) (by rw [es]; exact nI_lt (by omega) (by omega))
      rw [zct_of em (by omega)] at hj
      rw [q3 j (by rw [zct_of em (by omega)]; exact hj), hS _ (by omega)]
  · rw [z8]
    rw [zct_of em (by omega)] at h5 ⊢
    exact h5.kp (show c + 3 ≠ c + 20 + k ∧ c + 3 ≠ c + 30 + k by omega) (show c + 6 ≠ c + 20 + k ∧ c + 6 ≠ c + 30 + k by omega) (fun i hi => ⟨show c + 40 + i ≠ c + 20 + k ∧ c + 40 + i ≠ c + 30 + k by omega, show c + 50 + i ≠ c + 20 + k ∧ c + 50 + i ≠ c + 30 + k by omega⟩) K (fun j a1 a2 => hS j (by omega)) (fun j a1 a2 => hS j (by omega))
  · rw [zfE_eq (fun j a1 a2 => hS j (by omega))]
    exact h6.kp (show 1 ≠ c + 20 + k ∧ 1 ≠ c + 30 + k by omega) K
end ZTC
