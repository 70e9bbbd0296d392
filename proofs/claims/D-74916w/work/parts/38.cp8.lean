/-! component: making a recording -/
/-- what a recording may change -/
abbrev zPr (c : Nat) : Nat → Prop := fun x => x ≠ c ∧ x ≠ 2 ∧ x ≠ 3 ∧ ¬ (c + 40 ≤ x ∧ x < c + 60)
theorem zPr_of {c x : Nat} (hc : 100 ≤ c) (h : c < x ∧ x < c + 40 ∨ x = 1) : zPr c x := ⟨by omega, by omega, by omega, by omega⟩
theorem zmE_n {S : Nat → Int32} {ra ra2 : Nat → Nat} {i : Nat} (h : ra i = ra2 i) : zmE S ra i = zmE S ra2 i := by unfold zmE; rw [h]
theorem zmE_o {S : Nat → Int32} {ra : Nat → Nat} {i q : Nat} (h : ra i = q) : zmE S ra i = zMo S i q := by unfold zmE zMo; rw [h]
/-- the whole track behind a recording -/
theorem zTr_rec {G G1 : zH} {χ χ1 : Nat → Nat} {c a lv ls lm fo pa su : Nat} {va sa ua ma ra ra1 : Nat → Nat} {rq nm ns lvl : Nat} {S S' : Nat → Int32} (hR : zTr G χ c a lv ls lm fo pa su va sa ua ma ra rq S) (g : zGe S) (hc : 100 ≤ c) (e8 : S 8 = nI nm) (n8 : nm ≤ 8) (e7 : S 7 = nI ns) (n7 : ns ≤ 6) (hA : zAR S S' nm ns lvl rq) (hq : rq < 2147483648)
    (K : zkee (zPr c) G χ G1 χ1) (i3 : zo G1 χ1 c a (.inr (1, (zTf lv ls lm fo pa su (zqs lvl rq nm) S).set 8 (.int (S 9 + 1))))) (i4 : ∀ j, j < nm → zo G1 χ1 (c + 40 + j) (ma j) (zmE S ra1 j)) (i5 : ∀ j, j < nm → ∃ w : Nat → Int32, zo G1 χ1 (c + 50 + j) (ra1 j) (.inl (0, 256, .inl w)) ∧ ∀ n, n < 256 → w n = zmr S ns lvl rq j n) :
    zTr G1 χ1 c a lv ls lm fo pa su va sa ua ma ra1 (zqs lvl rq nm) S' := by
  obtain ⟨t1, t2, t4, t5, t6, t7, t8⟩ := hR
  obtain ⟨A1, A2, A3, A4, A5⟩ := hA
  obtain ⟨nv, nv4, ev⟩ := g.nv
  have a : ∀ j, j < 186 → j ≠ 3 → j ≠ 9 → S' j = S j := A1
  have z6 : zct S' 6 = zct S 6 := by unfold zct; rw [a 6 (by decide) (by decide) (by decide)]
  have z7 : zct S' 7 = ns := zct_of ((a 7 (by decide) (by decide) (by decide)).trans e7) (by omega)
  have z8 : zct S' 8 = nm := zct_of ((a 8 (by decide) (by decide) (by decide)).trans e8) (by omega)
  have z6' : zct S 6 = nv := zct_of ev (by omega)
  rw [zct_of e7 (by omega)] at t5
  rw [zct_of e8 (by omega)] at t6
  refine ⟨?_, ⟨A4, zqs_lt hq nm⟩, ?_, ?_, ?_, ?_, t8.kp (zPr_of hc (by omega)) (zPr_of hc (by omega)) K⟩
  · have : (zTf lv ls lm fo pa su (zqs lvl rq nm) S').length = 13 := rfl
    have e : (zTf lv ls lm fo pa su (zqs lvl rq nm) S).set 8 (.int (S 9 + 1)) = zTf lv ls lm fo pa su (zqs lvl rq nm) S' := by
      unfold zTf
      rw [a 0 (by decide) (by decide) (by decide), a 1 (by decide) (by decide) (by decide), a 2 (by decide) (by decide) (by decide), a 4 (by decide) (by decide) (by decide), a 5 (by decide) (by decide) (by decide), A3]
      rfl
    rw [← e]
    exact i3
  · rw [z6]
    rw [z6'] at t4 ⊢
    exact t4.kp (zPr_of hc (by omega)) (zPr_of hc (by omega)) (zPr_of hc (by omega)) K (fun j h1 h2 => a j (by omega) (by omega) (by omega))
  · rw [z7]
    refine t5.kp (zPr_of hc (by omega)) (zPr_of hc (by omega)) (fun i hi => ⟨zPr_of hc (by omega), zPr_of hc (by omega)⟩) K (fun j h1 h2 => a j (by omega) (by omega) (by omega)) (fun i hi => ?_)
    obtain ⟨-, m, m1, m2, e⟩ := g.sn i (by omega) (by rw [e7]; exact nI_lt hi (by omega))
    rw [zct_of e (by omega)]
    exact m2
  · rw [z8]
    refine ⟨t6.1.kp (zPr_of hc (by omega)) (zPr_of hc (by omega)) K, fun i hi => ?_⟩
    obtain ⟨w, w1, w2⟩ := i5 i hi
    refine ⟨?_, w, w1, fun j hj => (w2 j hj).trans (A5 i hi j hj).symm⟩
    have := i4 i hi
    unfold zmE at this ⊢
    rw [a _ (by omega) (by omega) (by omega), a _ (by omega) (by omega) (by omega), a _ (by omega) (by omega) (by omega), a _ (by omega) (by omega) (by omega)]
    exact this
  · rw [zfE_eq (fun j h1 h2 => a j (by omega) (by omega) (by omega))]
    exact t7.kp (zPr_of hc (by omega)) K
theorem zsv_nv {S : Nat → Int32} (g : zGe S) {ns s nv : Nat} (e7 : S 7 = nI ns) (hs : s < ns) (hns : ns ≤ 6) (ev : S 6 = nI nv) (hnv : nv ≤ 4) : zsv S s < nv := by
  obtain ⟨⟨v, v1, v2⟩, -⟩ := g.sn s (by omega) (by rw [e7]; exact nI_lt hs (by omega))
  obtain ⟨e0, h4⟩ := zsv_lt g (show s < 6 by omega)
  rw [v1] at e0
  rw [ev, e0] at v2
  exact (nI_ltI (by omega) (by omega)).mp v2
theorem np_J2_iterator : znp yJ2_iterator 0 := ⟨by decide +kernel, by decide +kernel, by decide +kernel⟩
theorem np_X2_hear : znp yX2_hear 3 := ⟨by decide +kernel, by decide +kernel, by decide +kernel⟩
theorem np_X2_draw : znp yX2_draw 1 := ⟨by decide +kernel, by decide +kernel, by decide +kernel⟩
set_option maxHeartbeats 16000000 in
set_option maxRecDepth 100000 in
theorem ct_X2_makeRecording (D : zG) (B : Nat) {G : zH} (χ : Nat → Nat) (c a lv ls lm fo pa su : Nat) (va sa ua ma ra : Nat → Nat) (rq : Nat) (S : Nat → Int32) (nm ns lvl : Nat) (hR0 : zTr G χ c a lv ls lm fo pa su va sa ua ma ra rq S) (g : zGe S) (h2 : S 2 = 0 ∨ S 2 = 1) (hc : 100 ≤ c) (e8 : S 8 = nI nm) (n8 : nm ≤ 8) (e7 : S 7 = nI ns) (n7 : ns ≤ 6) (e4 : S 4 = nI lvl) (n4_ : lvl ≤ 99) : Ct D B yX2_makeRecording (ws_ yX2_makeRecording cX2_makeRecording 5 (some .int)) (zrc 6 130 2600) [.ref a] G (fun r9 G9 => r9 = some (.int (S 9 + 1)) ∧ ∃ (χ' : Nat → Nat) (ra' : Nat → Nat), zkee (zPr c) G χ G9 χ' ∧ ∀ S', zAR S S' nm ns lvl rq → zTr G9 χ' c a lv ls lm fo pa su va sa ua ma ra' (zqs lvl rq nm) S') zno := by
  refine ct_intro (by decide +kernel) (Nat.le_of_ble_eq_true rfl) ?_
  intro X C
  have hR := hR0
  obtain ⟨t1, ⟨t2, t3⟩, t4, t5, t6, t7, t8⟩ := hR
  rw [zct_of e8 (by omega)] at t6
  rw [zct_of e7 (by omega)] at t5
  obtain ⟨⟨mcm, em, capm, gm, lm1, lm2, lm3⟩, tm⟩ := t6
  obtain ⟨⟨mcs, es, caps, gs, ls1, ls2, ls3⟩, ts⟩ := t5
  have hRR : zTr G χ c a lv ls lm fo pa su va sa ua ma ra rq S := hR0
  have hsn : ∀ j, j < ns → (∃ v : Nat, S (28 + 21 * j + 0) = nI v ∧ nI v < S 6) ∧ ∃ n : Nat, 1 ≤ n ∧ n ≤ 16 ∧ S (28 + 21 * j + 4) = nI n := fun j hj => g.sn j (by omega) (by rw [e7]; exact nI_lt hj (by omega))
  refine z_aload_n (i := 0) C dX2_makeRecording_0 rfl rfl ?_
  refine z_getf (ci := 1) (k := 2) C (t1.1) rfl rfl q514 dX2_makeRecording_1 ?_
  refine z_callVn C (lm1.1) rfl (ct_J2_iterator D B lm mcm _ _ lm1.1) q602 q603 q604 q87 q605 np_J2_iterator (zr_ok rfl rfl) rfl rfl (Nat.le_of_ble_eq_true rfl) (⟨by simp only [zrc, zr]; omega, by simp only [zrc, zr]; omega⟩) dX2_makeRecording_4 ?_
  intro v9 G9 h9
  obtain ⟨it1, rfl, hit, rfl⟩ := h9
  refine z_astore_n (i := 1) C dX2_makeRecording_7 rfl (Nat.le_of_ble_eq_true rfl) rfl ?_
  have lp8 : ∀ (μ : Nat) (i : Nat) (G1 : zH) (χ1 : Nat → Nat) (ra1 : Nat → Nat) (lr : Value) (i1 : i ≤ nm) (i2 : zkee (zPr c) G χ G1 χ1) (i3 : zo G1 χ1 c a (.inr (1, zTf lv ls lm fo pa su (zqs lvl rq i) S))) (i4 : ∀ j, j < nm → zo G1 χ1 (c + 40 + j) (ma j) (zmE S ra1 j)) (i5 : ∀ j, j < i → ∃ w : Nat → Int32, zo G1 χ1 (c + 50 + j) (ra1 j) (.inl (0, 256, .inl w)) ∧ ∀ n, n < 256 → w n = zmr S ns lvl rq j n) (i6 : zo G1 χ1 2 it1 (.inr (14, [.int (nI (i)), lr, .int mcm, .ref lm]))), nm - i < μ → Z X 8 [some (.ref a), some (.ref it1), none, none, none] [] G1 (1 + 14 * i) (4 + 300 * i) := by
    intro μ
    induction μ with
    | zero => intro i G1 χ1 ra1 lr i1 i2 i3 i4 i5 i6 hμ; exact absurd hμ (Nat.not_lt_zero _)
    | succ μ ih8 =>
      intro i G1 χ1 ra1 lr i1 i2 i3 i4 i5 i6 hμ
      have lmZ : zli G1 lm nm ma mcm em capm gm := ⟨(i2 lm _ lm1.1 (by rw [lm2]; exact zPr_of hc (by omega))).1, (i2 em _ lm1.2.1 (by rw [lm3]; exact zPr_of hc (by omega))).1, lm1.2.2⟩
      refine z_aload_n (i := 1) C dX2_makeRecording_8 rfl rfl ?_
      refine z_callFe (x := ⟨"java/util/Iterator", "hasNext", "()Z"⟩) (C0 := "java/util/ArrayList$Itr") (np := 0) C (i6.1) rfl (by decide) (ct_J22_hasNext D B it1 lm i nm _ _ _ _ lmZ.1 i6.1 (by omega) (by omega)) q626 q630 q632 q115 q634 ⟨by decide +kernel, by decide +kernel, by decide +kernel⟩ (zr_ok rfl rfl) rfl rfl (Nat.le_of_ble_eq_true rfl) (⟨by simp only [zrc, zr]; omega, by simp only [zrc, zr]; omega⟩) dX2_makeRecording_9 ?_
      refine z_if_eq (tgt := 134) C dX2_makeRecording_14 (by decide) (fun c_14 => ?_) (fun c_14 => ?_)
      · have hend : i = nm := by
          by_cases z : i = nm
          · exact z
          · exact absurd z (zb_eq.mp c_14)
        refine z_aload_n (i := 0) C dX2_makeRecording_134 rfl rfl ?_
        refine z_dup C dX2_makeRecording_135 rfl ?_
        refine z_getf (ci := 1) (k := 8) C (i3.1) rfl rfl q531 dX2_makeRecording_136 ?_
        refine z_iconst (v := 1) C dX2_makeRecording_139 (by decide) ?_
        refine z_iadd C dX2_makeRecording_140 ?_
        refine z_putf (ci := 1) (k := 8) C (i3.1) rfl (Nat.le_of_ble_eq_true rfl) (zfit_I _) q531 dX2_makeRecording_141 ?_
        refine z_aload_n (i := 0) C dX2_makeRecording_144 rfl rfl ?_
        refine z_getf (ci := 1) (k := 8) C (zup_s) rfl rfl q531 dX2_makeRecording_145 ?_
        exact z_ireturn C rfl (rfl) dX2_makeRecording_148 (⟨rfl, χ1, ra1, i2.trans (zkee.put i3.2 (fun h => h.1 rfl)), fun S' hA => zTr_rec hRR g hc e8 n8 e7 n7 hA t3 (i2.trans (zkee.put i3.2 (fun h => h.1 rfl))) ⟨by rw [← hend]; exact zup_s, i3.2⟩ (fun j hj => (i4 j hj).kp (show c + 40 + j ≠ c by omega) (zkee.put (P := fun x => x ≠ c) i3.2 (fun h => h rfl))) (fun j hj => by
    obtain ⟨w, w1, w2⟩ := i5 j (by omega)
    exact ⟨w, w1.kp (show c + 50 + j ≠ c by omega) (zkee.put (P := fun x => x ≠ c) i3.2 (fun h => h rfl)), w2⟩)⟩) (by simp only [zrc, zr]; omega) (by simp only [zrc, zr]; omega)
      · have hlt : i < nm := by
          have := zb_ne.mp c_14
          omega
        refine z_aload_n (i := 1) C dX2_makeRecording_17 rfl rfl ?_
        refine z_callFe (x := ⟨"java/util/Iterator", "next", "()Ljava/lang/Object;"⟩) (C0 := "java/util/ArrayList$Itr") (np := 0) C (i6.1) rfl (by decide) (ct_J22_next D B lm nm ma mcm em capm gm it1 i lr lmZ i6.1 hlt) q636 q639 q641 q115 q643 ⟨by decide +kernel, by decide +kernel, by decide +kernel⟩ (zr_ok rfl rfl) rfl rfl (Nat.le_of_ble_eq_true rfl) (⟨by simp only [zrc, zr]; omega, by simp only [zrc, zr]; omega⟩) dX2_makeRecording_18 ?_
        have K1 : zkee (fun x => x ≠ 2) G1 χ1 (zup G1 it1 (.inr (14, [.int (nI (i + 1)), .int (nI i), .int mcm, .ref lm]))) χ1 := zkee.put i6.2 (fun h => h rfl)
        obtain ⟨G2, hG2⟩ : ∃ G2, G2 = zup G1 it1 (.inr (14, [.int (nI (i + 1)), .int (nI i), .int mcm, .ref lm])) := ⟨_, rfl⟩
        rw [← hG2] at K1
        have a2 : zkee (zPr c) G χ G2 χ1 := i2.trans (K1.mono (fun x hx => hx.2.1))
        have a3 := i3.kp (show c ≠ 2 by omega) K1
        have a4 : ∀ j, j < nm → zo G2 χ1 (c + 40 + j) (ma j) (zmE S ra1 j) := fun j hj => (i4 j hj).kp (show c + 40 + j ≠ 2 by omega) K1
        have a5 : ∀ j, j < i → ∃ w : Nat → Int32, zo G2 χ1 (c + 50 + j) (ra1 j) (.inl (0, 256, .inl w)) ∧ ∀ n, n < 256 → w n = zmr S ns lvl rq j n := fun j hj => by
          obtain ⟨w, w1, w2⟩ := i5 j hj
          exact ⟨w, w1.kp (show c + 50 + j ≠ 2 by omega) K1, w2⟩
        have a6 : zo G2 χ1 2 it1 (.inr (14, [.int (nI (i + 1)), .int (nI i), .int mcm, .ref lm])) := by rw [hG2]; exact i6.put
        refine z_heap hG2.symm ?_
        refine z_castS (ci := 6) C ((a4 i hlt).1) rfl q648 dX2_makeRecording_23 ?_
        refine z_astore_n (i := 2) C dX2_makeRecording_26 rfl (Nat.le_of_ble_eq_true rfl) rfl ?_
        refine z_aload_n (i := 2) C dX2_makeRecording_27 rfl rfl ?_
        refine z_sipush (v := 256) C dX2_makeRecording_28 (by decide) ?_
        refine z_newarr (ty := .int) (t := 0) (N := 256) (x0 := (256, .inl fun _ => 0)) C rfl rfl q567 (fun _ => rfl) (by decide) (by decide +kernel) (Nat.le_of_ble_eq_true rfl) (by simp only [zrc, zr]; omega) (by simp only [zrc, zr]; omega) dX2_makeRecording_31 ?_
        intro q hq hb
        have nmq := zne_of hq (a4 i hlt).1
        refine z_putfN (ci := 6) (k := 4) C ((zup_n nmq).trans (a4 i hlt).1) rfl (Nat.le_of_ble_eq_true rfl) (zfit_aI _) q1032 dX2_makeRecording_33 ?_
        obtain ⟨ra2, hra2⟩ : ∃ ra2 : Nat → Nat, ra2 = fun j => if j = i then q else ra1 j := ⟨_, rfl⟩
        have r2i : ra2 i = q := by rw [hra2]; exact if_pos rfl
        have r2n : ∀ j, j ≠ i → ra2 j = ra1 j := fun j hj => by rw [hra2]; exact if_neg hj
        have N1 : ∀ k, zkee (fun _ => True) G2 χ1 (zup G2 q (.inl (0, 256, .inl fun _ => 0))) (zcol χ1 q k) := fun k => zkee.new hq
        have m1 := (a4 i hlt).kp trivial (N1 (c + 50 + i))
        obtain ⟨G3, hG3⟩ : ∃ G3, G3 = zup (zup G2 q (.inl (0, 256, .inl fun _ => 0))) (ma i) (zMo S i q) := ⟨_, rfl⟩
        have K2 : zkee (fun x => x ≠ c + 40 + i) G2 χ1 G3 (zcol χ1 q (c + 50 + i)) := by
          rw [hG3]
          exact ((N1 (c + 50 + i)).mono (fun _ _ => trivial)).trans (zkee.put m1.2 (fun h => h rfl))
        obtain ⟨χ3, hχ3⟩ : ∃ χ3, χ3 = zcol χ1 q (c + 50 + i) := ⟨_, rfl⟩
        rw [← hχ3] at K2
        have b2 : zkee (zPr c) G χ G3 χ3 := a2.trans (K2.mono (fun x hx => by have := hx.2.2.2; omega))
        have b3 := a3.kp (show c ≠ c + 40 + i by omega) K2
        have b4 : ∀ j, j < nm → zo G3 χ3 (c + 40 + j) (ma j) (zmE S ra2 j) := fun j hj => by
          by_cases e : j = i
          · subst e
            rw [zmE_o r2i, hG3, hχ3]
            exact m1.put
          · rw [zmE_n (r2n j e)]
            exact (a4 j hj).kp (show c + 40 + j ≠ c + 40 + i by omega) K2
        have b5 : ∀ j, j < i → ∃ w : Nat → Int32, zo G3 χ3 (c + 50 + j) (ra2 j) (.inl (0, 256, .inl w)) ∧ ∀ n, n < 256 → w n = zmr S ns lvl rq j n := fun j hj => by
          obtain ⟨w, w1, w2⟩ := a5 j hj
          rw [r2n j (by omega)]
          exact ⟨w, w1.kp (show c + 50 + j ≠ c + 40 + i by omega) K2, w2⟩
        have b6 := a6.kp (show 2 ≠ c + 40 + i by omega) K2
        have bq : zo G3 χ3 (c + 50 + i) q (.inl (0, 256, .inl fun _ => 0)) := by
          rw [hG3, hχ3]
          exact ⟨(zup_n (fun z => nmq z.symm)).trans zup_s, if_pos rfl⟩
        refine z_heap hG3.symm ?_
        have lsO := b2 ls _ ls1.1 (by rw [ls2]; exact zPr_of hc (by omega))
        refine z_aload_n (i := 0) C dX2_makeRecording_36 rfl rfl ?_
        refine z_getf (ci := 1) (k := 1) C (b3.1) rfl rfl q511 dX2_makeRecording_37 ?_
        refine z_callVn C (lsO.1) rfl (ct_J2_iterator D B ls mcs _ _ lsO.1) q602 q603 q604 q87 q605 np_J2_iterator (zr_ok rfl rfl) rfl rfl (Nat.le_of_ble_eq_true rfl) (⟨by simp only [zrc, zr]; omega, by simp only [zrc, zr]; omega⟩) dX2_makeRecording_40 ?_
        intro v9 G9 h9
        obtain ⟨it2, rfl, hit2, rfl⟩ := h9
        have K3 : zkee (fun _ => True) G3 χ3 (zup G3 it2 (.inr (14, [.int (nI (0)), .int (-1), .int mcs, .ref ls]))) (zcol χ3 it2 3) := zkee.new hit2
        obtain ⟨G4, hG4⟩ : ∃ G4, G4 = zup G3 it2 (.inr (14, [.int (nI (0)), .int (-1), .int mcs, .ref ls])) := ⟨_, rfl⟩
        obtain ⟨χ4, hχ4⟩ : ∃ χ4, χ4 = zcol χ3 it2 3 := ⟨_, rfl⟩
        rw [← hG4, ← hχ4] at K3
        have d2 : zkee (zPr c) G χ G4 χ4 := b2.trans (K3.mono (fun _ _ => trivial))
        have d3 := b3.kp trivial K3
        have d4 : ∀ j, j < nm → zo G4 χ4 (c + 40 + j) (ma j) (zmE S ra2 j) := fun j hj => (b4 j hj).kp trivial K3
        have d5 : ∀ j, j < i → ∃ w : Nat → Int32, zo G4 χ4 (c + 50 + j) (ra2 j) (.inl (0, 256, .inl w)) ∧ ∀ n, n < 256 → w n = zmr S ns lvl rq j n := fun j hj => by
          obtain ⟨w, w1, w2⟩ := b5 j hj
          exact ⟨w, w1.kp trivial K3, w2⟩
        have d6 := b6.kp trivial K3
        have dq := bq.kp trivial K3
        have d7 : zo G4 χ4 3 it2 (.inr (14, [.int (nI (0)), .int (-1), .int mcs, .ref ls])) := by rw [hG4, hχ4]; exact zo.newc hit2
        have lsZ : zli G4 ls ns sa mcs es caps gs := ⟨(d2 ls _ ls1.1 (by rw [ls2]; exact zPr_of hc (by omega))).1, (d2 es _ ls1.2.1 (by rw [ls3]; exact zPr_of hc (by omega))).1, ls1.2.2⟩
        have lsC : χ4 ls = c + 2 ∧ χ4 es = c + 5 := ⟨(d2 ls _ ls1.1 (by rw [ls2]; exact zPr_of hc (by omega))).2.trans ls2, (d2 es _ ls1.2.1 (by rw [ls3]; exact zPr_of hc (by omega))).2.trans ls3⟩
        refine z_heap hG4.symm ?_
        refine z_astore_n (i := 3) C dX2_makeRecording_43 rfl (Nat.le_of_ble_eq_true rfl) rfl ?_
        have lp44 : ∀ (μ : Nat) (s : Nat) (G5 : zH) (fx : Nat → Int32) (lr2 : Value) (k0 : s ≤ ns) (k1 : zkee (fun x => x ≠ c + 50 + i ∧ x ≠ 3) G4 χ4 G5 χ4) (k2 : zo G5 χ4 (c + 50 + i) q (.inl (0, 256, .inl fx))) (k3 : ∀ n, n < 256 → fx n = zrw S i s n) (k4 : zo G5 χ4 3 it2 (.inr (14, [.int (nI (s)), lr2, .int mcs, .ref ls]))), ns - s < μ → Z X 44 [some (.ref a), some (.ref it1), some (.ref (ma i)), some (.ref it2), none] [] G5 (1 + 14 * i + 2 + 2 * s) (4 + 300 * i + 260 + 6 * s) := by
          intro μ
          induction μ with
          | zero => intro s G5 fx lr2 k0 k1 k2 k3 k4 hμ; exact absurd hμ (Nat.not_lt_zero _)
          | succ μ ih44 =>
            intro s G5 fx lr2 k0 k1 k2 k3 k4 hμ
            have lsY : zli G5 ls ns sa mcs es caps gs := ⟨(k1 ls _ lsZ.1 (by rw [lsC.1]; omega)).1, (k1 es _ lsZ.2.1 (by rw [lsC.2]; omega)).1, lsZ.2.2⟩
            refine z_aload_n (i := 3) C dX2_makeRecording_44 rfl rfl ?_
            refine z_callFe (x := ⟨"java/util/Iterator", "hasNext", "()Z"⟩) (C0 := "java/util/ArrayList$Itr") (np := 0) C (k4.1) rfl (by decide) (ct_J22_hasNext D B it2 ls s ns _ _ _ _ lsY.1 k4.1 (by omega) (by omega)) q626 q630 q632 q115 q634 ⟨by decide +kernel, by decide +kernel, by decide +kernel⟩ (zr_ok rfl rfl) rfl rfl (Nat.le_of_ble_eq_true rfl) (⟨by simp only [zrc, zr]; omega, by simp only [zrc, zr]; omega⟩) dX2_makeRecording_45 ?_
            refine z_if_eq (tgt := 83) C dX2_makeRecording_50 (by decide) (fun c_50 => ?_) (fun c_50 => ?_)
            · have hends : s = ns := by
                by_cases z : s = ns
                · exact z
                · exact absurd z (zb_eq.mp c_50)
              subst hends
              refine z_iconst (v := 0) C dX2_makeRecording_83 (by decide) ?_
              refine z_istore_n (i := 3) C dX2_makeRecording_84 rfl (Nat.le_of_ble_eq_true rfl) rfl ?_
              have lp85 : ∀ (μ : Nat) (n : Nat) (G6 : zH) (fy : Nat → Int32) (r6 : Nat) (l1 : n ≤ 256) (l2 : zkee (fun x => x ≠ c + 50 + i ∧ x ≠ 3 ∧ x ≠ c) G4 χ4 G6 χ4) (l3 : zo G6 χ4 (c + 50 + i) q (.inl (0, 256, .inl fy))) (l4 : ∀ j, j < n → fy j = zrw S i s j + zns lvl (zqs lvl rq i) j) (l5 : ∀ j, n ≤ j → j < 256 → fy j = zrw S i s j) (l6 : zo G6 χ4 c a (.inr (1, zTf lv ls lm fo pa su r6 S))) (l7q : r6 < 2147483648) (l7 : r6 = if lvl = 0 then zqs lvl rq i else zrs (zqs lvl rq i) n), 256 - n < μ → Z X 85 [some (.ref a), some (.ref it1), some (.ref (ma i)), some (.int (nI n)), none] [] G6 (1 + 14 * i + 14) (4 + 300 * i + 300) := by
                intro μ
                induction μ with
                | zero => intro n G6 fy r6 l1 l2 l3 l4 l5 l6 l7q l7 hμ; exact absurd hμ (Nat.not_lt_zero _)
                | succ μ ih85 =>
                  intro n G6 fy r6 l1 l2 l3 l4 l5 l6 l7q l7 hμ
                  have o6 : G6 (ma i) = some (zMo S i q) := by
                    have := ((d4 i hlt).kp (show c + 40 + i ≠ c + 50 + i ∧ c + 40 + i ≠ 3 ∧ c + 40 + i ≠ c by omega) l2).1
                    rw [zmE_o r2i] at this
                    exact this
                  refine z_iload_n (i := 3) C dX2_makeRecording_85 rfl rfl ?_
                  refine z_sipush (v := 256) C dX2_makeRecording_86 (by decide) ?_
                  refine z_icmp_ge (tgt := 131) C dX2_makeRecording_89 (by decide) (fun c_89 => ?_) (fun c_89 => ?_)
                  · have hend_89 : n = 256 := by have := zge (b := 256) c_89 (by omega) (by omega); omega
                    have hr : r6 = zqs lvl rq (i + 1) := by
                      rw [l7, hend_89]
                      rfl
                    have hwv : ∀ n9, n9 < 256 → fy n9 = zmr S s lvl rq i n9 := fun n9 h9 => l4 n9 (by omega)
                    refine z_goto (tgt := 8) C dX2_makeRecording_131 (by decide) ?_
                    exact z_convG (ih8 (i + 1) G6 χ4 ra2 _ (by omega) (d2.trans (l2.mono (fun x hx => by have h8 := hx.1; have := hx.2.2; omega))) (by rw [← hr]; exact l6) (fun j hj => (d4 j hj).kp (show c + 40 + j ≠ c + 50 + i ∧ c + 40 + j ≠ 3 ∧ c + 40 + j ≠ c by omega) l2) (fun j hj => by
                        by_cases e9 : j = i
                        · subst e9
                          rw [r2i]
                          exact ⟨fy, l3, hwv⟩
                        · obtain ⟨w, w1, w2⟩ := d5 j (by omega)
                          exact ⟨w, w1.kp (show c + 50 + j ≠ c + 50 + i ∧ c + 50 + j ≠ 3 ∧ c + 50 + j ≠ c by omega) l2, w2⟩) (d6.kp (show 2 ≠ c + 50 + i ∧ 2 ≠ 3 ∧ 2 ≠ c by omega) l2) (by omega)) (And.intro rfl (And.intro rfl trivial)) (by omega) (by omega)
                  · have hlt_89 : n < 256 := znge (b := 256) c_89 (by omega) (by omega)
                    refine z_aload_n (i := 0) C dX2_makeRecording_92 rfl rfl ?_
                    refine z_getf (ci := 1) (k := 7) C (l6.1) rfl rfl q528 dX2_makeRecording_93 ?_
                    refine z_if_le (tgt := 131) C dX2_makeRecording_96 (by decide) (fun c_96 => ?_) (fun c_96 => ?_)
                    · have hlv0 : lvl = 0 := by
                        by_cases z : lvl = 0
                        · exact z
                        · exact absurd c_96 (by rw [e4]; exact Int32.not_le.mpr (nI_lt (a := 0) (by omega) (by omega)))
                      have hr : r6 = zqs lvl rq (i + 1) := by rw [l7, if_pos hlv0]; show _ = (if lvl = 0 then _ else _); rw [if_pos hlv0]
                      have hwv : ∀ n9, n9 < 256 → fy n9 = zmr S s lvl rq i n9 := fun n9 h9 => by
                        have e9 : zns lvl (zqs lvl rq i) n9 = 0 := by unfold zns; rw [if_pos hlv0]
                        unfold zmr
                        rw [e9, Int32.add_zero]
                        by_cases q9 : n9 < n
                        · have := l4 n9 q9
                          rw [e9, Int32.add_zero] at this
                          exact this
                        · exact l5 n9 (by omega) h9
                      refine z_goto (tgt := 8) C dX2_makeRecording_131 (by decide) ?_
                      exact z_convG (ih8 (i + 1) G6 χ4 ra2 _ (by omega) (d2.trans (l2.mono (fun x hx => by have h8 := hx.1; have := hx.2.2; omega))) (by rw [← hr]; exact l6) (fun j hj => (d4 j hj).kp (show c + 40 + j ≠ c + 50 + i ∧ c + 40 + j ≠ 3 ∧ c + 40 + j ≠ c by omega) l2) (fun j hj => by
                          by_cases e9 : j = i
                          · subst e9
                            rw [r2i]
                            exact ⟨fy, l3, hwv⟩
                          · obtain ⟨w, w1, w2⟩ := d5 j (by omega)
                            exact ⟨w, w1.kp (show c + 50 + j ≠ c + 50 + i ∧ c + 50 + j ≠ 3 ∧ c + 50 + j ≠ c by omega) l2, w2⟩) (d6.kp (show 2 ≠ c + 50 + i ∧ 2 ≠ 3 ∧ 2 ≠ c by omega) l2) (by omega)) (And.intro rfl (And.intro rfl trivial)) (by omega) (by omega)
                    · have hlv1 : ¬ lvl = 0 := fun z => c_96 (by rw [e4, z]; exact Int32.le_refl _)
                      refine z_aload_n (i := 2) C dX2_makeRecording_99 rfl rfl ?_
                      refine z_getfN (ci := 6) (k := 4) C (o6) rfl rfl q1032 dX2_makeRecording_100 ?_
                      refine z_iload_n (i := 3) C dX2_makeRecording_103 rfl rfl ?_
                      refine z_dup2_11 C dX2_makeRecording_104 rfl rfl ?_
                      refine zj_iald C l3.1 (zixI rfl hlt_89) (by decide) dX2_makeRecording_105 ?_
                      refine z_aload_n (i := 0) C dX2_makeRecording_106 rfl rfl ?_
                      refine z_iconst (v := 2) C dX2_makeRecording_107 (by decide) ?_
                      refine z_aload_n (i := 0) C dX2_makeRecording_108 rfl rfl ?_
                      refine z_getf (ci := 1) (k := 7) C (l6.1) rfl rfl q528 dX2_makeRecording_109 ?_
                      refine z_seti e4 ?_
                      refine z_imul C dX2_makeRecording_112 ?_
                      refine z_seti (y := nI (2 * lvl)) (pk_mul 2 lvl) ?_
                      refine z_iconst (v := 1) C dX2_makeRecording_113 (by decide) ?_
                      refine z_iadd C dX2_makeRecording_114 ?_
                      refine z_seti (y := nI (2 * lvl + 1)) (nI_1 _) ?_
                      refine z_callVe C (l6.1) rfl (ct_X2_draw D B a lv ls lm fo pa su r6 S (2 * lvl + 1) l6.1 l7q (by omega) (by omega)) q750 q752 qs3 q84 q753 np_X2_draw (zr_ok rfl rfl) rfl rfl (Nat.le_of_ble_eq_true rfl) (⟨by simp only [zrc, zr]; omega, by simp only [zrc, zr]; omega⟩) dX2_makeRecording_115 ?_
                      have nqa : ¬ q = a := l3.ne l6.2 (by omega)
                      refine z_aload_n (i := 0) C dX2_makeRecording_118 rfl rfl ?_
                      refine z_getf (ci := 1) (k := 7) C (zup_s) rfl rfl q528 dX2_makeRecording_119 ?_
                      refine z_seti e4 ?_
                      refine z_isub C dX2_makeRecording_122 ?_
                      refine z_iadd C dX2_makeRecording_123 ?_
                      refine zj_iast C ((zup_n nqa).trans l3.1) (zixI rfl hlt_89) (by decide) dX2_makeRecording_124 ?_
                      refine z_iinc (v := nI (n + 1)) C dX2_makeRecording_125 rfl (ziinc n) (Nat.le_of_ble_eq_true rfl) rfl ?_
                      obtain ⟨G9, hG9⟩ : ∃ G9, G9 = zup (zup G6 a (.inr (1, zTf lv ls lm fo pa su (zrn r6) S))) q (.inl (0, 256, .inl (upd fy n (fy n + (nI (zrn r6 / 65536 % (2 * lvl + 1)) - nI lvl))))) := ⟨_, rfl⟩
                      have K9 : zkee (fun x => x ≠ c + 50 + i ∧ x ≠ 3 ∧ x ≠ c) G6 χ4 G9 χ4 := by
                        rw [hG9]
                        exact (zkee.put l6.2 (fun h => h.2.2 rfl)).trans (zkee.put l3.2 (fun h => h.1 rfl))
                      refine z_goto (tgt := 85) C dX2_makeRecording_128 (by decide) ?_
                      refine z_heap hG9.symm ?_
                      refine z_convG (ih85 (n + 1) G9 _ (zrn r6) (by omega) (l2.trans K9) ⟨by rw [hG9]; exact zup_s, l3.2⟩ ?_ ?_ ⟨by rw [hG9]; exact (zup_n (fun z => nqa z.symm)).trans zup_s, l6.2⟩ (zrn_lt _) (by rw [l7, if_neg hlv1, if_neg hlv1]; rfl) (by omega)) (And.intro rfl (And.intro rfl (And.intro rfl (And.intro rfl trivial)))) (Nat.le_refl _) (Nat.le_refl _)
                      · intro j hj
                        by_cases e9 : j = n
                        · subst e9
                          exact (if_pos rfl).trans (by rw [l5 j (Nat.le_refl _) (by omega)]; unfold zns; rw [if_neg hlv1, l7, if_neg hlv1]; rfl)
                        · exact (if_neg e9).trans (l4 j (by omega))
                      · intro j hj hj2
                        exact (if_neg (by omega)).trans (l5 j (by omega) hj2)
              exact z_convG (lp85 257 0 G5 fx (zqs lvl rq i) (by omega) (k1.mono (fun x hx => ⟨hx.1, hx.2.1⟩)) k2 (fun j hj => absurd hj (Nat.not_lt_zero _)) (fun j _ hj => k3 j hj) (d3.kp (show c ≠ c + 50 + i ∧ c ≠ 3 by omega) k1) (zqs_lt t3 i) (by split <;> rfl) (by omega)) (And.intro (rfl) (And.intro (rfl) (And.intro (rfl) (And.intro (rfl) trivial)))) (by simp only [zrc, zr]; omega) (by simp only [zrc, zr]; omega)
            · have hlts : s < ns := by
                have := zb_ne.mp c_50
                omega
              refine z_aload_n (i := 3) C dX2_makeRecording_53 rfl rfl ?_
              refine z_callFe (x := ⟨"java/util/Iterator", "next", "()Ljava/lang/Object;"⟩) (C0 := "java/util/ArrayList$Itr") (np := 0) C (k4.1) rfl (by decide) (ct_J22_next D B ls ns sa mcs es caps gs it2 s lr2 lsY k4.1 hlts) q636 q639 q641 q115 q643 ⟨by decide +kernel, by decide +kernel, by decide +kernel⟩ (zr_ok rfl rfl) rfl rfl (Nat.le_of_ble_eq_true rfl) (⟨by simp only [zrc, zr]; omega, by simp only [zrc, zr]; omega⟩) dX2_makeRecording_54 ?_
              have K5 : zkee (fun x => x ≠ 3) G5 χ4 (zup G5 it2 (.inr (14, [.int (nI (s + 1)), .int (nI s), .int mcs, .ref ls]))) χ4 := zkee.put k4.2 (fun h => h rfl)
              obtain ⟨G6, hG6⟩ : ∃ G6, G6 = zup G5 it2 (.inr (14, [.int (nI (s + 1)), .int (nI s), .int mcs, .ref ls])) := ⟨_, rfl⟩
              rw [← hG6] at K5
              have f1 : zkee (fun x => x ≠ c + 50 + i ∧ x ≠ 3) G4 χ4 G6 χ4 := k1.trans (K5.mono (fun x hx => hx.2))
              have f2 := k2.kp (show c + 50 + i ≠ 3 by omega) K5
              have f4 : zo G6 χ4 3 it2 (.inr (14, [.int (nI (s + 1)), .int (nI s), .int mcs, .ref ls])) := by rw [hG6]; exact k4.put
              obtain ⟨s1, w, s2, s3⟩ := ts s hlts
              obtain ⟨⟨v9, v91, v92⟩, n4, n41, n42, e4s⟩ := hsn s hlts
              have f5 : zkee (zPr c) G χ G6 χ4 := d2.trans (f1.mono (fun x hx => by have := hx.2.2; omega))
              have y1 := (s1.kp (zPr_of hc (by omega)) f5).1
              have y2 := (s2.kp (zPr_of hc (by omega)) f5).1
              have y3 : ∀ j, j < n4 → w j = S (28 + 21 * s + (5 + j)) := fun j hj => s3 j (by rw [zct_of e4s (by omega)]; exact hj)
              obtain ⟨nv, nv4, ev⟩ := g.nv
              have y4 : G6 (va (zsv S s)) = some (zvE S (zsv S s)) := by
                refine ((t4.2 (zsv S s) ?_).kp (zPr_of hc (by omega)) f5).1
                rw [zct_of ev (by omega)]
                exact zsv_nv g e7 hlts (by omega) ev nv4
              have y5 := (d3.kp (show c ≠ c + 50 + i ∧ c ≠ 3 by omega) f1).1
              have y6 : G6 (ma i) = some (zMo S i q) := by
                have := ((d4 i hlt).kp (show c + 40 + i ≠ c + 50 + i ∧ c + 40 + i ≠ 3 by omega) f1).1
                rw [zmE_o r2i] at this
                exact this
              refine z_heap hG6.symm ?_
              refine z_castS (ci := 5) C (y1) rfl q649 dX2_makeRecording_59 ?_
              refine z_astore C dX2_makeRecording_62 (Nat.le_of_ble_eq_true rfl) rfl ?_
              refine z_aload_n (i := 0) C dX2_makeRecording_64 rfl rfl ?_
              refine z_aload_n (i := 2) C dX2_makeRecording_65 rfl rfl ?_
              refine z_aload C dX2_makeRecording_66 rfl ?_
              refine z_iconst (v := 0) C dX2_makeRecording_68 (by decide) ?_
              refine z_callVn C (y5) rfl (ct_X2_hear D B a lv ls lm fo pa su (zqs lvl rq i) S (ma i) (sa s) i s q n4 va ua w fx 0 y5 y6 y1 y2 y4 f2.1 e4s n41 n42 y3 (by omega) (by omega) h2 g) q650 q652 qs1 q84 q653 np_X2_hear (zr_ok rfl rfl) rfl rfl (Nat.le_of_ble_eq_true rfl) (⟨by simp only [zrc, zr]; omega, by simp only [zrc, zr]; omega⟩) dX2_makeRecording_69 ?_
              intro v9 G9 h9
              obtain ⟨rfl, fy, hfy, rfl⟩ := h9
              have K6 : zkee (fun x => x ≠ c + 50 + i) G6 χ4 (zup G6 q (.inl (0, 256, .inl fy))) χ4 := zkee.put f2.2 (fun h => h rfl)
              obtain ⟨G7, hG7⟩ : ∃ G7, G7 = zup G6 q (.inl (0, 256, .inl fy)) := ⟨_, rfl⟩
              have z2 : zo G7 χ4 (c + 50 + i) q (.inl (0, 256, .inl fy)) := by rw [hG7]; exact f2.put
              rw [← hG7] at K6
              have z1 : zkee (fun x => x ≠ c + 50 + i ∧ x ≠ 3) G4 χ4 G7 χ4 := f1.trans (K6.mono (fun x hx => hx.1))
              have z3 : zkee (zPr c) G χ G7 χ4 := d2.trans (z1.mono (fun x hx => by have := hx.2.2; omega))
              have x1 := (s1.kp (zPr_of hc (by omega)) z3).1
              have x2 := (s2.kp (zPr_of hc (by omega)) z3).1
              have x4 : G7 (va (zsv S s)) = some (zvE S (zsv S s)) := by
                refine ((t4.2 (zsv S s) ?_).kp (zPr_of hc (by omega)) z3).1
                rw [zct_of ev (by omega)]
                exact zsv_nv g e7 hlts (by omega) ev nv4
              have x5 := (d3.kp (show c ≠ c + 50 + i ∧ c ≠ 3 by omega) z1).1
              have x6 : G7 (ma i) = some (zMo S i q) := by
                have := ((d4 i hlt).kp (show c + 40 + i ≠ c + 50 + i ∧ c + 40 + i ≠ 3 by omega) z1).1
                rw [zmE_o r2i] at this
                exact this
              have z7 := f4.kp (show 3 ≠ c + 50 + i by omega) K6
              refine z_heap hG7.symm ?_
              refine z_aload_n (i := 0) C dX2_makeRecording_72 rfl rfl ?_
              refine z_aload_n (i := 2) C dX2_makeRecording_73 rfl rfl ?_
              refine z_aload C dX2_makeRecording_74 rfl ?_
              refine z_iconst (v := 1) C dX2_makeRecording_76 (by decide) ?_
              refine z_callVn C (x5) rfl (ct_X2_hear D B a lv ls lm fo pa su (zqs lvl rq i) S (ma i) (sa s) i s q n4 va ua w fy 1 x5 x6 x1 x2 x4 z2.1 e4s n41 n42 y3 (by omega) (by omega) h2 g) q650 q652 qs1 q84 q653 np_X2_hear (zr_ok rfl rfl) rfl rfl (Nat.le_of_ble_eq_true rfl) (⟨by simp only [zrc, zr]; omega, by simp only [zrc, zr]; omega⟩) dX2_makeRecording_77 ?_
              intro v9 G9 h9
              obtain ⟨rfl, fz, hfz, rfl⟩ := h9
              have K7 : zkee (fun x => x ≠ c + 50 + i) G7 χ4 (zup G7 q (.inl (0, 256, .inl fz))) χ4 := zkee.put z2.2 (fun h => h rfl)
              obtain ⟨G8, hG8⟩ : ∃ G8, G8 = zup G7 q (.inl (0, 256, .inl fz)) := ⟨_, rfl⟩
              have u2 : zo G8 χ4 (c + 50 + i) q (.inl (0, 256, .inl fz)) := by rw [hG8]; exact z2.put
              rw [← hG8] at K7
              refine z_heap hG8.symm ?_
              refine z_goto (tgt := 44) C dX2_makeRecording_80 (by decide) ?_
              exact z_convG (ih44 (s + 1) G8 fz _ (by omega) (z1.trans (K7.mono (fun x hx => hx.1))) u2 (fun n9 h9 => by rw [hfz n9 h9, hfy n9 h9, k3 n9 h9]; rfl) (z7.kp (show 3 ≠ c + 50 + i by omega) K7) (by omega)) (And.intro (rfl) (And.intro (rfl) (And.intro (rfl) (And.intro (rfl) trivial)))) (by simp only [zrc, zr]; omega) (by simp only [zrc, zr]; omega)
        exact z_convG (lp44 7 0 G4 (fun _ => 0) (.int (-1)) (by omega) zkee.refl dq (fun _ _ => rfl) d7 (by omega)) (And.intro (rfl) (And.intro (rfl) (And.intro (rfl) (And.intro (rfl) trivial)))) (by simp only [zrc, zr]; omega) (by simp only [zrc, zr]; omega)
  exact z_convG (lp8 9 0 _ (zcol χ it1 2) ra (.int (-1)) (by omega) (zkee.new hit) (t1.kp trivial (P := fun _ => True) (zkee.new hit)) (fun j hj => (tm j hj).1.kp trivial (P := fun _ => True) (zkee.new hit)) (fun j hj => absurd hj (Nat.not_lt_zero _)) (zo.newc hit) (by omega)) (And.intro (rfl) (And.intro (rfl) trivial)) (by simp only [zrc, zr]; omega) (by simp only [zrc, zr]; omega)
