/-! component: beams and measures asked for -/
theorem zfE_0 (S : Nat → Int32) (va : Nat → Nat) : zfE (upd S 12 (S 12 + 0)) va = zfE S va := zfE_eq (fun j _ _ => by
  unfold upd
  split
  · next h => rw [Int32.add_zero, h]
  · rfl)
theorem zSg.congr {D : zG} {B : Nat} {G : zH} {b N : Nat} {f f' : Nat → Int32} (h : zSg D B G b N f) (hN : N ≤ 256) (hf : ∀ n, n < N → f n = f' n) : zSg D B G b N f' := by
  intro G' hG'
  obtain ⟨i, q, vs, y, bytes, ret', a1, a2, a3, a4, a5, a6, a7, a8⟩ := h G' hG'
  refine ⟨i, q, vs, y, bytes, ret', a1, a2, a3, a4, a5, a6, fun x hx => ?_, a8⟩
  have := a7 x hx
  obtain ⟨n, hn, rfl⟩ := hx
  dsimp only at this ⊢
  rw [nI_clamp (n := n) (by omega)] at this ⊢
  rw [← hf n hn]
  exact this
set_option maxHeartbeats 4000000 in
set_option maxRecDepth 100000 in
theorem ct_X1_beam_ok (D : zG) (B : Nat) {G : zH} (o : Nat) (v1 v2 v3 v4 v5 : Value) (χ : Nat → Nat) (c a lv ls lm fo pa su : Nat) (va sa ua ma ra : Nat → Nat) (rq : Nat) (S : Nat → Int32) (l : Nat) (nm : Nat) (hO : G o = some (.inr (0, [.ref a, v1, v2, v3, v4, v5]))) (hR : zTr G χ c a lv ls lm fo pa su va sa ua ma ra rq S) (g : zGe S) (hc : 100 ≤ c) (h2 : S 2 = 0 ∨ S 2 = 1) (h5 : S 5 = 0 ∨ S 5 = 1) (e8 : S 8 = nI nm) (n8 : nm ≤ 8) (ht : 0 ≤ nI l ∧ nI l ≤ 255) (hl : l < 256) (hZ : ∀ t, t ≤ l → zbL S (fun m j => zpa S m 0 j) nm t = (zbs S nm 0 t).toInt64) : Ct D B yX1_beam (ws_ yX1_beam cX1_beam 2 (some .int)) (zrL 12 33 110) [.ref o, .int (nI l)] G (fun r9 G9 => r9 = some (.int (zbs S nm 0 l)) ∧ ∃ χ9 : Nat → Nat, zkee (zPb c) G χ G9 χ9 ∧ zTr G9 χ9 c a lv ls lm fo pa su va sa ua ma ra rq S) zno := by
  refine ct_intro (by decide +kernel) (Nat.le_of_ble_eq_true rfl) ?_
  intro X C
  have hf0 : zo G χ 1 fo (zfE (upd S 12 (S 12 + 0)) va) := by rw [zfE_0]; exact hR.2.2.2.2.2.1
  refine z_iload_n (i := 1) C dX1_beam_0 rfl rfl ?_
  refine z_callSe C (ct_X1_checkTime_ok D B (nI l) ht) q1395 q1396 q83 q1397 np_X1_checkTime (zr_ok rfl rfl) rfl rfl (Nat.le_of_ble_eq_true rfl) (⟨Nat.le_of_ble_eq_true rfl, Nat.le_of_ble_eq_true rfl⟩) dX1_beam_1 ?_
  refine z_aload_n (i := 0) C dX1_beam_4 rfl rfl ?_
  refine z_getf (ci := 0) (k := 0) C (hO) rfl rfl q570 dX1_beam_5 ?_
  refine z_aload_n (i := 0) C dX1_beam_8 rfl rfl ?_
  refine z_getf (ci := 0) (k := 0) C (hO) rfl rfl q570 dX1_beam_9 ?_
  refine z_getfN (ci := 1) (k := 9) C (hR.1.1) rfl rfl q534 dX1_beam_12 ?_
  refine z_iload_n (i := 1) C dX1_beam_15 rfl rfl ?_
  refine z_callVn C (hR.1.1) rfl (ct_X2_beam D B χ c a lv ls lm fo pa su va sa ua ma ra rq S fo l nm (fun m j => zpa S m 0 j) hR hc e8 n8 hl (zlayF D B hR g hc e8 n8 hl ⟨by decide, by decide⟩ h2 h5 hf0)) q1657 q1658 q1659 q84 q1660 np_X2_beam (zr_ok rfl rfl) rfl rfl (Nat.le_of_ble_eq_true rfl) (⟨Nat.le_of_ble_eq_true rfl, Nat.le_of_ble_eq_true rfl⟩) dX1_beam_16 ?_
  intro v9 G9 h9
  obtain ⟨sg, rfl, χ9, w9, p9, K2, hsg, hs9, hw9, hp9⟩ := h9
  have t9 := hR.kpb g hc K2 hs9 hp9
  have hs := zSg_beam (D := D) (B := B) (N := l + 1) (f := zbs S nm 0) hsg t9.1.1 hs9.1 (by omega) (fun n hn => (hw9 n (by omega)).trans (hZ n (by omega)))
  refine z_iload_n (i := 1) C dX1_beam_19 rfl rfl ?_
  refine z_sig C (hs) ((by omega : l < l + 1)) (by omega) q1540 q1483 q2475 ⟨rfl, rfl⟩ rfl (Nat.le_of_ble_eq_true rfl) (⟨Nat.le_of_ble_eq_true rfl, Nat.le_of_ble_eq_true rfl⟩) dX1_beam_20 ?_
  refine z_l2i C dX1_beam_25 rfl ?_
  refine z_seti (Int32.toInt32_toInt64 _) ?_
  exact z_ireturn C rfl (rfl) dX1_beam_26 (⟨rfl, χ9, K2, t9⟩) (Nat.le_of_ble_eq_true rfl) (Nat.le_of_ble_eq_true rfl)
set_option maxHeartbeats 4000000 in
set_option maxRecDepth 100000 in
theorem ct_X1_beam_x (D : zG) (B : Nat) {G : zH} (o : Nat) (v1 v2 v3 v4 v5 : Value) (χ : Nat → Nat) (c a lv ls lm fo pa su : Nat) (va sa ua ma ra : Nat → Nat) (rq : Nat) (S : Nat → Int32) (x : Int32) (h : ¬ (0 ≤ x ∧ x ≤ 255)) : Ct D B yX1_beam (ws_ yX1_beam cX1_beam 2 (some .int)) (zrc 8 1 6) [.ref o, .int x] G (zpF) (zpxE zIAE G) := by
  refine ct_intro (by decide +kernel) (Nat.le_of_ble_eq_true rfl) ?_
  intro X C
  refine z_iload_n (i := 1) C dX1_beam_0 rfl rfl ?_
  exact z_callS C (ct_X1_checkTime_x D B x h) q1395 q1396 q83 q1397 np_X1_checkTime (zr_ok rfl rfl) rfl rfl (Nat.le_of_ble_eq_true rfl) (⟨Nat.le_of_ble_eq_true rfl, Nat.le_of_ble_eq_true rfl⟩) dX1_beam_1 (fun E9 q9 G9 h9 => z_out C h9 (Nat.le_of_ble_eq_true rfl) (Nat.le_of_ble_eq_true rfl)) (fun v9 G9 h9 => h9.elim)
theorem np_X9_isNumber : znp yX9_isNumber 1 := ⟨by decide +kernel, by decide +kernel, by decide +kernel⟩
theorem np_X1_checkWindow : znp yX1_checkWindow 3 := ⟨by decide +kernel, by decide +kernel, by decide +kernel⟩
theorem np_X9_numbered : znp yX9_numbered 1 := ⟨by decide +kernel, by decide +kernel, by decide +kernel⟩
set_option maxHeartbeats 4000000 in
set_option maxRecDepth 100000 in
theorem ct_X1_measureBeam_0 (D : zG) (B : Nat) {G : zH} (o : Nat) (v1 v2 v3 v4 v5 : Value) (χ : Nat → Nat) (c a lv ls lm fo pa su : Nat) (va sa ua ma ra : Nat → Nat) (rq : Nat) (S : Nat → Int32) (f l : Nat) (nm : Nat) (hO : G o = some (.inr (0, [.ref a, v1, v2, v3, v4, v5]))) (hR : zTr G χ c a lv ls lm fo pa su va sa ua ma ra rq S) (g : zGe S) (hc : 100 ≤ c) (h2 : S 2 = 0 ∨ S 2 = 1) (h5 : S 5 = 0 ∨ S 5 = 1) (e8 : S 8 = nI nm) (n8 : nm ≤ 8) (hw : (0 ≤ nI f ∧ nI f ≤ 255) ∧ nI f ≤ nI l ∧ nI l ≤ 255) (hf : f ≤ l) (hl : l < 256) (hZ : ∀ t, t ≤ l → zbL S (fun m j => zpa S m 0 j) nm t = (zbs S nm 0 t).toInt64)  : Ct D B yX1_measureBeam (ws_ yX1_measureBeam cX1_measureBeam 4 (some .long)) (zrL 12 33 110) [.ref o, .int (nI 0), .int (nI f), .int (nI l)] G (fun r9 G9 => r9 = some (.long (zen (zbs S nm 0) f l)) ∧ ∃ χ9 : Nat → Nat, zkee (zPb c) G χ G9 χ9 ∧ zTr G9 χ9 c a lv ls lm fo pa su va sa ua ma ra rq S) zno := by
  refine ct_intro (by decide +kernel) (Nat.le_of_ble_eq_true rfl) ?_
  intro X C
  have hf0 : zo G χ 1 fo (zfE (upd S 12 (S 12 + 0)) va) := by rw [zfE_0]; exact hR.2.2.2.2.2.1
  refine z_iload_n (i := 1) C dX1_measureBeam_0 rfl rfl ?_
  refine z_callSe C (ct_X9_isNumber D B (nI 0)) q1447 q1448 q117 q1449 np_X9_isNumber (zr_ok rfl rfl) rfl rfl (Nat.le_of_ble_eq_true rfl) (⟨Nat.le_of_ble_eq_true rfl, Nat.le_of_ble_eq_true rfl⟩) dX1_measureBeam_1 ?_
  refine z_iload_n (i := 2) C dX1_measureBeam_4 rfl rfl ?_
  refine z_iload_n (i := 3) C dX1_measureBeam_5 rfl rfl ?_
  refine z_callSe C (ct_X1_checkWindow_ok D B _ (nI f) (nI l) (zb_ne.mpr (by decide)) hw) q1672 q1673 q83 q1674 np_X1_checkWindow (zr_ok rfl rfl) rfl rfl (Nat.le_of_ble_eq_true rfl) (⟨Nat.le_of_ble_eq_true rfl, Nat.le_of_ble_eq_true rfl⟩) dX1_measureBeam_6 ?_
  refine z_iload_n (i := 1) C dX1_measureBeam_9 rfl rfl ?_
  refine z_callSe C (ct_X9_numbered D B 0 (by decide)) q1465 q1466 q117 q1467 np_X9_numbered (zr_ok rfl rfl) rfl rfl (Nat.le_of_ble_eq_true rfl) (⟨Nat.le_of_ble_eq_true rfl, Nat.le_of_ble_eq_true rfl⟩) dX1_measureBeam_10 ?_
  refine z_aload_n (i := 0) C dX1_measureBeam_13 rfl rfl ?_
  refine z_getf (ci := 0) (k := 0) C (hO) rfl rfl q570 dX1_measureBeam_14 ?_
  refine z_aload_n (i := 0) C dX1_measureBeam_17 rfl rfl ?_
  refine z_getf (ci := 0) (k := 0) C (hO) rfl rfl q570 dX1_measureBeam_18 ?_
  refine z_getfN (ci := 1) (k := 9) C (hR.1.1) rfl rfl q534 dX1_measureBeam_21 ?_
  refine z_iload_n (i := 3) C dX1_measureBeam_24 rfl rfl ?_
  refine z_callVn C (hR.1.1) rfl (ct_X2_beam D B χ c a lv ls lm fo pa su va sa ua ma ra rq S fo l nm (fun m j => zpa S m 0 j) hR hc e8 n8 hl (zlayF D B hR g hc e8 n8 hl ⟨by decide, by decide⟩ h2 h5 hf0)) q1657 q1658 q1659 q84 q1660 np_X2_beam (zr_ok rfl rfl) rfl rfl (Nat.le_of_ble_eq_true rfl) (⟨Nat.le_of_ble_eq_true rfl, Nat.le_of_ble_eq_true rfl⟩) dX1_measureBeam_25 ?_
  intro v9 G9 h9
  obtain ⟨sg, rfl, χ9, w9, p9, K2, hsg, hs9, hw9, hp9⟩ := h9
  have t9 := hR.kpb g hc K2 hs9 hp9
  have hs := zSg_beam (D := D) (B := B) (N := l + 1) (f := zbs S nm 0) hsg t9.1.1 hs9.1 (by omega) (fun n hn => (hw9 n (by omega)).trans (hZ n (by omega)))
  refine z_iload_n (i := 2) C dX1_measureBeam_28 rfl rfl ?_
  refine z_iload_n (i := 3) C dX1_measureBeam_29 rfl rfl ?_
  refine z_callOB (x := ⟨"TrackArray$Measure", "of", "(LTrackArray$Signal;II)J"⟩) (owner := "TrackArray$Measure") (np := 3) (i := 0) C (by decide) (cb_X17_of D B (zbs S nm 0) _ sg f l (l + 1) hs (by omega) (by omega) (by omega)) q1474 q1476 q1475 q1477 q1478 q1479 ⟨by decide +kernel, by decide +kernel, by decide +kernel⟩ (Nat.le_of_ble_eq_true rfl) (by decide +kernel) (zr_ok rfl rfl) rfl rfl (Nat.le_of_ble_eq_true rfl) (⟨Nat.le_of_ble_eq_true rfl, Nat.le_of_ble_eq_true rfl⟩) dX1_measureBeam_30 ?_
  intro v9 G9 h9
  obtain ⟨rfl, rfl⟩ := h9
  exact z_lreturn C rfl dX1_measureBeam_33 (⟨rfl, χ9, K2, t9⟩) (Nat.le_of_ble_eq_true rfl) (Nat.le_of_ble_eq_true rfl)
set_option maxHeartbeats 4000000 in
set_option maxRecDepth 100000 in
theorem ct_X1_measureBeam_1 (D : zG) (B : Nat) {G : zH} (o : Nat) (v1 v2 v3 v4 v5 : Value) (χ : Nat → Nat) (c a lv ls lm fo pa su : Nat) (va sa ua ma ra : Nat → Nat) (rq : Nat) (S : Nat → Int32) (f l : Nat) (nm : Nat) (hO : G o = some (.inr (0, [.ref a, v1, v2, v3, v4, v5]))) (hR : zTr G χ c a lv ls lm fo pa su va sa ua ma ra rq S) (g : zGe S) (hc : 100 ≤ c) (h2 : S 2 = 0 ∨ S 2 = 1) (h5 : S 5 = 0 ∨ S 5 = 1) (e8 : S 8 = nI nm) (n8 : nm ≤ 8) (hw : (0 ≤ nI f ∧ nI f ≤ 255) ∧ nI f ≤ nI l ∧ nI l ≤ 255) (hf : f ≤ l) (hl : l < 256) (hZ : ∀ t, t ≤ l → zbL S (fun m j => zpa S m 0 j) nm t = (zbs S nm 0 t).toInt64) (hm : ∀ t, t < l + 1 → ¬ (zbs S nm 0) t = -2147483648) : Ct D B yX1_measureBeam (ws_ yX1_measureBeam cX1_measureBeam 4 (some .long)) (zrL 12 33 110) [.ref o, .int (nI 1), .int (nI f), .int (nI l)] G (fun r9 G9 => r9 = some (.long ((zpk (zbs S nm 0) f (l + 1 - f)).toInt64)) ∧ ∃ χ9 : Nat → Nat, zkee (zPb c) G χ G9 χ9 ∧ zTr G9 χ9 c a lv ls lm fo pa su va sa ua ma ra rq S) zno := by
  refine ct_intro (by decide +kernel) (Nat.le_of_ble_eq_true rfl) ?_
  intro X C
  have hf0 : zo G χ 1 fo (zfE (upd S 12 (S 12 + 0)) va) := by rw [zfE_0]; exact hR.2.2.2.2.2.1
  refine z_iload_n (i := 1) C dX1_measureBeam_0 rfl rfl ?_
  refine z_callSe C (ct_X9_isNumber D B (nI 1)) q1447 q1448 q117 q1449 np_X9_isNumber (zr_ok rfl rfl) rfl rfl (Nat.le_of_ble_eq_true rfl) (⟨Nat.le_of_ble_eq_true rfl, Nat.le_of_ble_eq_true rfl⟩) dX1_measureBeam_1 ?_
  refine z_iload_n (i := 2) C dX1_measureBeam_4 rfl rfl ?_
  refine z_iload_n (i := 3) C dX1_measureBeam_5 rfl rfl ?_
  refine z_callSe C (ct_X1_checkWindow_ok D B _ (nI f) (nI l) (zb_ne.mpr (by decide)) hw) q1672 q1673 q83 q1674 np_X1_checkWindow (zr_ok rfl rfl) rfl rfl (Nat.le_of_ble_eq_true rfl) (⟨Nat.le_of_ble_eq_true rfl, Nat.le_of_ble_eq_true rfl⟩) dX1_measureBeam_6 ?_
  refine z_iload_n (i := 1) C dX1_measureBeam_9 rfl rfl ?_
  refine z_callSe C (ct_X9_numbered D B 1 (by decide)) q1465 q1466 q117 q1467 np_X9_numbered (zr_ok rfl rfl) rfl rfl (Nat.le_of_ble_eq_true rfl) (⟨Nat.le_of_ble_eq_true rfl, Nat.le_of_ble_eq_true rfl⟩) dX1_measureBeam_10 ?_
  refine z_aload_n (i := 0) C dX1_measureBeam_13 rfl rfl ?_
  refine z_getf (ci := 0) (k := 0) C (hO) rfl rfl q570 dX1_measureBeam_14 ?_
  refine z_aload_n (i := 0) C dX1_measureBeam_17 rfl rfl ?_
  refine z_getf (ci := 0) (k := 0) C (hO) rfl rfl q570 dX1_measureBeam_18 ?_
  refine z_getfN (ci := 1) (k := 9) C (hR.1.1) rfl rfl q534 dX1_measureBeam_21 ?_
  refine z_iload_n (i := 3) C dX1_measureBeam_24 rfl rfl ?_
  refine z_callVn C (hR.1.1) rfl (ct_X2_beam D B χ c a lv ls lm fo pa su va sa ua ma ra rq S fo l nm (fun m j => zpa S m 0 j) hR hc e8 n8 hl (zlayF D B hR g hc e8 n8 hl ⟨by decide, by decide⟩ h2 h5 hf0)) q1657 q1658 q1659 q84 q1660 np_X2_beam (zr_ok rfl rfl) rfl rfl (Nat.le_of_ble_eq_true rfl) (⟨Nat.le_of_ble_eq_true rfl, Nat.le_of_ble_eq_true rfl⟩) dX1_measureBeam_25 ?_
  intro v9 G9 h9
  obtain ⟨sg, rfl, χ9, w9, p9, K2, hsg, hs9, hw9, hp9⟩ := h9
  have t9 := hR.kpb g hc K2 hs9 hp9
  have hs := zSg_beam (D := D) (B := B) (N := l + 1) (f := zbs S nm 0) hsg t9.1.1 hs9.1 (by omega) (fun n hn => (hw9 n (by omega)).trans (hZ n (by omega)))
  refine z_iload_n (i := 2) C dX1_measureBeam_28 rfl rfl ?_
  refine z_iload_n (i := 3) C dX1_measureBeam_29 rfl rfl ?_
  refine z_callOB (x := ⟨"TrackArray$Measure", "of", "(LTrackArray$Signal;II)J"⟩) (owner := "TrackArray$Measure") (np := 3) (i := 1) C (by decide) (cb_X18_of D B (zbs S nm 0) _ sg f l (l + 1) hs (by omega) (by omega) (by omega) hm) q1474 q1476 q1475 q1484 q1485 q1486 ⟨by decide +kernel, by decide +kernel, by decide +kernel⟩ (Nat.le_of_ble_eq_true rfl) (by decide +kernel) (zr_ok rfl rfl) rfl rfl (Nat.le_of_ble_eq_true rfl) (⟨Nat.le_of_ble_eq_true rfl, Nat.le_of_ble_eq_true rfl⟩) dX1_measureBeam_30 ?_
  intro v9 G9 h9
  obtain ⟨rfl, rfl⟩ := h9
  exact z_lreturn C rfl dX1_measureBeam_33 (⟨rfl, χ9, K2, t9⟩) (Nat.le_of_ble_eq_true rfl) (Nat.le_of_ble_eq_true rfl)
set_option maxHeartbeats 4000000 in
set_option maxRecDepth 100000 in
theorem ct_X1_measureBeam_2 (D : zG) (B : Nat) {G : zH} (o : Nat) (v1 v2 v3 v4 v5 : Value) (χ : Nat → Nat) (c a lv ls lm fo pa su : Nat) (va sa ua ma ra : Nat → Nat) (rq : Nat) (S : Nat → Int32) (f l : Nat) (nm : Nat) (ne : Nat) (hO : G o = some (.inr (0, [.ref a, v1, v2, v3, v4, v5]))) (hR : zTr G χ c a lv ls lm fo pa su va sa ua ma ra rq S) (g : zGe S) (hc : 100 ≤ c) (h2 : S 2 = 0 ∨ S 2 = 1) (h5 : S 5 = 0 ∨ S 5 = 1) (e8 : S 8 = nI nm) (n8 : nm ≤ 8) (hw : (0 ≤ nI f ∧ nI f ≤ 255) ∧ nI f ≤ nI l ∧ nI l ≤ 255) (hf : f ≤ l) (hl : l < 256) (hZ : ∀ t, t ≤ l → zbL S (fun m j => zpa S m 0 j) nm t = (zbs S nm 0 t).toInt64) (hE : zen (zbs S nm 0) f l = lN ne) (hne : ne < 2 ^ 63) : Ct D B yX1_measureBeam (ws_ yX1_measureBeam cX1_measureBeam 4 (some .long)) (zrL 12 33 110) [.ref o, .int (nI 2), .int (nI f), .int (nI l)] G (fun r9 G9 => r9 = some (.long ((nI (zdg ne)).toInt64)) ∧ ∃ χ9 : Nat → Nat, zkee (zPb c) G χ G9 χ9 ∧ zTr G9 χ9 c a lv ls lm fo pa su va sa ua ma ra rq S) zno := by
  refine ct_intro (by decide +kernel) (Nat.le_of_ble_eq_true rfl) ?_
  intro X C
  have hf0 : zo G χ 1 fo (zfE (upd S 12 (S 12 + 0)) va) := by rw [zfE_0]; exact hR.2.2.2.2.2.1
  refine z_iload_n (i := 1) C dX1_measureBeam_0 rfl rfl ?_
  refine z_callSe C (ct_X9_isNumber D B (nI 2)) q1447 q1448 q117 q1449 np_X9_isNumber (zr_ok rfl rfl) rfl rfl (Nat.le_of_ble_eq_true rfl) (⟨Nat.le_of_ble_eq_true rfl, Nat.le_of_ble_eq_true rfl⟩) dX1_measureBeam_1 ?_
  refine z_iload_n (i := 2) C dX1_measureBeam_4 rfl rfl ?_
  refine z_iload_n (i := 3) C dX1_measureBeam_5 rfl rfl ?_
  refine z_callSe C (ct_X1_checkWindow_ok D B _ (nI f) (nI l) (zb_ne.mpr (by decide)) hw) q1672 q1673 q83 q1674 np_X1_checkWindow (zr_ok rfl rfl) rfl rfl (Nat.le_of_ble_eq_true rfl) (⟨Nat.le_of_ble_eq_true rfl, Nat.le_of_ble_eq_true rfl⟩) dX1_measureBeam_6 ?_
  refine z_iload_n (i := 1) C dX1_measureBeam_9 rfl rfl ?_
  refine z_callSe C (ct_X9_numbered D B 2 (by decide)) q1465 q1466 q117 q1467 np_X9_numbered (zr_ok rfl rfl) rfl rfl (Nat.le_of_ble_eq_true rfl) (⟨Nat.le_of_ble_eq_true rfl, Nat.le_of_ble_eq_true rfl⟩) dX1_measureBeam_10 ?_
  refine z_aload_n (i := 0) C dX1_measureBeam_13 rfl rfl ?_
  refine z_getf (ci := 0) (k := 0) C (hO) rfl rfl q570 dX1_measureBeam_14 ?_
  refine z_aload_n (i := 0) C dX1_measureBeam_17 rfl rfl ?_
  refine z_getf (ci := 0) (k := 0) C (hO) rfl rfl q570 dX1_measureBeam_18 ?_
  refine z_getfN (ci := 1) (k := 9) C (hR.1.1) rfl rfl q534 dX1_measureBeam_21 ?_
  refine z_iload_n (i := 3) C dX1_measureBeam_24 rfl rfl ?_
  refine z_callVn C (hR.1.1) rfl (ct_X2_beam D B χ c a lv ls lm fo pa su va sa ua ma ra rq S fo l nm (fun m j => zpa S m 0 j) hR hc e8 n8 hl (zlayF D B hR g hc e8 n8 hl ⟨by decide, by decide⟩ h2 h5 hf0)) q1657 q1658 q1659 q84 q1660 np_X2_beam (zr_ok rfl rfl) rfl rfl (Nat.le_of_ble_eq_true rfl) (⟨Nat.le_of_ble_eq_true rfl, Nat.le_of_ble_eq_true rfl⟩) dX1_measureBeam_25 ?_
  intro v9 G9 h9
  obtain ⟨sg, rfl, χ9, w9, p9, K2, hsg, hs9, hw9, hp9⟩ := h9
  have t9 := hR.kpb g hc K2 hs9 hp9
  have hs := zSg_beam (D := D) (B := B) (N := l + 1) (f := zbs S nm 0) hsg t9.1.1 hs9.1 (by omega) (fun n hn => (hw9 n (by omega)).trans (hZ n (by omega)))
  refine z_iload_n (i := 2) C dX1_measureBeam_28 rfl rfl ?_
  refine z_iload_n (i := 3) C dX1_measureBeam_29 rfl rfl ?_
  refine z_callOB (x := ⟨"TrackArray$Measure", "of", "(LTrackArray$Signal;II)J"⟩) (owner := "TrackArray$Measure") (np := 3) (i := 2) C (by decide) (cb_X10_of D B (zbs S nm 0) _ sg f l (l + 1) ne hs (by omega) (by omega) (by omega) hE hne) q1474 q1476 q1475 q1495 q1496 q1497 ⟨by decide +kernel, by decide +kernel, by decide +kernel⟩ (Nat.le_of_ble_eq_true rfl) (by decide +kernel) (zr_ok rfl rfl) rfl rfl (Nat.le_of_ble_eq_true rfl) (⟨Nat.le_of_ble_eq_true rfl, Nat.le_of_ble_eq_true rfl⟩) dX1_measureBeam_30 ?_
  intro v9 G9 h9
  obtain ⟨rfl, rfl⟩ := h9
  exact z_lreturn C rfl dX1_measureBeam_33 (⟨rfl, χ9, K2, t9⟩) (Nat.le_of_ble_eq_true rfl) (Nat.le_of_ble_eq_true rfl)
set_option maxHeartbeats 4000000 in
set_option maxRecDepth 100000 in
theorem ct_X1_measureBeam_3 (D : zG) (B : Nat) {G : zH} (o : Nat) (v1 v2 v3 v4 v5 : Value) (χ : Nat → Nat) (c a lv ls lm fo pa su : Nat) (va sa ua ma ra : Nat → Nat) (rq : Nat) (S : Nat → Int32) (f l : Nat) (nm : Nat) (hO : G o = some (.inr (0, [.ref a, v1, v2, v3, v4, v5]))) (hR : zTr G χ c a lv ls lm fo pa su va sa ua ma ra rq S) (g : zGe S) (hc : 100 ≤ c) (h2 : S 2 = 0 ∨ S 2 = 1) (h5 : S 5 = 0 ∨ S 5 = 1) (e8 : S 8 = nI nm) (n8 : nm ≤ 8) (hw : (0 ≤ nI f ∧ nI f ≤ 255) ∧ nI f ≤ nI l ∧ nI l ≤ 255) (hf : f ≤ l) (hl : l < 256) (hZ : ∀ t, t ≤ l → zbL S (fun m j => zpa S m 0 j) nm t = (zbs S nm 0 t).toInt64)  : Ct D B yX1_measureBeam (ws_ yX1_measureBeam cX1_measureBeam 4 (some .long)) (zrL 12 33 110) [.ref o, .int (nI 3), .int (nI f), .int (nI l)] G (fun r9 G9 => r9 = some (.long (zsm (zbs S nm 0) f l)) ∧ ∃ χ9 : Nat → Nat, zkee (zPb c) G χ G9 χ9 ∧ zTr G9 χ9 c a lv ls lm fo pa su va sa ua ma ra rq S) zno := by
  refine ct_intro (by decide +kernel) (Nat.le_of_ble_eq_true rfl) ?_
  intro X C
  have hf0 : zo G χ 1 fo (zfE (upd S 12 (S 12 + 0)) va) := by rw [zfE_0]; exact hR.2.2.2.2.2.1
  refine z_iload_n (i := 1) C dX1_measureBeam_0 rfl rfl ?_
  refine z_callSe C (ct_X9_isNumber D B (nI 3)) q1447 q1448 q117 q1449 np_X9_isNumber (zr_ok rfl rfl) rfl rfl (Nat.le_of_ble_eq_true rfl) (⟨Nat.le_of_ble_eq_true rfl, Nat.le_of_ble_eq_true rfl⟩) dX1_measureBeam_1 ?_
  refine z_iload_n (i := 2) C dX1_measureBeam_4 rfl rfl ?_
  refine z_iload_n (i := 3) C dX1_measureBeam_5 rfl rfl ?_
  refine z_callSe C (ct_X1_checkWindow_ok D B _ (nI f) (nI l) (zb_ne.mpr (by decide)) hw) q1672 q1673 q83 q1674 np_X1_checkWindow (zr_ok rfl rfl) rfl rfl (Nat.le_of_ble_eq_true rfl) (⟨Nat.le_of_ble_eq_true rfl, Nat.le_of_ble_eq_true rfl⟩) dX1_measureBeam_6 ?_
  refine z_iload_n (i := 1) C dX1_measureBeam_9 rfl rfl ?_
  refine z_callSe C (ct_X9_numbered D B 3 (by decide)) q1465 q1466 q117 q1467 np_X9_numbered (zr_ok rfl rfl) rfl rfl (Nat.le_of_ble_eq_true rfl) (⟨Nat.le_of_ble_eq_true rfl, Nat.le_of_ble_eq_true rfl⟩) dX1_measureBeam_10 ?_
  refine z_aload_n (i := 0) C dX1_measureBeam_13 rfl rfl ?_
  refine z_getf (ci := 0) (k := 0) C (hO) rfl rfl q570 dX1_measureBeam_14 ?_
  refine z_aload_n (i := 0) C dX1_measureBeam_17 rfl rfl ?_
  refine z_getf (ci := 0) (k := 0) C (hO) rfl rfl q570 dX1_measureBeam_18 ?_
  refine z_getfN (ci := 1) (k := 9) C (hR.1.1) rfl rfl q534 dX1_measureBeam_21 ?_
  refine z_iload_n (i := 3) C dX1_measureBeam_24 rfl rfl ?_
  refine z_callVn C (hR.1.1) rfl (ct_X2_beam D B χ c a lv ls lm fo pa su va sa ua ma ra rq S fo l nm (fun m j => zpa S m 0 j) hR hc e8 n8 hl (zlayF D B hR g hc e8 n8 hl ⟨by decide, by decide⟩ h2 h5 hf0)) q1657 q1658 q1659 q84 q1660 np_X2_beam (zr_ok rfl rfl) rfl rfl (Nat.le_of_ble_eq_true rfl) (⟨Nat.le_of_ble_eq_true rfl, Nat.le_of_ble_eq_true rfl⟩) dX1_measureBeam_25 ?_
  intro v9 G9 h9
  obtain ⟨sg, rfl, χ9, w9, p9, K2, hsg, hs9, hw9, hp9⟩ := h9
  have t9 := hR.kpb g hc K2 hs9 hp9
  have hs := zSg_beam (D := D) (B := B) (N := l + 1) (f := zbs S nm 0) hsg t9.1.1 hs9.1 (by omega) (fun n hn => (hw9 n (by omega)).trans (hZ n (by omega)))
  refine z_iload_n (i := 2) C dX1_measureBeam_28 rfl rfl ?_
  refine z_iload_n (i := 3) C dX1_measureBeam_29 rfl rfl ?_
  refine z_callOB (x := ⟨"TrackArray$Measure", "of", "(LTrackArray$Signal;II)J"⟩) (owner := "TrackArray$Measure") (np := 3) (i := 3) C (by decide) (cb_X19_of D B (zbs S nm 0) _ sg f l (l + 1) hs (by omega) (by omega) (by omega)) q1474 q1476 q1475 q1520 q1502 q1503 ⟨by decide +kernel, by decide +kernel, by decide +kernel⟩ (Nat.le_of_ble_eq_true rfl) (by decide +kernel) (zr_ok rfl rfl) rfl rfl (Nat.le_of_ble_eq_true rfl) (⟨Nat.le_of_ble_eq_true rfl, Nat.le_of_ble_eq_true rfl⟩) dX1_measureBeam_30 ?_
  intro v9 G9 h9
  obtain ⟨rfl, rfl⟩ := h9
  exact z_lreturn C rfl dX1_measureBeam_33 (⟨rfl, χ9, K2, t9⟩) (Nat.le_of_ble_eq_true rfl) (Nat.le_of_ble_eq_true rfl)
set_option maxHeartbeats 4000000 in
set_option maxRecDepth 100000 in
theorem ct_X1_measureBeam_4 (D : zG) (B : Nat) {G : zH} (o : Nat) (v1 v2 v3 v4 v5 : Value) (χ : Nat → Nat) (c a lv ls lm fo pa su : Nat) (va sa ua ma ra : Nat → Nat) (rq : Nat) (S : Nat → Int32) (f l : Nat) (nm : Nat) (hO : G o = some (.inr (0, [.ref a, v1, v2, v3, v4, v5]))) (hR : zTr G χ c a lv ls lm fo pa su va sa ua ma ra rq S) (g : zGe S) (hc : 100 ≤ c) (h2 : S 2 = 0 ∨ S 2 = 1) (h5 : S 5 = 0 ∨ S 5 = 1) (e8 : S 8 = nI nm) (n8 : nm ≤ 8) (hw : (0 ≤ nI f ∧ nI f ≤ 255) ∧ nI f ≤ nI l ∧ nI l ≤ 255) (hf : f ≤ l) (hl : l < 256) (hZ : ∀ t, t ≤ l → zbL S (fun m j => zpa S m 0 j) nm t = (zbs S nm 0 t).toInt64)  : Ct D B yX1_measureBeam (ws_ yX1_measureBeam cX1_measureBeam 4 (some .long)) (zrL 12 33 110) [.ref o, .int (nI 4), .int (nI f), .int (nI l)] G (fun r9 G9 => r9 = some (.long ((zcr (zbs S nm 0) f (l - f)).toInt64)) ∧ ∃ χ9 : Nat → Nat, zkee (zPb c) G χ G9 χ9 ∧ zTr G9 χ9 c a lv ls lm fo pa su va sa ua ma ra rq S) zno := by
  refine ct_intro (by decide +kernel) (Nat.le_of_ble_eq_true rfl) ?_
  intro X C
  have hf0 : zo G χ 1 fo (zfE (upd S 12 (S 12 + 0)) va) := by rw [zfE_0]; exact hR.2.2.2.2.2.1
  refine z_iload_n (i := 1) C dX1_measureBeam_0 rfl rfl ?_
  refine z_callSe C (ct_X9_isNumber D B (nI 4)) q1447 q1448 q117 q1449 np_X9_isNumber (zr_ok rfl rfl) rfl rfl (Nat.le_of_ble_eq_true rfl) (⟨Nat.le_of_ble_eq_true rfl, Nat.le_of_ble_eq_true rfl⟩) dX1_measureBeam_1 ?_
  refine z_iload_n (i := 2) C dX1_measureBeam_4 rfl rfl ?_
  refine z_iload_n (i := 3) C dX1_measureBeam_5 rfl rfl ?_
  refine z_callSe C (ct_X1_checkWindow_ok D B _ (nI f) (nI l) (zb_ne.mpr (by decide)) hw) q1672 q1673 q83 q1674 np_X1_checkWindow (zr_ok rfl rfl) rfl rfl (Nat.le_of_ble_eq_true rfl) (⟨Nat.le_of_ble_eq_true rfl, Nat.le_of_ble_eq_true rfl⟩) dX1_measureBeam_6 ?_
  refine z_iload_n (i := 1) C dX1_measureBeam_9 rfl rfl ?_
  refine z_callSe C (ct_X9_numbered D B 4 (by decide)) q1465 q1466 q117 q1467 np_X9_numbered (zr_ok rfl rfl) rfl rfl (Nat.le_of_ble_eq_true rfl) (⟨Nat.le_of_ble_eq_true rfl, Nat.le_of_ble_eq_true rfl⟩) dX1_measureBeam_10 ?_
  refine z_aload_n (i := 0) C dX1_measureBeam_13 rfl rfl ?_
  refine z_getf (ci := 0) (k := 0) C (hO) rfl rfl q570 dX1_measureBeam_14 ?_
  refine z_aload_n (i := 0) C dX1_measureBeam_17 rfl rfl ?_
  refine z_getf (ci := 0) (k := 0) C (hO) rfl rfl q570 dX1_measureBeam_18 ?_
  refine z_getfN (ci := 1) (k := 9) C (hR.1.1) rfl rfl q534 dX1_measureBeam_21 ?_
  refine z_iload_n (i := 3) C dX1_measureBeam_24 rfl rfl ?_
  refine z_callVn C (hR.1.1) rfl (ct_X2_beam D B χ c a lv ls lm fo pa su va sa ua ma ra rq S fo l nm (fun m j => zpa S m 0 j) hR hc e8 n8 hl (zlayF D B hR g hc e8 n8 hl ⟨by decide, by decide⟩ h2 h5 hf0)) q1657 q1658 q1659 q84 q1660 np_X2_beam (zr_ok rfl rfl) rfl rfl (Nat.le_of_ble_eq_true rfl) (⟨Nat.le_of_ble_eq_true rfl, Nat.le_of_ble_eq_true rfl⟩) dX1_measureBeam_25 ?_
  intro v9 G9 h9
  obtain ⟨sg, rfl, χ9, w9, p9, K2, hsg, hs9, hw9, hp9⟩ := h9
  have t9 := hR.kpb g hc K2 hs9 hp9
  have hs := zSg_beam (D := D) (B := B) (N := l + 1) (f := zbs S nm 0) hsg t9.1.1 hs9.1 (by omega) (fun n hn => (hw9 n (by omega)).trans (hZ n (by omega)))
  refine z_iload_n (i := 2) C dX1_measureBeam_28 rfl rfl ?_
  refine z_iload_n (i := 3) C dX1_measureBeam_29 rfl rfl ?_
  refine z_callOB (x := ⟨"TrackArray$Measure", "of", "(LTrackArray$Signal;II)J"⟩) (owner := "TrackArray$Measure") (np := 3) (i := 4) C (by decide) (cb_X20_of D B (zbs S nm 0) _ sg f l (l + 1) hs (by omega) (by omega) (by omega)) q1474 q1476 q1475 q1521 q1506 q1507 ⟨by decide +kernel, by decide +kernel, by decide +kernel⟩ (Nat.le_of_ble_eq_true rfl) (by decide +kernel) (zr_ok rfl rfl) rfl rfl (Nat.le_of_ble_eq_true rfl) (⟨Nat.le_of_ble_eq_true rfl, Nat.le_of_ble_eq_true rfl⟩) dX1_measureBeam_30 ?_
  intro v9 G9 h9
  obtain ⟨rfl, rfl⟩ := h9
  exact z_lreturn C rfl dX1_measureBeam_33 (⟨rfl, χ9, K2, t9⟩) (Nat.le_of_ble_eq_true rfl) (Nat.le_of_ble_eq_true rfl)
set_option maxHeartbeats 4000000 in
set_option maxRecDepth 100000 in
theorem ct_X1_measureBeam_x (D : zG) (B : Nat) {G : zH} (o : Nat) (v1 v2 v3 v4 v5 : Value) (χ : Nat → Nat) (c a lv ls lm fo pa su : Nat) (va sa ua ma ra : Nat → Nat) (rq : Nat) (S : Nat → Int32) (x f l : Int32) (h : ¬ (0 ≤ x ∧ x ≤ 4) ∨ ¬ ((0 ≤ f ∧ f ≤ 255) ∧ f ≤ l ∧ l ≤ 255)) : Ct D B yX1_measureBeam (ws_ yX1_measureBeam cX1_measureBeam 4 (some .long)) (zrc 8 3 16) [.ref o, .int x, .int f, .int l] G (zpF) (zpxE zIAE G) := by
  refine ct_intro (by decide +kernel) (Nat.le_of_ble_eq_true rfl) ?_
  intro X C
  refine z_iload_n (i := 1) C dX1_measureBeam_0 rfl rfl ?_
  refine z_callSe C (ct_X9_isNumber D B x) q1447 q1448 q117 q1449 np_X9_isNumber (zr_ok rfl rfl) rfl rfl (Nat.le_of_ble_eq_true rfl) (⟨Nat.le_of_ble_eq_true rfl, Nat.le_of_ble_eq_true rfl⟩) dX1_measureBeam_1 ?_
  refine z_iload_n (i := 2) C dX1_measureBeam_4 rfl rfl ?_
  refine z_iload_n (i := 3) C dX1_measureBeam_5 rfl rfl ?_
  exact z_callS C (ct_X1_checkWindow_x D B _ f l (h.imp zb_eq.mpr id)) q1672 q1673 q83 q1674 np_X1_checkWindow (zr_ok rfl rfl) rfl rfl (Nat.le_of_ble_eq_true rfl) (⟨Nat.le_of_ble_eq_true rfl, Nat.le_of_ble_eq_true rfl⟩) dX1_measureBeam_6 (fun E9 q9 G9 h9 => z_out C h9 (Nat.le_of_ble_eq_true rfl) (Nat.le_of_ble_eq_true rfl)) (fun v9 G9 h9 => h9.elim)
theorem np_X2_record : znp yX2_record 1 := ⟨by decide +kernel, by decide +kernel, by decide +kernel⟩
set_option maxHeartbeats 4000000 in
set_option maxRecDepth 100000 in
theorem ct_X1_measureRecord_0 (D : zG) (B : Nat) {G : zH} (o : Nat) (v1 v2 v3 v4 v5 : Value) (χ : Nat → Nat) (c a lv ls lm fo pa su : Nat) (va sa ua ma ra : Nat → Nat) (rq : Nat) (S : Nat → Int32) (k n f l : Nat) (hO : G o = some (.inr (0, [.ref a, v1, v2, v3, v4, v5]))) (hR : zTr G χ c a lv ls lm fo pa su va sa ua ma ra rq S) (g : zGe S) (hc : 100 ≤ c) (e9 : S 8 = nI n) (n9 : n ≤ 8) (hk : k < 100) (h1 : 0 ≤ nI k ∧ nI k ≤ S 8 - 1) (hw : (0 ≤ nI f ∧ nI f ≤ 255) ∧ nI f ≤ nI l ∧ nI l ≤ 255) (hf : f ≤ l) (hl : l < 256)  : Ct D B yX1_measureRecord (ws_ yX1_measureRecord cX1_measureRecord 5 (some .long)) (zrL 9 3 16) [.ref o, .int (nI k), .int (nI 0), .int (nI f), .int (nI l)] G (zpe (some (.long (zen (fun j => S (186 + 256 * k + j)) f l))) G) zno := by
  refine ct_intro (by decide +kernel) (Nat.le_of_ble_eq_true rfl) ?_
  intro X C
  have hk9 : k < n := zkn h1 e9 (by omega) (by omega)
  have hX := hR.2.2.2.2.1
  rw [zct_of e9 (by omega)] at hX
  obtain ⟨m1, wm, m2, m3⟩ := hX.2 k hk9
  obtain ⟨⟨mc, e, cap, gg, l1, lc, ld⟩, -⟩ := id hX
  refine z_iload_n (i := 1) C dX1_measureRecord_0 rfl rfl ?_
  refine z_i2l C dX1_measureRecord_1 rfl ?_
  refine z_lconst (v := 0) C dX1_measureRecord_2 (by decide) ?_
  refine z_aload_n (i := 0) C dX1_measureRecord_3 rfl rfl ?_
  refine z_getf (ci := 0) (k := 0) C (hO) rfl rfl q570 dX1_measureRecord_4 ?_
  refine z_getfN (ci := 1) (k := 2) C (hR.1.1) rfl rfl q516 dX1_measureRecord_7 ?_
  refine z_callVe C (l1.1) rfl (ct_J2_size D B lm n _ _ l1.1) q1265 q931 q932 q87 q933 np_J2_size (zr_ok rfl rfl) rfl rfl (Nat.le_of_ble_eq_true rfl) (⟨Nat.le_of_ble_eq_true rfl, Nat.le_of_ble_eq_true rfl⟩) dX1_measureRecord_10 ?_
  refine z_seti e9.symm ?_
  refine z_iconst (v := 1) C dX1_measureRecord_13 (by decide) ?_
  refine z_isub C dX1_measureRecord_14 ?_
  refine z_i2l C dX1_measureRecord_15 rfl ?_
  refine z_callSe C (ct_X1_isBetween D B (nI k) 0 (S 8 - 1) 0 _ (by decide) rfl) q1220 q789 q83 q790 np_X1_isBetween (zr_ok rfl rfl) rfl rfl (Nat.le_of_ble_eq_true rfl) (⟨Nat.le_of_ble_eq_true rfl, Nat.le_of_ble_eq_true rfl⟩) dX1_measureRecord_16 ?_
  refine z_callSe C (ct_X1_checkIndex_ok D B _ (zb_ne.mpr h1)) q1311 q1312 q83 q1313 np_X1_checkIndex (zr_ok rfl rfl) rfl rfl (Nat.le_of_ble_eq_true rfl) (⟨Nat.le_of_ble_eq_true rfl, Nat.le_of_ble_eq_true rfl⟩) dX1_measureRecord_19 ?_
  refine z_iload_n (i := 2) C dX1_measureRecord_22 rfl rfl ?_
  refine z_callSe C (ct_X9_isNumber D B (nI 0)) q1447 q1448 q117 q1449 np_X9_isNumber (zr_ok rfl rfl) rfl rfl (Nat.le_of_ble_eq_true rfl) (⟨Nat.le_of_ble_eq_true rfl, Nat.le_of_ble_eq_true rfl⟩) dX1_measureRecord_23 ?_
  refine z_if_eq (tgt := 42) C dX1_measureRecord_26 (by decide) (fun c_26 => ?_) (fun c_26 => ?_)
  · exact absurd (zb_eq.mp c_26) (by decide)
  · refine z_iload_n (i := 3) C dX1_measureRecord_29 rfl rfl ?_
    refine z_iload C dX1_measureRecord_30 rfl ?_
    refine z_callSe C (ct_X1_isWindow D B (nI f) (nI l)) q1462 q1463 q83 q1464 np_X1_isWindow (zr_ok rfl rfl) rfl rfl (Nat.le_of_ble_eq_true rfl) (⟨Nat.le_of_ble_eq_true rfl, Nat.le_of_ble_eq_true rfl⟩) dX1_measureRecord_32 ?_
    refine z_if_eq (tgt := 42) C dX1_measureRecord_35 (by decide) (fun c_35 => ?_) (fun c_35 => ?_)
    · exact absurd hw (zb_eq.mp c_35)
    · refine z_iconst (v := 1) C dX1_measureRecord_38 (by decide) ?_
      refine z_goto (tgt := 43) C dX1_measureRecord_39 (by decide) ?_
      refine z_callSe C (ct_X1_checkArgument_ok D B _ (by decide)) q1221 q1222 q83 q1223 np_X1_checkArgument (zr_ok rfl rfl) rfl rfl (Nat.le_of_ble_eq_true rfl) (⟨Nat.le_of_ble_eq_true rfl, Nat.le_of_ble_eq_true rfl⟩) dX1_measureRecord_43 ?_
      refine z_iload_n (i := 2) C dX1_measureRecord_46 rfl rfl ?_
      refine z_callSe C (ct_X9_numbered D B 0 (by decide)) q1465 q1466 q117 q1467 np_X9_numbered (zr_ok rfl rfl) rfl rfl (Nat.le_of_ble_eq_true rfl) (⟨Nat.le_of_ble_eq_true rfl, Nat.le_of_ble_eq_true rfl⟩) dX1_measureRecord_47 ?_
      refine z_aload_n (i := 0) C dX1_measureRecord_50 rfl rfl ?_
      refine z_getf (ci := 0) (k := 0) C (hO) rfl rfl q570 dX1_measureRecord_51 ?_
      refine z_iload_n (i := 1) C dX1_measureRecord_54 rfl rfl ?_
      refine z_callVn C (hR.1.1) rfl (ct_X2_record D B a lm k ma n _ _ _ _ _ _ _ _ _ _ _ _ mc e cap gg _ hR.1.1 l1 hk9 m1.1) q1468 q1469 q1470 q84 q1471 np_X2_record (zr_ok rfl rfl) rfl rfl (Nat.le_of_ble_eq_true rfl) (⟨Nat.le_of_ble_eq_true rfl, Nat.le_of_ble_eq_true rfl⟩) dX1_measureRecord_55 ?_
      intro v9 G9 h9
      obtain ⟨sg, rfl, hsg, rfl⟩ := h9
      have hs : zSg D B (zup G sg (.inr (101, [.ref (ma k)]))) sg 256 (fun j => S (186 + 256 * k + j)) := (zSg_rec zup_s ((zup_n (zne_of hsg m1.1)).trans m1.1) ((zup_n (zne_of hsg m2.1)).trans m2.1)).congr (Nat.le_refl _) m3
      refine z_iload_n (i := 3) C dX1_measureRecord_58 rfl rfl ?_
      refine z_iload C dX1_measureRecord_59 rfl ?_
      refine z_callOB (x := ⟨"TrackArray$Measure", "of", "(LTrackArray$Signal;II)J"⟩) (owner := "TrackArray$Measure") (np := 3) (i := 0) C (by decide) (cb_X17_of D B (fun j => S (186 + 256 * k + j)) _ sg f l 256 hs (by omega) hl (by omega)) q1474 q1476 q1475 q1477 q1478 q1479 ⟨by decide +kernel, by decide +kernel, by decide +kernel⟩ (Nat.le_of_ble_eq_true rfl) (by decide +kernel) (zr_ok rfl rfl) rfl rfl (Nat.le_of_ble_eq_true rfl) (⟨Nat.le_of_ble_eq_true rfl, Nat.le_of_ble_eq_true rfl⟩) dX1_measureRecord_61 ?_
      intro v9 G9 h9
      obtain ⟨rfl, rfl⟩ := h9
      refine z_sub1 hsg ?_
      exact z_lreturn C rfl dX1_measureRecord_64 (⟨rfl, rfl⟩) (Nat.le_of_ble_eq_true rfl) (Nat.le_of_ble_eq_true rfl)
set_option maxHeartbeats 4000000 in
set_option maxRecDepth 100000 in
theorem ct_X1_measureRecord_1 (D : zG) (B : Nat) {G : zH} (o : Nat) (v1 v2 v3 v4 v5 : Value) (χ : Nat → Nat) (c a lv ls lm fo pa su : Nat) (va sa ua ma ra : Nat → Nat) (rq : Nat) (S : Nat → Int32) (k n f l : Nat) (hO : G o = some (.inr (0, [.ref a, v1, v2, v3, v4, v5]))) (hR : zTr G χ c a lv ls lm fo pa su va sa ua ma ra rq S) (g : zGe S) (hc : 100 ≤ c) (e9 : S 8 = nI n) (n9 : n ≤ 8) (hk : k < 100) (h1 : 0 ≤ nI k ∧ nI k ≤ S 8 - 1) (hw : (0 ≤ nI f ∧ nI f ≤ 255) ∧ nI f ≤ nI l ∧ nI l ≤ 255) (hf : f ≤ l) (hl : l < 256) (hm : ∀ t, t < 256 → ¬ (fun j => S (186 + 256 * k + j)) t = -2147483648) : Ct D B yX1_measureRecord (ws_ yX1_measureRecord cX1_measureRecord 5 (some .long)) (zrL 9 3 16) [.ref o, .int (nI k), .int (nI 1), .int (nI f), .int (nI l)] G (zpe (some (.long ((zpk (fun j => S (186 + 256 * k + j)) f (l + 1 - f)).toInt64))) G) zno := by
  refine ct_intro (by decide +kernel) (Nat.le_of_ble_eq_true rfl) ?_
  intro X C
  have hk9 : k < n := zkn h1 e9 (by omega) (by omega)
  have hX := hR.2.2.2.2.1
  rw [zct_of e9 (by omega)] at hX
  obtain ⟨m1, wm, m2, m3⟩ := hX.2 k hk9
  obtain ⟨⟨mc, e, cap, gg, l1, lc, ld⟩, -⟩ := id hX
  refine z_iload_n (i := 1) C dX1_measureRecord_0 rfl rfl ?_
  refine z_i2l C dX1_measureRecord_1 rfl ?_
  refine z_lconst (v := 0) C dX1_measureRecord_2 (by decide) ?_
  refine z_aload_n (i := 0) C dX1_measureRecord_3 rfl rfl ?_
  refine z_getf (ci := 0) (k := 0) C (hO) rfl rfl q570 dX1_measureRecord_4 ?_
  refine z_getfN (ci := 1) (k := 2) C (hR.1.1) rfl rfl q516 dX1_measureRecord_7 ?_
  refine z_callVe C (l1.1) rfl (ct_J2_size D B lm n _ _ l1.1) q1265 q931 q932 q87 q933 np_J2_size (zr_ok rfl rfl) rfl rfl (Nat.le_of_ble_eq_true rfl) (⟨Nat.le_of_ble_eq_true rfl, Nat.le_of_ble_eq_true rfl⟩) dX1_measureRecord_10 ?_
  refine z_seti e9.symm ?_
  refine z_iconst (v := 1) C dX1_measureRecord_13 (by decide) ?_
  refine z_isub C dX1_measureRecord_14 ?_
  refine z_i2l C dX1_measureRecord_15 rfl ?_
  refine z_callSe C (ct_X1_isBetween D B (nI k) 0 (S 8 - 1) 0 _ (by decide) rfl) q1220 q789 q83 q790 np_X1_isBetween (zr_ok rfl rfl) rfl rfl (Nat.le_of_ble_eq_true rfl) (⟨Nat.le_of_ble_eq_true rfl, Nat.le_of_ble_eq_true rfl⟩) dX1_measureRecord_16 ?_
  refine z_callSe C (ct_X1_checkIndex_ok D B _ (zb_ne.mpr h1)) q1311 q1312 q83 q1313 np_X1_checkIndex (zr_ok rfl rfl) rfl rfl (Nat.le_of_ble_eq_true rfl) (⟨Nat.le_of_ble_eq_true rfl, Nat.le_of_ble_eq_true rfl⟩) dX1_measureRecord_19 ?_
  refine z_iload_n (i := 2) C dX1_measureRecord_22 rfl rfl ?_
  refine z_callSe C (ct_X9_isNumber D B (nI 1)) q1447 q1448 q117 q1449 np_X9_isNumber (zr_ok rfl rfl) rfl rfl (Nat.le_of_ble_eq_true rfl) (⟨Nat.le_of_ble_eq_true rfl, Nat.le_of_ble_eq_true rfl⟩) dX1_measureRecord_23 ?_
  refine z_if_eq (tgt := 42) C dX1_measureRecord_26 (by decide) (fun c_26 => ?_) (fun c_26 => ?_)
  · exact absurd (zb_eq.mp c_26) (by decide)
  · refine z_iload_n (i := 3) C dX1_measureRecord_29 rfl rfl ?_
    refine z_iload C dX1_measureRecord_30 rfl ?_
    refine z_callSe C (ct_X1_isWindow D B (nI f) (nI l)) q1462 q1463 q83 q1464 np_X1_isWindow (zr_ok rfl rfl) rfl rfl (Nat.le_of_ble_eq_true rfl) (⟨Nat.le_of_ble_eq_true rfl, Nat.le_of_ble_eq_true rfl⟩) dX1_measureRecord_32 ?_
    refine z_if_eq (tgt := 42) C dX1_measureRecord_35 (by decide) (fun c_35 => ?_) (fun c_35 => ?_)
    · exact absurd hw (zb_eq.mp c_35)
    · refine z_iconst (v := 1) C dX1_measureRecord_38 (by decide) ?_
      refine z_goto (tgt := 43) C dX1_measureRecord_39 (by decide) ?_
      refine z_callSe C (ct_X1_checkArgument_ok D B _ (by decide)) q1221 q1222 q83 q1223 np_X1_checkArgument (zr_ok rfl rfl) rfl rfl (Nat.le_of_ble_eq_true rfl) (⟨Nat.le_of_ble_eq_true rfl, Nat.le_of_ble_eq_true rfl⟩) dX1_measureRecord_43 ?_
      refine z_iload_n (i := 2) C dX1_measureRecord_46 rfl rfl ?_
      refine z_callSe C (ct_X9_numbered D B 1 (by decide)) q1465 q1466 q117 q1467 np_X9_numbered (zr_ok rfl rfl) rfl rfl (Nat.le_of_ble_eq_true rfl) (⟨Nat.le_of_ble_eq_true rfl, Nat.le_of_ble_eq_true rfl⟩) dX1_measureRecord_47 ?_
      refine z_aload_n (i := 0) C dX1_measureRecord_50 rfl rfl ?_
      refine z_getf (ci := 0) (k := 0) C (hO) rfl rfl q570 dX1_measureRecord_51 ?_
      refine z_iload_n (i := 1) C dX1_measureRecord_54 rfl rfl ?_
      refine z_callVn C (hR.1.1) rfl (ct_X2_record D B a lm k ma n _ _ _ _ _ _ _ _ _ _ _ _ mc e cap gg _ hR.1.1 l1 hk9 m1.1) q1468 q1469 q1470 q84 q1471 np_X2_record (zr_ok rfl rfl) rfl rfl (Nat.le_of_ble_eq_true rfl) (⟨Nat.le_of_ble_eq_true rfl, Nat.le_of_ble_eq_true rfl⟩) dX1_measureRecord_55 ?_
      intro v9 G9 h9
      obtain ⟨sg, rfl, hsg, rfl⟩ := h9
      have hs : zSg D B (zup G sg (.inr (101, [.ref (ma k)]))) sg 256 (fun j => S (186 + 256 * k + j)) := (zSg_rec zup_s ((zup_n (zne_of hsg m1.1)).trans m1.1) ((zup_n (zne_of hsg m2.1)).trans m2.1)).congr (Nat.le_refl _) m3
      refine z_iload_n (i := 3) C dX1_measureRecord_58 rfl rfl ?_
      refine z_iload C dX1_measureRecord_59 rfl ?_
      refine z_callOB (x := ⟨"TrackArray$Measure", "of", "(LTrackArray$Signal;II)J"⟩) (owner := "TrackArray$Measure") (np := 3) (i := 1) C (by decide) (cb_X18_of D B (fun j => S (186 + 256 * k + j)) _ sg f l 256 hs (by omega) hl (by omega) hm) q1474 q1476 q1475 q1484 q1485 q1486 ⟨by decide +kernel, by decide +kernel, by decide +kernel⟩ (Nat.le_of_ble_eq_true rfl) (by decide +kernel) (zr_ok rfl rfl) rfl rfl (Nat.le_of_ble_eq_true rfl) (⟨Nat.le_of_ble_eq_true rfl, Nat.le_of_ble_eq_true rfl⟩) dX1_measureRecord_61 ?_
      intro v9 G9 h9
      obtain ⟨rfl, rfl⟩ := h9
      refine z_sub1 hsg ?_
      exact z_lreturn C rfl dX1_measureRecord_64 (⟨rfl, rfl⟩) (Nat.le_of_ble_eq_true rfl) (Nat.le_of_ble_eq_true rfl)
set_option maxHeartbeats 4000000 in
set_option maxRecDepth 100000 in
theorem ct_X1_measureRecord_2 (D : zG) (B : Nat) {G : zH} (o : Nat) (v1 v2 v3 v4 v5 : Value) (χ : Nat → Nat) (c a lv ls lm fo pa su : Nat) (va sa ua ma ra : Nat → Nat) (rq : Nat) (S : Nat → Int32) (k n f l : Nat) (ne : Nat) (hO : G o = some (.inr (0, [.ref a, v1, v2, v3, v4, v5]))) (hR : zTr G χ c a lv ls lm fo pa su va sa ua ma ra rq S) (g : zGe S) (hc : 100 ≤ c) (e9 : S 8 = nI n) (n9 : n ≤ 8) (hk : k < 100) (h1 : 0 ≤ nI k ∧ nI k ≤ S 8 - 1) (hw : (0 ≤ nI f ∧ nI f ≤ 255) ∧ nI f ≤ nI l ∧ nI l ≤ 255) (hf : f ≤ l) (hl : l < 256) (hE : zen (fun j => S (186 + 256 * k + j)) f l = lN ne) (hne : ne < 2 ^ 63) : Ct D B yX1_measureRecord (ws_ yX1_measureRecord cX1_measureRecord 5 (some .long)) (zrL 9 3 16) [.ref o, .int (nI k), .int (nI 2), .int (nI f), .int (nI l)] G (zpe (some (.long ((nI (zdg ne)).toInt64))) G) zno := by
  refine ct_intro (by decide +kernel) (Nat.le_of_ble_eq_true rfl) ?_
  intro X C
  have hk9 : k < n := zkn h1 e9 (by omega) (by omega)
  have hX := hR.2.2.2.2.1
  rw [zct_of e9 (by omega)] at hX
  obtain ⟨m1, wm, m2, m3⟩ := hX.2 k hk9
  obtain ⟨⟨mc, e, cap, gg, l1, lc, ld⟩, -⟩ := id hX
  refine z_iload_n (i := 1) C dX1_measureRecord_0 rfl rfl ?_
  refine z_i2l C dX1_measureRecord_1 rfl ?_
  refine z_lconst (v := 0) C dX1_measureRecord_2 (by decide) ?_
  refine z_aload_n (i := 0) C dX1_measureRecord_3 rfl rfl ?_
  refine z_getf (ci := 0) (k := 0) C (hO) rfl rfl q570 dX1_measureRecord_4 ?_
  refine z_getfN (ci := 1) (k := 2) C (hR.1.1) rfl rfl q516 dX1_measureRecord_7 ?_
  refine z_callVe C (l1.1) rfl (ct_J2_size D B lm n _ _ l1.1) q1265 q931 q932 q87 q933 np_J2_size (zr_ok rfl rfl) rfl rfl (Nat.le_of_ble_eq_true rfl) (⟨Nat.le_of_ble_eq_true rfl, Nat.le_of_ble_eq_true rfl⟩) dX1_measureRecord_10 ?_
  refine z_seti e9.symm ?_
  refine z_iconst (v := 1) C dX1_measureRecord_13 (by decide) ?_
  refine z_isub C dX1_measureRecord_14 ?_
  refine z_i2l C dX1_measureRecord_15 rfl ?_
  refine z_callSe C (ct_X1_isBetween D B (nI k) 0 (S 8 - 1) 0 _ (by decide) rfl) q1220 q789 q83 q790 np_X1_isBetween (zr_ok rfl rfl) rfl rfl (Nat.le_of_ble_eq_true rfl) (⟨Nat.le_of_ble_eq_true rfl, Nat.le_of_ble_eq_true rfl⟩) dX1_measureRecord_16 ?_
  refine z_callSe C (ct_X1_checkIndex_ok D B _ (zb_ne.mpr h1)) q1311 q1312 q83 q1313 np_X1_checkIndex (zr_ok rfl rfl) rfl rfl (Nat.le_of_ble_eq_true rfl) (⟨Nat.le_of_ble_eq_true rfl, Nat.le_of_ble_eq_true rfl⟩) dX1_measureRecord_19 ?_
  refine z_iload_n (i := 2) C dX1_measureRecord_22 rfl rfl ?_
  refine z_callSe C (ct_X9_isNumber D B (nI 2)) q1447 q1448 q117 q1449 np_X9_isNumber (zr_ok rfl rfl) rfl rfl (Nat.le_of_ble_eq_true rfl) (⟨Nat.le_of_ble_eq_true rfl, Nat.le_of_ble_eq_true rfl⟩) dX1_measureRecord_23 ?_
  refine z_if_eq (tgt := 42) C dX1_measureRecord_26 (by decide) (fun c_26 => ?_) (fun c_26 => ?_)
  · exact absurd (zb_eq.mp c_26) (by decide)
  · refine z_iload_n (i := 3) C dX1_measureRecord_29 rfl rfl ?_
    refine z_iload C dX1_measureRecord_30 rfl ?_
    refine z_callSe C (ct_X1_isWindow D B (nI f) (nI l)) q1462 q1463 q83 q1464 np_X1_isWindow (zr_ok rfl rfl) rfl rfl (Nat.le_of_ble_eq_true rfl) (⟨Nat.le_of_ble_eq_true rfl, Nat.le_of_ble_eq_true rfl⟩) dX1_measureRecord_32 ?_
    refine z_if_eq (tgt := 42) C dX1_measureRecord_35 (by decide) (fun c_35 => ?_) (fun c_35 => ?_)
    · exact absurd hw (zb_eq.mp c_35)
    · refine z_iconst (v := 1) C dX1_measureRecord_38 (by decide) ?_
      refine z_goto (tgt := 43) C dX1_measureRecord_39 (by decide) ?_
      refine z_callSe C (ct_X1_checkArgument_ok D B _ (by decide)) q1221 q1222 q83 q1223 np_X1_checkArgument (zr_ok rfl rfl) rfl rfl (Nat.le_of_ble_eq_true rfl) (⟨Nat.le_of_ble_eq_true rfl, Nat.le_of_ble_eq_true rfl⟩) dX1_measureRecord_43 ?_
      refine z_iload_n (i := 2) C dX1_measureRecord_46 rfl rfl ?_
      refine z_callSe C (ct_X9_numbered D B 2 (by decide)) q1465 q1466 q117 q1467 np_X9_numbered (zr_ok rfl rfl) rfl rfl (Nat.le_of_ble_eq_true rfl) (⟨Nat.le_of_ble_eq_true rfl, Nat.le_of_ble_eq_true rfl⟩) dX1_measureRecord_47 ?_
      refine z_aload_n (i := 0) C dX1_measureRecord_50 rfl rfl ?_
      refine z_getf (ci := 0) (k := 0) C (hO) rfl rfl q570 dX1_measureRecord_51 ?_
      refine z_iload_n (i := 1) C dX1_measureRecord_54 rfl rfl ?_
      refine z_callVn C (hR.1.1) rfl (ct_X2_record D B a lm k ma n _ _ _ _ _ _ _ _ _ _ _ _ mc e cap gg _ hR.1.1 l1 hk9 m1.1) q1468 q1469 q1470 q84 q1471 np_X2_record (zr_ok rfl rfl) rfl rfl (Nat.le_of_ble_eq_true rfl) (⟨Nat.le_of_ble_eq_true rfl, Nat.le_of_ble_eq_true rfl⟩) dX1_measureRecord_55 ?_
      intro v9 G9 h9
      obtain ⟨sg, rfl, hsg, rfl⟩ := h9
      have hs : zSg D B (zup G sg (.inr (101, [.ref (ma k)]))) sg 256 (fun j => S (186 + 256 * k + j)) := (zSg_rec zup_s ((zup_n (zne_of hsg m1.1)).trans m1.1) ((zup_n (zne_of hsg m2.1)).trans m2.1)).congr (Nat.le_refl _) m3
      refine z_iload_n (i := 3) C dX1_measureRecord_58 rfl rfl ?_
      refine z_iload C dX1_measureRecord_59 rfl ?_
      refine z_callOB (x := ⟨"TrackArray$Measure", "of", "(LTrackArray$Signal;II)J"⟩) (owner := "TrackArray$Measure") (np := 3) (i := 2) C (by decide) (cb_X10_of D B (fun j => S (186 + 256 * k + j)) _ sg f l 256 ne hs (by omega) hl (by omega) hE hne) q1474 q1476 q1475 q1495 q1496 q1497 ⟨by decide +kernel, by decide +kernel, by decide +kernel⟩ (Nat.le_of_ble_eq_true rfl) (by decide +kernel) (zr_ok rfl rfl) rfl rfl (Nat.le_of_ble_eq_true rfl) (⟨Nat.le_of_ble_eq_true rfl, Nat.le_of_ble_eq_true rfl⟩) dX1_measureRecord_61 ?_
      intro v9 G9 h9
      obtain ⟨rfl, rfl⟩ := h9
      refine z_sub1 hsg ?_
      exact z_lreturn C rfl dX1_measureRecord_64 (⟨rfl, rfl⟩) (Nat.le_of_ble_eq_true rfl) (Nat.le_of_ble_eq_true rfl)
set_option maxHeartbeats 4000000 in
set_option maxRecDepth 100000 in
theorem ct_X1_measureRecord_3 (D : zG) (B : Nat) {G : zH} (o : Nat) (v1 v2 v3 v4 v5 : Value) (χ : Nat → Nat) (c a lv ls lm fo pa su : Nat) (va sa ua ma ra : Nat → Nat) (rq : Nat) (S : Nat → Int32) (k n f l : Nat) (hO : G o = some (.inr (0, [.ref a, v1, v2, v3, v4, v5]))) (hR : zTr G χ c a lv ls lm fo pa su va sa ua ma ra rq S) (g : zGe S) (hc : 100 ≤ c) (e9 : S 8 = nI n) (n9 : n ≤ 8) (hk : k < 100) (h1 : 0 ≤ nI k ∧ nI k ≤ S 8 - 1) (hw : (0 ≤ nI f ∧ nI f ≤ 255) ∧ nI f ≤ nI l ∧ nI l ≤ 255) (hf : f ≤ l) (hl : l < 256)  : Ct D B yX1_measureRecord (ws_ yX1_measureRecord cX1_measureRecord 5 (some .long)) (zrL 9 3 16) [.ref o, .int (nI k), .int (nI 3), .int (nI f), .int (nI l)] G (zpe (some (.long (zsm (fun j => S (186 + 256 * k + j)) f l))) G) zno := by
  refine ct_intro (by decide +kernel) (Nat.le_of_ble_eq_true rfl) ?_
  intro X C
  have hk9 : k < n := zkn h1 e9 (by omega) (by omega)
  have hX := hR.2.2.2.2.1
  rw [zct_of e9 (by omega)] at hX
  obtain ⟨m1, wm, m2, m3⟩ := hX.2 k hk9
  obtain ⟨⟨mc, e, cap, gg, l1, lc, ld⟩, -⟩ := id hX
  refine z_iload_n (i := 1) C dX1_measureRecord_0 rfl rfl ?_
  refine z_i2l C dX1_measureRecord_1 rfl ?_
  refine z_lconst (v := 0) C dX1_measureRecord_2 (by decide) ?_
  refine z_aload_n (i := 0) C dX1_measureRecord_3 rfl rfl ?_
  refine z_getf (ci := 0) (k := 0) C (hO) rfl rfl q570 dX1_measureRecord_4 ?_
  refine z_getfN (ci := 1) (k := 2) C (hR.1.1) rfl rfl q516 dX1_measureRecord_7 ?_
  refine z_callVe C (l1.1) rfl (ct_J2_size D B lm n _ _ l1.1) q1265 q931 q932 q87 q933 np_J2_size (zr_ok rfl rfl) rfl rfl (Nat.le_of_ble_eq_true rfl) (⟨Nat.le_of_ble_eq_true rfl, Nat.le_of_ble_eq_true rfl⟩) dX1_measureRecord_10 ?_
  refine z_seti e9.symm ?_
  refine z_iconst (v := 1) C dX1_measureRecord_13 (by decide) ?_
  refine z_isub C dX1_measureRecord_14 ?_
  refine z_i2l C dX1_measureRecord_15 rfl ?_
  refine z_callSe C (ct_X1_isBetween D B (nI k) 0 (S 8 - 1) 0 _ (by decide) rfl) q1220 q789 q83 q790 np_X1_isBetween (zr_ok rfl rfl) rfl rfl (Nat.le_of_ble_eq_true rfl) (⟨Nat.le_of_ble_eq_true rfl, Nat.le_of_ble_eq_true rfl⟩) dX1_measureRecord_16 ?_
  refine z_callSe C (ct_X1_checkIndex_ok D B _ (zb_ne.mpr h1)) q1311 q1312 q83 q1313 np_X1_checkIndex (zr_ok rfl rfl) rfl rfl (Nat.le_of_ble_eq_true rfl) (⟨Nat.le_of_ble_eq_true rfl, Nat.le_of_ble_eq_true rfl⟩) dX1_measureRecord_19 ?_
  refine z_iload_n (i := 2) C dX1_measureRecord_22 rfl rfl ?_
  refine z_callSe C (ct_X9_isNumber D B (nI 3)) q1447 q1448 q117 q1449 np_X9_isNumber (zr_ok rfl rfl) rfl rfl (Nat.le_of_ble_eq_true rfl) (⟨Nat.le_of_ble_eq_true rfl, Nat.le_of_ble_eq_true rfl⟩) dX1_measureRecord_23 ?_
  refine z_if_eq (tgt := 42) C dX1_measureRecord_26 (by decide) (fun c_26 => ?_) (fun c_26 => ?_)
  · exact absurd (zb_eq.mp c_26) (by decide)
  · refine z_iload_n (i := 3) C dX1_measureRecord_29 rfl rfl ?_
    refine z_iload C dX1_measureRecord_30 rfl ?_
    refine z_callSe C (ct_X1_isWindow D B (nI f) (nI l)) q1462 q1463 q83 q1464 np_X1_isWindow (zr_ok rfl rfl) rfl rfl (Nat.le_of_ble_eq_true rfl) (⟨Nat.le_of_ble_eq_true rfl, Nat.le_of_ble_eq_true rfl⟩) dX1_measureRecord_32 ?_
    refine z_if_eq (tgt := 42) C dX1_measureRecord_35 (by decide) (fun c_35 => ?_) (fun c_35 => ?_)
    · exact absurd hw (zb_eq.mp c_35)
    · refine z_iconst (v := 1) C dX1_measureRecord_38 (by decide) ?_
      refine z_goto (tgt := 43) C dX1_measureRecord_39 (by decide) ?_
      refine z_callSe C (ct_X1_checkArgument_ok D B _ (by decide)) q1221 q1222 q83 q1223 np_X1_checkArgument (zr_ok rfl rfl) rfl rfl (Nat.le_of_ble_eq_true rfl) (⟨Nat.le_of_ble_eq_true rfl, Nat.le_of_ble_eq_true rfl⟩) dX1_measureRecord_43 ?_
      refine z_iload_n (i := 2) C dX1_measureRecord_46 rfl rfl ?_
      refine z_callSe C (ct_X9_numbered D B 3 (by decide)) q1465 q1466 q117 q1467 np_X9_numbered (zr_ok rfl rfl) rfl rfl (Nat.le_of_ble_eq_true rfl) (⟨Nat.le_of_ble_eq_true rfl, Nat.le_of_ble_eq_true rfl⟩) dX1_measureRecord_47 ?_
      refine z_aload_n (i := 0) C dX1_measureRecord_50 rfl rfl ?_
      refine z_getf (ci := 0) (k := 0) C (hO) rfl rfl q570 dX1_measureRecord_51 ?_
      refine z_iload_n (i := 1) C dX1_measureRecord_54 rfl rfl ?_
      refine z_callVn C (hR.1.1) rfl (ct_X2_record D B a lm k ma n _ _ _ _ _ _ _ _ _ _ _ _ mc e cap gg _ hR.1.1 l1 hk9 m1.1) q1468 q1469 q1470 q84 q1471 np_X2_record (zr_ok rfl rfl) rfl rfl (Nat.le_of_ble_eq_true rfl) (⟨Nat.le_of_ble_eq_true rfl, Nat.le_of_ble_eq_true rfl⟩) dX1_measureRecord_55 ?_
      intro v9 G9 h9
      obtain ⟨sg, rfl, hsg, rfl⟩ := h9
      have hs : zSg D B (zup G sg (.inr (101, [.ref (ma k)]))) sg 256 (fun j => S (186 + 256 * k + j)) := (zSg_rec zup_s ((zup_n (zne_of hsg m1.1)).trans m1.1) ((zup_n (zne_of hsg m2.1)).trans m2.1)).congr (Nat.le_refl _) m3
      refine z_iload_n (i := 3) C dX1_measureRecord_58 rfl rfl ?_
      refine z_iload C dX1_measureRecord_59 rfl ?_
      refine z_callOB (x := ⟨"TrackArray$Measure", "of", "(LTrackArray$Signal;II)J"⟩) (owner := "TrackArray$Measure") (np := 3) (i := 3) C (by decide) (cb_X19_of D B (fun j => S (186 + 256 * k + j)) _ sg f l 256 hs (by omega) hl (by omega)) q1474 q1476 q1475 q1520 q1502 q1503 ⟨by decide +kernel, by decide +kernel, by decide +kernel⟩ (Nat.le_of_ble_eq_true rfl) (by decide +kernel) (zr_ok rfl rfl) rfl rfl (Nat.le_of_ble_eq_true rfl) (⟨Nat.le_of_ble_eq_true rfl, Nat.le_of_ble_eq_true rfl⟩) dX1_measureRecord_61 ?_
      intro v9 G9 h9
      obtain ⟨rfl, rfl⟩ := h9
      refine z_sub1 hsg ?_
      exact z_lreturn C rfl dX1_measureRecord_64 (⟨rfl, rfl⟩) (Nat.le_of_ble_eq_true rfl) (Nat.le_of_ble_eq_true rfl)
set_option maxHeartbeats 4000000 in
set_option maxRecDepth 100000 in
theorem ct_X1_measureRecord_4 (D : zG) (B : Nat) {G : zH} (o : Nat) (v1 v2 v3 v4 v5 : Value) (χ : Nat → Nat) (c a lv ls lm fo pa su : Nat) (va sa ua ma ra : Nat → Nat) (rq : Nat) (S : Nat → Int32) (k n f l : Nat) (hO : G o = some (.inr (0, [.ref a, v1, v2, v3, v4, v5]))) (hR : zTr G χ c a lv ls lm fo pa su va sa ua ma ra rq S) (g : zGe S) (hc : 100 ≤ c) (e9 : S 8 = nI n) (n9 : n ≤ 8) (hk : k < 100) (h1 : 0 ≤ nI k ∧ nI k ≤ S 8 - 1) (hw : (0 ≤ nI f ∧ nI f ≤ 255) ∧ nI f ≤ nI l ∧ nI l ≤ 255) (hf : f ≤ l) (hl : l < 256)  : Ct D B yX1_measureRecord (ws_ yX1_measureRecord cX1_measureRecord 5 (some .long)) (zrL 9 3 16) [.ref o, .int (nI k), .int (nI 4), .int (nI f), .int (nI l)] G (zpe (some (.long ((zcr (fun j => S (186 + 256 * k + j)) f (l - f)).toInt64))) G) zno := by
  refine ct_intro (by decide +kernel) (Nat.le_of_ble_eq_true rfl) ?_
  intro X C
  have hk9 : k < n := zkn h1 e9 (by omega) (by omega)
  have hX := hR.2.2.2.2.1
  rw [zct_of e9 (by omega)] at hX
  obtain ⟨m1, wm, m2, m3⟩ := hX.2 k hk9
  obtain ⟨⟨mc, e, cap, gg, l1, lc, ld⟩, -⟩ := id hX
  refine z_iload_n (i := 1) C dX1_measureRecord_0 rfl rfl ?_
  refine z_i2l C dX1_measureRecord_1 rfl ?_
  refine z_lconst (v := 0) C dX1_measureRecord_2 (by decide) ?_
  refine z_aload_n (i := 0) C dX1_measureRecord_3 rfl rfl ?_
  refine z_getf (ci := 0) (k := 0) C (hO) rfl rfl q570 dX1_measureRecord_4 ?_
  refine z_getfN (ci := 1) (k := 2) C (hR.1.1) rfl rfl q516 dX1_measureRecord_7 ?_
  refine z_callVe C (l1.1) rfl (ct_J2_size D B lm n _ _ l1.1) q1265 q931 q932 q87 q933 np_J2_size (zr_ok rfl rfl) rfl rfl (Nat.le_of_ble_eq_true rfl) (⟨Nat.le_of_ble_eq_true rfl, Nat.le_of_ble_eq_true rfl⟩) dX1_measureRecord_10 ?_
  refine z_seti e9.symm ?_
  refine z_iconst (v := 1) C dX1_measureRecord_13 (by decide) ?_
  refine z_isub C dX1_measureRecord_14 ?_
  refine z_i2l C dX1_measureRecord_15 rfl ?_
  refine z_callSe C (ct_X1_isBetween D B (nI k) 0 (S 8 - 1) 0 _ (by decide) rfl) q1220 q789 q83 q790 np_X1_isBetween (zr_ok rfl rfl) rfl rfl (Nat.le_of_ble_eq_true rfl) (⟨Nat.le_of_ble_eq_true rfl, Nat.le_of_ble_eq_true rfl⟩) dX1_measureRecord_16 ?_
  refine z_callSe C (ct_X1_checkIndex_ok D B _ (zb_ne.mpr h1)) q1311 q1312 q83 q1313 np_X1_checkIndex (zr_ok rfl rfl) rfl rfl (Nat.le_of_ble_eq_true rfl) (⟨Nat.le_of_ble_eq_true rfl, Nat.le_of_ble_eq_true rfl⟩) dX1_measureRecord_19 ?_
  refine z_iload_n (i := 2) C dX1_measureRecord_22 rfl rfl ?_
  refine z_callSe C (ct_X9_isNumber D B (nI 4)) q1447 q1448 q117 q1449 np_X9_isNumber (zr_ok rfl rfl) rfl rfl (Nat.le_of_ble_eq_true rfl) (⟨Nat.le_of_ble_eq_true rfl, Nat.le_of_ble_eq_true rfl⟩) dX1_measureRecord_23 ?_
  refine z_if_eq (tgt := 42) C dX1_measureRecord_26 (by decide) (fun c_26 => ?_) (fun c_26 => ?_)
  · exact absurd (zb_eq.mp c_26) (by decide)
  · refine z_iload_n (i := 3) C dX1_measureRecord_29 rfl rfl ?_
    refine z_iload C dX1_measureRecord_30 rfl ?_
    refine z_callSe C (ct_X1_isWindow D B (nI f) (nI l)) q1462 q1463 q83 q1464 np_X1_isWindow (zr_ok rfl rfl) rfl rfl (Nat.le_of_ble_eq_true rfl) (⟨Nat.le_of_ble_eq_true rfl, Nat.le_of_ble_eq_true rfl⟩) dX1_measureRecord_32 ?_
    refine z_if_eq (tgt := 42) C dX1_measureRecord_35 (by decide) (fun c_35 => ?_) (fun c_35 => ?_)
    · exact absurd hw (zb_eq.mp c_35)
    · refine z_iconst (v := 1) C dX1_measureRecord_38 (by decide) ?_
      refine z_goto (tgt := 43) C dX1_measureRecord_39 (by decide) ?_
      refine z_callSe C (ct_X1_checkArgument_ok D B _ (by decide)) q1221 q1222 q83 q1223 np_X1_checkArgument (zr_ok rfl rfl) rfl rfl (Nat.le_of_ble_eq_true rfl) (⟨Nat.le_of_ble_eq_true rfl, Nat.le_of_ble_eq_true rfl⟩) dX1_measureRecord_43 ?_
      refine z_iload_n (i := 2) C dX1_measureRecord_46 rfl rfl ?_
      refine z_callSe C (ct_X9_numbered D B 4 (by decide)) q1465 q1466 q117 q1467 np_X9_numbered (zr_ok rfl rfl) rfl rfl (Nat.le_of_ble_eq_true rfl) (⟨Nat.le_of_ble_eq_true rfl, Nat.le_of_ble_eq_true rfl⟩) dX1_measureRecord_47 ?_
      refine z_aload_n (i := 0) C dX1_measureRecord_50 rfl rfl ?_
      refine z_getf (ci := 0) (k := 0) C (hO) rfl rfl q570 dX1_measureRecord_51 ?_
      refine z_iload_n (i := 1) C dX1_measureRecord_54 rfl rfl ?_
      refine z_callVn C (hR.1.1) rfl (ct_X2_record D B a lm k ma n _ _ _ _ _ _ _ _ _ _ _ _ mc e cap gg _ hR.1.1 l1 hk9 m1.1) q1468 q1469 q1470 q84 q1471 np_X2_record (zr_ok rfl rfl) rfl rfl (Nat.le_of_ble_eq_true rfl) (⟨Nat.le_of_ble_eq_true rfl, Nat.le_of_ble_eq_true rfl⟩) dX1_measureRecord_55 ?_
      intro v9 G9 h9
      obtain ⟨sg, rfl, hsg, rfl⟩ := h9
      have hs : zSg D B (zup G sg (.inr (101, [.ref (ma k)]))) sg 256 (fun j => S (186 + 256 * k + j)) := (zSg_rec zup_s ((zup_n (zne_of hsg m1.1)).trans m1.1) ((zup_n (zne_of hsg m2.1)).trans m2.1)).congr (Nat.le_refl _) m3
      refine z_iload_n (i := 3) C dX1_measureRecord_58 rfl rfl ?_
      refine z_iload C dX1_measureRecord_59 rfl ?_
      refine z_callOB (x := ⟨"TrackArray$Measure", "of", "(LTrackArray$Signal;II)J"⟩) (owner := "TrackArray$Measure") (np := 3) (i := 4) C (by decide) (cb_X20_of D B (fun j => S (186 + 256 * k + j)) _ sg f l 256 hs (by omega) hl (by omega)) q1474 q1476 q1475 q1521 q1506 q1507 ⟨by decide +kernel, by decide +kernel, by decide +kernel⟩ (Nat.le_of_ble_eq_true rfl) (by decide +kernel) (zr_ok rfl rfl) rfl rfl (Nat.le_of_ble_eq_true rfl) (⟨Nat.le_of_ble_eq_true rfl, Nat.le_of_ble_eq_true rfl⟩) dX1_measureRecord_61 ?_
      intro v9 G9 h9
      obtain ⟨rfl, rfl⟩ := h9
      refine z_sub1 hsg ?_
      exact z_lreturn C rfl dX1_measureRecord_64 (⟨rfl, rfl⟩) (Nat.le_of_ble_eq_true rfl) (Nat.le_of_ble_eq_true rfl)
