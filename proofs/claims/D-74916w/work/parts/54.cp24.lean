/-! component: scans, saving -/
theorem zPb_of9 {c : Nat} (hc : 100 ≤ c) : zPb c 9 := ⟨by decide, by omega, by omega⟩
theorem zscan_in {k stp : Nat} (hk : k ≤ 20) (hp : stp ≤ 100) : zin (nI k * nI stp) (-2000) 2000 ∧ zin (-nI k * nI stp) (-2000) 2000 := by
  have h1 : zin (nI k) (-20) 20 := by
    have := zin_n (k := k) (by omega)
    exact zin_w this (by decide) (by omega)
  have h2 : zin (-nI k) (-20) 20 := zin_w (zin_neg h1 (by decide) (by decide)) (by decide) (by decide)
  have h3 : zin (nI stp) (-100) 100 := by
    have := zin_n (k := stp) (by omega)
    exact zin_w this (by decide) (by omega)
  exact ⟨zin_mul h1 h3 (by decide), zin_mul h2 h3 (by decide)⟩
set_option maxHeartbeats 4000000 in
set_option maxRecDepth 100000 in
theorem ct_X1_lambda_scan_1 (D : zG) (B : Nat) {G : zH} (o : Nat) (v1 v2 v3 v4 v5 : Value) (χ : Nat → Nat) (c a lv ls lm fo pa su : Nat) (va sa ua ma ra : Nat → Nat) (rq : Nat) (S : Nat → Int32) (G0 : zH) (χ0 : Nat → Nat) (stp f l nm : Nat) (x : Int32) (hO : G o = some (.inr (0, [.ref a, v1, v2, v3, v4, v5]))) (hR : zTr G χ c a lv ls lm fo pa su va sa ua ma ra rq S) (g : zGe S) (hc : 100 ≤ c) (hK : zkee (zPb c) G0 χ0 G χ) (h2 : S 2 = 0 ∨ S 2 = 1) (h5 : S 5 = 0 ∨ S 5 = 1) (e8 : S 8 = nI nm) (n8 : nm ≤ 8) (hf : f ≤ l) (hl : l < 256) (hb : zin (x * nI stp) (-2000) 2000) (hZ : ∀ t, t ≤ l → zbL S (fun m j => zpa S m (x * nI stp) j) nm t = (zbs S nm (x * nI stp) t).toInt64) : Ct D B yX1_lambda_scan_1 (ws_ yX1_lambda_scan_1 cX1_lambda_scan_1 5 (some .long)) (zrL 14 32 110) [.ref o, .int (nI stp), .int (nI f), .int (nI l), .int x] G (fun r9 G9 => r9 = some (.long (zen (zbs S nm (x * nI stp)) f l)) ∧ ∃ χ9 : Nat → Nat, zkee (zPb c) G0 χ0 G9 χ9 ∧ zTr G9 χ9 c a lv ls lm fo pa su va sa ua ma ra rq S) zno := by
  refine ct_intro (by decide +kernel) (Nat.le_of_ble_eq_true rfl) ?_
  intro X C
  refine z_aload_n (i := 0) C dX1_lambda_scan_1_0 rfl rfl ?_
  refine z_getf (ci := 0) (k := 0) C (hO) rfl rfl q570 dX1_lambda_scan_1_1 ?_
  refine z_iload C dX1_lambda_scan_1_4 rfl ?_
  refine z_iload_n (i := 1) C dX1_lambda_scan_1_6 rfl rfl ?_
  refine z_imul C dX1_lambda_scan_1_7 ?_
  refine z_iload_n (i := 2) C dX1_lambda_scan_1_8 rfl rfl ?_
  refine z_iload_n (i := 3) C dX1_lambda_scan_1_9 rfl rfl ?_
  refine z_callVn C (hR.1.1) rfl (zeB D B χ c a lv ls lm fo pa su va sa ua ma ra rq S (x * nI stp) f l nm hR g hc e8 n8 hf hl hb h2 h5 hZ) q1708 q1709 q1710 q84 q1711 np_X2_energyBeside (zr_ok rfl rfl) rfl rfl (Nat.le_of_ble_eq_true rfl) (⟨Nat.le_of_ble_eq_true rfl, Nat.le_of_ble_eq_true rfl⟩) dX1_lambda_scan_1_10 ?_
  intro v9 G9 h9
  obtain ⟨rfl, χ9, K2, t9⟩ := h9
  exact z_lreturn C rfl dX1_lambda_scan_1_13 (⟨rfl, χ9, hK.trans K2, t9⟩) (Nat.le_of_ble_eq_true rfl) (Nat.le_of_ble_eq_true rfl)
theorem zWo_scan {D : zG} {B : Nat} {G : zH} {χ : Nat → Nat} {c a lv ls lm fo pa su : Nat} {va sa ua ma ra : Nat → Nat} {rq : Nat} {S : Nat → Int32} {o q stp f l nm : Nat} {v1 v2 v3 v4 v5 : Value} (h0 : G q = some (.inr (103, [.ref o, .int (nI stp), .int (nI f), .int (nI l)]))) (hqc : zPb c (χ q)) (hO : G o = some (.inr (0, [.ref a, v1, v2, v3, v4, v5]))) (hoc : zPb c (χ o)) (g : zGe S) (hc : 100 ≤ c) (h2 : S 2 = 0 ∨ S 2 = 1) (h5 : S 5 = 0 ∨ S 5 = 1) (e8 : S 8 = nI nm) (n8 : nm ≤ 8) (hf : f ≤ l) (hl : l < 256) (hZ : ∀ by_, zin by_ (-2000) 2000 → ∀ t, t ≤ l → zbL S (fun m j => zpa S m by_ j) nm t = (zbs S nm by_ t).toInt64) :
    zWo D B "TrackArray$Worth" "of" q (fun G' => ∃ χ' : Nat → Nat, zkee (zPb c) G χ G' χ' ∧ zTr G' χ' c a lv ls lm fo pa su va sa ua ma ra rq S) (fun x => zen (zbs S nm (x * nI stp)) f l) (fun x => zin (x * nI stp) (-2000) 2000) (zrL 14 32 110) 5 := by
  intro G' hG'
  obtain ⟨χ', K, hR⟩ := hG'
  have hO' := (K o _ hO hoc).1
  refine ⟨3, _, [.ref o, .int (nI stp), .int (nI f), .int (nI l)], yX1_lambda_scan_1, cX1_lambda_scan_1, _, rfl, rfl, rfl, (K q _ h0 hqc).1, rfl, by decide +kernel, fun x9 hx9 => ?_, q83, q1753, ?_, (show Option.map (fun d => d.parameters.length) (parseMethodDescriptor "(IIII)J") = some 4 by decide +kernel), by decide, by decide⟩
  · exact ct_X1_lambda_scan_1 D B (G := G') o v1 v2 v3 v4 v5 χ' c a lv ls lm fo pa su va sa ua ma ra rq S G χ stp f l nm x9 hO' hR g hc K h2 h5 e8 n8 hf hl hx9 (hZ _ hx9)
  · unfold zmT
    rw [if_neg (by decide)]
    exact ⟨q1752, qs23, o, 0, _, _, TX1, 6, rfl, hO', rfl⟩
set_option maxHeartbeats 4000000 in
set_option maxRecDepth 100000 in
theorem ct_X1_scan_ok (D : zG) (B : Nat) {G : zH} (o : Nat) (v1 v2 v3 v4 v5 : Value) (χ : Nat → Nat) (c a lv ls lm fo pa su : Nat) (va sa ua ma ra : Nat → Nat) (rq : Nat) (S : Nat → Int32) (stp gr f l : Nat) (nm : Nat) (hO : G o = some (.inr (0, [.ref a, v1, v2, v3, v4, v5]))) (hR : zTr G χ c a lv ls lm fo pa su va sa ua ma ra rq S) (g : zGe S) (hc : 100 ≤ c) (hoc : zPb c (χ o)) (h2 : S 2 = 0 ∨ S 2 = 1) (h5 : S 5 = 0 ∨ S 5 = 1) (e8 : S 8 = nI nm) (n8 : nm ≤ 8) (hw : (0 ≤ nI f ∧ nI f ≤ 255) ∧ nI f ≤ nI l ∧ nI l ≤ 255) (hf : f ≤ l) (hl : l < 256) (hp0 : 1 ≤ nI stp ∧ nI stp ≤ 100) (hp : stp ≤ 100) (hg0 : 0 ≤ nI gr ∧ nI gr ≤ 20) (hg : gr ≤ 20) (hZ : ∀ by_, zin by_ (-2000) 2000 → ∀ t, t ≤ l → zbL S (fun m j => zpa S m by_ j) nm t = (zbs S nm by_ t).toInt64) : Ct D B yX1_scan (ws_ yX1_scan cX1_scan 5 (some .int)) (zrL 19 16420 56440) [.ref o, .int (nI stp), .int (nI gr), .int (nI f), .int (nI l)] G (fun r9 G9 => r9 = some (.int (zba (fun x => zen (zbs S nm (x * nI stp)) f l) gr)) ∧ ∃ χ9 : Nat → Nat, zkee (zPb c) G χ G9 χ9 ∧ zTr G9 χ9 c a lv ls lm fo pa su va sa ua ma ra rq S) zno := by
  refine ct_introN (by decide +kernel) (Nat.le_of_ble_eq_true rfl) ?_
  intro X C hN
  refine z_iload_n (i := 1) C dX1_scan_0 rfl rfl ?_
  refine z_i2l C dX1_scan_1 rfl ?_
  refine z_lconst (v := 1) C dX1_scan_2 (by decide) ?_
  refine z_ldc2 C q1218 dX1_scan_3 ?_
  refine z_callSe C (ct_X1_isBetween D B (nI stp) (1) (100) _ _ (by first | rfl | decide) (by first | rfl | decide)) q1220 q789 q83 q790 np_X1_isBetween (zr_ok rfl rfl) rfl rfl (Nat.le_of_ble_eq_true rfl) (⟨Nat.le_of_ble_eq_true rfl, Nat.le_of_ble_eq_true rfl⟩) dX1_scan_6 ?_
  refine z_if_eq (tgt := 28) C dX1_scan_9 (by decide) (fun c_9 => ?_) (fun c_9 => ?_)
  · exact absurd hp0 (zb_eq.mp c_9)
  · refine z_iload_n (i := 2) C dX1_scan_12 rfl rfl ?_
    refine z_i2l C dX1_scan_13 rfl ?_
    refine z_lconst (v := 0) C dX1_scan_14 (by decide) ?_
    refine z_ldc2 C q1750 dX1_scan_15 ?_
    refine z_callSe C (ct_X1_isBetween D B (nI gr) (0) (20) _ _ (by first | rfl | decide) (by first | rfl | decide)) q1220 q789 q83 q790 np_X1_isBetween (zr_ok rfl rfl) rfl rfl (Nat.le_of_ble_eq_true rfl) (⟨Nat.le_of_ble_eq_true rfl, Nat.le_of_ble_eq_true rfl⟩) dX1_scan_18 ?_
    refine z_if_eq (tgt := 28) C dX1_scan_21 (by decide) (fun c_21 => ?_) (fun c_21 => ?_)
    · exact absurd hg0 (zb_eq.mp c_21)
    · refine z_iconst (v := 1) C dX1_scan_24 (by decide) ?_
      refine z_goto (tgt := 29) C dX1_scan_25 (by decide) ?_
      refine z_iload_n (i := 3) C dX1_scan_29 rfl rfl ?_
      refine z_iload C dX1_scan_30 rfl ?_
      refine z_callSe C (ct_X1_checkWindow_ok D B _ (nI f) (nI l) (by decide) hw) q1672 q1673 q83 q1674 np_X1_checkWindow (zr_ok rfl rfl) rfl rfl (Nat.le_of_ble_eq_true rfl) (⟨Nat.le_of_ble_eq_true rfl, Nat.le_of_ble_eq_true rfl⟩) dX1_scan_32 ?_
      refine z_iload_n (i := 2) C dX1_scan_35 rfl rfl ?_
      refine z_aload_n (i := 0) C dX1_scan_36 rfl rfl ?_
      refine z_iload_n (i := 1) C dX1_scan_37 rfl rfl ?_
      refine z_iload_n (i := 3) C dX1_scan_38 rfl rfl ?_
      refine z_iload C dX1_scan_39 rfl ?_
      refine z_indy (i := 3) C rfl hN rfl q2475 (vals := [.ref o, .int (nI stp), .int (nI f), .int (nI l)]) (rest := [.int (nI gr)]) rfl ⟨⟨rfl, rfl⟩, ⟨rfl, rfl⟩, ⟨rfl, rfl⟩, ⟨rfl, rfl⟩, trivial⟩ (Nat.le_of_ble_eq_true rfl) (Nat.le_of_ble_eq_true rfl) (Nat.le_of_ble_eq_true rfl) (Nat.le_of_ble_eq_true rfl) dX1_scan_41 ?_
      intro sg hsg hb
      have K1 : zkee (fun _ => True) G χ (zup G sg (.inr (103, [.ref o, .int (nI stp), .int (nI f), .int (nI l)]))) (zcol χ sg 9) := zkee.new hsg
      have hR1 := hR.kp g (fun _ _ => trivial) K1
      obtain ⟨hO1, hoc1⟩ := K1 o _ hO trivial
      refine z_callSn C (ct_X1_bestAround D B gr sg 5 _ (fun x => zen (zbs S nm (x * nI stp)) f l) (fun x => zin (x * nI stp) (-2000) 2000) (zWo_scan (B := B) zup_s (show zPb c (zcol χ sg 9 sg) by rw [show zcol χ sg 9 sg = 9 from if_pos rfl]; exact zPb_of9 hc) hO1 (by rw [hoc1]; exact hoc) g hc h2 h5 e8 n8 hf hl hZ) ⟨_, zkee.refl, hR1⟩ (fun k hk => zscan_in (by omega) hp) (by omega) (by decide)) q1567 q1568 q83 q1569 np_X1_bestAround (zr_ok rfl rfl) rfl rfl (Nat.le_of_ble_eq_true rfl) (⟨Nat.le_of_ble_eq_true rfl, Nat.le_of_ble_eq_true rfl⟩) dX1_scan_46 ?_
      intro v9 G9 h9
      obtain ⟨rfl, χ9, K2, t9⟩ := h9
      exact z_ireturn C rfl (rfl) dX1_scan_49 (⟨rfl, χ9, (K1.mono (fun _ _ => trivial)).trans K2, t9⟩) (Nat.le_of_ble_eq_true rfl) (Nat.le_of_ble_eq_true rfl)
set_option maxHeartbeats 4000000 in
set_option maxRecDepth 100000 in
theorem ct_X1_scan_x (D : zG) (B : Nat) {G : zH} (o : Nat) (v1 v2 v3 v4 v5 : Value) (χ : Nat → Nat) (c a lv ls lm fo pa su : Nat) (va sa ua ma ra : Nat → Nat) (rq : Nat) (S : Nat → Int32) (x y f l : Int32) (h : ¬ ((1 ≤ x ∧ x ≤ 100) ∧ 0 ≤ y ∧ y ≤ 20) ∨ ¬ ((0 ≤ f ∧ f ≤ 255) ∧ f ≤ l ∧ l ≤ 255)) : Ct D B yX1_scan (ws_ yX1_scan cX1_scan 5 (some .int)) (zrc 8 3 16) [.ref o, .int x, .int y, .int f, .int l] G (zpF) (zpxE zIAE G) := by
  refine ct_intro (by decide +kernel) (Nat.le_of_ble_eq_true rfl) ?_
  intro X C
  refine z_iload_n (i := 1) C dX1_scan_0 rfl rfl ?_
  refine z_i2l C dX1_scan_1 rfl ?_
  refine z_lconst (v := 1) C dX1_scan_2 (by decide) ?_
  refine z_ldc2 C q1218 dX1_scan_3 ?_
  refine z_callSe C (ct_X1_isBetween D B (x) (1) (100) _ _ (by first | rfl | decide) (by first | rfl | decide)) q1220 q789 q83 q790 np_X1_isBetween (zr_ok rfl rfl) rfl rfl (Nat.le_of_ble_eq_true rfl) (⟨Nat.le_of_ble_eq_true rfl, Nat.le_of_ble_eq_true rfl⟩) dX1_scan_6 ?_
  refine z_if_eq (tgt := 28) C dX1_scan_9 (by decide) (fun c_9 => ?_) (fun c_9 => ?_)
  · refine z_iconst (v := 0) C dX1_scan_28 (by decide) ?_
    refine z_iload_n (i := 3) C dX1_scan_29 rfl rfl ?_
    refine z_iload C dX1_scan_30 rfl ?_
    exact z_callS C (ct_X1_checkWindow_x D B _ f l (Or.inl rfl)) q1672 q1673 q83 q1674 np_X1_checkWindow (zr_ok rfl rfl) rfl rfl (Nat.le_of_ble_eq_true rfl) (⟨Nat.le_of_ble_eq_true rfl, Nat.le_of_ble_eq_true rfl⟩) dX1_scan_32 (fun E9 q9 G9 h9 => z_out C h9 (Nat.le_of_ble_eq_true rfl) (Nat.le_of_ble_eq_true rfl)) (fun v9 G9 h9 => h9.elim)
  · refine z_iload_n (i := 2) C dX1_scan_12 rfl rfl ?_
    refine z_i2l C dX1_scan_13 rfl ?_
    refine z_lconst (v := 0) C dX1_scan_14 (by decide) ?_
    refine z_ldc2 C q1750 dX1_scan_15 ?_
    refine z_callSe C (ct_X1_isBetween D B (y) (0) (20) _ _ (by first | rfl | decide) (by first | rfl | decide)) q1220 q789 q83 q790 np_X1_isBetween (zr_ok rfl rfl) rfl rfl (Nat.le_of_ble_eq_true rfl) (⟨Nat.le_of_ble_eq_true rfl, Nat.le_of_ble_eq_true rfl⟩) dX1_scan_18 ?_
    refine z_if_eq (tgt := 28) C dX1_scan_21 (by decide) (fun c_21 => ?_) (fun c_21 => ?_)
    · refine z_iconst (v := 0) C dX1_scan_28 (by decide) ?_
      refine z_iload_n (i := 3) C dX1_scan_29 rfl rfl ?_
      refine z_iload C dX1_scan_30 rfl ?_
      exact z_callS C (ct_X1_checkWindow_x D B _ f l (Or.inl rfl)) q1672 q1673 q83 q1674 np_X1_checkWindow (zr_ok rfl rfl) rfl rfl (Nat.le_of_ble_eq_true rfl) (⟨Nat.le_of_ble_eq_true rfl, Nat.le_of_ble_eq_true rfl⟩) dX1_scan_32 (fun E9 q9 G9 h9 => z_out C h9 (Nat.le_of_ble_eq_true rfl) (Nat.le_of_ble_eq_true rfl)) (fun v9 G9 h9 => h9.elim)
    · refine z_iconst (v := 1) C dX1_scan_24 (by decide) ?_
      refine z_goto (tgt := 29) C dX1_scan_25 (by decide) ?_
      refine z_iload_n (i := 3) C dX1_scan_29 rfl rfl ?_
      refine z_iload C dX1_scan_30 rfl ?_
      exact z_callS C (ct_X1_checkWindow_x D B _ f l (Or.inr (h.resolve_left (fun q => q ⟨zb_ne.mp c_9, zb_ne.mp c_21⟩)))) q1672 q1673 q83 q1674 np_X1_checkWindow (zr_ok rfl rfl) rfl rfl (Nat.le_of_ble_eq_true rfl) (⟨Nat.le_of_ble_eq_true rfl, Nat.le_of_ble_eq_true rfl⟩) dX1_scan_32 (fun E9 q9 G9 h9 => z_out C h9 (Nat.le_of_ble_eq_true rfl) (Nat.le_of_ble_eq_true rfl)) (fun v9 G9 h9 => h9.elim)
