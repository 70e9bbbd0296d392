/-! component: correlations, powers, parts asked for -/
set_option maxHeartbeats 4000000 in
set_option maxRecDepth 100000 in
theorem ct_X1_measureRecord_x (D : zG) (B : Nat) {G : zH} (o : Nat) (v1 v2 v3 v4 v5 : Value) (χ : Nat → Nat) (c a lv ls lm fo pa su : Nat) (va sa ua ma ra : Nat → Nat) (rq : Nat) (S : Nat → Int32) (x k f l : Int32) (n : Nat) (hO : G o = some (.inr (0, [.ref a, v1, v2, v3, v4, v5]))) (hR : zTr G χ c a lv ls lm fo pa su va sa ua ma ra rq S) (g : zGe S) (hc : 100 ≤ c) (e9 : S 8 = nI n) (n9 : n ≤ 8) (h1 : ¬ (0 ≤ x ∧ x ≤ S 8 - 1)) : Ct D B yX1_measureRecord (ws_ yX1_measureRecord cX1_measureRecord 5 (some .long)) (zrc 9 1 6) [.ref o, .int x, .int k, .int f, .int l] G (zpF) (zpxE zIOB G) := by
  refine ct_intro (by decide +kernel) (Nat.le_of_ble_eq_true rfl) ?_
  intro X C
  obtain ⟨⟨mc, e, cap, gg, l1, lc, ld⟩, lX⟩ := id hR.2.2.2.2.1
  rw [zct_of e9 (by omega)] at l1 lX
  refine z_iload_n (i := 1) C dX1_measureRecord_0 rfl rfl ?_
  refine z_i2l C dX1_measureRecord_1 rfl ?_
  refine z_lconst (v := 0) C dX1_measureRecord_2 (by decide) ?_
  refine z_aload_n (i := 0) C dX1_measureRecord_3 rfl rfl ?_
  refine z_getf (ci := 0) (k := 0) C (hO) rfl rfl q570 dX1_measureRecord_4 ?_
  refine z_getfN (ci := 1) (k := 2) C (hR.1.1) rfl rfl q516 dX1_measureRecord_7 ?_
  refine z_callVe C (l1.1) rfl (ct_J2_size D B lm n _ _ l1.1) q1265 q931 q932 q87 q933 np_J2_size (zr_ok rfl rfl) rfl rfl (Nat.le_of_ble_eq_true rfl) (⟨Nat.le_of_ble_eq_true rfl, Nat.le_of_ble_eq_true rfl⟩) dX1_measureRecord_10 ?_
  refine z_seti e9.symm ?_
  refine z_iconst (v := 1) C dX1_measureRecord_13 (by decide) ?_
  refine z_isub C dX1_measureRecord_14 ?_
  refine z_i2l C dX1_measureRecord_15 rfl ?_
  refine z_callSe C (ct_X1_isBetween D B (x) 0 (S 8 - 1) 0 _ (by decide) rfl) q1220 q789 q83 q790 np_X1_isBetween (zr_ok rfl rfl) rfl rfl (Nat.le_of_ble_eq_true rfl) (⟨Nat.le_of_ble_eq_true rfl, Nat.le_of_ble_eq_true rfl⟩) dX1_measureRecord_16 ?_
  exact z_callS C (ct_X1_checkIndex_x D B _ (zb_eq.mpr h1)) q1311 q1312 q83 q1313 np_X1_checkIndex (zr_ok rfl rfl) rfl rfl (Nat.le_of_ble_eq_true rfl) (⟨Nat.le_of_ble_eq_true rfl, Nat.le_of_ble_eq_true rfl⟩) dX1_measureRecord_19 (fun E9 q9 G9 h9 => z_out C h9 (Nat.le_of_ble_eq_true rfl) (Nat.le_of_ble_eq_true rfl)) (fun v9 G9 h9 => h9.elim)
set_option maxHeartbeats 4000000 in
set_option maxRecDepth 100000 in
theorem ct_X1_measureRecord_y (D : zG) (B : Nat) {G : zH} (o : Nat) (v1 v2 v3 v4 v5 : Value) (χ : Nat → Nat) (c a lv ls lm fo pa su : Nat) (va sa ua ma ra : Nat → Nat) (rq : Nat) (S : Nat → Int32) (x k f l : Int32) (n : Nat) (hO : G o = some (.inr (0, [.ref a, v1, v2, v3, v4, v5]))) (hR : zTr G χ c a lv ls lm fo pa su va sa ua ma ra rq S) (g : zGe S) (hc : 100 ≤ c) (e9 : S 8 = nI n) (n9 : n ≤ 8) (h1 : 0 ≤ x ∧ x ≤ S 8 - 1) (h : ¬ (0 ≤ k ∧ k ≤ 4) ∨ ¬ ((0 ≤ f ∧ f ≤ 255) ∧ f ≤ l ∧ l ≤ 255)) : Ct D B yX1_measureRecord (ws_ yX1_measureRecord cX1_measureRecord 5 (some .long)) (zrc 9 3 16) [.ref o, .int x, .int k, .int f, .int l] G (zpF) (zpxE zIAE G) := by
  refine ct_intro (by decide +kernel) (Nat.le_of_ble_eq_true rfl) ?_
  intro X C
  obtain ⟨⟨mc, e, cap, gg, l1, lc, ld⟩, lX⟩ := id hR.2.2.2.2.1
  rw [zct_of e9 (by omega)] at l1 lX
  refine z_iload_n (i := 1) C dX1_measureRecord_0 rfl rfl ?_
  refine z_i2l C dX1_measureRecord_1 rfl ?_
  refine z_lconst (v := 0) C dX1_measureRecord_2 (by decide) ?_
  refine z_aload_n (i := 0) C dX1_measureRecord_3 rfl rfl ?_
  refine z_getf (ci := 0) (k := 0) C (hO) rfl rfl q570 dX1_measureRecord_4 ?_
  refine z_getfN (ci := 1) (k := 2) C (hR.1.1) rfl rfl q516 dX1_measureRecord_7 ?_
  refine z_callVe C (l1.1) rfl (ct_J2_size D B lm n _ _ l1.1) q1265 q931 q932 q87 q933 np_J2_size (zr_ok rfl rfl) rfl rfl (Nat.le_of_ble_eq_true rfl) (⟨Nat.le_of_ble_eq_true rfl, Nat.le_of_ble_eq_true rfl⟩) dX1_measureRecord_10 ?_
  refine z_seti e9.symm ?_
  refine z_iconst (v := 1) C dX1_measureRecord_13 (by decide) ?_
  refine z_isub C dX1_measureRecord_14 ?_
  refine z_i2l C dX1_measureRecord_15 rfl ?_
  refine z_callSe C (ct_X1_isBetween D B (x) 0 (S 8 - 1) 0 _ (by decide) rfl) q1220 q789 q83 q790 np_X1_isBetween (zr_ok rfl rfl) rfl rfl (Nat.le_of_ble_eq_true rfl) (⟨Nat.le_of_ble_eq_true rfl, Nat.le_of_ble_eq_true rfl⟩) dX1_measureRecord_16 ?_
  refine z_callSe C (ct_X1_checkIndex_ok D B _ (zb_ne.mpr h1)) q1311 q1312 q83 q1313 np_X1_checkIndex (zr_ok rfl rfl) rfl rfl (Nat.le_of_ble_eq_true rfl) (⟨Nat.le_of_ble_eq_true rfl, Nat.le_of_ble_eq_true rfl⟩) dX1_measureRecord_19 ?_
  refine z_iload_n (i := 2) C dX1_measureRecord_22 rfl rfl ?_
  refine z_callSe C (ct_X9_isNumber D B k) q1447 q1448 q117 q1449 np_X9_isNumber (zr_ok rfl rfl) rfl rfl (Nat.le_of_ble_eq_true rfl) (⟨Nat.le_of_ble_eq_true rfl, Nat.le_of_ble_eq_true rfl⟩) dX1_measureRecord_23 ?_
  refine z_if_eq (tgt := 42) C dX1_measureRecord_26 (by decide) (fun c_26 => ?_) (fun c_26 => ?_)
  · refine z_iconst (v := 0) C dX1_measureRecord_42 (by decide) ?_
    exact z_callS C (ct_X1_checkArgument_x D B _ (rfl)) q1221 q1222 q83 q1223 np_X1_checkArgument (zr_ok rfl rfl) rfl rfl (Nat.le_of_ble_eq_true rfl) (⟨Nat.le_of_ble_eq_true rfl, Nat.le_of_ble_eq_true rfl⟩) dX1_measureRecord_43 (fun E9 q9 G9 h9 => z_out C h9 (Nat.le_of_ble_eq_true rfl) (Nat.le_of_ble_eq_true rfl)) (fun v9 G9 h9 => h9.elim)
  · refine z_iload_n (i := 3) C dX1_measureRecord_29 rfl rfl ?_
    refine z_iload C dX1_measureRecord_30 rfl ?_
    refine z_callSe C (ct_X1_isWindow D B f l) q1462 q1463 q83 q1464 np_X1_isWindow (zr_ok rfl rfl) rfl rfl (Nat.le_of_ble_eq_true rfl) (⟨Nat.le_of_ble_eq_true rfl, Nat.le_of_ble_eq_true rfl⟩) dX1_measureRecord_32 ?_
    refine z_if_eq (tgt := 42) C dX1_measureRecord_35 (by decide) (fun c_35 => ?_) (fun c_35 => ?_)
    · refine z_iconst (v := 0) C dX1_measureRecord_42 (by decide) ?_
      exact z_callS C (ct_X1_checkArgument_x D B _ (rfl)) q1221 q1222 q83 q1223 np_X1_checkArgument (zr_ok rfl rfl) rfl rfl (Nat.le_of_ble_eq_true rfl) (⟨Nat.le_of_ble_eq_true rfl, Nat.le_of_ble_eq_true rfl⟩) dX1_measureRecord_43 (fun E9 q9 G9 h9 => z_out C h9 (Nat.le_of_ble_eq_true rfl) (Nat.le_of_ble_eq_true rfl)) (fun v9 G9 h9 => h9.elim)
    · exact absurd h (fun q9 => q9.elim (fun q8 => q8 (zb_ne.mp c_26)) (fun q8 => q8 (zb_ne.mp c_35)))
theorem np_X1_correlated : znp yX1_correlated 3 := ⟨by decide +kernel, by decide +kernel, by decide +kernel⟩
set_option maxHeartbeats 4000000 in
set_option maxRecDepth 100000 in
theorem ct_X1_correlation_ok (D : zG) (B : Nat) {G : zH} (o : Nat) (v1 v2 v3 v4 v5 : Value) (χ : Nat → Nat) (c a lv ls lm fo pa su : Nat) (va sa ua ma ra : Nat → Nat) (rq : Nat) (S : Nat → Int32) (k i n : Nat) (lag : Int32) (hO : G o = some (.inr (0, [.ref a, v1, v2, v3, v4, v5]))) (hR : zTr G χ c a lv ls lm fo pa su va sa ua ma ra rq S) (g : zGe S) (hc : 100 ≤ c) (e9 : S 8 = nI n) (n9 : n ≤ 8) (hk : k < 100) (h1 : 0 ≤ nI k ∧ nI k ≤ S 8 - 1) (hi : i < 100) (h3 : 0 ≤ nI i ∧ nI i ≤ S 8 - 1) (h : -255 ≤ lag ∧ lag ≤ 255) : Ct D B yX1_correlation (ws_ yX1_correlation cX1_correlation 6 (some .long)) (zr 8) [.ref o, .int (nI k), .int (nI i), .int lag] G (zpe (some (.long (zco S k i lag))) G) zno := by
  refine ct_intro (by decide +kernel) (Nat.le_of_ble_eq_true rfl) ?_
  intro X C
  have hk9 : k < n := zkn h1 e9 (by omega) (by omega)
  have hX := hR.2.2.2.2.1
  rw [zct_of e9 (by omega)] at hX
  obtain ⟨m1, wm, m2, m3⟩ := hX.2 k hk9
  have hi9 : i < n := zkn h3 e9 (by omega) (by omega)
  obtain ⟨i1, wi, i2, i3⟩ := hX.2 i hi9
  refine z_aload_n (i := 0) C dX1_correlation_0 rfl rfl ?_
  refine z_iload_n (i := 1) C dX1_correlation_1 rfl rfl ?_
  refine z_callVe C (hO) rfl (ct_X1_microphone_ok D B o v1 v2 v3 v4 v5 χ c a lv ls lm fo pa su va sa ua ma ra rq S k n hO hR g hc e9 n9 hk h1) q1375 q1377 qs19 q83 q1378 np_X1_microphone (zr_ok rfl rfl) rfl rfl (Nat.le_of_ble_eq_true rfl) (⟨Nat.le_of_ble_eq_true rfl, Nat.le_of_ble_eq_true rfl⟩) dX1_correlation_2 ?_
  refine z_astore C dX1_correlation_5 (Nat.le_of_ble_eq_true rfl) rfl ?_
  refine z_aload_n (i := 0) C dX1_correlation_7 rfl rfl ?_
  refine z_iload_n (i := 2) C dX1_correlation_8 rfl rfl ?_
  refine z_callVe C (hO) rfl (ct_X1_microphone_ok D B o v1 v2 v3 v4 v5 χ c a lv ls lm fo pa su va sa ua ma ra rq S i n hO hR g hc e9 n9 hi h3) q1375 q1377 qs19 q83 q1378 np_X1_microphone (zr_ok rfl rfl) rfl rfl (Nat.le_of_ble_eq_true rfl) (⟨Nat.le_of_ble_eq_true rfl, Nat.le_of_ble_eq_true rfl⟩) dX1_correlation_9 ?_
  refine z_astore C dX1_correlation_12 (Nat.le_of_ble_eq_true rfl) rfl ?_
  refine z_iload_n (i := 3) C dX1_correlation_14 rfl rfl ?_
  refine z_i2l C dX1_correlation_15 rfl ?_
  refine z_ldc2 C q1548 dX1_correlation_16 ?_
  refine z_ldc2 C q1398 dX1_correlation_19 ?_
  refine z_callSe C (ct_X1_isBetween D B (lag) (-255) (255) _ _ (by first | rfl | decide) (by first | rfl | decide)) q1220 q789 q83 q790 np_X1_isBetween (zr_ok rfl rfl) rfl rfl (Nat.le_of_ble_eq_true rfl) (⟨Nat.le_of_ble_eq_true rfl, Nat.le_of_ble_eq_true rfl⟩) dX1_correlation_22 ?_
  refine z_callSe C (ct_X1_checkArgument_ok D B _ (zb_ne.mpr h)) q1221 q1222 q83 q1223 np_X1_checkArgument (zr_ok rfl rfl) rfl rfl (Nat.le_of_ble_eq_true rfl) (⟨Nat.le_of_ble_eq_true rfl, Nat.le_of_ble_eq_true rfl⟩) dX1_correlation_25 ?_
  refine z_aload C dX1_correlation_28 rfl ?_
  refine z_aload C dX1_correlation_30 rfl ?_
  refine z_iload_n (i := 3) C dX1_correlation_32 rfl rfl ?_
  refine z_callSe C (ct_X1_correlated D B S (ma k) (ma i) (ra k) (ra i) k i lag wm wi m1.1 m2.1 m3 i1.1 i2.1 i3) q1549 q1550 q83 q1551 np_X1_correlated (zr_ok rfl rfl) rfl rfl (Nat.le_of_ble_eq_true rfl) (⟨Nat.le_of_ble_eq_true rfl, Nat.le_of_ble_eq_true rfl⟩) dX1_correlation_33 ?_
  exact z_lreturn C rfl dX1_correlation_36 (⟨rfl, rfl⟩) (Nat.le_of_ble_eq_true rfl) (Nat.le_of_ble_eq_true rfl)
set_option maxHeartbeats 4000000 in
set_option maxRecDepth 100000 in
theorem ct_X1_correlation_x (D : zG) (B : Nat) {G : zH} (o : Nat) (v1 v2 v3 v4 v5 : Value) (χ : Nat → Nat) (c a lv ls lm fo pa su : Nat) (va sa ua ma ra : Nat → Nat) (rq : Nat) (S : Nat → Int32) (x z y : Int32) (n : Nat) (hO : G o = some (.inr (0, [.ref a, v1, v2, v3, v4, v5]))) (hR : zTr G χ c a lv ls lm fo pa su va sa ua ma ra rq S) (g : zGe S) (hc : 100 ≤ c) (e9 : S 8 = nI n) (n9 : n ≤ 8) (h1 : ¬ (0 ≤ x ∧ x ≤ S 8 - 1)) : Ct D B yX1_correlation (ws_ yX1_correlation cX1_correlation 6 (some .long)) (zrc 8 1 6) [.ref o, .int x, .int z, .int y] G (zpF) (zpxE zIOB G) := by
  refine ct_intro (by decide +kernel) (Nat.le_of_ble_eq_true rfl) ?_
  intro X C
  refine z_aload_n (i := 0) C dX1_correlation_0 rfl rfl ?_
  refine z_iload_n (i := 1) C dX1_correlation_1 rfl rfl ?_
  exact z_callV C (hO) rfl (ct_X1_microphone_x D B o v1 v2 v3 v4 v5 χ c a lv ls lm fo pa su va sa ua ma ra rq S x n hO hR g hc e9 n9 h1) q1375 q1377 qs19 q83 q1378 np_X1_microphone (zr_ok rfl rfl) rfl rfl (Nat.le_of_ble_eq_true rfl) (⟨Nat.le_of_ble_eq_true rfl, Nat.le_of_ble_eq_true rfl⟩) dX1_correlation_2 (fun E9 q9 G9 h9 => z_out C h9 (Nat.le_of_ble_eq_true rfl) (Nat.le_of_ble_eq_true rfl)) (fun v9 G9 h9 => h9.elim)
set_option maxHeartbeats 4000000 in
set_option maxRecDepth 100000 in
theorem ct_X1_correlation_y (D : zG) (B : Nat) {G : zH} (o : Nat) (v1 v2 v3 v4 v5 : Value) (χ : Nat → Nat) (c a lv ls lm fo pa su : Nat) (va sa ua ma ra : Nat → Nat) (rq : Nat) (S : Nat → Int32) (k n : Nat) (z y : Int32) (hO : G o = some (.inr (0, [.ref a, v1, v2, v3, v4, v5]))) (hR : zTr G χ c a lv ls lm fo pa su va sa ua ma ra rq S) (g : zGe S) (hc : 100 ≤ c) (e9 : S 8 = nI n) (n9 : n ≤ 8) (hk : k < 100) (h1 : 0 ≤ nI k ∧ nI k ≤ S 8 - 1) (h3 : ¬ (0 ≤ z ∧ z ≤ S 8 - 1)) : Ct D B yX1_correlation (ws_ yX1_correlation cX1_correlation 6 (some .long)) (zrc 8 1 6) [.ref o, .int (nI k), .int z, .int y] G (zpF) (zpxE zIOB G) := by
  refine ct_intro (by decide +kernel) (Nat.le_of_ble_eq_true rfl) ?_
  intro X C
  refine z_aload_n (i := 0) C dX1_correlation_0 rfl rfl ?_
  refine z_iload_n (i := 1) C dX1_correlation_1 rfl rfl ?_
  refine z_callVe C (hO) rfl (ct_X1_microphone_ok D B o v1 v2 v3 v4 v5 χ c a lv ls lm fo pa su va sa ua ma ra rq S k n hO hR g hc e9 n9 hk h1) q1375 q1377 qs19 q83 q1378 np_X1_microphone (zr_ok rfl rfl) rfl rfl (Nat.le_of_ble_eq_true rfl) (⟨Nat.le_of_ble_eq_true rfl, Nat.le_of_ble_eq_true rfl⟩) dX1_correlation_2 ?_
  refine z_astore C dX1_correlation_5 (Nat.le_of_ble_eq_true rfl) rfl ?_
  refine z_aload_n (i := 0) C dX1_correlation_7 rfl rfl ?_
  refine z_iload_n (i := 2) C dX1_correlation_8 rfl rfl ?_
  exact z_callV C (hO) rfl (ct_X1_microphone_x D B o v1 v2 v3 v4 v5 χ c a lv ls lm fo pa su va sa ua ma ra rq S z n hO hR g hc e9 n9 h3) q1375 q1377 qs19 q83 q1378 np_X1_microphone (zr_ok rfl rfl) rfl rfl (Nat.le_of_ble_eq_true rfl) (⟨Nat.le_of_ble_eq_true rfl, Nat.le_of_ble_eq_true rfl⟩) dX1_correlation_9 (fun E9 q9 G9 h9 => z_out C h9 (Nat.le_of_ble_eq_true rfl) (Nat.le_of_ble_eq_true rfl)) (fun v9 G9 h9 => h9.elim)
set_option maxHeartbeats 4000000 in
set_option maxRecDepth 100000 in
theorem ct_X1_correlation_z (D : zG) (B : Nat) {G : zH} (o : Nat) (v1 v2 v3 v4 v5 : Value) (χ : Nat → Nat) (c a lv ls lm fo pa su : Nat) (va sa ua ma ra : Nat → Nat) (rq : Nat) (S : Nat → Int32) (k i n : Nat) (y : Int32) (hO : G o = some (.inr (0, [.ref a, v1, v2, v3, v4, v5]))) (hR : zTr G χ c a lv ls lm fo pa su va sa ua ma ra rq S) (g : zGe S) (hc : 100 ≤ c) (e9 : S 8 = nI n) (n9 : n ≤ 8) (hk : k < 100) (h1 : 0 ≤ nI k ∧ nI k ≤ S 8 - 1) (hi : i < 100) (h3 : 0 ≤ nI i ∧ nI i ≤ S 8 - 1) (h : ¬ (-255 ≤ y ∧ y ≤ 255)) : Ct D B yX1_correlation (ws_ yX1_correlation cX1_correlation 6 (some .long)) (zrc 8 1 6) [.ref o, .int (nI k), .int (nI i), .int y] G (zpF) (zpxE zIAE G) := by
  refine ct_intro (by decide +kernel) (Nat.le_of_ble_eq_true rfl) ?_
  intro X C
  refine z_aload_n (i := 0) C dX1_correlation_0 rfl rfl ?_
  refine z_iload_n (i := 1) C dX1_correlation_1 rfl rfl ?_
  refine z_callVe C (hO) rfl (ct_X1_microphone_ok D B o v1 v2 v3 v4 v5 χ c a lv ls lm fo pa su va sa ua ma ra rq S k n hO hR g hc e9 n9 hk h1) q1375 q1377 qs19 q83 q1378 np_X1_microphone (zr_ok rfl rfl) rfl rfl (Nat.le_of_ble_eq_true rfl) (⟨Nat.le_of_ble_eq_true rfl, Nat.le_of_ble_eq_true rfl⟩) dX1_correlation_2 ?_
  refine z_astore C dX1_correlation_5 (Nat.le_of_ble_eq_true rfl) rfl ?_
  refine z_aload_n (i := 0) C dX1_correlation_7 rfl rfl ?_
  refine z_iload_n (i := 2) C dX1_correlation_8 rfl rfl ?_
  refine z_callVe C (hO) rfl (ct_X1_microphone_ok D B o v1 v2 v3 v4 v5 χ c a lv ls lm fo pa su va sa ua ma ra rq S i n hO hR g hc e9 n9 hi h3) q1375 q1377 qs19 q83 q1378 np_X1_microphone (zr_ok rfl rfl) rfl rfl (Nat.le_of_ble_eq_true rfl) (⟨Nat.le_of_ble_eq_true rfl, Nat.le_of_ble_eq_true rfl⟩) dX1_correlation_9 ?_
  refine z_astore C dX1_correlation_12 (Nat.le_of_ble_eq_true rfl) rfl ?_
  refine z_iload_n (i := 3) C dX1_correlation_14 rfl rfl ?_
  refine z_i2l C dX1_correlation_15 rfl ?_
  refine z_ldc2 C q1548 dX1_correlation_16 ?_
  refine z_ldc2 C q1398 dX1_correlation_19 ?_
  refine z_callSe C (ct_X1_isBetween D B (y) (-255) (255) _ _ (by first | rfl | decide) (by first | rfl | decide)) q1220 q789 q83 q790 np_X1_isBetween (zr_ok rfl rfl) rfl rfl (Nat.le_of_ble_eq_true rfl) (⟨Nat.le_of_ble_eq_true rfl, Nat.le_of_ble_eq_true rfl⟩) dX1_correlation_22 ?_
  exact z_callS C (ct_X1_checkArgument_x D B _ (zb_eq.mpr h)) q1221 q1222 q83 q1223 np_X1_checkArgument (zr_ok rfl rfl) rfl rfl (Nat.le_of_ble_eq_true rfl) (⟨Nat.le_of_ble_eq_true rfl, Nat.le_of_ble_eq_true rfl⟩) dX1_correlation_25 (fun E9 q9 G9 h9 => z_out C h9 (Nat.le_of_ble_eq_true rfl) (Nat.le_of_ble_eq_true rfl)) (fun v9 G9 h9 => h9.elim)
theorem np_X1_bestAround : znp yX1_bestAround 2 := ⟨by decide +kernel, by decide +kernel, by decide +kernel⟩
set_option maxHeartbeats 4000000 in
set_option maxRecDepth 100000 in
theorem ct_X1_bestLag_x (D : zG) (B : Nat) {G : zH} (o : Nat) (v1 v2 v3 v4 v5 : Value) (χ : Nat → Nat) (c a lv ls lm fo pa su : Nat) (va sa ua ma ra : Nat → Nat) (rq : Nat) (S : Nat → Int32) (x z y : Int32) (n : Nat) (hO : G o = some (.inr (0, [.ref a, v1, v2, v3, v4, v5]))) (hR : zTr G χ c a lv ls lm fo pa su va sa ua ma ra rq S) (g : zGe S) (hc : 100 ≤ c) (e9 : S 8 = nI n) (n9 : n ≤ 8) (h1 : ¬ (0 ≤ x ∧ x ≤ S 8 - 1)) : Ct D B yX1_bestLag (ws_ yX1_bestLag cX1_bestLag 6 (some .int)) (zrc 8 1 6) [.ref o, .int x, .int z, .int y] G (zpF) (zpxE zIOB G) := by
  refine ct_intro (by decide +kernel) (Nat.le_of_ble_eq_true rfl) ?_
  intro X C
  refine z_aload_n (i := 0) C dX1_bestLag_0 rfl rfl ?_
  refine z_iload_n (i := 1) C dX1_bestLag_1 rfl rfl ?_
  exact z_callV C (hO) rfl (ct_X1_microphone_x D B o v1 v2 v3 v4 v5 χ c a lv ls lm fo pa su va sa ua ma ra rq S x n hO hR g hc e9 n9 h1) q1375 q1377 qs19 q83 q1378 np_X1_microphone (zr_ok rfl rfl) rfl rfl (Nat.le_of_ble_eq_true rfl) (⟨Nat.le_of_ble_eq_true rfl, Nat.le_of_ble_eq_true rfl⟩) dX1_bestLag_2 (fun E9 q9 G9 h9 => z_out C h9 (Nat.le_of_ble_eq_true rfl) (Nat.le_of_ble_eq_true rfl)) (fun v9 G9 h9 => h9.elim)
set_option maxHeartbeats 4000000 in
set_option maxRecDepth 100000 in
theorem ct_X1_bestLag_y (D : zG) (B : Nat) {G : zH} (o : Nat) (v1 v2 v3 v4 v5 : Value) (χ : Nat → Nat) (c a lv ls lm fo pa su : Nat) (va sa ua ma ra : Nat → Nat) (rq : Nat) (S : Nat → Int32) (k n : Nat) (z y : Int32) (hO : G o = some (.inr (0, [.ref a, v1, v2, v3, v4, v5]))) (hR : zTr G χ c a lv ls lm fo pa su va sa ua ma ra rq S) (g : zGe S) (hc : 100 ≤ c) (e9 : S 8 = nI n) (n9 : n ≤ 8) (hk : k < 100) (h1 : 0 ≤ nI k ∧ nI k ≤ S 8 - 1) (h3 : ¬ (0 ≤ z ∧ z ≤ S 8 - 1)) : Ct D B yX1_bestLag (ws_ yX1_bestLag cX1_bestLag 6 (some .int)) (zrc 8 1 6) [.ref o, .int (nI k), .int z, .int y] G (zpF) (zpxE zIOB G) := by
  refine ct_intro (by decide +kernel) (Nat.le_of_ble_eq_true rfl) ?_
  intro X C
  refine z_aload_n (i := 0) C dX1_bestLag_0 rfl rfl ?_
  refine z_iload_n (i := 1) C dX1_bestLag_1 rfl rfl ?_
  refine z_callVe C (hO) rfl (ct_X1_microphone_ok D B o v1 v2 v3 v4 v5 χ c a lv ls lm fo pa su va sa ua ma ra rq S k n hO hR g hc e9 n9 hk h1) q1375 q1377 qs19 q83 q1378 np_X1_microphone (zr_ok rfl rfl) rfl rfl (Nat.le_of_ble_eq_true rfl) (⟨Nat.le_of_ble_eq_true rfl, Nat.le_of_ble_eq_true rfl⟩) dX1_bestLag_2 ?_
  refine z_astore C dX1_bestLag_5 (Nat.le_of_ble_eq_true rfl) rfl ?_
  refine z_aload_n (i := 0) C dX1_bestLag_7 rfl rfl ?_
  refine z_iload_n (i := 2) C dX1_bestLag_8 rfl rfl ?_
  exact z_callV C (hO) rfl (ct_X1_microphone_x D B o v1 v2 v3 v4 v5 χ c a lv ls lm fo pa su va sa ua ma ra rq S z n hO hR g hc e9 n9 h3) q1375 q1377 qs19 q83 q1378 np_X1_microphone (zr_ok rfl rfl) rfl rfl (Nat.le_of_ble_eq_true rfl) (⟨Nat.le_of_ble_eq_true rfl, Nat.le_of_ble_eq_true rfl⟩) dX1_bestLag_9 (fun E9 q9 G9 h9 => z_out C h9 (Nat.le_of_ble_eq_true rfl) (Nat.le_of_ble_eq_true rfl)) (fun v9 G9 h9 => h9.elim)
set_option maxHeartbeats 4000000 in
set_option maxRecDepth 100000 in
theorem ct_X1_bestLag_z (D : zG) (B : Nat) {G : zH} (o : Nat) (v1 v2 v3 v4 v5 : Value) (χ : Nat → Nat) (c a lv ls lm fo pa su : Nat) (va sa ua ma ra : Nat → Nat) (rq : Nat) (S : Nat → Int32) (k i n : Nat) (y : Int32) (hO : G o = some (.inr (0, [.ref a, v1, v2, v3, v4, v5]))) (hR : zTr G χ c a lv ls lm fo pa su va sa ua ma ra rq S) (g : zGe S) (hc : 100 ≤ c) (e9 : S 8 = nI n) (n9 : n ≤ 8) (hk : k < 100) (h1 : 0 ≤ nI k ∧ nI k ≤ S 8 - 1) (hi : i < 100) (h3 : 0 ≤ nI i ∧ nI i ≤ S 8 - 1) (h : ¬ (0 ≤ y ∧ y ≤ 255)) : Ct D B yX1_bestLag (ws_ yX1_bestLag cX1_bestLag 6 (some .int)) (zrc 8 1 6) [.ref o, .int (nI k), .int (nI i), .int y] G (zpF) (zpxE zIAE G) := by
  refine ct_intro (by decide +kernel) (Nat.le_of_ble_eq_true rfl) ?_
  intro X C
  refine z_aload_n (i := 0) C dX1_bestLag_0 rfl rfl ?_
  refine z_iload_n (i := 1) C dX1_bestLag_1 rfl rfl ?_
  refine z_callVe C (hO) rfl (ct_X1_microphone_ok D B o v1 v2 v3 v4 v5 χ c a lv ls lm fo pa su va sa ua ma ra rq S k n hO hR g hc e9 n9 hk h1) q1375 q1377 qs19 q83 q1378 np_X1_microphone (zr_ok rfl rfl) rfl rfl (Nat.le_of_ble_eq_true rfl) (⟨Nat.le_of_ble_eq_true rfl, Nat.le_of_ble_eq_true rfl⟩) dX1_bestLag_2 ?_
  refine z_astore C dX1_bestLag_5 (Nat.le_of_ble_eq_true rfl) rfl ?_
  refine z_aload_n (i := 0) C dX1_bestLag_7 rfl rfl ?_
  refine z_iload_n (i := 2) C dX1_bestLag_8 rfl rfl ?_
  refine z_callVe C (hO) rfl (ct_X1_microphone_ok D B o v1 v2 v3 v4 v5 χ c a lv ls lm fo pa su va sa ua ma ra rq S i n hO hR g hc e9 n9 hi h3) q1375 q1377 qs19 q83 q1378 np_X1_microphone (zr_ok rfl rfl) rfl rfl (Nat.le_of_ble_eq_true rfl) (⟨Nat.le_of_ble_eq_true rfl, Nat.le_of_ble_eq_true rfl⟩) dX1_bestLag_9 ?_
  refine z_astore C dX1_bestLag_12 (Nat.le_of_ble_eq_true rfl) rfl ?_
  refine z_iload_n (i := 3) C dX1_bestLag_14 rfl rfl ?_
  refine z_i2l C dX1_bestLag_15 rfl ?_
  refine z_lconst (v := 0) C dX1_bestLag_16 (by decide) ?_
  refine z_ldc2 C q1398 dX1_bestLag_17 ?_
  refine z_callSe C (ct_X1_isBetween D B (y) (0) (255) _ _ (by first | rfl | decide) (by first | rfl | decide)) q1220 q789 q83 q790 np_X1_isBetween (zr_ok rfl rfl) rfl rfl (Nat.le_of_ble_eq_true rfl) (⟨Nat.le_of_ble_eq_true rfl, Nat.le_of_ble_eq_true rfl⟩) dX1_bestLag_20 ?_
  exact z_callS C (ct_X1_checkArgument_x D B _ (zb_eq.mpr h)) q1221 q1222 q83 q1223 np_X1_checkArgument (zr_ok rfl rfl) rfl rfl (Nat.le_of_ble_eq_true rfl) (⟨Nat.le_of_ble_eq_true rfl, Nat.le_of_ble_eq_true rfl⟩) dX1_bestLag_23 (fun E9 q9 G9 h9 => z_out C h9 (Nat.le_of_ble_eq_true rfl) (Nat.le_of_ble_eq_true rfl)) (fun v9 G9 h9 => h9.elim)
set_option maxHeartbeats 4000000 in
set_option maxRecDepth 100000 in
theorem ct_X1_lambda_bestLag_0 (D : zG) (B : Nat) {G : zH} (S : Nat → Int32) (m1 m2 q1 q2 m o : Nat) (lag : Int32) (w1 w2 : Nat → Int32) (h1 : G m1 = some (zMo S m q1)) (h2 : G q1 = some (.inl (0, 256, .inl w1))) (h3 : ∀ j, j < 256 → w1 j = S (186 + 256 * m + j)) (k1 : G m2 = some (zMo S o q2)) (k2 : G q2 = some (.inl (0, 256, .inl w2))) (k3 : ∀ j, j < 256 → w2 j = S (186 + 256 * o + j)) : Ct D B yX1_lambda_bestLag_0 (ws_ yX1_lambda_bestLag_0 cX1_lambda_bestLag_0 3 (some .long)) (zrL 14 32 110) [.ref m1, .ref m2, .int lag] G (zpe (some (.long (zco S m o lag))) G) zno := by
  refine ct_intro (by decide +kernel) (Nat.le_of_ble_eq_true rfl) ?_
  intro X C
  refine z_aload_n (i := 0) C dX1_lambda_bestLag_0_0 rfl rfl ?_
  refine z_aload_n (i := 1) C dX1_lambda_bestLag_0_1 rfl rfl ?_
  refine z_iload_n (i := 2) C dX1_lambda_bestLag_0_2 rfl rfl ?_
  refine z_callSe C (ct_X1_correlated D B S m1 m2 q1 q2 m o lag w1 w2 h1 h2 h3 k1 k2 k3) q1549 q1550 q83 q1551 np_X1_correlated (zr_ok rfl rfl) rfl rfl (Nat.le_of_ble_eq_true rfl) (⟨Nat.le_of_ble_eq_true rfl, Nat.le_of_ble_eq_true rfl⟩) dX1_lambda_bestLag_0_3 ?_
  exact z_lreturn C rfl dX1_lambda_bestLag_0_6 (⟨rfl, rfl⟩) (Nat.le_of_ble_eq_true rfl) (Nat.le_of_ble_eq_true rfl)
theorem zWo_lag {D : zG} {B : Nat} {G : zH} {q m1 m2 q1 q2 m o : Nat} {S w1 w2 : Nat → Int32} (h0 : G q = some (.inr (102, [.ref m1, .ref m2]))) (h1 : G m1 = some (zMo S m q1)) (h2 : G q1 = some (.inl (0, 256, .inl w1))) (h3 : ∀ j, j < 256 → w1 j = S (186 + 256 * m + j)) (k1 : G m2 = some (zMo S o q2)) (k2 : G q2 = some (.inl (0, 256, .inl w2))) (k3 : ∀ j, j < 256 → w2 j = S (186 + 256 * o + j)) :
    zWo D B "TrackArray$Worth" "of" q (fun G' => G' = G) (zco S m o) (fun _ => True) (zrL 14 32 110) 3 := by
  intro G' hG'
  subst hG'
  refine ⟨2, _, [.ref m1, .ref m2], yX1_lambda_bestLag_0, cX1_lambda_bestLag_0, _, rfl, rfl, rfl, h0, rfl, by decide +kernel, fun x9 _ => ?_, q83, q1566, ?_, (show Option.map (fun d => d.parameters.length) (parseMethodDescriptor "(LTrackArray$Microphone;LTrackArray$Microphone;I)J") = some 3 by decide +kernel), by decide, by decide⟩
  · exact ct_X1_lambda_bestLag_0 D B S m1 m2 q1 q2 m o x9 w1 w2 h1 h2 h3 k1 k2 k3
  · unfold zmT
    rw [if_pos (Or.inr rfl)]
    exact q1565
set_option maxHeartbeats 4000000 in
set_option maxRecDepth 100000 in
theorem ct_X1_bestLag_ok (D : zG) (B : Nat) {G : zH} (o : Nat) (v1 v2 v3 v4 v5 : Value) (χ : Nat → Nat) (c a lv ls lm fo pa su : Nat) (va sa ua ma ra : Nat → Nat) (rq : Nat) (S : Nat → Int32) (k i n : Nat) (y : Nat) (hO : G o = some (.inr (0, [.ref a, v1, v2, v3, v4, v5]))) (hR : zTr G χ c a lv ls lm fo pa su va sa ua ma ra rq S) (g : zGe S) (hc : 100 ≤ c) (e9 : S 8 = nI n) (n9 : n ≤ 8) (hk : k < 100) (h1 : 0 ≤ nI k ∧ nI k ≤ S 8 - 1) (hi : i < 100) (h3 : 0 ≤ nI i ∧ nI i ≤ S 8 - 1) (h : 0 ≤ nI y ∧ nI y ≤ 255) (hy : y < 256) : Ct D B yX1_bestLag (ws_ yX1_bestLag cX1_bestLag 6 (some .int)) (zrL 19 16420 56440) [.ref o, .int (nI k), .int (nI i), .int (nI y)] G (zpe (some (.int (zba (zco S k i) y))) G) zno := by
  refine ct_introN (by decide +kernel) (Nat.le_of_ble_eq_true rfl) ?_
  intro X C hN
  have hk9 : k < n := zkn h1 e9 (by omega) (by omega)
  have hX := hR.2.2.2.2.1
  rw [zct_of e9 (by omega)] at hX
  obtain ⟨m1, wm, m2, m3⟩ := hX.2 k hk9
  have hi9 : i < n := zkn h3 e9 (by omega) (by omega)
  obtain ⟨i1, wi, i2, i3⟩ := hX.2 i hi9
  refine z_aload_n (i := 0) C dX1_bestLag_0 rfl rfl ?_
  refine z_iload_n (i := 1) C dX1_bestLag_1 rfl rfl ?_
  refine z_callVe C (hO) rfl (ct_X1_microphone_ok D B o v1 v2 v3 v4 v5 χ c a lv ls lm fo pa su va sa ua ma ra rq S k n hO hR g hc e9 n9 hk h1) q1375 q1377 qs19 q83 q1378 np_X1_microphone (zr_ok rfl rfl) rfl rfl (Nat.le_of_ble_eq_true rfl) (⟨Nat.le_of_ble_eq_true rfl, Nat.le_of_ble_eq_true rfl⟩) dX1_bestLag_2 ?_
  refine z_astore C dX1_bestLag_5 (Nat.le_of_ble_eq_true rfl) rfl ?_
  refine z_aload_n (i := 0) C dX1_bestLag_7 rfl rfl ?_
  refine z_iload_n (i := 2) C dX1_bestLag_8 rfl rfl ?_
  refine z_callVe C (hO) rfl (ct_X1_microphone_ok D B o v1 v2 v3 v4 v5 χ c a lv ls lm fo pa su va sa ua ma ra rq S i n hO hR g hc e9 n9 hi h3) q1375 q1377 qs19 q83 q1378 np_X1_microphone (zr_ok rfl rfl) rfl rfl (Nat.le_of_ble_eq_true rfl) (⟨Nat.le_of_ble_eq_true rfl, Nat.le_of_ble_eq_true rfl⟩) dX1_bestLag_9 ?_
  refine z_astore C dX1_bestLag_12 (Nat.le_of_ble_eq_true rfl) rfl ?_
  refine z_iload_n (i := 3) C dX1_bestLag_14 rfl rfl ?_
  refine z_i2l C dX1_bestLag_15 rfl ?_
  refine z_lconst (v := 0) C dX1_bestLag_16 (by decide) ?_
  refine z_ldc2 C q1398 dX1_bestLag_17 ?_
  refine z_callSe C (ct_X1_isBetween D B (nI y) (0) (255) _ _ (by first | rfl | decide) (by first | rfl | decide)) q1220 q789 q83 q790 np_X1_isBetween (zr_ok rfl rfl) rfl rfl (Nat.le_of_ble_eq_true rfl) (⟨Nat.le_of_ble_eq_true rfl, Nat.le_of_ble_eq_true rfl⟩) dX1_bestLag_20 ?_
  refine z_callSe C (ct_X1_checkArgument_ok D B _ (zb_ne.mpr h)) q1221 q1222 q83 q1223 np_X1_checkArgument (zr_ok rfl rfl) rfl rfl (Nat.le_of_ble_eq_true rfl) (⟨Nat.le_of_ble_eq_true rfl, Nat.le_of_ble_eq_true rfl⟩) dX1_bestLag_23 ?_
  refine z_iload_n (i := 3) C dX1_bestLag_26 rfl rfl ?_
  refine z_aload C dX1_bestLag_27 rfl ?_
  refine z_aload C dX1_bestLag_29 rfl ?_
  refine z_indy (i := 2) C rfl hN rfl q2475 (vals := [.ref (ma k), .ref (ma i)]) (rest := [.int (nI y)]) rfl ⟨⟨rfl, rfl⟩, ⟨rfl, rfl⟩, trivial⟩ (Nat.le_of_ble_eq_true rfl) (Nat.le_of_ble_eq_true rfl) (Nat.le_of_ble_eq_true rfl) (Nat.le_of_ble_eq_true rfl) dX1_bestLag_31 ?_
  intro sg hsg hb
  refine z_callSn C (ct_X1_bestAround D B y sg 3 _ (zco S k i) (fun _ => True) (zWo_lag (B := B) zup_s ((zup_n (zne_of hsg m1.1)).trans m1.1) ((zup_n (zne_of hsg m2.1)).trans m2.1) m3 ((zup_n (zne_of hsg i1.1)).trans i1.1) ((zup_n (zne_of hsg i2.1)).trans i2.1) i3) rfl (fun _ _ => ⟨trivial, trivial⟩) hy (by decide)) q1567 q1568 q83 q1569 np_X1_bestAround (zr_ok rfl rfl) rfl rfl (Nat.le_of_ble_eq_true rfl) (⟨Nat.le_of_ble_eq_true rfl, Nat.le_of_ble_eq_true rfl⟩) dX1_bestLag_36 ?_
  intro v9 G9 h9
  obtain ⟨rfl, rfl⟩ := h9
  refine z_sub1 hsg ?_
  exact z_ireturn C rfl (rfl) dX1_bestLag_39 (⟨rfl, rfl⟩) (Nat.le_of_ble_eq_true rfl) (Nat.le_of_ble_eq_true rfl)
theorem np_X1_isPeriod : znp yX1_isPeriod 1 := ⟨by decide +kernel, by decide +kernel, by decide +kernel⟩
set_option maxHeartbeats 4000000 in
set_option maxRecDepth 100000 in
theorem ct_X1_periodPower_ok (D : zG) (B : Nat) {G : zH} (o : Nat) (v1 v2 v3 v4 v5 : Value) (χ : Nat → Nat) (c a lv ls lm fo pa su : Nat) (va sa ua ma ra : Nat → Nat) (rq : Nat) (S : Nat → Int32) (p f l : Nat) (nm : Nat) (hO : G o = some (.inr (0, [.ref a, v1, v2, v3, v4, v5]))) (hR : zTr G χ c a lv ls lm fo pa su va sa ua ma ra rq S) (g : zGe S) (hc : 100 ≤ c) (h2 : S 2 = 0 ∨ S 2 = 1) (h5 : S 5 = 0 ∨ S 5 = 1) (e8 : S 8 = nI nm) (n8 : nm ≤ 8) (hw : (0 ≤ nI f ∧ nI f ≤ 255) ∧ nI f ≤ nI l ∧ nI l ≤ 255) (hf : f ≤ l) (hl : l < 256) (hp0 : 1 ≤ nI p ∧ nI p ≤ 64) (hp1 : 1 ≤ p) (hp : p ≤ 64) (hZ : ∀ t, t ≤ l → zbL S (fun m j => zpa S m 0 j) nm t = (zbs S nm 0 t).toInt64) : Ct D B yX1_periodPower (ws_ yX1_periodPower cX1_periodPower 4 (some .long)) (zrL 12 33 110) [.ref o, .int (nI p), .int (nI f), .int (nI l)] G (fun r9 G9 => r9 = some (.long (zpw (zbs S nm 0) p f l)) ∧ ∃ χ9 : Nat → Nat, zkee (zPb c) G χ G9 χ9 ∧ zTr G9 χ9 c a lv ls lm fo pa su va sa ua ma ra rq S) zno := by
  refine ct_intro (by decide +kernel) (Nat.le_of_ble_eq_true rfl) ?_
  intro X C
  have hf0 : zo G χ 1 fo (zfE (upd S 12 (S 12 + 0)) va) := by rw [zfE_0]; exact hR.2.2.2.2.2.1
  refine z_iload_n (i := 1) C dX1_periodPower_0 rfl rfl ?_
  refine z_callSe C (ct_X1_isPeriod D B (nI p)) q1682 q1683 q83 q1684 np_X1_isPeriod (zr_ok rfl rfl) rfl rfl (Nat.le_of_ble_eq_true rfl) (⟨Nat.le_of_ble_eq_true rfl, Nat.le_of_ble_eq_true rfl⟩) dX1_periodPower_1 ?_
  refine z_iload_n (i := 2) C dX1_periodPower_4 rfl rfl ?_
  refine z_iload_n (i := 3) C dX1_periodPower_5 rfl rfl ?_
  refine z_callSe C (ct_X1_checkWindow_ok D B _ (nI f) (nI l) (zb_ne.mpr hp0) hw) q1672 q1673 q83 q1674 np_X1_checkWindow (zr_ok rfl rfl) rfl rfl (Nat.le_of_ble_eq_true rfl) (⟨Nat.le_of_ble_eq_true rfl, Nat.le_of_ble_eq_true rfl⟩) dX1_periodPower_6 ?_
  refine z_aload_n (i := 0) C dX1_periodPower_9 rfl rfl ?_
  refine z_getf (ci := 0) (k := 0) C (hO) rfl rfl q570 dX1_periodPower_10 ?_
  refine z_aload_n (i := 0) C dX1_periodPower_13 rfl rfl ?_
  refine z_getf (ci := 0) (k := 0) C (hO) rfl rfl q570 dX1_periodPower_14 ?_
  refine z_getfN (ci := 1) (k := 9) C (hR.1.1) rfl rfl q534 dX1_periodPower_17 ?_
  refine z_iload_n (i := 3) C dX1_periodPower_20 rfl rfl ?_
  refine z_callVn C (hR.1.1) rfl (ct_X2_beam D B χ c a lv ls lm fo pa su va sa ua ma ra rq S fo l nm (fun m j => zpa S m 0 j) hR hc e8 n8 hl (zlayF D B hR g hc e8 n8 hl ⟨by decide, by decide⟩ h2 h5 hf0)) q1657 q1658 q1659 q84 q1660 np_X2_beam (zr_ok rfl rfl) rfl rfl (Nat.le_of_ble_eq_true rfl) (⟨Nat.le_of_ble_eq_true rfl, Nat.le_of_ble_eq_true rfl⟩) dX1_periodPower_21 ?_
  intro v9 G9 h9
  obtain ⟨sg, rfl, χ9, w9, p9, K2, hsg, hs9, hw9, hp9⟩ := h9
  have t9 := hR.kpb g hc K2 hs9 hp9
  have hs := zSg_beam (D := D) (B := B) (N := l + 1) (f := zbs S nm 0) hsg t9.1.1 hs9.1 (by omega) (fun n hn => (hw9 n (by omega)).trans (hZ n (by omega)))
  refine z_iload_n (i := 1) C dX1_periodPower_24 rfl rfl ?_
  refine z_iload_n (i := 2) C dX1_periodPower_25 rfl rfl ?_
  refine z_iload_n (i := 3) C dX1_periodPower_26 rfl rfl ?_
  refine z_callSe C (ct_X1_power D B (zbs S nm 0) sg p f l (l + 1) hs hf (by omega) (by omega) hp1 hp) q1686 q1687 q83 q1688 np_X1_power (zr_ok rfl rfl) rfl rfl (Nat.le_of_ble_eq_true rfl) (⟨Nat.le_of_ble_eq_true rfl, Nat.le_of_ble_eq_true rfl⟩) dX1_periodPower_27 ?_
  exact z_lreturn C rfl dX1_periodPower_30 (⟨rfl, χ9, K2, t9⟩) (Nat.le_of_ble_eq_true rfl) (Nat.le_of_ble_eq_true rfl)
set_option maxHeartbeats 4000000 in
set_option maxRecDepth 100000 in
theorem ct_X1_periodPower_x (D : zG) (B : Nat) {G : zH} (o : Nat) (v1 v2 v3 v4 v5 : Value) (χ : Nat → Nat) (c a lv ls lm fo pa su : Nat) (va sa ua ma ra : Nat → Nat) (rq : Nat) (S : Nat → Int32) (x f l : Int32) (h : ¬ (1 ≤ x ∧ x ≤ 64) ∨ ¬ ((0 ≤ f ∧ f ≤ 255) ∧ f ≤ l ∧ l ≤ 255)) : Ct D B yX1_periodPower (ws_ yX1_periodPower cX1_periodPower 4 (some .long)) (zrc 8 3 16) [.ref o, .int x, .int f, .int l] G (zpF) (zpxE zIAE G) := by
  refine ct_intro (by decide +kernel) (Nat.le_of_ble_eq_true rfl) ?_
  intro X C
  refine z_iload_n (i := 1) C dX1_periodPower_0 rfl rfl ?_
  refine z_callSe C (ct_X1_isPeriod D B x) q1682 q1683 q83 q1684 np_X1_isPeriod (zr_ok rfl rfl) rfl rfl (Nat.le_of_ble_eq_true rfl) (⟨Nat.le_of_ble_eq_true rfl, Nat.le_of_ble_eq_true rfl⟩) dX1_periodPower_1 ?_
  refine z_iload_n (i := 2) C dX1_periodPower_4 rfl rfl ?_
  refine z_iload_n (i := 3) C dX1_periodPower_5 rfl rfl ?_
  exact z_callS C (ct_X1_checkWindow_x D B _ f l (h.imp zb_eq.mpr id)) q1672 q1673 q83 q1674 np_X1_checkWindow (zr_ok rfl rfl) rfl rfl (Nat.le_of_ble_eq_true rfl) (⟨Nat.le_of_ble_eq_true rfl, Nat.le_of_ble_eq_true rfl⟩) dX1_periodPower_6 (fun E9 q9 G9 h9 => z_out C h9 (Nat.le_of_ble_eq_true rfl) (Nat.le_of_ble_eq_true rfl)) (fun v9 G9 h9 => h9.elim)
theorem np_X1_strength : znp yX1_strength 4 := ⟨by decide +kernel, by decide +kernel, by decide +kernel⟩
set_option maxHeartbeats 4000000 in
set_option maxRecDepth 100000 in
theorem ct_X1_bestPeriod_x (D : zG) (B : Nat) {G : zH} (o : Nat) (v1 v2 v3 v4 v5 : Value) (χ : Nat → Nat) (c a lv ls lm fo pa su : Nat) (va sa ua ma ra : Nat → Nat) (rq : Nat) (S : Nat → Int32) (x f l : Int32) (h : ¬ (1 ≤ x ∧ x ≤ 64) ∨ ¬ ((0 ≤ f ∧ f ≤ 255) ∧ f ≤ l ∧ l ≤ 255)) : Ct D B yX1_bestPeriod (ws_ yX1_bestPeriod cX1_bestPeriod 11 (some .int)) (zrc 8 3 16) [.ref o, .int x, .int f, .int l] G (zpF) (zpxE zIAE G) := by
  refine ct_intro (by decide +kernel) (Nat.le_of_ble_eq_true rfl) ?_
  intro X C
  refine z_iload_n (i := 1) C dX1_bestPeriod_0 rfl rfl ?_
  refine z_callSe C (ct_X1_isPeriod D B x) q1682 q1683 q83 q1684 np_X1_isPeriod (zr_ok rfl rfl) rfl rfl (Nat.le_of_ble_eq_true rfl) (⟨Nat.le_of_ble_eq_true rfl, Nat.le_of_ble_eq_true rfl⟩) dX1_bestPeriod_1 ?_
  refine z_iload_n (i := 2) C dX1_bestPeriod_4 rfl rfl ?_
  refine z_iload_n (i := 3) C dX1_bestPeriod_5 rfl rfl ?_
  exact z_callS C (ct_X1_checkWindow_x D B _ f l (h.imp zb_eq.mpr id)) q1672 q1673 q83 q1674 np_X1_checkWindow (zr_ok rfl rfl) rfl rfl (Nat.le_of_ble_eq_true rfl) (⟨Nat.le_of_ble_eq_true rfl, Nat.le_of_ble_eq_true rfl⟩) dX1_bestPeriod_6 (fun E9 q9 G9 h9 => z_out C h9 (Nat.le_of_ble_eq_true rfl) (Nat.le_of_ble_eq_true rfl)) (fun v9 G9 h9 => h9.elim)
theorem np_X1_mean : znp yX1_mean 3 := ⟨by decide +kernel, by decide +kernel, by decide +kernel⟩
set_option maxHeartbeats 4000000 in
set_option maxRecDepth 100000 in
theorem ct_X1_meanPower_ok (D : zG) (B : Nat) {G : zH} (o : Nat) (v1 v2 v3 v4 v5 : Value) (χ : Nat → Nat) (c a lv ls lm fo pa su : Nat) (va sa ua ma ra : Nat → Nat) (rq : Nat) (S : Nat → Int32) (f l : Nat) (nm : Nat) (hO : G o = some (.inr (0, [.ref a, v1, v2, v3, v4, v5]))) (hR : zTr G χ c a lv ls lm fo pa su va sa ua ma ra rq S) (g : zGe S) (hc : 100 ≤ c) (h2 : S 2 = 0 ∨ S 2 = 1) (h5 : S 5 = 0 ∨ S 5 = 1) (e8 : S 8 = nI nm) (n8 : nm ≤ 8) (hw : (0 ≤ nI f ∧ nI f ≤ 255) ∧ nI f ≤ nI l ∧ nI l ≤ 255) (hf : f ≤ l) (hl : l < 256) (hF : vf_n64 (FP.ddiv (FP.l2d (zen (zbs S nm 0) f l)) (FP.i2d (nI (l + 1 - f))))) (hZ : ∀ t, t ≤ l → zbL S (fun m j => zpa S m 0 j) nm t = (zbs S nm 0 t).toInt64) : Ct D B yX1_meanPower (ws_ yX1_meanPower cX1_meanPower 3 (some .double)) (zrL 12 33 110) [.ref o, .int (nI f), .int (nI l)] G (fun r9 G9 => r9 = some (.double (FP.ddiv (FP.l2d (zen (zbs S nm 0) f l)) (FP.i2d (nI (l + 1 - f))))) ∧ ∃ χ9 : Nat → Nat, zkee (zPb c) G χ G9 χ9 ∧ zTr G9 χ9 c a lv ls lm fo pa su va sa ua ma ra rq S) zno := by
  refine ct_intro (by decide +kernel) (Nat.le_of_ble_eq_true rfl) ?_
  intro X C
  have hf0 : zo G χ 1 fo (zfE (upd S 12 (S 12 + 0)) va) := by rw [zfE_0]; exact hR.2.2.2.2.2.1
  refine z_iconst (v := 1) C dX1_meanPower_0 (by decide) ?_
  refine z_iload_n (i := 1) C dX1_meanPower_1 rfl rfl ?_
  refine z_iload_n (i := 2) C dX1_meanPower_2 rfl rfl ?_
  refine z_callSe C (ct_X1_checkWindow_ok D B _ (nI f) (nI l) (by decide) hw) q1672 q1673 q83 q1674 np_X1_checkWindow (zr_ok rfl rfl) rfl rfl (Nat.le_of_ble_eq_true rfl) (⟨Nat.le_of_ble_eq_true rfl, Nat.le_of_ble_eq_true rfl⟩) dX1_meanPower_3 ?_
  refine z_aload_n (i := 0) C dX1_meanPower_6 rfl rfl ?_
  refine z_getf (ci := 0) (k := 0) C (hO) rfl rfl q570 dX1_meanPower_7 ?_
  refine z_aload_n (i := 0) C dX1_meanPower_10 rfl rfl ?_
  refine z_getf (ci := 0) (k := 0) C (hO) rfl rfl q570 dX1_meanPower_11 ?_
  refine z_getfN (ci := 1) (k := 9) C (hR.1.1) rfl rfl q534 dX1_meanPower_14 ?_
  refine z_iload_n (i := 2) C dX1_meanPower_17 rfl rfl ?_
  refine z_callVn C (hR.1.1) rfl (ct_X2_beam D B χ c a lv ls lm fo pa su va sa ua ma ra rq S fo l nm (fun m j => zpa S m 0 j) hR hc e8 n8 hl (zlayF D B hR g hc e8 n8 hl ⟨by decide, by decide⟩ h2 h5 hf0)) q1657 q1658 q1659 q84 q1660 np_X2_beam (zr_ok rfl rfl) rfl rfl (Nat.le_of_ble_eq_true rfl) (⟨Nat.le_of_ble_eq_true rfl, Nat.le_of_ble_eq_true rfl⟩) dX1_meanPower_18 ?_
  intro v9 G9 h9
  obtain ⟨sg, rfl, χ9, w9, p9, K2, hsg, hs9, hw9, hp9⟩ := h9
  have t9 := hR.kpb g hc K2 hs9 hp9
  have hs := zSg_beam (D := D) (B := B) (N := l + 1) (f := zbs S nm 0) hsg t9.1.1 hs9.1 (by omega) (fun n hn => (hw9 n (by omega)).trans (hZ n (by omega)))
  refine z_iload_n (i := 1) C dX1_meanPower_21 rfl rfl ?_
  refine z_iload_n (i := 2) C dX1_meanPower_22 rfl rfl ?_
  refine z_callSe C (ct_X1_mean D B (zbs S nm 0) sg f l (l + 1) hs hf (by omega) (by omega) hF) q1775 q1776 q83 q1777 np_X1_mean (zr_ok rfl rfl) rfl rfl (Nat.le_of_ble_eq_true rfl) (⟨Nat.le_of_ble_eq_true rfl, Nat.le_of_ble_eq_true rfl⟩) dX1_meanPower_23 ?_
  exact z_dreturn C rfl dX1_meanPower_26 (⟨rfl, χ9, K2, t9⟩) (Nat.le_of_ble_eq_true rfl) (Nat.le_of_ble_eq_true rfl)
set_option maxHeartbeats 4000000 in
set_option maxRecDepth 100000 in
theorem ct_X1_meanPower_x (D : zG) (B : Nat) {G : zH} (o : Nat) (v1 v2 v3 v4 v5 : Value) (χ : Nat → Nat) (c a lv ls lm fo pa su : Nat) (va sa ua ma ra : Nat → Nat) (rq : Nat) (S : Nat → Int32) (f l : Int32) (h : ¬ ((0 ≤ f ∧ f ≤ 255) ∧ f ≤ l ∧ l ≤ 255)) : Ct D B yX1_meanPower (ws_ yX1_meanPower cX1_meanPower 3 (some .double)) (zrc 8 3 16) [.ref o, .int f, .int l] G (zpF) (zpxE zIAE G) := by
  refine ct_intro (by decide +kernel) (Nat.le_of_ble_eq_true rfl) ?_
  intro X C
  refine z_iconst (v := 1) C dX1_meanPower_0 (by decide) ?_
  refine z_iload_n (i := 1) C dX1_meanPower_1 rfl rfl ?_
  refine z_iload_n (i := 2) C dX1_meanPower_2 rfl rfl ?_
  exact z_callS C (ct_X1_checkWindow_x D B _ f l (Or.inr h)) q1672 q1673 q83 q1674 np_X1_checkWindow (zr_ok rfl rfl) rfl rfl (Nat.le_of_ble_eq_true rfl) (⟨Nat.le_of_ble_eq_true rfl, Nat.le_of_ble_eq_true rfl⟩) dX1_meanPower_3 (fun E9 q9 G9 h9 => z_out C h9 (Nat.le_of_ble_eq_true rfl) (Nat.le_of_ble_eq_true rfl)) (fun v9 G9 h9 => h9.elim)
theorem np_X2_energyBeside : znp yX2_energyBeside 3 := ⟨by decide +kernel, by decide +kernel, by decide +kernel⟩
set_option maxHeartbeats 4000000 in
set_option maxRecDepth 100000 in
theorem ct_X1_energyBeside_ok (D : zG) (B : Nat) {G : zH} (o : Nat) (v1 v2 v3 v4 v5 : Value) (χ : Nat → Nat) (c a lv ls lm fo pa su : Nat) (va sa ua ma ra : Nat → Nat) (rq : Nat) (S : Nat → Int32) (by_ : Int32) (f l : Nat) (nm : Nat) (hO : G o = some (.inr (0, [.ref a, v1, v2, v3, v4, v5]))) (hR : zTr G χ c a lv ls lm fo pa su va sa ua ma ra rq S) (g : zGe S) (hc : 100 ≤ c) (h2 : S 2 = 0 ∨ S 2 = 1) (h5 : S 5 = 0 ∨ S 5 = 1) (e8 : S 8 = nI nm) (n8 : nm ≤ 8) (hw : (0 ≤ nI f ∧ nI f ≤ 255) ∧ nI f ≤ nI l ∧ nI l ≤ 255) (hf : f ≤ l) (hl : l < 256) (hb0 : -2000 ≤ by_ ∧ by_ ≤ 2000) (hb : zin by_ (-2000) 2000) (hZ : ∀ t, t ≤ l → zbL S (fun m j => zpa S m by_ j) nm t = (zbs S nm by_ t).toInt64) : Ct D B yX1_energyBeside (ws_ yX1_energyBeside cX1_energyBeside 4 (some .long)) (zrL 13 33 110) [.ref o, .int by_, .int (nI f), .int (nI l)] G (fun r9 G9 => r9 = some (.long (zen (zbs S nm by_) f l)) ∧ ∃ χ9 : Nat → Nat, zkee (zPb c) G χ G9 χ9 ∧ zTr G9 χ9 c a lv ls lm fo pa su va sa ua ma ra rq S) zno := by
  refine ct_intro (by decide +kernel) (Nat.le_of_ble_eq_true rfl) ?_
  intro X C
  refine z_iload_n (i := 1) C dX1_energyBeside_0 rfl rfl ?_
  refine z_i2l C dX1_energyBeside_1 rfl ?_
  refine z_ldc2 C q1706 dX1_energyBeside_2 ?_
  refine z_ldc2 C q1707 dX1_energyBeside_5 ?_
  refine z_callSe C (ct_X1_isBetween D B (by_) (-2000) (2000) _ _ (by first | rfl | decide) (by first | rfl | decide)) q1220 q789 q83 q790 np_X1_isBetween (zr_ok rfl rfl) rfl rfl (Nat.le_of_ble_eq_true rfl) (⟨Nat.le_of_ble_eq_true rfl, Nat.le_of_ble_eq_true rfl⟩) dX1_energyBeside_8 ?_
  refine z_iload_n (i := 2) C dX1_energyBeside_11 rfl rfl ?_
  refine z_iload_n (i := 3) C dX1_energyBeside_12 rfl rfl ?_
  refine z_callSe C (ct_X1_checkWindow_ok D B _ (nI f) (nI l) (zb_ne.mpr hb0) hw) q1672 q1673 q83 q1674 np_X1_checkWindow (zr_ok rfl rfl) rfl rfl (Nat.le_of_ble_eq_true rfl) (⟨Nat.le_of_ble_eq_true rfl, Nat.le_of_ble_eq_true rfl⟩) dX1_energyBeside_13 ?_
  refine z_aload_n (i := 0) C dX1_energyBeside_16 rfl rfl ?_
  refine z_getf (ci := 0) (k := 0) C (hO) rfl rfl q570 dX1_energyBeside_17 ?_
  refine z_iload_n (i := 1) C dX1_energyBeside_20 rfl rfl ?_
  refine z_iload_n (i := 2) C dX1_energyBeside_21 rfl rfl ?_
  refine z_iload_n (i := 3) C dX1_energyBeside_22 rfl rfl ?_
  refine z_callVn C (hR.1.1) rfl (zeB D B χ c a lv ls lm fo pa su va sa ua ma ra rq S by_ f l nm hR g hc e8 n8 hf hl hb h2 h5 hZ) q1708 q1709 q1710 q84 q1711 np_X2_energyBeside (zr_ok rfl rfl) rfl rfl (Nat.le_of_ble_eq_true rfl) (⟨Nat.le_of_ble_eq_true rfl, Nat.le_of_ble_eq_true rfl⟩) dX1_energyBeside_23 ?_
  intro v9 G9 h9
  obtain ⟨rfl, χ9, K2, t9⟩ := h9
  exact z_lreturn C rfl dX1_energyBeside_26 (⟨rfl, χ9, K2, t9⟩) (Nat.le_of_ble_eq_true rfl) (Nat.le_of_ble_eq_true rfl)
set_option maxHeartbeats 4000000 in
set_option maxRecDepth 100000 in
theorem ct_X1_energyBeside_x (D : zG) (B : Nat) {G : zH} (o : Nat) (v1 v2 v3 v4 v5 : Value) (χ : Nat → Nat) (c a lv ls lm fo pa su : Nat) (va sa ua ma ra : Nat → Nat) (rq : Nat) (S : Nat → Int32) (x f l : Int32) (h : ¬ (-2000 ≤ x ∧ x ≤ 2000) ∨ ¬ ((0 ≤ f ∧ f ≤ 255) ∧ f ≤ l ∧ l ≤ 255)) : Ct D B yX1_energyBeside (ws_ yX1_energyBeside cX1_energyBeside 4 (some .long)) (zrc 8 3 16) [.ref o, .int x, .int f, .int l] G (zpF) (zpxE zIAE G) := by
  refine ct_intro (by decide +kernel) (Nat.le_of_ble_eq_true rfl) ?_
  intro X C
  refine z_iload_n (i := 1) C dX1_energyBeside_0 rfl rfl ?_
  refine z_i2l C dX1_energyBeside_1 rfl ?_
  refine z_ldc2 C q1706 dX1_energyBeside_2 ?_
  refine z_ldc2 C q1707 dX1_energyBeside_5 ?_
  refine z_callSe C (ct_X1_isBetween D B (x) (-2000) (2000) _ _ (by first | rfl | decide) (by first | rfl | decide)) q1220 q789 q83 q790 np_X1_isBetween (zr_ok rfl rfl) rfl rfl (Nat.le_of_ble_eq_true rfl) (⟨Nat.le_of_ble_eq_true rfl, Nat.le_of_ble_eq_true rfl⟩) dX1_energyBeside_8 ?_
  refine z_iload_n (i := 2) C dX1_energyBeside_11 rfl rfl ?_
  refine z_iload_n (i := 3) C dX1_energyBeside_12 rfl rfl ?_
  exact z_callS C (ct_X1_checkWindow_x D B _ f l (h.imp zb_eq.mpr id)) q1672 q1673 q83 q1674 np_X1_checkWindow (zr_ok rfl rfl) rfl rfl (Nat.le_of_ble_eq_true rfl) (⟨Nat.le_of_ble_eq_true rfl, Nat.le_of_ble_eq_true rfl⟩) dX1_energyBeside_13 (fun E9 q9 G9 h9 => z_out C h9 (Nat.le_of_ble_eq_true rfl) (Nat.le_of_ble_eq_true rfl)) (fun v9 G9 h9 => h9.elim)
set_option maxHeartbeats 4000000 in
set_option maxRecDepth 100000 in
theorem ct_X1_part_ok (D : zG) (B : Nat) {G : zH} (o : Nat) (v1 v2 v3 v4 v5 : Value) (χ : Nat → Nat) (c a lv ls lm fo pa su : Nat) (va sa ua ma ra : Nat → Nat) (rq : Nat) (S : Nat → Int32) (k j n : Nat) (hO : G o = some (.inr (0, [.ref a, v1, v2, v3, v4, v5]))) (hR : zTr G χ c a lv ls lm fo pa su va sa ua ma ra rq S) (g : zGe S) (hc : 100 ≤ c) (e9 : S 8 = nI n) (n9 : n ≤ 8) (hk : k < 100) (h1 : 0 ≤ nI k ∧ nI k ≤ S 8 - 1) (ht : 0 ≤ nI j ∧ nI j ≤ 255) (hj : j < 256) (h2 : S 2 = 0 ∨ S 2 = 1) (h5 : S 5 = 0 ∨ S 5 = 1) : Ct D B yX1_part (ws_ yX1_part cX1_part 4 (some .int)) (zr 8) [.ref o, .int (nI k), .int (nI j)] G (fun r9 G9 => r9 = some (.int (zpa S k 0 j)) ∧ ∃ χ9 : Nat → Nat, zkee (zPb c) G χ G9 χ9 ∧ zTr G9 χ9 c a lv ls lm fo pa su va sa ua ma ra rq S) zno := by
  refine ct_intro (by decide +kernel) (Nat.le_of_ble_eq_true rfl) ?_
  intro X C
  have hk9 : k < n := zkn h1 e9 (by omega) (by omega)
  have hX := hR.2.2.2.2.1
  rw [zct_of e9 (by omega)] at hX
  obtain ⟨m1, wm, m2, m3⟩ := hX.2 k hk9
  have hf0 : zo G χ 1 fo (zfE (upd S 12 (S 12 + 0)) va) := by rw [zfE_0]; exact hR.2.2.2.2.2.1
  obtain ⟨⟨p0, t7⟩, w0, t8⟩ := id hR.2.2.2.2.2.2
  have nps : ¬ su = pa := t8.ne t7.2 (by omega)
  refine z_aload_n (i := 0) C dX1_part_0 rfl rfl ?_
  refine z_iload_n (i := 1) C dX1_part_1 rfl rfl ?_
  refine z_callVe C (hO) rfl (ct_X1_microphone_ok D B o v1 v2 v3 v4 v5 χ c a lv ls lm fo pa su va sa ua ma ra rq S k n hO hR g hc e9 n9 hk h1) q1375 q1377 qs19 q83 q1378 np_X1_microphone (zr_ok rfl rfl) rfl rfl (Nat.le_of_ble_eq_true rfl) (⟨Nat.le_of_ble_eq_true rfl, Nat.le_of_ble_eq_true rfl⟩) dX1_part_2 ?_
  refine z_astore_n (i := 3) C dX1_part_5 rfl (Nat.le_of_ble_eq_true rfl) rfl ?_
  refine z_iload_n (i := 2) C dX1_part_6 rfl rfl ?_
  refine z_callSe C (ct_X1_checkTime_ok D B (nI j) ht) q1395 q1396 q83 q1397 np_X1_checkTime (zr_ok rfl rfl) rfl rfl (Nat.le_of_ble_eq_true rfl) (⟨Nat.le_of_ble_eq_true rfl, Nat.le_of_ble_eq_true rfl⟩) dX1_part_7 ?_
  refine z_aload_n (i := 0) C dX1_part_10 rfl rfl ?_
  refine z_getf (ci := 0) (k := 0) C (hO) rfl rfl q570 dX1_part_11 ?_
  refine z_aload_n (i := 3) C dX1_part_14 rfl rfl ?_
  refine z_aload_n (i := 0) C dX1_part_15 rfl rfl ?_
  refine z_getf (ci := 0) (k := 0) C (hO) rfl rfl q570 dX1_part_16 ?_
  refine z_getfN (ci := 1) (k := 9) C (hR.1.1) rfl rfl q534 dX1_part_19 ?_
  refine z_iload_n (i := 2) C dX1_part_22 rfl rfl ?_
  refine z_callVn C (hR.1.1) rfl (zlayF D B hR g hc e9 n9 hj ⟨by decide, by decide⟩ h2 h5 hf0 G χ zkee.refl k hk9 p0 t7.1) q1639 q1640 q1641 q84 q1642 np_X2_layParts (zr_ok rfl rfl) rfl rfl (Nat.le_of_ble_eq_true rfl) (⟨Nat.le_of_ble_eq_true rfl, Nat.le_of_ble_eq_true rfl⟩) dX1_part_23 ?_
  intro v9 G9 h9
  obtain ⟨rfl, pp, hpp, rfl⟩ := h9
  have K2 : zkee (zPb c) G χ (zup G pa (.inl (0, 256, .inl pp))) χ := zkee.put t7.2 (fun h => h.2.1 rfl)
  have t9 := hR.kpb g hc K2 ⟨(zup_n nps).trans t8.1, t8.2⟩ ⟨zup_s, t7.2⟩
  refine z_aload_n (i := 0) C dX1_part_26 rfl rfl ?_
  refine z_getf (ci := 0) (k := 0) C ((zup_n (fun z => by rw [z, t7.1] at hO; cases hO)).trans hO) rfl rfl q570 dX1_part_27 ?_
  refine z_getfN (ci := 1) (k := 11) C (t9.1.1) rfl rfl q538 dX1_part_30 ?_
  refine z_iload_n (i := 2) C dX1_part_33 rfl rfl ?_
  refine zj_iald C zup_s (zixI rfl hj) (by decide) dX1_part_34 ?_
  refine z_seti (hpp j (Nat.le_refl _)) ?_
  exact z_ireturn C rfl (rfl) dX1_part_35 (⟨rfl, χ, K2, t9⟩) (Nat.le_of_ble_eq_true rfl) (Nat.le_of_ble_eq_true rfl)
set_option maxHeartbeats 4000000 in
set_option maxRecDepth 100000 in
theorem ct_X1_sampleNumber_d (D : zG) (B : Nat) {G : zH} (o : Nat) (v1 v2 v3 v4 v5 : Value) (χ : Nat → Nat) (c a lv ls lm fo pa su : Nat) (va sa ua ma ra : Nat → Nat) (rq : Nat) (S : Nat → Int32) (k j n : Nat) (hO : G o = some (.inr (0, [.ref a, v1, v2, v3, v4, v5]))) (hR : zTr G χ c a lv ls lm fo pa su va sa ua ma ra rq S) (g : zGe S) (hc : 100 ≤ c) (e9 : S 8 = nI n) (n9 : n ≤ 8) (hk : k < 100) (h1 : 0 ≤ nI k ∧ nI k ≤ S 8 - 1) (ht : 0 ≤ nI j ∧ nI j ≤ 255) (hj : j < 256) (hd : S 10 = 2) : Ct D B yX1_sampleNumber (ws_ yX1_sampleNumber cX1_sampleNumber 4 (some .int)) (zr 8) [.ref o, .int (nI k), .int (nI j)] G (zpe (some (.int (nI j + zsh S k (S 12)))) G) zno := by
  refine ct_intro (by decide +kernel) (Nat.le_of_ble_eq_true rfl) ?_
  intro X C
  have hk9 : k < n := zkn h1 e9 (by omega) (by omega)
  have hX := hR.2.2.2.2.1
  rw [zct_of e9 (by omega)] at hX
  obtain ⟨m1, wm, m2, m3⟩ := hX.2 k hk9
  have hf0 : zo G χ 1 fo (zfE (upd S 12 (S 12 + 0)) va) := by rw [zfE_0]; exact hR.2.2.2.2.2.1
  have hdi := zFo_dir hd hf0
  rw [Int32.add_zero] at hdi
  refine z_aload_n (i := 0) C dX1_sampleNumber_0 rfl rfl ?_
  refine z_iload_n (i := 1) C dX1_sampleNumber_1 rfl rfl ?_
  refine z_callVe C (hO) rfl (ct_X1_microphone_ok D B o v1 v2 v3 v4 v5 χ c a lv ls lm fo pa su va sa ua ma ra rq S k n hO hR g hc e9 n9 hk h1) q1375 q1377 qs19 q83 q1378 np_X1_microphone (zr_ok rfl rfl) rfl rfl (Nat.le_of_ble_eq_true rfl) (⟨Nat.le_of_ble_eq_true rfl, Nat.le_of_ble_eq_true rfl⟩) dX1_sampleNumber_2 ?_
  refine z_astore_n (i := 3) C dX1_sampleNumber_5 rfl (Nat.le_of_ble_eq_true rfl) rfl ?_
  refine z_iload_n (i := 2) C dX1_sampleNumber_6 rfl rfl ?_
  refine z_callSe C (ct_X1_checkTime_ok D B (nI j) ht) q1395 q1396 q83 q1397 np_X1_checkTime (zr_ok rfl rfl) rfl rfl (Nat.le_of_ble_eq_true rfl) (⟨Nat.le_of_ble_eq_true rfl, Nat.le_of_ble_eq_true rfl⟩) dX1_sampleNumber_7 ?_
  refine z_aload_n (i := 0) C dX1_sampleNumber_10 rfl rfl ?_
  refine z_getf (ci := 0) (k := 0) C (hO) rfl rfl q570 dX1_sampleNumber_11 ?_
  refine z_aload_n (i := 3) C dX1_sampleNumber_14 rfl rfl ?_
  refine z_aload_n (i := 0) C dX1_sampleNumber_15 rfl rfl ?_
  refine z_getf (ci := 0) (k := 0) C (hO) rfl rfl q570 dX1_sampleNumber_16 ?_
  refine z_getfN (ci := 1) (k := 9) C (hR.1.1) rfl rfl q534 dX1_sampleNumber_19 ?_
  refine z_iload_n (i := 2) C dX1_sampleNumber_22 rfl rfl ?_
  refine z_callVe C (hR.1.1) rfl (ct_X2_sampleNumber_d D B a lv ls lm fo pa su rq S (ma k) k (ra k) fo (S 12) (nI j) hR.1.1 m1.1 hdi g) q1619 q1620 q1621 q84 q1622 np_X2_sampleNumber (zr_ok rfl rfl) rfl rfl (Nat.le_of_ble_eq_true rfl) (⟨Nat.le_of_ble_eq_true rfl, Nat.le_of_ble_eq_true rfl⟩) dX1_sampleNumber_23 ?_
  exact z_ireturn C rfl (rfl) dX1_sampleNumber_26 (⟨rfl, rfl⟩) (Nat.le_of_ble_eq_true rfl) (Nat.le_of_ble_eq_true rfl)
set_option maxHeartbeats 4000000 in
set_option maxRecDepth 100000 in
theorem ct_X1_sampleNumber_p (D : zG) (B : Nat) {G : zH} (o : Nat) (v1 v2 v3 v4 v5 : Value) (χ : Nat → Nat) (c a lv ls lm fo pa su : Nat) (va sa ua ma ra : Nat → Nat) (rq : Nat) (S : Nat → Int32) (k j n : Nat) (hO : G o = some (.inr (0, [.ref a, v1, v2, v3, v4, v5]))) (hR : zTr G χ c a lv ls lm fo pa su va sa ua ma ra rq S) (g : zGe S) (hc : 100 ≤ c) (e9 : S 8 = nI n) (n9 : n ≤ 8) (hk : k < 100) (h1 : 0 ≤ nI k ∧ nI k ≤ S 8 - 1) (ht : 0 ≤ nI j ∧ nI j ≤ 255) (hj : j < 256) (hd : ¬ S 10 = 2) : Ct D B yX1_sampleNumber (ws_ yX1_sampleNumber cX1_sampleNumber 4 (some .int)) (zr 8) [.ref o, .int (nI k), .int (nI j)] G (zpe (some (.int (zfs S (nI j * S 0 + zfdd S k 0 0 j)))) G) zno := by
  refine ct_intro (by decide +kernel) (Nat.le_of_ble_eq_true rfl) ?_
  intro X C
  have hk9 : k < n := zkn h1 e9 (by omega) (by omega)
  have hX := hR.2.2.2.2.1
  rw [zct_of e9 (by omega)] at hX
  obtain ⟨m1, wm, m2, m3⟩ := hX.2 k hk9
  have hf0 : zo G χ 1 fo (zfE (upd S 12 (S 12 + 0)) va) := by rw [zfE_0]; exact hR.2.2.2.2.2.1
  have hpl : zFc G fo S 0 := zFo_place g hd hf0 (fun k9 h9 h69 => by
    obtain ⟨nv, nv4, ev⟩ := g.nv
    have t3 := hR.2.2.1
    rw [zct_of ev (by omega)] at t3
    rw [ev] at h69
    exact t3.2 k9 ((nI_ltI (by omega) (by omega)).mp h69))
  refine z_aload_n (i := 0) C dX1_sampleNumber_0 rfl rfl ?_
  refine z_iload_n (i := 1) C dX1_sampleNumber_1 rfl rfl ?_
  refine z_callVe C (hO) rfl (ct_X1_microphone_ok D B o v1 v2 v3 v4 v5 χ c a lv ls lm fo pa su va sa ua ma ra rq S k n hO hR g hc e9 n9 hk h1) q1375 q1377 qs19 q83 q1378 np_X1_microphone (zr_ok rfl rfl) rfl rfl (Nat.le_of_ble_eq_true rfl) (⟨Nat.le_of_ble_eq_true rfl, Nat.le_of_ble_eq_true rfl⟩) dX1_sampleNumber_2 ?_
  refine z_astore_n (i := 3) C dX1_sampleNumber_5 rfl (Nat.le_of_ble_eq_true rfl) rfl ?_
  refine z_iload_n (i := 2) C dX1_sampleNumber_6 rfl rfl ?_
  refine z_callSe C (ct_X1_checkTime_ok D B (nI j) ht) q1395 q1396 q83 q1397 np_X1_checkTime (zr_ok rfl rfl) rfl rfl (Nat.le_of_ble_eq_true rfl) (⟨Nat.le_of_ble_eq_true rfl, Nat.le_of_ble_eq_true rfl⟩) dX1_sampleNumber_7 ?_
  refine z_aload_n (i := 0) C dX1_sampleNumber_10 rfl rfl ?_
  refine z_getf (ci := 0) (k := 0) C (hO) rfl rfl q570 dX1_sampleNumber_11 ?_
  refine z_aload_n (i := 3) C dX1_sampleNumber_14 rfl rfl ?_
  refine z_aload_n (i := 0) C dX1_sampleNumber_15 rfl rfl ?_
  refine z_getf (ci := 0) (k := 0) C (hO) rfl rfl q570 dX1_sampleNumber_16 ?_
  refine z_getfN (ci := 1) (k := 9) C (hR.1.1) rfl rfl q534 dX1_sampleNumber_19 ?_
  refine z_iload_n (i := 2) C dX1_sampleNumber_22 rfl rfl ?_
  refine z_callVe C (hR.1.1) rfl (ct_X2_sampleNumber_p D B a lv ls lm fo pa su rq S (ma k) k (ra k) fo (zfv S) (S 12 + 0) (zfy S) (S 14) j hR.1.1 m1.1 hpl (zfdok g (by omega) hj ⟨by decide, by decide⟩ 0) g) q1619 q1620 q1621 q84 q1622 np_X2_sampleNumber (zr_ok rfl rfl) rfl rfl (Nat.le_of_ble_eq_true rfl) (⟨Nat.le_of_ble_eq_true rfl, Nat.le_of_ble_eq_true rfl⟩) dX1_sampleNumber_23 ?_
  refine z_seti (y := zfs S (nI j * S 0 + zfdd S k 0 0 j)) (by rw [zdr_fdd]) ?_
  exact z_ireturn C rfl (rfl) dX1_sampleNumber_26 (⟨rfl, rfl⟩) (Nat.le_of_ble_eq_true rfl) (Nat.le_of_ble_eq_true rfl)
