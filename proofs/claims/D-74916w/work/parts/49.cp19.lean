/-! component: adding, counting, looking -/
theorem np_X1_checkState : znp yX1_checkState 1 := ⟨by decide +kernel, by decide +kernel, by decide +kernel⟩
theorem np_X2_addVehicle : znp yX2_addVehicle 3 := ⟨by decide +kernel, by decide +kernel, by decide +kernel⟩
set_option maxHeartbeats 4000000 in
set_option maxRecDepth 100000 in
theorem ct_X1_addVehicle_ok (D : zG) (B : Nat) {G : zH} (o : Nat) (v1 v2 v3 v4 v5 : Value) (χ : Nat → Nat) (c a lv ls lm fo pa su : Nat) (va sa ua ma ra : Nat → Nat) (rq : Nat) (S : Nat → Int32) (x s y : Int32) (n : Nat) (hO : G o = some (.inr (0, [.ref a, v1, v2, v3, v4, v5]))) (hR : zTr G χ c a lv ls lm fo pa su va sa ua ma ra rq S) (g : zGe S) (hc : 100 ≤ c) (h : (-20000 ≤ x ∧ x ≤ 20000) ∧ (-50 ≤ s ∧ s ≤ 50) ∧ 100 ≤ y ∧ y ≤ 5000) (hn : S 6 = nI n) (hn4 : n < 4) : Ct D B yX1_addVehicle (ws_ yX1_addVehicle cX1_addVehicle 4 (some .int)) (zrc 9 2 27) [.ref o, .int x, .int s, .int y] G (fun r9 G9 => r9 = some (.int (nI n)) ∧ ∃ (χ9 va9 : Nat → Nat), zkee (fun k => k ≠ c + 1 ∧ k ≠ c + 4) G χ G9 χ9 ∧ zTr G9 χ9 c a lv ls lm fo pa su va9 sa ua ma ra rq (zaV S n x s y)) zno := by
  refine ct_intro (by decide +kernel) (Nat.le_of_ble_eq_true rfl) ?_
  intro X C
  obtain ⟨⟨mc, e, cap, gg, l1, lc, ld⟩, lX⟩ := id hR.2.2.1
  rw [zct_of hn (by omega)] at l1 lX
  refine z_iload_n (i := 1) C dX1_addVehicle_0 rfl rfl ?_
  refine z_i2l C dX1_addVehicle_1 rfl ?_
  refine z_ldc2 C q1260 dX1_addVehicle_2 ?_
  refine z_ldc2 C q1261 dX1_addVehicle_5 ?_
  refine z_callSe C (ct_X1_isBetween D B (x) (-20000) (20000) _ _ (by first | rfl | decide) (by first | rfl | decide)) q1220 q789 q83 q790 np_X1_isBetween (zr_ok rfl rfl) rfl rfl (Nat.le_of_ble_eq_true rfl) (⟨Nat.le_of_ble_eq_true rfl, Nat.le_of_ble_eq_true rfl⟩) dX1_addVehicle_8 ?_
  refine z_if_eq (tgt := 46) C dX1_addVehicle_11 (by decide) (fun c_11 => ?_) (fun c_11 => ?_)
  · exact absurd h.1 (zb_eq.mp c_11)
  · refine z_iload_n (i := 2) C dX1_addVehicle_14 rfl rfl ?_
    refine z_i2l C dX1_addVehicle_15 rfl ?_
    refine z_ldc2 C q1262 dX1_addVehicle_16 ?_
    refine z_ldc2 C q1263 dX1_addVehicle_19 ?_
    refine z_callSe C (ct_X1_isBetween D B (s) (-50) (50) _ _ (by first | rfl | decide) (by first | rfl | decide)) q1220 q789 q83 q790 np_X1_isBetween (zr_ok rfl rfl) rfl rfl (Nat.le_of_ble_eq_true rfl) (⟨Nat.le_of_ble_eq_true rfl, Nat.le_of_ble_eq_true rfl⟩) dX1_addVehicle_22 ?_
    refine z_if_eq (tgt := 46) C dX1_addVehicle_25 (by decide) (fun c_25 => ?_) (fun c_25 => ?_)
    · exact absurd h.2.1 (zb_eq.mp c_25)
    · refine z_iload_n (i := 3) C dX1_addVehicle_28 rfl rfl ?_
      refine z_i2l C dX1_addVehicle_29 rfl ?_
      refine z_ldc2 C q1218 dX1_addVehicle_30 ?_
      refine z_ldc2 C q1264 dX1_addVehicle_33 ?_
      refine z_callSe C (ct_X1_isBetween D B (y) (100) (5000) _ _ (by first | rfl | decide) (by first | rfl | decide)) q1220 q789 q83 q790 np_X1_isBetween (zr_ok rfl rfl) rfl rfl (Nat.le_of_ble_eq_true rfl) (⟨Nat.le_of_ble_eq_true rfl, Nat.le_of_ble_eq_true rfl⟩) dX1_addVehicle_36 ?_
      refine z_if_eq (tgt := 46) C dX1_addVehicle_39 (by decide) (fun c_39 => ?_) (fun c_39 => ?_)
      · exact absurd h.2.2 (zb_eq.mp c_39)
      · refine z_iconst (v := 1) C dX1_addVehicle_42 (by decide) ?_
        refine z_goto (tgt := 47) C dX1_addVehicle_43 (by decide) ?_
        refine z_callSe C (ct_X1_checkArgument_ok D B _ (by decide)) q1221 q1222 q83 q1223 np_X1_checkArgument (zr_ok rfl rfl) rfl rfl (Nat.le_of_ble_eq_true rfl) (⟨Nat.le_of_ble_eq_true rfl, Nat.le_of_ble_eq_true rfl⟩) dX1_addVehicle_47 ?_
        refine z_aload_n (i := 0) C dX1_addVehicle_50 rfl rfl ?_
        refine z_getf (ci := 0) (k := 0) C (hO) rfl rfl q570 dX1_addVehicle_51 ?_
        refine z_getfN (ci := 1) (k := 0) C (hR.1.1) rfl rfl q510 dX1_addVehicle_54 ?_
        refine z_callVe C (l1.1) rfl (ct_J2_size D B lv n _ _ l1.1) q1265 q931 q932 q87 q933 np_J2_size (zr_ok rfl rfl) rfl rfl (Nat.le_of_ble_eq_true rfl) (⟨Nat.le_of_ble_eq_true rfl, Nat.le_of_ble_eq_true rfl⟩) dX1_addVehicle_57 ?_
        refine z_iconst (v := 4) C dX1_addVehicle_60 (by decide) ?_
        refine z_icmp_ge (tgt := 68) C dX1_addVehicle_61 (by decide) (fun c_61 => ?_) (fun c_61 => ?_)
        · exact absurd c_61 (Int32.not_le.mpr (nI_lt (b := 4) hn4 (by decide)))
        · refine z_iconst (v := 1) C dX1_addVehicle_64 (by decide) ?_
          refine z_goto (tgt := 69) C dX1_addVehicle_65 (by decide) ?_
          refine z_callSe C (ct_X1_checkState_ok D B _ (by decide)) q1266 q1267 q83 q1268 np_X1_checkState (zr_ok rfl rfl) rfl rfl (Nat.le_of_ble_eq_true rfl) (⟨Nat.le_of_ble_eq_true rfl, Nat.le_of_ble_eq_true rfl⟩) dX1_addVehicle_69 ?_
          refine z_aload_n (i := 0) C dX1_addVehicle_72 rfl rfl ?_
          refine z_getf (ci := 0) (k := 0) C (hO) rfl rfl q570 dX1_addVehicle_73 ?_
          refine z_iload_n (i := 1) C dX1_addVehicle_76 rfl rfl ?_
          refine z_iload_n (i := 2) C dX1_addVehicle_77 rfl rfl ?_
          refine z_iload_n (i := 3) C dX1_addVehicle_78 rfl rfl ?_
          refine z_callVn C (hR.1.1) rfl (ct_X2_addVehicle D B χ c a lv ls lm fo pa su va sa ua ma ra rq S x s y n hR g hc hn hn4) q1284 q1110 q1111 q84 q1112 np_X2_addVehicle (zr_ok rfl rfl) rfl rfl (Nat.le_of_ble_eq_true rfl) (⟨Nat.le_of_ble_eq_true rfl, Nat.le_of_ble_eq_true rfl⟩) dX1_addVehicle_79 ?_
          intro v9 G9 h9
          obtain ⟨rfl, χ9, va9, K9, t9⟩ := h9
          exact z_ireturn C rfl (rfl) dX1_addVehicle_82 (⟨rfl, χ9, va9, K9, t9⟩) (Nat.le_of_ble_eq_true rfl) (Nat.le_of_ble_eq_true rfl)
set_option maxHeartbeats 4000000 in
set_option maxRecDepth 100000 in
theorem ct_X1_addVehicle_x (D : zG) (B : Nat) {G : zH} (o : Nat) (v1 v2 v3 v4 v5 : Value) (χ : Nat → Nat) (c a lv ls lm fo pa su : Nat) (va sa ua ma ra : Nat → Nat) (rq : Nat) (S : Nat → Int32) (x s y : Int32) (h : ¬ ((-20000 ≤ x ∧ x ≤ 20000) ∧ (-50 ≤ s ∧ s ≤ 50) ∧ 100 ≤ y ∧ y ≤ 5000)) : Ct D B yX1_addVehicle (ws_ yX1_addVehicle cX1_addVehicle 4 (some .int)) (zrc 9 1 6) [.ref o, .int x, .int s, .int y] G (zpF) (zpxE zIAE G) := by
  refine ct_intro (by decide +kernel) (Nat.le_of_ble_eq_true rfl) ?_
  intro X C
  refine z_iload_n (i := 1) C dX1_addVehicle_0 rfl rfl ?_
  refine z_i2l C dX1_addVehicle_1 rfl ?_
  refine z_ldc2 C q1260 dX1_addVehicle_2 ?_
  refine z_ldc2 C q1261 dX1_addVehicle_5 ?_
  refine z_callSe C (ct_X1_isBetween D B (x) (-20000) (20000) _ _ (by first | rfl | decide) (by first | rfl | decide)) q1220 q789 q83 q790 np_X1_isBetween (zr_ok rfl rfl) rfl rfl (Nat.le_of_ble_eq_true rfl) (⟨Nat.le_of_ble_eq_true rfl, Nat.le_of_ble_eq_true rfl⟩) dX1_addVehicle_8 ?_
  refine z_if_eq (tgt := 46) C dX1_addVehicle_11 (by decide) (fun c_11 => ?_) (fun c_11 => ?_)
  · refine z_iconst (v := 0) C dX1_addVehicle_46 (by decide) ?_
    exact z_callS C (ct_X1_checkArgument_x D B _ (rfl)) q1221 q1222 q83 q1223 np_X1_checkArgument (zr_ok rfl rfl) rfl rfl (Nat.le_of_ble_eq_true rfl) (⟨Nat.le_of_ble_eq_true rfl, Nat.le_of_ble_eq_true rfl⟩) dX1_addVehicle_47 (fun E9 q9 G9 h9 => z_out C h9 (Nat.le_of_ble_eq_true rfl) (Nat.le_of_ble_eq_true rfl)) (fun v9 G9 h9 => h9.elim)
  · refine z_iload_n (i := 2) C dX1_addVehicle_14 rfl rfl ?_
    refine z_i2l C dX1_addVehicle_15 rfl ?_
    refine z_ldc2 C q1262 dX1_addVehicle_16 ?_
    refine z_ldc2 C q1263 dX1_addVehicle_19 ?_
    refine z_callSe C (ct_X1_isBetween D B (s) (-50) (50) _ _ (by first | rfl | decide) (by first | rfl | decide)) q1220 q789 q83 q790 np_X1_isBetween (zr_ok rfl rfl) rfl rfl (Nat.le_of_ble_eq_true rfl) (⟨Nat.le_of_ble_eq_true rfl, Nat.le_of_ble_eq_true rfl⟩) dX1_addVehicle_22 ?_
    refine z_if_eq (tgt := 46) C dX1_addVehicle_25 (by decide) (fun c_25 => ?_) (fun c_25 => ?_)
    · refine z_iconst (v := 0) C dX1_addVehicle_46 (by decide) ?_
      exact z_callS C (ct_X1_checkArgument_x D B _ (rfl)) q1221 q1222 q83 q1223 np_X1_checkArgument (zr_ok rfl rfl) rfl rfl (Nat.le_of_ble_eq_true rfl) (⟨Nat.le_of_ble_eq_true rfl, Nat.le_of_ble_eq_true rfl⟩) dX1_addVehicle_47 (fun E9 q9 G9 h9 => z_out C h9 (Nat.le_of_ble_eq_true rfl) (Nat.le_of_ble_eq_true rfl)) (fun v9 G9 h9 => h9.elim)
    · refine z_iload_n (i := 3) C dX1_addVehicle_28 rfl rfl ?_
      refine z_i2l C dX1_addVehicle_29 rfl ?_
      refine z_ldc2 C q1218 dX1_addVehicle_30 ?_
      refine z_ldc2 C q1264 dX1_addVehicle_33 ?_
      refine z_callSe C (ct_X1_isBetween D B (y) (100) (5000) _ _ (by first | rfl | decide) (by first | rfl | decide)) q1220 q789 q83 q790 np_X1_isBetween (zr_ok rfl rfl) rfl rfl (Nat.le_of_ble_eq_true rfl) (⟨Nat.le_of_ble_eq_true rfl, Nat.le_of_ble_eq_true rfl⟩) dX1_addVehicle_36 ?_
      refine z_if_eq (tgt := 46) C dX1_addVehicle_39 (by decide) (fun c_39 => ?_) (fun c_39 => ?_)
      · refine z_iconst (v := 0) C dX1_addVehicle_46 (by decide) ?_
        exact z_callS C (ct_X1_checkArgument_x D B _ (rfl)) q1221 q1222 q83 q1223 np_X1_checkArgument (zr_ok rfl rfl) rfl rfl (Nat.le_of_ble_eq_true rfl) (⟨Nat.le_of_ble_eq_true rfl, Nat.le_of_ble_eq_true rfl⟩) dX1_addVehicle_47 (fun E9 q9 G9 h9 => z_out C h9 (Nat.le_of_ble_eq_true rfl) (Nat.le_of_ble_eq_true rfl)) (fun v9 G9 h9 => h9.elim)
      · refine z_iconst (v := 1) C dX1_addVehicle_42 (by decide) ?_
        refine z_goto (tgt := 47) C dX1_addVehicle_43 (by decide) ?_
        exact absurd ⟨zb_ne.mp c_11, zb_ne.mp c_25, zb_ne.mp c_39⟩ h
set_option maxHeartbeats 4000000 in
set_option maxRecDepth 100000 in
theorem ct_X1_addVehicle_s (D : zG) (B : Nat) {G : zH} (o : Nat) (v1 v2 v3 v4 v5 : Value) (χ : Nat → Nat) (c a lv ls lm fo pa su : Nat) (va sa ua ma ra : Nat → Nat) (rq : Nat) (S : Nat → Int32) (x s y : Int32) (hO : G o = some (.inr (0, [.ref a, v1, v2, v3, v4, v5]))) (hR : zTr G χ c a lv ls lm fo pa su va sa ua ma ra rq S) (g : zGe S) (hc : 100 ≤ c) (h : (-20000 ≤ x ∧ x ≤ 20000) ∧ (-50 ≤ s ∧ s ≤ 50) ∧ 100 ≤ y ∧ y ≤ 5000) (hn : S 6 = nI 4) : Ct D B yX1_addVehicle (ws_ yX1_addVehicle cX1_addVehicle 4 (some .int)) (zrc 9 1 6) [.ref o, .int x, .int s, .int y] G (zpF) (zpxE zISE G) := by
  refine ct_intro (by decide +kernel) (Nat.le_of_ble_eq_true rfl) ?_
  intro X C
  obtain ⟨⟨mc, e, cap, gg, l1, lc, ld⟩, lX⟩ := id hR.2.2.1
  rw [zct_of hn (by omega)] at l1 lX
  refine z_iload_n (i := 1) C dX1_addVehicle_0 rfl rfl ?_
  refine z_i2l C dX1_addVehicle_1 rfl ?_
  refine z_ldc2 C q1260 dX1_addVehicle_2 ?_
  refine z_ldc2 C q1261 dX1_addVehicle_5 ?_
  refine z_callSe C (ct_X1_isBetween D B (x) (-20000) (20000) _ _ (by first | rfl | decide) (by first | rfl | decide)) q1220 q789 q83 q790 np_X1_isBetween (zr_ok rfl rfl) rfl rfl (Nat.le_of_ble_eq_true rfl) (⟨Nat.le_of_ble_eq_true rfl, Nat.le_of_ble_eq_true rfl⟩) dX1_addVehicle_8 ?_
  refine z_if_eq (tgt := 46) C dX1_addVehicle_11 (by decide) (fun c_11 => ?_) (fun c_11 => ?_)
  · exact absurd h.1 (zb_eq.mp c_11)
  · refine z_iload_n (i := 2) C dX1_addVehicle_14 rfl rfl ?_
    refine z_i2l C dX1_addVehicle_15 rfl ?_
    refine z_ldc2 C q1262 dX1_addVehicle_16 ?_
    refine z_ldc2 C q1263 dX1_addVehicle_19 ?_
    refine z_callSe C (ct_X1_isBetween D B (s) (-50) (50) _ _ (by first | rfl | decide) (by first | rfl | decide)) q1220 q789 q83 q790 np_X1_isBetween (zr_ok rfl rfl) rfl rfl (Nat.le_of_ble_eq_true rfl) (⟨Nat.le_of_ble_eq_true rfl, Nat.le_of_ble_eq_true rfl⟩) dX1_addVehicle_22 ?_
    refine z_if_eq (tgt := 46) C dX1_addVehicle_25 (by decide) (fun c_25 => ?_) (fun c_25 => ?_)
    · exact absurd h.2.1 (zb_eq.mp c_25)
    · refine z_iload_n (i := 3) C dX1_addVehicle_28 rfl rfl ?_
      refine z_i2l C dX1_addVehicle_29 rfl ?_
      refine z_ldc2 C q1218 dX1_addVehicle_30 ?_
      refine z_ldc2 C q1264 dX1_addVehicle_33 ?_
      refine z_callSe C (ct_X1_isBetween D B (y) (100) (5000) _ _ (by first | rfl | decide) (by first | rfl | decide)) q1220 q789 q83 q790 np_X1_isBetween (zr_ok rfl rfl) rfl rfl (Nat.le_of_ble_eq_true rfl) (⟨Nat.le_of_ble_eq_true rfl, Nat.le_of_ble_eq_true rfl⟩) dX1_addVehicle_36 ?_
      refine z_if_eq (tgt := 46) C dX1_addVehicle_39 (by decide) (fun c_39 => ?_) (fun c_39 => ?_)
      · exact absurd h.2.2 (zb_eq.mp c_39)
      · refine z_iconst (v := 1) C dX1_addVehicle_42 (by decide) ?_
        refine z_goto (tgt := 47) C dX1_addVehicle_43 (by decide) ?_
        refine z_callSe C (ct_X1_checkArgument_ok D B _ (by decide)) q1221 q1222 q83 q1223 np_X1_checkArgument (zr_ok rfl rfl) rfl rfl (Nat.le_of_ble_eq_true rfl) (⟨Nat.le_of_ble_eq_true rfl, Nat.le_of_ble_eq_true rfl⟩) dX1_addVehicle_47 ?_
        refine z_aload_n (i := 0) C dX1_addVehicle_50 rfl rfl ?_
        refine z_getf (ci := 0) (k := 0) C (hO) rfl rfl q570 dX1_addVehicle_51 ?_
        refine z_getfN (ci := 1) (k := 0) C (hR.1.1) rfl rfl q510 dX1_addVehicle_54 ?_
        refine z_callVe C (l1.1) rfl (ct_J2_size D B lv 4 _ _ l1.1) q1265 q931 q932 q87 q933 np_J2_size (zr_ok rfl rfl) rfl rfl (Nat.le_of_ble_eq_true rfl) (⟨Nat.le_of_ble_eq_true rfl, Nat.le_of_ble_eq_true rfl⟩) dX1_addVehicle_57 ?_
        refine z_iconst (v := 4) C dX1_addVehicle_60 (by decide) ?_
        refine z_icmp_ge (tgt := 68) C dX1_addVehicle_61 (by decide) (fun c_61 => ?_) (fun c_61 => ?_)
        · refine z_iconst (v := 0) C dX1_addVehicle_68 (by decide) ?_
          exact z_callS C (ct_X1_checkState_x D B _ (rfl)) q1266 q1267 q83 q1268 np_X1_checkState (zr_ok rfl rfl) rfl rfl (Nat.le_of_ble_eq_true rfl) (⟨Nat.le_of_ble_eq_true rfl, Nat.le_of_ble_eq_true rfl⟩) dX1_addVehicle_69 (fun E9 q9 G9 h9 => z_out C h9 (Nat.le_of_ble_eq_true rfl) (Nat.le_of_ble_eq_true rfl)) (fun v9 G9 h9 => h9.elim)
        · exact absurd (Int32.le_refl _) c_61
theorem np_X2_addMicrophone : znp yX2_addMicrophone 4 := ⟨by decide +kernel, by decide +kernel, by decide +kernel⟩
set_option maxHeartbeats 4000000 in
set_option maxRecDepth 100000 in
theorem ct_X1_addMicrophone_ok (D : zG) (B : Nat) {G : zH} (o : Nat) (v1 v2 v3 v4 v5 : Value) (χ : Nat → Nat) (c a lv ls lm fo pa su : Nat) (va sa ua ma ra : Nat → Nat) (rq : Nat) (S : Nat → Int32) (x y z w : Int32) (n : Nat) (hO : G o = some (.inr (0, [.ref a, v1, v2, v3, v4, v5]))) (hR : zTr G χ c a lv ls lm fo pa su va sa ua ma ra rq S) (g : zGe S) (hc : 100 ≤ c) (h : (-5000 ≤ x ∧ x ≤ 5000) ∧ (-100 ≤ y ∧ y ≤ 99) ∧ (0 ≤ z ∧ z ≤ 500) ∧ 0 ≤ w ∧ w ≤ 9) (hn : S 8 = nI n) (hn8 : n < 8) (h0 : ∀ j, j < 256 → S (186 + 256 * n + j) = 0) : Ct D B yX1_addMicrophone (ws_ yX1_addMicrophone cX1_addMicrophone 5 (some .int)) (zrc 9 3 285) [.ref o, .int x, .int y, .int z, .int w] G (fun r9 G9 => r9 = some (.int (nI n)) ∧ ∃ (χ9 ma9 ra9 : Nat → Nat), zkee (fun k => k ≠ c + 3 ∧ k ≠ c + 6) G χ G9 χ9 ∧ zTr G9 χ9 c a lv ls lm fo pa su va sa ua ma9 ra9 rq (zaM S n x y z w)) zno := by
  refine ct_intro (by decide +kernel) (Nat.le_of_ble_eq_true rfl) ?_
  intro X C
  obtain ⟨⟨mc, e, cap, gg, l1, lc, ld⟩, lX⟩ := id hR.2.2.2.2.1
  rw [zct_of hn (by omega)] at l1 lX
  refine z_iload_n (i := 1) C dX1_addMicrophone_0 rfl rfl ?_
  refine z_i2l C dX1_addMicrophone_1 rfl ?_
  refine z_ldc2 C q1361 dX1_addMicrophone_2 ?_
  refine z_ldc2 C q1264 dX1_addMicrophone_5 ?_
  refine z_callSe C (ct_X1_isBetween D B (x) (-5000) (5000) _ _ (by first | rfl | decide) (by first | rfl | decide)) q1220 q789 q83 q790 np_X1_isBetween (zr_ok rfl rfl) rfl rfl (Nat.le_of_ble_eq_true rfl) (⟨Nat.le_of_ble_eq_true rfl, Nat.le_of_ble_eq_true rfl⟩) dX1_addMicrophone_8 ?_
  refine z_if_eq (tgt := 52) C dX1_addMicrophone_11 (by decide) (fun c_11 => ?_) (fun c_11 => ?_)
  · exact absurd h.1 (zb_eq.mp c_11)
  · refine z_iload_n (i := 2) C dX1_addMicrophone_14 rfl rfl ?_
    refine z_i2l C dX1_addMicrophone_15 rfl ?_
    refine z_ldc2 C q1362 dX1_addMicrophone_16 ?_
    refine z_ldc2 C q1251 dX1_addMicrophone_19 ?_
    refine z_callSe C (ct_X1_isBetween D B (y) (-100) (99) _ _ (by first | rfl | decide) (by first | rfl | decide)) q1220 q789 q83 q790 np_X1_isBetween (zr_ok rfl rfl) rfl rfl (Nat.le_of_ble_eq_true rfl) (⟨Nat.le_of_ble_eq_true rfl, Nat.le_of_ble_eq_true rfl⟩) dX1_addMicrophone_22 ?_
    refine z_if_eq (tgt := 52) C dX1_addMicrophone_25 (by decide) (fun c_25 => ?_) (fun c_25 => ?_)
    · exact absurd h.2.1 (zb_eq.mp c_25)
    · refine z_iload_n (i := 3) C dX1_addMicrophone_28 rfl rfl ?_
      refine z_i2l C dX1_addMicrophone_29 rfl ?_
      refine z_lconst (v := 0) C dX1_addMicrophone_30 (by decide) ?_
      refine z_ldc2 C q1333 dX1_addMicrophone_31 ?_
      refine z_callSe C (ct_X1_isBetween D B (z) (0) (500) _ _ (by first | rfl | decide) (by first | rfl | decide)) q1220 q789 q83 q790 np_X1_isBetween (zr_ok rfl rfl) rfl rfl (Nat.le_of_ble_eq_true rfl) (⟨Nat.le_of_ble_eq_true rfl, Nat.le_of_ble_eq_true rfl⟩) dX1_addMicrophone_34 ?_
      refine z_if_eq (tgt := 52) C dX1_addMicrophone_37 (by decide) (fun c_37 => ?_) (fun c_37 => ?_)
      · exact absurd h.2.2.1 (zb_eq.mp c_37)
      · refine z_iload C dX1_addMicrophone_40 rfl ?_
        refine z_callSe C (ct_X1_isWeight D B w) q1363 q1364 q83 q1365 np_X1_isWeight (zr_ok rfl rfl) rfl rfl (Nat.le_of_ble_eq_true rfl) (⟨Nat.le_of_ble_eq_true rfl, Nat.le_of_ble_eq_true rfl⟩) dX1_addMicrophone_42 ?_
        refine z_if_eq (tgt := 52) C dX1_addMicrophone_45 (by decide) (fun c_45 => ?_) (fun c_45 => ?_)
        · exact absurd h.2.2.2 (zb_eq.mp c_45)
        · refine z_iconst (v := 1) C dX1_addMicrophone_48 (by decide) ?_
          refine z_goto (tgt := 53) C dX1_addMicrophone_49 (by decide) ?_
          refine z_callSe C (ct_X1_checkArgument_ok D B _ (by decide)) q1221 q1222 q83 q1223 np_X1_checkArgument (zr_ok rfl rfl) rfl rfl (Nat.le_of_ble_eq_true rfl) (⟨Nat.le_of_ble_eq_true rfl, Nat.le_of_ble_eq_true rfl⟩) dX1_addMicrophone_53 ?_
          refine z_aload_n (i := 0) C dX1_addMicrophone_56 rfl rfl ?_
          refine z_getf (ci := 0) (k := 0) C (hO) rfl rfl q570 dX1_addMicrophone_57 ?_
          refine z_getfN (ci := 1) (k := 2) C (hR.1.1) rfl rfl q516 dX1_addMicrophone_60 ?_
          refine z_callVe C (l1.1) rfl (ct_J2_size D B lm n _ _ l1.1) q1265 q931 q932 q87 q933 np_J2_size (zr_ok rfl rfl) rfl rfl (Nat.le_of_ble_eq_true rfl) (⟨Nat.le_of_ble_eq_true rfl, Nat.le_of_ble_eq_true rfl⟩) dX1_addMicrophone_63 ?_
          refine z_bipush (v := 8) C dX1_addMicrophone_66 (by decide) ?_
          refine z_icmp_ge (tgt := 75) C dX1_addMicrophone_68 (by decide) (fun c_68 => ?_) (fun c_68 => ?_)
          · exact absurd c_68 (Int32.not_le.mpr (nI_lt (b := 8) hn8 (by decide)))
          · refine z_iconst (v := 1) C dX1_addMicrophone_71 (by decide) ?_
            refine z_goto (tgt := 76) C dX1_addMicrophone_72 (by decide) ?_
            refine z_callSe C (ct_X1_checkState_ok D B _ (by decide)) q1266 q1267 q83 q1268 np_X1_checkState (zr_ok rfl rfl) rfl rfl (Nat.le_of_ble_eq_true rfl) (⟨Nat.le_of_ble_eq_true rfl, Nat.le_of_ble_eq_true rfl⟩) dX1_addMicrophone_76 ?_
            refine z_aload_n (i := 0) C dX1_addMicrophone_79 rfl rfl ?_
            refine z_getf (ci := 0) (k := 0) C (hO) rfl rfl q570 dX1_addMicrophone_80 ?_
            refine z_iload_n (i := 1) C dX1_addMicrophone_83 rfl rfl ?_
            refine z_iload_n (i := 2) C dX1_addMicrophone_84 rfl rfl ?_
            refine z_iload_n (i := 3) C dX1_addMicrophone_85 rfl rfl ?_
            refine z_iload C dX1_addMicrophone_86 rfl ?_
            refine z_callVn C (hR.1.1) rfl (ct_X2_addMicrophone D B χ c a lv ls lm fo pa su va sa ua ma ra rq S x y z w n hR g hc hn hn8 h0) q1367 q1015 q1016 q84 q1017 np_X2_addMicrophone (zr_ok rfl rfl) rfl rfl (Nat.le_of_ble_eq_true rfl) (⟨Nat.le_of_ble_eq_true rfl, Nat.le_of_ble_eq_true rfl⟩) dX1_addMicrophone_88 ?_
            intro v9 G9 h9
            obtain ⟨rfl, χ9, ma9, ra9, K9, t9⟩ := h9
            exact z_ireturn C rfl (rfl) dX1_addMicrophone_91 (⟨rfl, χ9, ma9, ra9, K9, t9⟩) (Nat.le_of_ble_eq_true rfl) (Nat.le_of_ble_eq_true rfl)
set_option maxHeartbeats 4000000 in
set_option maxRecDepth 100000 in
theorem ct_X1_addMicrophone_x (D : zG) (B : Nat) {G : zH} (o : Nat) (v1 v2 v3 v4 v5 : Value) (χ : Nat → Nat) (c a lv ls lm fo pa su : Nat) (va sa ua ma ra : Nat → Nat) (rq : Nat) (S : Nat → Int32) (x y z w : Int32) (h : ¬ ((-5000 ≤ x ∧ x ≤ 5000) ∧ (-100 ≤ y ∧ y ≤ 99) ∧ (0 ≤ z ∧ z ≤ 500) ∧ 0 ≤ w ∧ w ≤ 9)) : Ct D B yX1_addMicrophone (ws_ yX1_addMicrophone cX1_addMicrophone 5 (some .int)) (zrc 9 1 6) [.ref o, .int x, .int y, .int z, .int w] G (zpF) (zpxE zIAE G) := by
  refine ct_intro (by decide +kernel) (Nat.le_of_ble_eq_true rfl) ?_
  intro X C
  refine z_iload_n (i := 1) C dX1_addMicrophone_0 rfl rfl ?_
  refine z_i2l C dX1_addMicrophone_1 rfl ?_
  refine z_ldc2 C q1361 dX1_addMicrophone_2 ?_
  refine z_ldc2 C q1264 dX1_addMicrophone_5 ?_
  refine z_callSe C (ct_X1_isBetween D B (x) (-5000) (5000) _ _ (by first | rfl | decide) (by first | rfl | decide)) q1220 q789 q83 q790 np_X1_isBetween (zr_ok rfl rfl) rfl rfl (Nat.le_of_ble_eq_true rfl) (⟨Nat.le_of_ble_eq_true rfl, Nat.le_of_ble_eq_true rfl⟩) dX1_addMicrophone_8 ?_
  refine z_if_eq (tgt := 52) C dX1_addMicrophone_11 (by decide) (fun c_11 => ?_) (fun c_11 => ?_)
  · refine z_iconst (v := 0) C dX1_addMicrophone_52 (by decide) ?_
    exact z_callS C (ct_X1_checkArgument_x D B _ (rfl)) q1221 q1222 q83 q1223 np_X1_checkArgument (zr_ok rfl rfl) rfl rfl (Nat.le_of_ble_eq_true rfl) (⟨Nat.le_of_ble_eq_true rfl, Nat.le_of_ble_eq_true rfl⟩) dX1_addMicrophone_53 (fun E9 q9 G9 h9 => z_out C h9 (Nat.le_of_ble_eq_true rfl) (Nat.le_of_ble_eq_true rfl)) (fun v9 G9 h9 => h9.elim)
  · refine z_iload_n (i := 2) C dX1_addMicrophone_14 rfl rfl ?_
    refine z_i2l C dX1_addMicrophone_15 rfl ?_
    refine z_ldc2 C q1362 dX1_addMicrophone_16 ?_
    refine z_ldc2 C q1251 dX1_addMicrophone_19 ?_
    refine z_callSe C (ct_X1_isBetween D B (y) (-100) (99) _ _ (by first | rfl | decide) (by first | rfl | decide)) q1220 q789 q83 q790 np_X1_isBetween (zr_ok rfl rfl) rfl rfl (Nat.le_of_ble_eq_true rfl) (⟨Nat.le_of_ble_eq_true rfl, Nat.le_of_ble_eq_true rfl⟩) dX1_addMicrophone_22 ?_
    refine z_if_eq (tgt := 52) C dX1_addMicrophone_25 (by decide) (fun c_25 => ?_) (fun c_25 => ?_)
    · refine z_iconst (v := 0) C dX1_addMicrophone_52 (by decide) ?_
      exact z_callS C (ct_X1_checkArgument_x D B _ (rfl)) q1221 q1222 q83 q1223 np_X1_checkArgument (zr_ok rfl rfl) rfl rfl (Nat.le_of_ble_eq_true rfl) (⟨Nat.le_of_ble_eq_true rfl, Nat.le_of_ble_eq_true rfl⟩) dX1_addMicrophone_53 (fun E9 q9 G9 h9 => z_out C h9 (Nat.le_of_ble_eq_true rfl) (Nat.le_of_ble_eq_true rfl)) (fun v9 G9 h9 => h9.elim)
    · refine z_iload_n (i := 3) C dX1_addMicrophone_28 rfl rfl ?_
      refine z_i2l C dX1_addMicrophone_29 rfl ?_
      refine z_lconst (v := 0) C dX1_addMicrophone_30 (by decide) ?_
      refine z_ldc2 C q1333 dX1_addMicrophone_31 ?_
      refine z_callSe C (ct_X1_isBetween D B (z) (0) (500) _ _ (by first | rfl | decide) (by first | rfl | decide)) q1220 q789 q83 q790 np_X1_isBetween (zr_ok rfl rfl) rfl rfl (Nat.le_of_ble_eq_true rfl) (⟨Nat.le_of_ble_eq_true rfl, Nat.le_of_ble_eq_true rfl⟩) dX1_addMicrophone_34 ?_
      refine z_if_eq (tgt := 52) C dX1_addMicrophone_37 (by decide) (fun c_37 => ?_) (fun c_37 => ?_)
      · refine z_iconst (v := 0) C dX1_addMicrophone_52 (by decide) ?_
        exact z_callS C (ct_X1_checkArgument_x D B _ (rfl)) q1221 q1222 q83 q1223 np_X1_checkArgument (zr_ok rfl rfl) rfl rfl (Nat.le_of_ble_eq_true rfl) (⟨Nat.le_of_ble_eq_true rfl, Nat.le_of_ble_eq_true rfl⟩) dX1_addMicrophone_53 (fun E9 q9 G9 h9 => z_out C h9 (Nat.le_of_ble_eq_true rfl) (Nat.le_of_ble_eq_true rfl)) (fun v9 G9 h9 => h9.elim)
      · refine z_iload C dX1_addMicrophone_40 rfl ?_
        refine z_callSe C (ct_X1_isWeight D B w) q1363 q1364 q83 q1365 np_X1_isWeight (zr_ok rfl rfl) rfl rfl (Nat.le_of_ble_eq_true rfl) (⟨Nat.le_of_ble_eq_true rfl, Nat.le_of_ble_eq_true rfl⟩) dX1_addMicrophone_42 ?_
        refine z_if_eq (tgt := 52) C dX1_addMicrophone_45 (by decide) (fun c_45 => ?_) (fun c_45 => ?_)
        · refine z_iconst (v := 0) C dX1_addMicrophone_52 (by decide) ?_
          exact z_callS C (ct_X1_checkArgument_x D B _ (rfl)) q1221 q1222 q83 q1223 np_X1_checkArgument (zr_ok rfl rfl) rfl rfl (Nat.le_of_ble_eq_true rfl) (⟨Nat.le_of_ble_eq_true rfl, Nat.le_of_ble_eq_true rfl⟩) dX1_addMicrophone_53 (fun E9 q9 G9 h9 => z_out C h9 (Nat.le_of_ble_eq_true rfl) (Nat.le_of_ble_eq_true rfl)) (fun v9 G9 h9 => h9.elim)
        · refine z_iconst (v := 1) C dX1_addMicrophone_48 (by decide) ?_
          refine z_goto (tgt := 53) C dX1_addMicrophone_49 (by decide) ?_
          exact absurd ⟨zb_ne.mp c_11, zb_ne.mp c_25, zb_ne.mp c_37, zb_ne.mp c_45⟩ h
set_option maxHeartbeats 4000000 in
set_option maxRecDepth 100000 in
theorem ct_X1_addMicrophone_s (D : zG) (B : Nat) {G : zH} (o : Nat) (v1 v2 v3 v4 v5 : Value) (χ : Nat → Nat) (c a lv ls lm fo pa su : Nat) (va sa ua ma ra : Nat → Nat) (rq : Nat) (S : Nat → Int32) (x y z w : Int32) (hO : G o = some (.inr (0, [.ref a, v1, v2, v3, v4, v5]))) (hR : zTr G χ c a lv ls lm fo pa su va sa ua ma ra rq S) (g : zGe S) (hc : 100 ≤ c) (h : (-5000 ≤ x ∧ x ≤ 5000) ∧ (-100 ≤ y ∧ y ≤ 99) ∧ (0 ≤ z ∧ z ≤ 500) ∧ 0 ≤ w ∧ w ≤ 9) (hn : S 8 = nI 8) : Ct D B yX1_addMicrophone (ws_ yX1_addMicrophone cX1_addMicrophone 5 (some .int)) (zrc 9 1 6) [.ref o, .int x, .int y, .int z, .int w] G (zpF) (zpxE zISE G) := by
  refine ct_intro (by decide +kernel) (Nat.le_of_ble_eq_true rfl) ?_
  intro X C
  obtain ⟨⟨mc, e, cap, gg, l1, lc, ld⟩, lX⟩ := id hR.2.2.2.2.1
  rw [zct_of hn (by omega)] at l1 lX
  refine z_iload_n (i := 1) C dX1_addMicrophone_0 rfl rfl ?_
  refine z_i2l C dX1_addMicrophone_1 rfl ?_
  refine z_ldc2 C q1361 dX1_addMicrophone_2 ?_
  refine z_ldc2 C q1264 dX1_addMicrophone_5 ?_
  refine z_callSe C (ct_X1_isBetween D B (x) (-5000) (5000) _ _ (by first | rfl | decide) (by first | rfl | decide)) q1220 q789 q83 q790 np_X1_isBetween (zr_ok rfl rfl) rfl rfl (Nat.le_of_ble_eq_true rfl) (⟨Nat.le_of_ble_eq_true rfl, Nat.le_of_ble_eq_true rfl⟩) dX1_addMicrophone_8 ?_
  refine z_if_eq (tgt := 52) C dX1_addMicrophone_11 (by decide) (fun c_11 => ?_) (fun c_11 => ?_)
  · exact absurd h.1 (zb_eq.mp c_11)
  · refine z_iload_n (i := 2) C dX1_addMicrophone_14 rfl rfl ?_
    refine z_i2l C dX1_addMicrophone_15 rfl ?_
    refine z_ldc2 C q1362 dX1_addMicrophone_16 ?_
    refine z_ldc2 C q1251 dX1_addMicrophone_19 ?_
    refine z_callSe C (ct_X1_isBetween D B (y) (-100) (99) _ _ (by first | rfl | decide) (by first | rfl | decide)) q1220 q789 q83 q790 np_X1_isBetween (zr_ok rfl rfl) rfl rfl (Nat.le_of_ble_eq_true rfl) (⟨Nat.le_of_ble_eq_true rfl, Nat.le_of_ble_eq_true rfl⟩) dX1_addMicrophone_22 ?_
    refine z_if_eq (tgt := 52) C dX1_addMicrophone_25 (by decide) (fun c_25 => ?_) (fun c_25 => ?_)
    · exact absurd h.2.1 (zb_eq.mp c_25)
    · refine z_iload_n (i := 3) C dX1_addMicrophone_28 rfl rfl ?_
      refine z_i2l C dX1_addMicrophone_29 rfl ?_
      refine z_lconst (v := 0) C dX1_addMicrophone_30 (by decide) ?_
      refine z_ldc2 C q1333 dX1_addMicrophone_31 ?_
      refine z_callSe C (ct_X1_isBetween D B (z) (0) (500) _ _ (by first | rfl | decide) (by first | rfl | decide)) q1220 q789 q83 q790 np_X1_isBetween (zr_ok rfl rfl) rfl rfl (Nat.le_of_ble_eq_true rfl) (⟨Nat.le_of_ble_eq_true rfl, Nat.le_of_ble_eq_true rfl⟩) dX1_addMicrophone_34 ?_
      refine z_if_eq (tgt := 52) C dX1_addMicrophone_37 (by decide) (fun c_37 => ?_) (fun c_37 => ?_)
      · exact absurd h.2.2.1 (zb_eq.mp c_37)
      · refine z_iload C dX1_addMicrophone_40 rfl ?_
        refine z_callSe C (ct_X1_isWeight D B w) q1363 q1364 q83 q1365 np_X1_isWeight (zr_ok rfl rfl) rfl rfl (Nat.le_of_ble_eq_true rfl) (⟨Nat.le_of_ble_eq_true rfl, Nat.le_of_ble_eq_true rfl⟩) dX1_addMicrophone_42 ?_
        refine z_if_eq (tgt := 52) C dX1_addMicrophone_45 (by decide) (fun c_45 => ?_) (fun c_45 => ?_)
        · exact absurd h.2.2.2 (zb_eq.mp c_45)
        · refine z_iconst (v := 1) C dX1_addMicrophone_48 (by decide) ?_
          refine z_goto (tgt := 53) C dX1_addMicrophone_49 (by decide) ?_
          refine z_callSe C (ct_X1_checkArgument_ok D B _ (by decide)) q1221 q1222 q83 q1223 np_X1_checkArgument (zr_ok rfl rfl) rfl rfl (Nat.le_of_ble_eq_true rfl) (⟨Nat.le_of_ble_eq_true rfl, Nat.le_of_ble_eq_true rfl⟩) dX1_addMicrophone_53 ?_
          refine z_aload_n (i := 0) C dX1_addMicrophone_56 rfl rfl ?_
          refine z_getf (ci := 0) (k := 0) C (hO) rfl rfl q570 dX1_addMicrophone_57 ?_
          refine z_getfN (ci := 1) (k := 2) C (hR.1.1) rfl rfl q516 dX1_addMicrophone_60 ?_
          refine z_callVe C (l1.1) rfl (ct_J2_size D B lm 8 _ _ l1.1) q1265 q931 q932 q87 q933 np_J2_size (zr_ok rfl rfl) rfl rfl (Nat.le_of_ble_eq_true rfl) (⟨Nat.le_of_ble_eq_true rfl, Nat.le_of_ble_eq_true rfl⟩) dX1_addMicrophone_63 ?_
          refine z_bipush (v := 8) C dX1_addMicrophone_66 (by decide) ?_
          refine z_icmp_ge (tgt := 75) C dX1_addMicrophone_68 (by decide) (fun c_68 => ?_) (fun c_68 => ?_)
          · refine z_iconst (v := 0) C dX1_addMicrophone_75 (by decide) ?_
            exact z_callS C (ct_X1_checkState_x D B _ (rfl)) q1266 q1267 q83 q1268 np_X1_checkState (zr_ok rfl rfl) rfl rfl (Nat.le_of_ble_eq_true rfl) (⟨Nat.le_of_ble_eq_true rfl, Nat.le_of_ble_eq_true rfl⟩) dX1_addMicrophone_76 (fun E9 q9 G9 h9 => z_out C h9 (Nat.le_of_ble_eq_true rfl) (Nat.le_of_ble_eq_true rfl)) (fun v9 G9 h9 => h9.elim)
          · exact absurd (Int32.le_refl _) c_68
theorem np_X1_isValue : znp yX1_isValue 1 := ⟨by decide +kernel, by decide +kernel, by decide +kernel⟩
theorem np_X2_addSource : znp yX2_addSource 5 := ⟨by decide +kernel, by decide +kernel, by decide +kernel⟩
set_option maxHeartbeats 4000000 in
set_option maxRecDepth 100000 in
theorem ct_X1_addSource_ok (D : zG) (B : Nat) {G : zH} (o : Nat) (v1 v2 v3 v4 v5 : Value) (χ : Nat → Nat) (c a lv ls lm fo pa su : Nat) (va sa ua ma ra : Nat → Nat) (rq : Nat) (S : Nat → Int32) (v nv n : Nat) (u z st x : Int32) (hO : G o = some (.inr (0, [.ref a, v1, v2, v3, v4, v5]))) (hR : zTr G χ c a lv ls lm fo pa su va sa ua ma ra rq S) (g : zGe S) (hc : 100 ≤ c) (hv6 : S 6 = nI nv) (hv4 : nv ≤ 4) (hvk : v < 100) (h1 : 0 ≤ nI v ∧ nI v ≤ S 6 - 1) (h : ((-1000 ≤ u ∧ u ≤ 1000) ∧ 0 ≤ z ∧ z ≤ 500) ∧ (1 ≤ st ∧ st ≤ 10) ∧ -99 ≤ x ∧ x ≤ 99) (hn : S 7 = nI n) (hn6 : n < 6) : Ct D B yX1_addSource (ws_ yX1_addSource cX1_addSource 6 (some .int)) (zrc 9 3 46) [.ref o, .int (nI v), .int u, .int z, .int st, .int x] G (fun r9 G9 => r9 = some (.int (nI n)) ∧ ∃ (χ9 sa9 ua9 : Nat → Nat), zkee (fun k => k ≠ c + 2 ∧ k ≠ c + 5) G χ G9 χ9 ∧ zTr G9 χ9 c a lv ls lm fo pa su va sa9 ua9 ma ra rq (zaX (zaS S n (nI v) u z st) n 0 x)) zno := by
  refine ct_intro (by decide +kernel) (Nat.le_of_ble_eq_true rfl) ?_
  intro X C
  obtain ⟨⟨mc, e, cap, gg, l1, lc, ld⟩, lX⟩ := id hR.2.2.1
  rw [zct_of hv6 (by omega)] at l1 lX
  obtain ⟨⟨mcs, es, caps, gs, s1, sc, sd⟩, sX⟩ := id hR.2.2.2.1
  rw [zct_of hn (by omega)] at s1 sX
  have hvn : v < nv := zkn h1 hv6 (by omega) (by omega)
  refine z_iload_n (i := 1) C dX1_addSource_0 rfl rfl ?_
  refine z_i2l C dX1_addSource_1 rfl ?_
  refine z_lconst (v := 0) C dX1_addSource_2 (by decide) ?_
  refine z_aload_n (i := 0) C dX1_addSource_3 rfl rfl ?_
  refine z_getf (ci := 0) (k := 0) C (hO) rfl rfl q570 dX1_addSource_4 ?_
  refine z_getfN (ci := 1) (k := 0) C (hR.1.1) rfl rfl q510 dX1_addSource_7 ?_
  refine z_callVe C (l1.1) rfl (ct_J2_size D B lv nv _ _ l1.1) q1265 q931 q932 q87 q933 np_J2_size (zr_ok rfl rfl) rfl rfl (Nat.le_of_ble_eq_true rfl) (⟨Nat.le_of_ble_eq_true rfl, Nat.le_of_ble_eq_true rfl⟩) dX1_addSource_10 ?_
  refine z_seti hv6.symm ?_
  refine z_iconst (v := 1) C dX1_addSource_13 (by decide) ?_
  refine z_isub C dX1_addSource_14 ?_
  refine z_i2l C dX1_addSource_15 rfl ?_
  refine z_callSe C (ct_X1_isBetween D B (nI v) 0 (S 6 - 1) 0 _ (by decide) rfl) q1220 q789 q83 q790 np_X1_isBetween (zr_ok rfl rfl) rfl rfl (Nat.le_of_ble_eq_true rfl) (⟨Nat.le_of_ble_eq_true rfl, Nat.le_of_ble_eq_true rfl⟩) dX1_addSource_16 ?_
  refine z_callSe C (ct_X1_checkIndex_ok D B _ (zb_ne.mpr h1)) q1311 q1312 q83 q1313 np_X1_checkIndex (zr_ok rfl rfl) rfl rfl (Nat.le_of_ble_eq_true rfl) (⟨Nat.le_of_ble_eq_true rfl, Nat.le_of_ble_eq_true rfl⟩) dX1_addSource_19 ?_
  refine z_iload_n (i := 2) C dX1_addSource_22 rfl rfl ?_
  refine z_iload_n (i := 3) C dX1_addSource_23 rfl rfl ?_
  refine z_callSe C (ct_X1_isOnVehicle D B u z) q1329 q1330 q83 q1331 np_X1_isOnVehicle (zr_ok rfl rfl) rfl rfl (Nat.le_of_ble_eq_true rfl) (⟨Nat.le_of_ble_eq_true rfl, Nat.le_of_ble_eq_true rfl⟩) dX1_addSource_24 ?_
  refine z_if_eq (tgt := 55) C dX1_addSource_27 (by decide) (fun c_27 => ?_) (fun c_27 => ?_)
  · exact absurd h.1 (zb_eq.mp c_27)
  · refine z_iload C dX1_addSource_30 rfl ?_
    refine z_i2l C dX1_addSource_32 rfl ?_
    refine z_lconst (v := 1) C dX1_addSource_33 (by decide) ?_
    refine z_ldc2 C q1334 dX1_addSource_34 ?_
    refine z_callSe C (ct_X1_isBetween D B (st) (1) (10) _ _ (by first | rfl | decide) (by first | rfl | decide)) q1220 q789 q83 q790 np_X1_isBetween (zr_ok rfl rfl) rfl rfl (Nat.le_of_ble_eq_true rfl) (⟨Nat.le_of_ble_eq_true rfl, Nat.le_of_ble_eq_true rfl⟩) dX1_addSource_37 ?_
    refine z_if_eq (tgt := 55) C dX1_addSource_40 (by decide) (fun c_40 => ?_) (fun c_40 => ?_)
    · exact absurd h.2.1 (zb_eq.mp c_40)
    · refine z_iload C dX1_addSource_43 rfl ?_
      refine z_callSe C (ct_X1_isValue D B x) q1335 q1336 q83 q1337 np_X1_isValue (zr_ok rfl rfl) rfl rfl (Nat.le_of_ble_eq_true rfl) (⟨Nat.le_of_ble_eq_true rfl, Nat.le_of_ble_eq_true rfl⟩) dX1_addSource_45 ?_
      refine z_if_eq (tgt := 55) C dX1_addSource_48 (by decide) (fun c_48 => ?_) (fun c_48 => ?_)
      · exact absurd h.2.2 (zb_eq.mp c_48)
      · refine z_iconst (v := 1) C dX1_addSource_51 (by decide) ?_
        refine z_goto (tgt := 56) C dX1_addSource_52 (by decide) ?_
        refine z_callSe C (ct_X1_checkArgument_ok D B _ (by decide)) q1221 q1222 q83 q1223 np_X1_checkArgument (zr_ok rfl rfl) rfl rfl (Nat.le_of_ble_eq_true rfl) (⟨Nat.le_of_ble_eq_true rfl, Nat.le_of_ble_eq_true rfl⟩) dX1_addSource_56 ?_
        refine z_aload_n (i := 0) C dX1_addSource_59 rfl rfl ?_
        refine z_getf (ci := 0) (k := 0) C (hO) rfl rfl q570 dX1_addSource_60 ?_
        refine z_getfN (ci := 1) (k := 1) C (hR.1.1) rfl rfl q513 dX1_addSource_63 ?_
        refine z_callVe C (s1.1) rfl (ct_J2_size D B ls n _ _ s1.1) q1265 q931 q932 q87 q933 np_J2_size (zr_ok rfl rfl) rfl rfl (Nat.le_of_ble_eq_true rfl) (⟨Nat.le_of_ble_eq_true rfl, Nat.le_of_ble_eq_true rfl⟩) dX1_addSource_66 ?_
        refine z_bipush (v := 6) C dX1_addSource_69 (by decide) ?_
        refine z_icmp_ge (tgt := 78) C dX1_addSource_71 (by decide) (fun c_71 => ?_) (fun c_71 => ?_)
        · exact absurd c_71 (Int32.not_le.mpr (nI_lt (b := 6) hn6 (by decide)))
        · refine z_iconst (v := 1) C dX1_addSource_74 (by decide) ?_
          refine z_goto (tgt := 79) C dX1_addSource_75 (by decide) ?_
          refine z_callSe C (ct_X1_checkState_ok D B _ (by decide)) q1266 q1267 q83 q1268 np_X1_checkState (zr_ok rfl rfl) rfl rfl (Nat.le_of_ble_eq_true rfl) (⟨Nat.le_of_ble_eq_true rfl, Nat.le_of_ble_eq_true rfl⟩) dX1_addSource_79 ?_
          refine z_aload_n (i := 0) C dX1_addSource_82 rfl rfl ?_
          refine z_getf (ci := 0) (k := 0) C (hO) rfl rfl q570 dX1_addSource_83 ?_
          refine z_iload_n (i := 1) C dX1_addSource_86 rfl rfl ?_
          refine z_iload_n (i := 2) C dX1_addSource_87 rfl rfl ?_
          refine z_iload_n (i := 3) C dX1_addSource_88 rfl rfl ?_
          refine z_iload C dX1_addSource_89 rfl ?_
          refine z_iload C dX1_addSource_91 rfl ?_
          refine z_callVn C (hR.1.1) rfl (ct_X2_addSource D B χ c a lv ls lm fo pa su va sa ua ma ra rq S v n u z st x hR g hc hn hn6 (by rw [zct_of hv6 (by omega)]; exact hvn) hvk) q1339 q1134 q1135 q84 q1136 np_X2_addSource (zr_ok rfl rfl) rfl rfl (Nat.le_of_ble_eq_true rfl) (⟨Nat.le_of_ble_eq_true rfl, Nat.le_of_ble_eq_true rfl⟩) dX1_addSource_93 ?_
          intro v9 G9 h9
          obtain ⟨rfl, χ9, sa9, ua9, K9, t9⟩ := h9
          exact z_ireturn C rfl (rfl) dX1_addSource_96 (⟨rfl, χ9, sa9, ua9, K9, t9⟩) (Nat.le_of_ble_eq_true rfl) (Nat.le_of_ble_eq_true rfl)
set_option maxHeartbeats 4000000 in
set_option maxRecDepth 100000 in
theorem ct_X1_addSource_x (D : zG) (B : Nat) {G : zH} (o : Nat) (v1 v2 v3 v4 v5 : Value) (χ : Nat → Nat) (c a lv ls lm fo pa su : Nat) (va sa ua ma ra : Nat → Nat) (rq : Nat) (S : Nat → Int32) (v : Int32) (nv : Nat) (u z st x : Int32) (hO : G o = some (.inr (0, [.ref a, v1, v2, v3, v4, v5]))) (hR : zTr G χ c a lv ls lm fo pa su va sa ua ma ra rq S) (g : zGe S) (hc : 100 ≤ c) (hv6 : S 6 = nI nv) (hv4 : nv ≤ 4) (h1 : ¬ (0 ≤ v ∧ v ≤ S 6 - 1)) : Ct D B yX1_addSource (ws_ yX1_addSource cX1_addSource 6 (some .int)) (zrc 9 1 6) [.ref o, .int v, .int u, .int z, .int st, .int x] G (zpF) (zpxE zIOB G) := by
  refine ct_intro (by decide +kernel) (Nat.le_of_ble_eq_true rfl) ?_
  intro X C
  obtain ⟨⟨mc, e, cap, gg, l1, lc, ld⟩, lX⟩ := id hR.2.2.1
  rw [zct_of hv6 (by omega)] at l1 lX
  refine z_iload_n (i := 1) C dX1_addSource_0 rfl rfl ?_
  refine z_i2l C dX1_addSource_1 rfl ?_
  refine z_lconst (v := 0) C dX1_addSource_2 (by decide) ?_
  refine z_aload_n (i := 0) C dX1_addSource_3 rfl rfl ?_
  refine z_getf (ci := 0) (k := 0) C (hO) rfl rfl q570 dX1_addSource_4 ?_
  refine z_getfN (ci := 1) (k := 0) C (hR.1.1) rfl rfl q510 dX1_addSource_7 ?_
  refine z_callVe C (l1.1) rfl (ct_J2_size D B lv nv _ _ l1.1) q1265 q931 q932 q87 q933 np_J2_size (zr_ok rfl rfl) rfl rfl (Nat.le_of_ble_eq_true rfl) (⟨Nat.le_of_ble_eq_true rfl, Nat.le_of_ble_eq_true rfl⟩) dX1_addSource_10 ?_
  refine z_seti hv6.symm ?_
  refine z_iconst (v := 1) C dX1_addSource_13 (by decide) ?_
  refine z_isub C dX1_addSource_14 ?_
  refine z_i2l C dX1_addSource_15 rfl ?_
  refine z_callSe C (ct_X1_isBetween D B (v) 0 (S 6 - 1) 0 _ (by decide) rfl) q1220 q789 q83 q790 np_X1_isBetween (zr_ok rfl rfl) rfl rfl (Nat.le_of_ble_eq_true rfl) (⟨Nat.le_of_ble_eq_true rfl, Nat.le_of_ble_eq_true rfl⟩) dX1_addSource_16 ?_
  exact z_callS C (ct_X1_checkIndex_x D B _ (zb_eq.mpr h1)) q1311 q1312 q83 q1313 np_X1_checkIndex (zr_ok rfl rfl) rfl rfl (Nat.le_of_ble_eq_true rfl) (⟨Nat.le_of_ble_eq_true rfl, Nat.le_of_ble_eq_true rfl⟩) dX1_addSource_19 (fun E9 q9 G9 h9 => z_out C h9 (Nat.le_of_ble_eq_true rfl) (Nat.le_of_ble_eq_true rfl)) (fun v9 G9 h9 => h9.elim)
set_option maxHeartbeats 4000000 in
set_option maxRecDepth 100000 in
theorem ct_X1_addSource_y (D : zG) (B : Nat) {G : zH} (o : Nat) (v1 v2 v3 v4 v5 : Value) (χ : Nat → Nat) (c a lv ls lm fo pa su : Nat) (va sa ua ma ra : Nat → Nat) (rq : Nat) (S : Nat → Int32) (v : Int32) (nv : Nat) (u z st x : Int32) (hO : G o = some (.inr (0, [.ref a, v1, v2, v3, v4, v5]))) (hR : zTr G χ c a lv ls lm fo pa su va sa ua ma ra rq S) (g : zGe S) (hc : 100 ≤ c) (hv6 : S 6 = nI nv) (hv4 : nv ≤ 4) (h1 : 0 ≤ v ∧ v ≤ S 6 - 1) (h : ¬ (((-1000 ≤ u ∧ u ≤ 1000) ∧ 0 ≤ z ∧ z ≤ 500) ∧ (1 ≤ st ∧ st ≤ 10) ∧ -99 ≤ x ∧ x ≤ 99)) : Ct D B yX1_addSource (ws_ yX1_addSource cX1_addSource 6 (some .int)) (zrc 9 1 6) [.ref o, .int v, .int u, .int z, .int st, .int x] G (zpF) (zpxE zIAE G) := by
  refine ct_intro (by decide +kernel) (Nat.le_of_ble_eq_true rfl) ?_
  intro X C
  obtain ⟨⟨mc, e, cap, gg, l1, lc, ld⟩, lX⟩ := id hR.2.2.1
  rw [zct_of hv6 (by omega)] at l1 lX
  refine z_iload_n (i := 1) C dX1_addSource_0 rfl rfl ?_
  refine z_i2l C dX1_addSource_1 rfl ?_
  refine z_lconst (v := 0) C dX1_addSource_2 (by decide) ?_
  refine z_aload_n (i := 0) C dX1_addSource_3 rfl rfl ?_
  refine z_getf (ci := 0) (k := 0) C (hO) rfl rfl q570 dX1_addSource_4 ?_
  refine z_getfN (ci := 1) (k := 0) C (hR.1.1) rfl rfl q510 dX1_addSource_7 ?_
  refine z_callVe C (l1.1) rfl (ct_J2_size D B lv nv _ _ l1.1) q1265 q931 q932 q87 q933 np_J2_size (zr_ok rfl rfl) rfl rfl (Nat.le_of_ble_eq_true rfl) (⟨Nat.le_of_ble_eq_true rfl, Nat.le_of_ble_eq_true rfl⟩) dX1_addSource_10 ?_
  refine z_seti hv6.symm ?_
  refine z_iconst (v := 1) C dX1_addSource_13 (by decide) ?_
  refine z_isub C dX1_addSource_14 ?_
  refine z_i2l C dX1_addSource_15 rfl ?_
  refine z_callSe C (ct_X1_isBetween D B (v) 0 (S 6 - 1) 0 _ (by decide) rfl) q1220 q789 q83 q790 np_X1_isBetween (zr_ok rfl rfl) rfl rfl (Nat.le_of_ble_eq_true rfl) (⟨Nat.le_of_ble_eq_true rfl, Nat.le_of_ble_eq_true rfl⟩) dX1_addSource_16 ?_
  refine z_callSe C (ct_X1_checkIndex_ok D B _ (zb_ne.mpr h1)) q1311 q1312 q83 q1313 np_X1_checkIndex (zr_ok rfl rfl) rfl rfl (Nat.le_of_ble_eq_true rfl) (⟨Nat.le_of_ble_eq_true rfl, Nat.le_of_ble_eq_true rfl⟩) dX1_addSource_19 ?_
  refine z_iload_n (i := 2) C dX1_addSource_22 rfl rfl ?_
  refine z_iload_n (i := 3) C dX1_addSource_23 rfl rfl ?_
  refine z_callSe C (ct_X1_isOnVehicle D B u z) q1329 q1330 q83 q1331 np_X1_isOnVehicle (zr_ok rfl rfl) rfl rfl (Nat.le_of_ble_eq_true rfl) (⟨Nat.le_of_ble_eq_true rfl, Nat.le_of_ble_eq_true rfl⟩) dX1_addSource_24 ?_
  refine z_if_eq (tgt := 55) C dX1_addSource_27 (by decide) (fun c_27 => ?_) (fun c_27 => ?_)
  · refine z_iconst (v := 0) C dX1_addSource_55 (by decide) ?_
    exact z_callS C (ct_X1_checkArgument_x D B _ (rfl)) q1221 q1222 q83 q1223 np_X1_checkArgument (zr_ok rfl rfl) rfl rfl (Nat.le_of_ble_eq_true rfl) (⟨Nat.le_of_ble_eq_true rfl, Nat.le_of_ble_eq_true rfl⟩) dX1_addSource_56 (fun E9 q9 G9 h9 => z_out C h9 (Nat.le_of_ble_eq_true rfl) (Nat.le_of_ble_eq_true rfl)) (fun v9 G9 h9 => h9.elim)
  · refine z_iload C dX1_addSource_30 rfl ?_
    refine z_i2l C dX1_addSource_32 rfl ?_
    refine z_lconst (v := 1) C dX1_addSource_33 (by decide) ?_
    refine z_ldc2 C q1334 dX1_addSource_34 ?_
    refine z_callSe C (ct_X1_isBetween D B (st) (1) (10) _ _ (by first | rfl | decide) (by first | rfl | decide)) q1220 q789 q83 q790 np_X1_isBetween (zr_ok rfl rfl) rfl rfl (Nat.le_of_ble_eq_true rfl) (⟨Nat.le_of_ble_eq_true rfl, Nat.le_of_ble_eq_true rfl⟩) dX1_addSource_37 ?_
    refine z_if_eq (tgt := 55) C dX1_addSource_40 (by decide) (fun c_40 => ?_) (fun c_40 => ?_)
    · refine z_iconst (v := 0) C dX1_addSource_55 (by decide) ?_
      exact z_callS C (ct_X1_checkArgument_x D B _ (rfl)) q1221 q1222 q83 q1223 np_X1_checkArgument (zr_ok rfl rfl) rfl rfl (Nat.le_of_ble_eq_true rfl) (⟨Nat.le_of_ble_eq_true rfl, Nat.le_of_ble_eq_true rfl⟩) dX1_addSource_56 (fun E9 q9 G9 h9 => z_out C h9 (Nat.le_of_ble_eq_true rfl) (Nat.le_of_ble_eq_true rfl)) (fun v9 G9 h9 => h9.elim)
    · refine z_iload C dX1_addSource_43 rfl ?_
      refine z_callSe C (ct_X1_isValue D B x) q1335 q1336 q83 q1337 np_X1_isValue (zr_ok rfl rfl) rfl rfl (Nat.le_of_ble_eq_true rfl) (⟨Nat.le_of_ble_eq_true rfl, Nat.le_of_ble_eq_true rfl⟩) dX1_addSource_45 ?_
      refine z_if_eq (tgt := 55) C dX1_addSource_48 (by decide) (fun c_48 => ?_) (fun c_48 => ?_)
      · refine z_iconst (v := 0) C dX1_addSource_55 (by decide) ?_
        exact z_callS C (ct_X1_checkArgument_x D B _ (rfl)) q1221 q1222 q83 q1223 np_X1_checkArgument (zr_ok rfl rfl) rfl rfl (Nat.le_of_ble_eq_true rfl) (⟨Nat.le_of_ble_eq_true rfl, Nat.le_of_ble_eq_true rfl⟩) dX1_addSource_56 (fun E9 q9 G9 h9 => z_out C h9 (Nat.le_of_ble_eq_true rfl) (Nat.le_of_ble_eq_true rfl)) (fun v9 G9 h9 => h9.elim)
      · refine z_iconst (v := 1) C dX1_addSource_51 (by decide) ?_
        refine z_goto (tgt := 56) C dX1_addSource_52 (by decide) ?_
        exact absurd ⟨zb_ne.mp c_27, zb_ne.mp c_40, zb_ne.mp c_48⟩ h
set_option maxHeartbeats 4000000 in
set_option maxRecDepth 100000 in
theorem ct_X1_addSource_s (D : zG) (B : Nat) {G : zH} (o : Nat) (v1 v2 v3 v4 v5 : Value) (χ : Nat → Nat) (c a lv ls lm fo pa su : Nat) (va sa ua ma ra : Nat → Nat) (rq : Nat) (S : Nat → Int32) (v : Int32) (nv : Nat) (u z st x : Int32) (hO : G o = some (.inr (0, [.ref a, v1, v2, v3, v4, v5]))) (hR : zTr G χ c a lv ls lm fo pa su va sa ua ma ra rq S) (g : zGe S) (hc : 100 ≤ c) (hv6 : S 6 = nI nv) (hv4 : nv ≤ 4) (h1 : 0 ≤ v ∧ v ≤ S 6 - 1) (h : ((-1000 ≤ u ∧ u ≤ 1000) ∧ 0 ≤ z ∧ z ≤ 500) ∧ (1 ≤ st ∧ st ≤ 10) ∧ -99 ≤ x ∧ x ≤ 99) (hn : S 7 = nI 6) : Ct D B yX1_addSource (ws_ yX1_addSource cX1_addSource 6 (some .int)) (zrc 9 1 6) [.ref o, .int v, .int u, .int z, .int st, .int x] G (zpF) (zpxE zISE G) := by
  refine ct_intro (by decide +kernel) (Nat.le_of_ble_eq_true rfl) ?_
  intro X C
  obtain ⟨⟨mc, e, cap, gg, l1, lc, ld⟩, lX⟩ := id hR.2.2.1
  rw [zct_of hv6 (by omega)] at l1 lX
  obtain ⟨⟨mcs, es, caps, gs, s1, sc, sd⟩, sX⟩ := id hR.2.2.2.1
  rw [zct_of hn (by omega)] at s1 sX
  refine z_iload_n (i := 1) C dX1_addSource_0 rfl rfl ?_
  refine z_i2l C dX1_addSource_1 rfl ?_
  refine z_lconst (v := 0) C dX1_addSource_2 (by decide) ?_
  refine z_aload_n (i := 0) C dX1_addSource_3 rfl rfl ?_
  refine z_getf (ci := 0) (k := 0) C (hO) rfl rfl q570 dX1_addSource_4 ?_
  refine z_getfN (ci := 1) (k := 0) C (hR.1.1) rfl rfl q510 dX1_addSource_7 ?_
  refine z_callVe C (l1.1) rfl (ct_J2_size D B lv nv _ _ l1.1) q1265 q931 q932 q87 q933 np_J2_size (zr_ok rfl rfl) rfl rfl (Nat.le_of_ble_eq_true rfl) (⟨Nat.le_of_ble_eq_true rfl, Nat.le_of_ble_eq_true rfl⟩) dX1_addSource_10 ?_
  refine z_seti hv6.symm ?_
  refine z_iconst (v := 1) C dX1_addSource_13 (by decide) ?_
  refine z_isub C dX1_addSource_14 ?_
  refine z_i2l C dX1_addSource_15 rfl ?_
  refine z_callSe C (ct_X1_isBetween D B (v) 0 (S 6 - 1) 0 _ (by decide) rfl) q1220 q789 q83 q790 np_X1_isBetween (zr_ok rfl rfl) rfl rfl (Nat.le_of_ble_eq_true rfl) (⟨Nat.le_of_ble_eq_true rfl, Nat.le_of_ble_eq_true rfl⟩) dX1_addSource_16 ?_
  refine z_callSe C (ct_X1_checkIndex_ok D B _ (zb_ne.mpr h1)) q1311 q1312 q83 q1313 np_X1_checkIndex (zr_ok rfl rfl) rfl rfl (Nat.le_of_ble_eq_true rfl) (⟨Nat.le_of_ble_eq_true rfl, Nat.le_of_ble_eq_true rfl⟩) dX1_addSource_19 ?_
  refine z_iload_n (i := 2) C dX1_addSource_22 rfl rfl ?_
  refine z_iload_n (i := 3) C dX1_addSource_23 rfl rfl ?_
  refine z_callSe C (ct_X1_isOnVehicle D B u z) q1329 q1330 q83 q1331 np_X1_isOnVehicle (zr_ok rfl rfl) rfl rfl (Nat.le_of_ble_eq_true rfl) (⟨Nat.le_of_ble_eq_true rfl, Nat.le_of_ble_eq_true rfl⟩) dX1_addSource_24 ?_
  refine z_if_eq (tgt := 55) C dX1_addSource_27 (by decide) (fun c_27 => ?_) (fun c_27 => ?_)
  · exact absurd h.1 (zb_eq.mp c_27)
  · refine z_iload C dX1_addSource_30 rfl ?_
    refine z_i2l C dX1_addSource_32 rfl ?_
    refine z_lconst (v := 1) C dX1_addSource_33 (by decide) ?_
    refine z_ldc2 C q1334 dX1_addSource_34 ?_
    refine z_callSe C (ct_X1_isBetween D B (st) (1) (10) _ _ (by first | rfl | decide) (by first | rfl | decide)) q1220 q789 q83 q790 np_X1_isBetween (zr_ok rfl rfl) rfl rfl (Nat.le_of_ble_eq_true rfl) (⟨Nat.le_of_ble_eq_true rfl, Nat.le_of_ble_eq_true rfl⟩) dX1_addSource_37 ?_
    refine z_if_eq (tgt := 55) C dX1_addSource_40 (by decide) (fun c_40 => ?_) (fun c_40 => ?_)
    · exact absurd h.2.1 (zb_eq.mp c_40)
    · refine z_iload C dX1_addSource_43 rfl ?_
      refine z_callSe C (ct_X1_isValue D B x) q1335 q1336 q83 q1337 np_X1_isValue (zr_ok rfl rfl) rfl rfl (Nat.le_of_ble_eq_true rfl) (⟨Nat.le_of_ble_eq_true rfl, Nat.le_of_ble_eq_true rfl⟩) dX1_addSource_45 ?_
      refine z_if_eq (tgt := 55) C dX1_addSource_48 (by decide) (fun c_48 => ?_) (fun c_48 => ?_)
      · exact absurd h.2.2 (zb_eq.mp c_48)
      · refine z_iconst (v := 1) C dX1_addSource_51 (by decide) ?_
        refine z_goto (tgt := 56) C dX1_addSource_52 (by decide) ?_
        refine z_callSe C (ct_X1_checkArgument_ok D B _ (by decide)) q1221 q1222 q83 q1223 np_X1_checkArgument (zr_ok rfl rfl) rfl rfl (Nat.le_of_ble_eq_true rfl) (⟨Nat.le_of_ble_eq_true rfl, Nat.le_of_ble_eq_true rfl⟩) dX1_addSource_56 ?_
        refine z_aload_n (i := 0) C dX1_addSource_59 rfl rfl ?_
        refine z_getf (ci := 0) (k := 0) C (hO) rfl rfl q570 dX1_addSource_60 ?_
        refine z_getfN (ci := 1) (k := 1) C (hR.1.1) rfl rfl q513 dX1_addSource_63 ?_
        refine z_callVe C (s1.1) rfl (ct_J2_size D B ls 6 _ _ s1.1) q1265 q931 q932 q87 q933 np_J2_size (zr_ok rfl rfl) rfl rfl (Nat.le_of_ble_eq_true rfl) (⟨Nat.le_of_ble_eq_true rfl, Nat.le_of_ble_eq_true rfl⟩) dX1_addSource_66 ?_
        refine z_bipush (v := 6) C dX1_addSource_69 (by decide) ?_
        refine z_icmp_ge (tgt := 78) C dX1_addSource_71 (by decide) (fun c_71 => ?_) (fun c_71 => ?_)
        · refine z_iconst (v := 0) C dX1_addSource_78 (by decide) ?_
          exact z_callS C (ct_X1_checkState_x D B _ (rfl)) q1266 q1267 q83 q1268 np_X1_checkState (zr_ok rfl rfl) rfl rfl (Nat.le_of_ble_eq_true rfl) (⟨Nat.le_of_ble_eq_true rfl, Nat.le_of_ble_eq_true rfl⟩) dX1_addSource_79 (fun E9 q9 G9 h9 => z_out C h9 (Nat.le_of_ble_eq_true rfl) (Nat.le_of_ble_eq_true rfl)) (fun v9 G9 h9 => h9.elim)
        · exact absurd (Int32.le_refl _) c_71
set_option maxHeartbeats 4000000 in
set_option maxRecDepth 100000 in
theorem ct_X1_count_0 (D : zG) (B : Nat) {G : zH} (o : Nat) (v1 v2 v3 v4 v5 : Value) (χ : Nat → Nat) (c a lv ls lm fo pa su : Nat) (va sa ua ma ra : Nat → Nat) (rq : Nat) (S : Nat → Int32) (n : Nat) (hO : G o = some (.inr (0, [.ref a, v1, v2, v3, v4, v5]))) (hR : zTr G χ c a lv ls lm fo pa su va sa ua ma ra rq S) (g : zGe S) (hc : 100 ≤ c) (hn : S 6 = nI n) (hn8 : n ≤ 8) : Ct D B yX1_count (ws_ yX1_count cX1_count 2 (some .int)) (zr 7) [.ref o, .int 0] G (zpe (some (.int (S 6))) G) zno := by
  refine ct_intro (by decide +kernel) (Nat.le_of_ble_eq_true rfl) ?_
  intro X C
  obtain ⟨⟨mc, e, cap, gg, l1, lc, ld⟩, lX⟩ := id hR.2.2.1
  rw [zct_of hn (by omega)] at l1 lX
  refine z_iload_n (i := 1) C dX1_count_0 rfl rfl ?_
  refine z_i2l C dX1_count_1 rfl ?_
  refine z_lconst (v := 0) C dX1_count_2 (by decide) ?_
  refine z_ldc2 C q1387 dX1_count_3 ?_
  refine z_callSe C (ct_X1_isBetween D B ((0 : Int32)) (0) (3) _ _ (by first | rfl | decide) (by first | rfl | decide)) q1220 q789 q83 q790 np_X1_isBetween (zr_ok rfl rfl) rfl rfl (Nat.le_of_ble_eq_true rfl) (⟨Nat.le_of_ble_eq_true rfl, Nat.le_of_ble_eq_true rfl⟩) dX1_count_6 ?_
  refine z_callSe C (ct_X1_checkArgument_ok D B _ (zb_ne.mpr (by decide))) q1221 q1222 q83 q1223 np_X1_checkArgument (zr_ok rfl rfl) rfl rfl (Nat.le_of_ble_eq_true rfl) (⟨Nat.le_of_ble_eq_true rfl, Nat.le_of_ble_eq_true rfl⟩) dX1_count_9 ?_
  refine z_iload_n (i := 1) C dX1_count_12 rfl rfl ?_
  refine z_tableIn (x := 0) (off := 27) (tgt := 40) C dX1_count_13 (by decide) (by decide) rfl (by decide) ?_
  refine z_aload_n (i := 0) C dX1_count_40 rfl rfl ?_
  refine z_getf (ci := 0) (k := 0) C (hO) rfl rfl q570 dX1_count_41 ?_
  refine z_getfN (ci := 1) (k := 0) C (hR.1.1) rfl rfl q510 dX1_count_44 ?_
  refine z_callVe C (l1.1) rfl (ct_J2_size D B lv n _ _ l1.1) q1265 q931 q932 q87 q933 np_J2_size (zr_ok rfl rfl) rfl rfl (Nat.le_of_ble_eq_true rfl) (⟨Nat.le_of_ble_eq_true rfl, Nat.le_of_ble_eq_true rfl⟩) dX1_count_47 ?_
  refine z_seti hn.symm ?_
  exact z_ireturn C rfl (rfl) dX1_count_50 (⟨rfl, rfl⟩) (Nat.le_of_ble_eq_true rfl) (Nat.le_of_ble_eq_true rfl)
set_option maxHeartbeats 4000000 in
set_option maxRecDepth 100000 in
theorem ct_X1_count_1 (D : zG) (B : Nat) {G : zH} (o : Nat) (v1 v2 v3 v4 v5 : Value) (χ : Nat → Nat) (c a lv ls lm fo pa su : Nat) (va sa ua ma ra : Nat → Nat) (rq : Nat) (S : Nat → Int32) (n : Nat) (hO : G o = some (.inr (0, [.ref a, v1, v2, v3, v4, v5]))) (hR : zTr G χ c a lv ls lm fo pa su va sa ua ma ra rq S) (g : zGe S) (hc : 100 ≤ c) (hn : S 7 = nI n) (hn8 : n ≤ 8) : Ct D B yX1_count (ws_ yX1_count cX1_count 2 (some .int)) (zr 7) [.ref o, .int 1] G (zpe (some (.int (S 7))) G) zno := by
  refine ct_intro (by decide +kernel) (Nat.le_of_ble_eq_true rfl) ?_
  intro X C
  obtain ⟨⟨mc, e, cap, gg, l1, lc, ld⟩, lX⟩ := id hR.2.2.2.1
  rw [zct_of hn (by omega)] at l1 lX
  refine z_iload_n (i := 1) C dX1_count_0 rfl rfl ?_
  refine z_i2l C dX1_count_1 rfl ?_
  refine z_lconst (v := 0) C dX1_count_2 (by decide) ?_
  refine z_ldc2 C q1387 dX1_count_3 ?_
  refine z_callSe C (ct_X1_isBetween D B ((1 : Int32)) (0) (3) _ _ (by first | rfl | decide) (by first | rfl | decide)) q1220 q789 q83 q790 np_X1_isBetween (zr_ok rfl rfl) rfl rfl (Nat.le_of_ble_eq_true rfl) (⟨Nat.le_of_ble_eq_true rfl, Nat.le_of_ble_eq_true rfl⟩) dX1_count_6 ?_
  refine z_callSe C (ct_X1_checkArgument_ok D B _ (zb_ne.mpr (by decide))) q1221 q1222 q83 q1223 np_X1_checkArgument (zr_ok rfl rfl) rfl rfl (Nat.le_of_ble_eq_true rfl) (⟨Nat.le_of_ble_eq_true rfl, Nat.le_of_ble_eq_true rfl⟩) dX1_count_9 ?_
  refine z_iload_n (i := 1) C dX1_count_12 rfl rfl ?_
  refine z_tableIn (x := 1) (off := 38) (tgt := 51) C dX1_count_13 (by decide) (by decide) rfl (by decide) ?_
  refine z_aload_n (i := 0) C dX1_count_51 rfl rfl ?_
  refine z_getf (ci := 0) (k := 0) C (hO) rfl rfl q570 dX1_count_52 ?_
  refine z_getfN (ci := 1) (k := 1) C (hR.1.1) rfl rfl q513 dX1_count_55 ?_
  refine z_callVe C (l1.1) rfl (ct_J2_size D B ls n _ _ l1.1) q1265 q931 q932 q87 q933 np_J2_size (zr_ok rfl rfl) rfl rfl (Nat.le_of_ble_eq_true rfl) (⟨Nat.le_of_ble_eq_true rfl, Nat.le_of_ble_eq_true rfl⟩) dX1_count_58 ?_
  refine z_seti hn.symm ?_
  exact z_ireturn C rfl (rfl) dX1_count_61 (⟨rfl, rfl⟩) (Nat.le_of_ble_eq_true rfl) (Nat.le_of_ble_eq_true rfl)
set_option maxHeartbeats 4000000 in
set_option maxRecDepth 100000 in
theorem ct_X1_count_2 (D : zG) (B : Nat) {G : zH} (o : Nat) (v1 v2 v3 v4 v5 : Value) (χ : Nat → Nat) (c a lv ls lm fo pa su : Nat) (va sa ua ma ra : Nat → Nat) (rq : Nat) (S : Nat → Int32) (n : Nat) (hO : G o = some (.inr (0, [.ref a, v1, v2, v3, v4, v5]))) (hR : zTr G χ c a lv ls lm fo pa su va sa ua ma ra rq S) (g : zGe S) (hc : 100 ≤ c) (hn : S 8 = nI n) (hn8 : n ≤ 8) : Ct D B yX1_count (ws_ yX1_count cX1_count 2 (some .int)) (zr 7) [.ref o, .int 2] G (zpe (some (.int (S 8))) G) zno := by
  refine ct_intro (by decide +kernel) (Nat.le_of_ble_eq_true rfl) ?_
  intro X C
  obtain ⟨⟨mc, e, cap, gg, l1, lc, ld⟩, lX⟩ := id hR.2.2.2.2.1
  rw [zct_of hn (by omega)] at l1 lX
  refine z_iload_n (i := 1) C dX1_count_0 rfl rfl ?_
  refine z_i2l C dX1_count_1 rfl ?_
  refine z_lconst (v := 0) C dX1_count_2 (by decide) ?_
  refine z_ldc2 C q1387 dX1_count_3 ?_
  refine z_callSe C (ct_X1_isBetween D B ((2 : Int32)) (0) (3) _ _ (by first | rfl | decide) (by first | rfl | decide)) q1220 q789 q83 q790 np_X1_isBetween (zr_ok rfl rfl) rfl rfl (Nat.le_of_ble_eq_true rfl) (⟨Nat.le_of_ble_eq_true rfl, Nat.le_of_ble_eq_true rfl⟩) dX1_count_6 ?_
  refine z_callSe C (ct_X1_checkArgument_ok D B _ (zb_ne.mpr (by decide))) q1221 q1222 q83 q1223 np_X1_checkArgument (zr_ok rfl rfl) rfl rfl (Nat.le_of_ble_eq_true rfl) (⟨Nat.le_of_ble_eq_true rfl, Nat.le_of_ble_eq_true rfl⟩) dX1_count_9 ?_
  refine z_iload_n (i := 1) C dX1_count_12 rfl rfl ?_
  refine z_tableIn (x := 2) (off := 49) (tgt := 62) C dX1_count_13 (by decide) (by decide) rfl (by decide) ?_
  refine z_aload_n (i := 0) C dX1_count_62 rfl rfl ?_
  refine z_getf (ci := 0) (k := 0) C (hO) rfl rfl q570 dX1_count_63 ?_
  refine z_getfN (ci := 1) (k := 2) C (hR.1.1) rfl rfl q516 dX1_count_66 ?_
  refine z_callVe C (l1.1) rfl (ct_J2_size D B lm n _ _ l1.1) q1265 q931 q932 q87 q933 np_J2_size (zr_ok rfl rfl) rfl rfl (Nat.le_of_ble_eq_true rfl) (⟨Nat.le_of_ble_eq_true rfl, Nat.le_of_ble_eq_true rfl⟩) dX1_count_69 ?_
  refine z_seti hn.symm ?_
  exact z_ireturn C rfl (rfl) dX1_count_72 (⟨rfl, rfl⟩) (Nat.le_of_ble_eq_true rfl) (Nat.le_of_ble_eq_true rfl)
set_option maxHeartbeats 4000000 in
set_option maxRecDepth 100000 in
theorem ct_X1_count_3 (D : zG) (B : Nat) {G : zH} (o : Nat) (v1 v2 v3 v4 v5 : Value) (χ : Nat → Nat) (c a lv ls lm fo pa su : Nat) (va sa ua ma ra : Nat → Nat) (rq : Nat) (S : Nat → Int32) (hO : G o = some (.inr (0, [.ref a, v1, v2, v3, v4, v5]))) (hR : zTr G χ c a lv ls lm fo pa su va sa ua ma ra rq S) (g : zGe S) (hc : 100 ≤ c) : Ct D B yX1_count (ws_ yX1_count cX1_count 2 (some .int)) (zr 7) [.ref o, .int 3] G (zpe (some (.int (S 9))) G) zno := by
  refine ct_intro (by decide +kernel) (Nat.le_of_ble_eq_true rfl) ?_
  intro X C
  refine z_iload_n (i := 1) C dX1_count_0 rfl rfl ?_
  refine z_i2l C dX1_count_1 rfl ?_
  refine z_lconst (v := 0) C dX1_count_2 (by decide) ?_
  refine z_ldc2 C q1387 dX1_count_3 ?_
  refine z_callSe C (ct_X1_isBetween D B ((3 : Int32)) (0) (3) _ _ (by first | rfl | decide) (by first | rfl | decide)) q1220 q789 q83 q790 np_X1_isBetween (zr_ok rfl rfl) rfl rfl (Nat.le_of_ble_eq_true rfl) (⟨Nat.le_of_ble_eq_true rfl, Nat.le_of_ble_eq_true rfl⟩) dX1_count_6 ?_
  refine z_callSe C (ct_X1_checkArgument_ok D B _ (zb_ne.mpr (by decide))) q1221 q1222 q83 q1223 np_X1_checkArgument (zr_ok rfl rfl) rfl rfl (Nat.le_of_ble_eq_true rfl) (⟨Nat.le_of_ble_eq_true rfl, Nat.le_of_ble_eq_true rfl⟩) dX1_count_9 ?_
  refine z_iload_n (i := 1) C dX1_count_12 rfl rfl ?_
  refine z_tableOut (x := 3) (tgt := 73) C dX1_count_13 (Or.inr (by decide)) (by decide) ?_
  refine z_aload_n (i := 0) C dX1_count_73 rfl rfl ?_
  refine z_getf (ci := 0) (k := 0) C (hO) rfl rfl q570 dX1_count_74 ?_
  refine z_getfN (ci := 1) (k := 8) C (hR.1.1) rfl rfl q532 dX1_count_77 ?_
  exact z_ireturn C rfl (rfl) dX1_count_80 (⟨rfl, rfl⟩) (Nat.le_of_ble_eq_true rfl) (Nat.le_of_ble_eq_true rfl)
set_option maxHeartbeats 4000000 in
set_option maxRecDepth 100000 in
theorem ct_X1_count_x (D : zG) (B : Nat) {G : zH} (o : Nat) (v1 v2 v3 v4 v5 : Value) (χ : Nat → Nat) (c a lv ls lm fo pa su : Nat) (va sa ua ma ra : Nat → Nat) (rq : Nat) (S : Nat → Int32) (x : Int32) (h : ¬ (0 ≤ x ∧ x ≤ 3)) : Ct D B yX1_count (ws_ yX1_count cX1_count 2 (some .int)) (zrc 8 1 6) [.ref o, .int x] G (zpF) (zpxE zIAE G) := by
  refine ct_intro (by decide +kernel) (Nat.le_of_ble_eq_true rfl) ?_
  intro X C
  refine z_iload_n (i := 1) C dX1_count_0 rfl rfl ?_
  refine z_i2l C dX1_count_1 rfl ?_
  refine z_lconst (v := 0) C dX1_count_2 (by decide) ?_
  refine z_ldc2 C q1387 dX1_count_3 ?_
  refine z_callSe C (ct_X1_isBetween D B (x) (0) (3) _ _ (by first | rfl | decide) (by first | rfl | decide)) q1220 q789 q83 q790 np_X1_isBetween (zr_ok rfl rfl) rfl rfl (Nat.le_of_ble_eq_true rfl) (⟨Nat.le_of_ble_eq_true rfl, Nat.le_of_ble_eq_true rfl⟩) dX1_count_6 ?_
  exact z_callS C (ct_X1_checkArgument_x D B _ (zb_eq.mpr h)) q1221 q1222 q83 q1223 np_X1_checkArgument (zr_ok rfl rfl) rfl rfl (Nat.le_of_ble_eq_true rfl) (⟨Nat.le_of_ble_eq_true rfl, Nat.le_of_ble_eq_true rfl⟩) dX1_count_9 (fun E9 q9 G9 h9 => z_out C h9 (Nat.le_of_ble_eq_true rfl) (Nat.le_of_ble_eq_true rfl)) (fun v9 G9 h9 => h9.elim)
