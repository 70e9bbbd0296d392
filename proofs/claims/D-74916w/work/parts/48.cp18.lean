/-! component: settings -/
theorem znarZ {x : Int32} (h : x = 0 ∨ x = 1) : narrow .boolean (.int x) = .int x := by
  rcases h with h | h <;> subst h <;> rfl
set_option maxHeartbeats 4000000 in
set_option maxRecDepth 100000 in
theorem ct_X1_setSound_ok (D : zG) (B : Nat) {G : zH} (o : Nat) (v1 v2 v3 v4 v5 : Value) (χ : Nat → Nat) (c a lv ls lm fo pa su : Nat) (va sa ua ma ra : Nat → Nat) (rq : Nat) (S : Nat → Int32) (x : Int32) (hO : G o = some (.inr (0, [.ref a, v1, v2, v3, v4, v5]))) (hR : zTr G χ c a lv ls lm fo pa su va sa ua ma ra rq S) (g : zGe S) (hc : 100 ≤ c) (h : 100 ≤ x ∧ x ≤ 1000) : Ct D B yX1_setSound (ws_ yX1_setSound cX1_setSound 3 (some .int)) (zr 7) [.ref o, .int x] G (fun r9 G9 => r9 = some (.int (S 0)) ∧ zkee (fun k => k ≠ c) G χ G9 χ ∧ zTr G9 χ c a lv ls lm fo pa su va sa ua ma ra rq (upd S 0 x)) zno := by
  refine ct_intro (by decide +kernel) (Nat.le_of_ble_eq_true rfl) ?_
  intro X C
  refine z_iload_n (i := 1) C dX1_setSound_0 rfl rfl ?_
  refine z_i2l C dX1_setSound_1 rfl ?_
  refine z_ldc2 C q1218 dX1_setSound_2 ?_
  refine z_ldc2 C q1219 dX1_setSound_5 ?_
  refine z_callSe C (ct_X1_isBetween D B (x) (100) (1000) _ _ (by first | rfl | decide) (by first | rfl | decide)) q1220 q789 q83 q790 np_X1_isBetween (zr_ok rfl rfl) rfl rfl (Nat.le_of_ble_eq_true rfl) (⟨Nat.le_of_ble_eq_true rfl, Nat.le_of_ble_eq_true rfl⟩) dX1_setSound_8 ?_
  refine z_callSe C (ct_X1_checkArgument_ok D B _ (zb_ne.mpr h)) q1221 q1222 q83 q1223 np_X1_checkArgument (zr_ok rfl rfl) rfl rfl (Nat.le_of_ble_eq_true rfl) (⟨Nat.le_of_ble_eq_true rfl, Nat.le_of_ble_eq_true rfl⟩) dX1_setSound_11 ?_
  refine z_aload_n (i := 0) C dX1_setSound_14 rfl rfl ?_
  refine z_getf (ci := 0) (k := 0) C (hO) rfl rfl q570 dX1_setSound_15 ?_
  refine z_getfN (ci := 1) (k := 3) C (hR.1.1) rfl rfl q519 dX1_setSound_18 ?_
  refine z_istore_n (i := 2) C dX1_setSound_21 rfl (Nat.le_of_ble_eq_true rfl) rfl ?_
  refine z_aload_n (i := 0) C dX1_setSound_22 rfl rfl ?_
  refine z_getf (ci := 0) (k := 0) C (hO) rfl rfl q570 dX1_setSound_23 ?_
  refine z_iload_n (i := 1) C dX1_setSound_26 rfl rfl ?_
  refine z_putfN (ci := 1) (k := 3) C (hR.1.1) rfl (Nat.le_of_ble_eq_true rfl) (zfit_I _) q519 dX1_setSound_27 ?_
  refine z_heap (G' := zup G a (.inr (1, zTf lv ls lm fo pa su rq (upd S 0 x)))) rfl ?_
  refine z_iload_n (i := 2) C dX1_setSound_30 rfl rfl ?_
  exact z_ireturn C rfl (rfl) dX1_setSound_31 (⟨rfl, zkee.put hR.1.2 (fun h => h rfl), hR.set g hc ⟨hR.2.1.1, hR.2.1.2⟩ (fun i h1 h2 h3 => if_neg (by omega))⟩) (Nat.le_of_ble_eq_true rfl) (Nat.le_of_ble_eq_true rfl)
set_option maxHeartbeats 4000000 in
set_option maxRecDepth 100000 in
theorem ct_X1_setSound_x (D : zG) (B : Nat) {G : zH} (o : Nat) (v1 v2 v3 v4 v5 : Value) (χ : Nat → Nat) (c a lv ls lm fo pa su : Nat) (va sa ua ma ra : Nat → Nat) (rq : Nat) (S : Nat → Int32) (x : Int32) (h : ¬ (100 ≤ x ∧ x ≤ 1000)) : Ct D B yX1_setSound (ws_ yX1_setSound cX1_setSound 3 (some .int)) (zrc 7 1 6) [.ref o, .int x] G (zpF) (zpxE zIAE G) := by
  refine ct_intro (by decide +kernel) (Nat.le_of_ble_eq_true rfl) ?_
  intro X C
  refine z_iload_n (i := 1) C dX1_setSound_0 rfl rfl ?_
  refine z_i2l C dX1_setSound_1 rfl ?_
  refine z_ldc2 C q1218 dX1_setSound_2 ?_
  refine z_ldc2 C q1219 dX1_setSound_5 ?_
  refine z_callSe C (ct_X1_isBetween D B (x) (100) (1000) _ _ (by first | rfl | decide) (by first | rfl | decide)) q1220 q789 q83 q790 np_X1_isBetween (zr_ok rfl rfl) rfl rfl (Nat.le_of_ble_eq_true rfl) (⟨Nat.le_of_ble_eq_true rfl, Nat.le_of_ble_eq_true rfl⟩) dX1_setSound_8 ?_
  exact z_callS C (ct_X1_checkArgument_x D B _ (zb_eq.mpr h)) q1221 q1222 q83 q1223 np_X1_checkArgument (zr_ok rfl rfl) rfl rfl (Nat.le_of_ble_eq_true rfl) (⟨Nat.le_of_ble_eq_true rfl, Nat.le_of_ble_eq_true rfl⟩) dX1_setSound_11 (fun E9 q9 G9 h9 => z_out C h9 (Nat.le_of_ble_eq_true rfl) (Nat.le_of_ble_eq_true rfl)) (fun v9 G9 h9 => h9.elim)
set_option maxHeartbeats 4000000 in
set_option maxRecDepth 100000 in
theorem ct_X1_setGround_ok (D : zG) (B : Nat) {G : zH} (o : Nat) (v1 v2 v3 v4 v5 : Value) (χ : Nat → Nat) (c a lv ls lm fo pa su : Nat) (va sa ua ma ra : Nat → Nat) (rq : Nat) (S : Nat → Int32) (x : Int32) (hO : G o = some (.inr (0, [.ref a, v1, v2, v3, v4, v5]))) (hR : zTr G χ c a lv ls lm fo pa su va sa ua ma ra rq S) (g : zGe S) (hc : 100 ≤ c) (h : -90 ≤ x ∧ x ≤ 90) : Ct D B yX1_setGround (ws_ yX1_setGround cX1_setGround 3 (some .int)) (zr 7) [.ref o, .int x] G (fun r9 G9 => r9 = some (.int (S 1)) ∧ zkee (fun k => k ≠ c) G χ G9 χ ∧ zTr G9 χ c a lv ls lm fo pa su va sa ua ma ra rq (upd S 1 x)) zno := by
  refine ct_intro (by decide +kernel) (Nat.le_of_ble_eq_true rfl) ?_
  intro X C
  refine z_iload_n (i := 1) C dX1_setGround_0 rfl rfl ?_
  refine z_i2l C dX1_setGround_1 rfl ?_
  refine z_ldc2 C q1242 dX1_setGround_2 ?_
  refine z_ldc2 C q1243 dX1_setGround_5 ?_
  refine z_callSe C (ct_X1_isBetween D B (x) (-90) (90) _ _ (by first | rfl | decide) (by first | rfl | decide)) q1220 q789 q83 q790 np_X1_isBetween (zr_ok rfl rfl) rfl rfl (Nat.le_of_ble_eq_true rfl) (⟨Nat.le_of_ble_eq_true rfl, Nat.le_of_ble_eq_true rfl⟩) dX1_setGround_8 ?_
  refine z_callSe C (ct_X1_checkArgument_ok D B _ (zb_ne.mpr h)) q1221 q1222 q83 q1223 np_X1_checkArgument (zr_ok rfl rfl) rfl rfl (Nat.le_of_ble_eq_true rfl) (⟨Nat.le_of_ble_eq_true rfl, Nat.le_of_ble_eq_true rfl⟩) dX1_setGround_11 ?_
  refine z_aload_n (i := 0) C dX1_setGround_14 rfl rfl ?_
  refine z_getf (ci := 0) (k := 0) C (hO) rfl rfl q570 dX1_setGround_15 ?_
  refine z_getfN (ci := 1) (k := 4) C (hR.1.1) rfl rfl q522 dX1_setGround_18 ?_
  refine z_istore_n (i := 2) C dX1_setGround_21 rfl (Nat.le_of_ble_eq_true rfl) rfl ?_
  refine z_aload_n (i := 0) C dX1_setGround_22 rfl rfl ?_
  refine z_getf (ci := 0) (k := 0) C (hO) rfl rfl q570 dX1_setGround_23 ?_
  refine z_iload_n (i := 1) C dX1_setGround_26 rfl rfl ?_
  refine z_putfN (ci := 1) (k := 4) C (hR.1.1) rfl (Nat.le_of_ble_eq_true rfl) (zfit_I _) q522 dX1_setGround_27 ?_
  refine z_heap (G' := zup G a (.inr (1, zTf lv ls lm fo pa su rq (upd S 1 x)))) rfl ?_
  refine z_iload_n (i := 2) C dX1_setGround_30 rfl rfl ?_
  exact z_ireturn C rfl (rfl) dX1_setGround_31 (⟨rfl, zkee.put hR.1.2 (fun h => h rfl), hR.set g hc ⟨hR.2.1.1, hR.2.1.2⟩ (fun i h1 h2 h3 => if_neg (by omega))⟩) (Nat.le_of_ble_eq_true rfl) (Nat.le_of_ble_eq_true rfl)
set_option maxHeartbeats 4000000 in
set_option maxRecDepth 100000 in
theorem ct_X1_setGround_x (D : zG) (B : Nat) {G : zH} (o : Nat) (v1 v2 v3 v4 v5 : Value) (χ : Nat → Nat) (c a lv ls lm fo pa su : Nat) (va sa ua ma ra : Nat → Nat) (rq : Nat) (S : Nat → Int32) (x : Int32) (h : ¬ (-90 ≤ x ∧ x ≤ 90)) : Ct D B yX1_setGround (ws_ yX1_setGround cX1_setGround 3 (some .int)) (zrc 7 1 6) [.ref o, .int x] G (zpF) (zpxE zIAE G) := by
  refine ct_intro (by decide +kernel) (Nat.le_of_ble_eq_true rfl) ?_
  intro X C
  refine z_iload_n (i := 1) C dX1_setGround_0 rfl rfl ?_
  refine z_i2l C dX1_setGround_1 rfl ?_
  refine z_ldc2 C q1242 dX1_setGround_2 ?_
  refine z_ldc2 C q1243 dX1_setGround_5 ?_
  refine z_callSe C (ct_X1_isBetween D B (x) (-90) (90) _ _ (by first | rfl | decide) (by first | rfl | decide)) q1220 q789 q83 q790 np_X1_isBetween (zr_ok rfl rfl) rfl rfl (Nat.le_of_ble_eq_true rfl) (⟨Nat.le_of_ble_eq_true rfl, Nat.le_of_ble_eq_true rfl⟩) dX1_setGround_8 ?_
  exact z_callS C (ct_X1_checkArgument_x D B _ (zb_eq.mpr h)) q1221 q1222 q83 q1223 np_X1_checkArgument (zr_ok rfl rfl) rfl rfl (Nat.le_of_ble_eq_true rfl) (⟨Nat.le_of_ble_eq_true rfl, Nat.le_of_ble_eq_true rfl⟩) dX1_setGround_11 (fun E9 q9 G9 h9 => z_out C h9 (Nat.le_of_ble_eq_true rfl) (Nat.le_of_ble_eq_true rfl)) (fun v9 G9 h9 => h9.elim)
set_option maxHeartbeats 4000000 in
set_option maxRecDepth 100000 in
theorem ct_X1_setSpreading (D : zG) (B : Nat) {G : zH} (o : Nat) (v1 v2 v3 v4 v5 : Value) (χ : Nat → Nat) (c a lv ls lm fo pa su : Nat) (va sa ua ma ra : Nat → Nat) (rq : Nat) (S : Nat → Int32) (x : Int32) (hO : G o = some (.inr (0, [.ref a, v1, v2, v3, v4, v5]))) (hR : zTr G χ c a lv ls lm fo pa su va sa ua ma ra rq S) (g : zGe S) (hc : 100 ≤ c) (h : x = 0 ∨ x = 1) (hs : S 2 = 0 ∨ S 2 = 1) : Ct D B yX1_setSpreading (ws_ yX1_setSpreading cX1_setSpreading 3 (some .boolean)) (zr 0) [.ref o, .int x] G (fun r9 G9 => r9 = some (.int (S 2)) ∧ zkee (fun k => k ≠ c) G χ G9 χ ∧ zTr G9 χ c a lv ls lm fo pa su va sa ua ma ra rq (upd S 2 x)) zno := by
  refine ct_intro (by decide +kernel) (Nat.le_of_ble_eq_true rfl) ?_
  intro X C
  refine z_aload_n (i := 0) C dX1_setSpreading_0 rfl rfl ?_
  refine z_getf (ci := 0) (k := 0) C (hO) rfl rfl q570 dX1_setSpreading_1 ?_
  refine z_getfN (ci := 1) (k := 5) C (hR.1.1) rfl rfl q525 dX1_setSpreading_4 ?_
  refine z_istore_n (i := 2) C dX1_setSpreading_7 rfl (Nat.le_of_ble_eq_true rfl) rfl ?_
  refine z_aload_n (i := 0) C dX1_setSpreading_8 rfl rfl ?_
  refine z_getf (ci := 0) (k := 0) C (hO) rfl rfl q570 dX1_setSpreading_9 ?_
  refine z_iload_n (i := 1) C dX1_setSpreading_12 rfl rfl ?_
  refine z_putfN (ci := 1) (k := 5) C (hR.1.1) rfl (Nat.le_of_ble_eq_true rfl) (zfit_Z _ h) q525 dX1_setSpreading_13 ?_
  refine z_heap (G' := zup G a (.inr (1, zTf lv ls lm fo pa su rq (upd S 2 x)))) rfl ?_
  refine z_iload_n (i := 2) C dX1_setSpreading_16 rfl rfl ?_
  exact z_ireturn C rfl (znarZ hs) dX1_setSpreading_17 (⟨rfl, zkee.put hR.1.2 (fun h => h rfl), hR.set g hc ⟨hR.2.1.1, hR.2.1.2⟩ (fun i h1 h2 h3 => if_neg (by omega))⟩) (Nat.le_of_ble_eq_true rfl) (Nat.le_of_ble_eq_true rfl)
set_option maxHeartbeats 4000000 in
set_option maxRecDepth 100000 in
theorem ct_X1_setCut (D : zG) (B : Nat) {G : zH} (o : Nat) (v1 v2 v3 v4 v5 : Value) (χ : Nat → Nat) (c a lv ls lm fo pa su : Nat) (va sa ua ma ra : Nat → Nat) (rq : Nat) (S : Nat → Int32) (x : Int32) (hO : G o = some (.inr (0, [.ref a, v1, v2, v3, v4, v5]))) (hR : zTr G χ c a lv ls lm fo pa su va sa ua ma ra rq S) (g : zGe S) (hc : 100 ≤ c) (h : x = 0 ∨ x = 1) (hs : S 5 = 0 ∨ S 5 = 1) : Ct D B yX1_setCut (ws_ yX1_setCut cX1_setCut 3 (some .boolean)) (zr 0) [.ref o, .int x] G (fun r9 G9 => r9 = some (.int (S 5)) ∧ zkee (fun k => k ≠ c) G χ G9 χ ∧ zTr G9 χ c a lv ls lm fo pa su va sa ua ma ra rq (upd S 5 x)) zno := by
  refine ct_intro (by decide +kernel) (Nat.le_of_ble_eq_true rfl) ?_
  intro X C
  refine z_aload_n (i := 0) C dX1_setCut_0 rfl rfl ?_
  refine z_getf (ci := 0) (k := 0) C (hO) rfl rfl q570 dX1_setCut_1 ?_
  refine z_getfN (ci := 1) (k := 10) C (hR.1.1) rfl rfl q536 dX1_setCut_4 ?_
  refine z_istore_n (i := 2) C dX1_setCut_7 rfl (Nat.le_of_ble_eq_true rfl) rfl ?_
  refine z_aload_n (i := 0) C dX1_setCut_8 rfl rfl ?_
  refine z_getf (ci := 0) (k := 0) C (hO) rfl rfl q570 dX1_setCut_9 ?_
  refine z_iload_n (i := 1) C dX1_setCut_12 rfl rfl ?_
  refine z_putfN (ci := 1) (k := 10) C (hR.1.1) rfl (Nat.le_of_ble_eq_true rfl) (zfit_Z _ h) q536 dX1_setCut_13 ?_
  refine z_heap (G' := zup G a (.inr (1, zTf lv ls lm fo pa su rq (upd S 5 x)))) rfl ?_
  refine z_iload_n (i := 2) C dX1_setCut_16 rfl rfl ?_
  exact z_ireturn C rfl (znarZ hs) dX1_setCut_17 (⟨rfl, zkee.put hR.1.2 (fun h => h rfl), hR.set g hc ⟨hR.2.1.1, hR.2.1.2⟩ (fun i h1 h2 h3 => if_neg (by omega))⟩) (Nat.le_of_ble_eq_true rfl) (Nat.le_of_ble_eq_true rfl)
theorem zkn {k n : Nat} {x : Int32} (h : 0 ≤ nI k ∧ nI k ≤ x - 1) (e : x = nI n) (hk : k < 2 ^ 31) (hn : n < 2 ^ 31) : k < n := by
  rw [e] at h
  by_cases h0 : n = 0
  · subst h0
    exact absurd (Int32.le_trans h.1 h.2) (by decide)
  · rw [show nI n - 1 = nI (n - 1) from pk_sub (b := 1) (by omega)] at h
    have : ¬ n - 1 < k := fun z => absurd h.2 (Int32.not_le.mpr (nI_lt z hk))
    omega
theorem np_X1_checkIndex : znp yX1_checkIndex 1 := ⟨by decide +kernel, by decide +kernel, by decide +kernel⟩
set_option maxHeartbeats 4000000 in
set_option maxRecDepth 100000 in
theorem ct_X1_vehicle_ok (D : zG) (B : Nat) {G : zH} (o : Nat) (v1 v2 v3 v4 v5 : Value) (χ : Nat → Nat) (c a lv ls lm fo pa su : Nat) (va sa ua ma ra : Nat → Nat) (rq : Nat) (S : Nat → Int32) (k n : Nat) (hO : G o = some (.inr (0, [.ref a, v1, v2, v3, v4, v5]))) (hR : zTr G χ c a lv ls lm fo pa su va sa ua ma ra rq S) (g : zGe S) (hc : 100 ≤ c) (e9 : S 6 = nI n) (n9 : n ≤ 4) (hk : k < 100) (h : 0 ≤ nI k ∧ nI k ≤ S 6 - 1) : Ct D B yX1_vehicle (ws_ yX1_vehicle cX1_vehicle 2 (some (.object "TrackArray$Vehicle"))) (zr 7) [.ref o, .int (nI k)] G (zpe (some (.ref (va k))) G) zno := by
  refine ct_intro (by decide +kernel) (Nat.le_of_ble_eq_true rfl) ?_
  intro X C
  obtain ⟨⟨mc, e, cap, gg, l1, lc, ld⟩, lX⟩ := id hR.2.2.1
  rw [zct_of e9 (by omega)] at l1 lX
  have hk9 : k < n := zkn h e9 (by omega) (by omega)
  refine z_iload_n (i := 1) C dX1_vehicle_0 rfl rfl ?_
  refine z_i2l C dX1_vehicle_1 rfl ?_
  refine z_lconst (v := 0) C dX1_vehicle_2 (by decide) ?_
  refine z_aload_n (i := 0) C dX1_vehicle_3 rfl rfl ?_
  refine z_getf (ci := 0) (k := 0) C (hO) rfl rfl q570 dX1_vehicle_4 ?_
  refine z_getfN (ci := 1) (k := 0) C (hR.1.1) rfl rfl q510 dX1_vehicle_7 ?_
  refine z_callVe C (l1.1) rfl (ct_J2_size D B lv n _ _ l1.1) q1265 q931 q932 q87 q933 np_J2_size (zr_ok rfl rfl) rfl rfl (Nat.le_of_ble_eq_true rfl) (⟨Nat.le_of_ble_eq_true rfl, Nat.le_of_ble_eq_true rfl⟩) dX1_vehicle_10 ?_
  refine z_seti e9.symm ?_
  refine z_iconst (v := 1) C dX1_vehicle_13 (by decide) ?_
  refine z_isub C dX1_vehicle_14 ?_
  refine z_i2l C dX1_vehicle_15 rfl ?_
  refine z_callSe C (ct_X1_isBetween D B (nI k) 0 (S 6 - 1) 0 _ (by decide) rfl) q1220 q789 q83 q790 np_X1_isBetween (zr_ok rfl rfl) rfl rfl (Nat.le_of_ble_eq_true rfl) (⟨Nat.le_of_ble_eq_true rfl, Nat.le_of_ble_eq_true rfl⟩) dX1_vehicle_16 ?_
  refine z_callSe C (ct_X1_checkIndex_ok D B _ (zb_ne.mpr h)) q1311 q1312 q83 q1313 np_X1_checkIndex (zr_ok rfl rfl) rfl rfl (Nat.le_of_ble_eq_true rfl) (⟨Nat.le_of_ble_eq_true rfl, Nat.le_of_ble_eq_true rfl⟩) dX1_vehicle_19 ?_
  refine z_aload_n (i := 0) C dX1_vehicle_22 rfl rfl ?_
  refine z_getf (ci := 0) (k := 0) C (hO) rfl rfl q570 dX1_vehicle_23 ?_
  refine z_getfN (ci := 1) (k := 0) C (hR.1.1) rfl rfl q510 dX1_vehicle_26 ?_
  refine z_iload_n (i := 1) C dX1_vehicle_29 rfl rfl ?_
  refine z_callVe C (l1.1) rfl (ct_J2_get D B lv n va mc e cap gg k l1 hk9) q1351 q1139 q1140 q87 q1141 np_J2_get (zr_ok rfl rfl) rfl rfl (Nat.le_of_ble_eq_true rfl) (⟨Nat.le_of_ble_eq_true rfl, Nat.le_of_ble_eq_true rfl⟩) dX1_vehicle_30 ?_
  refine z_castS (ci := 4) C ((lX k hk9).1) rfl q1428 dX1_vehicle_33 ?_
  exact z_areturn C rfl (Or.inl ⟨_, rfl⟩) (Or.inr ⟨_, rfl⟩) dX1_vehicle_36 (⟨rfl, rfl⟩) (Nat.le_of_ble_eq_true rfl) (Nat.le_of_ble_eq_true rfl)
set_option maxHeartbeats 4000000 in
set_option maxRecDepth 100000 in
theorem ct_X1_vehicle_x (D : zG) (B : Nat) {G : zH} (o : Nat) (v1 v2 v3 v4 v5 : Value) (χ : Nat → Nat) (c a lv ls lm fo pa su : Nat) (va sa ua ma ra : Nat → Nat) (rq : Nat) (S : Nat → Int32) (x : Int32) (n : Nat) (hO : G o = some (.inr (0, [.ref a, v1, v2, v3, v4, v5]))) (hR : zTr G χ c a lv ls lm fo pa su va sa ua ma ra rq S) (g : zGe S) (hc : 100 ≤ c) (e9 : S 6 = nI n) (n9 : n ≤ 4) (h : ¬ (0 ≤ x ∧ x ≤ S 6 - 1)) : Ct D B yX1_vehicle (ws_ yX1_vehicle cX1_vehicle 2 (some (.object "TrackArray$Vehicle"))) (zrc 7 1 6) [.ref o, .int x] G (zpF) (zpxE zIOB G) := by
  refine ct_intro (by decide +kernel) (Nat.le_of_ble_eq_true rfl) ?_
  intro X C
  obtain ⟨⟨mc, e, cap, gg, l1, lc, ld⟩, lX⟩ := id hR.2.2.1
  rw [zct_of e9 (by omega)] at l1 lX
  refine z_iload_n (i := 1) C dX1_vehicle_0 rfl rfl ?_
  refine z_i2l C dX1_vehicle_1 rfl ?_
  refine z_lconst (v := 0) C dX1_vehicle_2 (by decide) ?_
  refine z_aload_n (i := 0) C dX1_vehicle_3 rfl rfl ?_
  refine z_getf (ci := 0) (k := 0) C (hO) rfl rfl q570 dX1_vehicle_4 ?_
  refine z_getfN (ci := 1) (k := 0) C (hR.1.1) rfl rfl q510 dX1_vehicle_7 ?_
  refine z_callVe C (l1.1) rfl (ct_J2_size D B lv n _ _ l1.1) q1265 q931 q932 q87 q933 np_J2_size (zr_ok rfl rfl) rfl rfl (Nat.le_of_ble_eq_true rfl) (⟨Nat.le_of_ble_eq_true rfl, Nat.le_of_ble_eq_true rfl⟩) dX1_vehicle_10 ?_
  refine z_seti e9.symm ?_
  refine z_iconst (v := 1) C dX1_vehicle_13 (by decide) ?_
  refine z_isub C dX1_vehicle_14 ?_
  refine z_i2l C dX1_vehicle_15 rfl ?_
  refine z_callSe C (ct_X1_isBetween D B x 0 (S 6 - 1) 0 _ (by decide) rfl) q1220 q789 q83 q790 np_X1_isBetween (zr_ok rfl rfl) rfl rfl (Nat.le_of_ble_eq_true rfl) (⟨Nat.le_of_ble_eq_true rfl, Nat.le_of_ble_eq_true rfl⟩) dX1_vehicle_16 ?_
  exact z_callS C (ct_X1_checkIndex_x D B _ (zb_eq.mpr h)) q1311 q1312 q83 q1313 np_X1_checkIndex (zr_ok rfl rfl) rfl rfl (Nat.le_of_ble_eq_true rfl) (⟨Nat.le_of_ble_eq_true rfl, Nat.le_of_ble_eq_true rfl⟩) dX1_vehicle_19 (fun E9 q9 G9 h9 => z_out C h9 (Nat.le_of_ble_eq_true rfl) (Nat.le_of_ble_eq_true rfl)) (fun v9 G9 h9 => h9.elim)
set_option maxHeartbeats 4000000 in
set_option maxRecDepth 100000 in
theorem ct_X1_source_ok (D : zG) (B : Nat) {G : zH} (o : Nat) (v1 v2 v3 v4 v5 : Value) (χ : Nat → Nat) (c a lv ls lm fo pa su : Nat) (va sa ua ma ra : Nat → Nat) (rq : Nat) (S : Nat → Int32) (k n : Nat) (hO : G o = some (.inr (0, [.ref a, v1, v2, v3, v4, v5]))) (hR : zTr G χ c a lv ls lm fo pa su va sa ua ma ra rq S) (g : zGe S) (hc : 100 ≤ c) (e9 : S 7 = nI n) (n9 : n ≤ 6) (hk : k < 100) (h : 0 ≤ nI k ∧ nI k ≤ S 7 - 1) : Ct D B yX1_source (ws_ yX1_source cX1_source 2 (some (.object "TrackArray$Source"))) (zr 7) [.ref o, .int (nI k)] G (zpe (some (.ref (sa k))) G) zno := by
  refine ct_intro (by decide +kernel) (Nat.le_of_ble_eq_true rfl) ?_
  intro X C
  obtain ⟨⟨mc, e, cap, gg, l1, lc, ld⟩, lX⟩ := id hR.2.2.2.1
  rw [zct_of e9 (by omega)] at l1 lX
  have hk9 : k < n := zkn h e9 (by omega) (by omega)
  refine z_iload_n (i := 1) C dX1_source_0 rfl rfl ?_
  refine z_i2l C dX1_source_1 rfl ?_
  refine z_lconst (v := 0) C dX1_source_2 (by decide) ?_
  refine z_aload_n (i := 0) C dX1_source_3 rfl rfl ?_
  refine z_getf (ci := 0) (k := 0) C (hO) rfl rfl q570 dX1_source_4 ?_
  refine z_getfN (ci := 1) (k := 1) C (hR.1.1) rfl rfl q513 dX1_source_7 ?_
  refine z_callVe C (l1.1) rfl (ct_J2_size D B ls n _ _ l1.1) q1265 q931 q932 q87 q933 np_J2_size (zr_ok rfl rfl) rfl rfl (Nat.le_of_ble_eq_true rfl) (⟨Nat.le_of_ble_eq_true rfl, Nat.le_of_ble_eq_true rfl⟩) dX1_source_10 ?_
  refine z_seti e9.symm ?_
  refine z_iconst (v := 1) C dX1_source_13 (by decide) ?_
  refine z_isub C dX1_source_14 ?_
  refine z_i2l C dX1_source_15 rfl ?_
  refine z_callSe C (ct_X1_isBetween D B (nI k) 0 (S 7 - 1) 0 _ (by decide) rfl) q1220 q789 q83 q790 np_X1_isBetween (zr_ok rfl rfl) rfl rfl (Nat.le_of_ble_eq_true rfl) (⟨Nat.le_of_ble_eq_true rfl, Nat.le_of_ble_eq_true rfl⟩) dX1_source_16 ?_
  refine z_callSe C (ct_X1_checkIndex_ok D B _ (zb_ne.mpr h)) q1311 q1312 q83 q1313 np_X1_checkIndex (zr_ok rfl rfl) rfl rfl (Nat.le_of_ble_eq_true rfl) (⟨Nat.le_of_ble_eq_true rfl, Nat.le_of_ble_eq_true rfl⟩) dX1_source_19 ?_
  refine z_aload_n (i := 0) C dX1_source_22 rfl rfl ?_
  refine z_getf (ci := 0) (k := 0) C (hO) rfl rfl q570 dX1_source_23 ?_
  refine z_getfN (ci := 1) (k := 1) C (hR.1.1) rfl rfl q513 dX1_source_26 ?_
  refine z_iload_n (i := 1) C dX1_source_29 rfl rfl ?_
  refine z_callVe C (l1.1) rfl (ct_J2_get D B ls n sa mc e cap gg k l1 hk9) q1351 q1139 q1140 q87 q1141 np_J2_get (zr_ok rfl rfl) rfl rfl (Nat.le_of_ble_eq_true rfl) (⟨Nat.le_of_ble_eq_true rfl, Nat.le_of_ble_eq_true rfl⟩) dX1_source_30 ?_
  refine z_castS (ci := 5) C ((lX k hk9).1.1) rfl q1352 dX1_source_33 ?_
  exact z_areturn C rfl (Or.inl ⟨_, rfl⟩) (Or.inr ⟨_, rfl⟩) dX1_source_36 (⟨rfl, rfl⟩) (Nat.le_of_ble_eq_true rfl) (Nat.le_of_ble_eq_true rfl)
set_option maxHeartbeats 4000000 in
set_option maxRecDepth 100000 in
theorem ct_X1_source_x (D : zG) (B : Nat) {G : zH} (o : Nat) (v1 v2 v3 v4 v5 : Value) (χ : Nat → Nat) (c a lv ls lm fo pa su : Nat) (va sa ua ma ra : Nat → Nat) (rq : Nat) (S : Nat → Int32) (x : Int32) (n : Nat) (hO : G o = some (.inr (0, [.ref a, v1, v2, v3, v4, v5]))) (hR : zTr G χ c a lv ls lm fo pa su va sa ua ma ra rq S) (g : zGe S) (hc : 100 ≤ c) (e9 : S 7 = nI n) (n9 : n ≤ 6) (h : ¬ (0 ≤ x ∧ x ≤ S 7 - 1)) : Ct D B yX1_source (ws_ yX1_source cX1_source 2 (some (.object "TrackArray$Source"))) (zrc 7 1 6) [.ref o, .int x] G (zpF) (zpxE zIOB G) := by
  refine ct_intro (by decide +kernel) (Nat.le_of_ble_eq_true rfl) ?_
  intro X C
  obtain ⟨⟨mc, e, cap, gg, l1, lc, ld⟩, lX⟩ := id hR.2.2.2.1
  rw [zct_of e9 (by omega)] at l1 lX
  refine z_iload_n (i := 1) C dX1_source_0 rfl rfl ?_
  refine z_i2l C dX1_source_1 rfl ?_
  refine z_lconst (v := 0) C dX1_source_2 (by decide) ?_
  refine z_aload_n (i := 0) C dX1_source_3 rfl rfl ?_
  refine z_getf (ci := 0) (k := 0) C (hO) rfl rfl q570 dX1_source_4 ?_
  refine z_getfN (ci := 1) (k := 1) C (hR.1.1) rfl rfl q513 dX1_source_7 ?_
  refine z_callVe C (l1.1) rfl (ct_J2_size D B ls n _ _ l1.1) q1265 q931 q932 q87 q933 np_J2_size (zr_ok rfl rfl) rfl rfl (Nat.le_of_ble_eq_true rfl) (⟨Nat.le_of_ble_eq_true rfl, Nat.le_of_ble_eq_true rfl⟩) dX1_source_10 ?_
  refine z_seti e9.symm ?_
  refine z_iconst (v := 1) C dX1_source_13 (by decide) ?_
  refine z_isub C dX1_source_14 ?_
  refine z_i2l C dX1_source_15 rfl ?_
  refine z_callSe C (ct_X1_isBetween D B x 0 (S 7 - 1) 0 _ (by decide) rfl) q1220 q789 q83 q790 np_X1_isBetween (zr_ok rfl rfl) rfl rfl (Nat.le_of_ble_eq_true rfl) (⟨Nat.le_of_ble_eq_true rfl, Nat.le_of_ble_eq_true rfl⟩) dX1_source_16 ?_
  exact z_callS C (ct_X1_checkIndex_x D B _ (zb_eq.mpr h)) q1311 q1312 q83 q1313 np_X1_checkIndex (zr_ok rfl rfl) rfl rfl (Nat.le_of_ble_eq_true rfl) (⟨Nat.le_of_ble_eq_true rfl, Nat.le_of_ble_eq_true rfl⟩) dX1_source_19 (fun E9 q9 G9 h9 => z_out C h9 (Nat.le_of_ble_eq_true rfl) (Nat.le_of_ble_eq_true rfl)) (fun v9 G9 h9 => h9.elim)
set_option maxHeartbeats 4000000 in
set_option maxRecDepth 100000 in
theorem ct_X1_microphone_ok (D : zG) (B : Nat) {G : zH} (o : Nat) (v1 v2 v3 v4 v5 : Value) (χ : Nat → Nat) (c a lv ls lm fo pa su : Nat) (va sa ua ma ra : Nat → Nat) (rq : Nat) (S : Nat → Int32) (k n : Nat) (hO : G o = some (.inr (0, [.ref a, v1, v2, v3, v4, v5]))) (hR : zTr G χ c a lv ls lm fo pa su va sa ua ma ra rq S) (g : zGe S) (hc : 100 ≤ c) (e9 : S 8 = nI n) (n9 : n ≤ 8) (hk : k < 100) (h : 0 ≤ nI k ∧ nI k ≤ S 8 - 1) : Ct D B yX1_microphone (ws_ yX1_microphone cX1_microphone 2 (some (.object "TrackArray$Microphone"))) (zr 7) [.ref o, .int (nI k)] G (zpe (some (.ref (ma k))) G) zno := by
  refine ct_intro (by decide +kernel) (Nat.le_of_ble_eq_true rfl) ?_
  intro X C
  obtain ⟨⟨mc, e, cap, gg, l1, lc, ld⟩, lX⟩ := id hR.2.2.2.2.1
  rw [zct_of e9 (by omega)] at l1 lX
  have hk9 : k < n := zkn h e9 (by omega) (by omega)
  refine z_iload_n (i := 1) C dX1_microphone_0 rfl rfl ?_
  refine z_i2l C dX1_microphone_1 rfl ?_
  refine z_lconst (v := 0) C dX1_microphone_2 (by decide) ?_
  refine z_aload_n (i := 0) C dX1_microphone_3 rfl rfl ?_
  refine z_getf (ci := 0) (k := 0) C (hO) rfl rfl q570 dX1_microphone_4 ?_
  refine z_getfN (ci := 1) (k := 2) C (hR.1.1) rfl rfl q516 dX1_microphone_7 ?_
  refine z_callVe C (l1.1) rfl (ct_J2_size D B lm n _ _ l1.1) q1265 q931 q932 q87 q933 np_J2_size (zr_ok rfl rfl) rfl rfl (Nat.le_of_ble_eq_true rfl) (⟨Nat.le_of_ble_eq_true rfl, Nat.le_of_ble_eq_true rfl⟩) dX1_microphone_10 ?_
  refine z_seti e9.symm ?_
  refine z_iconst (v := 1) C dX1_microphone_13 (by decide) ?_
  refine z_isub C dX1_microphone_14 ?_
  refine z_i2l C dX1_microphone_15 rfl ?_
  refine z_callSe C (ct_X1_isBetween D B (nI k) 0 (S 8 - 1) 0 _ (by decide) rfl) q1220 q789 q83 q790 np_X1_isBetween (zr_ok rfl rfl) rfl rfl (Nat.le_of_ble_eq_true rfl) (⟨Nat.le_of_ble_eq_true rfl, Nat.le_of_ble_eq_true rfl⟩) dX1_microphone_16 ?_
  refine z_callSe C (ct_X1_checkIndex_ok D B _ (zb_ne.mpr h)) q1311 q1312 q83 q1313 np_X1_checkIndex (zr_ok rfl rfl) rfl rfl (Nat.le_of_ble_eq_true rfl) (⟨Nat.le_of_ble_eq_true rfl, Nat.le_of_ble_eq_true rfl⟩) dX1_microphone_19 ?_
  refine z_aload_n (i := 0) C dX1_microphone_22 rfl rfl ?_
  refine z_getf (ci := 0) (k := 0) C (hO) rfl rfl q570 dX1_microphone_23 ?_
  refine z_getfN (ci := 1) (k := 2) C (hR.1.1) rfl rfl q516 dX1_microphone_26 ?_
  refine z_iload_n (i := 1) C dX1_microphone_29 rfl rfl ?_
  refine z_callVe C (l1.1) rfl (ct_J2_get D B lm n ma mc e cap gg k l1 hk9) q1351 q1139 q1140 q87 q1141 np_J2_get (zr_ok rfl rfl) rfl rfl (Nat.le_of_ble_eq_true rfl) (⟨Nat.le_of_ble_eq_true rfl, Nat.le_of_ble_eq_true rfl⟩) dX1_microphone_30 ?_
  refine z_castS (ci := 6) C ((lX k hk9).1.1) rfl q1379 dX1_microphone_33 ?_
  exact z_areturn C rfl (Or.inl ⟨_, rfl⟩) (Or.inr ⟨_, rfl⟩) dX1_microphone_36 (⟨rfl, rfl⟩) (Nat.le_of_ble_eq_true rfl) (Nat.le_of_ble_eq_true rfl)
set_option maxHeartbeats 4000000 in
set_option maxRecDepth 100000 in
theorem ct_X1_microphone_x (D : zG) (B : Nat) {G : zH} (o : Nat) (v1 v2 v3 v4 v5 : Value) (χ : Nat → Nat) (c a lv ls lm fo pa su : Nat) (va sa ua ma ra : Nat → Nat) (rq : Nat) (S : Nat → Int32) (x : Int32) (n : Nat) (hO : G o = some (.inr (0, [.ref a, v1, v2, v3, v4, v5]))) (hR : zTr G χ c a lv ls lm fo pa su va sa ua ma ra rq S) (g : zGe S) (hc : 100 ≤ c) (e9 : S 8 = nI n) (n9 : n ≤ 8) (h : ¬ (0 ≤ x ∧ x ≤ S 8 - 1)) : Ct D B yX1_microphone (ws_ yX1_microphone cX1_microphone 2 (some (.object "TrackArray$Microphone"))) (zrc 7 1 6) [.ref o, .int x] G (zpF) (zpxE zIOB G) := by
  refine ct_intro (by decide +kernel) (Nat.le_of_ble_eq_true rfl) ?_
  intro X C
  obtain ⟨⟨mc, e, cap, gg, l1, lc, ld⟩, lX⟩ := id hR.2.2.2.2.1
  rw [zct_of e9 (by omega)] at l1 lX
  refine z_iload_n (i := 1) C dX1_microphone_0 rfl rfl ?_
  refine z_i2l C dX1_microphone_1 rfl ?_
  refine z_lconst (v := 0) C dX1_microphone_2 (by decide) ?_
  refine z_aload_n (i := 0) C dX1_microphone_3 rfl rfl ?_
  refine z_getf (ci := 0) (k := 0) C (hO) rfl rfl q570 dX1_microphone_4 ?_
  refine z_getfN (ci := 1) (k := 2) C (hR.1.1) rfl rfl q516 dX1_microphone_7 ?_
  refine z_callVe C (l1.1) rfl (ct_J2_size D B lm n _ _ l1.1) q1265 q931 q932 q87 q933 np_J2_size (zr_ok rfl rfl) rfl rfl (Nat.le_of_ble_eq_true rfl) (⟨Nat.le_of_ble_eq_true rfl, Nat.le_of_ble_eq_true rfl⟩) dX1_microphone_10 ?_
  refine z_seti e9.symm ?_
  refine z_iconst (v := 1) C dX1_microphone_13 (by decide) ?_
  refine z_isub C dX1_microphone_14 ?_
  refine z_i2l C dX1_microphone_15 rfl ?_
  refine z_callSe C (ct_X1_isBetween D B x 0 (S 8 - 1) 0 _ (by decide) rfl) q1220 q789 q83 q790 np_X1_isBetween (zr_ok rfl rfl) rfl rfl (Nat.le_of_ble_eq_true rfl) (⟨Nat.le_of_ble_eq_true rfl, Nat.le_of_ble_eq_true rfl⟩) dX1_microphone_16 ?_
  exact z_callS C (ct_X1_checkIndex_x D B _ (zb_eq.mpr h)) q1311 q1312 q83 q1313 np_X1_checkIndex (zr_ok rfl rfl) rfl rfl (Nat.le_of_ble_eq_true rfl) (⟨Nat.le_of_ble_eq_true rfl, Nat.le_of_ble_eq_true rfl⟩) dX1_microphone_19 (fun E9 q9 G9 h9 => z_out C h9 (Nat.le_of_ble_eq_true rfl) (Nat.le_of_ble_eq_true rfl)) (fun v9 G9 h9 => h9.elim)
set_option maxHeartbeats 4000000 in
set_option maxRecDepth 100000 in
theorem ct_X1_setNoise_ok (D : zG) (B : Nat) {G : zH} (o : Nat) (v1 v2 v3 v4 v5 : Value) (χ : Nat → Nat) (c a lv ls lm fo pa su : Nat) (va sa ua ma ra : Nat → Nat) (rq : Nat) (S : Nat → Int32) (k : Nat) (l : Int32) (hO : G o = some (.inr (0, [.ref a, v1, v2, v3, v4, v5]))) (hR : zTr G χ c a lv ls lm fo pa su va sa ua ma ra rq S) (g : zGe S) (hc : 100 ≤ c) (hk : k < 2147483648) (h : 0 ≤ l ∧ l ≤ 99) : Ct D B yX1_setNoise (ws_ yX1_setNoise cX1_setNoise 3 none) (zr 7) [.ref o, .int (nI k), .int l] G (fun r9 G9 => r9 = none ∧ zkee (fun k => k ≠ c) G χ G9 χ ∧ zTr G9 χ c a lv ls lm fo pa su va sa ua ma ra k (upd (upd S 3 (nI k)) 4 l)) zno := by
  refine ct_intro (by decide +kernel) (Nat.le_of_ble_eq_true rfl) ?_
  intro X C
  have nao : ¬ o = a := fun z => by rw [z, hR.1.1] at hO; cases hO
  refine z_iload_n (i := 1) C dX1_setNoise_0 rfl rfl ?_
  refine z_if_lt (tgt := 20) C dX1_setNoise_1 (by decide) (fun c_1 => ?_) (fun c_1 => ?_)
  · exact absurd c_1 (Int32.not_lt.mpr (nI_pos' (by omega)))
  · refine z_iload_n (i := 2) C dX1_setNoise_4 rfl rfl ?_
    refine z_i2l C dX1_setNoise_5 rfl ?_
    refine z_lconst (v := 0) C dX1_setNoise_6 (by decide) ?_
    refine z_ldc2 C q1251 dX1_setNoise_7 ?_
    refine z_callSe C (ct_X1_isBetween D B (l) (0) (99) _ _ (by first | rfl | decide) (by first | rfl | decide)) q1220 q789 q83 q790 np_X1_isBetween (zr_ok rfl rfl) rfl rfl (Nat.le_of_ble_eq_true rfl) (⟨Nat.le_of_ble_eq_true rfl, Nat.le_of_ble_eq_true rfl⟩) dX1_setNoise_10 ?_
    refine z_if_eq (tgt := 20) C dX1_setNoise_13 (by decide) (fun c_13 => ?_) (fun c_13 => ?_)
    · exact absurd h (zb_eq.mp c_13)
    · refine z_iconst (v := 1) C dX1_setNoise_16 (by decide) ?_
      refine z_goto (tgt := 21) C dX1_setNoise_17 (by decide) ?_
      refine z_callSe C (ct_X1_checkArgument_ok D B _ (by decide)) q1221 q1222 q83 q1223 np_X1_checkArgument (zr_ok rfl rfl) rfl rfl (Nat.le_of_ble_eq_true rfl) (⟨Nat.le_of_ble_eq_true rfl, Nat.le_of_ble_eq_true rfl⟩) dX1_setNoise_21 ?_
      refine z_aload_n (i := 0) C dX1_setNoise_24 rfl rfl ?_
      refine z_getf (ci := 0) (k := 0) C (hO) rfl rfl q570 dX1_setNoise_25 ?_
      refine z_iload_n (i := 1) C dX1_setNoise_28 rfl rfl ?_
      refine z_i2l C dX1_setNoise_29 (nI_l (by omega)) ?_
      refine z_putfN (ci := 1) (k := 6) C (hR.1.1) rfl (Nat.le_of_ble_eq_true rfl) (zfit_J _) q527 dX1_setNoise_30 ?_
      refine z_aload_n (i := 0) C dX1_setNoise_33 rfl rfl ?_
      refine z_getf (ci := 0) (k := 0) C ((zup_n nao).trans hO) rfl rfl q570 dX1_setNoise_34 ?_
      refine z_iload_n (i := 2) C dX1_setNoise_37 rfl rfl ?_
      refine z_putfN (ci := 1) (k := 7) C (zup_s) rfl (Nat.le_of_ble_eq_true rfl) (zfit_I _) q530 dX1_setNoise_38 ?_
      refine z_heap zup_zup ?_
      refine z_heap (G' := zup G a (.inr (1, zTf lv ls lm fo pa su k (upd (upd S 3 (nI k)) 4 l)))) rfl ?_
      exact z_return C rfl dX1_setNoise_41 (⟨rfl, zkee.put hR.1.2 (fun h => h rfl), hR.set g hc ⟨rfl, hk⟩ (fun i h1 h2 h3 => (if_neg (by omega)).trans (if_neg (by omega)))⟩) (Nat.le_of_ble_eq_true rfl) (Nat.le_of_ble_eq_true rfl)
set_option maxHeartbeats 4000000 in
set_option maxRecDepth 100000 in
theorem ct_X1_setNoise_x (D : zG) (B : Nat) {G : zH} (o : Nat) (v1 v2 v3 v4 v5 : Value) (χ : Nat → Nat) (c a lv ls lm fo pa su : Nat) (va sa ua ma ra : Nat → Nat) (rq : Nat) (S : Nat → Int32) (x l : Int32) (h : x < 0 ∨ ¬ (0 ≤ l ∧ l ≤ 99)) : Ct D B yX1_setNoise (ws_ yX1_setNoise cX1_setNoise 3 none) (zrc 7 1 6) [.ref o, .int x, .int l] G (zpF) (zpxE zIAE G) := by
  refine ct_intro (by decide +kernel) (Nat.le_of_ble_eq_true rfl) ?_
  intro X C
  refine z_iload_n (i := 1) C dX1_setNoise_0 rfl rfl ?_
  refine z_if_lt (tgt := 20) C dX1_setNoise_1 (by decide) (fun c_1 => ?_) (fun c_1 => ?_)
  · refine z_iconst (v := 0) C dX1_setNoise_20 (by decide) ?_
    exact z_callS C (ct_X1_checkArgument_x D B _ (rfl)) q1221 q1222 q83 q1223 np_X1_checkArgument (zr_ok rfl rfl) rfl rfl (Nat.le_of_ble_eq_true rfl) (⟨Nat.le_of_ble_eq_true rfl, Nat.le_of_ble_eq_true rfl⟩) dX1_setNoise_21 (fun E9 q9 G9 h9 => z_out C h9 (Nat.le_of_ble_eq_true rfl) (Nat.le_of_ble_eq_true rfl)) (fun v9 G9 h9 => h9.elim)
  · refine z_iload_n (i := 2) C dX1_setNoise_4 rfl rfl ?_
    refine z_i2l C dX1_setNoise_5 rfl ?_
    refine z_lconst (v := 0) C dX1_setNoise_6 (by decide) ?_
    refine z_ldc2 C q1251 dX1_setNoise_7 ?_
    refine z_callSe C (ct_X1_isBetween D B (l) (0) (99) _ _ (by first | rfl | decide) (by first | rfl | decide)) q1220 q789 q83 q790 np_X1_isBetween (zr_ok rfl rfl) rfl rfl (Nat.le_of_ble_eq_true rfl) (⟨Nat.le_of_ble_eq_true rfl, Nat.le_of_ble_eq_true rfl⟩) dX1_setNoise_10 ?_
    refine z_if_eq (tgt := 20) C dX1_setNoise_13 (by decide) (fun c_13 => ?_) (fun c_13 => ?_)
    · refine z_iconst (v := 0) C dX1_setNoise_20 (by decide) ?_
      exact z_callS C (ct_X1_checkArgument_x D B _ (rfl)) q1221 q1222 q83 q1223 np_X1_checkArgument (zr_ok rfl rfl) rfl rfl (Nat.le_of_ble_eq_true rfl) (⟨Nat.le_of_ble_eq_true rfl, Nat.le_of_ble_eq_true rfl⟩) dX1_setNoise_21 (fun E9 q9 G9 h9 => z_out C h9 (Nat.le_of_ble_eq_true rfl) (Nat.le_of_ble_eq_true rfl)) (fun v9 G9 h9 => h9.elim)
    · exact absurd h (fun q9 => q9.elim c_1 (fun q8 => q8 (zb_ne.mp c_13)))
theorem np_X1_isDirection : znp yX1_isDirection 1 := ⟨by decide +kernel, by decide +kernel, by decide +kernel⟩
set_option maxHeartbeats 4000000 in
set_option maxRecDepth 100000 in
theorem ct_X1_focusOnDirection_ok (D : zG) (B : Nat) {G : zH} (o : Nat) (v1 v2 v3 v4 v5 : Value) (χ : Nat → Nat) (c a lv ls lm fo pa su : Nat) (va sa ua ma ra : Nat → Nat) (rq : Nat) (S : Nat → Int32) (x : Int32) (hO : G o = some (.inr (0, [.ref a, v1, v2, v3, v4, v5]))) (hR : zTr G χ c a lv ls lm fo pa su va sa ua ma ra rq S) (g : zGe S) (hc : 100 ≤ c) (h : -100 ≤ x ∧ x ≤ 100) : Ct D B yX1_focusOnDirection (ws_ yX1_focusOnDirection cX1_focusOnDirection 2 none) (zrc 8 1 3) [.ref o, .int x] G (fun r9 G9 => r9 = none ∧ ∃ (χ9 : Nat → Nat) (f9 : Nat), zkee (fun k => k ≠ c) G χ G9 χ9 ∧ zTr G9 χ9 c a lv ls lm f9 pa su va sa ua ma ra rq ((upd (upd (upd (upd (upd S 10 2) 11 0) 12 x) 13 0) 14 0))) zno := by
  refine ct_intro (by decide +kernel) (Nat.le_of_ble_eq_true rfl) ?_
  intro X C
  refine z_iload_n (i := 1) C dX1_focusOnDirection_0 rfl rfl ?_
  refine z_callSe C (ct_X1_isDirection D B x) q1599 q1600 q83 q1601 np_X1_isDirection (zr_ok rfl rfl) rfl rfl (Nat.le_of_ble_eq_true rfl) (⟨Nat.le_of_ble_eq_true rfl, Nat.le_of_ble_eq_true rfl⟩) dX1_focusOnDirection_1 ?_
  refine z_callSe C (ct_X1_checkArgument_ok D B _ (zb_ne.mpr h)) q1221 q1222 q83 q1223 np_X1_checkArgument (zr_ok rfl rfl) rfl rfl (Nat.le_of_ble_eq_true rfl) (⟨Nat.le_of_ble_eq_true rfl, Nat.le_of_ble_eq_true rfl⟩) dX1_focusOnDirection_4 ?_
  refine z_aload_n (i := 0) C dX1_focusOnDirection_7 rfl rfl ?_
  refine z_getf (ci := 0) (k := 0) C (hO) rfl rfl q570 dX1_focusOnDirection_8 ?_
  refine z_new (ci := 8) C rfl q1602 q1603 q120 (Nat.le_of_ble_eq_true rfl) (Nat.le_of_ble_eq_true rfl) dX1_focusOnDirection_11 ?_
  intro f9 hf9 hb
  have nao : ¬ o = f9 := zne_of hf9 hO
  refine z_dup C dX1_focusOnDirection_14 rfl ?_
  refine z_iload_n (i := 1) C dX1_focusOnDirection_15 rfl rfl ?_
  refine z_callINe C (ct_X11_init D B f9 x zup_s) q1604 q1605 q120 q1606 rfl np_X11_init (zr_ok rfl rfl) rfl rfl (Nat.le_of_ble_eq_true rfl) (⟨Nat.le_of_ble_eq_true rfl, Nat.le_of_ble_eq_true rfl⟩) dX1_focusOnDirection_16 ?_
  refine z_heap zup_zup ?_
  have K1 : zkee (fun _ => True) G χ (zup G f9 (.inr (8, [.int x]))) (zcol χ f9 1) := zkee.new hf9
  obtain ⟨S9, hS9⟩ : ∃ S9, S9 = (upd (upd (upd (upd (upd S 10 2) 11 0) 12 x) 13 0) 14 0) := ⟨_, rfl⟩
  have F1 : zo (zup G f9 (.inr (8, [.int x]))) (zcol χ f9 1) 1 f9 (zfE S9 va) := by
    rw [hS9]
    show zo _ _ 1 f9 (.inr (8, [.int x]))
    exact zo.newc hf9
  have hR1 := hR.kp g (fun _ _ => trivial) K1
  obtain ⟨G1, hG1⟩ : ∃ G1, G1 = zup G f9 (.inr (8, [.int x])) := ⟨_, rfl⟩
  rw [← hG1] at K1 F1 hR1
  have t9 := hR1.foc (S' := S9) g hc F1 (fun j h1 h2 => by rw [hS9]; exact (if_neg (by omega)).trans ((if_neg (by omega)).trans ((if_neg (by omega)).trans ((if_neg (by omega)).trans (if_neg (by omega))))))
  refine z_heap hG1.symm ?_
  refine z_putfN (ci := 1) (k := 9) C (hR1.1.1) rfl (Nat.le_of_ble_eq_true rfl) (zfit_ob (C0 := "TrackArray$Focus") (by decide +kernel) _) q534 dX1_focusOnDirection_19 ?_
  obtain ⟨G2, hG2⟩ : ∃ G2, G2 = zup G1 a (.inr (1, zTf lv ls lm f9 pa su rq S9)) := ⟨_, rfl⟩
  have K2 : zkee (fun k => k ≠ c) G1 (zcol χ f9 1) G2 (zcol χ f9 1) := by rw [hG2]; exact zkee.put hR1.1.2 (fun h => h rfl)
  rw [← hG2] at t9
  refine z_heap (G' := G2) (by rw [hG2, hS9]; rfl) ?_
  exact z_return C rfl dX1_focusOnDirection_22 (⟨rfl, _, f9, (K1.mono (fun _ _ => trivial)).trans K2, by rw [← hS9]; exact t9⟩) (Nat.le_of_ble_eq_true rfl) (Nat.le_of_ble_eq_true rfl)
set_option maxHeartbeats 4000000 in
set_option maxRecDepth 100000 in
theorem ct_X1_focusOnDirection_x (D : zG) (B : Nat) {G : zH} (o : Nat) (v1 v2 v3 v4 v5 : Value) (χ : Nat → Nat) (c a lv ls lm fo pa su : Nat) (va sa ua ma ra : Nat → Nat) (rq : Nat) (S : Nat → Int32) (x : Int32) (h : ¬ (-100 ≤ x ∧ x ≤ 100)) : Ct D B yX1_focusOnDirection (ws_ yX1_focusOnDirection cX1_focusOnDirection 2 none) (zrc 8 1 6) [.ref o, .int x] G (zpF) (zpxE zIAE G) := by
  refine ct_intro (by decide +kernel) (Nat.le_of_ble_eq_true rfl) ?_
  intro X C
  refine z_iload_n (i := 1) C dX1_focusOnDirection_0 rfl rfl ?_
  refine z_callSe C (ct_X1_isDirection D B x) q1599 q1600 q83 q1601 np_X1_isDirection (zr_ok rfl rfl) rfl rfl (Nat.le_of_ble_eq_true rfl) (⟨Nat.le_of_ble_eq_true rfl, Nat.le_of_ble_eq_true rfl⟩) dX1_focusOnDirection_1 ?_
  exact z_callS C (ct_X1_checkArgument_x D B _ (zb_eq.mpr h)) q1221 q1222 q83 q1223 np_X1_checkArgument (zr_ok rfl rfl) rfl rfl (Nat.le_of_ble_eq_true rfl) (⟨Nat.le_of_ble_eq_true rfl, Nat.le_of_ble_eq_true rfl⟩) dX1_focusOnDirection_4 (fun E9 q9 G9 h9 => z_out C h9 (Nat.le_of_ble_eq_true rfl) (Nat.le_of_ble_eq_true rfl)) (fun v9 G9 h9 => h9.elim)
set_option maxHeartbeats 4000000 in
set_option maxRecDepth 100000 in
theorem ct_X1_focusOnPlace_ok (D : zG) (B : Nat) {G : zH} (o : Nat) (v1 v2 v3 v4 v5 : Value) (χ : Nat → Nat) (c a lv ls lm fo pa su : Nat) (va sa ua ma ra : Nat → Nat) (rq : Nat) (S : Nat → Int32) (x y z : Int32) (hO : G o = some (.inr (0, [.ref a, v1, v2, v3, v4, v5]))) (hR : zTr G χ c a lv ls lm fo pa su va sa ua ma ra rq S) (g : zGe S) (hc : 100 ≤ c) (h : (-20000 ≤ x ∧ x ≤ 20000) ∧ (100 ≤ y ∧ y ≤ 5000) ∧ 0 ≤ z ∧ z ≤ 500) : Ct D B yX1_focusOnPlace (ws_ yX1_focusOnPlace cX1_focusOnPlace 4 none) (zrc 8 1 3) [.ref o, .int x, .int y, .int z] G (fun r9 G9 => r9 = none ∧ ∃ (χ9 : Nat → Nat) (f9 : Nat), zkee (fun k => k ≠ c) G χ G9 χ9 ∧ zTr G9 χ9 c a lv ls lm f9 pa su va sa ua ma ra rq ((upd (upd (upd (upd (upd S 10 1) 11 0) 12 x) 13 y) 14 z))) zno := by
  refine ct_intro (by decide +kernel) (Nat.le_of_ble_eq_true rfl) ?_
  intro X C
  refine z_iload_n (i := 1) C dX1_focusOnPlace_0 rfl rfl ?_
  refine z_i2l C dX1_focusOnPlace_1 rfl ?_
  refine z_ldc2 C q1260 dX1_focusOnPlace_2 ?_
  refine z_ldc2 C q1261 dX1_focusOnPlace_5 ?_
  refine z_callSe C (ct_X1_isBetween D B (x) (-20000) (20000) _ _ (by first | rfl | decide) (by first | rfl | decide)) q1220 q789 q83 q790 np_X1_isBetween (zr_ok rfl rfl) rfl rfl (Nat.le_of_ble_eq_true rfl) (⟨Nat.le_of_ble_eq_true rfl, Nat.le_of_ble_eq_true rfl⟩) dX1_focusOnPlace_8 ?_
  refine z_if_eq (tgt := 44) C dX1_focusOnPlace_11 (by decide) (fun c_11 => ?_) (fun c_11 => ?_)
  · exact absurd h.1 (zb_eq.mp c_11)
  · refine z_iload_n (i := 2) C dX1_focusOnPlace_14 rfl rfl ?_
    refine z_i2l C dX1_focusOnPlace_15 rfl ?_
    refine z_ldc2 C q1218 dX1_focusOnPlace_16 ?_
    refine z_ldc2 C q1264 dX1_focusOnPlace_19 ?_
    refine z_callSe C (ct_X1_isBetween D B (y) (100) (5000) _ _ (by first | rfl | decide) (by first | rfl | decide)) q1220 q789 q83 q790 np_X1_isBetween (zr_ok rfl rfl) rfl rfl (Nat.le_of_ble_eq_true rfl) (⟨Nat.le_of_ble_eq_true rfl, Nat.le_of_ble_eq_true rfl⟩) dX1_focusOnPlace_22 ?_
    refine z_if_eq (tgt := 44) C dX1_focusOnPlace_25 (by decide) (fun c_25 => ?_) (fun c_25 => ?_)
    · exact absurd h.2.1 (zb_eq.mp c_25)
    · refine z_iload_n (i := 3) C dX1_focusOnPlace_28 rfl rfl ?_
      refine z_i2l C dX1_focusOnPlace_29 rfl ?_
      refine z_lconst (v := 0) C dX1_focusOnPlace_30 (by decide) ?_
      refine z_ldc2 C q1333 dX1_focusOnPlace_31 ?_
      refine z_callSe C (ct_X1_isBetween D B (z) (0) (500) _ _ (by first | rfl | decide) (by first | rfl | decide)) q1220 q789 q83 q790 np_X1_isBetween (zr_ok rfl rfl) rfl rfl (Nat.le_of_ble_eq_true rfl) (⟨Nat.le_of_ble_eq_true rfl, Nat.le_of_ble_eq_true rfl⟩) dX1_focusOnPlace_34 ?_
      refine z_if_eq (tgt := 44) C dX1_focusOnPlace_37 (by decide) (fun c_37 => ?_) (fun c_37 => ?_)
      · exact absurd h.2.2 (zb_eq.mp c_37)
      · refine z_iconst (v := 1) C dX1_focusOnPlace_40 (by decide) ?_
        refine z_goto (tgt := 45) C dX1_focusOnPlace_41 (by decide) ?_
        refine z_callSe C (ct_X1_checkArgument_ok D B _ (by decide)) q1221 q1222 q83 q1223 np_X1_checkArgument (zr_ok rfl rfl) rfl rfl (Nat.le_of_ble_eq_true rfl) (⟨Nat.le_of_ble_eq_true rfl, Nat.le_of_ble_eq_true rfl⟩) dX1_focusOnPlace_45 ?_
        refine z_aload_n (i := 0) C dX1_focusOnPlace_48 rfl rfl ?_
        refine z_getf (ci := 0) (k := 0) C (hO) rfl rfl q570 dX1_focusOnPlace_49 ?_
        refine z_new (ci := 2) C rfl q1590 q490 q105 (Nat.le_of_ble_eq_true rfl) (Nat.le_of_ble_eq_true rfl) dX1_focusOnPlace_52 ?_
        intro f9 hf9 hb
        have nao : ¬ o = f9 := zne_of hf9 hO
        refine z_dup C dX1_focusOnPlace_55 rfl ?_
        refine z_iload_n (i := 1) C dX1_focusOnPlace_56 rfl rfl ?_
        refine z_iload_n (i := 2) C dX1_focusOnPlace_57 rfl rfl ?_
        refine z_iload_n (i := 3) C dX1_focusOnPlace_58 rfl rfl ?_
        refine z_callINe C (ct_X3_init D B f9 x y z zup_s) q1591 q492 q105 q493 rfl np_X3_init (zr_ok rfl rfl) rfl rfl (Nat.le_of_ble_eq_true rfl) (⟨Nat.le_of_ble_eq_true rfl, Nat.le_of_ble_eq_true rfl⟩) dX1_focusOnPlace_59 ?_
        refine z_heap zup_zup ?_
        have K1 : zkee (fun _ => True) G χ (zup G f9 (.inr (2, [.int x, .int y, .int z]))) (zcol χ f9 1) := zkee.new hf9
        obtain ⟨S9, hS9⟩ : ∃ S9, S9 = (upd (upd (upd (upd (upd S 10 1) 11 0) 12 x) 13 y) 14 z) := ⟨_, rfl⟩
        have F1 : zo (zup G f9 (.inr (2, [.int x, .int y, .int z]))) (zcol χ f9 1) 1 f9 (zfE S9 va) := by
          rw [hS9]
          show zo _ _ 1 f9 (.inr (2, [.int x, .int y, .int z]))
          exact zo.newc hf9
        have hR1 := hR.kp g (fun _ _ => trivial) K1
        obtain ⟨G1, hG1⟩ : ∃ G1, G1 = zup G f9 (.inr (2, [.int x, .int y, .int z])) := ⟨_, rfl⟩
        rw [← hG1] at K1 F1 hR1
        have t9 := hR1.foc (S' := S9) g hc F1 (fun j h1 h2 => by rw [hS9]; exact (if_neg (by omega)).trans ((if_neg (by omega)).trans ((if_neg (by omega)).trans ((if_neg (by omega)).trans (if_neg (by omega))))))
        refine z_heap hG1.symm ?_
        refine z_putfN (ci := 1) (k := 9) C (hR1.1.1) rfl (Nat.le_of_ble_eq_true rfl) (zfit_ob (C0 := "TrackArray$Focus") (by decide +kernel) _) q534 dX1_focusOnPlace_62 ?_
        obtain ⟨G2, hG2⟩ : ∃ G2, G2 = zup G1 a (.inr (1, zTf lv ls lm f9 pa su rq S9)) := ⟨_, rfl⟩
        have K2 : zkee (fun k => k ≠ c) G1 (zcol χ f9 1) G2 (zcol χ f9 1) := by rw [hG2]; exact zkee.put hR1.1.2 (fun h => h rfl)
        rw [← hG2] at t9
        refine z_heap (G' := G2) (by rw [hG2, hS9]; rfl) ?_
        exact z_return C rfl dX1_focusOnPlace_65 (⟨rfl, _, f9, (K1.mono (fun _ _ => trivial)).trans K2, by rw [← hS9]; exact t9⟩) (Nat.le_of_ble_eq_true rfl) (Nat.le_of_ble_eq_true rfl)
set_option maxHeartbeats 4000000 in
set_option maxRecDepth 100000 in
theorem ct_X1_focusOnPlace_x (D : zG) (B : Nat) {G : zH} (o : Nat) (v1 v2 v3 v4 v5 : Value) (χ : Nat → Nat) (c a lv ls lm fo pa su : Nat) (va sa ua ma ra : Nat → Nat) (rq : Nat) (S : Nat → Int32) (x y z : Int32) (h : ¬ ((-20000 ≤ x ∧ x ≤ 20000) ∧ (100 ≤ y ∧ y ≤ 5000) ∧ 0 ≤ z ∧ z ≤ 500)) : Ct D B yX1_focusOnPlace (ws_ yX1_focusOnPlace cX1_focusOnPlace 4 none) (zrc 8 1 6) [.ref o, .int x, .int y, .int z] G (zpF) (zpxE zIAE G) := by
  refine ct_intro (by decide +kernel) (Nat.le_of_ble_eq_true rfl) ?_
  intro X C
  refine z_iload_n (i := 1) C dX1_focusOnPlace_0 rfl rfl ?_
  refine z_i2l C dX1_focusOnPlace_1 rfl ?_
  refine z_ldc2 C q1260 dX1_focusOnPlace_2 ?_
  refine z_ldc2 C q1261 dX1_focusOnPlace_5 ?_
  refine z_callSe C (ct_X1_isBetween D B (x) (-20000) (20000) _ _ (by first | rfl | decide) (by first | rfl | decide)) q1220 q789 q83 q790 np_X1_isBetween (zr_ok rfl rfl) rfl rfl (Nat.le_of_ble_eq_true rfl) (⟨Nat.le_of_ble_eq_true rfl, Nat.le_of_ble_eq_true rfl⟩) dX1_focusOnPlace_8 ?_
  refine z_if_eq (tgt := 44) C dX1_focusOnPlace_11 (by decide) (fun c_11 => ?_) (fun c_11 => ?_)
  · refine z_iconst (v := 0) C dX1_focusOnPlace_44 (by decide) ?_
    exact z_callS C (ct_X1_checkArgument_x D B _ (rfl)) q1221 q1222 q83 q1223 np_X1_checkArgument (zr_ok rfl rfl) rfl rfl (Nat.le_of_ble_eq_true rfl) (⟨Nat.le_of_ble_eq_true rfl, Nat.le_of_ble_eq_true rfl⟩) dX1_focusOnPlace_45 (fun E9 q9 G9 h9 => z_out C h9 (Nat.le_of_ble_eq_true rfl) (Nat.le_of_ble_eq_true rfl)) (fun v9 G9 h9 => h9.elim)
  · refine z_iload_n (i := 2) C dX1_focusOnPlace_14 rfl rfl ?_
    refine z_i2l C dX1_focusOnPlace_15 rfl ?_
    refine z_ldc2 C q1218 dX1_focusOnPlace_16 ?_
    refine z_ldc2 C q1264 dX1_focusOnPlace_19 ?_
    refine z_callSe C (ct_X1_isBetween D B (y) (100) (5000) _ _ (by first | rfl | decide) (by first | rfl | decide)) q1220 q789 q83 q790 np_X1_isBetween (zr_ok rfl rfl) rfl rfl (Nat.le_of_ble_eq_true rfl) (⟨Nat.le_of_ble_eq_true rfl, Nat.le_of_ble_eq_true rfl⟩) dX1_focusOnPlace_22 ?_
    refine z_if_eq (tgt := 44) C dX1_focusOnPlace_25 (by decide) (fun c_25 => ?_) (fun c_25 => ?_)
    · refine z_iconst (v := 0) C dX1_focusOnPlace_44 (by decide) ?_
      exact z_callS C (ct_X1_checkArgument_x D B _ (rfl)) q1221 q1222 q83 q1223 np_X1_checkArgument (zr_ok rfl rfl) rfl rfl (Nat.le_of_ble_eq_true rfl) (⟨Nat.le_of_ble_eq_true rfl, Nat.le_of_ble_eq_true rfl⟩) dX1_focusOnPlace_45 (fun E9 q9 G9 h9 => z_out C h9 (Nat.le_of_ble_eq_true rfl) (Nat.le_of_ble_eq_true rfl)) (fun v9 G9 h9 => h9.elim)
    · refine z_iload_n (i := 3) C dX1_focusOnPlace_28 rfl rfl ?_
      refine z_i2l C dX1_focusOnPlace_29 rfl ?_
      refine z_lconst (v := 0) C dX1_focusOnPlace_30 (by decide) ?_
      refine z_ldc2 C q1333 dX1_focusOnPlace_31 ?_
      refine z_callSe C (ct_X1_isBetween D B (z) (0) (500) _ _ (by first | rfl | decide) (by first | rfl | decide)) q1220 q789 q83 q790 np_X1_isBetween (zr_ok rfl rfl) rfl rfl (Nat.le_of_ble_eq_true rfl) (⟨Nat.le_of_ble_eq_true rfl, Nat.le_of_ble_eq_true rfl⟩) dX1_focusOnPlace_34 ?_
      refine z_if_eq (tgt := 44) C dX1_focusOnPlace_37 (by decide) (fun c_37 => ?_) (fun c_37 => ?_)
      · refine z_iconst (v := 0) C dX1_focusOnPlace_44 (by decide) ?_
        exact z_callS C (ct_X1_checkArgument_x D B _ (rfl)) q1221 q1222 q83 q1223 np_X1_checkArgument (zr_ok rfl rfl) rfl rfl (Nat.le_of_ble_eq_true rfl) (⟨Nat.le_of_ble_eq_true rfl, Nat.le_of_ble_eq_true rfl⟩) dX1_focusOnPlace_45 (fun E9 q9 G9 h9 => z_out C h9 (Nat.le_of_ble_eq_true rfl) (Nat.le_of_ble_eq_true rfl)) (fun v9 G9 h9 => h9.elim)
      · refine z_iconst (v := 1) C dX1_focusOnPlace_40 (by decide) ?_
        refine z_goto (tgt := 45) C dX1_focusOnPlace_41 (by decide) ?_
        exact absurd ⟨zb_ne.mp c_11, zb_ne.mp c_25, zb_ne.mp c_37⟩ h
theorem np_X1_vehicle : znp yX1_vehicle 1 := ⟨by decide +kernel, by decide +kernel, by decide +kernel⟩
theorem np_X1_isOnVehicle : znp yX1_isOnVehicle 2 := ⟨by decide +kernel, by decide +kernel, by decide +kernel⟩
set_option maxHeartbeats 4000000 in
set_option maxRecDepth 100000 in
theorem ct_X1_focusOnVehicle_ok (D : zG) (B : Nat) {G : zH} (o : Nat) (v1 v2 v3 v4 v5 : Value) (χ : Nat → Nat) (c a lv ls lm fo pa su : Nat) (va sa ua ma ra : Nat → Nat) (rq : Nat) (S : Nat → Int32) (k n : Nat) (x z : Int32) (hO : G o = some (.inr (0, [.ref a, v1, v2, v3, v4, v5]))) (hR : zTr G χ c a lv ls lm fo pa su va sa ua ma ra rq S) (g : zGe S) (hc : 100 ≤ c) (e9 : S 6 = nI n) (n9 : n ≤ 4) (hk : k < 100) (h1 : 0 ≤ nI k ∧ nI k ≤ S 6 - 1) (h : (-1000 ≤ x ∧ x ≤ 1000) ∧ 0 ≤ z ∧ z ≤ 500) : Ct D B yX1_focusOnVehicle (ws_ yX1_focusOnVehicle cX1_focusOnVehicle 5 none) (zrc 8 1 3) [.ref o, .int (nI k), .int x, .int z] G (fun r9 G9 => r9 = none ∧ ∃ (χ9 : Nat → Nat) (f9 : Nat), zkee (fun k => k ≠ c) G χ G9 χ9 ∧ zTr G9 χ9 c a lv ls lm f9 pa su va sa ua ma ra rq ((upd (upd (upd (upd (upd S 10 0) 11 (nI k)) 12 x) 13 0) 14 z))) zno := by
  refine ct_intro (by decide +kernel) (Nat.le_of_ble_eq_true rfl) ?_
  intro X C
  refine z_aload_n (i := 0) C dX1_focusOnVehicle_0 rfl rfl ?_
  refine z_iload_n (i := 1) C dX1_focusOnVehicle_1 rfl rfl ?_
  refine z_callVe C (hO) rfl (ct_X1_vehicle_ok D B o v1 v2 v3 v4 v5 χ c a lv ls lm fo pa su va sa ua ma ra rq S k n hO hR g hc e9 n9 hk h1) q1424 q1426 qs20 q83 q1427 np_X1_vehicle (zr_ok rfl rfl) rfl rfl (Nat.le_of_ble_eq_true rfl) (⟨Nat.le_of_ble_eq_true rfl, Nat.le_of_ble_eq_true rfl⟩) dX1_focusOnVehicle_2 ?_
  refine z_astore C dX1_focusOnVehicle_5 (Nat.le_of_ble_eq_true rfl) rfl ?_
  refine z_iload_n (i := 2) C dX1_focusOnVehicle_7 rfl rfl ?_
  refine z_iload_n (i := 3) C dX1_focusOnVehicle_8 rfl rfl ?_
  refine z_callSe C (ct_X1_isOnVehicle D B x z) q1329 q1330 q83 q1331 np_X1_isOnVehicle (zr_ok rfl rfl) rfl rfl (Nat.le_of_ble_eq_true rfl) (⟨Nat.le_of_ble_eq_true rfl, Nat.le_of_ble_eq_true rfl⟩) dX1_focusOnVehicle_9 ?_
  refine z_callSe C (ct_X1_checkArgument_ok D B _ (zb_ne.mpr h)) q1221 q1222 q83 q1223 np_X1_checkArgument (zr_ok rfl rfl) rfl rfl (Nat.le_of_ble_eq_true rfl) (⟨Nat.le_of_ble_eq_true rfl, Nat.le_of_ble_eq_true rfl⟩) dX1_focusOnVehicle_12 ?_
  refine z_aload_n (i := 0) C dX1_focusOnVehicle_15 rfl rfl ?_
  refine z_getf (ci := 0) (k := 0) C (hO) rfl rfl q570 dX1_focusOnVehicle_16 ?_
  refine z_new (ci := 7) C rfl q1581 q659 q114 (Nat.le_of_ble_eq_true rfl) (Nat.le_of_ble_eq_true rfl) dX1_focusOnVehicle_19 ?_
  intro f9 hf9 hb
  have nao : ¬ o = f9 := zne_of hf9 hO
  refine z_dup C dX1_focusOnVehicle_22 rfl ?_
  refine z_aload C dX1_focusOnVehicle_23 rfl ?_
  refine z_iload_n (i := 2) C dX1_focusOnVehicle_25 rfl rfl ?_
  refine z_iload_n (i := 3) C dX1_focusOnVehicle_26 rfl rfl ?_
  refine z_callINe C (ct_X8_init D B f9 (va k) x z zup_s) q1582 q661 q114 q662 rfl np_X8_init (zr_ok rfl rfl) rfl rfl (Nat.le_of_ble_eq_true rfl) (⟨Nat.le_of_ble_eq_true rfl, Nat.le_of_ble_eq_true rfl⟩) dX1_focusOnVehicle_27 ?_
  refine z_heap zup_zup ?_
  have K1 : zkee (fun _ => True) G χ (zup G f9 (.inr (7, [.ref (va k), .int x, .int z]))) (zcol χ f9 1) := zkee.new hf9
  obtain ⟨S9, hS9⟩ : ∃ S9, S9 = (upd (upd (upd (upd (upd S 10 0) 11 (nI k)) 12 x) 13 0) 14 z) := ⟨_, rfl⟩
  have F1 : zo (zup G f9 (.inr (7, [.ref (va k), .int x, .int z]))) (zcol χ f9 1) 1 f9 (zfE S9 va) := by
    rw [hS9]
    have e11 : ((upd (upd (upd (upd (upd S 10 0) 11 (nI k)) 12 x) 13 0) 14 z) 11).toNatClampNeg = k := nI_clamp (by omega)
    show zo _ _ 1 f9 (.inr (7, [.ref (va ((upd (upd (upd (upd (upd S 10 0) 11 (nI k)) 12 x) 13 0) 14 z) 11).toNatClampNeg), .int x, .int z]))
    rw [e11]
    exact zo.newc hf9
  have hR1 := hR.kp g (fun _ _ => trivial) K1
  obtain ⟨G1, hG1⟩ : ∃ G1, G1 = zup G f9 (.inr (7, [.ref (va k), .int x, .int z])) := ⟨_, rfl⟩
  rw [← hG1] at K1 F1 hR1
  have t9 := hR1.foc (S' := S9) g hc F1 (fun j h1 h2 => by rw [hS9]; exact (if_neg (by omega)).trans ((if_neg (by omega)).trans ((if_neg (by omega)).trans ((if_neg (by omega)).trans (if_neg (by omega))))))
  refine z_heap hG1.symm ?_
  refine z_putfN (ci := 1) (k := 9) C (hR1.1.1) rfl (Nat.le_of_ble_eq_true rfl) (zfit_ob (C0 := "TrackArray$Focus") (by decide +kernel) _) q534 dX1_focusOnVehicle_30 ?_
  obtain ⟨G2, hG2⟩ : ∃ G2, G2 = zup G1 a (.inr (1, zTf lv ls lm f9 pa su rq S9)) := ⟨_, rfl⟩
  have K2 : zkee (fun k => k ≠ c) G1 (zcol χ f9 1) G2 (zcol χ f9 1) := by rw [hG2]; exact zkee.put hR1.1.2 (fun h => h rfl)
  rw [← hG2] at t9
  refine z_heap (G' := G2) (by rw [hG2, hS9]; rfl) ?_
  exact z_return C rfl dX1_focusOnVehicle_33 (⟨rfl, _, f9, (K1.mono (fun _ _ => trivial)).trans K2, by rw [← hS9]; exact t9⟩) (Nat.le_of_ble_eq_true rfl) (Nat.le_of_ble_eq_true rfl)
set_option maxHeartbeats 4000000 in
set_option maxRecDepth 100000 in
theorem ct_X1_focusOnVehicle_x (D : zG) (B : Nat) {G : zH} (o : Nat) (v1 v2 v3 v4 v5 : Value) (χ : Nat → Nat) (c a lv ls lm fo pa su : Nat) (va sa ua ma ra : Nat → Nat) (rq : Nat) (S : Nat → Int32) (y x z : Int32) (n : Nat) (hO : G o = some (.inr (0, [.ref a, v1, v2, v3, v4, v5]))) (hR : zTr G χ c a lv ls lm fo pa su va sa ua ma ra rq S) (g : zGe S) (hc : 100 ≤ c) (e9 : S 6 = nI n) (n9 : n ≤ 4) (h1 : ¬ (0 ≤ y ∧ y ≤ S 6 - 1)) : Ct D B yX1_focusOnVehicle (ws_ yX1_focusOnVehicle cX1_focusOnVehicle 5 none) (zrc 8 1 6) [.ref o, .int y, .int x, .int z] G (zpF) (zpxE zIOB G) := by
  refine ct_intro (by decide +kernel) (Nat.le_of_ble_eq_true rfl) ?_
  intro X C
  refine z_aload_n (i := 0) C dX1_focusOnVehicle_0 rfl rfl ?_
  refine z_iload_n (i := 1) C dX1_focusOnVehicle_1 rfl rfl ?_
  exact z_callV C (hO) rfl (ct_X1_vehicle_x D B o v1 v2 v3 v4 v5 χ c a lv ls lm fo pa su va sa ua ma ra rq S y n hO hR g hc e9 n9 h1) q1424 q1426 qs20 q83 q1427 np_X1_vehicle (zr_ok rfl rfl) rfl rfl (Nat.le_of_ble_eq_true rfl) (⟨Nat.le_of_ble_eq_true rfl, Nat.le_of_ble_eq_true rfl⟩) dX1_focusOnVehicle_2 (fun E9 q9 G9 h9 => z_out C h9 (Nat.le_of_ble_eq_true rfl) (Nat.le_of_ble_eq_true rfl)) (fun v9 G9 h9 => h9.elim)
set_option maxHeartbeats 4000000 in
set_option maxRecDepth 100000 in
theorem ct_X1_focusOnVehicle_y (D : zG) (B : Nat) {G : zH} (o : Nat) (v1 v2 v3 v4 v5 : Value) (χ : Nat → Nat) (c a lv ls lm fo pa su : Nat) (va sa ua ma ra : Nat → Nat) (rq : Nat) (S : Nat → Int32) (k n : Nat) (x z : Int32) (hO : G o = some (.inr (0, [.ref a, v1, v2, v3, v4, v5]))) (hR : zTr G χ c a lv ls lm fo pa su va sa ua ma ra rq S) (g : zGe S) (hc : 100 ≤ c) (e9 : S 6 = nI n) (n9 : n ≤ 4) (hk : k < 100) (h1 : 0 ≤ nI k ∧ nI k ≤ S 6 - 1) (h : ¬ ((-1000 ≤ x ∧ x ≤ 1000) ∧ 0 ≤ z ∧ z ≤ 500)) : Ct D B yX1_focusOnVehicle (ws_ yX1_focusOnVehicle cX1_focusOnVehicle 5 none) (zrc 8 1 6) [.ref o, .int (nI k), .int x, .int z] G (zpF) (zpxE zIAE G) := by
  refine ct_intro (by decide +kernel) (Nat.le_of_ble_eq_true rfl) ?_
  intro X C
  refine z_aload_n (i := 0) C dX1_focusOnVehicle_0 rfl rfl ?_
  refine z_iload_n (i := 1) C dX1_focusOnVehicle_1 rfl rfl ?_
  refine z_callVe C (hO) rfl (ct_X1_vehicle_ok D B o v1 v2 v3 v4 v5 χ c a lv ls lm fo pa su va sa ua ma ra rq S k n hO hR g hc e9 n9 hk h1) q1424 q1426 qs20 q83 q1427 np_X1_vehicle (zr_ok rfl rfl) rfl rfl (Nat.le_of_ble_eq_true rfl) (⟨Nat.le_of_ble_eq_true rfl, Nat.le_of_ble_eq_true rfl⟩) dX1_focusOnVehicle_2 ?_
  refine z_astore C dX1_focusOnVehicle_5 (Nat.le_of_ble_eq_true rfl) rfl ?_
  refine z_iload_n (i := 2) C dX1_focusOnVehicle_7 rfl rfl ?_
  refine z_iload_n (i := 3) C dX1_focusOnVehicle_8 rfl rfl ?_
  refine z_callSe C (ct_X1_isOnVehicle D B x z) q1329 q1330 q83 q1331 np_X1_isOnVehicle (zr_ok rfl rfl) rfl rfl (Nat.le_of_ble_eq_true rfl) (⟨Nat.le_of_ble_eq_true rfl, Nat.le_of_ble_eq_true rfl⟩) dX1_focusOnVehicle_9 ?_
  exact z_callS C (ct_X1_checkArgument_x D B _ (zb_eq.mpr h)) q1221 q1222 q83 q1223 np_X1_checkArgument (zr_ok rfl rfl) rfl rfl (Nat.le_of_ble_eq_true rfl) (⟨Nat.le_of_ble_eq_true rfl, Nat.le_of_ble_eq_true rfl⟩) dX1_focusOnVehicle_12 (fun E9 q9 G9 h9 => z_out C h9 (Nat.le_of_ble_eq_true rfl) (Nat.le_of_ble_eq_true rfl)) (fun v9 G9 h9 => h9.elim)
theorem np_X1_microphone : znp yX1_microphone 1 := ⟨by decide +kernel, by decide +kernel, by decide +kernel⟩
theorem np_X1_isWeight : znp yX1_isWeight 1 := ⟨by decide +kernel, by decide +kernel, by decide +kernel⟩
set_option maxHeartbeats 4000000 in
set_option maxRecDepth 100000 in
theorem ct_X1_setWeight_ok (D : zG) (B : Nat) {G : zH} (o : Nat) (v1 v2 v3 v4 v5 : Value) (χ : Nat → Nat) (c a lv ls lm fo pa su : Nat) (va sa ua ma ra : Nat → Nat) (rq : Nat) (S : Nat → Int32) (k n : Nat) (w : Int32) (hO : G o = some (.inr (0, [.ref a, v1, v2, v3, v4, v5]))) (hR : zTr G χ c a lv ls lm fo pa su va sa ua ma ra rq S) (g : zGe S) (hc : 100 ≤ c) (e9 : S 8 = nI n) (n9 : n ≤ 8) (hk : k < 100) (h1 : 0 ≤ nI k ∧ nI k ≤ S 8 - 1) (h : 0 ≤ w ∧ w ≤ 9) : Ct D B yX1_setWeight (ws_ yX1_setWeight cX1_setWeight 5 (some .int)) (zr 8) [.ref o, .int (nI k), .int w] G (fun r9 G9 => r9 = some (.int (S (154 + 4 * k + 3))) ∧ zkee (fun y => y ≠ c + 40 + k) G χ G9 χ ∧ zTr G9 χ c a lv ls lm fo pa su va sa ua ma ra rq (upd S (154 + 4 * k + 3) w)) zno := by
  refine ct_intro (by decide +kernel) (Nat.le_of_ble_eq_true rfl) ?_
  intro X C
  have hk9 : k < n := zkn h1 e9 (by omega) (by omega)
  have hX := hR.2.2.2.2.1
  rw [zct_of e9 (by omega)] at hX
  obtain ⟨m1, wm, m2, m3⟩ := hX.2 k hk9
  have t9 := hR.wgt (S' := upd S (154 + 4 * k + 3) w) g hc (k := k) (x := w) (by rw [zct_of e9 (by omega)]; exact hk9) rfl (by rw [zct_of e9 (by omega)]; exact n9)
  refine z_aload_n (i := 0) C dX1_setWeight_0 rfl rfl ?_
  refine z_iload_n (i := 1) C dX1_setWeight_1 rfl rfl ?_
  refine z_callVe C (hO) rfl (ct_X1_microphone_ok D B o v1 v2 v3 v4 v5 χ c a lv ls lm fo pa su va sa ua ma ra rq S k n hO hR g hc e9 n9 hk h1) q1375 q1377 qs19 q83 q1378 np_X1_microphone (zr_ok rfl rfl) rfl rfl (Nat.le_of_ble_eq_true rfl) (⟨Nat.le_of_ble_eq_true rfl, Nat.le_of_ble_eq_true rfl⟩) dX1_setWeight_2 ?_
  refine z_astore_n (i := 3) C dX1_setWeight_5 rfl (Nat.le_of_ble_eq_true rfl) rfl ?_
  refine z_iload_n (i := 2) C dX1_setWeight_6 rfl rfl ?_
  refine z_callSe C (ct_X1_isWeight D B w) q1363 q1364 q83 q1365 np_X1_isWeight (zr_ok rfl rfl) rfl rfl (Nat.le_of_ble_eq_true rfl) (⟨Nat.le_of_ble_eq_true rfl, Nat.le_of_ble_eq_true rfl⟩) dX1_setWeight_7 ?_
  refine z_callSe C (ct_X1_checkArgument_ok D B _ (zb_ne.mpr h)) q1221 q1222 q83 q1223 np_X1_checkArgument (zr_ok rfl rfl) rfl rfl (Nat.le_of_ble_eq_true rfl) (⟨Nat.le_of_ble_eq_true rfl, Nat.le_of_ble_eq_true rfl⟩) dX1_setWeight_10 ?_
  refine z_aload_n (i := 3) C dX1_setWeight_13 rfl rfl ?_
  refine z_getfN (ci := 6) (k := 3) C (m1.1) rfl rfl q1030 dX1_setWeight_14 ?_
  refine z_istore C dX1_setWeight_17 (Nat.le_of_ble_eq_true rfl) rfl ?_
  refine z_aload_n (i := 3) C dX1_setWeight_19 rfl rfl ?_
  refine z_iload_n (i := 2) C dX1_setWeight_20 rfl rfl ?_
  refine z_putfN (ci := 6) (k := 3) C (m1.1) rfl (Nat.le_of_ble_eq_true rfl) (zfit_I _) q1030 dX1_setWeight_21 ?_
  refine z_heap (G' := zup G (ma k) (zmE (upd S (154 + 4 * k + 3) w) ra k)) (by unfold zmE; rw [show upd S (154 + 4 * k + 3) w (154 + 4 * k + 3) = w from if_pos rfl, show upd S (154 + 4 * k + 3) w (154 + 4 * k + 0) = S (154 + 4 * k + 0) from if_neg (by omega), show upd S (154 + 4 * k + 3) w (154 + 4 * k + 1) = S (154 + 4 * k + 1) from if_neg (by omega), show upd S (154 + 4 * k + 3) w (154 + 4 * k + 2) = S (154 + 4 * k + 2) from if_neg (by omega)]; rfl) ?_
  refine z_iload C dX1_setWeight_24 rfl ?_
  exact z_ireturn C rfl (rfl) dX1_setWeight_26 (⟨rfl, t9.2, t9.1⟩) (Nat.le_of_ble_eq_true rfl) (Nat.le_of_ble_eq_true rfl)
set_option maxHeartbeats 4000000 in
set_option maxRecDepth 100000 in
theorem ct_X1_setWeight_x (D : zG) (B : Nat) {G : zH} (o : Nat) (v1 v2 v3 v4 v5 : Value) (χ : Nat → Nat) (c a lv ls lm fo pa su : Nat) (va sa ua ma ra : Nat → Nat) (rq : Nat) (S : Nat → Int32) (x w : Int32) (n : Nat) (hO : G o = some (.inr (0, [.ref a, v1, v2, v3, v4, v5]))) (hR : zTr G χ c a lv ls lm fo pa su va sa ua ma ra rq S) (g : zGe S) (hc : 100 ≤ c) (e9 : S 8 = nI n) (n9 : n ≤ 8) (h1 : ¬ (0 ≤ x ∧ x ≤ S 8 - 1)) : Ct D B yX1_setWeight (ws_ yX1_setWeight cX1_setWeight 5 (some .int)) (zrc 8 1 6) [.ref o, .int x, .int w] G (zpF) (zpxE zIOB G) := by
  refine ct_intro (by decide +kernel) (Nat.le_of_ble_eq_true rfl) ?_
  intro X C
  refine z_aload_n (i := 0) C dX1_setWeight_0 rfl rfl ?_
  refine z_iload_n (i := 1) C dX1_setWeight_1 rfl rfl ?_
  exact z_callV C (hO) rfl (ct_X1_microphone_x D B o v1 v2 v3 v4 v5 χ c a lv ls lm fo pa su va sa ua ma ra rq S x n hO hR g hc e9 n9 h1) q1375 q1377 qs19 q83 q1378 np_X1_microphone (zr_ok rfl rfl) rfl rfl (Nat.le_of_ble_eq_true rfl) (⟨Nat.le_of_ble_eq_true rfl, Nat.le_of_ble_eq_true rfl⟩) dX1_setWeight_2 (fun E9 q9 G9 h9 => z_out C h9 (Nat.le_of_ble_eq_true rfl) (Nat.le_of_ble_eq_true rfl)) (fun v9 G9 h9 => h9.elim)
set_option maxHeartbeats 4000000 in
set_option maxRecDepth 100000 in
theorem ct_X1_setWeight_y (D : zG) (B : Nat) {G : zH} (o : Nat) (v1 v2 v3 v4 v5 : Value) (χ : Nat → Nat) (c a lv ls lm fo pa su : Nat) (va sa ua ma ra : Nat → Nat) (rq : Nat) (S : Nat → Int32) (k n : Nat) (w : Int32) (hO : G o = some (.inr (0, [.ref a, v1, v2, v3, v4, v5]))) (hR : zTr G χ c a lv ls lm fo pa su va sa ua ma ra rq S) (g : zGe S) (hc : 100 ≤ c) (e9 : S 8 = nI n) (n9 : n ≤ 8) (hk : k < 100) (h1 : 0 ≤ nI k ∧ nI k ≤ S 8 - 1) (h : ¬ (0 ≤ w ∧ w ≤ 9)) : Ct D B yX1_setWeight (ws_ yX1_setWeight cX1_setWeight 5 (some .int)) (zrc 8 1 6) [.ref o, .int (nI k), .int w] G (zpF) (zpxE zIAE G) := by
  refine ct_intro (by decide +kernel) (Nat.le_of_ble_eq_true rfl) ?_
  intro X C
  refine z_aload_n (i := 0) C dX1_setWeight_0 rfl rfl ?_
  refine z_iload_n (i := 1) C dX1_setWeight_1 rfl rfl ?_
  refine z_callVe C (hO) rfl (ct_X1_microphone_ok D B o v1 v2 v3 v4 v5 χ c a lv ls lm fo pa su va sa ua ma ra rq S k n hO hR g hc e9 n9 hk h1) q1375 q1377 qs19 q83 q1378 np_X1_microphone (zr_ok rfl rfl) rfl rfl (Nat.le_of_ble_eq_true rfl) (⟨Nat.le_of_ble_eq_true rfl, Nat.le_of_ble_eq_true rfl⟩) dX1_setWeight_2 ?_
  refine z_astore_n (i := 3) C dX1_setWeight_5 rfl (Nat.le_of_ble_eq_true rfl) rfl ?_
  refine z_iload_n (i := 2) C dX1_setWeight_6 rfl rfl ?_
  refine z_callSe C (ct_X1_isWeight D B w) q1363 q1364 q83 q1365 np_X1_isWeight (zr_ok rfl rfl) rfl rfl (Nat.le_of_ble_eq_true rfl) (⟨Nat.le_of_ble_eq_true rfl, Nat.le_of_ble_eq_true rfl⟩) dX1_setWeight_7 ?_
  exact z_callS C (ct_X1_checkArgument_x D B _ (zb_eq.mpr h)) q1221 q1222 q83 q1223 np_X1_checkArgument (zr_ok rfl rfl) rfl rfl (Nat.le_of_ble_eq_true rfl) (⟨Nat.le_of_ble_eq_true rfl, Nat.le_of_ble_eq_true rfl⟩) dX1_setWeight_10 (fun E9 q9 G9 h9 => z_out C h9 (Nat.le_of_ble_eq_true rfl) (Nat.le_of_ble_eq_true rfl)) (fun v9 G9 h9 => h9.elim)
