/-! component: settings -/
theorem znarZ {x : Int32} (h : x = 0 ∨ x = 1) : narrow .boolean (.int x) = .int x := by
  rcases h with h | h <;> subst h <;> rfl
set_option maxHeartbeats 4000000 in
set_option maxRecDepth 100000 in
theorem ct_X1_setSound_ok (D : zG) (B : Nat) {G : zH} (o : Nat) (v1 v2 v3 v4 v5 : Value) (χ : Nat → Nat) (c a lv ls lm fo pa su : Nat) (va sa ua ma ra : Nat → Nat) (rq : Nat) (S : Nat → Int32) (x : Int32) (hO : G o = some (.inr (0, [.ref a, v1, v2, v3, v4, v5]))) (hR : zTr G χ c a lv ls lm fo pa su va sa ua ma ra rq S) (g : zGe S) (hc : 100 ≤ c) (h : 100 ≤ x ∧ x ≤ 1000) : Ct D B yX1_setSound (ws_ yX1_setSound cX1_setSound 3 (some .int)) (zr 7) [.ref o, .int x] G (fun r9 G9 => r9 = some (.int (S 0)) ∧ zkee (fun k => k ≠ c) G χ G9 χ ∧ zTr G9 χ c a lv ls lm fo pa su va sa ua ma ra rq (upd S 0 x)) zno := by
  refine ct_intro (by decide +kernel) (Nat.le_of_ble_eq_true rfl) ?_
  intro X C
  refine z_iload_n (i := 1) C dX1_setSound_0 rfl rfl ?_
  refine z_i2l C dX1_setSound_1 rfl ?_
  refine z_ldc2 C q1218 dX1_setSound_2 ?_
  refine z_ldc2 C q1219 dX1_setSound_5 ?_
  refine z_callSe C (ct_X1_isBetween D B (x) (100) (1000) _ _ (by first | rfl | decide) (by first | rfl | decide)) q1220 q789 q83 q790 np_X1_isBetween (zr_ok rfl rfl) rfl rfl (Nat.le_of_ble_eq_true rfl) (⟨Nat.le_of_ble_eq_true rfl, Nat.le_of_ble_eq_true rfl⟩) dX1_setSound_8 ?_
  refine z_callSe C (ct_X1_checkArgument_ok D B _ (zb_ne.mpr h)) q1221 q1222 q83 q1223 np_X1_checkArgument (zr_ok rfl rfl) rfl rfl (Nat.le_of_ble_eq_true rfl) (⟨Nat.le_of_ble_eq_true rfl, Nat.le_of_ble_eq_true rfl⟩) dX1_setSound_11 ?_
  refine z_aload_n (i := 0) C dX1_setSound_14 rfl rfl ?_
  refine z_getf (ci := 0) (k := 0) C (hO) rfl rfl q570 dX1_setSound_15 ?_
  refine z_getfN (ci := 1) (k := 3) C (hR.1.1) rfl rfl q519 dX1_setSound_18 ?_
  refine z_istore_n (i := 2) C dX1_setSound_21 rfl (Nat.le_of_ble_eq_true rfl) rfl ?_
  refine z_aload_n (i := 0) C dX1_setSound_22 rfl rfl ?_
  refine z_getf (ci := 0) (k := 0) C (hO) rfl rfl q570 dX1_setSound_23 ?_
  refine z_iload_n (i := 1) C dX1_setSound_26 rfl rfl ?_
  refine z_putfN (ci := 1) (k := 3) C (hR.1.1) rfl (Nat.le_of_ble_eq_true rfl) (zfit_I _) q519 dX1_setSound_27 ?_
  refine z_heap (G' := zup G a (.inr (1, zTf lv ls lm fo pa su rq (upd S 0 x)))) rfl ?_
  refine z_iload_n (i := 2) C dX1_setSound_30 rfl rfl ?_
  exact z_ireturn C rfl (rfl) dX1_setSound_31 (⟨rfl, zkee.put hR.1.2 (fun h => h rfl), hR.set g hc ⟨hR.2.1.1, hR.2.1.2⟩ (fun i h1 h2 h3 => if_neg (by omega))⟩) (Nat.le_of_ble_eq_true rfl) (Nat.le_of_ble_eq_true rfl)
set_option maxHeartbeats 4000000 in
set_option maxRecDepth 100000 in
theorem ct_X1_setSound_x (D : zG) (B : Nat) {G : zH} (o : Nat) (v1 v2 v3 v4 v5 : Value) (χ : Nat → Nat) (c a lv ls lm fo pa su : Nat) (va sa ua ma ra : Nat → Nat) (rq : Nat) (S : Nat → Int32) (x : Int32) (h : ¬ (100 ≤ x ∧ x ≤ 1000)) : Ct D B yX1_setSound (ws_ yX1_setSound cX1_setSound 3 (some .int)) (zrc 7 1 6) [.ref o, .int x] G (zpF) (zpxE zIAE G) := by
  refine ct_intro (by decide +kernel) (Nat.le_of_ble_eq_true rfl) ?_
  intro X C
  refine z_iload_n (i := 1) C dX1_setSound_0 rfl rfl ?_
  refine z_i2l C dX1_setSound_1 rfl ?_
  refine z_ldc2 C q1218 dX1_setSound_2 ?_
  refine z_ldc2 C q1219 dX1_setSound_5 ?_
  refine z_callSe C (ct_X1_isBetween D B (x) (100) (1000) _ _ (by first | rfl | decide) (by first | rfl | decide)) q1220 q789 q83 q790 np_X1_isBetween (zr_ok rfl rfl) rfl rfl (Nat.le_of_ble_eq_true rfl) (⟨Nat.le_of_ble_eq_true rfl, Nat.le_of_ble_eq_true rfl⟩) dX1_setSound_8 ?_
  exact z_callS C (ct_X1_checkArgument_x D B _ (zb_eq.mpr h)) q1221 q1222 q83 q1223 np_X1_checkArgument (zr_ok rfl rfl) rfl rfl (Nat.le_of_ble_eq_true rfl) (⟨Nat.le_of_ble_eq_true rfl, Nat.le_of_ble_eq_true rfl⟩) dX1_setSound_11 (fun E9 q9 G9 h9 => z_out C h9 (Nat.le_of_ble_eq_true rfl) (Nat.le_of_ble_eq_true rfl)) (fun v9 G9 h9 => h9.elim)
set_option maxHeartbeats 4000000 in
set_option maxRecDepth 100000 in
theorem ct_X1_setGround_ok (D : zG) (B : Nat) {G : zH} (o : Nat) (v1 v2 v3 v4 v5 : Value) (χ : Nat → Nat) (c a lv ls lm fo pa su : Nat) (va sa ua ma ra : Nat → Nat) (rq : Nat) (S : Nat → Int32) (x : Int32) (hO : G o = some (.inr (0, [.ref a, v1, v2, v3, v4, v5]))) (hR : zTr G χ c a lv ls lm fo pa su va sa ua ma ra rq S) (g : zGe S) (hc : 100 ≤ c) (h : -90 ≤ x ∧ x ≤ 90) : Ct D B yX1_setGround (ws_ yX1_setGround cX1_setGround 3 (some .int)) (zr 7) [.ref o, .int x] G (fun r9 G9 => r9 = some (.int (S 1)) ∧ zkee (fun k => k ≠ c) G χ G9 χ ∧ zTr G9 χ c a lv ls lm fo pa su va sa ua ma ra rq (upd S 1 x)) zno := by
  refine ct_intro (by decide +kernel) (Nat.le_of_ble_eq_true rfl) ?_
  intro X C
  refine z_iload_n (i := 1) C dX1_setGround_0 rfl rfl ?_
  refine z_i2l C dX1_setGround_1 rfl ?_
  refine z_ldc2 C q1242 dX1_setGround_2 ?_
  refine z_ldc2 C q1243 dX1_setGround_5 ?_
  refine z_callSe C (ct_X1_isBetween D B (x) (-90) (90) _ _ (by first | rfl | decide) (by first | rfl | decide)) q1220 q789 q83 q790 np_X1_isBetween (zr_ok rfl rfl) rfl rfl (Nat.le_of_ble_eq_true rfl) (⟨Nat.le_of_ble_eq_true rfl, Nat.le_of_ble_eq_true rfl⟩) dX1_setGround_8 ?_
  refine z_callSe C (ct_X1_checkArgument_ok D B _ (zb_ne.mpr h)) q1221 q1222 q83 q1223 np_X1_checkArgument (zr_ok rfl rfl) rfl rfl (Nat.le_of_ble_eq_true rfl) (⟨Nat.le_of_ble_eq_true rfl, Nat.le_of_ble_eq_true rfl⟩) dX1_setGround_11 ?_
  refine z_aload_n (i := 0) C dX1_setGround_14 rfl rfl ?_
  refine z_getf (ci := 0) (k := 0) C (hO) rfl rfl q570 dX1_setGround_15 ?_
  refine z_getfN (ci := 1) (k := 4) C (hR.1.1) rfl rfl q522 dX1_setGround_18 ?_
  refine z_istore_n (i := 2) C dX1_setGround_21 rfl (Nat.le_of_ble_eq_true rfl) rfl ?_
  refine z_aload_n (i := 0) C dX1_setGround_22 rfl rfl ?_
  refine z_getf (ci := 0) (k := 0) C (hO) rfl rfl q570 dX1_setGround_23 ?_
  refine z_iload_n (i := 1) C dX1_setGround_26 rfl rfl ?_
  refine z_putfN (ci := 1) (k := 4) C (hR.1.1) rfl (Nat.le_of_ble_eq_true rfl) (zfit_I _) q522 dX1_setGround_27 ?_
  refine z_heap (G' := zup G a (.inr (1, zTf lv ls lm fo pa su rq (upd S 1 x)))) rfl ?_
  refine z_iload_n (i := 2) C dX1_setGround_30 rfl rfl ?_
  exact z_ireturn C rfl (rfl) dX1_setGround_31 (⟨rfl, zkee.put hR.1.2 (fun h => h rfl), hR.set g hc ⟨hR.2.1.1, hR.2.1.2⟩ (fun i h1 h2 h3 => if_neg (by omega))⟩) (Nat.le_of_ble_eq_true rfl) (Nat.le_of_ble_eq_true rfl)
set_option maxHeartbeats 4000000 in
set_option maxRecDepth 100000 in
theorem ct_X1_setGround_x (D : zG) (B : Nat) {G : zH} (o : Nat) (v1 v2 v3 v4 v5 : Value) (χ : Nat → Nat) (c a lv ls lm fo pa su : Nat) (va sa ua ma ra : Nat → Nat) (rq : Nat) (S : Nat → Int32) (x : Int32) (h : ¬ (-90 ≤ x ∧ x ≤ 90)) : Ct D B yX1_setGround (ws_ yX1_setGround cX1_setGround 3 (some .int)) (zrc 7 1 6) [.ref o, .int x] G (zpF) (zpxE zIAE G) := by
  refine ct_intro (by decide +kernel) (Nat.le_of_ble_eq_true rfl) ?_
  intro X C
  refine z_iload_n (i := 1) C dX1_setGround_0 rfl rfl ?_
  refine z_i2l C dX1_setGround_1 rfl ?_
  refine z_ldc2 C q1242 dX1_setGround_2 ?_
  refine z_ldc2 C q1243 dX1_setGround_5 ?_
  refine z_callSe C (ct_X1_isBetween D B (x) (-90) (90) _ _ (by first | rfl | decide) (by first | rfl | decide)) q1220 q789 q83 q790 np_X1_isBetween (zr_ok rfl rfl) rfl rfl (Nat.le_of_ble_eq_true rfl) (⟨Nat.le_of_ble_eq_true rfl, Nat.le_of_ble_eq_true rfl⟩) dX1_setGround_8 ?_
  exact z_callS C (ct_X1_checkArgument_x D B _ (zb_eq.mpr h)) q1221 q1222 q83 q1223 np_X1_checkArgument (zr_ok rfl rfl) rfl rfl (Nat.le_of_ble_eq_true rfl) (⟨Nat.le_of_ble_eq_true rfl, Nat.le_of_ble_eq_true rfl⟩) dX1_setGround_11 (fun E9 q9 G9 h9 => z_out C h9 (Nat.le_of_ble_eq_true rfl) (Nat.le_of_ble_eq_true rfl)) (fun v9 G9 h9 => h9.elim)
set_option maxHeartbeats 4000000 in
set_option maxRecDepth 100000 in
theorem ct_X1_setSpreading (D : zG) (B : Nat) {G : zH} (o : Nat) (v1 v2 v3 v4 v5 : Value) (χ : Nat → Nat) (c a lv ls lm fo pa su : Nat) (va sa ua ma ra : Nat → Nat) (rq : Nat) (S : Nat → Int32) (x : Int32) (hO : G o = some (.inr (0, [.ref a, v1, v2, v3, v4, v5]))) (hR : zTr G χ c a lv ls lm fo pa su va sa ua ma ra rq S) (g : zGe S) (hc : 100 ≤ c) (h : x = 0 ∨ x = 1) (hs : S 2 = 0 ∨ S 2 = 1) : Ct D B yX1_setSpreading (ws_ yX1_setSpreading cX1_setSpreading 3 (some .boolean)) (zr 0) [.ref o, .int x] G (fun r9 G9 => r9 = some (.int (S 2)) ∧ zkee (fun k => k ≠ c) G χ G9 χ ∧ zTr G9 χ c a lv ls lm fo pa su va sa ua ma ra rq (upd S 2 x)) zno := by
  refine ct_intro (by decide +kernel) (Nat.le_of_ble_eq_true rfl) ?_
  intro X C
  refine z_aload_n (i := 0) C dX1_setSpreading_0 rfl rfl ?_
  refine z_getf (ci := 0) (k := 0) C (hO) rfl rfl q570 dX1_setSpreading_1 ?_
  refine z_getfN (ci := 1) (k := 5) C (hR.1.1) rfl rfl q525 dX1_setSpreading_4 ?_
  refine z_istore_n (i := 2) C dX1_setSpreading_7 rfl (Nat.le_of_ble_eq_true rfl) rfl ?_
  refine z_aload_n (i := 0) C dX1_setSpreading_8 rfl rfl ?_
  refine z_getf (ci := 0) (k := 0) C (hO) rfl rfl q570 dX1_setSpreading_9 ?_
  refine z_iload_n (i := 1) C dX1_setSpreading_12 rfl rfl ?_
  refine z_putfN (ci := 1) (k := 5) C (hR.1.1) rfl (Nat.le_of_ble_eq_true rfl) (zfit_Z _ h) q525 dX1_setSpreading_13 ?_
  refine z_heap (G' := zup G a (.inr (1, zTf lv ls lm fo pa su rq (upd S 2 x)))) rfl ?_
  refine z_iload_n (i := 2) C dX1_setSpreading_16 rfl rfl ?_
  exact z_ireturn C rfl (znarZ hs) dX1_setSpreading_17 (⟨rfl, zkee.put hR.1.2 (fun h => h rfl), hR.set g hc ⟨hR.2.1.1, hR.2.1.2⟩ (fun i h1 h2 h3 => if_neg (by omega))⟩) (Nat.le_of_ble_eq_true rfl) (Nat.le_of_ble_eq_true rfl)
set_option maxHeartbeats 4000000 in
set_option maxRecDepth 100000 in
theorem ct_X1_setCut (D : zG) (B : Nat) {G : zH} (o : Nat) (v1 v2 v3 v4 v5 : Value) (χ : Nat → Nat) (c a lv ls lm fo pa su : Nat) (va sa ua ma ra : Nat → Nat) (rq : Nat) (S : Nat → Int32) (x : Int32) (hO : G o = some (.inr (0, [.ref a, v1, v2, v3, v4, v5]))) (hR : zTr G χ c a lv ls lm fo pa su va sa ua ma ra rq S) (g : zGe S) (hc : 100 ≤ c) (h : x = 0 ∨ x = 1) (hs : S 5 = 0 ∨ S 5 = 1) : Ct D B yX1_setCut (ws_ yX1_setCut cX1_setCut 3 (some .boolean)) (zr 0) [.ref o, .int x] G (fun r9 G9 => r9 = some (.int (S 5)) ∧ zkee (fun k => k ≠ c) G χ G9 χ ∧ zTr G9 χ c a lv ls lm fo pa su va sa ua ma ra rq (upd S 5 x)) zno := by
  refine ct_intro (by decide +kernel) (Nat.le_of_ble_eq_true rfl) ?_
  intro X C
  refine z_aload_n (i := 0) C dX1_setCut_0 rfl rfl ?_
  refine z_getf (ci := 0) (k := 0) C (hO) rfl rfl q570 dX1_setCut_1 ?_
  refine z_getfN (ci := 1) (k := 10) C (hR.1.1) rfl rfl q536 dX1_setCut_4 ?_
  refine z_istore_n (i := 2) C dX1_setCut_7 rfl (Nat.le_of_ble_eq_true rfl) rfl ?_
  refine z_aload_n (i := 0) C dX1_setCut_8 rfl rfl ?_
  refine z_getf (ci := 0) (k := 0) C (hO) rfl rfl q570 dX1_setCut_9 ?_
  refine z_iload_n (i := 1) C dX1_setCut_12 rfl rfl ?_
  refine z_putfN (ci := 1) (k := 10) C (hR.1.1) rfl (Nat.le_of_ble_eq_true rfl) (zfit_Z _ h) q536 dX1_setCut_13 ?_
  refine z_heap (G' := zup G a (.inr (1, zTf lv ls lm fo pa su rq (upd S 5 x)))) rfl ?_
  refine z_iload_n (i := 2) C dX1_setCut_16 rfl rfl ?_
  exact z_ireturn C rfl (znarZ hs) dX1_setCut_17 (⟨rfl, zkee.put hR.1.2 (fun h => h rfl), hR.set g hc ⟨hR.2.1.1, hR.2.1.2⟩ (fun i h1 h2 h3 => if_neg (by omega))⟩) (Nat.le_of_ble_eq_true rfl) (Nat.le_of_ble_eq_true rfl)
