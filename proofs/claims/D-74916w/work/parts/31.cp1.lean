/-! component: the small classes; lists -/
abbrev zrc (k c s : Nat) : Room := { frames := k, cells := c, slots := s, locals := 40 * k }
theorem zfit_Z (x : Int32) (h : x = 0 ∨ x = 1) : zfit "Z" (.int x) := by
  rcases h with rfl | rfl
  · exact ⟨.boolean, by decide +kernel, rfl, rfl⟩
  · exact ⟨.boolean, by decide +kernel, rfl, rfl⟩
theorem zsubG {G : zH} {q : Nat} {e : zE} (hq : G q = none) : ∀ a x, G a = some x → zup G q e a = some x := fun a x h => (zup_n (fun z => by rw [z, hq] at h; cases h)).trans h
set_option maxHeartbeats 4000000 in
set_option maxRecDepth 100000 in
theorem ct_X5_xAt (D : zG) (B : Nat) {G : zH} (w : Nat) (x s y t : Int32) (hw : G w = some (.inr (4, [.int x, .int s, .int y]))) : Ct D B yX5_xAt (ws_ yX5_xAt cX5_xAt 2 (some .int)) (zr 0) [.ref w, .int t] G (zpe (some (.int (x + s * t))) G) zno := by
  refine ct_intro (by decide +kernel) (Nat.le_of_ble_eq_true rfl) ?_
  intro X C
  refine z_aload_n (i := 0) C dX5_xAt_0 rfl rfl ?_
  refine z_getf (ci := 4) (k := 0) C (by first | assumption | exact (zup_n (by assumption)).trans (by assumption)) rfl rfl q1119 dX5_xAt_1 ?_
  refine z_aload_n (i := 0) C dX5_xAt_4 rfl rfl ?_
  refine z_getf (ci := 4) (k := 1) C (by first | assumption | exact (zup_n (by assumption)).trans (by assumption)) rfl rfl q1120 dX5_xAt_5 ?_
  refine z_iload_n (i := 1) C dX5_xAt_8 rfl rfl ?_
  refine z_imul C dX5_xAt_9 ?_
  refine z_iadd C dX5_xAt_10 ?_
  exact z_ireturn C rfl (rfl) dX5_xAt_11 (⟨rfl, rfl⟩) (Nat.le_of_ble_eq_true rfl) (Nat.le_of_ble_eq_true rfl)
set_option maxHeartbeats 4000000 in
set_option maxRecDepth 100000 in
theorem ct_X5_y (D : zG) (B : Nat) {G : zH} (w : Nat) (x s y : Int32) (hw : G w = some (.inr (4, [.int x, .int s, .int y]))) : Ct D B yX5_y (ws_ yX5_y cX5_y 1 (some .int)) (zr 0) [.ref w] G (zpe (some (.int (y))) G) zno := by
  refine ct_intro (by decide +kernel) (Nat.le_of_ble_eq_true rfl) ?_
  intro X C
  refine z_aload_n (i := 0) C dX5_y_0 rfl rfl ?_
  refine z_getf (ci := 4) (k := 2) C (by first | assumption | exact (zup_n (by assumption)).trans (by assumption)) rfl rfl q1121 dX5_y_1 ?_
  exact z_ireturn C rfl (rfl) dX5_y_4 (⟨rfl, rfl⟩) (Nat.le_of_ble_eq_true rfl) (Nat.le_of_ble_eq_true rfl)
set_option maxHeartbeats 4000000 in
set_option maxRecDepth 100000 in
theorem ct_X3_x (D : zG) (B : Nat) {G : zH} (p : Nat) (x y z t : Int32) (hp : G p = some (.inr (2, [.int x, .int y, .int z]))) : Ct D B yX3_x (ws_ yX3_x cX3_x 2 (some .int)) (zr 0) [.ref p, .int t] G (zpe (some (.int (x))) G) zno := by
  refine ct_intro (by decide +kernel) (Nat.le_of_ble_eq_true rfl) ?_
  intro X C
  refine z_aload_n (i := 0) C dX3_x_0 rfl rfl ?_
  refine z_getf (ci := 2) (k := 0) C (by first | assumption | exact (zup_n (by assumption)).trans (by assumption)) rfl rfl q498 dX3_x_1 ?_
  exact z_ireturn C rfl (rfl) dX3_x_4 (⟨rfl, rfl⟩) (Nat.le_of_ble_eq_true rfl) (Nat.le_of_ble_eq_true rfl)
set_option maxHeartbeats 4000000 in
set_option maxRecDepth 100000 in
theorem ct_X3_y (D : zG) (B : Nat) {G : zH} (p : Nat) (x y z : Int32) (hp : G p = some (.inr (2, [.int x, .int y, .int z]))) : Ct D B yX3_y (ws_ yX3_y cX3_y 1 (some .int)) (zr 0) [.ref p] G (zpe (some (.int (y))) G) zno := by
  refine ct_intro (by decide +kernel) (Nat.le_of_ble_eq_true rfl) ?_
  intro X C
  refine z_aload_n (i := 0) C dX3_y_0 rfl rfl ?_
  refine z_getf (ci := 2) (k := 1) C (by first | assumption | exact (zup_n (by assumption)).trans (by assumption)) rfl rfl q499 dX3_y_1 ?_
  exact z_ireturn C rfl (rfl) dX3_y_4 (⟨rfl, rfl⟩) (Nat.le_of_ble_eq_true rfl) (Nat.le_of_ble_eq_true rfl)
set_option maxHeartbeats 4000000 in
set_option maxRecDepth 100000 in
theorem ct_X3_height (D : zG) (B : Nat) {G : zH} (p : Nat) (x y z : Int32) (hp : G p = some (.inr (2, [.int x, .int y, .int z]))) : Ct D B yX3_height (ws_ yX3_height cX3_height 1 (some .int)) (zr 0) [.ref p] G (zpe (some (.int (z))) G) zno := by
  refine ct_intro (by decide +kernel) (Nat.le_of_ble_eq_true rfl) ?_
  intro X C
  refine z_aload_n (i := 0) C dX3_height_0 rfl rfl ?_
  refine z_getf (ci := 2) (k := 2) C (by first | assumption | exact (zup_n (by assumption)).trans (by assumption)) rfl rfl q500 dX3_height_1 ?_
  exact z_ireturn C rfl (rfl) dX3_height_4 (⟨rfl, rfl⟩) (Nat.le_of_ble_eq_true rfl) (Nat.le_of_ble_eq_true rfl)
theorem np_X5_xAt : znp yX5_xAt 1 := ⟨by decide +kernel, by decide +kernel, by decide +kernel⟩
set_option maxHeartbeats 4000000 in
set_option maxRecDepth 100000 in
theorem ct_X8_x (D : zG) (B : Nat) {G : zH} (p w : Nat) (x z a s y t : Int32) (hp : G p = some (.inr (7, [.ref w, .int x, .int z]))) (hw : G w = some (.inr (4, [.int a, .int s, .int y]))) : Ct D B yX8_x (ws_ yX8_x cX8_x 2 (some .int)) (zr 1) [.ref p, .int t] G (zpe (some (.int (a + s * t + x))) G) zno := by
  refine ct_intro (by decide +kernel) (Nat.le_of_ble_eq_true rfl) ?_
  intro X C
  refine z_aload_n (i := 0) C dX8_x_0 rfl rfl ?_
  refine z_getf (ci := 7) (k := 0) C (by first | assumption | exact (zup_n (by assumption)).trans (by assumption)) rfl rfl q664 dX8_x_1 ?_
  refine z_iload_n (i := 1) C dX8_x_4 rfl rfl ?_
  refine z_callVe C (by assumption) rfl (ct_X5_xAt D B w a s y t hw) q702 q703 q704 q108 q705 np_X5_xAt (zr_ok rfl rfl) rfl rfl (Nat.le_of_ble_eq_true rfl) (⟨Nat.le_of_ble_eq_true rfl, Nat.le_of_ble_eq_true rfl⟩) dX8_x_5 ?_
  refine z_aload_n (i := 0) C dX8_x_8 rfl rfl ?_
  refine z_getf (ci := 7) (k := 1) C (by first | assumption | exact (zup_n (by assumption)).trans (by assumption)) rfl rfl q665 dX8_x_9 ?_
  refine z_iadd C dX8_x_12 ?_
  exact z_ireturn C rfl (rfl) dX8_x_13 (⟨rfl, rfl⟩) (Nat.le_of_ble_eq_true rfl) (Nat.le_of_ble_eq_true rfl)
theorem np_X5_y : znp yX5_y 0 := ⟨by decide +kernel, by decide +kernel, by decide +kernel⟩
set_option maxHeartbeats 4000000 in
set_option maxRecDepth 100000 in
theorem ct_X8_y (D : zG) (B : Nat) {G : zH} (p w : Nat) (x z a s y : Int32) (hp : G p = some (.inr (7, [.ref w, .int x, .int z]))) (hw : G w = some (.inr (4, [.int a, .int s, .int y]))) : Ct D B yX8_y (ws_ yX8_y cX8_y 1 (some .int)) (zr 1) [.ref p] G (zpe (some (.int (y))) G) zno := by
  refine ct_intro (by decide +kernel) (Nat.le_of_ble_eq_true rfl) ?_
  intro X C
  refine z_aload_n (i := 0) C dX8_y_0 rfl rfl ?_
  refine z_getf (ci := 7) (k := 0) C (by first | assumption | exact (zup_n (by assumption)).trans (by assumption)) rfl rfl q664 dX8_y_1 ?_
  refine z_callVe C (by assumption) rfl (ct_X5_y D B w a s y hw) q720 q721 q722 q108 q723 np_X5_y (zr_ok rfl rfl) rfl rfl (Nat.le_of_ble_eq_true rfl) (⟨Nat.le_of_ble_eq_true rfl, Nat.le_of_ble_eq_true rfl⟩) dX8_y_4 ?_
  exact z_ireturn C rfl (rfl) dX8_y_7 (⟨rfl, rfl⟩) (Nat.le_of_ble_eq_true rfl) (Nat.le_of_ble_eq_true rfl)
set_option maxHeartbeats 4000000 in
set_option maxRecDepth 100000 in
theorem ct_X8_height (D : zG) (B : Nat) {G : zH} (p w : Nat) (x z : Int32) (hp : G p = some (.inr (7, [.ref w, .int x, .int z]))) : Ct D B yX8_height (ws_ yX8_height cX8_height 1 (some .int)) (zr 0) [.ref p] G (zpe (some (.int (z))) G) zno := by
  refine ct_intro (by decide +kernel) (Nat.le_of_ble_eq_true rfl) ?_
  intro X C
  refine z_aload_n (i := 0) C dX8_height_0 rfl rfl ?_
  refine z_getf (ci := 7) (k := 2) C (by first | assumption | exact (zup_n (by assumption)).trans (by assumption)) rfl rfl q666 dX8_height_1 ?_
  exact z_ireturn C rfl (rfl) dX8_height_4 (⟨rfl, rfl⟩) (Nat.le_of_ble_eq_true rfl) (Nat.le_of_ble_eq_true rfl)
set_option maxHeartbeats 4000000 in
set_option maxRecDepth 100000 in
theorem ct_X11_percent (D : zG) (B : Nat) {G : zH} (p : Nat) (x : Int32) (hp : G p = some (.inr (8, [.int x]))) : Ct D B yX11_percent (ws_ yX11_percent cX11_percent 1 (some .int)) (zr 0) [.ref p] G (zpe (some (.int (x))) G) zno := by
  refine ct_intro (by decide +kernel) (Nat.le_of_ble_eq_true rfl) ?_
  intro X C
  refine z_aload_n (i := 0) C dX11_percent_0 rfl rfl ?_
  refine z_getf (ci := 8) (k := 0) C (by first | assumption | exact (zup_n (by assumption)).trans (by assumption)) rfl rfl q1608 dX11_percent_1 ?_
  exact z_ireturn C rfl (rfl) dX11_percent_4 (⟨rfl, rfl⟩) (Nat.le_of_ble_eq_true rfl) (Nat.le_of_ble_eq_true rfl)
set_option maxHeartbeats 4000000 in
set_option maxRecDepth 100000 in
theorem ct_X1_isBetween_l (D : zG) (B : Nat) {G : zH} (x l h : Int64)  : Ct D B yX1_isBetween (ws_ yX1_isBetween cX1_isBetween 6 (some .boolean)) (zr 0) [.long x, .long l, .long h] G (zpe (some (.int (zb (l ≤ x ∧ x ≤ h)))) G) zno := by
  refine ct_intro (by decide +kernel) (Nat.le_of_ble_eq_true rfl) ?_
  intro X C
  refine z_lload_n (i := 0) C dX1_isBetween_0 rfl rfl ?_
  refine z_lload_n (i := 2) C dX1_isBetween_1 rfl rfl ?_
  refine z_lc_lt (tgt := 17) C dX1_isBetween_2 dX1_isBetween_3 (by decide) (fun c_3 => ?_) (fun c_3 => ?_)
  · refine z_iconst (v := 0) C dX1_isBetween_17 (by decide) ?_
    exact z_ireturn C rfl (rfl) dX1_isBetween_18 (⟨zvs (zb_f (fun q9 => absurd q9.1 (Int64.not_le.mpr c_3))).symm, rfl⟩) (Nat.le_of_ble_eq_true rfl) (Nat.le_of_ble_eq_true rfl)
  · refine z_lload_n (i := 0) C dX1_isBetween_6 rfl rfl ?_
    refine z_lload C dX1_isBetween_7 rfl ?_
    refine z_lc_gt (tgt := 17) C dX1_isBetween_9 dX1_isBetween_10 (by decide) (fun c_10 => ?_) (fun c_10 => ?_)
    · refine z_iconst (v := 0) C dX1_isBetween_17 (by decide) ?_
      exact z_ireturn C rfl (rfl) dX1_isBetween_18 (⟨zvs (zb_f (fun q9 => absurd q9.2 (Int64.not_le.mpr c_10))).symm, rfl⟩) (Nat.le_of_ble_eq_true rfl) (Nat.le_of_ble_eq_true rfl)
    · refine z_iconst (v := 1) C dX1_isBetween_13 (by decide) ?_
      refine z_goto (tgt := 18) C dX1_isBetween_14 (by decide) ?_
      exact z_ireturn C rfl (rfl) dX1_isBetween_18 (⟨zvs (zb_t ⟨Int64.not_lt.mp c_3, Int64.not_lt.mp c_10⟩).symm, rfl⟩) (Nat.le_of_ble_eq_true rfl) (Nat.le_of_ble_eq_true rfl)
theorem zl64 {x l : Int32} : l.toInt64 ≤ x.toInt64 ↔ l ≤ x := by
  rw [Int64.le_iff_toInt_le, Int32.le_iff_toInt_le, Int32.toInt_toInt64, Int32.toInt_toInt64]
theorem ct_X1_isBetween (D : zG) (B : Nat) {G : zH} (x l h : Int32) (L H : Int64) (hL : L = l.toInt64) (hH : H = h.toInt64) : Ct D B yX1_isBetween (ws_ yX1_isBetween cX1_isBetween 6 (some .boolean)) (zr 0) [.long x.toInt64, .long L, .long H] G (zpe (some (.int (zb (l ≤ x ∧ x ≤ h)))) G) zno := by
  subst hL hH
  have := ct_X1_isBetween_l D B (G := G) x.toInt64 l.toInt64 h.toInt64
  have e : zb (l.toInt64 ≤ x.toInt64 ∧ x.toInt64 ≤ h.toInt64) = zb (l ≤ x ∧ x ≤ h) := by unfold zb; simp only [zl64]
  rw [e] at this
  exact this
theorem np_X1_isBetween : znp yX1_isBetween 3 := ⟨by decide +kernel, by decide +kernel, by decide +kernel⟩
set_option maxHeartbeats 4000000 in
set_option maxRecDepth 100000 in
theorem ct_X1_isValue (D : zG) (B : Nat) {G : zH} (x : Int32)  : Ct D B yX1_isValue (ws_ yX1_isValue cX1_isValue 1 (some .boolean)) (zr 1) [.int x] G (zpe (some (.int (zb (-99 ≤ x ∧ x ≤ 99)))) G) zno := by
  refine ct_intro (by decide +kernel) (Nat.le_of_ble_eq_true rfl) ?_
  intro X C
  refine z_iload_n (i := 0) C dX1_isValue_0 rfl rfl ?_
  refine z_i2l C dX1_isValue_1 rfl ?_
  refine z_ldc2 C q1338 dX1_isValue_2 ?_
  refine z_ldc2 C q1251 dX1_isValue_5 ?_
  refine z_callSe C (ct_X1_isBetween D B (x) (-99) (99) _ _ (by first | rfl | decide) (by first | rfl | decide)) q1220 q789 q83 q790 np_X1_isBetween (zr_ok rfl rfl) rfl rfl (Nat.le_of_ble_eq_true rfl) (⟨Nat.le_of_ble_eq_true rfl, Nat.le_of_ble_eq_true rfl⟩) dX1_isValue_8 ?_
  exact z_ireturn C rfl (zb_nar _) dX1_isValue_11 (⟨rfl, rfl⟩) (Nat.le_of_ble_eq_true rfl) (Nat.le_of_ble_eq_true rfl)
set_option maxHeartbeats 4000000 in
set_option maxRecDepth 100000 in
theorem ct_X1_isWeight (D : zG) (B : Nat) {G : zH} (x : Int32)  : Ct D B yX1_isWeight (ws_ yX1_isWeight cX1_isWeight 1 (some .boolean)) (zr 1) [.int x] G (zpe (some (.int (zb (0 ≤ x ∧ x ≤ 9)))) G) zno := by
  refine ct_intro (by decide +kernel) (Nat.le_of_ble_eq_true rfl) ?_
  intro X C
  refine z_iload_n (i := 0) C dX1_isWeight_0 rfl rfl ?_
  refine z_i2l C dX1_isWeight_1 rfl ?_
  refine z_lconst (v := 0) C dX1_isWeight_2 (by decide) ?_
  refine z_ldc2 C q1366 dX1_isWeight_3 ?_
  refine z_callSe C (ct_X1_isBetween D B (x) (0) (9) _ _ (by first | rfl | decide) (by first | rfl | decide)) q1220 q789 q83 q790 np_X1_isBetween (zr_ok rfl rfl) rfl rfl (Nat.le_of_ble_eq_true rfl) (⟨Nat.le_of_ble_eq_true rfl, Nat.le_of_ble_eq_true rfl⟩) dX1_isWeight_6 ?_
  exact z_ireturn C rfl (zb_nar _) dX1_isWeight_9 (⟨rfl, rfl⟩) (Nat.le_of_ble_eq_true rfl) (Nat.le_of_ble_eq_true rfl)
set_option maxHeartbeats 4000000 in
set_option maxRecDepth 100000 in
theorem ct_X1_isDirection (D : zG) (B : Nat) {G : zH} (x : Int32)  : Ct D B yX1_isDirection (ws_ yX1_isDirection cX1_isDirection 1 (some .boolean)) (zr 1) [.int x] G (zpe (some (.int (zb (-100 ≤ x ∧ x ≤ 100)))) G) zno := by
  refine ct_intro (by decide +kernel) (Nat.le_of_ble_eq_true rfl) ?_
  intro X C
  refine z_iload_n (i := 0) C dX1_isDirection_0 rfl rfl ?_
  refine z_i2l C dX1_isDirection_1 rfl ?_
  refine z_ldc2 C q1362 dX1_isDirection_2 ?_
  refine z_ldc2 C q1218 dX1_isDirection_5 ?_
  refine z_callSe C (ct_X1_isBetween D B (x) (-100) (100) _ _ (by first | rfl | decide) (by first | rfl | decide)) q1220 q789 q83 q790 np_X1_isBetween (zr_ok rfl rfl) rfl rfl (Nat.le_of_ble_eq_true rfl) (⟨Nat.le_of_ble_eq_true rfl, Nat.le_of_ble_eq_true rfl⟩) dX1_isDirection_8 ?_
  exact z_ireturn C rfl (zb_nar _) dX1_isDirection_11 (⟨rfl, rfl⟩) (Nat.le_of_ble_eq_true rfl) (Nat.le_of_ble_eq_true rfl)
set_option maxHeartbeats 4000000 in
set_option maxRecDepth 100000 in
theorem ct_X1_isPeriod (D : zG) (B : Nat) {G : zH} (x : Int32)  : Ct D B yX1_isPeriod (ws_ yX1_isPeriod cX1_isPeriod 1 (some .boolean)) (zr 1) [.int x] G (zpe (some (.int (zb (1 ≤ x ∧ x ≤ 64)))) G) zno := by
  refine ct_intro (by decide +kernel) (Nat.le_of_ble_eq_true rfl) ?_
  intro X C
  refine z_iload_n (i := 0) C dX1_isPeriod_0 rfl rfl ?_
  refine z_i2l C dX1_isPeriod_1 rfl ?_
  refine z_lconst (v := 1) C dX1_isPeriod_2 (by decide) ?_
  refine z_ldc2 C q1685 dX1_isPeriod_3 ?_
  refine z_callSe C (ct_X1_isBetween D B (x) (1) (64) _ _ (by first | rfl | decide) (by first | rfl | decide)) q1220 q789 q83 q790 np_X1_isBetween (zr_ok rfl rfl) rfl rfl (Nat.le_of_ble_eq_true rfl) (⟨Nat.le_of_ble_eq_true rfl, Nat.le_of_ble_eq_true rfl⟩) dX1_isPeriod_6 ?_
  exact z_ireturn C rfl (zb_nar _) dX1_isPeriod_9 (⟨rfl, rfl⟩) (Nat.le_of_ble_eq_true rfl) (Nat.le_of_ble_eq_true rfl)
set_option maxHeartbeats 4000000 in
set_option maxRecDepth 100000 in
theorem ct_X1_isOnVehicle (D : zG) (B : Nat) {G : zH} (o z : Int32)  : Ct D B yX1_isOnVehicle (ws_ yX1_isOnVehicle cX1_isOnVehicle 2 (some .boolean)) (zr 1) [.int o, .int z] G (zpe (some (.int (zb ((-1000 ≤ o ∧ o ≤ 1000) ∧ 0 ≤ z ∧ z ≤ 500)))) G) zno := by
  refine ct_intro (by decide +kernel) (Nat.le_of_ble_eq_true rfl) ?_
  intro X C
  refine z_iload_n (i := 0) C dX1_isOnVehicle_0 rfl rfl ?_
  refine z_i2l C dX1_isOnVehicle_1 rfl ?_
  refine z_ldc2 C q1332 dX1_isOnVehicle_2 ?_
  refine z_ldc2 C q1219 dX1_isOnVehicle_5 ?_
  refine z_callSe C (ct_X1_isBetween D B (o) (-1000) (1000) _ _ (by first | rfl | decide) (by first | rfl | decide)) q1220 q789 q83 q790 np_X1_isBetween (zr_ok rfl rfl) rfl rfl (Nat.le_of_ble_eq_true rfl) (⟨Nat.le_of_ble_eq_true rfl, Nat.le_of_ble_eq_true rfl⟩) dX1_isOnVehicle_8 ?_
  refine z_if_eq (tgt := 30) C dX1_isOnVehicle_11 (by decide) (fun c_11 => ?_) (fun c_11 => ?_)
  · refine z_iconst (v := 0) C dX1_isOnVehicle_30 (by decide) ?_
    exact z_ireturn C rfl (rfl) dX1_isOnVehicle_31 (⟨zvs (zb_f (fun q9 => zb_eq.mp c_11 q9.1)).symm, rfl⟩) (Nat.le_of_ble_eq_true rfl) (Nat.le_of_ble_eq_true rfl)
  · refine z_iload_n (i := 1) C dX1_isOnVehicle_14 rfl rfl ?_
    refine z_i2l C dX1_isOnVehicle_15 rfl ?_
    refine z_lconst (v := 0) C dX1_isOnVehicle_16 (by decide) ?_
    refine z_ldc2 C q1333 dX1_isOnVehicle_17 ?_
    refine z_callSe C (ct_X1_isBetween D B (z) (0) (500) _ _ (by first | rfl | decide) (by first | rfl | decide)) q1220 q789 q83 q790 np_X1_isBetween (zr_ok rfl rfl) rfl rfl (Nat.le_of_ble_eq_true rfl) (⟨Nat.le_of_ble_eq_true rfl, Nat.le_of_ble_eq_true rfl⟩) dX1_isOnVehicle_20 ?_
    refine z_if_eq (tgt := 30) C dX1_isOnVehicle_23 (by decide) (fun c_23 => ?_) (fun c_23 => ?_)
    · refine z_iconst (v := 0) C dX1_isOnVehicle_30 (by decide) ?_
      exact z_ireturn C rfl (rfl) dX1_isOnVehicle_31 (⟨zvs (zb_f (fun q9 => zb_eq.mp c_23 q9.2)).symm, rfl⟩) (Nat.le_of_ble_eq_true rfl) (Nat.le_of_ble_eq_true rfl)
    · refine z_iconst (v := 1) C dX1_isOnVehicle_26 (by decide) ?_
      refine z_goto (tgt := 31) C dX1_isOnVehicle_27 (by decide) ?_
      exact z_ireturn C rfl (rfl) dX1_isOnVehicle_31 (⟨zvs (zb_t (⟨zb_ne.mp c_11, zb_ne.mp c_23⟩)).symm, rfl⟩) (Nat.le_of_ble_eq_true rfl) (Nat.le_of_ble_eq_true rfl)
set_option maxHeartbeats 4000000 in
set_option maxRecDepth 100000 in
theorem ct_X1_isWindow (D : zG) (B : Nat) {G : zH} (f l : Int32)  : Ct D B yX1_isWindow (ws_ yX1_isWindow cX1_isWindow 2 (some .boolean)) (zr 0) [.int f, .int l] G (zpe (some (.int (zb ((0 ≤ f ∧ f ≤ 255) ∧ f ≤ l ∧ l ≤ 255)))) G) zno := by
  refine ct_intro (by decide +kernel) (Nat.le_of_ble_eq_true rfl) ?_
  intro X C
  refine z_iload_n (i := 0) C dX1_isWindow_0 rfl rfl ?_
  refine z_if_lt (tgt := 20) C dX1_isWindow_1 (by decide) (fun c_1 => ?_) (fun c_1 => ?_)
  · refine z_iconst (v := 0) C dX1_isWindow_20 (by decide) ?_
    exact z_ireturn C rfl (rfl) dX1_isWindow_21 (⟨zvs (by first | (exact (zb_t (by clear C; (try simp only [Int32.lt_iff_toInt_lt, Int32.le_iff_toInt_le] at *); omega)).symm) | (exact (zb_f (by clear C; (try simp only [Int32.lt_iff_toInt_lt, Int32.le_iff_toInt_le] at *); omega)).symm)), rfl⟩) (Nat.le_of_ble_eq_true rfl) (Nat.le_of_ble_eq_true rfl)
  · refine z_iload_n (i := 1) C dX1_isWindow_4 rfl rfl ?_
    refine z_sipush (v := 255) C dX1_isWindow_5 (by decide) ?_
    refine z_icmp_gt (tgt := 20) C dX1_isWindow_8 (by decide) (fun c_8 => ?_) (fun c_8 => ?_)
    · refine z_iconst (v := 0) C dX1_isWindow_20 (by decide) ?_
      exact z_ireturn C rfl (rfl) dX1_isWindow_21 (⟨zvs (by first | (exact (zb_t (by clear C; (try simp only [Int32.lt_iff_toInt_lt, Int32.le_iff_toInt_le] at *); omega)).symm) | (exact (zb_f (by clear C; (try simp only [Int32.lt_iff_toInt_lt, Int32.le_iff_toInt_le] at *); omega)).symm)), rfl⟩) (Nat.le_of_ble_eq_true rfl) (Nat.le_of_ble_eq_true rfl)
    · refine z_iload_n (i := 0) C dX1_isWindow_11 rfl rfl ?_
      refine z_iload_n (i := 1) C dX1_isWindow_12 rfl rfl ?_
      refine z_icmp_gt (tgt := 20) C dX1_isWindow_13 (by decide) (fun c_13 => ?_) (fun c_13 => ?_)
      · refine z_iconst (v := 0) C dX1_isWindow_20 (by decide) ?_
        exact z_ireturn C rfl (rfl) dX1_isWindow_21 (⟨zvs (by first | (exact (zb_t (by clear C; (try simp only [Int32.lt_iff_toInt_lt, Int32.le_iff_toInt_le] at *); omega)).symm) | (exact (zb_f (by clear C; (try simp only [Int32.lt_iff_toInt_lt, Int32.le_iff_toInt_le] at *); omega)).symm)), rfl⟩) (Nat.le_of_ble_eq_true rfl) (Nat.le_of_ble_eq_true rfl)
      · refine z_iconst (v := 1) C dX1_isWindow_16 (by decide) ?_
        refine z_goto (tgt := 21) C dX1_isWindow_17 (by decide) ?_
        exact z_ireturn C rfl (rfl) dX1_isWindow_21 (⟨zvs (by first | (exact (zb_t (by clear C; (try simp only [Int32.lt_iff_toInt_lt, Int32.le_iff_toInt_le] at *); omega)).symm) | (exact (zb_f (by clear C; (try simp only [Int32.lt_iff_toInt_lt, Int32.le_iff_toInt_le] at *); omega)).symm)), rfl⟩) (Nat.le_of_ble_eq_true rfl) (Nat.le_of_ble_eq_true rfl)
def zpxE (E0 : String) (G : zH) : String → Nat → zH → Prop := fun E _ G9 => E = E0 ∧ G9 = G
abbrev zIOB : String := "java/lang/IndexOutOfBoundsException"
abbrev zIAE : String := "java/lang/IllegalArgumentException"
abbrev zISE : String := "java/lang/IllegalStateException"
def zpF : Option Value → zH → Prop := fun _ _ => False
set_option maxRecDepth 100000 in
theorem hat_checkIndex : ∀ w ∈ vx_at0 "TrackArray" 3 "java/lang/IndexOutOfBoundsException" ["java/lang/RuntimeException", "java/lang/Exception"], w ∈ lw_tbl := zeqL (by decide +kernel) (zmc (lw_all_tbl q88) (zmc (lw_all_tbl q178) (zmc (lw_all_tbl q187) (zmc (lw_all_tbl q195) (zmc (lw_all_tbl q198) (zmc (lw_all_tbl q200) (zmc (lw_all_tbl q179) (zmc (lw_all_tbl q180) (zmc (lw_all_tbl q132) (zmc (lw_all_tbl q133) (zmc (lw_all_tbl q181) (zmc (lw_all_tbl q186) (zmc (lw_all_tbl q196) (zmc (lw_all_tbl q436) (zmc (lw_all_tbl q168) (zmc (lw_all_tbl q437) (zmc (lw_all_tbl q170) (zmc (lw_all_tbl q438) (zmc (lw_all_tbl q172) (zmc (lw_all_tbl q182) (zmc (lw_all_tbl q184) (zmc (lw_all_tbl q174) (zmc (lw_all_tbl q1324) (zmc (lw_all_tbl q1325) (zmc (lw_all_tbl q1326) (zmc (lw_all_tbl q1229) (zmc q159 (zmc (lw_all_tbl q1229) (zmc (lw_all_tbl q1230) (zmc (lw_all_tbl q1231) (zmc (lw_all_tbl q1232) (zmc q161 (zmc (lw_all_tbl q1232) (zmc (lw_all_tbl q1233) (zmc (lw_all_tbl q1234) (zmc (lw_all_tbl q179) (zmc q163 (zmc (lw_all_tbl q1323) (zmc (lw_all_tbl q1315) (zmc q1316 (zmc (lw_all_tbl q1317) (zmc (lw_all_tbl q194) (zmc (lw_all_tbl q1318) (zmc (lw_all_tbl q1319) (zmc (lw_all_tbl q1320) (zmc (lw_all_tbl q1321) (zmc (lw_all_tbl q434) (zmc (lw_all_tbl q176) (zmc (lw_all_tbl q1322) (zmn))))))))))))))))))))))))))))))))))))))))))))))))))
theorem np_J19_init_2 : znp yJ19_init_2 0 := ⟨by decide +kernel, by decide +kernel, by decide +kernel⟩
set_option maxHeartbeats 4000000 in
set_option maxRecDepth 100000 in
theorem ct_X1_checkIndex_ok (D : zG) (B : Nat) {G : zH} (x : Int32) (h : ¬ x = 0) : Ct D B yX1_checkIndex (ws_ yX1_checkIndex cX1_checkIndex 1 none) (zr 6) [.int x] G (zpe none G) zno := by
  refine ct_intro (by decide +kernel) (Nat.le_of_ble_eq_true rfl) ?_
  intro X C
  refine z_iload_n (i := 0) C dX1_checkIndex_0 rfl rfl ?_
  refine z_if_ne (tgt := 12) C dX1_checkIndex_1 (by decide) (fun c_1 => ?_) (fun c_1 => ?_)
  · exact z_return C rfl dX1_checkIndex_12 (⟨rfl, rfl⟩) (Nat.le_of_ble_eq_true rfl) (Nat.le_of_ble_eq_true rfl)
  · exact absurd c_1 h
set_option maxHeartbeats 4000000 in
set_option maxRecDepth 100000 in
theorem ct_X1_checkIndex_x (D : zG) (B : Nat) {G : zH} (x : Int32) (h : x = 0) : Ct D B yX1_checkIndex (ws_ yX1_checkIndex cX1_checkIndex 1 none) (zrc 6 1 6) [.int x] G (zpF) (zpxE zIOB G) := by
  refine ct_intro (by decide +kernel) (Nat.le_of_ble_eq_true rfl) ?_
  intro X C
  refine z_iload_n (i := 0) C dX1_checkIndex_0 rfl rfl ?_
  refine z_if_ne (tgt := 12) C dX1_checkIndex_1 (by decide) (fun c_1 => ?_) (fun c_1 => ?_)
  · exact absurd h c_1
  · exact z_throw0 C (names := ["java/lang/RuntimeException", "java/lang/Exception"]) (by decide +kernel) (by decide +kernel) q1314 q109 hat_checkIndex (by decide +kernel) (by decide +kernel) dX1_checkIndex_4 dX1_checkIndex_7 dX1_checkIndex_8 dX1_checkIndex_11 (Nat.le_of_ble_eq_true rfl) (Nat.le_of_ble_eq_true rfl) (Nat.le_of_ble_eq_true rfl) (Nat.le_of_ble_eq_true rfl) (fun q => ⟨rfl, rfl⟩)
set_option maxRecDepth 100000 in
theorem hat_checkArgument : ∀ w ∈ vx_at0 "TrackArray" 9 "java/lang/IllegalArgumentException" ["java/lang/RuntimeException", "java/lang/Exception"], w ∈ lw_tbl := zeqL (by decide +kernel) (zmc (lw_all_tbl q88) (zmc (lw_all_tbl q178) (zmc (lw_all_tbl q187) (zmc (lw_all_tbl q195) (zmc (lw_all_tbl q198) (zmc (lw_all_tbl q200) (zmc (lw_all_tbl q179) (zmc (lw_all_tbl q180) (zmc (lw_all_tbl q132) (zmc (lw_all_tbl q133) (zmc (lw_all_tbl q181) (zmc (lw_all_tbl q186) (zmc (lw_all_tbl q196) (zmc (lw_all_tbl q436) (zmc (lw_all_tbl q168) (zmc (lw_all_tbl q437) (zmc (lw_all_tbl q170) (zmc (lw_all_tbl q438) (zmc (lw_all_tbl q172) (zmc (lw_all_tbl q182) (zmc (lw_all_tbl q184) (zmc (lw_all_tbl q174) (zmc (lw_all_tbl q1226) (zmc (lw_all_tbl q1227) (zmc (lw_all_tbl q1228) (zmc (lw_all_tbl q1229) (zmc q159 (zmc (lw_all_tbl q1229) (zmc (lw_all_tbl q1230) (zmc (lw_all_tbl q1231) (zmc (lw_all_tbl q1232) (zmc q161 (zmc (lw_all_tbl q1232) (zmc (lw_all_tbl q1233) (zmc (lw_all_tbl q1234) (zmc (lw_all_tbl q179) (zmc q163 (zmc (lw_all_tbl q1225) (zmc (lw_all_tbl q157) (zmc q158 (zmc (lw_all_tbl q165) (zmc (lw_all_tbl q166) (zmc (lw_all_tbl q167) (zmc (lw_all_tbl q169) (zmc (lw_all_tbl q171) (zmc (lw_all_tbl q173) (zmc (lw_all_tbl q434) (zmc (lw_all_tbl q176) (zmc (lw_all_tbl q175) (zmn))))))))))))))))))))))))))))))))))))))))))))))))))
theorem np_J6_init_2 : znp yJ6_init_2 0 := ⟨by decide +kernel, by decide +kernel, by decide +kernel⟩
set_option maxHeartbeats 4000000 in
set_option maxRecDepth 100000 in
theorem ct_X1_checkArgument_ok (D : zG) (B : Nat) {G : zH} (x : Int32) (h : ¬ x = 0) : Ct D B yX1_checkArgument (ws_ yX1_checkArgument cX1_checkArgument 1 none) (zr 6) [.int x] G (zpe none G) zno := by
  refine ct_intro (by decide +kernel) (Nat.le_of_ble_eq_true rfl) ?_
  intro X C
  refine z_iload_n (i := 0) C dX1_checkArgument_0 rfl rfl ?_
  refine z_if_ne (tgt := 12) C dX1_checkArgument_1 (by decide) (fun c_1 => ?_) (fun c_1 => ?_)
  · exact z_return C rfl dX1_checkArgument_12 (⟨rfl, rfl⟩) (Nat.le_of_ble_eq_true rfl) (Nat.le_of_ble_eq_true rfl)
  · exact absurd c_1 h
set_option maxHeartbeats 4000000 in
set_option maxRecDepth 100000 in
theorem ct_X1_checkArgument_x (D : zG) (B : Nat) {G : zH} (x : Int32) (h : x = 0) : Ct D B yX1_checkArgument (ws_ yX1_checkArgument cX1_checkArgument 1 none) (zrc 6 1 6) [.int x] G (zpF) (zpxE zIAE G) := by
  refine ct_intro (by decide +kernel) (Nat.le_of_ble_eq_true rfl) ?_
  intro X C
  refine z_iload_n (i := 0) C dX1_checkArgument_0 rfl rfl ?_
  refine z_if_ne (tgt := 12) C dX1_checkArgument_1 (by decide) (fun c_1 => ?_) (fun c_1 => ?_)
  · exact absurd h c_1
  · exact z_throw0 C (names := ["java/lang/RuntimeException", "java/lang/Exception"]) (by decide +kernel) (by decide +kernel) q1224 q91 hat_checkArgument (by decide +kernel) (by decide +kernel) dX1_checkArgument_4 dX1_checkArgument_7 dX1_checkArgument_8 dX1_checkArgument_11 (Nat.le_of_ble_eq_true rfl) (Nat.le_of_ble_eq_true rfl) (Nat.le_of_ble_eq_true rfl) (Nat.le_of_ble_eq_true rfl) (fun q => ⟨rfl, rfl⟩)
set_option maxRecDepth 100000 in
theorem hat_checkState : ∀ w ∈ vx_at0 "TrackArray" 12 "java/lang/IllegalStateException" ["java/lang/RuntimeException", "java/lang/Exception"], w ∈ lw_tbl := zeqL (by decide +kernel) (zmc (lw_all_tbl q88) (zmc (lw_all_tbl q178) (zmc (lw_all_tbl q187) (zmc (lw_all_tbl q195) (zmc (lw_all_tbl q198) (zmc (lw_all_tbl q200) (zmc (lw_all_tbl q179) (zmc (lw_all_tbl q180) (zmc (lw_all_tbl q132) (zmc (lw_all_tbl q133) (zmc (lw_all_tbl q181) (zmc (lw_all_tbl q186) (zmc (lw_all_tbl q196) (zmc (lw_all_tbl q436) (zmc (lw_all_tbl q168) (zmc (lw_all_tbl q437) (zmc (lw_all_tbl q170) (zmc (lw_all_tbl q438) (zmc (lw_all_tbl q172) (zmc (lw_all_tbl q182) (zmc (lw_all_tbl q184) (zmc (lw_all_tbl q174) (zmc (lw_all_tbl q1279) (zmc (lw_all_tbl q1280) (zmc (lw_all_tbl q1281) (zmc (lw_all_tbl q1229) (zmc q159 (zmc (lw_all_tbl q1229) (zmc (lw_all_tbl q1230) (zmc (lw_all_tbl q1231) (zmc (lw_all_tbl q1232) (zmc q161 (zmc (lw_all_tbl q1232) (zmc (lw_all_tbl q1233) (zmc (lw_all_tbl q1234) (zmc (lw_all_tbl q179) (zmc q163 (zmc (lw_all_tbl q1278) (zmc (lw_all_tbl q1270) (zmc q1271 (zmc (lw_all_tbl q1272) (zmc (lw_all_tbl q193) (zmc (lw_all_tbl q1273) (zmc (lw_all_tbl q1274) (zmc (lw_all_tbl q1275) (zmc (lw_all_tbl q1276) (zmc (lw_all_tbl q434) (zmc (lw_all_tbl q176) (zmc (lw_all_tbl q1277) (zmn))))))))))))))))))))))))))))))))))))))))))))))))))
theorem np_J18_init : znp yJ18_init 0 := ⟨by decide +kernel, by decide +kernel, by decide +kernel⟩
set_option maxHeartbeats 4000000 in
set_option maxRecDepth 100000 in
theorem ct_X1_checkState_ok (D : zG) (B : Nat) {G : zH} (x : Int32) (h : ¬ x = 0) : Ct D B yX1_checkState (ws_ yX1_checkState cX1_checkState 1 none) (zr 6) [.int x] G (zpe none G) zno := by
  refine ct_intro (by decide +kernel) (Nat.le_of_ble_eq_true rfl) ?_
  intro X C
  refine z_iload_n (i := 0) C dX1_checkState_0 rfl rfl ?_
  refine z_if_ne (tgt := 12) C dX1_checkState_1 (by decide) (fun c_1 => ?_) (fun c_1 => ?_)
  · exact z_return C rfl dX1_checkState_12 (⟨rfl, rfl⟩) (Nat.le_of_ble_eq_true rfl) (Nat.le_of_ble_eq_true rfl)
  · exact absurd c_1 h
set_option maxHeartbeats 4000000 in
set_option maxRecDepth 100000 in
theorem ct_X1_checkState_x (D : zG) (B : Nat) {G : zH} (x : Int32) (h : x = 0) : Ct D B yX1_checkState (ws_ yX1_checkState cX1_checkState 1 none) (zrc 6 1 6) [.int x] G (zpF) (zpxE zISE G) := by
  refine ct_intro (by decide +kernel) (Nat.le_of_ble_eq_true rfl) ?_
  intro X C
  refine z_iload_n (i := 0) C dX1_checkState_0 rfl rfl ?_
  refine z_if_ne (tgt := 12) C dX1_checkState_1 (by decide) (fun c_1 => ?_) (fun c_1 => ?_)
  · exact absurd h c_1
  · exact z_throw0 C (names := ["java/lang/RuntimeException", "java/lang/Exception"]) (by decide +kernel) (by decide +kernel) q1269 q107 hat_checkState (by decide +kernel) (by decide +kernel) dX1_checkState_4 dX1_checkState_7 dX1_checkState_8 dX1_checkState_11 (Nat.le_of_ble_eq_true rfl) (Nat.le_of_ble_eq_true rfl) (Nat.le_of_ble_eq_true rfl) (Nat.le_of_ble_eq_true rfl) (fun q => ⟨rfl, rfl⟩)
theorem np_X1_checkArgument : znp yX1_checkArgument 1 := ⟨by decide +kernel, by decide +kernel, by decide +kernel⟩
set_option maxHeartbeats 4000000 in
set_option maxRecDepth 100000 in
theorem ct_X1_checkTime_ok (D : zG) (B : Nat) {G : zH} (x : Int32) (h : 0 ≤ x ∧ x ≤ 255) : Ct D B yX1_checkTime (ws_ yX1_checkTime cX1_checkTime 1 none) (zr 7) [.int x] G (zpe none G) zno := by
  refine ct_intro (by decide +kernel) (Nat.le_of_ble_eq_true rfl) ?_
  intro X C
  refine z_iload_n (i := 0) C dX1_checkTime_0 rfl rfl ?_
  refine z_i2l C dX1_checkTime_1 rfl ?_
  refine z_lconst (v := 0) C dX1_checkTime_2 (by decide) ?_
  refine z_ldc2 C q1398 dX1_checkTime_3 ?_
  refine z_callSe C (ct_X1_isBetween D B (x) (0) (255) _ _ (by first | rfl | decide) (by first | rfl | decide)) q1220 q789 q83 q790 np_X1_isBetween (zr_ok rfl rfl) rfl rfl (Nat.le_of_ble_eq_true rfl) (⟨Nat.le_of_ble_eq_true rfl, Nat.le_of_ble_eq_true rfl⟩) dX1_checkTime_6 ?_
  refine z_callSe C (ct_X1_checkArgument_ok D B _ (zb_ne.mpr h)) q1221 q1222 q83 q1223 np_X1_checkArgument (zr_ok rfl rfl) rfl rfl (Nat.le_of_ble_eq_true rfl) (⟨Nat.le_of_ble_eq_true rfl, Nat.le_of_ble_eq_true rfl⟩) dX1_checkTime_9 ?_
  exact z_return C rfl dX1_checkTime_12 (⟨rfl, rfl⟩) (Nat.le_of_ble_eq_true rfl) (Nat.le_of_ble_eq_true rfl)
set_option maxHeartbeats 4000000 in
set_option maxRecDepth 100000 in
theorem ct_X1_checkTime_x (D : zG) (B : Nat) {G : zH} (x : Int32) (h : ¬ (0 ≤ x ∧ x ≤ 255)) : Ct D B yX1_checkTime (ws_ yX1_checkTime cX1_checkTime 1 none) (zrc 7 1 6) [.int x] G (zpF) (zpxE zIAE G) := by
  refine ct_intro (by decide +kernel) (Nat.le_of_ble_eq_true rfl) ?_
  intro X C
  refine z_iload_n (i := 0) C dX1_checkTime_0 rfl rfl ?_
  refine z_i2l C dX1_checkTime_1 rfl ?_
  refine z_lconst (v := 0) C dX1_checkTime_2 (by decide) ?_
  refine z_ldc2 C q1398 dX1_checkTime_3 ?_
  refine z_callSe C (ct_X1_isBetween D B (x) (0) (255) _ _ (by first | rfl | decide) (by first | rfl | decide)) q1220 q789 q83 q790 np_X1_isBetween (zr_ok rfl rfl) rfl rfl (Nat.le_of_ble_eq_true rfl) (⟨Nat.le_of_ble_eq_true rfl, Nat.le_of_ble_eq_true rfl⟩) dX1_checkTime_6 ?_
  exact z_callS C (ct_X1_checkArgument_x D B _ (zb_eq.mpr h)) q1221 q1222 q83 q1223 np_X1_checkArgument (zr_ok rfl rfl) rfl rfl (Nat.le_of_ble_eq_true rfl) (⟨Nat.le_of_ble_eq_true rfl, Nat.le_of_ble_eq_true rfl⟩) dX1_checkTime_9 (fun E9 q9 G9 h9 => z_out C h9 (Nat.le_of_ble_eq_true rfl) (Nat.le_of_ble_eq_true rfl)) (fun v9 G9 h9 => h9.elim)
theorem np_X1_isWindow : znp yX1_isWindow 2 := ⟨by decide +kernel, by decide +kernel, by decide +kernel⟩
set_option maxHeartbeats 4000000 in
set_option maxRecDepth 100000 in
theorem ct_X1_checkWindow_ok (D : zG) (B : Nat) {G : zH} (g f l : Int32) (hg : ¬ g = 0) (h : (0 ≤ f ∧ f ≤ 255) ∧ f ≤ l ∧ l ≤ 255) : Ct D B yX1_checkWindow (ws_ yX1_checkWindow cX1_checkWindow 3 none) (zr 7) [.int g, .int f, .int l] G (zpe none G) zno := by
  refine ct_intro (by decide +kernel) (Nat.le_of_ble_eq_true rfl) ?_
  intro X C
  refine z_iload_n (i := 0) C dX1_checkWindow_0 rfl rfl ?_
  refine z_if_eq (tgt := 16) C dX1_checkWindow_1 (by decide) (fun c_1 => ?_) (fun c_1 => ?_)
  · exact absurd c_1 hg
  · refine z_iload_n (i := 1) C dX1_checkWindow_4 rfl rfl ?_
    refine z_iload_n (i := 2) C dX1_checkWindow_5 rfl rfl ?_
    refine z_callSe C (ct_X1_isWindow D B f l) q1462 q1463 q83 q1464 np_X1_isWindow (zr_ok rfl rfl) rfl rfl (Nat.le_of_ble_eq_true rfl) (⟨Nat.le_of_ble_eq_true rfl, Nat.le_of_ble_eq_true rfl⟩) dX1_checkWindow_6 ?_
    refine z_if_eq (tgt := 16) C dX1_checkWindow_9 (by decide) (fun c_9 => ?_) (fun c_9 => ?_)
    · exact absurd h (zb_eq.mp c_9)
    · refine z_iconst (v := 1) C dX1_checkWindow_12 (by decide) ?_
      refine z_goto (tgt := 17) C dX1_checkWindow_13 (by decide) ?_
      refine z_callSe C (ct_X1_checkArgument_ok D B _ (by decide)) q1221 q1222 q83 q1223 np_X1_checkArgument (zr_ok rfl rfl) rfl rfl (Nat.le_of_ble_eq_true rfl) (⟨Nat.le_of_ble_eq_true rfl, Nat.le_of_ble_eq_true rfl⟩) dX1_checkWindow_17 ?_
      exact z_return C rfl dX1_checkWindow_20 (⟨rfl, rfl⟩) (Nat.le_of_ble_eq_true rfl) (Nat.le_of_ble_eq_true rfl)
set_option maxHeartbeats 4000000 in
set_option maxRecDepth 100000 in
theorem ct_X1_checkWindow_x (D : zG) (B : Nat) {G : zH} (g f l : Int32) (h : g = 0 ∨ ¬ ((0 ≤ f ∧ f ≤ 255) ∧ f ≤ l ∧ l ≤ 255)) : Ct D B yX1_checkWindow (ws_ yX1_checkWindow cX1_checkWindow 3 none) (zrc 7 1 6) [.int g, .int f, .int l] G (zpF) (zpxE zIAE G) := by
  refine ct_intro (by decide +kernel) (Nat.le_of_ble_eq_true rfl) ?_
  intro X C
  refine z_iload_n (i := 0) C dX1_checkWindow_0 rfl rfl ?_
  refine z_if_eq (tgt := 16) C dX1_checkWindow_1 (by decide) (fun c_1 => ?_) (fun c_1 => ?_)
  · refine z_iconst (v := 0) C dX1_checkWindow_16 (by decide) ?_
    exact z_callS C (ct_X1_checkArgument_x D B _ (rfl)) q1221 q1222 q83 q1223 np_X1_checkArgument (zr_ok rfl rfl) rfl rfl (Nat.le_of_ble_eq_true rfl) (⟨Nat.le_of_ble_eq_true rfl, Nat.le_of_ble_eq_true rfl⟩) dX1_checkWindow_17 (fun E9 q9 G9 h9 => z_out C h9 (Nat.le_of_ble_eq_true rfl) (Nat.le_of_ble_eq_true rfl)) (fun v9 G9 h9 => h9.elim)
  · refine z_iload_n (i := 1) C dX1_checkWindow_4 rfl rfl ?_
    refine z_iload_n (i := 2) C dX1_checkWindow_5 rfl rfl ?_
    refine z_callSe C (ct_X1_isWindow D B f l) q1462 q1463 q83 q1464 np_X1_isWindow (zr_ok rfl rfl) rfl rfl (Nat.le_of_ble_eq_true rfl) (⟨Nat.le_of_ble_eq_true rfl, Nat.le_of_ble_eq_true rfl⟩) dX1_checkWindow_6 ?_
    refine z_if_eq (tgt := 16) C dX1_checkWindow_9 (by decide) (fun c_9 => ?_) (fun c_9 => ?_)
    · refine z_iconst (v := 0) C dX1_checkWindow_16 (by decide) ?_
      exact z_callS C (ct_X1_checkArgument_x D B _ (rfl)) q1221 q1222 q83 q1223 np_X1_checkArgument (zr_ok rfl rfl) rfl rfl (Nat.le_of_ble_eq_true rfl) (⟨Nat.le_of_ble_eq_true rfl, Nat.le_of_ble_eq_true rfl⟩) dX1_checkWindow_17 (fun E9 q9 G9 h9 => z_out C h9 (Nat.le_of_ble_eq_true rfl) (Nat.le_of_ble_eq_true rfl)) (fun v9 G9 h9 => h9.elim)
    · exact absurd h (fun q9 => q9.elim c_1 (fun q8 => q8 (zb_ne.mp c_9)))
theorem zlsh : ∀ i, i < 21 → lN (2 ^ i) >>> ((1 : Int32).toInt64 &&& 63) = lN (2 ^ i / 2) := by decide
set_option maxHeartbeats 4000000 in
set_option maxRecDepth 100000 in
theorem ct_X1_rootOf (D : zG) (B : Nat) {G : zH} (n : Nat) (hn : n < 4900000000) : Ct D B yX1_rootOf (ws_ yX1_rootOf cX1_rootOf 6 (some .int)) (zr 0) [.long (lN n)] G (zpe (some (.int (nI (zis n)))) G) zno := by
  refine ct_intro (by decide +kernel) (Nat.le_of_ble_eq_true rfl) ?_
  intro X C
  refine z_lconst (v := 0) C dX1_rootOf_0 (by decide) ?_
  refine z_lstore_n (i := 2) C dX1_rootOf_1 rfl (Nat.le_of_ble_eq_true rfl) rfl ?_
  refine z_ldc2 C q741 dX1_rootOf_2 ?_
  refine z_lstore C dX1_rootOf_5 (Nat.le_of_ble_eq_true rfl) rfl ?_
  have lp7 : ∀ (μ : Nat) (j r : Nat) (h1 : j ≤ 21) (h2 : r * r ≤ n) (h3 : n < (r + 2 ^ j) * (r + 2 ^ j)) (h4 : r + 2 ^ j ≤ 2097152), j < μ → Z X 7 [some (.long (lN n)), none, some (.long (lN r)), none, some (.long (lN (2 ^ j / 2))), none] [] G 0 0 := by
    intro μ
    induction μ with
    | zero => intro j r h1 h2 h3 h4 hμ; exact absurd hμ (Nat.not_lt_zero _)
    | succ μ ih7 =>
      intro j r h1 h2 h3 h4 hμ
      refine z_lload C dX1_rootOf_7 rfl ?_
      refine z_lconst (v := 0) C dX1_rootOf_9 (by decide) ?_
      refine z_lc_le (tgt := 42) C dX1_rootOf_10 dX1_rootOf_11 (by decide) (fun c_11 => ?_) (fun c_11 => ?_)
      · have hj0 : j = 0 := by
          cases j with
          | zero => rfl
          | succ i =>
            have e2 : 2 ^ (i + 1) / 2 = 2 ^ i := by rw [Nat.pow_succ]; omega
            rw [e2] at c_11
            have h9 := (lN_le (a := 2 ^ i) (b := 0) (by have := Nat.pow_le_pow_right (n := 2) (by decide) h1; have : 2 ^ (i + 1) = 2 ^ i * 2 := Nat.pow_succ ..; omega) (by decide)).mp c_11
            have := Nat.pow_pos (n := i) (a := 2) (by decide)
            omega
        subst hj0
        refine z_lload_n (i := 2) C dX1_rootOf_42 rfl rfl ?_
        refine z_l2i C dX1_rootOf_43 rfl ?_
        refine z_seti (lN_i r) ?_
        exact z_ireturn C rfl (rfl) dX1_rootOf_44 (⟨zvs (by
      have h7 : r ≤ 70000 := by
        by_cases q : r ≤ 70000
        · exact q
        · have := Nat.mul_le_mul (show 70001 ≤ r by omega) (show 70001 ≤ r by omega)
          omega
      rw [zis_uniq h7 h2 h3]), rfl⟩) (Nat.le_of_ble_eq_true rfl) (Nat.le_of_ble_eq_true rfl)
      · obtain ⟨i, rfl⟩ : ∃ i, j = i + 1 := by
          cases j with
          | zero => exact absurd (Int64.le_refl _) c_11
          | succ i => exact ⟨i, rfl⟩
        have e2 : 2 ^ (i + 1) / 2 = 2 ^ i := by rw [Nat.pow_succ]; omega
        have e3 : 2 ^ (i + 1) = 2 ^ i + 2 ^ i := by rw [Nat.pow_succ]; omega
        rw [e2]
        rw [e3] at h3 h4
        obtain ⟨w, hw⟩ : ∃ w, w = 2 ^ i := ⟨_, rfl⟩
        rw [← hw] at h3 h4 ⊢
        clear e2 e3
        refine z_lload_n (i := 2) C dX1_rootOf_14 rfl rfl ?_
        refine z_lload C dX1_rootOf_15 rfl ?_
        refine z_ladd C dX1_rootOf_17 ?_
        refine z_setl (lN_add r w) ?_
        refine z_lload_n (i := 2) C dX1_rootOf_18 rfl rfl ?_
        refine z_lload C dX1_rootOf_19 rfl ?_
        refine z_ladd C dX1_rootOf_21 ?_
        refine z_setl (lN_add r w) ?_
        refine z_lmul C dX1_rootOf_22 ?_
        refine z_setl (lN_mul _ _) ?_
        refine z_lload_n (i := 0) C dX1_rootOf_23 rfl rfl ?_
        refine z_lc_gt (tgt := 33) C dX1_rootOf_24 dX1_rootOf_25 (by decide) (fun c_25 => ?_) (fun c_25 => ?_)
        · have h6 : n < (r + w) * (r + w) := (pk_lLT (by omega) (by have := Nat.mul_le_mul (show r + w ≤ 2097152 by omega) (show r + w ≤ 2097152 by omega); omega)).mp c_25
          refine z_lload C dX1_rootOf_33 rfl ?_
          refine z_iconst (v := 1) C dX1_rootOf_35 (by decide) ?_
          refine z_lshr C dX1_rootOf_36 ((by rw [hw]; exact zlsh i (by omega) : lN w >>> ((1 : Int32).toInt64 &&& 63) = lN (2 ^ i / 2))) ?_
          refine z_lstore C dX1_rootOf_37 (Nat.le_of_ble_eq_true rfl) rfl ?_
          refine z_goto (tgt := 7) C dX1_rootOf_39 (by decide) ?_
          first
            | exact z_convG (ih7 i r (by omega) h2 (by rw [← hw]; exact h6) (by rw [← hw]; omega) (by omega)) (And.intro rfl (And.intro rfl (And.intro rfl trivial))) (Nat.le_refl _) (Nat.le_refl _)
            | exact z_convG (ih7 i (r + w) (by omega) h6 (by rw [← hw, Nat.add_assoc]; exact h3) (by rw [← hw]; omega) (by omega)) (And.intro rfl (And.intro rfl (And.intro rfl trivial))) (Nat.le_refl _) (Nat.le_refl _)
        · have h6 : (r + w) * (r + w) ≤ n := Nat.le_of_not_lt fun q => c_25 ((pk_lLT (by omega) (by have := Nat.mul_le_mul (show r + w ≤ 2097152 by omega) (show r + w ≤ 2097152 by omega); omega)).mpr q)
          refine z_lload_n (i := 2) C dX1_rootOf_28 rfl rfl ?_
          refine z_lload C dX1_rootOf_29 rfl ?_
          refine z_ladd C dX1_rootOf_31 ?_
          refine z_setl (lN_add r w) ?_
          refine z_lstore_n (i := 2) C dX1_rootOf_32 rfl (Nat.le_of_ble_eq_true rfl) rfl ?_
          refine z_lload C dX1_rootOf_33 rfl ?_
          refine z_iconst (v := 1) C dX1_rootOf_35 (by decide) ?_
          refine z_lshr C dX1_rootOf_36 ((by rw [hw]; exact zlsh i (by omega) : lN w >>> ((1 : Int32).toInt64 &&& 63) = lN (2 ^ i / 2))) ?_
          refine z_lstore C dX1_rootOf_37 (Nat.le_of_ble_eq_true rfl) rfl ?_
          refine z_goto (tgt := 7) C dX1_rootOf_39 (by decide) ?_
          first
            | exact z_convG (ih7 i r (by omega) h2 (by rw [← hw]; exact h6) (by rw [← hw]; omega) (by omega)) (And.intro rfl (And.intro rfl (And.intro rfl trivial))) (Nat.le_refl _) (Nat.le_refl _)
            | exact z_convG (ih7 i (r + w) (by omega) h6 (by rw [← hw, Nat.add_assoc]; exact h3) (by rw [← hw]; omega) (by omega)) (And.intro rfl (And.intro rfl (And.intro rfl trivial))) (Nat.le_refl _) (Nat.le_refl _)
  exact z_convG (lp7 22 21 0 (by omega) (by omega) (by omega) (by omega) (by omega)) (And.intro (rfl) (And.intro (rfl) (And.intro (rfl) trivial))) (Nat.le_of_ble_eq_true rfl) (Nat.le_of_ble_eq_true rfl)
