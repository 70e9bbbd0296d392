/-! component: values, paths, the recording -/
theorem zdr_ite (S : Nat → Int32) (m : Nat) (v : Option Nat) (x y z r : Int32) (j : Nat) : zdr S m v x y z r (nI j) = if r = 0 then zdd S m v x y z j else zdd S m v x y (-z) j := by
  unfold zdr zdd
  by_cases h : r = 0
  · rw [if_pos h, if_pos h]
  · rw [if_neg h, if_neg h]
theorem zsE_X {S : Nat → Int32} {va ua : Nat → Nat} {k n : Nat} {x : Int32} (hn : n < 16) : zsE (zaX S k n x) va ua k = .inr (5, [.ref (va (zsv S k)), .int (S (28 + 21 * k + 1)), .int (S (28 + 21 * k + 2)), .int (S (28 + 21 * k + 3)), .ref (ua k), .int (nI (n + 1))]) := by
  have e : ∀ j, j < 4 → zaX S k n x (28 + 21 * k + j) = S (28 + 21 * k + j) := fun j hj => (if_neg (by omega)).trans (if_neg (by omega))
  have e4 : zaX S k n x (28 + 21 * k + 4) = nI (n + 1) := if_pos rfl
  unfold zsE zsv
  rw [e 0 (by decide), e 1 (by decide), e 2 (by decide), e 3 (by decide), e4]
theorem np_X1_source : znp yX1_source 1 := ⟨by decide +kernel, by decide +kernel, by decide +kernel⟩
theorem np_X1_checkTime : znp yX1_checkTime 1 := ⟨by decide +kernel, by decide +kernel, by decide +kernel⟩
set_option maxHeartbeats 4000000 in
set_option maxRecDepth 100000 in
theorem ct_X1_emitted_ok (D : zG) (B : Nat) {G : zH} (o : Nat) (v1 v2 v3 v4 v5 : Value) (χ : Nat → Nat) (c a lv ls lm fo pa su : Nat) (va sa ua ma ra : Nat → Nat) (rq : Nat) (S : Nat → Int32) (k j n n4 : Nat) (hO : G o = some (.inr (0, [.ref a, v1, v2, v3, v4, v5]))) (hR : zTr G χ c a lv ls lm fo pa su va sa ua ma ra rq S) (g : zGe S) (hc : 100 ≤ c) (e9 : S 7 = nI n) (n9 : n ≤ 6) (hk : k < 100) (h1 : 0 ≤ nI k ∧ nI k ≤ S 7 - 1) (ht : 0 ≤ nI j ∧ nI j ≤ 255) (hj : j < 256) (e4 : S (28 + 21 * k + 4) = nI n4) (n41 : 0 < n4) (n42 : n4 ≤ 16) : Ct D B yX1_emitted (ws_ yX1_emitted cX1_emitted 4 (some .int)) (zr 8) [.ref o, .int (nI k), .int (nI j)] G (zpe (some (.int (zem S k j))) G) zno := by
  refine ct_intro (by decide +kernel) (Nat.le_of_ble_eq_true rfl) ?_
  intro X C
  have hk9 : k < n := zkn h1 e9 (by omega) (by omega)
  have hX := hR.2.2.2.1
  rw [zct_of e9 (by omega)] at hX
  obtain ⟨s1, ws, s2, s3⟩ := hX.2 k hk9
  have s1x : G (sa k) = some (.inr (5, [.ref (va (zsv S k)), .int (S (28 + 21 * k + 1)), .int (S (28 + 21 * k + 2)), .int (S (28 + 21 * k + 3)), .ref (ua k), .int (nI n4)])) := by
    have := s1.1
    unfold zsE at this
    rw [e4] at this
    exact this
  refine z_aload_n (i := 0) C dX1_emitted_0 rfl rfl ?_
  refine z_iload_n (i := 1) C dX1_emitted_1 rfl rfl ?_
  refine z_callVe C (hO) rfl (ct_X1_source_ok D B o v1 v2 v3 v4 v5 χ c a lv ls lm fo pa su va sa ua ma ra rq S k n hO hR g hc e9 n9 hk h1) q1347 q1349 qs18 q83 q1350 np_X1_source (zr_ok rfl rfl) rfl rfl (Nat.le_of_ble_eq_true rfl) (⟨Nat.le_of_ble_eq_true rfl, Nat.le_of_ble_eq_true rfl⟩) dX1_emitted_2 ?_
  refine z_astore_n (i := 3) C dX1_emitted_5 rfl (Nat.le_of_ble_eq_true rfl) rfl ?_
  refine z_iload_n (i := 2) C dX1_emitted_6 rfl rfl ?_
  refine z_callSe C (ct_X1_checkTime_ok D B (nI j) ht) q1395 q1396 q83 q1397 np_X1_checkTime (zr_ok rfl rfl) rfl rfl (Nat.le_of_ble_eq_true rfl) (⟨Nat.le_of_ble_eq_true rfl, Nat.le_of_ble_eq_true rfl⟩) dX1_emitted_7 ?_
  refine z_aload_n (i := 3) C dX1_emitted_10 rfl rfl ?_
  refine z_iload_n (i := 2) C dX1_emitted_11 rfl rfl ?_
  refine z_callVe C (s1x) rfl (ct_X6_emitted D B (sa k) (ua k) n4 (va (zsv S k)) j _ _ _ ws s1x s2.1 (by omega) n42 hj) q1399 q743 q744 q111 q745 np_X6_emitted (zr_ok rfl rfl) rfl rfl (Nat.le_of_ble_eq_true rfl) (⟨Nat.le_of_ble_eq_true rfl, Nat.le_of_ble_eq_true rfl⟩) dX1_emitted_12 ?_
  exact z_ireturn C rfl (rfl) dX1_emitted_15 (⟨zvs (by unfold zem; rw [e4, nI_clamp (n := n4) (by omega), s3 (j % n4) (by rw [zct_of e4 (by omega)]; exact Nat.mod_lt _ n41)]), rfl⟩) (Nat.le_of_ble_eq_true rfl) (Nat.le_of_ble_eq_true rfl)
set_option maxHeartbeats 4000000 in
set_option maxRecDepth 100000 in
theorem ct_X1_emitted_x (D : zG) (B : Nat) {G : zH} (o : Nat) (v1 v2 v3 v4 v5 : Value) (χ : Nat → Nat) (c a lv ls lm fo pa su : Nat) (va sa ua ma ra : Nat → Nat) (rq : Nat) (S : Nat → Int32) (x : Int32) (y : Int32) (n : Nat) (hO : G o = some (.inr (0, [.ref a, v1, v2, v3, v4, v5]))) (hR : zTr G χ c a lv ls lm fo pa su va sa ua ma ra rq S) (g : zGe S) (hc : 100 ≤ c) (e9 : S 7 = nI n) (n9 : n ≤ 6) (h1 : ¬ (0 ≤ x ∧ x ≤ S 7 - 1)) : Ct D B yX1_emitted (ws_ yX1_emitted cX1_emitted 4 (some .int)) (zrc 8 1 6) [.ref o, .int x, .int y] G (zpF) (zpxE zIOB G) := by
  refine ct_intro (by decide +kernel) (Nat.le_of_ble_eq_true rfl) ?_
  intro X C
  refine z_aload_n (i := 0) C dX1_emitted_0 rfl rfl ?_
  refine z_iload_n (i := 1) C dX1_emitted_1 rfl rfl ?_
  exact z_callV C (hO) rfl (ct_X1_source_x D B o v1 v2 v3 v4 v5 χ c a lv ls lm fo pa su va sa ua ma ra rq S x n hO hR g hc e9 n9 h1) q1347 q1349 qs18 q83 q1350 np_X1_source (zr_ok rfl rfl) rfl rfl (Nat.le_of_ble_eq_true rfl) (⟨Nat.le_of_ble_eq_true rfl, Nat.le_of_ble_eq_true rfl⟩) dX1_emitted_2 (fun E9 q9 G9 h9 => z_out C h9 (Nat.le_of_ble_eq_true rfl) (Nat.le_of_ble_eq_true rfl)) (fun v9 G9 h9 => h9.elim)
set_option maxHeartbeats 4000000 in
set_option maxRecDepth 100000 in
theorem ct_X1_emitted_y (D : zG) (B : Nat) {G : zH} (o : Nat) (v1 v2 v3 v4 v5 : Value) (χ : Nat → Nat) (c a lv ls lm fo pa su : Nat) (va sa ua ma ra : Nat → Nat) (rq : Nat) (S : Nat → Int32) (k n : Nat) (y : Int32) (hO : G o = some (.inr (0, [.ref a, v1, v2, v3, v4, v5]))) (hR : zTr G χ c a lv ls lm fo pa su va sa ua ma ra rq S) (g : zGe S) (hc : 100 ≤ c) (e9 : S 7 = nI n) (n9 : n ≤ 6) (hk : k < 100) (h1 : 0 ≤ nI k ∧ nI k ≤ S 7 - 1) (h : ¬ (0 ≤ y ∧ y ≤ 255)) : Ct D B yX1_emitted (ws_ yX1_emitted cX1_emitted 4 (some .int)) (zrc 8 1 6) [.ref o, .int (nI k), .int y] G (zpF) (zpxE zIAE G) := by
  refine ct_intro (by decide +kernel) (Nat.le_of_ble_eq_true rfl) ?_
  intro X C
  refine z_aload_n (i := 0) C dX1_emitted_0 rfl rfl ?_
  refine z_iload_n (i := 1) C dX1_emitted_1 rfl rfl ?_
  refine z_callVe C (hO) rfl (ct_X1_source_ok D B o v1 v2 v3 v4 v5 χ c a lv ls lm fo pa su va sa ua ma ra rq S k n hO hR g hc e9 n9 hk h1) q1347 q1349 qs18 q83 q1350 np_X1_source (zr_ok rfl rfl) rfl rfl (Nat.le_of_ble_eq_true rfl) (⟨Nat.le_of_ble_eq_true rfl, Nat.le_of_ble_eq_true rfl⟩) dX1_emitted_2 ?_
  refine z_astore_n (i := 3) C dX1_emitted_5 rfl (Nat.le_of_ble_eq_true rfl) rfl ?_
  refine z_iload_n (i := 2) C dX1_emitted_6 rfl rfl ?_
  exact z_callS C (ct_X1_checkTime_x D B y h) q1395 q1396 q83 q1397 np_X1_checkTime (zr_ok rfl rfl) rfl rfl (Nat.le_of_ble_eq_true rfl) (⟨Nat.le_of_ble_eq_true rfl, Nat.le_of_ble_eq_true rfl⟩) dX1_emitted_7 (fun E9 q9 G9 h9 => z_out C h9 (Nat.le_of_ble_eq_true rfl) (Nat.le_of_ble_eq_true rfl)) (fun v9 G9 h9 => h9.elim)
set_option maxHeartbeats 4000000 in
set_option maxRecDepth 100000 in
theorem ct_X1_addValue_ok (D : zG) (B : Nat) {G : zH} (o : Nat) (v1 v2 v3 v4 v5 : Value) (χ : Nat → Nat) (c a lv ls lm fo pa su : Nat) (va sa ua ma ra : Nat → Nat) (rq : Nat) (S : Nat → Int32) (k n n4 : Nat) (x : Int32) (hO : G o = some (.inr (0, [.ref a, v1, v2, v3, v4, v5]))) (hR : zTr G χ c a lv ls lm fo pa su va sa ua ma ra rq S) (g : zGe S) (hc : 100 ≤ c) (e9 : S 7 = nI n) (n9 : n ≤ 6) (hk : k < 100) (h1 : 0 ≤ nI k ∧ nI k ≤ S 7 - 1) (h : -99 ≤ x ∧ x ≤ 99) (e4 : S (28 + 21 * k + 4) = nI n4) (n42 : n4 < 16) : Ct D B yX1_addValue (ws_ yX1_addValue cX1_addValue 4 (some .int)) (zr 8) [.ref o, .int (nI k), .int x] G (fun r9 G9 => r9 = some (.int (nI (n4 + 1))) ∧ zkee (fun y => y ≠ c + 20 + k ∧ y ≠ c + 30 + k) G χ G9 χ ∧ zTr G9 χ c a lv ls lm fo pa su va sa ua ma ra rq (zaX S k n4 x)) zno := by
  refine ct_intro (by decide +kernel) (Nat.le_of_ble_eq_true rfl) ?_
  intro X C
  have hk9 : k < n := zkn h1 e9 (by omega) (by omega)
  have hX := hR.2.2.2.1
  rw [zct_of e9 (by omega)] at hX
  obtain ⟨s1, ws, s2, s3⟩ := hX.2 k hk9
  have s1x : G (sa k) = some (.inr (5, [.ref (va (zsv S k)), .int (S (28 + 21 * k + 1)), .int (S (28 + 21 * k + 2)), .int (S (28 + 21 * k + 3)), .ref (ua k), .int (nI n4)])) := by
    have := s1.1
    unfold zsE at this
    rw [e4] at this
    exact this
  have t9 := hR.addX (S' := zaX S k n4 x) (w' := ws) g hc (k := k) (n := n4) (by rw [zct_of e9 (by omega)]; exact hk9) e4 n42 rfl (fun j hj => s3 j (by rw [zct_of e4 (by omega)]; exact hj)) s2
  rw [zsE_X n42] at t9
  refine z_aload_n (i := 0) C dX1_addValue_0 rfl rfl ?_
  refine z_iload_n (i := 1) C dX1_addValue_1 rfl rfl ?_
  refine z_callVe C (hO) rfl (ct_X1_source_ok D B o v1 v2 v3 v4 v5 χ c a lv ls lm fo pa su va sa ua ma ra rq S k n hO hR g hc e9 n9 hk h1) q1347 q1349 qs18 q83 q1350 np_X1_source (zr_ok rfl rfl) rfl rfl (Nat.le_of_ble_eq_true rfl) (⟨Nat.le_of_ble_eq_true rfl, Nat.le_of_ble_eq_true rfl⟩) dX1_addValue_2 ?_
  refine z_astore_n (i := 3) C dX1_addValue_5 rfl (Nat.le_of_ble_eq_true rfl) rfl ?_
  refine z_iload_n (i := 2) C dX1_addValue_6 rfl rfl ?_
  refine z_callSe C (ct_X1_isValue D B x) q1335 q1336 q83 q1337 np_X1_isValue (zr_ok rfl rfl) rfl rfl (Nat.le_of_ble_eq_true rfl) (⟨Nat.le_of_ble_eq_true rfl, Nat.le_of_ble_eq_true rfl⟩) dX1_addValue_7 ?_
  refine z_callSe C (ct_X1_checkArgument_ok D B _ (zb_ne.mpr h)) q1221 q1222 q83 q1223 np_X1_checkArgument (zr_ok rfl rfl) rfl rfl (Nat.le_of_ble_eq_true rfl) (⟨Nat.le_of_ble_eq_true rfl, Nat.le_of_ble_eq_true rfl⟩) dX1_addValue_10 ?_
  refine z_aload_n (i := 3) C dX1_addValue_13 rfl rfl ?_
  refine z_getfN (ci := 5) (k := 5) C (s1x) rfl rfl q1164 dX1_addValue_14 ?_
  refine z_bipush (v := 16) C dX1_addValue_17 (by decide) ?_
  refine z_icmp_ge (tgt := 26) C dX1_addValue_19 (by decide) (fun c_19 => ?_) (fun c_19 => ?_)
  · exact absurd c_19 (Int32.not_le.mpr (nI_lt (b := 16) n42 (by decide)))
  · refine z_iconst (v := 1) C dX1_addValue_22 (by decide) ?_
    refine z_goto (tgt := 27) C dX1_addValue_23 (by decide) ?_
    refine z_callSe C (ct_X1_checkState_ok D B _ (by decide)) q1266 q1267 q83 q1268 np_X1_checkState (zr_ok rfl rfl) rfl rfl (Nat.le_of_ble_eq_true rfl) (⟨Nat.le_of_ble_eq_true rfl, Nat.le_of_ble_eq_true rfl⟩) dX1_addValue_27 ?_
    refine z_aload_n (i := 3) C dX1_addValue_30 rfl rfl ?_
    refine z_iload_n (i := 2) C dX1_addValue_31 rfl rfl ?_
    refine z_callVe C (s1x) rfl (ct_X6_add D B (sa k) (ua k) n4 (va (zsv S k)) x _ _ _ ws s1x s2.1 n42) q1353 q1179 q1180 q111 q1181 np_X6_add (zr_ok rfl rfl) rfl rfl (Nat.le_of_ble_eq_true rfl) (⟨Nat.le_of_ble_eq_true rfl, Nat.le_of_ble_eq_true rfl⟩) dX1_addValue_32 ?_
    exact z_ireturn C rfl (rfl) dX1_addValue_35 (⟨rfl, t9.2, t9.1⟩) (Nat.le_of_ble_eq_true rfl) (Nat.le_of_ble_eq_true rfl)
set_option maxHeartbeats 4000000 in
set_option maxRecDepth 100000 in
theorem ct_X1_addValue_x (D : zG) (B : Nat) {G : zH} (o : Nat) (v1 v2 v3 v4 v5 : Value) (χ : Nat → Nat) (c a lv ls lm fo pa su : Nat) (va sa ua ma ra : Nat → Nat) (rq : Nat) (S : Nat → Int32) (x y : Int32) (n : Nat) (hO : G o = some (.inr (0, [.ref a, v1, v2, v3, v4, v5]))) (hR : zTr G χ c a lv ls lm fo pa su va sa ua ma ra rq S) (g : zGe S) (hc : 100 ≤ c) (e9 : S 7 = nI n) (n9 : n ≤ 6) (h1 : ¬ (0 ≤ x ∧ x ≤ S 7 - 1)) : Ct D B yX1_addValue (ws_ yX1_addValue cX1_addValue 4 (some .int)) (zrc 8 1 6) [.ref o, .int x, .int y] G (zpF) (zpxE zIOB G) := by
  refine ct_intro (by decide +kernel) (Nat.le_of_ble_eq_true rfl) ?_
  intro X C
  refine z_aload_n (i := 0) C dX1_addValue_0 rfl rfl ?_
  refine z_iload_n (i := 1) C dX1_addValue_1 rfl rfl ?_
  exact z_callV C (hO) rfl (ct_X1_source_x D B o v1 v2 v3 v4 v5 χ c a lv ls lm fo pa su va sa ua ma ra rq S x n hO hR g hc e9 n9 h1) q1347 q1349 qs18 q83 q1350 np_X1_source (zr_ok rfl rfl) rfl rfl (Nat.le_of_ble_eq_true rfl) (⟨Nat.le_of_ble_eq_true rfl, Nat.le_of_ble_eq_true rfl⟩) dX1_addValue_2 (fun E9 q9 G9 h9 => z_out C h9 (Nat.le_of_ble_eq_true rfl) (Nat.le_of_ble_eq_true rfl)) (fun v9 G9 h9 => h9.elim)
set_option maxHeartbeats 4000000 in
set_option maxRecDepth 100000 in
theorem ct_X1_addValue_y (D : zG) (B : Nat) {G : zH} (o : Nat) (v1 v2 v3 v4 v5 : Value) (χ : Nat → Nat) (c a lv ls lm fo pa su : Nat) (va sa ua ma ra : Nat → Nat) (rq : Nat) (S : Nat → Int32) (k n : Nat) (y : Int32) (hO : G o = some (.inr (0, [.ref a, v1, v2, v3, v4, v5]))) (hR : zTr G χ c a lv ls lm fo pa su va sa ua ma ra rq S) (g : zGe S) (hc : 100 ≤ c) (e9 : S 7 = nI n) (n9 : n ≤ 6) (hk : k < 100) (h1 : 0 ≤ nI k ∧ nI k ≤ S 7 - 1) (h : ¬ (-99 ≤ y ∧ y ≤ 99)) : Ct D B yX1_addValue (ws_ yX1_addValue cX1_addValue 4 (some .int)) (zrc 8 1 6) [.ref o, .int (nI k), .int y] G (zpF) (zpxE zIAE G) := by
  refine ct_intro (by decide +kernel) (Nat.le_of_ble_eq_true rfl) ?_
  intro X C
  refine z_aload_n (i := 0) C dX1_addValue_0 rfl rfl ?_
  refine z_iload_n (i := 1) C dX1_addValue_1 rfl rfl ?_
  refine z_callVe C (hO) rfl (ct_X1_source_ok D B o v1 v2 v3 v4 v5 χ c a lv ls lm fo pa su va sa ua ma ra rq S k n hO hR g hc e9 n9 hk h1) q1347 q1349 qs18 q83 q1350 np_X1_source (zr_ok rfl rfl) rfl rfl (Nat.le_of_ble_eq_true rfl) (⟨Nat.le_of_ble_eq_true rfl, Nat.le_of_ble_eq_true rfl⟩) dX1_addValue_2 ?_
  refine z_astore_n (i := 3) C dX1_addValue_5 rfl (Nat.le_of_ble_eq_true rfl) rfl ?_
  refine z_iload_n (i := 2) C dX1_addValue_6 rfl rfl ?_
  refine z_callSe C (ct_X1_isValue D B y) q1335 q1336 q83 q1337 np_X1_isValue (zr_ok rfl rfl) rfl rfl (Nat.le_of_ble_eq_true rfl) (⟨Nat.le_of_ble_eq_true rfl, Nat.le_of_ble_eq_true rfl⟩) dX1_addValue_7 ?_
  exact z_callS C (ct_X1_checkArgument_x D B _ (zb_eq.mpr h)) q1221 q1222 q83 q1223 np_X1_checkArgument (zr_ok rfl rfl) rfl rfl (Nat.le_of_ble_eq_true rfl) (⟨Nat.le_of_ble_eq_true rfl, Nat.le_of_ble_eq_true rfl⟩) dX1_addValue_10 (fun E9 q9 G9 h9 => z_out C h9 (Nat.le_of_ble_eq_true rfl) (Nat.le_of_ble_eq_true rfl)) (fun v9 G9 h9 => h9.elim)
set_option maxHeartbeats 4000000 in
set_option maxRecDepth 100000 in
theorem ct_X1_addValue_s (D : zG) (B : Nat) {G : zH} (o : Nat) (v1 v2 v3 v4 v5 : Value) (χ : Nat → Nat) (c a lv ls lm fo pa su : Nat) (va sa ua ma ra : Nat → Nat) (rq : Nat) (S : Nat → Int32) (k n n4 : Nat) (y : Int32) (hO : G o = some (.inr (0, [.ref a, v1, v2, v3, v4, v5]))) (hR : zTr G χ c a lv ls lm fo pa su va sa ua ma ra rq S) (g : zGe S) (hc : 100 ≤ c) (e9 : S 7 = nI n) (n9 : n ≤ 6) (hk : k < 100) (h1 : 0 ≤ nI k ∧ nI k ≤ S 7 - 1) (h : -99 ≤ y ∧ y ≤ 99) (e4 : S (28 + 21 * k + 4) = nI n4) (n42 : n4 = 16) : Ct D B yX1_addValue (ws_ yX1_addValue cX1_addValue 4 (some .int)) (zrc 8 1 6) [.ref o, .int (nI k), .int y] G (zpF) (zpxE zISE G) := by
  refine ct_intro (by decide +kernel) (Nat.le_of_ble_eq_true rfl) ?_
  intro X C
  have hk9 : k < n := zkn h1 e9 (by omega) (by omega)
  have hX := hR.2.2.2.1
  rw [zct_of e9 (by omega)] at hX
  obtain ⟨s1, ws, s2, s3⟩ := hX.2 k hk9
  have s1x : G (sa k) = some (.inr (5, [.ref (va (zsv S k)), .int (S (28 + 21 * k + 1)), .int (S (28 + 21 * k + 2)), .int (S (28 + 21 * k + 3)), .ref (ua k), .int (nI n4)])) := by
    have := s1.1
    unfold zsE at this
    rw [e4] at this
    exact this
  refine z_aload_n (i := 0) C dX1_addValue_0 rfl rfl ?_
  refine z_iload_n (i := 1) C dX1_addValue_1 rfl rfl ?_
  refine z_callVe C (hO) rfl (ct_X1_source_ok D B o v1 v2 v3 v4 v5 χ c a lv ls lm fo pa su va sa ua ma ra rq S k n hO hR g hc e9 n9 hk h1) q1347 q1349 qs18 q83 q1350 np_X1_source (zr_ok rfl rfl) rfl rfl (Nat.le_of_ble_eq_true rfl) (⟨Nat.le_of_ble_eq_true rfl, Nat.le_of_ble_eq_true rfl⟩) dX1_addValue_2 ?_
  refine z_astore_n (i := 3) C dX1_addValue_5 rfl (Nat.le_of_ble_eq_true rfl) rfl ?_
  refine z_iload_n (i := 2) C dX1_addValue_6 rfl rfl ?_
  refine z_callSe C (ct_X1_isValue D B y) q1335 q1336 q83 q1337 np_X1_isValue (zr_ok rfl rfl) rfl rfl (Nat.le_of_ble_eq_true rfl) (⟨Nat.le_of_ble_eq_true rfl, Nat.le_of_ble_eq_true rfl⟩) dX1_addValue_7 ?_
  refine z_callSe C (ct_X1_checkArgument_ok D B _ (zb_ne.mpr h)) q1221 q1222 q83 q1223 np_X1_checkArgument (zr_ok rfl rfl) rfl rfl (Nat.le_of_ble_eq_true rfl) (⟨Nat.le_of_ble_eq_true rfl, Nat.le_of_ble_eq_true rfl⟩) dX1_addValue_10 ?_
  refine z_aload_n (i := 3) C dX1_addValue_13 rfl rfl ?_
  refine z_getfN (ci := 5) (k := 5) C (s1x) rfl rfl q1164 dX1_addValue_14 ?_
  refine z_bipush (v := 16) C dX1_addValue_17 (by decide) ?_
  refine z_icmp_ge (tgt := 26) C dX1_addValue_19 (by decide) (fun c_19 => ?_) (fun c_19 => ?_)
  · refine z_iconst (v := 0) C dX1_addValue_26 (by decide) ?_
    exact z_callS C (ct_X1_checkState_x D B _ (rfl)) q1266 q1267 q83 q1268 np_X1_checkState (zr_ok rfl rfl) rfl rfl (Nat.le_of_ble_eq_true rfl) (⟨Nat.le_of_ble_eq_true rfl, Nat.le_of_ble_eq_true rfl⟩) dX1_addValue_27 (fun E9 q9 G9 h9 => z_out C h9 (Nat.le_of_ble_eq_true rfl) (Nat.le_of_ble_eq_true rfl)) (fun v9 G9 h9 => h9.elim)
  · exact absurd (by rw [n42]; exact Int32.le_refl _) c_19
theorem np_X2_makeRecording : znp yX2_makeRecording 0 := ⟨by decide +kernel, by decide +kernel, by decide +kernel⟩
set_option maxHeartbeats 4000000 in
set_option maxRecDepth 100000 in
theorem ct_X1_makeRecording (D : zG) (B : Nat) {G : zH} (o : Nat) (v1 v2 v3 v4 v5 : Value) (χ : Nat → Nat) (c a lv ls lm fo pa su : Nat) (va sa ua ma ra : Nat → Nat) (rq : Nat) (S : Nat → Int32) (nm ns lvl : Nat) (hO : G o = some (.inr (0, [.ref a, v1, v2, v3, v4, v5]))) (hR : zTr G χ c a lv ls lm fo pa su va sa ua ma ra rq S) (g : zGe S) (hc : 100 ≤ c) (h2 : S 2 = 0 ∨ S 2 = 1) (e8 : S 8 = nI nm) (n8 : nm ≤ 8) (e7 : S 7 = nI ns) (n7 : ns ≤ 6) (e4 : S 4 = nI lvl) (n4_ : lvl ≤ 99) : Ct D B yX1_makeRecording (ws_ yX1_makeRecording cX1_makeRecording 1 (some .int)) (zrc 7 130 2600) [.ref o] G (fun r9 G9 => r9 = some (.int (S 9 + 1)) ∧ ∃ (χ9 : Nat → Nat) (ra9 : Nat → Nat), zkee (zPr c) G χ G9 χ9 ∧ ∀ S', zAR S S' nm ns lvl rq → zTr G9 χ9 c a lv ls lm fo pa su va sa ua ma ra9 (zqs lvl rq nm) S') zno := by
  refine ct_intro (by decide +kernel) (Nat.le_of_ble_eq_true rfl) ?_
  intro X C
  refine z_aload_n (i := 0) C dX1_makeRecording_0 rfl rfl ?_
  refine z_getf (ci := 0) (k := 0) C (hO) rfl rfl q570 dX1_makeRecording_1 ?_
  refine z_callVn C (hR.1.1) rfl (ct_X2_makeRecording D B χ c a lv ls lm fo pa su va sa ua ma ra rq S nm ns lvl hR g h2 hc e8 n8 e7 n7 e4 n4_) q598 q599 q600 q84 q601 np_X2_makeRecording (zr_ok rfl rfl) rfl rfl (Nat.le_of_ble_eq_true rfl) (⟨Nat.le_of_ble_eq_true rfl, Nat.le_of_ble_eq_true rfl⟩) dX1_makeRecording_4 ?_
  intro v9 G9 h9
  obtain ⟨rfl, χ9, ra9, K9, t9⟩ := h9
  exact z_ireturn C rfl (rfl) dX1_makeRecording_7 (⟨rfl, χ9, ra9, K9, t9⟩) (Nat.le_of_ble_eq_true rfl) (Nat.le_of_ble_eq_true rfl)
set_option maxHeartbeats 4000000 in
set_option maxRecDepth 100000 in
theorem ct_X1_sample_ok (D : zG) (B : Nat) {G : zH} (o : Nat) (v1 v2 v3 v4 v5 : Value) (χ : Nat → Nat) (c a lv ls lm fo pa su : Nat) (va sa ua ma ra : Nat → Nat) (rq : Nat) (S : Nat → Int32) (k j n : Nat) (hO : G o = some (.inr (0, [.ref a, v1, v2, v3, v4, v5]))) (hR : zTr G χ c a lv ls lm fo pa su va sa ua ma ra rq S) (g : zGe S) (hc : 100 ≤ c) (e9 : S 8 = nI n) (n9 : n ≤ 8) (hk : k < 100) (h1 : 0 ≤ nI k ∧ nI k ≤ S 8 - 1) (ht : 0 ≤ nI j ∧ nI j ≤ 255) (hj : j < 256) : Ct D B yX1_sample (ws_ yX1_sample cX1_sample 4 (some .int)) (zr 8) [.ref o, .int (nI k), .int (nI j)] G (zpe (some (.int (S (186 + 256 * k + j)))) G) zno := by
  refine ct_intro (by decide +kernel) (Nat.le_of_ble_eq_true rfl) ?_
  intro X C
  have hk9 : k < n := zkn h1 e9 (by omega) (by omega)
  have hX := hR.2.2.2.2.1
  rw [zct_of e9 (by omega)] at hX
  obtain ⟨m1, wm, m2, m3⟩ := hX.2 k hk9
  refine z_aload_n (i := 0) C dX1_sample_0 rfl rfl ?_
  refine z_iload_n (i := 1) C dX1_sample_1 rfl rfl ?_
  refine z_callVe C (hO) rfl (ct_X1_microphone_ok D B o v1 v2 v3 v4 v5 χ c a lv ls lm fo pa su va sa ua ma ra rq S k n hO hR g hc e9 n9 hk h1) q1375 q1377 qs19 q83 q1378 np_X1_microphone (zr_ok rfl rfl) rfl rfl (Nat.le_of_ble_eq_true rfl) (⟨Nat.le_of_ble_eq_true rfl, Nat.le_of_ble_eq_true rfl⟩) dX1_sample_2 ?_
  refine z_astore_n (i := 3) C dX1_sample_5 rfl (Nat.le_of_ble_eq_true rfl) rfl ?_
  refine z_iload_n (i := 2) C dX1_sample_6 rfl rfl ?_
  refine z_callSe C (ct_X1_checkTime_ok D B (nI j) ht) q1395 q1396 q83 q1397 np_X1_checkTime (zr_ok rfl rfl) rfl rfl (Nat.le_of_ble_eq_true rfl) (⟨Nat.le_of_ble_eq_true rfl, Nat.le_of_ble_eq_true rfl⟩) dX1_sample_7 ?_
  refine z_aload_n (i := 3) C dX1_sample_10 rfl rfl ?_
  refine z_getfN (ci := 6) (k := 4) C (m1.1) rfl rfl q1033 dX1_sample_11 ?_
  refine z_iload_n (i := 2) C dX1_sample_14 rfl rfl ?_
  refine zj_iald C m2.1 (zixI rfl hj) (by decide) dX1_sample_15 ?_
  refine z_seti (m3 j hj) ?_
  exact z_ireturn C rfl (rfl) dX1_sample_16 (⟨rfl, rfl⟩) (Nat.le_of_ble_eq_true rfl) (Nat.le_of_ble_eq_true rfl)
set_option maxHeartbeats 4000000 in
set_option maxRecDepth 100000 in
theorem ct_X1_sample_x (D : zG) (B : Nat) {G : zH} (o : Nat) (v1 v2 v3 v4 v5 : Value) (χ : Nat → Nat) (c a lv ls lm fo pa su : Nat) (va sa ua ma ra : Nat → Nat) (rq : Nat) (S : Nat → Int32) (x y : Int32) (n : Nat) (hO : G o = some (.inr (0, [.ref a, v1, v2, v3, v4, v5]))) (hR : zTr G χ c a lv ls lm fo pa su va sa ua ma ra rq S) (g : zGe S) (hc : 100 ≤ c) (e9 : S 8 = nI n) (n9 : n ≤ 8) (h1 : ¬ (0 ≤ x ∧ x ≤ S 8 - 1)) : Ct D B yX1_sample (ws_ yX1_sample cX1_sample 4 (some .int)) (zrc 8 1 6) [.ref o, .int x, .int y] G (zpF) (zpxE zIOB G) := by
  refine ct_intro (by decide +kernel) (Nat.le_of_ble_eq_true rfl) ?_
  intro X C
  refine z_aload_n (i := 0) C dX1_sample_0 rfl rfl ?_
  refine z_iload_n (i := 1) C dX1_sample_1 rfl rfl ?_
  exact z_callV C (hO) rfl (ct_X1_microphone_x D B o v1 v2 v3 v4 v5 χ c a lv ls lm fo pa su va sa ua ma ra rq S x n hO hR g hc e9 n9 h1) q1375 q1377 qs19 q83 q1378 np_X1_microphone (zr_ok rfl rfl) rfl rfl (Nat.le_of_ble_eq_true rfl) (⟨Nat.le_of_ble_eq_true rfl, Nat.le_of_ble_eq_true rfl⟩) dX1_sample_2 (fun E9 q9 G9 h9 => z_out C h9 (Nat.le_of_ble_eq_true rfl) (Nat.le_of_ble_eq_true rfl)) (fun v9 G9 h9 => h9.elim)
set_option maxHeartbeats 4000000 in
set_option maxRecDepth 100000 in
theorem ct_X1_sample_y (D : zG) (B : Nat) {G : zH} (o : Nat) (v1 v2 v3 v4 v5 : Value) (χ : Nat → Nat) (c a lv ls lm fo pa su : Nat) (va sa ua ma ra : Nat → Nat) (rq : Nat) (S : Nat → Int32) (k n : Nat) (y : Int32) (hO : G o = some (.inr (0, [.ref a, v1, v2, v3, v4, v5]))) (hR : zTr G χ c a lv ls lm fo pa su va sa ua ma ra rq S) (g : zGe S) (hc : 100 ≤ c) (e9 : S 8 = nI n) (n9 : n ≤ 8) (hk : k < 100) (h1 : 0 ≤ nI k ∧ nI k ≤ S 8 - 1) (h : ¬ (0 ≤ y ∧ y ≤ 255)) : Ct D B yX1_sample (ws_ yX1_sample cX1_sample 4 (some .int)) (zrc 8 1 6) [.ref o, .int (nI k), .int y] G (zpF) (zpxE zIAE G) := by
  refine ct_intro (by decide +kernel) (Nat.le_of_ble_eq_true rfl) ?_
  intro X C
  refine z_aload_n (i := 0) C dX1_sample_0 rfl rfl ?_
  refine z_iload_n (i := 1) C dX1_sample_1 rfl rfl ?_
  refine z_callVe C (hO) rfl (ct_X1_microphone_ok D B o v1 v2 v3 v4 v5 χ c a lv ls lm fo pa su va sa ua ma ra rq S k n hO hR g hc e9 n9 hk h1) q1375 q1377 qs19 q83 q1378 np_X1_microphone (zr_ok rfl rfl) rfl rfl (Nat.le_of_ble_eq_true rfl) (⟨Nat.le_of_ble_eq_true rfl, Nat.le_of_ble_eq_true rfl⟩) dX1_sample_2 ?_
  refine z_astore_n (i := 3) C dX1_sample_5 rfl (Nat.le_of_ble_eq_true rfl) rfl ?_
  refine z_iload_n (i := 2) C dX1_sample_6 rfl rfl ?_
  exact z_callS C (ct_X1_checkTime_x D B y h) q1395 q1396 q83 q1397 np_X1_checkTime (zr_ok rfl rfl) rfl rfl (Nat.le_of_ble_eq_true rfl) (⟨Nat.le_of_ble_eq_true rfl, Nat.le_of_ble_eq_true rfl⟩) dX1_sample_7 (fun E9 q9 G9 h9 => z_out C h9 (Nat.le_of_ble_eq_true rfl) (Nat.le_of_ble_eq_true rfl)) (fun v9 G9 h9 => h9.elim)
set_option maxHeartbeats 4000000 in
set_option maxRecDepth 100000 in
theorem ct_X1_sampleNumber_x (D : zG) (B : Nat) {G : zH} (o : Nat) (v1 v2 v3 v4 v5 : Value) (χ : Nat → Nat) (c a lv ls lm fo pa su : Nat) (va sa ua ma ra : Nat → Nat) (rq : Nat) (S : Nat → Int32) (x y : Int32) (n : Nat) (hO : G o = some (.inr (0, [.ref a, v1, v2, v3, v4, v5]))) (hR : zTr G χ c a lv ls lm fo pa su va sa ua ma ra rq S) (g : zGe S) (hc : 100 ≤ c) (e9 : S 8 = nI n) (n9 : n ≤ 8) (h1 : ¬ (0 ≤ x ∧ x ≤ S 8 - 1)) : Ct D B yX1_sampleNumber (ws_ yX1_sampleNumber cX1_sampleNumber 4 (some .int)) (zrc 8 1 6) [.ref o, .int x, .int y] G (zpF) (zpxE zIOB G) := by
  refine ct_intro (by decide +kernel) (Nat.le_of_ble_eq_true rfl) ?_
  intro X C
  refine z_aload_n (i := 0) C dX1_sampleNumber_0 rfl rfl ?_
  refine z_iload_n (i := 1) C dX1_sampleNumber_1 rfl rfl ?_
  exact z_callV C (hO) rfl (ct_X1_microphone_x D B o v1 v2 v3 v4 v5 χ c a lv ls lm fo pa su va sa ua ma ra rq S x n hO hR g hc e9 n9 h1) q1375 q1377 qs19 q83 q1378 np_X1_microphone (zr_ok rfl rfl) rfl rfl (Nat.le_of_ble_eq_true rfl) (⟨Nat.le_of_ble_eq_true rfl, Nat.le_of_ble_eq_true rfl⟩) dX1_sampleNumber_2 (fun E9 q9 G9 h9 => z_out C h9 (Nat.le_of_ble_eq_true rfl) (Nat.le_of_ble_eq_true rfl)) (fun v9 G9 h9 => h9.elim)
set_option maxHeartbeats 4000000 in
set_option maxRecDepth 100000 in
theorem ct_X1_sampleNumber_y (D : zG) (B : Nat) {G : zH} (o : Nat) (v1 v2 v3 v4 v5 : Value) (χ : Nat → Nat) (c a lv ls lm fo pa su : Nat) (va sa ua ma ra : Nat → Nat) (rq : Nat) (S : Nat → Int32) (k n : Nat) (y : Int32) (hO : G o = some (.inr (0, [.ref a, v1, v2, v3, v4, v5]))) (hR : zTr G χ c a lv ls lm fo pa su va sa ua ma ra rq S) (g : zGe S) (hc : 100 ≤ c) (e9 : S 8 = nI n) (n9 : n ≤ 8) (hk : k < 100) (h1 : 0 ≤ nI k ∧ nI k ≤ S 8 - 1) (h : ¬ (0 ≤ y ∧ y ≤ 255)) : Ct D B yX1_sampleNumber (ws_ yX1_sampleNumber cX1_sampleNumber 4 (some .int)) (zrc 8 1 6) [.ref o, .int (nI k), .int y] G (zpF) (zpxE zIAE G) := by
  refine ct_intro (by decide +kernel) (Nat.le_of_ble_eq_true rfl) ?_
  intro X C
  refine z_aload_n (i := 0) C dX1_sampleNumber_0 rfl rfl ?_
  refine z_iload_n (i := 1) C dX1_sampleNumber_1 rfl rfl ?_
  refine z_callVe C (hO) rfl (ct_X1_microphone_ok D B o v1 v2 v3 v4 v5 χ c a lv ls lm fo pa su va sa ua ma ra rq S k n hO hR g hc e9 n9 hk h1) q1375 q1377 qs19 q83 q1378 np_X1_microphone (zr_ok rfl rfl) rfl rfl (Nat.le_of_ble_eq_true rfl) (⟨Nat.le_of_ble_eq_true rfl, Nat.le_of_ble_eq_true rfl⟩) dX1_sampleNumber_2 ?_
  refine z_astore_n (i := 3) C dX1_sampleNumber_5 rfl (Nat.le_of_ble_eq_true rfl) rfl ?_
  refine z_iload_n (i := 2) C dX1_sampleNumber_6 rfl rfl ?_
  exact z_callS C (ct_X1_checkTime_x D B y h) q1395 q1396 q83 q1397 np_X1_checkTime (zr_ok rfl rfl) rfl rfl (Nat.le_of_ble_eq_true rfl) (⟨Nat.le_of_ble_eq_true rfl, Nat.le_of_ble_eq_true rfl⟩) dX1_sampleNumber_7 (fun E9 q9 G9 h9 => z_out C h9 (Nat.le_of_ble_eq_true rfl) (Nat.le_of_ble_eq_true rfl)) (fun v9 G9 h9 => h9.elim)
set_option maxHeartbeats 4000000 in
set_option maxRecDepth 100000 in
theorem ct_X1_part_x (D : zG) (B : Nat) {G : zH} (o : Nat) (v1 v2 v3 v4 v5 : Value) (χ : Nat → Nat) (c a lv ls lm fo pa su : Nat) (va sa ua ma ra : Nat → Nat) (rq : Nat) (S : Nat → Int32) (x y : Int32) (n : Nat) (hO : G o = some (.inr (0, [.ref a, v1, v2, v3, v4, v5]))) (hR : zTr G χ c a lv ls lm fo pa su va sa ua ma ra rq S) (g : zGe S) (hc : 100 ≤ c) (e9 : S 8 = nI n) (n9 : n ≤ 8) (h1 : ¬ (0 ≤ x ∧ x ≤ S 8 - 1)) : Ct D B yX1_part (ws_ yX1_part cX1_part 4 (some .int)) (zrc 8 1 6) [.ref o, .int x, .int y] G (zpF) (zpxE zIOB G) := by
  refine ct_intro (by decide +kernel) (Nat.le_of_ble_eq_true rfl) ?_
  intro X C
  refine z_aload_n (i := 0) C dX1_part_0 rfl rfl ?_
  refine z_iload_n (i := 1) C dX1_part_1 rfl rfl ?_
  exact z_callV C (hO) rfl (ct_X1_microphone_x D B o v1 v2 v3 v4 v5 χ c a lv ls lm fo pa su va sa ua ma ra rq S x n hO hR g hc e9 n9 h1) q1375 q1377 qs19 q83 q1378 np_X1_microphone (zr_ok rfl rfl) rfl rfl (Nat.le_of_ble_eq_true rfl) (⟨Nat.le_of_ble_eq_true rfl, Nat.le_of_ble_eq_true rfl⟩) dX1_part_2 (fun E9 q9 G9 h9 => z_out C h9 (Nat.le_of_ble_eq_true rfl) (Nat.le_of_ble_eq_true rfl)) (fun v9 G9 h9 => h9.elim)
set_option maxHeartbeats 4000000 in
set_option maxRecDepth 100000 in
theorem ct_X1_part_y (D : zG) (B : Nat) {G : zH} (o : Nat) (v1 v2 v3 v4 v5 : Value) (χ : Nat → Nat) (c a lv ls lm fo pa su : Nat) (va sa ua ma ra : Nat → Nat) (rq : Nat) (S : Nat → Int32) (k n : Nat) (y : Int32) (hO : G o = some (.inr (0, [.ref a, v1, v2, v3, v4, v5]))) (hR : zTr G χ c a lv ls lm fo pa su va sa ua ma ra rq S) (g : zGe S) (hc : 100 ≤ c) (e9 : S 8 = nI n) (n9 : n ≤ 8) (hk : k < 100) (h1 : 0 ≤ nI k ∧ nI k ≤ S 8 - 1) (h : ¬ (0 ≤ y ∧ y ≤ 255)) : Ct D B yX1_part (ws_ yX1_part cX1_part 4 (some .int)) (zrc 8 1 6) [.ref o, .int (nI k), .int y] G (zpF) (zpxE zIAE G) := by
  refine ct_intro (by decide +kernel) (Nat.le_of_ble_eq_true rfl) ?_
  intro X C
  refine z_aload_n (i := 0) C dX1_part_0 rfl rfl ?_
  refine z_iload_n (i := 1) C dX1_part_1 rfl rfl ?_
  refine z_callVe C (hO) rfl (ct_X1_microphone_ok D B o v1 v2 v3 v4 v5 χ c a lv ls lm fo pa su va sa ua ma ra rq S k n hO hR g hc e9 n9 hk h1) q1375 q1377 qs19 q83 q1378 np_X1_microphone (zr_ok rfl rfl) rfl rfl (Nat.le_of_ble_eq_true rfl) (⟨Nat.le_of_ble_eq_true rfl, Nat.le_of_ble_eq_true rfl⟩) dX1_part_2 ?_
  refine z_astore_n (i := 3) C dX1_part_5 rfl (Nat.le_of_ble_eq_true rfl) rfl ?_
  refine z_iload_n (i := 2) C dX1_part_6 rfl rfl ?_
  exact z_callS C (ct_X1_checkTime_x D B y h) q1395 q1396 q83 q1397 np_X1_checkTime (zr_ok rfl rfl) rfl rfl (Nat.le_of_ble_eq_true rfl) (⟨Nat.le_of_ble_eq_true rfl, Nat.le_of_ble_eq_true rfl⟩) dX1_part_7 (fun E9 q9 G9 h9 => z_out C h9 (Nat.le_of_ble_eq_true rfl) (Nat.le_of_ble_eq_true rfl)) (fun v9 G9 h9 => h9.elim)
set_option maxHeartbeats 4000000 in
set_option maxRecDepth 100000 in
theorem ct_X1_distance_ok (D : zG) (B : Nat) {G : zH} (o : Nat) (v1 v2 v3 v4 v5 : Value) (χ : Nat → Nat) (c a lv ls lm fo pa su : Nat) (va sa ua ma ra : Nat → Nat) (rq : Nat) (S : Nat → Int32) (k i j n ns : Nat) (r : Int32) (hO : G o = some (.inr (0, [.ref a, v1, v2, v3, v4, v5]))) (hR : zTr G χ c a lv ls lm fo pa su va sa ua ma ra rq S) (g : zGe S) (hc : 100 ≤ c) (e9 : S 8 = nI n) (n9 : n ≤ 8) (hk : k < 100) (h1 : 0 ≤ nI k ∧ nI k ≤ S 8 - 1) (e7 : S 7 = nI ns) (n7 : ns ≤ 6) (hi : i < 100) (h3 : 0 ≤ nI i ∧ nI i ≤ S 7 - 1) (ht : 0 ≤ nI j ∧ nI j ≤ 255) (hj : j < 256) : Ct D B yX1_distance (ws_ yX1_distance cX1_distance 7 (some .int)) (zrc 8 1 3) [.ref o, .int (nI k), .int (nI i), .int (nI j), .int r] G (zpe (some (.int (if r = 0 then zdd S k (some (zsv S i)) (S (28 + 21 * i + 1)) (S (16 + 3 * zsv S i + 2)) (S (28 + 21 * i + 2)) j else zdd S k (some (zsv S i)) (S (28 + 21 * i + 1)) (S (16 + 3 * zsv S i + 2)) (-(S (28 + 21 * i + 2))) j))) G) zno := by
  refine ct_intro (by decide +kernel) (Nat.le_of_ble_eq_true rfl) ?_
  intro X C
  have hk9 : k < n := zkn h1 e9 (by omega) (by omega)
  have hX := hR.2.2.2.2.1
  rw [zct_of e9 (by omega)] at hX
  obtain ⟨m1, wm, m2, m3⟩ := hX.2 k hk9
  have hi9 : i < ns := zkn h3 e7 (by omega) (by omega)
  have hY := hR.2.2.2.1
  rw [zct_of e7 (by omega)] at hY
  obtain ⟨s1, ws, s2, s3⟩ := hY.2 i hi9
  obtain ⟨nv, nv4, ev⟩ := g.nv
  have hV := hR.2.2.1
  rw [zct_of ev (by omega)] at hV
  have vv := hV.2 (zsv S i) (zsv_nv g e7 hi9 (by omega) ev nv4)
  refine z_aload_n (i := 0) C dX1_distance_0 rfl rfl ?_
  refine z_iload_n (i := 1) C dX1_distance_1 rfl rfl ?_
  refine z_callVe C (hO) rfl (ct_X1_microphone_ok D B o v1 v2 v3 v4 v5 χ c a lv ls lm fo pa su va sa ua ma ra rq S k n hO hR g hc e9 n9 hk h1) q1375 q1377 qs19 q83 q1378 np_X1_microphone (zr_ok rfl rfl) rfl rfl (Nat.le_of_ble_eq_true rfl) (⟨Nat.le_of_ble_eq_true rfl, Nat.le_of_ble_eq_true rfl⟩) dX1_distance_2 ?_
  refine z_astore C dX1_distance_5 (Nat.le_of_ble_eq_true rfl) rfl ?_
  refine z_aload_n (i := 0) C dX1_distance_7 rfl rfl ?_
  refine z_iload_n (i := 2) C dX1_distance_8 rfl rfl ?_
  refine z_callVe C (hO) rfl (ct_X1_source_ok D B o v1 v2 v3 v4 v5 χ c a lv ls lm fo pa su va sa ua ma ra rq S i ns hO hR g hc e7 n7 hi h3) q1347 q1349 qs18 q83 q1350 np_X1_source (zr_ok rfl rfl) rfl rfl (Nat.le_of_ble_eq_true rfl) (⟨Nat.le_of_ble_eq_true rfl, Nat.le_of_ble_eq_true rfl⟩) dX1_distance_9 ?_
  refine z_astore C dX1_distance_12 (Nat.le_of_ble_eq_true rfl) rfl ?_
  refine z_iload_n (i := 3) C dX1_distance_14 rfl rfl ?_
  refine z_callSe C (ct_X1_checkTime_ok D B (nI j) ht) q1395 q1396 q83 q1397 np_X1_checkTime (zr_ok rfl rfl) rfl rfl (Nat.le_of_ble_eq_true rfl) (⟨Nat.le_of_ble_eq_true rfl, Nat.le_of_ble_eq_true rfl⟩) dX1_distance_15 ?_
  refine z_aload C dX1_distance_18 rfl ?_
  refine z_aload_n (i := 0) C dX1_distance_20 rfl rfl ?_
  refine z_getf (ci := 0) (k := 0) C (hO) rfl rfl q570 dX1_distance_21 ?_
  refine z_aload C dX1_distance_24 rfl ?_
  refine z_callVNn C (hR.1.1) rfl (ct_X2_placeOf D B a (sa i) (ua i) (va (zsv S i)) _ _ _ _ s1.1) q1407 q656 qs2 q84 q657 np_X2_placeOf (zr_ok rfl rfl) rfl rfl (Nat.le_of_ble_eq_true rfl) (⟨Nat.le_of_ble_eq_true rfl, Nat.le_of_ble_eq_true rfl⟩) dX1_distance_26 ?_
  intro v9 G9 h9
  obtain ⟨q9, rfl, hq9, rfl⟩ := h9
  have hpl : zPl (zup G q9 (.inr (7, [.ref (va (zsv S i)), .int (S (28 + 21 * i + 1)), .int (S (28 + 21 * i + 2))]))) q9 S (some (zsv S i)) (S (28 + 21 * i + 1)) (S (16 + 3 * zsv S i + 2)) (S (28 + 21 * i + 2)) := Or.inr ⟨zsv S i, va (zsv S i), rfl, zup_s, (zup_n (zne_of hq9 vv.1)).trans vv.1, rfl⟩
  have m1q := (zup_n (e := .inr (7, [.ref (va (zsv S i)), .int (S (28 + 21 * i + 1)), .int (S (28 + 21 * i + 2))])) (zne_of hq9 m1.1)).trans m1.1
  have t1q := (zup_n (e := .inr (7, [.ref (va (zsv S i)), .int (S (28 + 21 * i + 1)), .int (S (28 + 21 * i + 2))])) (zne_of hq9 hR.1.1)).trans hR.1.1
  have hok9 : ∀ j9, j9 < 256 → zdrok S k (some (zsv S i)) (S (28 + 21 * i + 1)) (S (16 + 3 * zsv S i + 2)) (S (28 + 21 * i + 2)) r (nI j9) := fun j9 hj9 => by
    obtain ⟨o1, o2⟩ := zsd_ok g (m := k) (s := i) (by omega) (by omega) hj9
    unfold zddok at o1 o2
    unfold zdrok
    by_cases h0 : r = 0
    · rw [if_pos h0]; exact o1
    · rw [if_neg h0]; exact o2
  refine z_iload_n (i := 3) C dX1_distance_29 rfl rfl ?_
  refine z_iload C dX1_distance_30 rfl ?_
  refine z_callVe C (m1q) rfl (ct_X7_distance D B (ma k) k (ra k) S (nI j) r q9 (some (zsv S i)) (S (28 + 21 * i + 1)) (S (16 + 3 * zsv S i + 2)) (S (28 + 21 * i + 2)) m1q hpl (hok9 j hj)) q1408 q683 q684 q113 q685 np_X7_distance (zr_ok rfl rfl) rfl rfl (Nat.le_of_ble_eq_true rfl) (⟨Nat.le_of_ble_eq_true rfl, Nat.le_of_ble_eq_true rfl⟩) dX1_distance_32 ?_
  refine z_sub1 hq9 ?_
  exact z_ireturn C rfl (rfl) dX1_distance_35 (⟨zvs (zdr_ite S k _ _ _ _ r j), rfl⟩) (Nat.le_of_ble_eq_true rfl) (Nat.le_of_ble_eq_true rfl)
set_option maxHeartbeats 4000000 in
set_option maxRecDepth 100000 in
theorem ct_X1_emissionTime_ok (D : zG) (B : Nat) {G : zH} (o : Nat) (v1 v2 v3 v4 v5 : Value) (χ : Nat → Nat) (c a lv ls lm fo pa su : Nat) (va sa ua ma ra : Nat → Nat) (rq : Nat) (S : Nat → Int32) (k i j n ns : Nat) (r : Int32) (hO : G o = some (.inr (0, [.ref a, v1, v2, v3, v4, v5]))) (hR : zTr G χ c a lv ls lm fo pa su va sa ua ma ra rq S) (g : zGe S) (hc : 100 ≤ c) (e9 : S 8 = nI n) (n9 : n ≤ 8) (hk : k < 100) (h1 : 0 ≤ nI k ∧ nI k ≤ S 8 - 1) (e7 : S 7 = nI ns) (n7 : ns ≤ 6) (hi : i < 100) (h3 : 0 ≤ nI i ∧ nI i ≤ S 7 - 1) (ht : 0 ≤ nI j ∧ nI j ≤ 255) (hj : j < 256) : Ct D B yX1_emissionTime (ws_ yX1_emissionTime cX1_emissionTime 7 (some .int)) (zrc 8 1 3) [.ref o, .int (nI k), .int (nI i), .int (nI j), .int r] G (zpe (some (.int (zlat (fun i9 => nI i9 * S 0 + (if r = 0 then zdd S k (some (zsv S i)) (S (28 + 21 * i + 1)) (S (16 + 3 * zsv S i + 2)) (S (28 + 21 * i + 2)) i9 else zdd S k (some (zsv S i)) (S (28 + 21 * i + 1)) (S (16 + 3 * zsv S i + 2)) (-(S (28 + 21 * i + 2))) i9)) (nI j * S 0) 256))) G) zno := by
  refine ct_intro (by decide +kernel) (Nat.le_of_ble_eq_true rfl) ?_
  intro X C
  have hk9 : k < n := zkn h1 e9 (by omega) (by omega)
  have hX := hR.2.2.2.2.1
  rw [zct_of e9 (by omega)] at hX
  obtain ⟨m1, wm, m2, m3⟩ := hX.2 k hk9
  have hi9 : i < ns := zkn h3 e7 (by omega) (by omega)
  have hY := hR.2.2.2.1
  rw [zct_of e7 (by omega)] at hY
  obtain ⟨s1, ws, s2, s3⟩ := hY.2 i hi9
  obtain ⟨nv, nv4, ev⟩ := g.nv
  have hV := hR.2.2.1
  rw [zct_of ev (by omega)] at hV
  have vv := hV.2 (zsv S i) (zsv_nv g e7 hi9 (by omega) ev nv4)
  refine z_aload_n (i := 0) C dX1_emissionTime_0 rfl rfl ?_
  refine z_iload_n (i := 1) C dX1_emissionTime_1 rfl rfl ?_
  refine z_callVe C (hO) rfl (ct_X1_microphone_ok D B o v1 v2 v3 v4 v5 χ c a lv ls lm fo pa su va sa ua ma ra rq S k n hO hR g hc e9 n9 hk h1) q1375 q1377 qs19 q83 q1378 np_X1_microphone (zr_ok rfl rfl) rfl rfl (Nat.le_of_ble_eq_true rfl) (⟨Nat.le_of_ble_eq_true rfl, Nat.le_of_ble_eq_true rfl⟩) dX1_emissionTime_2 ?_
  refine z_astore C dX1_emissionTime_5 (Nat.le_of_ble_eq_true rfl) rfl ?_
  refine z_aload_n (i := 0) C dX1_emissionTime_7 rfl rfl ?_
  refine z_iload_n (i := 2) C dX1_emissionTime_8 rfl rfl ?_
  refine z_callVe C (hO) rfl (ct_X1_source_ok D B o v1 v2 v3 v4 v5 χ c a lv ls lm fo pa su va sa ua ma ra rq S i ns hO hR g hc e7 n7 hi h3) q1347 q1349 qs18 q83 q1350 np_X1_source (zr_ok rfl rfl) rfl rfl (Nat.le_of_ble_eq_true rfl) (⟨Nat.le_of_ble_eq_true rfl, Nat.le_of_ble_eq_true rfl⟩) dX1_emissionTime_9 ?_
  refine z_astore C dX1_emissionTime_12 (Nat.le_of_ble_eq_true rfl) rfl ?_
  refine z_iload_n (i := 3) C dX1_emissionTime_14 rfl rfl ?_
  refine z_callSe C (ct_X1_checkTime_ok D B (nI j) ht) q1395 q1396 q83 q1397 np_X1_checkTime (zr_ok rfl rfl) rfl rfl (Nat.le_of_ble_eq_true rfl) (⟨Nat.le_of_ble_eq_true rfl, Nat.le_of_ble_eq_true rfl⟩) dX1_emissionTime_15 ?_
  refine z_aload_n (i := 0) C dX1_emissionTime_18 rfl rfl ?_
  refine z_getf (ci := 0) (k := 0) C (hO) rfl rfl q570 dX1_emissionTime_19 ?_
  refine z_aload C dX1_emissionTime_22 rfl ?_
  refine z_aload_n (i := 0) C dX1_emissionTime_24 rfl rfl ?_
  refine z_getf (ci := 0) (k := 0) C (hO) rfl rfl q570 dX1_emissionTime_25 ?_
  refine z_aload C dX1_emissionTime_28 rfl ?_
  refine z_callVNn C (hR.1.1) rfl (ct_X2_placeOf D B a (sa i) (ua i) (va (zsv S i)) _ _ _ _ s1.1) q1407 q656 qs2 q84 q657 np_X2_placeOf (zr_ok rfl rfl) rfl rfl (Nat.le_of_ble_eq_true rfl) (⟨Nat.le_of_ble_eq_true rfl, Nat.le_of_ble_eq_true rfl⟩) dX1_emissionTime_30 ?_
  intro v9 G9 h9
  obtain ⟨q9, rfl, hq9, rfl⟩ := h9
  have hpl : zPl (zup G q9 (.inr (7, [.ref (va (zsv S i)), .int (S (28 + 21 * i + 1)), .int (S (28 + 21 * i + 2))]))) q9 S (some (zsv S i)) (S (28 + 21 * i + 1)) (S (16 + 3 * zsv S i + 2)) (S (28 + 21 * i + 2)) := Or.inr ⟨zsv S i, va (zsv S i), rfl, zup_s, (zup_n (zne_of hq9 vv.1)).trans vv.1, rfl⟩
  have m1q := (zup_n (e := .inr (7, [.ref (va (zsv S i)), .int (S (28 + 21 * i + 1)), .int (S (28 + 21 * i + 2))])) (zne_of hq9 m1.1)).trans m1.1
  have t1q := (zup_n (e := .inr (7, [.ref (va (zsv S i)), .int (S (28 + 21 * i + 1)), .int (S (28 + 21 * i + 2))])) (zne_of hq9 hR.1.1)).trans hR.1.1
  have hok9 : ∀ j9, j9 < 256 → zdrok S k (some (zsv S i)) (S (28 + 21 * i + 1)) (S (16 + 3 * zsv S i + 2)) (S (28 + 21 * i + 2)) r (nI j9) := fun j9 hj9 => by
    obtain ⟨o1, o2⟩ := zsd_ok g (m := k) (s := i) (by omega) (by omega) hj9
    unfold zddok at o1 o2
    unfold zdrok
    by_cases h0 : r = 0
    · rw [if_pos h0]; exact o1
    · rw [if_neg h0]; exact o2
  have hfe : (fun i9 => nI i9 * S 0 + zdr S k (some (zsv S i)) (S (28 + 21 * i + 1)) (S (16 + 3 * zsv S i + 2)) (S (28 + 21 * i + 2)) r (nI i9)) = fun i9 => nI i9 * S 0 + (if r = 0 then zdd S k (some (zsv S i)) (S (28 + 21 * i + 1)) (S (16 + 3 * zsv S i + 2)) (S (28 + 21 * i + 2)) i9 else zdd S k (some (zsv S i)) (S (28 + 21 * i + 1)) (S (16 + 3 * zsv S i + 2)) (-(S (28 + 21 * i + 2))) i9) := funext fun i9 => by rw [zdr_ite]
  have hmo : zmono (fun i9 => nI i9 * S 0 + zdr S k (some (zsv S i)) (S (28 + 21 * i + 1)) (S (16 + 3 * zsv S i + 2)) (S (28 + 21 * i + 2)) r (nI i9)) := by
    rw [hfe]
    exact zsd_mono g (by omega) (by omega) r
  refine z_iload_n (i := 3) C dX1_emissionTime_33 rfl rfl ?_
  refine z_iload C dX1_emissionTime_34 rfl ?_
  refine z_iconst (v := (-1)) C dX1_emissionTime_36 (by decide) ?_
  refine z_callVe C (t1q) rfl (ct_X2_heard D B a lv ls lm fo pa su rq S (ma k) k (ra k) q9 (some (zsv S i)) (S (28 + 21 * i + 1)) (S (16 + 3 * zsv S i + 2)) (S (28 + 21 * i + 2)) (nI j) r 0 t1q m1q hpl hok9 hmo (by omega) (Or.inl rfl)) q1416 q675 q676 q84 q677 np_X2_heard (zr_ok rfl rfl) rfl rfl (Nat.le_of_ble_eq_true rfl) (⟨Nat.le_of_ble_eq_true rfl, Nat.le_of_ble_eq_true rfl⟩) dX1_emissionTime_37 ?_
  refine z_sub1 hq9 ?_
  exact z_ireturn C rfl (rfl) dX1_emissionTime_40 (⟨zvs (by rw [hfe, zlat_zlc]), rfl⟩) (Nat.le_of_ble_eq_true rfl) (Nat.le_of_ble_eq_true rfl)
set_option maxHeartbeats 4000000 in
set_option maxRecDepth 100000 in
theorem ct_X1_distance_x (D : zG) (B : Nat) {G : zH} (o : Nat) (v1 v2 v3 v4 v5 : Value) (χ : Nat → Nat) (c a lv ls lm fo pa su : Nat) (va sa ua ma ra : Nat → Nat) (rq : Nat) (S : Nat → Int32) (x y t r : Int32) (n : Nat) (hO : G o = some (.inr (0, [.ref a, v1, v2, v3, v4, v5]))) (hR : zTr G χ c a lv ls lm fo pa su va sa ua ma ra rq S) (g : zGe S) (hc : 100 ≤ c) (e9 : S 8 = nI n) (n9 : n ≤ 8) (h1 : ¬ (0 ≤ x ∧ x ≤ S 8 - 1)) : Ct D B yX1_distance (ws_ yX1_distance cX1_distance 7 (some .int)) (zrc 8 1 6) [.ref o, .int x, .int y, .int t, .int r] G (zpF) (zpxE zIOB G) := by
  refine ct_intro (by decide +kernel) (Nat.le_of_ble_eq_true rfl) ?_
  intro X C
  refine z_aload_n (i := 0) C dX1_distance_0 rfl rfl ?_
  refine z_iload_n (i := 1) C dX1_distance_1 rfl rfl ?_
  exact z_callV C (hO) rfl (ct_X1_microphone_x D B o v1 v2 v3 v4 v5 χ c a lv ls lm fo pa su va sa ua ma ra rq S x n hO hR g hc e9 n9 h1) q1375 q1377 qs19 q83 q1378 np_X1_microphone (zr_ok rfl rfl) rfl rfl (Nat.le_of_ble_eq_true rfl) (⟨Nat.le_of_ble_eq_true rfl, Nat.le_of_ble_eq_true rfl⟩) dX1_distance_2 (fun E9 q9 G9 h9 => z_out C h9 (Nat.le_of_ble_eq_true rfl) (Nat.le_of_ble_eq_true rfl)) (fun v9 G9 h9 => h9.elim)
set_option maxHeartbeats 4000000 in
set_option maxRecDepth 100000 in
theorem ct_X1_distance_y (D : zG) (B : Nat) {G : zH} (o : Nat) (v1 v2 v3 v4 v5 : Value) (χ : Nat → Nat) (c a lv ls lm fo pa su : Nat) (va sa ua ma ra : Nat → Nat) (rq : Nat) (S : Nat → Int32) (k n ns : Nat) (y t r : Int32) (hO : G o = some (.inr (0, [.ref a, v1, v2, v3, v4, v5]))) (hR : zTr G χ c a lv ls lm fo pa su va sa ua ma ra rq S) (g : zGe S) (hc : 100 ≤ c) (e9 : S 8 = nI n) (n9 : n ≤ 8) (hk : k < 100) (h1 : 0 ≤ nI k ∧ nI k ≤ S 8 - 1) (e7 : S 7 = nI ns) (n7 : ns ≤ 6) (h3 : ¬ (0 ≤ y ∧ y ≤ S 7 - 1)) : Ct D B yX1_distance (ws_ yX1_distance cX1_distance 7 (some .int)) (zrc 8 1 6) [.ref o, .int (nI k), .int y, .int t, .int r] G (zpF) (zpxE zIOB G) := by
  refine ct_intro (by decide +kernel) (Nat.le_of_ble_eq_true rfl) ?_
  intro X C
  refine z_aload_n (i := 0) C dX1_distance_0 rfl rfl ?_
  refine z_iload_n (i := 1) C dX1_distance_1 rfl rfl ?_
  refine z_callVe C (hO) rfl (ct_X1_microphone_ok D B o v1 v2 v3 v4 v5 χ c a lv ls lm fo pa su va sa ua ma ra rq S k n hO hR g hc e9 n9 hk h1) q1375 q1377 qs19 q83 q1378 np_X1_microphone (zr_ok rfl rfl) rfl rfl (Nat.le_of_ble_eq_true rfl) (⟨Nat.le_of_ble_eq_true rfl, Nat.le_of_ble_eq_true rfl⟩) dX1_distance_2 ?_
  refine z_astore C dX1_distance_5 (Nat.le_of_ble_eq_true rfl) rfl ?_
  refine z_aload_n (i := 0) C dX1_distance_7 rfl rfl ?_
  refine z_iload_n (i := 2) C dX1_distance_8 rfl rfl ?_
  exact z_callV C (hO) rfl (ct_X1_source_x D B o v1 v2 v3 v4 v5 χ c a lv ls lm fo pa su va sa ua ma ra rq S y ns hO hR g hc e7 n7 h3) q1347 q1349 qs18 q83 q1350 np_X1_source (zr_ok rfl rfl) rfl rfl (Nat.le_of_ble_eq_true rfl) (⟨Nat.le_of_ble_eq_true rfl, Nat.le_of_ble_eq_true rfl⟩) dX1_distance_9 (fun E9 q9 G9 h9 => z_out C h9 (Nat.le_of_ble_eq_true rfl) (Nat.le_of_ble_eq_true rfl)) (fun v9 G9 h9 => h9.elim)
set_option maxHeartbeats 4000000 in
set_option maxRecDepth 100000 in
theorem ct_X1_distance_z (D : zG) (B : Nat) {G : zH} (o : Nat) (v1 v2 v3 v4 v5 : Value) (χ : Nat → Nat) (c a lv ls lm fo pa su : Nat) (va sa ua ma ra : Nat → Nat) (rq : Nat) (S : Nat → Int32) (k i n ns : Nat) (t r : Int32) (hO : G o = some (.inr (0, [.ref a, v1, v2, v3, v4, v5]))) (hR : zTr G χ c a lv ls lm fo pa su va sa ua ma ra rq S) (g : zGe S) (hc : 100 ≤ c) (e9 : S 8 = nI n) (n9 : n ≤ 8) (hk : k < 100) (h1 : 0 ≤ nI k ∧ nI k ≤ S 8 - 1) (e7 : S 7 = nI ns) (n7 : ns ≤ 6) (hi : i < 100) (h3 : 0 ≤ nI i ∧ nI i ≤ S 7 - 1) (h : ¬ (0 ≤ t ∧ t ≤ 255)) : Ct D B yX1_distance (ws_ yX1_distance cX1_distance 7 (some .int)) (zrc 8 1 6) [.ref o, .int (nI k), .int (nI i), .int t, .int r] G (zpF) (zpxE zIAE G) := by
  refine ct_intro (by decide +kernel) (Nat.le_of_ble_eq_true rfl) ?_
  intro X C
  refine z_aload_n (i := 0) C dX1_distance_0 rfl rfl ?_
  refine z_iload_n (i := 1) C dX1_distance_1 rfl rfl ?_
  refine z_callVe C (hO) rfl (ct_X1_microphone_ok D B o v1 v2 v3 v4 v5 χ c a lv ls lm fo pa su va sa ua ma ra rq S k n hO hR g hc e9 n9 hk h1) q1375 q1377 qs19 q83 q1378 np_X1_microphone (zr_ok rfl rfl) rfl rfl (Nat.le_of_ble_eq_true rfl) (⟨Nat.le_of_ble_eq_true rfl, Nat.le_of_ble_eq_true rfl⟩) dX1_distance_2 ?_
  refine z_astore C dX1_distance_5 (Nat.le_of_ble_eq_true rfl) rfl ?_
  refine z_aload_n (i := 0) C dX1_distance_7 rfl rfl ?_
  refine z_iload_n (i := 2) C dX1_distance_8 rfl rfl ?_
  refine z_callVe C (hO) rfl (ct_X1_source_ok D B o v1 v2 v3 v4 v5 χ c a lv ls lm fo pa su va sa ua ma ra rq S i ns hO hR g hc e7 n7 hi h3) q1347 q1349 qs18 q83 q1350 np_X1_source (zr_ok rfl rfl) rfl rfl (Nat.le_of_ble_eq_true rfl) (⟨Nat.le_of_ble_eq_true rfl, Nat.le_of_ble_eq_true rfl⟩) dX1_distance_9 ?_
  refine z_astore C dX1_distance_12 (Nat.le_of_ble_eq_true rfl) rfl ?_
  refine z_iload_n (i := 3) C dX1_distance_14 rfl rfl ?_
  exact z_callS C (ct_X1_checkTime_x D B t h) q1395 q1396 q83 q1397 np_X1_checkTime (zr_ok rfl rfl) rfl rfl (Nat.le_of_ble_eq_true rfl) (⟨Nat.le_of_ble_eq_true rfl, Nat.le_of_ble_eq_true rfl⟩) dX1_distance_15 (fun E9 q9 G9 h9 => z_out C h9 (Nat.le_of_ble_eq_true rfl) (Nat.le_of_ble_eq_true rfl)) (fun v9 G9 h9 => h9.elim)
set_option maxHeartbeats 4000000 in
set_option maxRecDepth 100000 in
theorem ct_X1_emissionTime_x (D : zG) (B : Nat) {G : zH} (o : Nat) (v1 v2 v3 v4 v5 : Value) (χ : Nat → Nat) (c a lv ls lm fo pa su : Nat) (va sa ua ma ra : Nat → Nat) (rq : Nat) (S : Nat → Int32) (x y t r : Int32) (n : Nat) (hO : G o = some (.inr (0, [.ref a, v1, v2, v3, v4, v5]))) (hR : zTr G χ c a lv ls lm fo pa su va sa ua ma ra rq S) (g : zGe S) (hc : 100 ≤ c) (e9 : S 8 = nI n) (n9 : n ≤ 8) (h1 : ¬ (0 ≤ x ∧ x ≤ S 8 - 1)) : Ct D B yX1_emissionTime (ws_ yX1_emissionTime cX1_emissionTime 7 (some .int)) (zrc 8 1 6) [.ref o, .int x, .int y, .int t, .int r] G (zpF) (zpxE zIOB G) := by
  refine ct_intro (by decide +kernel) (Nat.le_of_ble_eq_true rfl) ?_
  intro X C
  refine z_aload_n (i := 0) C dX1_emissionTime_0 rfl rfl ?_
  refine z_iload_n (i := 1) C dX1_emissionTime_1 rfl rfl ?_
  exact z_callV C (hO) rfl (ct_X1_microphone_x D B o v1 v2 v3 v4 v5 χ c a lv ls lm fo pa su va sa ua ma ra rq S x n hO hR g hc e9 n9 h1) q1375 q1377 qs19 q83 q1378 np_X1_microphone (zr_ok rfl rfl) rfl rfl (Nat.le_of_ble_eq_true rfl) (⟨Nat.le_of_ble_eq_true rfl, Nat.le_of_ble_eq_true rfl⟩) dX1_emissionTime_2 (fun E9 q9 G9 h9 => z_out C h9 (Nat.le_of_ble_eq_true rfl) (Nat.le_of_ble_eq_true rfl)) (fun v9 G9 h9 => h9.elim)
set_option maxHeartbeats 4000000 in
set_option maxRecDepth 100000 in
theorem ct_X1_emissionTime_y (D : zG) (B : Nat) {G : zH} (o : Nat) (v1 v2 v3 v4 v5 : Value) (χ : Nat → Nat) (c a lv ls lm fo pa su : Nat) (va sa ua ma ra : Nat → Nat) (rq : Nat) (S : Nat → Int32) (k n ns : Nat) (y t r : Int32) (hO : G o = some (.inr (0, [.ref a, v1, v2, v3, v4, v5]))) (hR : zTr G χ c a lv ls lm fo pa su va sa ua ma ra rq S) (g : zGe S) (hc : 100 ≤ c) (e9 : S 8 = nI n) (n9 : n ≤ 8) (hk : k < 100) (h1 : 0 ≤ nI k ∧ nI k ≤ S 8 - 1) (e7 : S 7 = nI ns) (n7 : ns ≤ 6) (h3 : ¬ (0 ≤ y ∧ y ≤ S 7 - 1)) : Ct D B yX1_emissionTime (ws_ yX1_emissionTime cX1_emissionTime 7 (some .int)) (zrc 8 1 6) [.ref o, .int (nI k), .int y, .int t, .int r] G (zpF) (zpxE zIOB G) := by
  refine ct_intro (by decide +kernel) (Nat.le_of_ble_eq_true rfl) ?_
  intro X C
  refine z_aload_n (i := 0) C dX1_emissionTime_0 rfl rfl ?_
  refine z_iload_n (i := 1) C dX1_emissionTime_1 rfl rfl ?_
  refine z_callVe C (hO) rfl (ct_X1_microphone_ok D B o v1 v2 v3 v4 v5 χ c a lv ls lm fo pa su va sa ua ma ra rq S k n hO hR g hc e9 n9 hk h1) q1375 q1377 qs19 q83 q1378 np_X1_microphone (zr_ok rfl rfl) rfl rfl (Nat.le_of_ble_eq_true rfl) (⟨Nat.le_of_ble_eq_true rfl, Nat.le_of_ble_eq_true rfl⟩) dX1_emissionTime_2 ?_
  refine z_astore C dX1_emissionTime_5 (Nat.le_of_ble_eq_true rfl) rfl ?_
  refine z_aload_n (i := 0) C dX1_emissionTime_7 rfl rfl ?_
  refine z_iload_n (i := 2) C dX1_emissionTime_8 rfl rfl ?_
  exact z_callV C (hO) rfl (ct_X1_source_x D B o v1 v2 v3 v4 v5 χ c a lv ls lm fo pa su va sa ua ma ra rq S y ns hO hR g hc e7 n7 h3) q1347 q1349 qs18 q83 q1350 np_X1_source (zr_ok rfl rfl) rfl rfl (Nat.le_of_ble_eq_true rfl) (⟨Nat.le_of_ble_eq_true rfl, Nat.le_of_ble_eq_true rfl⟩) dX1_emissionTime_9 (fun E9 q9 G9 h9 => z_out C h9 (Nat.le_of_ble_eq_true rfl) (Nat.le_of_ble_eq_true rfl)) (fun v9 G9 h9 => h9.elim)
set_option maxHeartbeats 4000000 in
set_option maxRecDepth 100000 in
theorem ct_X1_emissionTime_z (D : zG) (B : Nat) {G : zH} (o : Nat) (v1 v2 v3 v4 v5 : Value) (χ : Nat → Nat) (c a lv ls lm fo pa su : Nat) (va sa ua ma ra : Nat → Nat) (rq : Nat) (S : Nat → Int32) (k i n ns : Nat) (t r : Int32) (hO : G o = some (.inr (0, [.ref a, v1, v2, v3, v4, v5]))) (hR : zTr G χ c a lv ls lm fo pa su va sa ua ma ra rq S) (g : zGe S) (hc : 100 ≤ c) (e9 : S 8 = nI n) (n9 : n ≤ 8) (hk : k < 100) (h1 : 0 ≤ nI k ∧ nI k ≤ S 8 - 1) (e7 : S 7 = nI ns) (n7 : ns ≤ 6) (hi : i < 100) (h3 : 0 ≤ nI i ∧ nI i ≤ S 7 - 1) (h : ¬ (0 ≤ t ∧ t ≤ 255)) : Ct D B yX1_emissionTime (ws_ yX1_emissionTime cX1_emissionTime 7 (some .int)) (zrc 8 1 6) [.ref o, .int (nI k), .int (nI i), .int t, .int r] G (zpF) (zpxE zIAE G) := by
  refine ct_intro (by decide +kernel) (Nat.le_of_ble_eq_true rfl) ?_
  intro X C
  refine z_aload_n (i := 0) C dX1_emissionTime_0 rfl rfl ?_
  refine z_iload_n (i := 1) C dX1_emissionTime_1 rfl rfl ?_
  refine z_callVe C (hO) rfl (ct_X1_microphone_ok D B o v1 v2 v3 v4 v5 χ c a lv ls lm fo pa su va sa ua ma ra rq S k n hO hR g hc e9 n9 hk h1) q1375 q1377 qs19 q83 q1378 np_X1_microphone (zr_ok rfl rfl) rfl rfl (Nat.le_of_ble_eq_true rfl) (⟨Nat.le_of_ble_eq_true rfl, Nat.le_of_ble_eq_true rfl⟩) dX1_emissionTime_2 ?_
  refine z_astore C dX1_emissionTime_5 (Nat.le_of_ble_eq_true rfl) rfl ?_
  refine z_aload_n (i := 0) C dX1_emissionTime_7 rfl rfl ?_
  refine z_iload_n (i := 2) C dX1_emissionTime_8 rfl rfl ?_
  refine z_callVe C (hO) rfl (ct_X1_source_ok D B o v1 v2 v3 v4 v5 χ c a lv ls lm fo pa su va sa ua ma ra rq S i ns hO hR g hc e7 n7 hi h3) q1347 q1349 qs18 q83 q1350 np_X1_source (zr_ok rfl rfl) rfl rfl (Nat.le_of_ble_eq_true rfl) (⟨Nat.le_of_ble_eq_true rfl, Nat.le_of_ble_eq_true rfl⟩) dX1_emissionTime_9 ?_
  refine z_astore C dX1_emissionTime_12 (Nat.le_of_ble_eq_true rfl) rfl ?_
  refine z_iload_n (i := 3) C dX1_emissionTime_14 rfl rfl ?_
  exact z_callS C (ct_X1_checkTime_x D B t h) q1395 q1396 q83 q1397 np_X1_checkTime (zr_ok rfl rfl) rfl rfl (Nat.le_of_ble_eq_true rfl) (⟨Nat.le_of_ble_eq_true rfl, Nat.le_of_ble_eq_true rfl⟩) dX1_emissionTime_15 (fun E9 q9 G9 h9 => z_out C h9 (Nat.le_of_ble_eq_true rfl) (Nat.le_of_ble_eq_true rfl)) (fun v9 G9 h9 => h9.elim)
