/-! component: restoring -/
set_option maxHeartbeats 4000000 in
set_option maxRecDepth 100000 in
theorem ct_X1_restore_ok (D : zG) (B : Nat) {G : zH} (o a0 sv k c2 : Nat) (fs9 : Nat → Option Nat) (v2 v3 v4 v5 : Value) (χ : Nat → Nat) (c a lv ls lm fo pa su : Nat) (va sa ua ma ra : Nat → Nat) (rq : Nat) (S : Nat → Int32) (hO : zo G χ 10 o (.inr (0, [.ref a0, .ref sv, v2, v3, v4, v5]))) (hR : zTr G χ c a lv ls lm fo pa su va sa ua ma ra rq S) (g : zGe S) (hc : 100 ≤ c) (hk : k < 2) (h : 0 ≤ nI k ∧ nI k ≤ 1) (hsv : zo G χ 11 sv (.inl (6, 2, .inr (.inr (.inr (.inr fs9)))))) (hfs : fs9 k = some a) (hc2 : 100 ≤ c2) (hcc : c2 + 100 ≤ c ∨ c + 100 ≤ c2) (h2 : S 2 = 0 ∨ S 2 = 1) (h5 : S 5 = 0 ∨ S 5 = 1) : Ct D B yX1_restore (ws_ yX1_restore cX1_restore 2 none) (zrc 10 100 6000) [.ref o, .int (nI k)] G (fun r9 G9 => r9 = none ∧ ∃ (a2 : Nat) (χ9 : Nat → Nat) (lv2 ls2 lm2 fo2 pa2 su2 : Nat) (sa2 ua2 ma2 ra2 : Nat → Nat), zkee (fun y => zPc c2 y ∧ y ≠ 10) G χ G9 χ9 ∧ zTr G9 χ9 c2 a2 lv2 ls2 lm2 fo2 pa2 su2 va sa2 ua2 ma2 ra2 rq S ∧ zo G9 χ9 10 o (.inr (0, [.ref a2, .ref sv, v2, v3, v4, v5]))) zno := by
  refine ct_intro (by decide +kernel) (Nat.le_of_ble_eq_true rfl) ?_
  intro X C
  refine z_iload_n (i := 1) C dX1_restore_0 rfl rfl ?_
  refine z_i2l C dX1_restore_1 rfl ?_
  refine z_lconst (v := 0) C dX1_restore_2 (by decide) ?_
  refine z_lconst (v := 1) C dX1_restore_3 (by decide) ?_
  refine z_callSe C (ct_X1_isBetween D B (nI k) 0 1 0 1 (by decide) (by decide)) q1220 q789 q83 q790 np_X1_isBetween (zr_ok rfl rfl) rfl rfl (Nat.le_of_ble_eq_true rfl) (⟨Nat.le_of_ble_eq_true rfl, Nat.le_of_ble_eq_true rfl⟩) dX1_restore_4 ?_
  refine z_callSe C (ct_X1_checkArgument_ok D B _ (zb_ne.mpr h)) q1221 q1222 q83 q1223 np_X1_checkArgument (zr_ok rfl rfl) rfl rfl (Nat.le_of_ble_eq_true rfl) (⟨Nat.le_of_ble_eq_true rfl, Nat.le_of_ble_eq_true rfl⟩) dX1_restore_7 ?_
  refine z_aload_n (i := 0) C dX1_restore_10 rfl rfl ?_
  refine z_getf (ci := 0) (k := 1) C (hO.1) rfl rfl q571 dX1_restore_11 ?_
  refine z_iload_n (i := 1) C dX1_restore_14 rfl rfl ?_
  refine zj_aald C hsv.1 rfl (zixI rfl hk) (by decide) dX1_restore_15 ?_
  refine z_eq (st' := [.ref a]) (by rw [hfs]; rfl) rfl ?_
  refine z_ifnull C dX1_restore_16 ?_
  refine z_iconst (v := 1) C dX1_restore_19 (by decide) ?_
  refine z_goto (tgt := 24) C dX1_restore_20 (by decide) ?_
  refine z_callSe C (ct_X1_checkState_ok D B _ (by decide)) q1266 q1267 q83 q1268 np_X1_checkState (zr_ok rfl rfl) rfl rfl (Nat.le_of_ble_eq_true rfl) (⟨Nat.le_of_ble_eq_true rfl, Nat.le_of_ble_eq_true rfl⟩) dX1_restore_24 ?_
  refine z_aload_n (i := 0) C dX1_restore_27 rfl rfl ?_
  refine z_aload_n (i := 0) C dX1_restore_28 rfl rfl ?_
  refine z_getf (ci := 0) (k := 1) C (hO.1) rfl rfl q571 dX1_restore_29 ?_
  refine z_iload_n (i := 1) C dX1_restore_32 rfl rfl ?_
  refine zj_aald C hsv.1 rfl (zixI rfl hk) (by decide) dX1_restore_33 ?_
  refine z_eq (st' := [.ref a, .ref o]) (by rw [hfs]; rfl) rfl ?_
  refine z_callVn C (hR.1.1) rfl (ct_X2_copy D B χ c a lv ls lm fo pa su va sa ua ma ra rq S c2 hR g hc hc2 hcc h2 h5) q1808 q1809 q1810 q84 q1811 np_X2_copy (zr_ok rfl rfl) rfl rfl (Nat.le_of_ble_eq_true rfl) (⟨Nat.le_of_ble_eq_true rfl, Nat.le_of_ble_eq_true rfl⟩) dX1_restore_34 ?_
  intro v9 G9 h9
  obtain ⟨a2, rfl, χ9, lv2, ls2, lm2, fo2, pa2, su2, sa2, ua2, ma2, ra2, K9, t9⟩ := h9
  have o9 := hO.kp (show zPc c2 10 from ⟨by decide, by omega⟩) K9
  have q9 : zkee (fun y => y ≠ 10) G9 χ9 (zup G9 o (.inr (0, [.ref a2, .ref sv, v2, v3, v4, v5]))) χ9 := zkee.put o9.2 (fun h => h rfl)
  refine z_putf (ci := 0) (k := 0) C (o9.1) rfl (Nat.le_of_ble_eq_true rfl) (zfit_ob (C0 := "TrackArray$Track") (by decide +kernel) _) q570 dX1_restore_37 ?_
  exact z_return C rfl dX1_restore_40 (⟨rfl, a2, χ9, lv2, ls2, lm2, fo2, pa2, su2, sa2, ua2, ma2, ra2, (K9.mono (fun y hy => hy.1)).trans (q9.mono (fun y hy => hy.2)), t9.kp g (fun x hx => by show x ≠ 10; omega) q9, ⟨zup_s, o9.2⟩⟩) (Nat.le_of_ble_eq_true rfl) (Nat.le_of_ble_eq_true rfl)
