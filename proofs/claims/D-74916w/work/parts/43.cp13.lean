/-! component: the measures' numbers, levels, focuses beside, beams -/
set_option maxHeartbeats 4000000 in
set_option maxRecDepth 100000 in
theorem ct_X9_values (D : zG) (B : Nat) {G : zH}   : Ct D B yX9_values (ws_ yX9_values cX9_values 0 (some (.array (.object "TrackArray$Measure")))) (zrc 1 1 5) [] G (fun r9 G9 => ∃ q : Nat, r9 = some (.ref q) ∧ G q = none ∧ G9 = zup G q (zmeE D)) zno := by
  refine ct_intro (by decide +kernel) (Nat.le_of_ble_eq_true rfl) ?_
  intro X C
  refine z_getsR (k := 50) C (by decide) q1453 dX9_values_0 ?_
  refine z_cloneM C q1455 q1456 q269 q270 q1457 q1458 (Nat.le_of_ble_eq_true rfl) (Nat.le_of_ble_eq_true rfl) (Nat.le_of_ble_eq_true rfl) (Nat.le_of_ble_eq_true rfl) dX9_values_3 ?_
  intro q hq hb
  refine z_castM C (zup_s (h := G)) q1460 dX9_values_6 ?_
  exact z_areturn C rfl (Or.inr ⟨_, rfl⟩) (Or.inr ⟨_, rfl⟩) dX9_values_9 (⟨q, rfl, hq, rfl⟩) (Nat.le_of_ble_eq_true rfl) (Nat.le_of_ble_eq_true rfl)
theorem np_X9_values : znp yX9_values 0 := ⟨by decide +kernel, by decide +kernel, by decide +kernel⟩
set_option maxHeartbeats 4000000 in
set_option maxRecDepth 100000 in
theorem ct_X9_numbered (D : zG) (B : Nat) {G : zH} (k : Nat) (hk : k < 5) : Ct D B yX9_numbered (ws_ yX9_numbered cX9_numbered 1 (some (.object "TrackArray$Measure"))) (zrc 2 1 5) [.int (nI k)] G (zpe (some (.ref (D.2.2.2 (40 + k)))) G) zno := by
  refine ct_intro (by decide +kernel) (Nat.le_of_ble_eq_true rfl) ?_
  intro X C
  refine z_callSn C (ct_X9_values D B) q1450 q1451 q117 q1452 np_X9_values (zr_ok rfl rfl) rfl rfl (Nat.le_of_ble_eq_true rfl) (⟨Nat.le_of_ble_eq_true rfl, Nat.le_of_ble_eq_true rfl⟩) dX9_numbered_0 ?_
  intro v9 G9 h9
  obtain ⟨q, rfl, hq, rfl⟩ := h9
  refine z_iload_n (i := 0) C dX9_numbered_3 rfl rfl ?_
  refine zj_aald C zup_s rfl (zixI rfl hk) (by decide) dX9_numbered_4 ?_
  refine z_eq (st' := [.ref (D.2.2.2 (40 + k))]) rfl rfl ?_
  refine z_sub1 hq ?_
  exact z_areturn C rfl (Or.inl ⟨_, rfl⟩) (Or.inr ⟨_, rfl⟩) dX9_numbered_5 (⟨rfl, rfl⟩) (Nat.le_of_ble_eq_true rfl) (Nat.le_of_ble_eq_true rfl)
set_option maxHeartbeats 4000000 in
set_option maxRecDepth 100000 in
theorem ct_X9_isNumber (D : zG) (B : Nat) {G : zH} (x : Int32)  : Ct D B yX9_isNumber (ws_ yX9_isNumber cX9_isNumber 1 (some .boolean)) (zrc 2 1 5) [.int x] G (zpe (some (.int (zb (0 ≤ x ∧ x ≤ 4)))) G) zno := by
  refine ct_intro (by decide +kernel) (Nat.le_of_ble_eq_true rfl) ?_
  intro X C
  refine z_iload_n (i := 0) C dX9_isNumber_0 rfl rfl ?_
  refine z_i2l C dX9_isNumber_1 rfl ?_
  refine z_lconst (v := 0) C dX9_isNumber_2 (by decide) ?_
  refine z_callSn C (ct_X9_values D B) q1450 q1451 q117 q1452 np_X9_values (zr_ok rfl rfl) rfl rfl (Nat.le_of_ble_eq_true rfl) (⟨Nat.le_of_ble_eq_true rfl, Nat.le_of_ble_eq_true rfl⟩) dX9_isNumber_3 ?_
  intro v9 G9 h9
  obtain ⟨q, rfl, hq, rfl⟩ := h9
  refine z_alen C (zup_s) rfl rfl dX9_isNumber_6 ?_
  refine z_sub1 hq ?_
  refine z_iconst (v := 1) C dX9_isNumber_7 (by decide) ?_
  refine z_isub C dX9_isNumber_8 ?_
  refine z_i2l C dX9_isNumber_9 rfl ?_
  refine z_setl (y := 4) (show (Int32.ofNat 5 - 1).toInt64 = 4 by decide) ?_
  refine z_callSNe C (ct_X1_isBetween D B x 0 4 0 4 (by decide) (by decide)) q1461 q789 q83 q790 np_X1_isBetween (zr_ok rfl rfl) rfl rfl (Nat.le_of_ble_eq_true rfl) (⟨Nat.le_of_ble_eq_true rfl, Nat.le_of_ble_eq_true rfl⟩) dX9_isNumber_10 ?_
  exact z_ireturn C rfl (zb_nar _) dX9_isNumber_13 (⟨rfl, rfl⟩) (Nat.le_of_ble_eq_true rfl) (Nat.le_of_ble_eq_true rfl)
theorem np_J23_numberOfLeadingZeros : znp yJ23_numberOfLeadingZeros 1 := ⟨by decide +kernel, by decide +kernel, by decide +kernel⟩
set_option maxHeartbeats 4000000 in
set_option maxRecDepth 100000 in
theorem cb_X10_of (D : zG) (B : Nat) {G : zH} (f : Nat → Int32) (v b a l N ne : Nat) (hs : zSg D B G b N f) (ha : a ≤ l + 1) (hl : l < N) (hN : N ≤ 256) (hE : zen f a l = lN ne) (hne : ne < 2 ^ 63) : CtB D B yX10_of cX10_of 4 (some .long) (zr 3) [.ref v, .ref b, .int (nI a), .int (nI l)] G (zpe (some (.long ((nI (zdg ne)).toInt64))) G) := by
  intro X C
  refine z_bipush (v := 64) C dX10_of_0 (by decide) ?_
  refine z_getsG (k := 40) (cls := "TrackArray$Measure") C (by decide) q1499 q1498 dX10_of_2 ?_
  refine z_aload_n (i := 1) C dX10_of_5 rfl rfl ?_
  refine z_iload_n (i := 2) C dX10_of_6 rfl rfl ?_
  refine z_iload_n (i := 3) C dX10_of_7 rfl rfl ?_
  refine z_callOB (x := ⟨"TrackArray$Measure", "of", "(LTrackArray$Signal;II)J"⟩) (owner := "TrackArray$Measure") (np := 3) (i := 0) C (by decide) (cb_X17_of D B f _ b a l N hs ha hl hN) q1501 q1476 q1475 q1477 q1478 q1479 ⟨by decide +kernel, by decide +kernel, by decide +kernel⟩ (Nat.le_of_ble_eq_true rfl) (by decide +kernel) (zr_ok rfl rfl) rfl rfl (Nat.le_of_ble_eq_true rfl) (⟨Nat.le_of_ble_eq_true rfl, Nat.le_of_ble_eq_true rfl⟩) dX10_of_8 ?_
  intro v9 G9 h9
  obtain ⟨rfl, rfl⟩ := h9
  refine z_setl hE ?_
  refine z_callSe C (ct_J23_numberOfLeadingZeros D B ne hne) q1513 q1514 q119 q1515 np_J23_numberOfLeadingZeros (zr_ok rfl rfl) rfl rfl (Nat.le_of_ble_eq_true rfl) (⟨Nat.le_of_ble_eq_true rfl, Nat.le_of_ble_eq_true rfl⟩) dX10_of_11 ?_
  refine z_isub C dX10_of_14 ?_
  refine z_seti (y := nI (zdg ne)) ((pk_sub (a := 64) (b := 64 - zdg ne) (by omega)).trans (congrArg nI (by have := zdg_lt (k := ne) (b := 63) hne; omega))) ?_
  refine z_i2l C dX10_of_15 rfl ?_
  exact z_lreturn C rfl dX10_of_16 (⟨rfl, rfl⟩) (Nat.le_of_ble_eq_true rfl) (Nat.le_of_ble_eq_true rfl)
set_option maxHeartbeats 4000000 in
set_option maxRecDepth 100000 in
theorem ct_X3_beside (D : zG) (B : Nat) {G : zH} (p : Nat) (x y z by_ : Int32) (hp : G p = some (.inr (2, [.int x, .int y, .int z]))) : Ct D B yX3_beside (ws_ yX3_beside cX3_beside 2 (some (.object "TrackArray$Focus"))) (zrc 3 1 3) [.ref p, .int by_] G (fun r9 G9 => ∃ q : Nat, r9 = some (.ref q) ∧ G q = none ∧ G9 = zup G q (.inr (2, [.int (x + by_), .int y, .int z]))) zno := by
  refine ct_intro (by decide +kernel) (Nat.le_of_ble_eq_true rfl) ?_
  intro X C
  refine z_new (ci := 2) C rfl q1731 q490 q105 (Nat.le_of_ble_eq_true rfl) (Nat.le_of_ble_eq_true rfl) dX3_beside_0 ?_
  intro q hq hb
  have n1 := zne_of hq hp
  refine z_dup C dX3_beside_3 rfl ?_
  refine z_aload_n (i := 0) C dX3_beside_4 rfl rfl ?_
  refine z_getf (ci := 2) (k := 0) C ((zup_n n1).trans hp) rfl rfl q498 dX3_beside_5 ?_
  refine z_iload_n (i := 1) C dX3_beside_8 rfl rfl ?_
  refine z_iadd C dX3_beside_9 ?_
  refine z_aload_n (i := 0) C dX3_beside_10 rfl rfl ?_
  refine z_getf (ci := 2) (k := 1) C ((zup_n n1).trans hp) rfl rfl q499 dX3_beside_11 ?_
  refine z_aload_n (i := 0) C dX3_beside_14 rfl rfl ?_
  refine z_getf (ci := 2) (k := 2) C ((zup_n n1).trans hp) rfl rfl q500 dX3_beside_15 ?_
  refine z_callIe C (ct_X3_init D B q (x + by_) y z zup_s) q1732 q492 q105 q493 rfl np_X3_init (zr_ok rfl rfl) rfl rfl (Nat.le_of_ble_eq_true rfl) (⟨Nat.le_of_ble_eq_true rfl, Nat.le_of_ble_eq_true rfl⟩) dX3_beside_18 ?_
  refine z_heap zup_zup ?_
  exact z_areturn C rfl (Or.inl ⟨_, rfl⟩) (Or.inr ⟨_, rfl⟩) dX3_beside_21 (⟨q, rfl, hq, rfl⟩) (Nat.le_of_ble_eq_true rfl) (Nat.le_of_ble_eq_true rfl)
set_option maxHeartbeats 4000000 in
set_option maxRecDepth 100000 in
theorem ct_X8_beside (D : zG) (B : Nat) {G : zH} (p w : Nat) (x z by_ : Int32) (hp : G p = some (.inr (7, [.ref w, .int x, .int z]))) : Ct D B yX8_beside (ws_ yX8_beside cX8_beside 2 (some (.object "TrackArray$Focus"))) (zrc 3 1 3) [.ref p, .int by_] G (fun r9 G9 => ∃ q : Nat, r9 = some (.ref q) ∧ G q = none ∧ G9 = zup G q (.inr (7, [.ref w, .int (x + by_), .int z]))) zno := by
  refine ct_intro (by decide +kernel) (Nat.le_of_ble_eq_true rfl) ?_
  intro X C
  refine z_new (ci := 7) C rfl q1739 q659 q114 (Nat.le_of_ble_eq_true rfl) (Nat.le_of_ble_eq_true rfl) dX8_beside_0 ?_
  intro q hq hb
  have n1 := zne_of hq hp
  refine z_dup C dX8_beside_3 rfl ?_
  refine z_aload_n (i := 0) C dX8_beside_4 rfl rfl ?_
  refine z_getf (ci := 7) (k := 0) C ((zup_n n1).trans hp) rfl rfl q664 dX8_beside_5 ?_
  refine z_aload_n (i := 0) C dX8_beside_8 rfl rfl ?_
  refine z_getf (ci := 7) (k := 1) C ((zup_n n1).trans hp) rfl rfl q665 dX8_beside_9 ?_
  refine z_iload_n (i := 1) C dX8_beside_12 rfl rfl ?_
  refine z_iadd C dX8_beside_13 ?_
  refine z_aload_n (i := 0) C dX8_beside_14 rfl rfl ?_
  refine z_getf (ci := 7) (k := 2) C ((zup_n n1).trans hp) rfl rfl q666 dX8_beside_15 ?_
  refine z_callIe C (ct_X8_init D B q w (x + by_) z zup_s) q1740 q661 q114 q662 rfl np_X8_init (zr_ok rfl rfl) rfl rfl (Nat.le_of_ble_eq_true rfl) (⟨Nat.le_of_ble_eq_true rfl, Nat.le_of_ble_eq_true rfl⟩) dX8_beside_18 ?_
  refine z_heap zup_zup ?_
  exact z_areturn C rfl (Or.inl ⟨_, rfl⟩) (Or.inr ⟨_, rfl⟩) dX8_beside_21 (⟨q, rfl, hq, rfl⟩) (Nat.le_of_ble_eq_true rfl) (Nat.le_of_ble_eq_true rfl)
theorem np_X11_init : znp yX11_init 1 := ⟨by decide +kernel, by decide +kernel, by decide +kernel⟩
set_option maxHeartbeats 4000000 in
set_option maxRecDepth 100000 in
theorem ct_X11_beside (D : zG) (B : Nat) {G : zH} (p : Nat) (x by_ : Int32) (hp : G p = some (.inr (8, [.int x]))) : Ct D B yX11_beside (ws_ yX11_beside cX11_beside 2 (some (.object "TrackArray$Focus"))) (zrc 3 1 1) [.ref p, .int by_] G (fun r9 G9 => ∃ q : Nat, r9 = some (.ref q) ∧ G q = none ∧ G9 = zup G q (.inr (8, [.int (x + by_)]))) zno := by
  refine ct_intro (by decide +kernel) (Nat.le_of_ble_eq_true rfl) ?_
  intro X C
  refine z_new (ci := 8) C rfl q1723 q1603 q120 (Nat.le_of_ble_eq_true rfl) (Nat.le_of_ble_eq_true rfl) dX11_beside_0 ?_
  intro q hq hb
  have n1 := zne_of hq hp
  refine z_dup C dX11_beside_3 rfl ?_
  refine z_aload_n (i := 0) C dX11_beside_4 rfl rfl ?_
  refine z_getf (ci := 8) (k := 0) C ((zup_n n1).trans hp) rfl rfl q1608 dX11_beside_5 ?_
  refine z_iload_n (i := 1) C dX11_beside_8 rfl rfl ?_
  refine z_iadd C dX11_beside_9 ?_
  refine z_callIe C (ct_X11_init D B q (x + by_) zup_s) q1724 q1605 q120 q1606 rfl np_X11_init (zr_ok rfl rfl) rfl rfl (Nat.le_of_ble_eq_true rfl) (⟨Nat.le_of_ble_eq_true rfl, Nat.le_of_ble_eq_true rfl⟩) dX11_beside_10 ?_
  refine z_heap zup_zup ?_
  exact z_areturn C rfl (Or.inl ⟨_, rfl⟩) (Or.inr ⟨_, rfl⟩) dX11_beside_13 (⟨q, rfl, hq, rfl⟩) (Nat.le_of_ble_eq_true rfl) (Nat.le_of_ble_eq_true rfl)
abbrev zrL (k c s : Nat) : Room := { frames := k, cells := c, slots := s, locals := 40 * k + 3100 }
theorem zSg_rec {D : zG} {B : Nat} {G : zH} {q m r : Nat} {x y z t : Int32} {w : Nat → Int32} (h0 : G q = some (.inr (101, [.ref m]))) (h1 : G m = some (.inr (6, [.int x, .int y, .int z, .int t, .ref r]))) (h2 : G r = some (.inl (0, 256, .inl w))) : zSg D B G q 256 w := by
  intro G' hG'
  subst hG'
  refine ⟨1, _, [.ref m], yX2_lambda_record_1, cX2_lambda_record_1, _, rfl, rfl, rfl, h0, rfl, by decide +kernel, fun x9 hx9 => ?_, q84, q1473, ?_, (show Option.map (fun d => d.parameters.length) (parseMethodDescriptor "(LTrackArray$Microphone;I)J") = some 2 by decide +kernel), by decide, by decide⟩
  · obtain ⟨n, hn, rfl⟩ := hx9
    dsimp only
    rw [nI_clamp (n := n) (by omega)]
    exact ct_X2_lambda_record_1 D B m r n x y z t w h1 h2 hn
  · unfold zmT
    rw [if_pos (Or.inl rfl)]
    exact q1472
theorem zSg_beam {D : zG} {B : Nat} {G : zH} {q a su N : Nat} {v0 v1 v2 v3 v4 v5 v6 v7 v8 v9 v10 v11 : Value} {w : Nat → Int64} {f : Nat → Int32} (h0 : G q = some (.inr (100, [.ref a]))) (h1 : G a = some (.inr (1, [v0, v1, v2, v3, v4, v5, v6, v7, v8, v9, v10, v11, .ref su]))) (h2 : G su = some (.inl (1, 256, .inr (.inl w)))) (hN : N ≤ 256) (hf : ∀ n, n < N → w n = (f n).toInt64) : zSg D B G q N f := by
  intro G' hG'
  subst hG'
  refine ⟨0, _, [.ref a], yX2_lambda_beam_0, cX2_lambda_beam_0, _, rfl, rfl, rfl, h0, rfl, by decide +kernel, fun x9 hx9 => ?_, q84, q1664, ?_, (show Option.map (fun d => d.parameters.length) (parseMethodDescriptor "(I)J") = some 1 by decide +kernel), by decide, by decide⟩
  · obtain ⟨n, hn, rfl⟩ := hx9
    dsimp only
    rw [nI_clamp (n := n) (by omega), ← hf n hn]
    exact ct_X2_lambda_beam_0 D B a su n v0 v1 v2 v3 v4 v5 v6 v7 v8 v9 v10 v11 w h1 h2 (by omega)
  · unfold zmT
    rw [if_neg (by decide)]
    exact ⟨q1663, qs22, a, 1, _, [], TX2, 13, rfl, h1, rfl⟩
set_option maxHeartbeats 4000000 in
set_option maxRecDepth 100000 in
theorem ct_X2_record (D : zG) (B : Nat) {G : zH} (a lm m : Nat) (ma : Nat → Nat) (nm : Nat) (v0 v1 v3 v4 v5 v6 v7 v8 v9 v10 v11 v12 : Value) (mc : Int32) (e cap : Nat) (g : Nat → Option Nat) (fs : List Value) (h1 : G a = some (.inr (1, [v0, v1, .ref lm, v3, v4, v5, v6, v7, v8, v9, v10, v11, v12]))) (hl : zli G lm nm ma mc e cap g) (hm : m < nm) (h2 : G (ma m) = some (.inr (6, fs))) : Ct D B yX2_record (ws_ yX2_record cX2_record 3 (some (.object "TrackArray$Signal"))) (zrL 3 1 1) [.ref a, .int (nI m)] G (fun r9 G9 => ∃ q : Nat, r9 = some (.ref q) ∧ G q = none ∧ G9 = zup G q (.inr (101, [.ref (ma m)]))) zno := by
  refine ct_introN (by decide +kernel) (Nat.le_of_ble_eq_true rfl) ?_
  intro X C hN
  refine z_aload_n (i := 0) C dX2_record_0 rfl rfl ?_
  refine z_getf (ci := 1) (k := 2) C (by first | assumption | exact (zup_n (by assumption)).trans (by assumption)) rfl rfl q514 dX2_record_1 ?_
  refine z_iload_n (i := 1) C dX2_record_4 rfl rfl ?_
  refine z_callVe C (hl.1) rfl (ct_J2_get D B lm nm ma mc e cap g m hl hm) q1138 q1139 q1140 q87 q1141 np_J2_get (zr_ok rfl rfl) rfl rfl (Nat.le_of_ble_eq_true rfl) (⟨Nat.le_of_ble_eq_true rfl, Nat.le_of_ble_eq_true rfl⟩) dX2_record_5 ?_
  refine z_castS (ci := 6) C (h2) rfl q648 dX2_record_8 ?_
  refine z_astore_n (i := 2) C dX2_record_11 rfl (Nat.le_of_ble_eq_true rfl) rfl ?_
  refine z_aload_n (i := 2) C dX2_record_12 rfl rfl ?_
  refine z_indy (i := 1) C rfl hN rfl q2475 (vals := [.ref (ma m)]) (rest := []) rfl ⟨⟨rfl, rfl⟩, trivial⟩ (Nat.le_of_ble_eq_true rfl) (Nat.le_of_ble_eq_true rfl) (Nat.le_of_ble_eq_true rfl) (Nat.le_of_ble_eq_true rfl) dX2_record_13 ?_
  intro q hq hb
  exact z_areturn C rfl (Or.inl ⟨_, rfl⟩) (Or.inr ⟨_, rfl⟩) dX2_record_18 (⟨q, rfl, hq, rfl⟩) (Nat.le_of_ble_eq_true rfl) (Nat.le_of_ble_eq_true rfl)
