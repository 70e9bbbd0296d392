/-! component: the loudest, the best -/
/-- the first of the greatest, as the component seeks it -/
def zlmc (w : Nat → Int64) : Nat → Int32 × Int64
  | 0 => (-1, -1)
  | n + 1 => if (zlmc w n).2 < w n then (nI n, w n) else zlmc w n
set_option maxHeartbeats 4000000 in
set_option maxRecDepth 100000 in
theorem ct_X1_loudestMicrophone_ok (D : zG) (B : Nat) {G : zH} (o : Nat) (v1 v2 v3 v4 v5 : Value) (χ : Nat → Nat) (c a lv ls lm fo pa su : Nat) (va sa ua ma ra : Nat → Nat) (rq : Nat) (S : Nat → Int32) (f l n : Nat) (hO : G o = some (.inr (0, [.ref a, v1, v2, v3, v4, v5]))) (hR : zTr G χ c a lv ls lm fo pa su va sa ua ma ra rq S) (g : zGe S) (hc : 100 ≤ c) (e9 : S 8 = nI n) (n9 : n ≤ 8) (hw : (0 ≤ nI f ∧ nI f ≤ 255) ∧ nI f ≤ nI l ∧ nI l ≤ 255) (hf : f ≤ l) (hl : l < 256) : Ct D B yX1_loudestMicrophone (ws_ yX1_loudestMicrophone cX1_loudestMicrophone 9 (some .int)) (zrL 9 20 20) [.ref o, .int (nI f), .int (nI l)] G (zpe (some (.int (zlmc (fun m9 => zen (fun j => S (186 + 256 * m9 + j)) f l) n).1)) G) zno := by
  refine ct_intro (by decide +kernel) (Nat.le_of_ble_eq_true rfl) ?_
  intro X C
  have hX := hR.2.2.2.2.1
  rw [zct_of e9 (by omega)] at hX
  obtain ⟨⟨mc, e, cap, gg, l1, lc, ld⟩, lX⟩ := id hX
  refine z_iload_n (i := 1) C dX1_loudestMicrophone_0 rfl rfl ?_
  refine z_iload_n (i := 2) C dX1_loudestMicrophone_1 rfl rfl ?_
  refine z_callSe C (ct_X1_isWindow D B (nI f) (nI l)) q1462 q1463 q83 q1464 np_X1_isWindow (zr_ok rfl rfl) rfl rfl (Nat.le_of_ble_eq_true rfl) (⟨Nat.le_of_ble_eq_true rfl, Nat.le_of_ble_eq_true rfl⟩) dX1_loudestMicrophone_2 ?_
  refine z_callSe C (ct_X1_checkArgument_ok D B _ (zb_ne.mpr hw)) q1221 q1222 q83 q1223 np_X1_checkArgument (zr_ok rfl rfl) rfl rfl (Nat.le_of_ble_eq_true rfl) (⟨Nat.le_of_ble_eq_true rfl, Nat.le_of_ble_eq_true rfl⟩) dX1_loudestMicrophone_5 ?_
  refine z_iconst (v := (-1)) C dX1_loudestMicrophone_8 (by decide) ?_
  refine z_istore_n (i := 3) C dX1_loudestMicrophone_9 rfl (Nat.le_of_ble_eq_true rfl) rfl ?_
  refine z_ldc2 C q1529 dX1_loudestMicrophone_10 ?_
  refine z_lstore C dX1_loudestMicrophone_13 (Nat.le_of_ble_eq_true rfl) rfl ?_
  refine z_iconst (v := 0) C dX1_loudestMicrophone_15 (by decide) ?_
  refine z_istore C dX1_loudestMicrophone_16 (Nat.le_of_ble_eq_true rfl) rfl ?_
  have lp18 : ∀ (μ : Nat) (k : Nat) (k1 : k ≤ n), n - k < μ → Z X 18 [some (.ref o), some (.int (nI f)), some (.int (nI l)), some (.int (zlmc (fun m9 => zen (fun j => S (186 + 256 * m9 + j)) f l) k).1), some (.long (zlmc (fun m9 => zen (fun j => S (186 + 256 * m9 + j)) f l) k).2), none, some (.int (nI k)), none, none] [] G (2 * k) (2 * k) := by
    intro μ
    induction μ with
    | zero => intro k k1 hμ; exact absurd hμ (Nat.not_lt_zero _)
    | succ μ ih18 =>
      intro k k1 hμ
      refine z_iload C dX1_loudestMicrophone_18 rfl ?_
      refine z_aload_n (i := 0) C dX1_loudestMicrophone_20 rfl rfl ?_
      refine z_getf (ci := 0) (k := 0) C (hO) rfl rfl q570 dX1_loudestMicrophone_21 ?_
      refine z_getfN (ci := 1) (k := 2) C (hR.1.1) rfl rfl q516 dX1_loudestMicrophone_24 ?_
      refine z_callVe C (l1.1) rfl (ct_J2_size D B lm n _ _ l1.1) q1265 q931 q932 q87 q933 np_J2_size (zr_ok rfl rfl) rfl rfl (Nat.le_of_ble_eq_true rfl) (⟨by (try simp only [zrc, zrL, zr]); omega, by (try simp only [zrc, zrL, zr]); omega⟩) dX1_loudestMicrophone_27 ?_
      refine z_icmp_ge (tgt := 73) C dX1_loudestMicrophone_30 (by decide) (fun c_30 => ?_) (fun c_30 => ?_)
      · have hend : k = n := by have := zge c_30 (by omega) (by omega); omega
        subst hend
        refine z_iload_n (i := 3) C dX1_loudestMicrophone_73 rfl rfl ?_
        exact z_ireturn C rfl (rfl) dX1_loudestMicrophone_74 (⟨rfl, rfl⟩) (by (try simp only [zrc, zrL, zr]); omega) (by (try simp only [zrc, zrL, zr]); omega)
      · have hk9 : k < n := znge c_30 (by omega) (by omega)
        obtain ⟨m1, wm, m2, m3⟩ := lX k hk9
        refine z_getsR (k := 40) C (by decide) q1530 dX1_loudestMicrophone_33 ?_
        refine z_aload_n (i := 0) C dX1_loudestMicrophone_36 rfl rfl ?_
        refine z_getf (ci := 0) (k := 0) C (hO) rfl rfl q570 dX1_loudestMicrophone_37 ?_
        refine z_iload C dX1_loudestMicrophone_40 rfl ?_
        refine z_callVn C (hR.1.1) rfl (ct_X2_record D B a lm k ma n _ _ _ _ _ _ _ _ _ _ _ _ mc e cap gg _ hR.1.1 l1 hk9 m1.1) q1468 q1469 q1470 q84 q1471 np_X2_record (zr_ok rfl rfl) rfl rfl (Nat.le_of_ble_eq_true rfl) (⟨by (try simp only [zrc, zrL, zr]); omega, by (try simp only [zrc, zrL, zr]); omega⟩) dX1_loudestMicrophone_42 ?_
        intro v9 G9 h9
        obtain ⟨sg, rfl, hsg, rfl⟩ := h9
        have hs : zSg D B (zup G sg (.inr (101, [.ref (ma k)]))) sg 256 (fun j => S (186 + 256 * k + j)) := (zSg_rec zup_s ((zup_n (zne_of hsg m1.1)).trans m1.1) ((zup_n (zne_of hsg m2.1)).trans m2.1)).congr (Nat.le_refl _) m3
        refine z_iload_n (i := 1) C dX1_loudestMicrophone_45 rfl rfl ?_
        refine z_iload_n (i := 2) C dX1_loudestMicrophone_46 rfl rfl ?_
        refine z_callOB (x := ⟨"TrackArray$Measure", "of", "(LTrackArray$Signal;II)J"⟩) (owner := "TrackArray$Measure") (np := 3) (i := 0) C (by decide) (cb_X17_of D B (fun j => S (186 + 256 * k + j)) _ sg f l 256 hs (by omega) hl (by omega)) q1474 q1476 q1475 q1477 q1478 q1479 ⟨by decide +kernel, by decide +kernel, by decide +kernel⟩ (Nat.le_of_ble_eq_true rfl) (by decide +kernel) (zr_ok rfl rfl) rfl rfl (Nat.le_of_ble_eq_true rfl) (⟨by (try simp only [zrc, zrL, zr]); omega, by (try simp only [zrc, zrL, zr]); omega⟩) dX1_loudestMicrophone_47 ?_
        intro v9 G9 h9
        obtain ⟨rfl, rfl⟩ := h9
        refine z_sub1 hsg ?_
        refine z_lstore C dX1_loudestMicrophone_50 (Nat.le_of_ble_eq_true rfl) rfl ?_
        refine z_lload C dX1_loudestMicrophone_52 rfl ?_
        refine z_lload C dX1_loudestMicrophone_54 rfl ?_
        refine z_lc_le (tgt := 67) C dX1_loudestMicrophone_56 dX1_loudestMicrophone_57 (by decide) (fun c_57 => ?_) (fun c_57 => ?_)
        · refine z_iinc (v := nI (k + 1)) C dX1_loudestMicrophone_67 rfl (ziinc k) (Nat.le_of_ble_eq_true rfl) rfl ?_
          refine z_goto (tgt := 18) C dX1_loudestMicrophone_70 (by decide) ?_
          exact z_convG (ih18 (k + 1) (by omega) (by omega)) (And.intro (rfl) (And.intro (rfl) (And.intro (rfl) (And.intro (by first | (simp only [zlmc]; rw [if_pos (Int64.not_le.mp c_57)]) | (simp only [zlmc]; rw [if_neg (Int64.not_lt.mpr c_57)])) (And.intro (by first | (simp only [zlmc]; rw [if_pos (Int64.not_le.mp c_57)]) | (simp only [zlmc]; rw [if_neg (Int64.not_lt.mpr c_57)])) (And.intro (rfl) trivial)))))) (by (try simp only [zrc, zrL, zr]); omega) (by (try simp only [zrc, zrL, zr]); omega)
        · refine z_iload C dX1_loudestMicrophone_60 rfl ?_
          refine z_istore_n (i := 3) C dX1_loudestMicrophone_62 rfl (Nat.le_of_ble_eq_true rfl) rfl ?_
          refine z_lload C dX1_loudestMicrophone_63 rfl ?_
          refine z_lstore C dX1_loudestMicrophone_65 (Nat.le_of_ble_eq_true rfl) rfl ?_
          refine z_iinc (v := nI (k + 1)) C dX1_loudestMicrophone_67 rfl (ziinc k) (Nat.le_of_ble_eq_true rfl) rfl ?_
          refine z_goto (tgt := 18) C dX1_loudestMicrophone_70 (by decide) ?_
          exact z_convG (ih18 (k + 1) (by omega) (by omega)) (And.intro (rfl) (And.intro (rfl) (And.intro (rfl) (And.intro (by first | (simp only [zlmc]; rw [if_pos (Int64.not_le.mp c_57)]) | (simp only [zlmc]; rw [if_neg (Int64.not_lt.mpr c_57)])) (And.intro (by first | (simp only [zlmc]; rw [if_pos (Int64.not_le.mp c_57)]) | (simp only [zlmc]; rw [if_neg (Int64.not_lt.mpr c_57)])) (And.intro (rfl) trivial)))))) (by (try simp only [zrc, zrL, zr]); omega) (by (try simp only [zrc, zrL, zr]); omega)
  exact z_convG (lp18 (n + 1) 0 (by omega) (by omega)) (And.intro (rfl) (And.intro (rfl) (And.intro (rfl) (And.intro (rfl) (And.intro (rfl) (And.intro (rfl) trivial)))))) (by (try simp only [zrc, zrL, zr]); omega) (by (try simp only [zrc, zrL, zr]); omega)
set_option maxHeartbeats 4000000 in
set_option maxRecDepth 100000 in
theorem ct_X1_loudestMicrophone_x (D : zG) (B : Nat) {G : zH} (o : Nat) (v1 v2 v3 v4 v5 : Value) (χ : Nat → Nat) (c a lv ls lm fo pa su : Nat) (va sa ua ma ra : Nat → Nat) (rq : Nat) (S : Nat → Int32) (f l : Int32) (h : ¬ ((0 ≤ f ∧ f ≤ 255) ∧ f ≤ l ∧ l ≤ 255)) : Ct D B yX1_loudestMicrophone (ws_ yX1_loudestMicrophone cX1_loudestMicrophone 9 (some .int)) (zrc 8 3 16) [.ref o, .int f, .int l] G (zpF) (zpxE zIAE G) := by
  refine ct_intro (by decide +kernel) (Nat.le_of_ble_eq_true rfl) ?_
  intro X C
  refine z_iload_n (i := 1) C dX1_loudestMicrophone_0 rfl rfl ?_
  refine z_iload_n (i := 2) C dX1_loudestMicrophone_1 rfl rfl ?_
  refine z_callSe C (ct_X1_isWindow D B f l) q1462 q1463 q83 q1464 np_X1_isWindow (zr_ok rfl rfl) rfl rfl (Nat.le_of_ble_eq_true rfl) (⟨Nat.le_of_ble_eq_true rfl, Nat.le_of_ble_eq_true rfl⟩) dX1_loudestMicrophone_2 ?_
  exact z_callS C (ct_X1_checkArgument_x D B _ (zb_eq.mpr h)) q1221 q1222 q83 q1223 np_X1_checkArgument (zr_ok rfl rfl) rfl rfl (Nat.le_of_ble_eq_true rfl) (⟨Nat.le_of_ble_eq_true rfl, Nat.le_of_ble_eq_true rfl⟩) dX1_loudestMicrophone_5 (fun E9 q9 G9 h9 => z_out C h9 (Nat.le_of_ble_eq_true rfl) (Nat.le_of_ble_eq_true rfl)) (fun v9 G9 h9 => h9.elim)
set_option maxHeartbeats 4000000 in
set_option maxRecDepth 100000 in
theorem ct_X1_bestPeriod_ok (D : zG) (B : Nat) {G : zH} (o : Nat) (v1 v2 v3 v4 v5 : Value) (χ : Nat → Nat) (c a lv ls lm fo pa su : Nat) (va sa ua ma ra : Nat → Nat) (rq : Nat) (S : Nat → Int32) (p f l : Nat) (nm : Nat) (hO : G o = some (.inr (0, [.ref a, v1, v2, v3, v4, v5]))) (hR : zTr G χ c a lv ls lm fo pa su va sa ua ma ra rq S) (g : zGe S) (hc : 100 ≤ c) (h2 : S 2 = 0 ∨ S 2 = 1) (h5 : S 5 = 0 ∨ S 5 = 1) (e8 : S 8 = nI nm) (n8 : nm ≤ 8) (hw : (0 ≤ nI f ∧ nI f ≤ 255) ∧ nI f ≤ nI l ∧ nI l ≤ 255) (hf : f ≤ l) (hl : l < 256) (hp0 : 1 ≤ nI p ∧ nI p ≤ 64) (hp1 : 1 ≤ p) (hp : p ≤ 64) (hZ : ∀ t, t ≤ l → zbL S (fun m j => zpa S m 0 j) nm t = (zbs S nm 0 t).toInt64) : Ct D B yX1_bestPeriod (ws_ yX1_bestPeriod cX1_bestPeriod 11 (some .int)) (zrL 12 33 110) [.ref o, .int (nI p), .int (nI f), .int (nI l)] G (fun r9 G9 => r9 = some (.int (nI (zbP (fun p9 => zst (zbs S nm 0) p9 f l) (p - 1)))) ∧ ∃ χ9 : Nat → Nat, zkee (zPb c) G χ G9 χ9 ∧ zTr G9 χ9 c a lv ls lm fo pa su va sa ua ma ra rq S) zno := by
  refine ct_intro (by decide +kernel) (Nat.le_of_ble_eq_true rfl) ?_
  intro X C
  have hf0 : zo G χ 1 fo (zfE (upd S 12 (S 12 + 0)) va) := by rw [zfE_0]; exact hR.2.2.2.2.2.1
  refine z_iload_n (i := 1) C dX1_bestPeriod_0 rfl rfl ?_
  refine z_callSe C (ct_X1_isPeriod D B (nI p)) q1682 q1683 q83 q1684 np_X1_isPeriod (zr_ok rfl rfl) rfl rfl (Nat.le_of_ble_eq_true rfl) (⟨Nat.le_of_ble_eq_true rfl, Nat.le_of_ble_eq_true rfl⟩) dX1_bestPeriod_1 ?_
  refine z_iload_n (i := 2) C dX1_bestPeriod_4 rfl rfl ?_
  refine z_iload_n (i := 3) C dX1_bestPeriod_5 rfl rfl ?_
  refine z_callSe C (ct_X1_checkWindow_ok D B _ (nI f) (nI l) (zb_ne.mpr hp0) hw) q1672 q1673 q83 q1674 np_X1_checkWindow (zr_ok rfl rfl) rfl rfl (Nat.le_of_ble_eq_true rfl) (⟨Nat.le_of_ble_eq_true rfl, Nat.le_of_ble_eq_true rfl⟩) dX1_bestPeriod_6 ?_
  refine z_aload_n (i := 0) C dX1_bestPeriod_9 rfl rfl ?_
  refine z_getf (ci := 0) (k := 0) C (hO) rfl rfl q570 dX1_bestPeriod_10 ?_
  refine z_aload_n (i := 0) C dX1_bestPeriod_13 rfl rfl ?_
  refine z_getf (ci := 0) (k := 0) C (hO) rfl rfl q570 dX1_bestPeriod_14 ?_
  refine z_getfN (ci := 1) (k := 9) C (hR.1.1) rfl rfl q534 dX1_bestPeriod_17 ?_
  refine z_iload_n (i := 3) C dX1_bestPeriod_20 rfl rfl ?_
  refine z_callVn C (hR.1.1) rfl (ct_X2_beam D B χ c a lv ls lm fo pa su va sa ua ma ra rq S fo l nm (fun m j => zpa S m 0 j) hR hc e8 n8 hl (zlayF D B hR g hc e8 n8 hl ⟨by decide, by decide⟩ h2 h5 hf0)) q1657 q1658 q1659 q84 q1660 np_X2_beam (zr_ok rfl rfl) rfl rfl (Nat.le_of_ble_eq_true rfl) (⟨Nat.le_of_ble_eq_true rfl, Nat.le_of_ble_eq_true rfl⟩) dX1_bestPeriod_21 ?_
  intro v9 G9 h9
  obtain ⟨sg, rfl, χ9, w9, p9, K2, hsg, hs9, hw9, hp9⟩ := h9
  have t9 := hR.kpb g hc K2 hs9 hp9
  have hs := zSg_beam (D := D) (B := B) (N := l + 1) (f := zbs S nm 0) hsg t9.1.1 hs9.1 (by omega) (fun n hn => (hw9 n (by omega)).trans (hZ n (by omega)))
  refine z_astore C dX1_bestPeriod_24 (Nat.le_of_ble_eq_true rfl) rfl ?_
  refine z_iconst (v := 1) C dX1_bestPeriod_26 (by decide) ?_
  refine z_istore C dX1_bestPeriod_27 (Nat.le_of_ble_eq_true rfl) rfl ?_
  refine z_aload C dX1_bestPeriod_29 rfl ?_
  refine z_iconst (v := 1) C dX1_bestPeriod_31 (by decide) ?_
  refine z_iload_n (i := 2) C dX1_bestPeriod_32 rfl rfl ?_
  refine z_iload_n (i := 3) C dX1_bestPeriod_33 rfl rfl ?_
  refine z_callSe C (ct_X1_strength D B (zbs S nm 0) sg 1 f l (l + 1) hs hf (by omega) (by omega) (by omega) (by omega)) q1696 q1697 q83 q1698 np_X1_strength (zr_ok rfl rfl) rfl rfl (Nat.le_of_ble_eq_true rfl) (⟨Nat.le_of_ble_eq_true rfl, Nat.le_of_ble_eq_true rfl⟩) dX1_bestPeriod_34 ?_
  refine z_lstore C dX1_bestPeriod_37 (Nat.le_of_ble_eq_true rfl) rfl ?_
  refine z_iconst (v := 2) C dX1_bestPeriod_39 (by decide) ?_
  refine z_istore C dX1_bestPeriod_40 (Nat.le_of_ble_eq_true rfl) rfl ?_
  have lp42 : ∀ (μ : Nat) (k : Nat) (k1 : k + 1 ≤ p), p - k < μ → Z X 42 [some (.ref o), some (.int (nI p)), some (.int (nI f)), some (.int (nI l)), some (.ref sg), some (.int (nI (zbP (fun p9 => zst (zbs S nm 0) p9 f l) k))), some (.long ((fun p9 => zst (zbs S nm 0) p9 f l) (zbP (fun p9 => zst (zbs S nm 0) p9 f l) k))), none, some (.int (nI (k + 2))), none, none] [] G9 30 100 := by
    intro μ
    induction μ with
    | zero => intro k k1 hμ; exact absurd hμ (Nat.not_lt_zero _)
    | succ μ ih42 =>
      intro k k1 hμ
      refine z_iload C dX1_bestPeriod_42 rfl ?_
      refine z_iload_n (i := 1) C dX1_bestPeriod_44 rfl rfl ?_
      refine z_icmp_gt (tgt := 81) C dX1_bestPeriod_45 (by decide) (fun c_45 => ?_) (fun c_45 => ?_)
      · have hend : p < k + 2 := zgt c_45 (by omega) (by omega)
        have hkp : p - 1 = k := by omega
        refine z_iload C dX1_bestPeriod_81 rfl ?_
        exact z_ireturn C rfl (rfl) dX1_bestPeriod_83 (⟨zvs (by rw [hkp]), χ9, K2, t9⟩) (Nat.le_of_ble_eq_true rfl) (Nat.le_of_ble_eq_true rfl)
      · have hle : k + 2 ≤ p := zngt c_45 (by omega) (by omega)
        refine z_aload C dX1_bestPeriod_48 rfl ?_
        refine z_iload C dX1_bestPeriod_50 rfl ?_
        refine z_iload_n (i := 2) C dX1_bestPeriod_52 rfl rfl ?_
        refine z_iload_n (i := 3) C dX1_bestPeriod_53 rfl rfl ?_
        refine z_callSe C (ct_X1_strength D B (zbs S nm 0) sg (k + 2) f l (l + 1) hs hf (by omega) (by omega) (by omega) (by omega)) q1696 q1697 q83 q1698 np_X1_strength (zr_ok rfl rfl) rfl rfl (Nat.le_of_ble_eq_true rfl) (⟨Nat.le_of_ble_eq_true rfl, Nat.le_of_ble_eq_true rfl⟩) dX1_bestPeriod_54 ?_
        refine z_lstore C dX1_bestPeriod_57 (Nat.le_of_ble_eq_true rfl) rfl ?_
        refine z_lload C dX1_bestPeriod_59 rfl ?_
        refine z_lload C dX1_bestPeriod_61 rfl ?_
        refine z_lc_le (tgt := 75) C dX1_bestPeriod_63 dX1_bestPeriod_64 (by decide) (fun c_64 => ?_) (fun c_64 => ?_)
        · refine z_iinc (v := nI (k + 3)) C dX1_bestPeriod_75 rfl (ziinc (k + 2)) (Nat.le_of_ble_eq_true rfl) rfl ?_
          refine z_goto (tgt := 42) C dX1_bestPeriod_78 (by decide) ?_
          exact z_convG (ih42 (k + 1) (by omega) (by omega)) (And.intro (rfl) (And.intro (rfl) (And.intro (rfl) (And.intro (rfl) (And.intro (rfl) (And.intro (by first | (simp only [zbP]; rw [if_pos (Int64.not_le.mp c_64)]) | (simp only [zbP]; rw [if_neg (Int64.not_lt.mpr c_64)])) (And.intro (by first | (simp only [zbP]; rw [if_pos (Int64.not_le.mp c_64)]) | (simp only [zbP]; rw [if_neg (Int64.not_lt.mpr c_64)])) (And.intro (rfl) trivial)))))))) (Nat.le_of_ble_eq_true rfl) (Nat.le_of_ble_eq_true rfl)
        · refine z_iload C dX1_bestPeriod_67 rfl ?_
          refine z_istore C dX1_bestPeriod_69 (Nat.le_of_ble_eq_true rfl) rfl ?_
          refine z_lload C dX1_bestPeriod_71 rfl ?_
          refine z_lstore C dX1_bestPeriod_73 (Nat.le_of_ble_eq_true rfl) rfl ?_
          refine z_iinc (v := nI (k + 3)) C dX1_bestPeriod_75 rfl (ziinc (k + 2)) (Nat.le_of_ble_eq_true rfl) rfl ?_
          refine z_goto (tgt := 42) C dX1_bestPeriod_78 (by decide) ?_
          exact z_convG (ih42 (k + 1) (by omega) (by omega)) (And.intro (rfl) (And.intro (rfl) (And.intro (rfl) (And.intro (rfl) (And.intro (rfl) (And.intro (by first | (simp only [zbP]; rw [if_pos (Int64.not_le.mp c_64)]) | (simp only [zbP]; rw [if_neg (Int64.not_lt.mpr c_64)])) (And.intro (by first | (simp only [zbP]; rw [if_pos (Int64.not_le.mp c_64)]) | (simp only [zbP]; rw [if_neg (Int64.not_lt.mpr c_64)])) (And.intro (rfl) trivial)))))))) (Nat.le_of_ble_eq_true rfl) (Nat.le_of_ble_eq_true rfl)
  exact z_convG (lp42 (p + 1) 0 (by omega) (by omega)) (And.intro (rfl) (And.intro (rfl) (And.intro (rfl) (And.intro (rfl) (And.intro (rfl) (And.intro (rfl) (And.intro (rfl) (And.intro (rfl) trivial)))))))) (Nat.le_of_ble_eq_true rfl) (Nat.le_of_ble_eq_true rfl)
/-- the best direction, as the component seeks it -/
def zbDc (w : Int32 → Int64) (sp : Nat) : Nat → Int32 × Int64
  | 0 => (-100, -1)
  | k + 1 => if (zbDc w sp k).2 < w (nI (k * sp) - 100) then (nI (k * sp) - 100, w (nI (k * sp) - 100)) else zbDc w sp k
theorem zD100 {sp k : Nat} (h1 : 1 ≤ sp) (h : k * sp ≤ 200) : -100 ≤ nI (k * sp) - 100 ∧ nI (k * sp) - 100 ≤ 100 := by
  have e : ∀ j, j < 201 → -100 ≤ nI j - 100 ∧ nI j - 100 ≤ 100 := by decide +kernel
  exact e _ (by omega)
set_option maxHeartbeats 16000000 in
set_option maxRecDepth 100000 in
theorem ct_X1_bestDirection_ok (D : zG) (B : Nat) {G : zH} (o : Nat) (v1 v2 v3 v4 v5 : Value) (χ : Nat → Nat) (c a lv ls lm fo pa su : Nat) (va sa ua ma ra : Nat → Nat) (rq : Nat) (S : Nat → Int32) (sp f l : Nat) (nm : Nat) (hO : G o = some (.inr (0, [.ref a, v1, v2, v3, v4, v5]))) (hR : zTr G χ c a lv ls lm fo pa su va sa ua ma ra rq S) (g : zGe S) (hc : 100 ≤ c) (hoc : zPb c (χ o)) (e8 : S 8 = nI nm) (n8 : nm ≤ 8) (hw : (0 ≤ nI f ∧ nI f ≤ 255) ∧ nI f ≤ nI l ∧ nI l ≤ 255) (hf : f ≤ l) (hl : l < 256) (hp0 : 1 ≤ nI sp ∧ nI sp ≤ 100) (hp1 : 1 ≤ sp) (hp : sp ≤ 100) (hZd : ∀ d, -100 ≤ d ∧ d ≤ 100 → ∀ t, t ≤ l → zbL S (fun m j => zrec S m (nI j + zsh S m d)) nm t = (zbd S nm d t).toInt64) : Ct D B yX1_bestDirection (ws_ yX1_bestDirection cX1_bestDirection 10 (some .int)) (zrL 12 6300 21000) [.ref o, .int (nI sp), .int (nI f), .int (nI l)] G (fun r9 G9 => r9 = some (.int (zbDc (fun d => zen (zbd S nm d) f l) sp (200 / sp + 1)).1) ∧ ∃ χ9 : Nat → Nat, zkee (zPb c) G χ G9 χ9 ∧ zTr G9 χ9 c a lv ls lm fo pa su va sa ua ma ra rq S) zno := by
  refine ct_intro (by decide +kernel) (Nat.le_of_ble_eq_true rfl) ?_
  intro X C
  refine z_iload_n (i := 1) C dX1_bestDirection_0 rfl rfl ?_
  refine z_i2l C dX1_bestDirection_1 rfl ?_
  refine z_lconst (v := 1) C dX1_bestDirection_2 (by decide) ?_
  refine z_ldc2 C q1218 dX1_bestDirection_3 ?_
  refine z_callSe C (ct_X1_isBetween D B (nI sp) (1) (100) _ _ (by first | rfl | decide) (by first | rfl | decide)) q1220 q789 q83 q790 np_X1_isBetween (zr_ok rfl rfl) rfl rfl (Nat.le_of_ble_eq_true rfl) (⟨Nat.le_of_ble_eq_true rfl, Nat.le_of_ble_eq_true rfl⟩) dX1_bestDirection_6 ?_
  refine z_iload_n (i := 2) C dX1_bestDirection_9 rfl rfl ?_
  refine z_iload_n (i := 3) C dX1_bestDirection_10 rfl rfl ?_
  refine z_callSe C (ct_X1_checkWindow_ok D B _ (nI f) (nI l) (zb_ne.mpr hp0) hw) q1672 q1673 q83 q1674 np_X1_checkWindow (zr_ok rfl rfl) rfl rfl (Nat.le_of_ble_eq_true rfl) (⟨Nat.le_of_ble_eq_true rfl, Nat.le_of_ble_eq_true rfl⟩) dX1_bestDirection_11 ?_
  refine z_bipush (v := (-100)) C dX1_bestDirection_14 (by decide) ?_
  refine z_istore C dX1_bestDirection_16 (Nat.le_of_ble_eq_true rfl) rfl ?_
  refine z_ldc2 C q1529 dX1_bestDirection_18 ?_
  refine z_lstore C dX1_bestDirection_21 (Nat.le_of_ble_eq_true rfl) rfl ?_
  refine z_bipush (v := (-100)) C dX1_bestDirection_23 (by decide) ?_
  refine z_istore C dX1_bestDirection_25 (Nat.le_of_ble_eq_true rfl) rfl ?_
  have lp27 : ∀ (μ : Nat) (k : Nat) (G3 : zH) (χ3 : Nat → Nat) (k1 : k ≤ 200 / sp + 1) (k3 : zkee (zPb c) G χ G3 χ3) (d3 : zTr G3 χ3 c a lv ls lm fo pa su va sa ua ma ra rq S), 200 / sp + 1 - k < μ → Z X 27 [some (.ref o), some (.int (nI sp)), some (.int (nI f)), some (.int (nI l)), some (.int (zbDc (fun d => zen (zbd S nm d) f l) sp k).1), some (.long (zbDc (fun d => zen (zbd S nm d) f l) sp k).2), none, some (.int (nI (k * sp) - 100)), none, none] [] G3 (31 * k) (103 * k) := by
    intro μ
    induction μ with
    | zero => intro k G3 χ3 k1 k3 d3 hμ; exact absurd hμ (Nat.not_lt_zero _)
    | succ μ ih27 =>
      intro k G3 χ3 k1 k3 d3 hμ
      have hks : k * sp ≤ 200 + sp := by
        have a1 := Nat.mul_le_mul_right sp k1
        rw [Nat.succ_mul] at a1
        have a2 := Nat.div_mul_le_self 200 sp
        omega
      have hk201 : k ≤ 201 := by have := Nat.div_le_self 200 sp; omega
      have o3 := k3 o _ hO hoc
      refine z_iload C dX1_bestDirection_27 rfl ?_
      refine z_bipush (v := 100) C dX1_bestDirection_29 (by decide) ?_
      refine z_icmp_gt (tgt := 86) C dX1_bestDirection_31 (by decide) (fun c_31 => ?_) (fun c_31 => ?_)
      · have hend : k = 200 / sp + 1 := by
          have a1 := (zdr_le (by omega)).mp c_31
          have := Nat.div_lt_iff_lt_mul (k := sp) (x := 200) (y := k) (by omega)
          omega
        refine z_iload C dX1_bestDirection_86 rfl ?_
        exact z_ireturn C rfl (rfl) dX1_bestDirection_88 (⟨zvs (by rw [hend]), χ3, k3, d3⟩) (by (try simp only [zrc, zrL, zr]); omega) (by (try simp only [zrc, zrL, zr]); omega)
      · have hle : k * sp ≤ 200 := Nat.le_of_not_lt fun q => c_31 ((zdr_le (by omega)).mpr q)
        refine z_getsR (k := 40) C (by decide) q1530 dX1_bestDirection_34 ?_
        refine z_aload_n (i := 0) C dX1_bestDirection_37 rfl rfl ?_
        refine z_getf (ci := 0) (k := 0) C (o3.1) rfl rfl q570 dX1_bestDirection_38 ?_
        refine z_new (ci := 8) C rfl q1602 q1603 q120 (by simp only [zrc, zr]; omega) (by simp only [zrc, zr]; omega) dX1_bestDirection_41 ?_
        intro q hq hb
        refine z_dup C dX1_bestDirection_44 rfl ?_
        refine z_iload C dX1_bestDirection_45 rfl ?_
        refine z_callINe C (ct_X11_init D B q (nI (k * sp) - 100) zup_s) q1604 q1605 q120 q1606 rfl np_X11_init (zr_ok rfl rfl) rfl rfl (Nat.le_of_ble_eq_true rfl) (⟨by (try simp only [zrc, zrL, zr]); omega, by (try simp only [zrc, zrL, zr]); omega⟩) dX1_bestDirection_47 ?_
        refine z_heap zup_zup ?_
        have K1 : zkee (fun _ => True) G3 χ3 (zup G3 q (.inr (8, [.int (nI (k * sp) - 100)]))) (zcol χ3 q 1) := zkee.new hq
        have F1 : zo (zup G3 q (.inr (8, [.int (nI (k * sp) - 100)]))) (zcol χ3 q 1) 1 q (.inr (8, [.int (nI (k * sp) - 100)])) := zo.newc hq
        have hR1 := d3.kp g (fun _ _ => trivial) K1
        obtain ⟨G1, hG1⟩ : ∃ G1, G1 = zup G3 q (.inr (8, [.int (nI (k * sp) - 100)])) := ⟨_, rfl⟩
        obtain ⟨χ1, hχ1⟩ : ∃ χ1, χ1 = zcol χ3 q 1 := ⟨_, rfl⟩
        rw [← hG1, ← hχ1] at K1 F1 hR1
        refine z_heap hG1.symm ?_
        refine z_iload_n (i := 3) C dX1_bestDirection_50 rfl rfl ?_
        refine z_callVn C (hR1.1.1) rfl (ct_X2_beam D B χ1 c a lv ls lm fo pa su va sa ua ma ra rq S q l nm (fun m j => zrec S m (nI j + zsh S m (nI (k * sp) - 100))) hR1 hc e8 n8 hl (zlayD D B hR1 g hc e8 n8 hl F1)) q1657 q1658 q1659 q84 q1660 np_X2_beam (zr_ok rfl rfl) rfl rfl (Nat.le_of_ble_eq_true rfl) (⟨by (try simp only [zrc, zrL, zr]); omega, by (try simp only [zrc, zrL, zr]); omega⟩) dX1_bestDirection_51 ?_
        intro v9 G9 h9
        obtain ⟨sg, rfl, χ9, w9, p9, K2, hsg, hs9, hw9, hp9⟩ := h9
        have t9 := hR1.kpb g hc K2 hs9 hp9
        have hs := zSg_beam (D := D) (B := B) (N := l + 1) (f := zbd S nm (nI (k * sp) - 100)) hsg t9.1.1 hs9.1 (by omega) (fun n hn => (hw9 n (by omega)).trans (hZd _ (zD100 hp1 hle) n (by omega)))
        have K9 : zkee (zPb c) G χ G9 χ9 := k3.trans ((K1.mono (fun _ _ => trivial)).trans K2)
        refine z_iload_n (i := 2) C dX1_bestDirection_54 rfl rfl ?_
        refine z_iload_n (i := 3) C dX1_bestDirection_55 rfl rfl ?_
        refine z_callOB (x := ⟨"TrackArray$Measure", "of", "(LTrackArray$Signal;II)J"⟩) (owner := "TrackArray$Measure") (np := 3) (i := 0) C (by decide) (cb_X17_of D B (zbd S nm (nI (k * sp) - 100)) _ sg f l (l + 1) hs (by omega) (by omega) (by omega)) q1474 q1476 q1475 q1477 q1478 q1479 ⟨by decide +kernel, by decide +kernel, by decide +kernel⟩ (Nat.le_of_ble_eq_true rfl) (by decide +kernel) (zr_ok rfl rfl) rfl rfl (Nat.le_of_ble_eq_true rfl) (⟨by (try simp only [zrc, zrL, zr]); omega, by (try simp only [zrc, zrL, zr]); omega⟩) dX1_bestDirection_56 ?_
        intro v9 G9 h9
        obtain ⟨rfl, rfl⟩ := h9
        refine z_lstore C dX1_bestDirection_59 (Nat.le_of_ble_eq_true rfl) rfl ?_
        refine z_lload C dX1_bestDirection_61 rfl ?_
        refine z_lload C dX1_bestDirection_63 rfl ?_
        refine z_lc_le (tgt := 77) C dX1_bestDirection_65 dX1_bestDirection_66 (by decide) (fun c_66 => ?_) (fun c_66 => ?_)
        · refine z_iload C dX1_bestDirection_77 rfl ?_
          refine z_iload_n (i := 1) C dX1_bestDirection_79 rfl rfl ?_
          refine z_iadd C dX1_bestDirection_80 ?_
          refine z_istore C dX1_bestDirection_81 (Nat.le_of_ble_eq_true rfl) rfl ?_
          refine z_goto (tgt := 27) C dX1_bestDirection_83 (by decide) ?_
          exact z_convG (ih27 (k + 1) G9 χ9 (by have := Nat.le_div_iff_mul_le (k := sp) (x := k) (y := 200) (by omega); omega) K9 t9 (by have := Nat.le_div_iff_mul_le (k := sp) (x := k) (y := 200) (by omega); omega)) (And.intro (rfl) (And.intro (rfl) (And.intro (rfl) (And.intro (rfl) (And.intro (by simp only [zbDc]; first | rw [if_pos (Int64.not_le.mp c_66)] | rw [if_neg (Int64.not_lt.mpr c_66)]) (And.intro (by simp only [zbDc]; first | rw [if_pos (Int64.not_le.mp c_66)] | rw [if_neg (Int64.not_lt.mpr c_66)]) (And.intro (by rw [zdr_1]) trivial))))))) (by (try simp only [zrc, zrL, zr]); omega) (by (try simp only [zrc, zrL, zr]); omega)
        · refine z_iload C dX1_bestDirection_69 rfl ?_
          refine z_istore C dX1_bestDirection_71 (Nat.le_of_ble_eq_true rfl) rfl ?_
          refine z_lload C dX1_bestDirection_73 rfl ?_
          refine z_lstore C dX1_bestDirection_75 (Nat.le_of_ble_eq_true rfl) rfl ?_
          refine z_iload C dX1_bestDirection_77 rfl ?_
          refine z_iload_n (i := 1) C dX1_bestDirection_79 rfl rfl ?_
          refine z_iadd C dX1_bestDirection_80 ?_
          refine z_istore C dX1_bestDirection_81 (Nat.le_of_ble_eq_true rfl) rfl ?_
          refine z_goto (tgt := 27) C dX1_bestDirection_83 (by decide) ?_
          exact z_convG (ih27 (k + 1) G9 χ9 (by have := Nat.le_div_iff_mul_le (k := sp) (x := k) (y := 200) (by omega); omega) K9 t9 (by have := Nat.le_div_iff_mul_le (k := sp) (x := k) (y := 200) (by omega); omega)) (And.intro (rfl) (And.intro (rfl) (And.intro (rfl) (And.intro (rfl) (And.intro (by simp only [zbDc]; first | rw [if_pos (Int64.not_le.mp c_66)] | rw [if_neg (Int64.not_lt.mpr c_66)]) (And.intro (by simp only [zbDc]; first | rw [if_pos (Int64.not_le.mp c_66)] | rw [if_neg (Int64.not_lt.mpr c_66)]) (And.intro (by rw [zdr_1]) trivial))))))) (by (try simp only [zrc, zrL, zr]); omega) (by (try simp only [zrc, zrL, zr]); omega)
  exact z_convG (lp27 (200 / sp + 2) 0 G χ (Nat.zero_le _) zkee.refl hR (Nat.lt_succ_self _)) (And.intro (rfl) (And.intro (rfl) (And.intro (rfl) (And.intro (rfl) (And.intro (rfl) (And.intro (rfl) (And.intro (by rw [Nat.zero_mul]; rfl) trivial))))))) (by (try simp only [zrc, zrL, zr]); omega) (by (try simp only [zrc, zrL, zr]); omega)
set_option maxHeartbeats 4000000 in
set_option maxRecDepth 100000 in
theorem ct_X1_bestDirection_x (D : zG) (B : Nat) {G : zH} (o : Nat) (v1 v2 v3 v4 v5 : Value) (χ : Nat → Nat) (c a lv ls lm fo pa su : Nat) (va sa ua ma ra : Nat → Nat) (rq : Nat) (S : Nat → Int32) (x f l : Int32) (h : ¬ (1 ≤ x ∧ x ≤ 100) ∨ ¬ ((0 ≤ f ∧ f ≤ 255) ∧ f ≤ l ∧ l ≤ 255)) : Ct D B yX1_bestDirection (ws_ yX1_bestDirection cX1_bestDirection 10 (some .int)) (zrc 8 3 16) [.ref o, .int x, .int f, .int l] G (zpF) (zpxE zIAE G) := by
  refine ct_intro (by decide +kernel) (Nat.le_of_ble_eq_true rfl) ?_
  intro X C
  refine z_iload_n (i := 1) C dX1_bestDirection_0 rfl rfl ?_
  refine z_i2l C dX1_bestDirection_1 rfl ?_
  refine z_lconst (v := 1) C dX1_bestDirection_2 (by decide) ?_
  refine z_ldc2 C q1218 dX1_bestDirection_3 ?_
  refine z_callSe C (ct_X1_isBetween D B (x) (1) (100) _ _ (by first | rfl | decide) (by first | rfl | decide)) q1220 q789 q83 q790 np_X1_isBetween (zr_ok rfl rfl) rfl rfl (Nat.le_of_ble_eq_true rfl) (⟨Nat.le_of_ble_eq_true rfl, Nat.le_of_ble_eq_true rfl⟩) dX1_bestDirection_6 ?_
  refine z_iload_n (i := 2) C dX1_bestDirection_9 rfl rfl ?_
  refine z_iload_n (i := 3) C dX1_bestDirection_10 rfl rfl ?_
  exact z_callS C (ct_X1_checkWindow_x D B _ f l (h.imp zb_eq.mpr id)) q1672 q1673 q83 q1674 np_X1_checkWindow (zr_ok rfl rfl) rfl rfl (Nat.le_of_ble_eq_true rfl) (⟨Nat.le_of_ble_eq_true rfl, Nat.le_of_ble_eq_true rfl⟩) dX1_bestDirection_11 (fun E9 q9 G9 h9 => z_out C h9 (Nat.le_of_ble_eq_true rfl) (Nat.le_of_ble_eq_true rfl)) (fun v9 G9 h9 => h9.elim)
