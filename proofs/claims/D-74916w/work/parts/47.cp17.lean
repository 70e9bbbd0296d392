/-! component: the best around, energies beside -/
theorem zba_s {w : Int32 → Int64} {n : Nat} (b1 : Int32) (h1 : b1 = if w (zba w n) < w (-nI (n + 1)) then -nI (n + 1) else zba w n) : zba w (n + 1) = if w b1 < w (nI (n + 1)) then nI (n + 1) else b1 := by
  rw [h1]
  rfl
set_option maxHeartbeats 4000000 in
set_option maxRecDepth 100000 in
theorem ct_X1_bestAround (D : zG) (B : Nat) {G : zH} (n b mL : Nat) (I : zH → Prop) (w : Int32 → Int64) (ok : Int32 → Prop) (hs : zWo D B "TrackArray$Worth" "of" b I w ok (zrL 14 32 110) mL) (hI0 : I G) (hok : ∀ k, k ≤ n → ok (nI k) ∧ ok (-nI k)) (hn : n < 256) (hmL : mL ≤ 6) : Ct D B yX1_bestAround (ws_ yX1_bestAround cX1_bestAround 10 (some .int)) (zrL 17 16416 56430) [.int (nI n), .ref b] G (fun r9 G9 => r9 = some (.int (zba w n)) ∧ I G9) zno := by
  refine ct_intro (by decide +kernel) (Nat.le_of_ble_eq_true rfl) ?_
  intro X C
  refine z_iconst (v := 0) C dX1_bestAround_0 (by decide) ?_
  refine z_istore_n (i := 2) C dX1_bestAround_1 rfl (Nat.le_of_ble_eq_true rfl) rfl ?_
  refine z_aload_n (i := 1) C dX1_bestAround_2 rfl rfl ?_
  refine z_iconst (v := 0) C dX1_bestAround_3 (by decide) ?_
  refine z_callW C (hs) (hI0) ((hok 0 (by omega)).1) q1571 q1573 q2475 ⟨by decide, by decide⟩ (⟨Nat.le_of_ble_eq_true rfl, by show 8 + (2 + 11) + (8 + (mL + 11) + 3660) ≤ 3780; omega⟩) rfl (Nat.le_of_ble_eq_true rfl) (⟨by (try simp only [zrc, zrL, zr]); omega, by (try simp only [zrc, zrL, zr]); omega⟩) dX1_bestAround_4 ?_
  intro G1 hI1
  refine z_lstore_n (i := 3) C dX1_bestAround_9 rfl (Nat.le_of_ble_eq_true rfl) rfl ?_
  refine z_iconst (v := 1) C dX1_bestAround_10 (by decide) ?_
  refine z_istore C dX1_bestAround_11 (Nat.le_of_ble_eq_true rfl) rfl ?_
  have lp13 : ∀ (μ : Nat) (k : Nat) (G3 : zH) (hI3 : I G3) (k1 : k ≤ n), n - k < μ → Z X 13 [some (.int (nI n)), some (.ref b), some (.int (zba w k)), some (.long (w (zba w k))), none, some (.int (nI (k + 1))), none, none, none, none] [] G3 (32 + 64 * k) (110 + 220 * k) := by
    intro μ
    induction μ with
    | zero => intro k G3 hI3 k1 hμ; exact absurd hμ (Nat.not_lt_zero _)
    | succ μ ih13 =>
      intro k G3 hI3 k1 hμ
      refine z_iload C dX1_bestAround_13 rfl ?_
      refine z_iload_n (i := 0) C dX1_bestAround_15 rfl rfl ?_
      refine z_icmp_gt (tgt := 73) C dX1_bestAround_16 (by decide) (fun c_16 => ?_) (fun c_16 => ?_)
      · have hend : k = n := by
          have h9 := (nI_ltI (by omega) (by omega)).mp c_16
          omega
        subst hend
        refine z_iload_n (i := 2) C dX1_bestAround_73 rfl rfl ?_
        exact z_ireturn C rfl (rfl) dX1_bestAround_74 (⟨rfl, hI3⟩) (by (try simp only [zrc, zrL, zr]); omega) (by (try simp only [zrc, zrL, zr]); omega)
      · have hle : k + 1 ≤ n := zngt c_16 (by omega) (by omega)
        refine z_aload_n (i := 1) C dX1_bestAround_19 rfl rfl ?_
        refine z_iload C dX1_bestAround_20 rfl ?_
        refine z_ineg C dX1_bestAround_22 ?_
        refine z_callW C (hs) (hI3) ((hok (k + 1) hle).2) q1571 q1573 q2475 ⟨by decide, by decide⟩ (⟨Nat.le_of_ble_eq_true rfl, by show 8 + (2 + 11) + (8 + (mL + 11) + 3660) ≤ 3780; omega⟩) rfl (Nat.le_of_ble_eq_true rfl) (⟨by (try simp only [zrc, zrL, zr]); omega, by (try simp only [zrc, zrL, zr]); omega⟩) dX1_bestAround_23 ?_
        intro G4 hI4
        refine z_lstore C dX1_bestAround_28 (Nat.le_of_ble_eq_true rfl) rfl ?_
        refine z_aload_n (i := 1) C dX1_bestAround_30 rfl rfl ?_
        refine z_iload C dX1_bestAround_31 rfl ?_
        refine z_callW C (hs) (hI4) ((hok (k + 1) hle).1) q1571 q1573 q2475 ⟨by decide, by decide⟩ (⟨Nat.le_of_ble_eq_true rfl, by show 8 + (2 + 11) + (8 + (mL + 11) + 3660) ≤ 3780; omega⟩) rfl (Nat.le_of_ble_eq_true rfl) (⟨by (try simp only [zrc, zrL, zr]); omega, by (try simp only [zrc, zrL, zr]); omega⟩) dX1_bestAround_33 ?_
        intro G5 hI5
        refine z_lstore C dX1_bestAround_38 (Nat.le_of_ble_eq_true rfl) rfl ?_
        refine z_lload C dX1_bestAround_40 rfl ?_
        refine z_lload_n (i := 3) C dX1_bestAround_42 rfl rfl ?_
        refine z_lc_le (tgt := 54) C dX1_bestAround_43 dX1_bestAround_44 (by decide) (fun c_44 => ?_) (fun c_44 => ?_)
        · refine z_lload C dX1_bestAround_54 rfl ?_
          refine z_lload_n (i := 3) C dX1_bestAround_56 rfl rfl ?_
          refine z_lc_le (tgt := 67) C dX1_bestAround_57 dX1_bestAround_58 (by decide) (fun c_58 => ?_) (fun c_58 => ?_)
          · refine z_iinc (v := nI (k + 2)) C dX1_bestAround_67 rfl (ziinc (k + 1)) (Nat.le_of_ble_eq_true rfl) rfl ?_
            refine z_goto (tgt := 13) C dX1_bestAround_70 (by decide) ?_
            exact z_convG (ih13 (k + 1) G5 hI5 (by omega) (by omega)) (And.intro (rfl) (And.intro (rfl) (And.intro (by first | rw [zba_s _ (if_neg (Int64.not_lt.mpr c_44)).symm, if_neg (Int64.not_lt.mpr c_58)] | rw [zba_s _ (if_neg (Int64.not_lt.mpr c_44)).symm, if_pos (Int64.not_le.mp c_58)] | rw [zba_s _ (if_pos (Int64.not_le.mp c_44)).symm, if_neg (Int64.not_lt.mpr c_58)] | rw [zba_s _ (if_pos (Int64.not_le.mp c_44)).symm, if_pos (Int64.not_le.mp c_58)]) (And.intro (by first | rw [zba_s _ (if_neg (Int64.not_lt.mpr c_44)).symm, if_neg (Int64.not_lt.mpr c_58)] | rw [zba_s _ (if_neg (Int64.not_lt.mpr c_44)).symm, if_pos (Int64.not_le.mp c_58)] | rw [zba_s _ (if_pos (Int64.not_le.mp c_44)).symm, if_neg (Int64.not_lt.mpr c_58)] | rw [zba_s _ (if_pos (Int64.not_le.mp c_44)).symm, if_pos (Int64.not_le.mp c_58)]) (And.intro (rfl) trivial))))) (by (try simp only [zrc, zrL, zr]); omega) (by (try simp only [zrc, zrL, zr]); omega)
          · refine z_iload C dX1_bestAround_61 rfl ?_
            refine z_istore_n (i := 2) C dX1_bestAround_63 rfl (Nat.le_of_ble_eq_true rfl) rfl ?_
            refine z_lload C dX1_bestAround_64 rfl ?_
            refine z_lstore_n (i := 3) C dX1_bestAround_66 rfl (Nat.le_of_ble_eq_true rfl) rfl ?_
            refine z_iinc (v := nI (k + 2)) C dX1_bestAround_67 rfl (ziinc (k + 1)) (Nat.le_of_ble_eq_true rfl) rfl ?_
            refine z_goto (tgt := 13) C dX1_bestAround_70 (by decide) ?_
            exact z_convG (ih13 (k + 1) G5 hI5 (by omega) (by omega)) (And.intro (rfl) (And.intro (rfl) (And.intro (by first | rw [zba_s _ (if_neg (Int64.not_lt.mpr c_44)).symm, if_neg (Int64.not_lt.mpr c_58)] | rw [zba_s _ (if_neg (Int64.not_lt.mpr c_44)).symm, if_pos (Int64.not_le.mp c_58)] | rw [zba_s _ (if_pos (Int64.not_le.mp c_44)).symm, if_neg (Int64.not_lt.mpr c_58)] | rw [zba_s _ (if_pos (Int64.not_le.mp c_44)).symm, if_pos (Int64.not_le.mp c_58)]) (And.intro (by first | rw [zba_s _ (if_neg (Int64.not_lt.mpr c_44)).symm, if_neg (Int64.not_lt.mpr c_58)] | rw [zba_s _ (if_neg (Int64.not_lt.mpr c_44)).symm, if_pos (Int64.not_le.mp c_58)] | rw [zba_s _ (if_pos (Int64.not_le.mp c_44)).symm, if_neg (Int64.not_lt.mpr c_58)] | rw [zba_s _ (if_pos (Int64.not_le.mp c_44)).symm, if_pos (Int64.not_le.mp c_58)]) (And.intro (rfl) trivial))))) (by (try simp only [zrc, zrL, zr]); omega) (by (try simp only [zrc, zrL, zr]); omega)
        · refine z_iload C dX1_bestAround_47 rfl ?_
          refine z_ineg C dX1_bestAround_49 ?_
          refine z_istore_n (i := 2) C dX1_bestAround_50 rfl (Nat.le_of_ble_eq_true rfl) rfl ?_
          refine z_lload C dX1_bestAround_51 rfl ?_
          refine z_lstore_n (i := 3) C dX1_bestAround_53 rfl (Nat.le_of_ble_eq_true rfl) rfl ?_
          refine z_lload C dX1_bestAround_54 rfl ?_
          refine z_lload_n (i := 3) C dX1_bestAround_56 rfl rfl ?_
          refine z_lc_le (tgt := 67) C dX1_bestAround_57 dX1_bestAround_58 (by decide) (fun c_58 => ?_) (fun c_58 => ?_)
          · refine z_iinc (v := nI (k + 2)) C dX1_bestAround_67 rfl (ziinc (k + 1)) (Nat.le_of_ble_eq_true rfl) rfl ?_
            refine z_goto (tgt := 13) C dX1_bestAround_70 (by decide) ?_
            exact z_convG (ih13 (k + 1) G5 hI5 (by omega) (by omega)) (And.intro (rfl) (And.intro (rfl) (And.intro (by first | rw [zba_s _ (if_neg (Int64.not_lt.mpr c_44)).symm, if_neg (Int64.not_lt.mpr c_58)] | rw [zba_s _ (if_neg (Int64.not_lt.mpr c_44)).symm, if_pos (Int64.not_le.mp c_58)] | rw [zba_s _ (if_pos (Int64.not_le.mp c_44)).symm, if_neg (Int64.not_lt.mpr c_58)] | rw [zba_s _ (if_pos (Int64.not_le.mp c_44)).symm, if_pos (Int64.not_le.mp c_58)]) (And.intro (by first | rw [zba_s _ (if_neg (Int64.not_lt.mpr c_44)).symm, if_neg (Int64.not_lt.mpr c_58)] | rw [zba_s _ (if_neg (Int64.not_lt.mpr c_44)).symm, if_pos (Int64.not_le.mp c_58)] | rw [zba_s _ (if_pos (Int64.not_le.mp c_44)).symm, if_neg (Int64.not_lt.mpr c_58)] | rw [zba_s _ (if_pos (Int64.not_le.mp c_44)).symm, if_pos (Int64.not_le.mp c_58)]) (And.intro (rfl) trivial))))) (by (try simp only [zrc, zrL, zr]); omega) (by (try simp only [zrc, zrL, zr]); omega)
          · refine z_iload C dX1_bestAround_61 rfl ?_
            refine z_istore_n (i := 2) C dX1_bestAround_63 rfl (Nat.le_of_ble_eq_true rfl) rfl ?_
            refine z_lload C dX1_bestAround_64 rfl ?_
            refine z_lstore_n (i := 3) C dX1_bestAround_66 rfl (Nat.le_of_ble_eq_true rfl) rfl ?_
            refine z_iinc (v := nI (k + 2)) C dX1_bestAround_67 rfl (ziinc (k + 1)) (Nat.le_of_ble_eq_true rfl) rfl ?_
            refine z_goto (tgt := 13) C dX1_bestAround_70 (by decide) ?_
            exact z_convG (ih13 (k + 1) G5 hI5 (by omega) (by omega)) (And.intro (rfl) (And.intro (rfl) (And.intro (by first | rw [zba_s _ (if_neg (Int64.not_lt.mpr c_44)).symm, if_neg (Int64.not_lt.mpr c_58)] | rw [zba_s _ (if_neg (Int64.not_lt.mpr c_44)).symm, if_pos (Int64.not_le.mp c_58)] | rw [zba_s _ (if_pos (Int64.not_le.mp c_44)).symm, if_neg (Int64.not_lt.mpr c_58)] | rw [zba_s _ (if_pos (Int64.not_le.mp c_44)).symm, if_pos (Int64.not_le.mp c_58)]) (And.intro (by first | rw [zba_s _ (if_neg (Int64.not_lt.mpr c_44)).symm, if_neg (Int64.not_lt.mpr c_58)] | rw [zba_s _ (if_neg (Int64.not_lt.mpr c_44)).symm, if_pos (Int64.not_le.mp c_58)] | rw [zba_s _ (if_pos (Int64.not_le.mp c_44)).symm, if_neg (Int64.not_lt.mpr c_58)] | rw [zba_s _ (if_pos (Int64.not_le.mp c_44)).symm, if_pos (Int64.not_le.mp c_58)]) (And.intro (rfl) trivial))))) (by (try simp only [zrc, zrL, zr]); omega) (by (try simp only [zrc, zrL, zr]); omega)
  exact z_convG (lp13 (n + 1) 0 G1 hI1 (by omega) (by omega)) (And.intro (rfl) (And.intro (rfl) (And.intro (rfl) (And.intro (rfl) (And.intro (rfl) trivial))))) (by (try simp only [zrc, zrL, zr]); omega) (by (try simp only [zrc, zrL, zr]); omega)
theorem np_X2_beam : znp yX2_beam 2 := ⟨by decide +kernel, by decide +kernel, by decide +kernel⟩
set_option maxHeartbeats 8000000 in
set_option maxRecDepth 100000 in
theorem ct_X2_energyBeside_1 (D : zG) (B : Nat) {G : zH} (χ : Nat → Nat) (c a lv ls lm fo pa su : Nat) (va sa ua ma ra : Nat → Nat) (rq : Nat) (S : Nat → Int32) (by_ : Int32) (f l nm : Nat) (hR : zTr G χ c a lv ls lm fo pa su va sa ua ma ra rq S) (g : zGe S) (hc : 100 ≤ c) (e8 : S 8 = nI nm) (n8 : nm ≤ 8) (hf : f ≤ l) (hl : l < 256) (hb : zin by_ (-2000) 2000) (h2 : S 2 = 0 ∨ S 2 = 1) (h5 : S 5 = 0 ∨ S 5 = 1) (hk : S 10 = 1) (hZ : ∀ t, t ≤ l → zbL S (fun m j => zpa S m by_ j) nm t = (zbs S nm by_ t).toInt64) : Ct D B yX2_energyBeside (ws_ yX2_energyBeside cX2_energyBeside 4 (some .long)) (zrL 12 32 110) [.ref a, .int by_, .int (nI f), .int (nI l)] G (fun r9 G9 => r9 = some (.long (zen (zbs S nm by_) f l)) ∧ ∃ χ9 : Nat → Nat, zkee (zPb c) G χ G9 χ9 ∧ zTr G9 χ9 c a lv ls lm fo pa su va sa ua ma ra rq S) zno := by
  refine ct_intro (by decide +kernel) (Nat.le_of_ble_eq_true rfl) ?_
  intro X C
  have tf : G fo = some (.inr (2, [.int (S 12), .int (S 13), .int (S 14)])) := by
    have := hR.2.2.2.2.2.1.1
    unfold zfE at this
    rw [if_neg (by rw [hk]; decide), if_pos hk] at this
    exact this
  refine z_getsR (k := 40) C (by decide) q1712 dX2_energyBeside_0 ?_
  refine z_aload_n (i := 0) C dX2_energyBeside_3 rfl rfl ?_
  refine z_aload_n (i := 0) C dX2_energyBeside_4 rfl rfl ?_
  refine z_getf (ci := 1) (k := 9) C (hR.1.1) rfl rfl q533 dX2_energyBeside_5 ?_
  refine z_iload_n (i := 1) C dX2_energyBeside_8 rfl rfl ?_
  refine z_callFn (x := ⟨"TrackArray$Focus", "beside", "(I)LTrackArray$Focus;"⟩) (C0 := "TrackArray$Fixed") (np := 1) C (tf) rfl (by decide) (ct_X3_beside D B fo (S 12) (S 13) (S 14) by_ tf) q1714 q1726 q1728 q105 q1730 ⟨by decide +kernel, by decide +kernel, by decide +kernel⟩ (zr_ok rfl rfl) rfl rfl (Nat.le_of_ble_eq_true rfl) (⟨Nat.le_of_ble_eq_true rfl, Nat.le_of_ble_eq_true rfl⟩) dX2_energyBeside_9 ?_
  intro v9 G9 h9
  obtain ⟨q, rfl, hq, rfl⟩ := h9
  have K1 : zkee (fun _ => True) G χ (zup G q (.inr (2, [.int (S 12 + by_), .int (S 13), .int (S 14)]))) (zcol χ q 1) := zkee.new hq
  have hfo : zo (zup G q (.inr (2, [.int (S 12 + by_), .int (S 13), .int (S 14)]))) (zcol χ q 1) 1 q (zfE (upd S 12 (S 12 + by_)) va) := by
    have e10 : upd S 12 (S 12 + by_) 10 = S 10 := rfl
    have e11 : upd S 12 (S 12 + by_) 11 = S 11 := rfl
    have e12 : upd S 12 (S 12 + by_) 12 = S 12 + by_ := rfl
    have e13 : upd S 12 (S 12 + by_) 13 = S 13 := rfl
    have e14 : upd S 12 (S 12 + by_) 14 = S 14 := rfl
    unfold zfE
    rw [e10, e11, e12, e13, e14]
    rw [if_neg (by rw [hk]; decide), if_pos hk]
    exact zo.newc hq
  have hR1 := hR.kp g (fun _ _ => trivial) K1
  obtain ⟨G1, hG1⟩ : ∃ G1, G1 = zup G q (.inr (2, [.int (S 12 + by_), .int (S 13), .int (S 14)])) := ⟨_, rfl⟩
  obtain ⟨χ1, hχ1⟩ : ∃ χ1, χ1 = zcol χ q 1 := ⟨_, rfl⟩
  rw [← hG1, ← hχ1] at K1 hfo hR1
  refine z_heap hG1.symm ?_
  refine z_iload_n (i := 3) C dX2_energyBeside_14 rfl rfl ?_
  refine z_callVn C (hR1.1.1) rfl (ct_X2_beam D B χ1 c a lv ls lm fo pa su va sa ua ma ra rq S q l nm (fun m j => zpa S m by_ j) hR1 hc e8 n8 hl (zlayF D B hR1 g hc e8 n8 hl hb h2 h5 hfo)) q1741 q1658 q1659 q84 q1660 np_X2_beam (zr_ok rfl rfl) rfl rfl (Nat.le_of_ble_eq_true rfl) (⟨Nat.le_of_ble_eq_true rfl, Nat.le_of_ble_eq_true rfl⟩) dX2_energyBeside_15 ?_
  intro v9 G9 h9
  obtain ⟨sg, rfl, χ9, w9, p9, K2, hsg, hs9, hw9, hp9⟩ := h9
  have t9 := hR1.kpb g hc K2 hs9 hp9
  have hs := zSg_beam (D := D) (B := B) (N := l + 1) (f := zbs S nm by_) hsg t9.1.1 hs9.1 (by omega) (fun n hn => (hw9 n (by omega)).trans (hZ n (by omega)))
  refine z_iload_n (i := 2) C dX2_energyBeside_18 rfl rfl ?_
  refine z_iload_n (i := 3) C dX2_energyBeside_19 rfl rfl ?_
  refine z_callOB (x := ⟨"TrackArray$Measure", "of", "(LTrackArray$Signal;II)J"⟩) (owner := "TrackArray$Measure") (np := 3) (i := 0) C (by decide) (cb_X17_of D B (zbs S nm by_) _ sg f l (l + 1) hs (by omega) (by omega) (by omega)) q1742 q1476 q1475 q1477 q1478 q1479 ⟨by decide +kernel, by decide +kernel, by decide +kernel⟩ (Nat.le_of_ble_eq_true rfl) (by decide +kernel) (zr_ok rfl rfl) rfl rfl (Nat.le_of_ble_eq_true rfl) (⟨Nat.le_of_ble_eq_true rfl, Nat.le_of_ble_eq_true rfl⟩) dX2_energyBeside_20 ?_
  intro v9 G9 h9
  obtain ⟨rfl, rfl⟩ := h9
  exact z_lreturn C rfl dX2_energyBeside_23 (⟨rfl, χ9, (K1.mono (fun _ _ => trivial)).trans K2, t9⟩) (Nat.le_of_ble_eq_true rfl) (Nat.le_of_ble_eq_true rfl)
set_option maxHeartbeats 8000000 in
set_option maxRecDepth 100000 in
theorem ct_X2_energyBeside_0 (D : zG) (B : Nat) {G : zH} (χ : Nat → Nat) (c a lv ls lm fo pa su : Nat) (va sa ua ma ra : Nat → Nat) (rq : Nat) (S : Nat → Int32) (by_ : Int32) (f l nm : Nat) (hR : zTr G χ c a lv ls lm fo pa su va sa ua ma ra rq S) (g : zGe S) (hc : 100 ≤ c) (e8 : S 8 = nI nm) (n8 : nm ≤ 8) (hf : f ≤ l) (hl : l < 256) (hb : zin by_ (-2000) 2000) (h2 : S 2 = 0 ∨ S 2 = 1) (h5 : S 5 = 0 ∨ S 5 = 1) (hk : S 10 = 0) (hZ : ∀ t, t ≤ l → zbL S (fun m j => zpa S m by_ j) nm t = (zbs S nm by_ t).toInt64) : Ct D B yX2_energyBeside (ws_ yX2_energyBeside cX2_energyBeside 4 (some .long)) (zrL 12 32 110) [.ref a, .int by_, .int (nI f), .int (nI l)] G (fun r9 G9 => r9 = some (.long (zen (zbs S nm by_) f l)) ∧ ∃ χ9 : Nat → Nat, zkee (zPb c) G χ G9 χ9 ∧ zTr G9 χ9 c a lv ls lm fo pa su va sa ua ma ra rq S) zno := by
  refine ct_intro (by decide +kernel) (Nat.le_of_ble_eq_true rfl) ?_
  intro X C
  have tf : G fo = some (.inr (7, [.ref (va (S 11).toNatClampNeg), .int (S 12), .int (S 14)])) := by
    have := hR.2.2.2.2.2.1.1
    unfold zfE at this
    rw [if_pos hk] at this
    exact this
  refine z_getsR (k := 40) C (by decide) q1712 dX2_energyBeside_0 ?_
  refine z_aload_n (i := 0) C dX2_energyBeside_3 rfl rfl ?_
  refine z_aload_n (i := 0) C dX2_energyBeside_4 rfl rfl ?_
  refine z_getf (ci := 1) (k := 9) C (hR.1.1) rfl rfl q533 dX2_energyBeside_5 ?_
  refine z_iload_n (i := 1) C dX2_energyBeside_8 rfl rfl ?_
  refine z_callFn (x := ⟨"TrackArray$Focus", "beside", "(I)LTrackArray$Focus;"⟩) (C0 := "TrackArray$Riding") (np := 1) C (tf) rfl (by decide) (ct_X8_beside D B fo (va (S 11).toNatClampNeg) (S 12) (S 14) by_ tf) q1714 q1734 q1736 q114 q1738 ⟨by decide +kernel, by decide +kernel, by decide +kernel⟩ (zr_ok rfl rfl) rfl rfl (Nat.le_of_ble_eq_true rfl) (⟨Nat.le_of_ble_eq_true rfl, Nat.le_of_ble_eq_true rfl⟩) dX2_energyBeside_9 ?_
  intro v9 G9 h9
  obtain ⟨q, rfl, hq, rfl⟩ := h9
  have K1 : zkee (fun _ => True) G χ (zup G q (.inr (7, [.ref (va (S 11).toNatClampNeg), .int (S 12 + by_), .int (S 14)]))) (zcol χ q 1) := zkee.new hq
  have hfo : zo (zup G q (.inr (7, [.ref (va (S 11).toNatClampNeg), .int (S 12 + by_), .int (S 14)]))) (zcol χ q 1) 1 q (zfE (upd S 12 (S 12 + by_)) va) := by
    have e10 : upd S 12 (S 12 + by_) 10 = S 10 := rfl
    have e11 : upd S 12 (S 12 + by_) 11 = S 11 := rfl
    have e12 : upd S 12 (S 12 + by_) 12 = S 12 + by_ := rfl
    have e13 : upd S 12 (S 12 + by_) 13 = S 13 := rfl
    have e14 : upd S 12 (S 12 + by_) 14 = S 14 := rfl
    unfold zfE
    rw [e10, e11, e12, e13, e14]
    rw [if_pos hk]
    exact zo.newc hq
  have hR1 := hR.kp g (fun _ _ => trivial) K1
  obtain ⟨G1, hG1⟩ : ∃ G1, G1 = zup G q (.inr (7, [.ref (va (S 11).toNatClampNeg), .int (S 12 + by_), .int (S 14)])) := ⟨_, rfl⟩
  obtain ⟨χ1, hχ1⟩ : ∃ χ1, χ1 = zcol χ q 1 := ⟨_, rfl⟩
  rw [← hG1, ← hχ1] at K1 hfo hR1
  refine z_heap hG1.symm ?_
  refine z_iload_n (i := 3) C dX2_energyBeside_14 rfl rfl ?_
  refine z_callVn C (hR1.1.1) rfl (ct_X2_beam D B χ1 c a lv ls lm fo pa su va sa ua ma ra rq S q l nm (fun m j => zpa S m by_ j) hR1 hc e8 n8 hl (zlayF D B hR1 g hc e8 n8 hl hb h2 h5 hfo)) q1741 q1658 q1659 q84 q1660 np_X2_beam (zr_ok rfl rfl) rfl rfl (Nat.le_of_ble_eq_true rfl) (⟨Nat.le_of_ble_eq_true rfl, Nat.le_of_ble_eq_true rfl⟩) dX2_energyBeside_15 ?_
  intro v9 G9 h9
  obtain ⟨sg, rfl, χ9, w9, p9, K2, hsg, hs9, hw9, hp9⟩ := h9
  have t9 := hR1.kpb g hc K2 hs9 hp9
  have hs := zSg_beam (D := D) (B := B) (N := l + 1) (f := zbs S nm by_) hsg t9.1.1 hs9.1 (by omega) (fun n hn => (hw9 n (by omega)).trans (hZ n (by omega)))
  refine z_iload_n (i := 2) C dX2_energyBeside_18 rfl rfl ?_
  refine z_iload_n (i := 3) C dX2_energyBeside_19 rfl rfl ?_
  refine z_callOB (x := ⟨"TrackArray$Measure", "of", "(LTrackArray$Signal;II)J"⟩) (owner := "TrackArray$Measure") (np := 3) (i := 0) C (by decide) (cb_X17_of D B (zbs S nm by_) _ sg f l (l + 1) hs (by omega) (by omega) (by omega)) q1742 q1476 q1475 q1477 q1478 q1479 ⟨by decide +kernel, by decide +kernel, by decide +kernel⟩ (Nat.le_of_ble_eq_true rfl) (by decide +kernel) (zr_ok rfl rfl) rfl rfl (Nat.le_of_ble_eq_true rfl) (⟨Nat.le_of_ble_eq_true rfl, Nat.le_of_ble_eq_true rfl⟩) dX2_energyBeside_20 ?_
  intro v9 G9 h9
  obtain ⟨rfl, rfl⟩ := h9
  exact z_lreturn C rfl dX2_energyBeside_23 (⟨rfl, χ9, (K1.mono (fun _ _ => trivial)).trans K2, t9⟩) (Nat.le_of_ble_eq_true rfl) (Nat.le_of_ble_eq_true rfl)
set_option maxHeartbeats 8000000 in
set_option maxRecDepth 100000 in
theorem ct_X2_energyBeside_2 (D : zG) (B : Nat) {G : zH} (χ : Nat → Nat) (c a lv ls lm fo pa su : Nat) (va sa ua ma ra : Nat → Nat) (rq : Nat) (S : Nat → Int32) (by_ : Int32) (f l nm : Nat) (hR : zTr G χ c a lv ls lm fo pa su va sa ua ma ra rq S) (g : zGe S) (hc : 100 ≤ c) (e8 : S 8 = nI nm) (n8 : nm ≤ 8) (hf : f ≤ l) (hl : l < 256) (hb : zin by_ (-2000) 2000) (h2 : S 2 = 0 ∨ S 2 = 1) (h5 : S 5 = 0 ∨ S 5 = 1) (hk : S 10 = 2) (hZ : ∀ t, t ≤ l → zbL S (fun m j => zpa S m by_ j) nm t = (zbs S nm by_ t).toInt64) : Ct D B yX2_energyBeside (ws_ yX2_energyBeside cX2_energyBeside 4 (some .long)) (zrL 12 32 110) [.ref a, .int by_, .int (nI f), .int (nI l)] G (fun r9 G9 => r9 = some (.long (zen (zbs S nm by_) f l)) ∧ ∃ χ9 : Nat → Nat, zkee (zPb c) G χ G9 χ9 ∧ zTr G9 χ9 c a lv ls lm fo pa su va sa ua ma ra rq S) zno := by
  refine ct_intro (by decide +kernel) (Nat.le_of_ble_eq_true rfl) ?_
  intro X C
  have tf : G fo = some (.inr (8, [.int (S 12)])) := by
    have := hR.2.2.2.2.2.1.1
    unfold zfE at this
    rw [if_neg (by rw [hk]; decide), if_neg (by rw [hk]; decide)] at this
    exact this
  refine z_getsR (k := 40) C (by decide) q1712 dX2_energyBeside_0 ?_
  refine z_aload_n (i := 0) C dX2_energyBeside_3 rfl rfl ?_
  refine z_aload_n (i := 0) C dX2_energyBeside_4 rfl rfl ?_
  refine z_getf (ci := 1) (k := 9) C (hR.1.1) rfl rfl q533 dX2_energyBeside_5 ?_
  refine z_iload_n (i := 1) C dX2_energyBeside_8 rfl rfl ?_
  refine z_callFn (x := ⟨"TrackArray$Focus", "beside", "(I)LTrackArray$Focus;"⟩) (C0 := "TrackArray$Direction") (np := 1) C (tf) rfl (by decide) (ct_X11_beside D B fo (S 12) by_ tf) q1714 q1718 q1720 q120 q1722 ⟨by decide +kernel, by decide +kernel, by decide +kernel⟩ (zr_ok rfl rfl) rfl rfl (Nat.le_of_ble_eq_true rfl) (⟨Nat.le_of_ble_eq_true rfl, Nat.le_of_ble_eq_true rfl⟩) dX2_energyBeside_9 ?_
  intro v9 G9 h9
  obtain ⟨q, rfl, hq, rfl⟩ := h9
  have K1 : zkee (fun _ => True) G χ (zup G q (.inr (8, [.int (S 12 + by_)]))) (zcol χ q 1) := zkee.new hq
  have hfo : zo (zup G q (.inr (8, [.int (S 12 + by_)]))) (zcol χ q 1) 1 q (zfE (upd S 12 (S 12 + by_)) va) := by
    have e10 : upd S 12 (S 12 + by_) 10 = S 10 := rfl
    have e11 : upd S 12 (S 12 + by_) 11 = S 11 := rfl
    have e12 : upd S 12 (S 12 + by_) 12 = S 12 + by_ := rfl
    have e13 : upd S 12 (S 12 + by_) 13 = S 13 := rfl
    have e14 : upd S 12 (S 12 + by_) 14 = S 14 := rfl
    unfold zfE
    rw [e10, e11, e12, e13, e14]
    rw [if_neg (by rw [hk]; decide), if_neg (by rw [hk]; decide)]
    exact zo.newc hq
  have hR1 := hR.kp g (fun _ _ => trivial) K1
  obtain ⟨G1, hG1⟩ : ∃ G1, G1 = zup G q (.inr (8, [.int (S 12 + by_)])) := ⟨_, rfl⟩
  obtain ⟨χ1, hχ1⟩ : ∃ χ1, χ1 = zcol χ q 1 := ⟨_, rfl⟩
  rw [← hG1, ← hχ1] at K1 hfo hR1
  refine z_heap hG1.symm ?_
  refine z_iload_n (i := 3) C dX2_energyBeside_14 rfl rfl ?_
  refine z_callVn C (hR1.1.1) rfl (ct_X2_beam D B χ1 c a lv ls lm fo pa su va sa ua ma ra rq S q l nm (fun m j => zpa S m by_ j) hR1 hc e8 n8 hl (zlayF D B hR1 g hc e8 n8 hl hb h2 h5 hfo)) q1741 q1658 q1659 q84 q1660 np_X2_beam (zr_ok rfl rfl) rfl rfl (Nat.le_of_ble_eq_true rfl) (⟨Nat.le_of_ble_eq_true rfl, Nat.le_of_ble_eq_true rfl⟩) dX2_energyBeside_15 ?_
  intro v9 G9 h9
  obtain ⟨sg, rfl, χ9, w9, p9, K2, hsg, hs9, hw9, hp9⟩ := h9
  have t9 := hR1.kpb g hc K2 hs9 hp9
  have hs := zSg_beam (D := D) (B := B) (N := l + 1) (f := zbs S nm by_) hsg t9.1.1 hs9.1 (by omega) (fun n hn => (hw9 n (by omega)).trans (hZ n (by omega)))
  refine z_iload_n (i := 2) C dX2_energyBeside_18 rfl rfl ?_
  refine z_iload_n (i := 3) C dX2_energyBeside_19 rfl rfl ?_
  refine z_callOB (x := ⟨"TrackArray$Measure", "of", "(LTrackArray$Signal;II)J"⟩) (owner := "TrackArray$Measure") (np := 3) (i := 0) C (by decide) (cb_X17_of D B (zbs S nm by_) _ sg f l (l + 1) hs (by omega) (by omega) (by omega)) q1742 q1476 q1475 q1477 q1478 q1479 ⟨by decide +kernel, by decide +kernel, by decide +kernel⟩ (Nat.le_of_ble_eq_true rfl) (by decide +kernel) (zr_ok rfl rfl) rfl rfl (Nat.le_of_ble_eq_true rfl) (⟨Nat.le_of_ble_eq_true rfl, Nat.le_of_ble_eq_true rfl⟩) dX2_energyBeside_20 ?_
  intro v9 G9 h9
  obtain ⟨rfl, rfl⟩ := h9
  exact z_lreturn C rfl dX2_energyBeside_23 (⟨rfl, χ9, (K1.mono (fun _ _ => trivial)).trans K2, t9⟩) (Nat.le_of_ble_eq_true rfl) (Nat.le_of_ble_eq_true rfl)
theorem zeB (D : zG) (B : Nat) {G : zH} (χ : Nat → Nat) (c a lv ls lm fo pa su : Nat) (va sa ua ma ra : Nat → Nat) (rq : Nat) (S : Nat → Int32) (by_ : Int32) (f l nm : Nat) (hR : zTr G χ c a lv ls lm fo pa su va sa ua ma ra rq S) (g : zGe S) (hc : 100 ≤ c) (e8 : S 8 = nI nm) (n8 : nm ≤ 8) (hf : f ≤ l) (hl : l < 256) (hb : zin by_ (-2000) 2000) (h2 : S 2 = 0 ∨ S 2 = 1) (h5 : S 5 = 0 ∨ S 5 = 1) (hZ : ∀ t, t ≤ l → zbL S (fun m j => zpa S m by_ j) nm t = (zbs S nm by_ t).toInt64) :
    Ct D B yX2_energyBeside (ws_ yX2_energyBeside cX2_energyBeside 4 (some .long)) (zrL 12 32 110) [.ref a, .int by_, .int (nI f), .int (nI l)] G (fun r9 G9 => r9 = some (.long (zen (zbs S nm by_) f l)) ∧ ∃ χ9 : Nat → Nat, zkee (zPb c) G χ G9 χ9 ∧ zTr G9 χ9 c a lv ls lm fo pa su va sa ua ma ra rq S) zno := by
  obtain ⟨k, hk, ek⟩ := g.fk
  rcases (show k = 0 ∨ k = 1 ∨ k = 2 by omega) with e | e | e
  · subst e
    exact ct_X2_energyBeside_0 D B χ c a lv ls lm fo pa su va sa ua ma ra rq S by_ f l nm hR g hc e8 n8 hf hl hb h2 h5 ek hZ
  · subst e
    exact ct_X2_energyBeside_1 D B χ c a lv ls lm fo pa su va sa ua ma ra rq S by_ f l nm hR g hc e8 n8 hf hl hb h2 h5 ek hZ
  · subst e
    exact ct_X2_energyBeside_2 D B χ c a lv ls lm fo pa su va sa ua ma ra rq S by_ f l nm hR g hc e8 n8 hf hl hb h2 h5 ek hZ
