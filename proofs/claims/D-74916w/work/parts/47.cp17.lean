/-! component: the best around, energies beside -/
theorem zba_s {w : Int32 → Int64} {n : Nat} (b1 : Int32) (h1 : b1 = if w (zba w n) < w (-nI (n + 1)) then -nI (n + 1) else zba w n) : zba w (n + 1) = if w b1 < w (nI (n + 1)) then nI (n + 1) else b1 := by
  rw [h1]
  rfl
set_option maxHeartbeats 4000000 in
set_option maxRecDepth 100000 in
theorem ct_X1_bestAround (D : zG) (B : Nat) {G : zH} (n b mL : Nat) (I : zH → Prop) (w : Int32 → Int64) (ok : Int32 → Prop) (hs : zWo D B "TrackArray$Worth" "of" b I w ok (zrL 14 32 110) mL) (hI0 : I G) (hok : ∀ k, k ≤ n → ok (nI k) ∧ ok (-nI k)) (hn : n < 256) (hmL : mL ≤ 6) : Ct D B yX1_bestAround (ws_ yX1_bestAround cX1_bestAround 10 (some .int)) (zrL 17 16416 56430) [.int (nI n), .ref b] G (fun r9 G9 => r9 = some (.int (zba w n)) ∧ I G9) zno := by
  refine ct_intro (by decide +kernel) (Nat.le_of_ble_eq_true rfl) ?_
  intro X C
  refine z_iconst (v := 0) C dX1_bestAround_0 (by decide) ?_
  refine z_istore_n (i := 2) C dX1_bestAround_1 rfl (Nat.le_of_ble_eq_true rfl) rfl ?_
  refine z_aload_n (i := 1) C dX1_bestAround_2 rfl rfl ?_
  refine z_iconst (v := 0) C dX1_bestAround_3 (by decide) ?_
  refine z_callW C (hs) (hI0) ((hok 0 (by omega)).1) q1571 q1573 q2475 ⟨by decide, by decide⟩ (⟨Nat.le_of_ble_eq_true rfl, by show 8 + (2 + 11) + (8 + (mL + 11) + 3660) ≤ 3780; omega⟩) rfl (Nat.le_of_ble_eq_true rfl) (⟨by (try simp only [zrc, zrL, zr]); omega, by (try simp only [zrc, zrL, zr]); omega⟩) dX1_bestAround_4 ?_
  intro G1 hI1
  refine z_lstore_n (i := 3) C dX1_bestAround_9 rfl (Nat.le_of_ble_eq_true rfl) rfl ?_
  refine z_iconst (v := 1) C dX1_bestAround_10 (by decide) ?_
  refine z_istore C dX1_bestAround_11 (Nat.le_of_ble_eq_true rfl) rfl ?_
  have lp13 : ∀ (μ : Nat) (k : Nat) (G3 : zH) (hI3 : I G3) (k1 : k ≤ n), n - k < μ → Z X 13 [some (.int (nI n)), some (.ref b), some (.int (zba w k)), some (.long (w (zba w k))), none, some (.int (nI (k + 1))), none, none, none, none] [] G3 (32 + 64 * k) (110 + 220 * k) := by
    intro μ
    induction μ with
    | zero => intro k G3 hI3 k1 hμ; exact absurd hμ (Nat.not_lt_zero _)
    | succ μ ih13 =>
      intro k G3 hI3 k1 hμ
      refine z_iload C dX1_bestAround_13 rfl ?_
      refine z_iload_n (i := 0) C dX1_bestAround_15 rfl rfl ?_
      refine z_icmp_gt (tgt := 73) C dX1_bestAround_16 (by decide) (fun c_16 => ?_) (fun c_16 => ?_)
      · have hend : k = n := by
          have h9 := (nI_ltI (by omega) (by omega)).mp c_16
          omega
        subst hend
        refine z_iload_n (i := 2) C dX1_bestAround_73 rfl rfl ?_
        exact z_ireturn C rfl (rfl) dX1_bestAround_74 (⟨rfl, hI3⟩) (by (try simp only [zrc, zrL, zr]); omega) (by (try simp only [zrc, zrL, zr]); omega)
      · have hle : k + 1 ≤ n := zngt c_16 (by omega) (by omega)
        refine z_aload_n (i := 1) C dX1_bestAround_19 rfl rfl ?_
        refine z_iload C dX1_bestAround_20 rfl ?_
        refine z_ineg C dX1_bestAround_22 ?_
        refine z_callW C (hs) (hI3) ((hok (k + 1) hle).2) q1571 q1573 q2475 ⟨by decide, by decide⟩ (⟨Nat.le_of_ble_eq_true rfl, by show 8 + (2 + 11) + (8 + (mL + 11) + 3660) ≤ 3780; omega⟩) rfl (Nat.le_of_ble_eq_true rfl) (⟨by (try simp only [zrc, zrL, zr]); omega, by (try simp only [zrc, zrL, zr]); omega⟩) dX1_bestAround_23 ?_
        intro G4 hI4
        refine z_lstore C dX1_bestAround_28 (Nat.le_of_ble_eq_true rfl) rfl ?_
        refine z_aload_n (i := 1) C dX1_bestAround_30 rfl rfl ?_
        refine z_iload C dX1_bestAround_31 rfl ?_
        refine z_callW C (hs) (hI4) ((hok (k + 1) hle).1) q1571 q1573 q2475 ⟨by decide, by decide⟩ (⟨Nat.le_of_ble_eq_true rfl, by show 8 + (2 + 11) + (8 + (mL + 11) + 3660) ≤ 3780; omega⟩) rfl (Nat.le_of_ble_eq_true rfl) (⟨by (try simp only [zrc, zrL, zr]); omega, by (try simp only [zrc, zrL, zr]); omega⟩) dX1_bestAround_33 ?_
        intro G5 hI5
        refine z_lstore C dX1_bestAround_38 (Nat.le_of_ble_eq_true rfl) rfl ?_
        refine z_lload C dX1_bestAround_40 rfl ?_
        refine z_lload_n (i := 3) C dX1_bestAround_42 rfl rfl ?_
        refine z_lc_le (tgt := 54) C dX1_bestAround_43 dX1_bestAround_44 (by decide) (fun c_44 => ?_) (fun c_44 => ?_)
        · refine z_lload C dX1_bestAround_54 rfl ?_
          refine z_lload_n (i := 3) C dX1_bestAround_56 rfl rfl ?_
          refine z_lc_le (tgt := 67) C dX1_bestAround_57 dX1_bestAround_58 (by decide) (fun c_58 => ?_) (fun c_58 => ?_)
          · refine z_iinc (v := nI (k + 2)) C dX1_bestAround_67 rfl (ziinc (k + 1)) (Nat.le_of_ble_eq_true rfl) rfl ?_
            refine z_goto (tgt := 13) C dX1_bestAround_70 (by decide) ?_
            exact z_convG (ih13 (k + 1) G5 hI5 (by omega) (by omega)) (And.intro (rfl) (And.intro (rfl) (And.intro (by first | rw [zba_s _ (if_neg (Int64.not_lt.mpr c_44)).symm, if_neg (Int64.not_lt.mpr c_58)] | rw [zba_s _ (if_neg (Int64.not_lt.mpr c_44)).symm, if_pos (Int64.not_le.mp c_58)] | rw [zba_s _ (if_pos (Int64.not_le.mp c_44)).symm, if_neg (Int64.not_lt.mpr c_58)] | rw [zba_s _ (if_pos (Int64.not_le.mp c_44)).symm, if_pos (Int64.not_le.mp c_58)]) (And.intro (by first | rw [zba_s _ (if_neg (Int64.not_lt.mpr c_44)).symm, if_neg (Int64.not_lt.mpr c_58)] | rw [zba_s _ (if_neg (Int64.not_lt.mpr c_44)).symm, if_pos (Int64.not_le.mp c_58)] | rw [zba_s _ (if_pos (Int64.not_le.mp c_44)).symm, if_neg (Int64.not_lt.mpr c_58)] | rw [zba_s _ (if_pos (Int64.not_le.mp c_44)).symm, if_pos (Int64.not_le.mp c_58)]) (And.intro (rfl) trivial))))) (by (try simp only [zrc, zrL, zr]); omega) (by (try simp only [zrc, zrL, zr]); omega)
          · refine z_iload C dX1_bestAround_61 rfl ?_
            refine z_istore_n (i := 2) C dX1_bestAround_63 rfl (Nat.le_of_ble_eq_true rfl) rfl ?_
            refine z_lload C dX1_bestAround_64 rfl ?_
            refine z_lstore_n (i := 3) C dX1_bestAround_66 rfl (Nat.le_of_ble_eq_true rfl) rfl ?_
            refine z_iinc (v := nI (k + 2)) C dX1_bestAround_67 rfl (ziinc (k + 1)) (Nat.le_of_ble_eq_true rfl) rfl ?_
            refine z_goto (tgt := 13) C dX1_bestAround_70 (by decide) ?_
            exact z_convG (ih13 (k + 1) G5 hI5 (by omega) (by omega)) (And.intro (rfl) (And.intro (rfl) (And.intro (by first | rw [zba_s _ (if_neg (Int64.not_lt.mpr c_44)).symm, if_neg (Int64.not_lt.mpr c_58)] | rw [zba_s _ (if_neg (Int64.not_lt.mpr c_44)).symm, if_pos (Int64.not_le.mp c_58)] | rw [zba_s _ (if_pos (Int64.not_le.mp c_44)).symm, if_neg (Int64.not_lt.mpr c_58)] | rw [zba_s _ (if_pos (Int64.not_le.mp c_44)).symm, if_pos (Int64.not_le.mp c_58)]) (And.intro (by first | rw [zba_s _ (if_neg (Int64.not_lt.mpr c_44)).symm, if_neg (Int64.not_lt.mpr c_58)] | rw [zba_s _ (if_neg (Int64.not_lt.mpr c_44)).symm, if_pos (Int64.not_le.mp c_58)] | rw [zba_s _ (if_pos (Int64.not_le.mp c_44)).symm, if_neg (Int64.not_lt.mpr c_58)] | rw [zba_s _ (if_pos (Int64.not_le.mp c_44)).symm, if_pos (Int64.not_le.mp c_58)]) (And.intro (rfl) trivial))))) (by (try simp only [zrc, zrL, zr]); omega) (by (try simp only [zrc, zrL, zr]); omega)
        · refine z_iload C dX1_bestAround_47 rfl ?_
          refine z_ineg C dX1_bestAround_49 ?_
          refine z_istore_n (i := 2) C dX1_bestAround_50 rfl (Nat.le_of_ble_eq_true rfl) rfl ?_
          refine z_lload C dX1_bestAround_51 rfl ?_
          refine z_lstore_n (i := 3) C dX1_bestAround_53 rfl (Nat.le_of_ble_eq_true rfl) rfl ?_
          refine z_lload C dX1_bestAround_54 rfl ?_
          refine z_lload_n (i := 3) C dX1_bestAround_56 rfl rfl ?_
          refine z_lc_le (tgt := 67) C dX1_bestAround_57 dX1_bestAround_58 (by decide) (fun c_58 => ?_) (fun c_58 => ?_)
          · refine z_iinc (v := nI (k + 2)) C dX1_bestAround_67 rfl (ziinc (k + 1)) (Nat.le_of_ble_eq_true rfl) rfl ?_
            refine z_goto (tgt := 13) C dX1_bestAround_70 (by decide) ?_
            exact z_convG (ih13 (k + 1) G5 hI5 (by omega) (by omega)) (And.intro (rfl) (And.intro (rfl) (And.intro (by first | rw [zba_s _ (if_neg (Int64.not_lt.mpr c_44)).symm, if_neg (Int64.not_lt.mpr c_58)] | rw [zba_s _ (if_neg (Int64.not_lt.mpr c_44)).symm, if_pos (Int64.not_le.mp c_58)] | rw [zba_s _ (if_pos (Int64.not_le.mp c_44)).symm, if_neg (Int64.not_lt.mpr c_58)] | rw [zba_s _ (if_pos (Int64.not_le.mp c_44)).symm, if_pos (Int64.not_le.mp c_58)]) (And.intro (by first | rw [zba_s _ (if_neg (Int64.not_lt.mpr c_44)).symm, if_neg (Int64.not_lt.mpr c_58)] | rw [zba_s _ (if_neg (Int64.not_lt.mpr c_44)).symm, if_pos (Int64.not_le.mp c_58)] | rw [zba_s _ (if_pos (Int64.not_le.mp c_44)).symm, if_neg (Int64.not_lt.mpr c_58)] | rw [zba_s _ (if_pos (Int64.not_le.mp c_44)).symm, if_pos (Int64.not_le.mp c_58)]) (And.intro (rfl) trivial))))) (by (try simp only [zrc, zrL, zr]); omega) (by (try simp only [zrc, zrL, zr]); omega)
          · refine z_iload C dX1_bestAround_61 rfl ?_
            refine z_istore_n (i := 2) C dX1_bestAround_63 rfl (Nat.le_of_ble_eq_true rfl) rfl ?_
            refine z_lload C dX1_bestAround_64 rfl ?_
            refine z_lstore_n (i := 3) C dX1_bestAround_66 rfl (Nat.le_of_ble_eq_true rfl) rfl ?_
            refine z_iinc (v := nI (k + 2)) C dX1_bestAround_67 rfl (ziinc (k + 1)) (Nat.le_of_ble_eq_true rfl) rfl ?_
            refine z_goto (tgt := 13) C dX1_bestAround_70 (by decide) ?_
            exact z_convG (ih13 (k + 1) G5 hI5 (by omega) (by omega)) (And.intro (rfl) (And.intro (rfl) (And.intro (by first | rw [zba_s _ (if_neg (Int64.not_lt.mpr c_44)).symm, if_neg (Int64.not_lt.mpr c_58)] | rw [zba_s _ (if_neg (Int64.not_lt.mpr c_44)).symm, if_pos (Int64.not_le.mp c_58)] | rw [zba_s _ (if_pos (Int64.not_le.mp c_44)).symm, if_neg (Int64.not_lt.mpr c_58)] | rw [zba_s _ (if_pos (Int64.not_le.mp c_44)).symm, if_pos (Int64.not_le.mp c_58)]) (And.intro (by first | rw [zba_s _ (if_neg (Int64.not_lt.mpr c_44)).symm, if_neg (Int64.not_lt.mpr c_58)] | rw [zba_s _ (if_neg (Int64.not_lt.mpr c_44)).symm, if_pos (Int64.not_le.mp c_58)] | rw [zba_s _ (if_pos (Int64.not_le.mp c_44)).symm, if_neg (Int64.not_lt.mpr c_58)] | rw [zba_s _ (if_pos (Int64.not_le.mp c_44)).symm, if_pos (Int64.not_le.mp c_58)]) (And.intro (rfl) trivial))))) (by (try simp only [zrc, zrL, zr]); omega) (by (try simp only [zrc, zrL, zr]); omega)
  exact z_convG (lp13 (n + 1) 0 G1 hI1 (by omega) (by omega)) (And.intro (rfl) (And.intro (rfl) (And.intro (rfl) (And.intro (rfl) (And.intro (rfl) trivial))))) (by (try simp only [zrc, zrL, zr]); omega) (by (try simp only [zrc, zrL, zr]); omega)
