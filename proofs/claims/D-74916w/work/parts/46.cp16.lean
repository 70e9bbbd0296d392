/-! component: powers, means, correlations, the best around -/
theorem zsum0 (g : Nat → Int64) (k : Nat) : zsumL g 0 (k + 1) = zsumL g 0 k + g k := zsumL_1 g (Nat.zero_le k)
theorem zmodgap {p x j k : Nat} (hx : x % p = k) (h1 : j < x) (h2 : x < j + p) : ¬ j % p = k := by
  intro hj
  have h := Nat.sub_mod_eq_zero_of_mod_eq (hx.trans hj.symm)
  rw [Nat.mod_eq_of_lt (by omega)] at h
  omega
theorem zfold_gap (f : Nat → Int32) (p a k m : Nat) : ∀ d, (∀ j, m ≤ j → j < m + d → ¬ j % p = k) → zfold f p a (m + d) k = zfold f p a m k
  | 0, _ => rfl
  | d + 1, h => by
    have e := zfold_1 f p (a := a) (i := a + (m + d)) (by omega) k
    rw [show a + (m + d) + 1 - a = m + (d + 1) by omega, show a + (m + d) - a = m + d by omega, if_neg (h (m + d) (by omega) (by omega)), Int64.add_zero] at e
    rw [e]
    exact zfold_gap f p a k m d (fun j h1 h2 => h j h1 (by omega))
/-- one stride more -/
theorem zfold_st (f : Nat → Int32) (p a k x : Nat) (hp : 1 ≤ p) (hx : x % p = k) : zfold f p a (x + p) k = zfold f p a x k + (f (a + x)).toInt64 := by
  have e := zfold_1 f p (a := a) (i := a + x) (by omega) k
  rw [show a + x + 1 - a = x + 1 by omega, show a + x - a = x by omega, if_pos hx] at e
  rw [show x + p = (x + 1) + (p - 1) by omega, zfold_gap f p a k (x + 1) (p - 1) (fun j h1 h2 hj => by
    have h := Nat.sub_mod_eq_zero_of_mod_eq (hj.trans hx.symm)
    rw [Nat.mod_eq_of_lt (by omega)] at h
    omega)]
  exact e
theorem zfold_0 (f : Nat → Int32) (p a k : Nat) (hk : k < p) : zfold f p a k k = 0 := by
  have := zfold_gap f p a k 0 k (fun j h1 h2 hj => by rw [Nat.mod_eq_of_lt (by omega)] at hj; omega)
  rw [Nat.zero_add] at this
  exact this
set_option maxHeartbeats 4000000 in
set_option maxRecDepth 100000 in
theorem ct_X1_power (D : zG) (B : Nat) {G : zH} (f : Nat → Int32) (b p a l N : Nat) (hs : zSg D B G b N f) (ha : a ≤ l) (hl : l < N) (hN : N ≤ 256) (hp1 : 1 ≤ p) (hp : p ≤ 64) : Ct D B yX1_power (ws_ yX1_power cX1_power 10 (some .long)) (zr 2) [.ref b, .int (nI p), .int (nI a), .int (nI l)] G (zpe (some (.long (zpw f p a l))) G) zno := by
  refine ct_intro (by decide +kernel) (Nat.le_of_ble_eq_true rfl) ?_
  intro X C
  refine z_lconst (v := 0) C dX1_power_0 (by decide) ?_
  refine z_lstore C dX1_power_1 (Nat.le_of_ble_eq_true rfl) rfl ?_
  refine z_iconst (v := 0) C dX1_power_3 (by decide) ?_
  refine z_istore C dX1_power_4 (Nat.le_of_ble_eq_true rfl) rfl ?_
  have lp6 : ∀ (μ : Nat) (k : Nat) (k1 : k ≤ p), p - k < μ → Z X 6 [some (.ref b), some (.int (nI p)), some (.int (nI a)), some (.int (nI l)), some (.long (zsumL (fun k => zfold f p a (l + 1 - a) k * zfold f p a (l + 1 - a) k) 0 k)), none, some (.int (nI k)), none, none, none] [] G 0 0 := by
    intro μ
    induction μ with
    | zero => intro k k1 hμ; exact absurd hμ (Nat.not_lt_zero _)
    | succ μ ih6 =>
      intro k k1 hμ
      refine z_iload C dX1_power_6 rfl ?_
      refine z_iload_n (i := 1) C dX1_power_8 rfl rfl ?_
      refine z_icmp_ge (tgt := 65) C dX1_power_9 (by decide) (fun c_9 => ?_) (fun c_9 => ?_)
      · have hendk : k = p := by have := zge c_9 (by omega) (by omega); omega
        subst hendk
        refine z_lload C dX1_power_65 rfl ?_
        exact z_lreturn C rfl dX1_power_67 (⟨zvl rfl, rfl⟩) (Nat.le_of_ble_eq_true rfl) (Nat.le_of_ble_eq_true rfl)
      · have hltk : k < p := znge c_9 (by omega) (by omega)
        refine z_lconst (v := 0) C dX1_power_12 (by decide) ?_
        refine z_lstore C dX1_power_13 (Nat.le_of_ble_eq_true rfl) rfl ?_
        refine z_iload_n (i := 2) C dX1_power_15 rfl rfl ?_
        refine z_iload C dX1_power_16 rfl ?_
        refine z_iadd C dX1_power_18 ?_
        refine z_seti (nI_add a k) ?_
        refine z_istore C dX1_power_19 (Nat.le_of_ble_eq_true rfl) rfl ?_
        have lp21 : ∀ (μ : Nat) (x : Nat) (x1 : x % p = k) (x2 : x = k ∨ (p ≤ x ∧ a + x ≤ l + p)) (x3 : a + x ≤ l + p + 64), l + 400 - (a + x) < μ → Z X 21 [some (.ref b), some (.int (nI p)), some (.int (nI a)), some (.int (nI l)), some (.long (zsumL (fun k => zfold f p a (l + 1 - a) k * zfold f p a (l + 1 - a) k) 0 k)), none, some (.int (nI k)), some (.long (zfold f p a x k)), none, some (.int (nI (a + x)))] [] G 0 0 := by
          intro μ
          induction μ with
          | zero => intro x x1 x2 x3 hμ; exact absurd hμ (Nat.not_lt_zero _)
          | succ μ ih21 =>
            intro x x1 x2 x3 hμ
            refine z_iload C dX1_power_21 rfl ?_
            refine z_iload_n (i := 3) C dX1_power_23 rfl rfl ?_
            refine z_icmp_gt (tgt := 49) C dX1_power_24 (by decide) (fun c_24 => ?_) (fun c_24 => ?_)
            · have hend : l < (a + x) := zgt c_24 (by omega) (by omega)
              refine z_lload C dX1_power_49 rfl ?_
              refine z_lload C dX1_power_51 rfl ?_
              refine z_lload C dX1_power_53 rfl ?_
              refine z_lmul C dX1_power_55 ?_
              refine z_ladd C dX1_power_56 ?_
              refine z_lstore C dX1_power_57 (Nat.le_of_ble_eq_true rfl) rfl ?_
              refine z_iinc (v := nI (k + 1)) C dX1_power_59 rfl (ziinc k) (Nat.le_of_ble_eq_true rfl) rfl ?_
              refine z_goto (tgt := 6) C dX1_power_62 (by decide) ?_
              have he : zfold f p a x k = zfold f p a (l + 1 - a) k := by
                rw [show x = (l + 1 - a) + (x - (l + 1 - a)) by omega]
                refine zfold_gap f p a k (l + 1 - a) _ (fun j h1 h2 => ?_)
                rcases x2 with q | q
                · intro hj
                  rw [q] at h2
                  rw [Nat.mod_eq_of_lt (by omega)] at hj
                  omega
                · exact zmodgap x1 (by omega) (by omega)
              exact z_convG (ih6 (k + 1) (by omega) (by omega)) (And.intro (rfl) (And.intro (rfl) (And.intro (rfl) (And.intro (rfl) (And.intro (by rw [he, zsum0]) (And.intro (rfl) trivial)))))) (Nat.le_of_ble_eq_true rfl) (Nat.le_of_ble_eq_true rfl)
            · have hle : (a + x) ≤ l := zngt c_24 (by omega) (by omega)
              refine z_lload C dX1_power_27 rfl ?_
              refine z_aload_n (i := 0) C dX1_power_29 rfl rfl ?_
              refine z_iload C dX1_power_30 rfl ?_
              refine z_sig C (hs) ((by omega : a + x < N)) (by omega) q1540 q1483 q2475 ⟨rfl, rfl⟩ rfl (Nat.le_of_ble_eq_true rfl) (⟨Nat.le_of_ble_eq_true rfl, Nat.le_of_ble_eq_true rfl⟩) dX1_power_32 ?_
              refine z_ladd C dX1_power_37 ?_
              refine z_lstore C dX1_power_38 (Nat.le_of_ble_eq_true rfl) rfl ?_
              refine z_iload C dX1_power_40 rfl ?_
              refine z_iload_n (i := 1) C dX1_power_42 rfl rfl ?_
              refine z_iadd C dX1_power_43 ?_
              refine z_seti (y := nI (a + (x + p))) ((nI_add (a + x) p).trans (congrArg nI (by omega))) ?_
              refine z_istore C dX1_power_44 (Nat.le_of_ble_eq_true rfl) rfl ?_
              refine z_goto (tgt := 21) C dX1_power_46 (by decide) ?_
              exact z_convG (ih21 (x + p) (by rw [Nat.add_mod_right]; exact x1) (Or.inr ⟨by omega, by omega⟩) (by omega) (by omega)) (And.intro (rfl) (And.intro (rfl) (And.intro (rfl) (And.intro (rfl) (And.intro (rfl) (And.intro (rfl) (And.intro (by rw [zfold_st f p a k x hp1 x1]) (And.intro (rfl) trivial)))))))) (Nat.le_of_ble_eq_true rfl) (Nat.le_of_ble_eq_true rfl)
        exact z_convG (lp21 (l + 401) k (Nat.mod_eq_of_lt hltk) (Or.inl rfl) (by omega) (by omega)) (And.intro (rfl) (And.intro (rfl) (And.intro (rfl) (And.intro (rfl) (And.intro (rfl) (And.intro (rfl) (And.intro (by rw [zfold_0 f p a k hltk]) (And.intro (rfl) trivial)))))))) (Nat.le_of_ble_eq_true rfl) (Nat.le_of_ble_eq_true rfl)
  exact z_convG (lp6 (p + 1) 0 (by omega) (by omega)) (And.intro (rfl) (And.intro (rfl) (And.intro (rfl) (And.intro (rfl) (And.intro (rfl) (And.intro (rfl) trivial)))))) (Nat.le_of_ble_eq_true rfl) (Nat.le_of_ble_eq_true rfl)
theorem np_X1_power : znp yX1_power 4 := ⟨by decide +kernel, by decide +kernel, by decide +kernel⟩
set_option maxHeartbeats 4000000 in
set_option maxRecDepth 100000 in
theorem ct_X1_strength (D : zG) (B : Nat) {G : zH} (f : Nat → Int32) (b p a l N : Nat) (hs : zSg D B G b N f) (ha : a ≤ l) (hl : l < N) (hN : N ≤ 256) (hp1 : 1 ≤ p) (hp : p ≤ 64) : Ct D B yX1_strength (ws_ yX1_strength cX1_strength 4 (some .long)) (zr 3) [.ref b, .int (nI p), .int (nI a), .int (nI l)] G (zpe (some (.long (zst f p a l))) G) zno := by
  refine ct_intro (by decide +kernel) (Nat.le_of_ble_eq_true rfl) ?_
  intro X C
  refine z_aload_n (i := 0) C dX1_strength_0 rfl rfl ?_
  refine z_iload_n (i := 1) C dX1_strength_1 rfl rfl ?_
  refine z_iload_n (i := 2) C dX1_strength_2 rfl rfl ?_
  refine z_iload_n (i := 3) C dX1_strength_3 rfl rfl ?_
  refine z_callSe C (ct_X1_power D B f b p a l N hs ha hl hN hp1 hp) q1686 q1687 q83 q1688 np_X1_power (zr_ok rfl rfl) rfl rfl (Nat.le_of_ble_eq_true rfl) (⟨Nat.le_of_ble_eq_true rfl, Nat.le_of_ble_eq_true rfl⟩) dX1_strength_4 ?_
  refine z_iload_n (i := 1) C dX1_strength_7 rfl rfl ?_
  refine z_i2l C dX1_strength_8 (nI_l (by omega)) ?_
  refine z_lmul C dX1_strength_9 ?_
  refine z_iload_n (i := 3) C dX1_strength_10 rfl rfl ?_
  refine z_iload_n (i := 2) C dX1_strength_11 rfl rfl ?_
  refine z_isub C dX1_strength_12 ?_
  refine z_seti (y := nI (l - a)) (pk_sub (by omega)) ?_
  refine z_iconst (v := 1) C dX1_strength_13 (by decide) ?_
  refine z_iadd C dX1_strength_14 ?_
  refine z_seti (y := nI (l + 1 - a)) ((nI_1 _).trans (by congr 1; omega)) ?_
  refine z_i2l C dX1_strength_15 (nI_l (by omega)) ?_
  refine z_ldiv C dX1_strength_16 (fun e => absurd ((lN_eq (b := 0) (by omega) (by decide)).mp e) (by omega)) ?_
  exact z_lreturn C rfl dX1_strength_17 (⟨rfl, rfl⟩) (Nat.le_of_ble_eq_true rfl) (Nat.le_of_ble_eq_true rfl)
set_option maxHeartbeats 4000000 in
set_option maxRecDepth 100000 in
theorem ct_X1_mean (D : zG) (B : Nat) {G : zH} (f : Nat → Int32) (b a l N : Nat) (hs : zSg D B G b N f) (ha : a ≤ l) (hl : l < N) (hN : N ≤ 256) (hF : vf_n64 (FP.ddiv (FP.l2d (zen f a l)) (FP.i2d (nI (l + 1 - a))))) : Ct D B yX1_mean (ws_ yX1_mean cX1_mean 3 (some .double)) (zr 3) [.ref b, .int (nI a), .int (nI l)] G (zpe (some (.double (FP.ddiv (FP.l2d (zen f a l)) (FP.i2d (nI (l + 1 - a)))))) G) zno := by
  refine ct_intro (by decide +kernel) (Nat.le_of_ble_eq_true rfl) ?_
  intro X C
  refine z_getsR (k := 40) C (by decide) q1530 dX1_mean_0 ?_
  refine z_aload_n (i := 0) C dX1_mean_3 rfl rfl ?_
  refine z_iload_n (i := 1) C dX1_mean_4 rfl rfl ?_
  refine z_iload_n (i := 2) C dX1_mean_5 rfl rfl ?_
  refine z_callOB (x := ⟨"TrackArray$Measure", "of", "(LTrackArray$Signal;II)J"⟩) (owner := "TrackArray$Measure") (np := 3) (i := 0) C (by decide) (cb_X17_of D B f _ b a l N hs (by omega) hl hN) q1474 q1476 q1475 q1477 q1478 q1479 ⟨by decide +kernel, by decide +kernel, by decide +kernel⟩ (Nat.le_of_ble_eq_true rfl) (by decide +kernel) (zr_ok rfl rfl) rfl rfl (Nat.le_of_ble_eq_true rfl) (⟨Nat.le_of_ble_eq_true rfl, Nat.le_of_ble_eq_true rfl⟩) dX1_mean_6 ?_
  intro v9 G9 h9
  obtain ⟨rfl, rfl⟩ := h9
  refine z_l2d C dX1_mean_9 ?_
  refine z_iload_n (i := 2) C dX1_mean_10 rfl rfl ?_
  refine z_iload_n (i := 1) C dX1_mean_11 rfl rfl ?_
  refine z_isub C dX1_mean_12 ?_
  refine z_seti (y := nI (l - a)) (pk_sub (by omega)) ?_
  refine z_iconst (v := 1) C dX1_mean_13 (by decide) ?_
  refine z_iadd C dX1_mean_14 ?_
  refine z_seti (y := nI (l + 1 - a)) ((nI_1 _).trans (by congr 1; omega)) ?_
  refine z_i2d C dX1_mean_15 ?_
  refine z_ddiv C dX1_mean_16 (hF) ?_
  exact z_dreturn C rfl dX1_mean_17 (⟨rfl, rfl⟩) (Nat.le_of_ble_eq_true rfl) (Nat.le_of_ble_eq_true rfl)
theorem zco_1 (S : Nat → Int32) (m o : Nat) (lag : Int32) : zco S m o lag = zsumL (fun n => (zrec S m (nI n)).toInt64 * (zrec S o (nI n + lag)).toInt64) 0 256 := by
  unfold zco
  refine zsumL_congr _ (fun n _ _ => ?_)
  split
  · rfl
  · next h =>
    have : zrec S o (nI n + lag) = 0 := by unfold zrec; rw [if_neg h]
    rw [this]
    exact (Int64.mul_zero).symm
set_option maxHeartbeats 4000000 in
set_option maxRecDepth 100000 in
theorem ct_X1_correlated (D : zG) (B : Nat) {G : zH} (S : Nat → Int32) (m1 m2 q1 q2 m o : Nat) (lag : Int32) (w1 w2 : Nat → Int32) (h1 : G m1 = some (zMo S m q1)) (h2 : G q1 = some (.inl (0, 256, .inl w1))) (h3 : ∀ j, j < 256 → w1 j = S (186 + 256 * m + j)) (k1 : G m2 = some (zMo S o q2)) (k2 : G q2 = some (.inl (0, 256, .inl w2))) (k3 : ∀ j, j < 256 → w2 j = S (186 + 256 * o + j)) : Ct D B yX1_correlated (ws_ yX1_correlated cX1_correlated 6 (some .long)) (zr 2) [.ref m1, .ref m2, .int lag] G (zpe (some (.long (zco S m o lag))) G) zno := by
  refine ct_intro (by decide +kernel) (Nat.le_of_ble_eq_true rfl) ?_
  intro X C
  refine z_lconst (v := 0) C dX1_correlated_0 (by decide) ?_
  refine z_lstore_n (i := 3) C dX1_correlated_1 rfl (Nat.le_of_ble_eq_true rfl) rfl ?_
  refine z_iconst (v := 0) C dX1_correlated_2 (by decide) ?_
  refine z_istore C dX1_correlated_3 (Nat.le_of_ble_eq_true rfl) rfl ?_
  have lp5 : ∀ (μ : Nat) (n : Nat) (n1 : n ≤ 256), 256 - n < μ → Z X 5 [some (.ref m1), some (.ref m2), some (.int lag), some (.long (zsumL (fun n => (zrec S m (nI n)).toInt64 * (zrec S o (nI n + lag)).toInt64) 0 n)), none, some (.int (nI n))] [] G 0 0 := by
    intro μ
    induction μ with
    | zero => intro n n1 hμ; exact absurd hμ (Nat.not_lt_zero _)
    | succ μ ih5 =>
      intro n n1 hμ
      refine z_iload C dX1_correlated_5 rfl ?_
      refine z_sipush (v := 256) C dX1_correlated_7 (by decide) ?_
      refine z_icmp_ge (tgt := 39) C dX1_correlated_10 (by decide) (fun c_10 => ?_) (fun c_10 => ?_)
      · have hend_10 : n = 256 := by have := zge (b := 256) c_10 (by omega) (by omega); omega
        refine z_lload_n (i := 3) C dX1_correlated_39 rfl rfl ?_
        exact z_lreturn C rfl dX1_correlated_40 (⟨zvl (by rw [zco_1, hend_10]), rfl⟩) (Nat.le_of_ble_eq_true rfl) (Nat.le_of_ble_eq_true rfl)
      · have hlt_10 : n < 256 := znge (b := 256) c_10 (by omega) (by omega)
        refine z_lload_n (i := 3) C dX1_correlated_13 rfl rfl ?_
        refine z_aload_n (i := 0) C dX1_correlated_14 rfl rfl ?_
        refine z_iload C dX1_correlated_15 rfl ?_
        refine z_callVe C (h1) rfl (ct_X7_at D B m1 m q1 (nI n) S w1 h1 h2 h3) q1552 q1553 q1554 q113 q1555 np_X7_at (zr_ok rfl rfl) rfl rfl (Nat.le_of_ble_eq_true rfl) (⟨Nat.le_of_ble_eq_true rfl, Nat.le_of_ble_eq_true rfl⟩) dX1_correlated_17 ?_
        refine z_i2l C dX1_correlated_20 rfl ?_
        refine z_aload_n (i := 1) C dX1_correlated_21 rfl rfl ?_
        refine z_iload C dX1_correlated_22 rfl ?_
        refine z_iload_n (i := 2) C dX1_correlated_24 rfl rfl ?_
        refine z_iadd C dX1_correlated_25 ?_
        refine z_callVe C (k1) rfl (ct_X7_at D B m2 o q2 (nI n + lag) S w2 k1 k2 k3) q1552 q1553 q1554 q113 q1555 np_X7_at (zr_ok rfl rfl) rfl rfl (Nat.le_of_ble_eq_true rfl) (⟨Nat.le_of_ble_eq_true rfl, Nat.le_of_ble_eq_true rfl⟩) dX1_correlated_26 ?_
        refine z_i2l C dX1_correlated_29 rfl ?_
        refine z_lmul C dX1_correlated_30 ?_
        refine z_ladd C dX1_correlated_31 ?_
        refine z_lstore_n (i := 3) C dX1_correlated_32 rfl (Nat.le_of_ble_eq_true rfl) rfl ?_
        refine z_iinc (v := nI (n + 1)) C dX1_correlated_33 rfl (ziinc n) (Nat.le_of_ble_eq_true rfl) rfl ?_
        refine z_goto (tgt := 5) C dX1_correlated_36 (by decide) ?_
        exact z_convG (ih5 (n + 1) (by omega) (by omega)) (And.intro (rfl) (And.intro (rfl) (And.intro (rfl) (And.intro (by rw [zsum0]) (And.intro (rfl) trivial))))) (Nat.le_of_ble_eq_true rfl) (Nat.le_of_ble_eq_true rfl)
  exact z_convG (lp5 257 0 (by omega) (by omega)) (And.intro (rfl) (And.intro (rfl) (And.intro (rfl) (And.intro (rfl) (And.intro (rfl) trivial))))) (Nat.le_of_ble_eq_true rfl) (Nat.le_of_ble_eq_true rfl)
