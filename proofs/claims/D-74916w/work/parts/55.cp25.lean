/-! component: the loudest window, spectra, passing -/
theorem zslide (g : Nat → Int64) (a : Nat) : ∀ n, zsumL g (a + 1) n = zsumL g a n + (g (a + n) - g a)
  | 0 => by
    show (0 : Int64) = 0 + (g (a + 0) - g a)
    rw [Nat.add_zero, Int64.sub_self, Int64.add_zero]
  | n + 1 => by
    show zsumL g (a + 1) n + g (a + 1 + n) = zsumL g a n + g (a + n) + (g (a + (n + 1)) - g a)
    rw [zslide g a n, show a + 1 + n = a + (n + 1) by omega]
    simp only [Int64.sub_eq_add_neg]
    ac_rfl
theorem zen_slide (f : Nat → Int32) (k w : Nat) (h : 1 ≤ w) : zen f k (k + w - 1) + ((f (k + w)).toInt64 * (f (k + w)).toInt64 - (f k).toInt64 * (f k).toInt64) = zen f (k + 1) (k + 1 + w - 1) := by
  unfold zen
  rw [show k + w - 1 + 1 - k = w by omega, show k + 1 + w - 1 + 1 - (k + 1) = w by omega]
  exact (zslide (fun t => (f t).toInt64 * (f t).toInt64) k w).symm
set_option maxHeartbeats 4000000 in
set_option maxRecDepth 100000 in
theorem ct_X1_errorCode (D : zG) (B : Nat) {G : zH} (o : Nat) (v0 v1 v2 v3 : Value) (ec ep : Int32) (hO : G o = some (.inr (0, [v0, v1, v2, v3, .int ec, .int ep]))) : Ct D B yX1_errorCode (ws_ yX1_errorCode cX1_errorCode 1 (some .int)) (zr 0) [.ref o] G (zpe (some (.int ec)) G) zno := by
  refine ct_intro (by decide +kernel) (Nat.le_of_ble_eq_true rfl) ?_
  intro X C
  refine z_aload_n (i := 0) C dX1_errorCode_0 rfl rfl ?_
  refine z_getf (ci := 0) (k := 4) C (hO) rfl rfl q575 dX1_errorCode_1 ?_
  exact z_ireturn C rfl (rfl) dX1_errorCode_4 (⟨rfl, rfl⟩) (Nat.le_of_ble_eq_true rfl) (Nat.le_of_ble_eq_true rfl)
set_option maxHeartbeats 4000000 in
set_option maxRecDepth 100000 in
theorem ct_X1_errorPosition (D : zG) (B : Nat) {G : zH} (o : Nat) (v0 v1 v2 v3 : Value) (ec ep : Int32) (hO : G o = some (.inr (0, [v0, v1, v2, v3, .int ec, .int ep]))) : Ct D B yX1_errorPosition (ws_ yX1_errorPosition cX1_errorPosition 1 (some .int)) (zr 0) [.ref o] G (zpe (some (.int ep)) G) zno := by
  refine ct_intro (by decide +kernel) (Nat.le_of_ble_eq_true rfl) ?_
  intro X C
  refine z_aload_n (i := 0) C dX1_errorPosition_0 rfl rfl ?_
  refine z_getf (ci := 0) (k := 5) C (hO) rfl rfl q576 dX1_errorPosition_1 ?_
  exact z_ireturn C rfl (rfl) dX1_errorPosition_4 (⟨rfl, rfl⟩) (Nat.le_of_ble_eq_true rfl) (Nat.le_of_ble_eq_true rfl)
theorem zlw_pos {w : Nat → Int64} {n : Nat} (h : (zlw w n).2 < w n) : zlw w (n + 1) = (nI n, w n) := if_pos h
theorem zlw_neg {w : Nat → Int64} {n : Nat} (h : ¬ (zlw w n).2 < w n) : zlw w (n + 1) = zlw w n := if_neg h
set_option maxHeartbeats 4000000 in
set_option maxRecDepth 100000 in
theorem ct_X1_loudestWindow_ok (D : zG) (B : Nat) {G : zH} (o : Nat) (v1 v2 v3 v4 v5 : Value) (χ : Nat → Nat) (c a lv ls lm fo pa su : Nat) (va sa ua ma ra : Nat → Nat) (rq : Nat) (S : Nat → Int32) (k w n : Nat) (hO : G o = some (.inr (0, [.ref a, v1, v2, v3, v4, v5]))) (hR : zTr G χ c a lv ls lm fo pa su va sa ua ma ra rq S) (g : zGe S) (hc : 100 ≤ c) (e9 : S 8 = nI n) (n9 : n ≤ 8) (hk : k < 100) (h1 : 0 ≤ nI k ∧ nI k ≤ S 8 - 1) (hw0 : 1 ≤ nI w ∧ nI w ≤ 256) (hw1 : 1 ≤ w) (hw2 : w ≤ 256) (hE0 : -1 < zen (fun j => S (186 + 256 * k + j)) 0 (0 + w - 1)) : Ct D B yX1_loudestWindow (ws_ yX1_loudestWindow cX1_loudestWindow 11 (some .int)) (zrL 9 3 16) [.ref o, .int (nI k), .int (nI w)] G (zpe (some (.int (zlw (fun a9 => zen (fun j => S (186 + 256 * k + j)) a9 (a9 + w - 1)) (257 - w)).1)) G) zno := by
  refine ct_intro (by decide +kernel) (Nat.le_of_ble_eq_true rfl) ?_
  intro X C
  have hk9 : k < n := zkn h1 e9 (by omega) (by omega)
  have hX := hR.2.2.2.2.1
  rw [zct_of e9 (by omega)] at hX
  obtain ⟨m1, wm, m2, m3⟩ := hX.2 k hk9
  obtain ⟨⟨mc, e, cap, gg, l1, lc, ld⟩, -⟩ := id hX
  refine z_aload_n (i := 0) C dX1_loudestWindow_0 rfl rfl ?_
  refine z_iload_n (i := 1) C dX1_loudestWindow_1 rfl rfl ?_
  refine z_callVe C (hO) rfl (ct_X1_microphone_ok D B o v1 v2 v3 v4 v5 χ c a lv ls lm fo pa su va sa ua ma ra rq S k n hO hR g hc e9 n9 hk h1) q1375 q1377 qs19 q83 q1378 np_X1_microphone (zr_ok rfl rfl) rfl rfl (Nat.le_of_ble_eq_true rfl) (⟨Nat.le_of_ble_eq_true rfl, Nat.le_of_ble_eq_true rfl⟩) dX1_loudestWindow_2 ?_
  refine z_astore_n (i := 3) C dX1_loudestWindow_5 rfl (Nat.le_of_ble_eq_true rfl) rfl ?_
  refine z_iload_n (i := 2) C dX1_loudestWindow_6 rfl rfl ?_
  refine z_i2l C dX1_loudestWindow_7 rfl ?_
  refine z_lconst (v := 1) C dX1_loudestWindow_8 (by decide) ?_
  refine z_ldc2 C q1538 dX1_loudestWindow_9 ?_
  refine z_callSe C (ct_X1_isBetween D B (nI w) (1) (256) _ _ (by first | rfl | decide) (by first | rfl | decide)) q1220 q789 q83 q790 np_X1_isBetween (zr_ok rfl rfl) rfl rfl (Nat.le_of_ble_eq_true rfl) (⟨Nat.le_of_ble_eq_true rfl, Nat.le_of_ble_eq_true rfl⟩) dX1_loudestWindow_12 ?_
  refine z_callSe C (ct_X1_checkArgument_ok D B _ (zb_ne.mpr hw0)) q1221 q1222 q83 q1223 np_X1_checkArgument (zr_ok rfl rfl) rfl rfl (Nat.le_of_ble_eq_true rfl) (⟨Nat.le_of_ble_eq_true rfl, Nat.le_of_ble_eq_true rfl⟩) dX1_loudestWindow_15 ?_
  refine z_aload_n (i := 0) C dX1_loudestWindow_18 rfl rfl ?_
  refine z_getf (ci := 0) (k := 0) C (hO) rfl rfl q570 dX1_loudestWindow_19 ?_
  refine z_iload_n (i := 1) C dX1_loudestWindow_22 rfl rfl ?_
  refine z_callVn C (hR.1.1) rfl (ct_X2_record D B a lm k ma n _ _ _ _ _ _ _ _ _ _ _ _ mc e cap gg _ hR.1.1 l1 hk9 m1.1) q1468 q1469 q1470 q84 q1471 np_X2_record (zr_ok rfl rfl) rfl rfl (Nat.le_of_ble_eq_true rfl) (⟨Nat.le_of_ble_eq_true rfl, Nat.le_of_ble_eq_true rfl⟩) dX1_loudestWindow_23 ?_
  intro v9 G9 h9
  obtain ⟨sg, rfl, hsg, rfl⟩ := h9
  have hs : zSg D B (zup G sg (.inr (101, [.ref (ma k)]))) sg 256 (fun j => S (186 + 256 * k + j)) := (zSg_rec zup_s ((zup_n (zne_of hsg m1.1)).trans m1.1) ((zup_n (zne_of hsg m2.1)).trans m2.1)).congr (Nat.le_refl _) m3
  refine z_astore C dX1_loudestWindow_26 (Nat.le_of_ble_eq_true rfl) rfl ?_
  refine z_getsR (k := 40) C (by decide) q1530 dX1_loudestWindow_28 ?_
  refine z_aload C dX1_loudestWindow_31 rfl ?_
  refine z_iconst (v := 0) C dX1_loudestWindow_33 (by decide) ?_
  refine z_iload_n (i := 2) C dX1_loudestWindow_34 rfl rfl ?_
  refine z_iconst (v := 1) C dX1_loudestWindow_35 (by decide) ?_
  refine z_isub C dX1_loudestWindow_36 ?_
  refine z_seti (y := nI (0 + w - 1)) ((pk_sub (b := 1) (by omega)).trans (congrArg nI (by omega))) ?_
  refine z_callOB (x := ⟨"TrackArray$Measure", "of", "(LTrackArray$Signal;II)J"⟩) (owner := "TrackArray$Measure") (np := 3) (i := 0) C (by decide) (cb_X17_of D B (fun j => S (186 + 256 * k + j)) _ sg 0 (0 + w - 1) 256 hs (by omega) (by omega) (by omega)) q1474 q1476 q1475 q1477 q1478 q1479 ⟨by decide +kernel, by decide +kernel, by decide +kernel⟩ (Nat.le_of_ble_eq_true rfl) (by decide +kernel) (zr_ok rfl rfl) rfl rfl (Nat.le_of_ble_eq_true rfl) (⟨Nat.le_of_ble_eq_true rfl, Nat.le_of_ble_eq_true rfl⟩) dX1_loudestWindow_37 ?_
  intro v9 G9 h9
  obtain ⟨rfl, rfl⟩ := h9
  refine z_lstore C dX1_loudestWindow_40 (Nat.le_of_ble_eq_true rfl) rfl ?_
  refine z_lload C dX1_loudestWindow_42 rfl ?_
  refine z_lstore C dX1_loudestWindow_44 (Nat.le_of_ble_eq_true rfl) rfl ?_
  refine z_iconst (v := 0) C dX1_loudestWindow_46 (by decide) ?_
  refine z_istore C dX1_loudestWindow_47 (Nat.le_of_ble_eq_true rfl) rfl ?_
  refine z_iconst (v := 1) C dX1_loudestWindow_49 (by decide) ?_
  refine z_istore C dX1_loudestWindow_50 (Nat.le_of_ble_eq_true rfl) rfl ?_
  have lp52 : ∀ (μ : Nat) (t : Nat) (k1 : t + 1 + w ≤ 257), 257 - t < μ → Z X 52 [some (.ref o), some (.int (nI k)), some (.int (nI w)), none, some (.ref sg), some (.long ((fun a9 => zen (fun j => S (186 + 256 * k + j)) a9 (a9 + w - 1)) t)), none, some (.long (zlw (fun a9 => zen (fun j => S (186 + 256 * k + j)) a9 (a9 + w - 1)) (t + 1)).2), none, some (.int (zlw (fun a9 => zen (fun j => S (186 + 256 * k + j)) a9 (a9 + w - 1)) (t + 1)).1), some (.int (nI (t + 1)))] [] (zup G sg (.inr (101, [.ref (ma k)]))) 1 1 := by
    intro μ
    induction μ with
    | zero => intro t k1 hμ; exact absurd hμ (Nat.not_lt_zero _)
    | succ μ ih52 =>
      intro t k1 hμ
      refine z_iload C dX1_loudestWindow_52 rfl ?_
      refine z_iload_n (i := 2) C dX1_loudestWindow_54 rfl rfl ?_
      refine z_iadd C dX1_loudestWindow_55 ?_
      refine z_seti (nI_add (t + 1) w) ?_
      refine z_sipush (v := 256) C dX1_loudestWindow_56 (by decide) ?_
      refine z_icmp_gt (tgt := 140) C dX1_loudestWindow_59 (by decide) (fun c_59 => ?_) (fun c_59 => ?_)
      · have hend : t + 1 = 257 - w := by have := zgt (b := 256) c_59 (by omega) (by decide); omega
        refine z_iload C dX1_loudestWindow_140 rfl ?_
        refine z_sub1 hsg ?_
        exact z_ireturn C rfl (rfl) dX1_loudestWindow_142 (⟨zvs (by rw [hend]), rfl⟩) (Nat.le_of_ble_eq_true rfl) (Nat.le_of_ble_eq_true rfl)
      · have hle : t + 1 + w ≤ 256 := zngt (b := 256) c_59 (by omega) (by decide)
        refine z_lload C dX1_loudestWindow_62 rfl ?_
        refine z_aload C dX1_loudestWindow_64 rfl ?_
        refine z_iload C dX1_loudestWindow_66 rfl ?_
        refine z_iload_n (i := 2) C dX1_loudestWindow_68 rfl rfl ?_
        refine z_iadd C dX1_loudestWindow_69 ?_
        refine z_seti (nI_add (t + 1) w) ?_
        refine z_iconst (v := 1) C dX1_loudestWindow_70 (by decide) ?_
        refine z_isub C dX1_loudestWindow_71 ?_
        refine z_seti (y := nI (t + w)) ((pk_sub (b := 1) (by omega)).trans (congrArg nI (by omega))) ?_
        refine z_sig C (hs) ((by omega : t + w < 256)) (by omega) q1540 q1483 q2475 ⟨rfl, rfl⟩ rfl (Nat.le_of_ble_eq_true rfl) (⟨Nat.le_of_ble_eq_true rfl, Nat.le_of_ble_eq_true rfl⟩) dX1_loudestWindow_72 ?_
        refine z_aload C dX1_loudestWindow_77 rfl ?_
        refine z_iload C dX1_loudestWindow_79 rfl ?_
        refine z_iload_n (i := 2) C dX1_loudestWindow_81 rfl rfl ?_
        refine z_iadd C dX1_loudestWindow_82 ?_
        refine z_seti (nI_add (t + 1) w) ?_
        refine z_iconst (v := 1) C dX1_loudestWindow_83 (by decide) ?_
        refine z_isub C dX1_loudestWindow_84 ?_
        refine z_seti (y := nI (t + w)) ((pk_sub (b := 1) (by omega)).trans (congrArg nI (by omega))) ?_
        refine z_sig C (hs) ((by omega : t + w < 256)) (by omega) q1540 q1483 q2475 ⟨rfl, rfl⟩ rfl (Nat.le_of_ble_eq_true rfl) (⟨Nat.le_of_ble_eq_true rfl, Nat.le_of_ble_eq_true rfl⟩) dX1_loudestWindow_85 ?_
        refine z_lmul C dX1_loudestWindow_90 ?_
        refine z_aload C dX1_loudestWindow_91 rfl ?_
        refine z_iload C dX1_loudestWindow_93 rfl ?_
        refine z_iconst (v := 1) C dX1_loudestWindow_95 (by decide) ?_
        refine z_isub C dX1_loudestWindow_96 ?_
        refine z_seti (y := nI t) ((pk_sub (a := t + 1) (b := 1) (by omega)).trans (congrArg nI (by omega))) ?_
        refine z_sig C (hs) ((by omega : t < 256)) (by omega) q1540 q1483 q2475 ⟨rfl, rfl⟩ rfl (Nat.le_of_ble_eq_true rfl) (⟨Nat.le_of_ble_eq_true rfl, Nat.le_of_ble_eq_true rfl⟩) dX1_loudestWindow_97 ?_
        refine z_aload C dX1_loudestWindow_102 rfl ?_
        refine z_iload C dX1_loudestWindow_104 rfl ?_
        refine z_iconst (v := 1) C dX1_loudestWindow_106 (by decide) ?_
        refine z_isub C dX1_loudestWindow_107 ?_
        refine z_seti (y := nI t) ((pk_sub (a := t + 1) (b := 1) (by omega)).trans (congrArg nI (by omega))) ?_
        refine z_sig C (hs) ((by omega : t < 256)) (by omega) q1540 q1483 q2475 ⟨rfl, rfl⟩ rfl (Nat.le_of_ble_eq_true rfl) (⟨Nat.le_of_ble_eq_true rfl, Nat.le_of_ble_eq_true rfl⟩) dX1_loudestWindow_108 ?_
        refine z_lmul C dX1_loudestWindow_113 ?_
        refine z_lsub C dX1_loudestWindow_114 ?_
        refine z_ladd C dX1_loudestWindow_115 ?_
        refine z_setl (y := (fun a9 => zen (fun j => S (186 + 256 * k + j)) a9 (a9 + w - 1)) (t + 1)) (zen_slide (fun j => S (186 + 256 * k + j)) t w hw1) ?_
        refine z_lstore C dX1_loudestWindow_116 (Nat.le_of_ble_eq_true rfl) rfl ?_
        refine z_lload C dX1_loudestWindow_118 rfl ?_
        refine z_lload C dX1_loudestWindow_120 rfl ?_
        refine z_lc_le (tgt := 134) C dX1_loudestWindow_122 dX1_loudestWindow_123 (by decide) (fun c_123 => ?_) (fun c_123 => ?_)
        · refine z_iinc (v := nI (t + 2)) C dX1_loudestWindow_134 rfl (ziinc (t + 1)) (Nat.le_of_ble_eq_true rfl) rfl ?_
          refine z_goto (tgt := 52) C dX1_loudestWindow_137 (by decide) ?_
          exact z_convG (ih52 (t + 1) (by omega) (by omega)) (And.intro (rfl) (And.intro (rfl) (And.intro (rfl) (And.intro (rfl) (And.intro (rfl) (And.intro (by first | rw [zlw_pos (Int64.not_le.mp c_123)] | rw [zlw_neg (Int64.not_lt.mpr c_123)]) (And.intro (by first | rw [zlw_pos (Int64.not_le.mp c_123)] | rw [zlw_neg (Int64.not_lt.mpr c_123)]) (And.intro (rfl) trivial)))))))) (Nat.le_of_ble_eq_true rfl) (Nat.le_of_ble_eq_true rfl)
        · refine z_iload C dX1_loudestWindow_126 rfl ?_
          refine z_istore C dX1_loudestWindow_128 (Nat.le_of_ble_eq_true rfl) rfl ?_
          refine z_lload C dX1_loudestWindow_130 rfl ?_
          refine z_lstore C dX1_loudestWindow_132 (Nat.le_of_ble_eq_true rfl) rfl ?_
          refine z_iinc (v := nI (t + 2)) C dX1_loudestWindow_134 rfl (ziinc (t + 1)) (Nat.le_of_ble_eq_true rfl) rfl ?_
          refine z_goto (tgt := 52) C dX1_loudestWindow_137 (by decide) ?_
          exact z_convG (ih52 (t + 1) (by omega) (by omega)) (And.intro (rfl) (And.intro (rfl) (And.intro (rfl) (And.intro (rfl) (And.intro (rfl) (And.intro (by first | rw [zlw_pos (Int64.not_le.mp c_123)] | rw [zlw_neg (Int64.not_lt.mpr c_123)]) (And.intro (by first | rw [zlw_pos (Int64.not_le.mp c_123)] | rw [zlw_neg (Int64.not_lt.mpr c_123)]) (And.intro (rfl) trivial)))))))) (Nat.le_of_ble_eq_true rfl) (Nat.le_of_ble_eq_true rfl)
  exact z_convG (lp52 258 0 (by omega) (by omega)) (And.intro (rfl) (And.intro (rfl) (And.intro (rfl) (And.intro (rfl) (And.intro (rfl) (And.intro (by rw [zlw_pos (w := (fun a9 => zen (fun j => S (186 + 256 * k + j)) a9 (a9 + w - 1))) (n := 0) hE0]) (And.intro (by rw [zlw_pos (w := (fun a9 => zen (fun j => S (186 + 256 * k + j)) a9 (a9 + w - 1))) (n := 0) hE0]; rfl) (And.intro (rfl) trivial)))))))) (Nat.le_of_ble_eq_true rfl) (Nat.le_of_ble_eq_true rfl)
set_option maxHeartbeats 4000000 in
set_option maxRecDepth 100000 in
theorem ct_X1_loudestWindow_x (D : zG) (B : Nat) {G : zH} (o : Nat) (v1 v2 v3 v4 v5 : Value) (χ : Nat → Nat) (c a lv ls lm fo pa su : Nat) (va sa ua ma ra : Nat → Nat) (rq : Nat) (S : Nat → Int32) (x y : Int32) (n : Nat) (hO : G o = some (.inr (0, [.ref a, v1, v2, v3, v4, v5]))) (hR : zTr G χ c a lv ls lm fo pa su va sa ua ma ra rq S) (g : zGe S) (hc : 100 ≤ c) (e9 : S 8 = nI n) (n9 : n ≤ 8) (h1 : ¬ (0 ≤ x ∧ x ≤ S 8 - 1)) : Ct D B yX1_loudestWindow (ws_ yX1_loudestWindow cX1_loudestWindow 11 (some .int)) (zrc 8 1 6) [.ref o, .int x, .int y] G (zpF) (zpxE zIOB G) := by
  refine ct_intro (by decide +kernel) (Nat.le_of_ble_eq_true rfl) ?_
  intro X C
  refine z_aload_n (i := 0) C dX1_loudestWindow_0 rfl rfl ?_
  refine z_iload_n (i := 1) C dX1_loudestWindow_1 rfl rfl ?_
  exact z_callV C (hO) rfl (ct_X1_microphone_x D B o v1 v2 v3 v4 v5 χ c a lv ls lm fo pa su va sa ua ma ra rq S x n hO hR g hc e9 n9 h1) q1375 q1377 qs19 q83 q1378 np_X1_microphone (zr_ok rfl rfl) rfl rfl (Nat.le_of_ble_eq_true rfl) (⟨Nat.le_of_ble_eq_true rfl, Nat.le_of_ble_eq_true rfl⟩) dX1_loudestWindow_2 (fun E9 q9 G9 h9 => z_out C h9 (Nat.le_of_ble_eq_true rfl) (Nat.le_of_ble_eq_true rfl)) (fun v9 G9 h9 => h9.elim)
set_option maxHeartbeats 4000000 in
set_option maxRecDepth 100000 in
theorem ct_X1_loudestWindow_y (D : zG) (B : Nat) {G : zH} (o : Nat) (v1 v2 v3 v4 v5 : Value) (χ : Nat → Nat) (c a lv ls lm fo pa su : Nat) (va sa ua ma ra : Nat → Nat) (rq : Nat) (S : Nat → Int32) (k n : Nat) (y : Int32) (hO : G o = some (.inr (0, [.ref a, v1, v2, v3, v4, v5]))) (hR : zTr G χ c a lv ls lm fo pa su va sa ua ma ra rq S) (g : zGe S) (hc : 100 ≤ c) (e9 : S 8 = nI n) (n9 : n ≤ 8) (hk : k < 100) (h1 : 0 ≤ nI k ∧ nI k ≤ S 8 - 1) (h : ¬ (1 ≤ y ∧ y ≤ 256)) : Ct D B yX1_loudestWindow (ws_ yX1_loudestWindow cX1_loudestWindow 11 (some .int)) (zrc 8 1 6) [.ref o, .int (nI k), .int y] G (zpF) (zpxE zIAE G) := by
  refine ct_intro (by decide +kernel) (Nat.le_of_ble_eq_true rfl) ?_
  intro X C
  refine z_aload_n (i := 0) C dX1_loudestWindow_0 rfl rfl ?_
  refine z_iload_n (i := 1) C dX1_loudestWindow_1 rfl rfl ?_
  refine z_callVe C (hO) rfl (ct_X1_microphone_ok D B o v1 v2 v3 v4 v5 χ c a lv ls lm fo pa su va sa ua ma ra rq S k n hO hR g hc e9 n9 hk h1) q1375 q1377 qs19 q83 q1378 np_X1_microphone (zr_ok rfl rfl) rfl rfl (Nat.le_of_ble_eq_true rfl) (⟨Nat.le_of_ble_eq_true rfl, Nat.le_of_ble_eq_true rfl⟩) dX1_loudestWindow_2 ?_
  refine z_astore_n (i := 3) C dX1_loudestWindow_5 rfl (Nat.le_of_ble_eq_true rfl) rfl ?_
  refine z_iload_n (i := 2) C dX1_loudestWindow_6 rfl rfl ?_
  refine z_i2l C dX1_loudestWindow_7 rfl ?_
  refine z_lconst (v := 1) C dX1_loudestWindow_8 (by decide) ?_
  refine z_ldc2 C q1538 dX1_loudestWindow_9 ?_
  refine z_callSe C (ct_X1_isBetween D B (y) (1) (256) _ _ (by first | rfl | decide) (by first | rfl | decide)) q1220 q789 q83 q790 np_X1_isBetween (zr_ok rfl rfl) rfl rfl (Nat.le_of_ble_eq_true rfl) (⟨Nat.le_of_ble_eq_true rfl, Nat.le_of_ble_eq_true rfl⟩) dX1_loudestWindow_12 ?_
  exact z_callS C (ct_X1_checkArgument_x D B _ (zb_eq.mpr h)) q1221 q1222 q83 q1223 np_X1_checkArgument (zr_ok rfl rfl) rfl rfl (Nat.le_of_ble_eq_true rfl) (⟨Nat.le_of_ble_eq_true rfl, Nat.le_of_ble_eq_true rfl⟩) dX1_loudestWindow_15 (fun E9 q9 G9 h9 => z_out C h9 (Nat.le_of_ble_eq_true rfl) (Nat.le_of_ble_eq_true rfl)) (fun v9 G9 h9 => h9.elim)
set_option maxHeartbeats 4000000 in
set_option maxRecDepth 100000 in
theorem ct_X1_spectrum_ok (D : zG) (B : Nat) {G : zH} (o : Nat) (v1 v2 v3 v4 v5 : Value) (χ : Nat → Nat) (c a lv ls lm fo pa su : Nat) (va sa ua ma ra : Nat → Nat) (rq : Nat) (S : Nat → Int32) (d : Int32) (p f l : Nat) (nm : Nat) (hO : G o = some (.inr (0, [.ref a, v1, v2, v3, v4, v5]))) (hR : zTr G χ c a lv ls lm fo pa su va sa ua ma ra rq S) (g : zGe S) (hc : 100 ≤ c) (e8 : S 8 = nI nm) (n8 : nm ≤ 8) (hw : (0 ≤ nI f ∧ nI f ≤ 255) ∧ nI f ≤ nI l ∧ nI l ≤ 255) (hf : f ≤ l) (hl : l < 256) (hd0 : -100 ≤ d ∧ d ≤ 100) (hp0 : 1 ≤ nI p ∧ nI p ≤ 64) (hp1 : 1 ≤ p) (hp : p ≤ 64) (hZd : ∀ t, t ≤ l → zbL S (fun m j => zrec S m (nI j + zsh S m d)) nm t = (zbd S nm d t).toInt64) : Ct D B yX1_spectrum (ws_ yX1_spectrum cX1_spectrum 5 (some .long)) (zrL 12 33 110) [.ref o, .int d, .int (nI p), .int (nI f), .int (nI l)] G (fun r9 G9 => r9 = some (.long (zst (zbd S nm d) p f l)) ∧ ∃ χ9 : Nat → Nat, zkee (zPb c) G χ G9 χ9 ∧ zTr G9 χ9 c a lv ls lm fo pa su va sa ua ma ra rq S) zno := by
  refine ct_intro (by decide +kernel) (Nat.le_of_ble_eq_true rfl) ?_
  intro X C
  refine z_iload_n (i := 1) C dX1_spectrum_0 rfl rfl ?_
  refine z_callSe C (ct_X1_isDirection D B d) q1599 q1600 q83 q1601 np_X1_isDirection (zr_ok rfl rfl) rfl rfl (Nat.le_of_ble_eq_true rfl) (⟨Nat.le_of_ble_eq_true rfl, Nat.le_of_ble_eq_true rfl⟩) dX1_spectrum_1 ?_
  refine z_if_eq (tgt := 18) C dX1_spectrum_4 (by decide) (fun c_4 => ?_) (fun c_4 => ?_)
  · exact absurd hd0 (zb_eq.mp c_4)
  · refine z_iload_n (i := 2) C dX1_spectrum_7 rfl rfl ?_
    refine z_callSe C (ct_X1_isPeriod D B (nI p)) q1682 q1683 q83 q1684 np_X1_isPeriod (zr_ok rfl rfl) rfl rfl (Nat.le_of_ble_eq_true rfl) (⟨Nat.le_of_ble_eq_true rfl, Nat.le_of_ble_eq_true rfl⟩) dX1_spectrum_8 ?_
    refine z_if_eq (tgt := 18) C dX1_spectrum_11 (by decide) (fun c_11 => ?_) (fun c_11 => ?_)
    · exact absurd hp0 (zb_eq.mp c_11)
    · refine z_iconst (v := 1) C dX1_spectrum_14 (by decide) ?_
      refine z_goto (tgt := 19) C dX1_spectrum_15 (by decide) ?_
      refine z_iload_n (i := 3) C dX1_spectrum_19 rfl rfl ?_
      refine z_iload C dX1_spectrum_20 rfl ?_
      refine z_callSe C (ct_X1_checkWindow_ok D B _ (nI f) (nI l) (by decide) hw) q1672 q1673 q83 q1674 np_X1_checkWindow (zr_ok rfl rfl) rfl rfl (Nat.le_of_ble_eq_true rfl) (⟨Nat.le_of_ble_eq_true rfl, Nat.le_of_ble_eq_true rfl⟩) dX1_spectrum_22 ?_
      refine z_aload_n (i := 0) C dX1_spectrum_25 rfl rfl ?_
      refine z_getf (ci := 0) (k := 0) C (hO) rfl rfl q570 dX1_spectrum_26 ?_
      refine z_new (ci := 8) C rfl q1602 q1603 q120 (Nat.le_of_ble_eq_true rfl) (Nat.le_of_ble_eq_true rfl) dX1_spectrum_29 ?_
      intro q hq hb
      refine z_dup C dX1_spectrum_32 rfl ?_
      refine z_iload_n (i := 1) C dX1_spectrum_33 rfl rfl ?_
      refine z_callINe C (ct_X11_init D B q d zup_s) q1604 q1605 q120 q1606 rfl np_X11_init (zr_ok rfl rfl) rfl rfl (Nat.le_of_ble_eq_true rfl) (⟨Nat.le_of_ble_eq_true rfl, Nat.le_of_ble_eq_true rfl⟩) dX1_spectrum_34 ?_
      refine z_heap zup_zup ?_
      have K1 : zkee (fun _ => True) G χ (zup G q (.inr (8, [.int d]))) (zcol χ q 1) := zkee.new hq
      have F1 : zo (zup G q (.inr (8, [.int d]))) (zcol χ q 1) 1 q (.inr (8, [.int d])) := zo.newc hq
      have hR1 := hR.kp g (fun _ _ => trivial) K1
      obtain ⟨G1, hG1⟩ : ∃ G1, G1 = zup G q (.inr (8, [.int d])) := ⟨_, rfl⟩
      obtain ⟨χ1, hχ1⟩ : ∃ χ1, χ1 = zcol χ q 1 := ⟨_, rfl⟩
      rw [← hG1, ← hχ1] at K1 F1 hR1
      refine z_heap hG1.symm ?_
      refine z_iload C dX1_spectrum_37 rfl ?_
      refine z_callVn C (hR1.1.1) rfl (ct_X2_beam D B χ1 c a lv ls lm fo pa su va sa ua ma ra rq S q l nm (fun m j => zrec S m (nI j + zsh S m d)) hR1 hc e8 n8 hl (zlayD D B hR1 g hc e8 n8 hl F1)) q1657 q1658 q1659 q84 q1660 np_X2_beam (zr_ok rfl rfl) rfl rfl (Nat.le_of_ble_eq_true rfl) (⟨Nat.le_of_ble_eq_true rfl, Nat.le_of_ble_eq_true rfl⟩) dX1_spectrum_39 ?_
      intro v9 G9 h9
      obtain ⟨sg, rfl, χ9, w9, p9, K2, hsg, hs9, hw9, hp9⟩ := h9
      have t9 := hR1.kpb g hc K2 hs9 hp9
      have hs := zSg_beam (D := D) (B := B) (N := l + 1) (f := zbd S nm d) hsg t9.1.1 hs9.1 (by omega) (fun n hn => (hw9 n (by omega)).trans (hZd n (by omega)))
      refine z_iload_n (i := 2) C dX1_spectrum_42 rfl rfl ?_
      refine z_iload_n (i := 3) C dX1_spectrum_43 rfl rfl ?_
      refine z_iload C dX1_spectrum_44 rfl ?_
      refine z_callSe C (ct_X1_strength D B (zbd S nm d) sg p f l (l + 1) hs hf (by omega) (by omega) hp1 hp) q1696 q1697 q83 q1698 np_X1_strength (zr_ok rfl rfl) rfl rfl (Nat.le_of_ble_eq_true rfl) (⟨Nat.le_of_ble_eq_true rfl, Nat.le_of_ble_eq_true rfl⟩) dX1_spectrum_46 ?_
      exact z_lreturn C rfl dX1_spectrum_49 (⟨rfl, χ9, (K1.mono (fun _ _ => trivial)).trans K2, t9⟩) (Nat.le_of_ble_eq_true rfl) (Nat.le_of_ble_eq_true rfl)
set_option maxHeartbeats 4000000 in
set_option maxRecDepth 100000 in
theorem ct_X1_spectrum_x (D : zG) (B : Nat) {G : zH} (o : Nat) (v1 v2 v3 v4 v5 : Value) (χ : Nat → Nat) (c a lv ls lm fo pa su : Nat) (va sa ua ma ra : Nat → Nat) (rq : Nat) (S : Nat → Int32) (x y f l : Int32) (h : ¬ ((-100 ≤ x ∧ x ≤ 100) ∧ 1 ≤ y ∧ y ≤ 64) ∨ ¬ ((0 ≤ f ∧ f ≤ 255) ∧ f ≤ l ∧ l ≤ 255)) : Ct D B yX1_spectrum (ws_ yX1_spectrum cX1_spectrum 5 (some .long)) (zrc 8 3 16) [.ref o, .int x, .int y, .int f, .int l] G (zpF) (zpxE zIAE G) := by
  refine ct_intro (by decide +kernel) (Nat.le_of_ble_eq_true rfl) ?_
  intro X C
  refine z_iload_n (i := 1) C dX1_spectrum_0 rfl rfl ?_
  refine z_callSe C (ct_X1_isDirection D B x) q1599 q1600 q83 q1601 np_X1_isDirection (zr_ok rfl rfl) rfl rfl (Nat.le_of_ble_eq_true rfl) (⟨Nat.le_of_ble_eq_true rfl, Nat.le_of_ble_eq_true rfl⟩) dX1_spectrum_1 ?_
  refine z_if_eq (tgt := 18) C dX1_spectrum_4 (by decide) (fun c_4 => ?_) (fun c_4 => ?_)
  · refine z_iconst (v := 0) C dX1_spectrum_18 (by decide) ?_
    refine z_iload_n (i := 3) C dX1_spectrum_19 rfl rfl ?_
    refine z_iload C dX1_spectrum_20 rfl ?_
    exact z_callS C (ct_X1_checkWindow_x D B _ f l (Or.inl rfl)) q1672 q1673 q83 q1674 np_X1_checkWindow (zr_ok rfl rfl) rfl rfl (Nat.le_of_ble_eq_true rfl) (⟨Nat.le_of_ble_eq_true rfl, Nat.le_of_ble_eq_true rfl⟩) dX1_spectrum_22 (fun E9 q9 G9 h9 => z_out C h9 (Nat.le_of_ble_eq_true rfl) (Nat.le_of_ble_eq_true rfl)) (fun v9 G9 h9 => h9.elim)
  · refine z_iload_n (i := 2) C dX1_spectrum_7 rfl rfl ?_
    refine z_callSe C (ct_X1_isPeriod D B y) q1682 q1683 q83 q1684 np_X1_isPeriod (zr_ok rfl rfl) rfl rfl (Nat.le_of_ble_eq_true rfl) (⟨Nat.le_of_ble_eq_true rfl, Nat.le_of_ble_eq_true rfl⟩) dX1_spectrum_8 ?_
    refine z_if_eq (tgt := 18) C dX1_spectrum_11 (by decide) (fun c_11 => ?_) (fun c_11 => ?_)
    · refine z_iconst (v := 0) C dX1_spectrum_18 (by decide) ?_
      refine z_iload_n (i := 3) C dX1_spectrum_19 rfl rfl ?_
      refine z_iload C dX1_spectrum_20 rfl ?_
      exact z_callS C (ct_X1_checkWindow_x D B _ f l (Or.inl rfl)) q1672 q1673 q83 q1674 np_X1_checkWindow (zr_ok rfl rfl) rfl rfl (Nat.le_of_ble_eq_true rfl) (⟨Nat.le_of_ble_eq_true rfl, Nat.le_of_ble_eq_true rfl⟩) dX1_spectrum_22 (fun E9 q9 G9 h9 => z_out C h9 (Nat.le_of_ble_eq_true rfl) (Nat.le_of_ble_eq_true rfl)) (fun v9 G9 h9 => h9.elim)
    · refine z_iconst (v := 1) C dX1_spectrum_14 (by decide) ?_
      refine z_goto (tgt := 19) C dX1_spectrum_15 (by decide) ?_
      refine z_iload_n (i := 3) C dX1_spectrum_19 rfl rfl ?_
      refine z_iload C dX1_spectrum_20 rfl ?_
      exact z_callS C (ct_X1_checkWindow_x D B _ f l (Or.inr (h.resolve_left (fun q => q ⟨zb_ne.mp c_4, zb_ne.mp c_11⟩)))) q1672 q1673 q83 q1674 np_X1_checkWindow (zr_ok rfl rfl) rfl rfl (Nat.le_of_ble_eq_true rfl) (⟨Nat.le_of_ble_eq_true rfl, Nat.le_of_ble_eq_true rfl⟩) dX1_spectrum_22 (fun E9 q9 G9 h9 => z_out C h9 (Nat.le_of_ble_eq_true rfl) (Nat.le_of_ble_eq_true rfl)) (fun v9 G9 h9 => h9.elim)
