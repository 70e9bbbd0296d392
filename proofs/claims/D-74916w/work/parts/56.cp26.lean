/-! component: passing, saving -/
def zAx (S : Nat → Int32) (v m : Nat) (u : Int32) : Int32 := zabI (zpx S (some v) 0 u - S (154 + 4 * m + 0))
/-- the best of the first times -/
def zpb (S : Nat → Int32) (v m : Nat) : Nat → Int32
  | 0 => 0
  | n + 1 => if zAx S v m (nI (n + 1)) < zAx S v m (zpb S v m n) then nI (n + 1) else zpb S v m n
theorem zpb_A (S : Nat → Int32) (v m : Nat) : ∀ n, zptA S v m (n + 1) = (zpb S v m n, zAx S v m (zpb S v m n))
  | 0 => by
    show (if 0 = 0 ∨ _ then _ else _) = _
    rw [if_pos (Or.inl rfl)]
    rfl
  | n + 1 => by
    have ih := zpb_A S v m n
    have e : zptA S v m (n + 2) = if n + 1 = 0 ∨ zabI (zpx S (some v) 0 (nI (n + 1)) - S (154 + 4 * m + 0)) < (zptA S v m (n + 1)).2 then (nI (n + 1), zabI (zpx S (some v) 0 (nI (n + 1)) - S (154 + 4 * m + 0))) else zptA S v m (n + 1) := rfl
    rw [e, ih]
    show (if n + 1 = 0 ∨ zAx S v m (nI (n + 1)) < zAx S v m (zpb S v m n) then (nI (n + 1), zAx S v m (nI (n + 1))) else (zpb S v m n, zAx S v m (zpb S v m n))) = _
    by_cases h : zAx S v m (nI (n + 1)) < zAx S v m (zpb S v m n)
    · have e2 : zpb S v m (n + 1) = nI (n + 1) := if_pos h
      rw [if_pos (Or.inr h), e2]
    · have e2 : zpb S v m (n + 1) = zpb S v m n := if_neg h
      rw [if_neg (fun q => q.elim (by omega) h), e2]
theorem zpx_0 (S : Nat → Int32) (v : Nat) (u : Int32) : zpx S (some v) 0 u = S (16 + 3 * v + 0) + S (16 + 3 * v + 1) * u := Int32.add_zero _
theorem zabI_eq9 (x : Int32) : (if 0 ≤ x then x else 0 - x) = zabI x := zabI_eq x
set_option maxHeartbeats 4000000 in
set_option maxRecDepth 100000 in
theorem ct_X1_passTime_ok (D : zG) (B : Nat) {G : zH} (o : Nat) (v1 v2 v3 v4 v5 : Value) (χ : Nat → Nat) (c a lv ls lm fo pa su : Nat) (va sa ua ma ra : Nat → Nat) (rq : Nat) (S : Nat → Int32) (k i n nv : Nat) (hO : G o = some (.inr (0, [.ref a, v1, v2, v3, v4, v5]))) (hR : zTr G χ c a lv ls lm fo pa su va sa ua ma ra rq S) (g : zGe S) (hc : 100 ≤ c) (e9 : S 8 = nI n) (n9 : n ≤ 8) (ev : S 6 = nI nv) (nv4 : nv ≤ 4) (hk : k < 100) (hv1 : 0 ≤ nI k ∧ nI k ≤ S 6 - 1) (hi : i < 100) (h1 : 0 ≤ nI i ∧ nI i ≤ S 8 - 1) : Ct D B yX1_passTime (ws_ yX1_passTime cX1_passTime 7 (some .int)) (zr 8) [.ref o, .int (nI k), .int (nI i)] G (zpe (some (.int (zptA S k i 256).1)) G) zno := by
  refine ct_intro (by decide +kernel) (Nat.le_of_ble_eq_true rfl) ?_
  intro X C
  have hi9 : i < n := zkn h1 e9 (by omega) (by omega)
  have hX := hR.2.2.2.2.1
  rw [zct_of e9 (by omega)] at hX
  obtain ⟨m1, wm, m2, m3⟩ := hX.2 i hi9
  have hk9 : k < nv := zkn hv1 ev (by omega) (by omega)
  have hV := hR.2.2.1
  rw [zct_of ev (by omega)] at hV
  have vv := hV.2 k hk9
  refine z_aload_n (i := 0) C dX1_passTime_0 rfl rfl ?_
  refine z_iload_n (i := 1) C dX1_passTime_1 rfl rfl ?_
  refine z_callVe C (hO) rfl (ct_X1_vehicle_ok D B o v1 v2 v3 v4 v5 χ c a lv ls lm fo pa su va sa ua ma ra rq S k nv hO hR g hc ev nv4 hk hv1) q1424 q1426 qs20 q83 q1427 np_X1_vehicle (zr_ok rfl rfl) rfl rfl (Nat.le_of_ble_eq_true rfl) (⟨Nat.le_of_ble_eq_true rfl, Nat.le_of_ble_eq_true rfl⟩) dX1_passTime_2 ?_
  refine z_astore_n (i := 3) C dX1_passTime_5 rfl (Nat.le_of_ble_eq_true rfl) rfl ?_
  refine z_aload_n (i := 0) C dX1_passTime_6 rfl rfl ?_
  refine z_iload_n (i := 2) C dX1_passTime_7 rfl rfl ?_
  refine z_callVe C (hO) rfl (ct_X1_microphone_ok D B o v1 v2 v3 v4 v5 χ c a lv ls lm fo pa su va sa ua ma ra rq S i n hO hR g hc e9 n9 hi h1) q1375 q1377 qs19 q83 q1378 np_X1_microphone (zr_ok rfl rfl) rfl rfl (Nat.le_of_ble_eq_true rfl) (⟨Nat.le_of_ble_eq_true rfl, Nat.le_of_ble_eq_true rfl⟩) dX1_passTime_8 ?_
  refine z_astore C dX1_passTime_11 (Nat.le_of_ble_eq_true rfl) rfl ?_
  refine z_iconst (v := 0) C dX1_passTime_13 (by decide) ?_
  refine z_istore C dX1_passTime_14 (Nat.le_of_ble_eq_true rfl) rfl ?_
  refine z_iconst (v := 1) C dX1_passTime_16 (by decide) ?_
  refine z_istore C dX1_passTime_17 (Nat.le_of_ble_eq_true rfl) rfl ?_
  have lp19 : ∀ (μ : Nat) (t : Nat) (k1 : t + 1 ≤ 256), 256 - t < μ → Z X 19 [some (.ref o), some (.int (nI k)), some (.int (nI i)), some (.ref (va k)), some (.ref (ma i)), some (.int (zpb S k i t)), some (.int (nI (t + 1)))] [] G 0 0 := by
    intro μ
    induction μ with
    | zero => intro t k1 hμ; exact absurd hμ (Nat.not_lt_zero _)
    | succ μ ih19 =>
      intro t k1 hμ
      refine z_iload C dX1_passTime_19 rfl ?_
      refine z_sipush (v := 256) C dX1_passTime_21 (by decide) ?_
      refine z_icmp_ge (tgt := 75) C dX1_passTime_24 (by decide) (fun c_24 => ?_) (fun c_24 => ?_)
      · have hend : t + 1 = 256 := by have := zge (b := 256) c_24 (by omega) (by decide); omega
        refine z_iload C dX1_passTime_75 rfl ?_
        exact z_ireturn C rfl (rfl) dX1_passTime_77 (⟨zvs (by rw [show 256 = t + 1 from hend.symm, zpb_A]), rfl⟩) (Nat.le_of_ble_eq_true rfl) (Nat.le_of_ble_eq_true rfl)
      · have hlt : t + 1 < 256 := znge (b := 256) c_24 (by omega) (by decide)
        refine z_aload_n (i := 3) C dX1_passTime_27 rfl rfl ?_
        refine z_iload C dX1_passTime_28 rfl ?_
        refine z_callVe C (vv.1) rfl (ct_X5_xAt D B (va k) _ _ _ (nI (t + 1)) vv.1) q1429 q703 q704 q108 q705 np_X5_xAt (zr_ok rfl rfl) rfl rfl (Nat.le_of_ble_eq_true rfl) (⟨Nat.le_of_ble_eq_true rfl, Nat.le_of_ble_eq_true rfl⟩) dX1_passTime_30 ?_
        refine z_aload C dX1_passTime_33 rfl ?_
        refine z_getfN (ci := 6) (k := 0) C (m1.1) rfl rfl q1025 dX1_passTime_35 ?_
        refine z_isub C dX1_passTime_38 ?_
        refine z_mabs C q1430 q1431 q97 q1432 (Nat.le_of_ble_eq_true rfl) (Nat.le_of_ble_eq_true rfl) (Nat.le_of_ble_eq_true rfl) (Nat.le_of_ble_eq_true rfl) dX1_passTime_39 ?_
        refine z_seti (y := zAx S k i (nI (t + 1))) (by unfold zAx; rw [zpx_0]; exact zabI_eq9 _) ?_
        refine z_aload_n (i := 3) C dX1_passTime_42 rfl rfl ?_
        refine z_iload C dX1_passTime_43 rfl ?_
        refine z_callVe C (vv.1) rfl (ct_X5_xAt D B (va k) _ _ _ (zpb S k i t) vv.1) q1429 q703 q704 q108 q705 np_X5_xAt (zr_ok rfl rfl) rfl rfl (Nat.le_of_ble_eq_true rfl) (⟨Nat.le_of_ble_eq_true rfl, Nat.le_of_ble_eq_true rfl⟩) dX1_passTime_45 ?_
        refine z_aload C dX1_passTime_48 rfl ?_
        refine z_getfN (ci := 6) (k := 0) C (m1.1) rfl rfl q1025 dX1_passTime_50 ?_
        refine z_isub C dX1_passTime_53 ?_
        refine z_mabs C q1430 q1431 q97 q1432 (Nat.le_of_ble_eq_true rfl) (Nat.le_of_ble_eq_true rfl) (Nat.le_of_ble_eq_true rfl) (Nat.le_of_ble_eq_true rfl) dX1_passTime_54 ?_
        refine z_seti (y := zAx S k i (zpb S k i t)) (by unfold zAx; rw [zpx_0]; exact zabI_eq9 _) ?_
        refine z_icmp_ge (tgt := 65) C dX1_passTime_57 (by decide) (fun c_57 => ?_) (fun c_57 => ?_)
        · refine z_iload C dX1_passTime_65 rfl ?_
          refine z_istore C dX1_passTime_67 (Nat.le_of_ble_eq_true rfl) rfl ?_
          refine z_iinc (v := nI (t + 2)) C dX1_passTime_69 rfl (ziinc (t + 1)) (Nat.le_of_ble_eq_true rfl) rfl ?_
          refine z_goto (tgt := 19) C dX1_passTime_72 (by decide) ?_
          exact z_convG (ih19 (t + 1) (by omega) (by omega)) (And.intro (rfl) (And.intro (rfl) (And.intro (rfl) (And.intro (rfl) (And.intro (rfl) (And.intro (by first | exact congrArg Value.int (if_pos (by first | exact c_57 | exact Int32.not_le.mp c_57)).symm | exact congrArg Value.int (if_neg (by first | exact Int32.not_lt.mpr c_57 | exact c_57)).symm) (And.intro (rfl) trivial))))))) (Nat.le_of_ble_eq_true rfl) (Nat.le_of_ble_eq_true rfl)
        · refine z_iload C dX1_passTime_60 rfl ?_
          refine z_goto (tgt := 67) C dX1_passTime_62 (by decide) ?_
          refine z_istore C dX1_passTime_67 (Nat.le_of_ble_eq_true rfl) rfl ?_
          refine z_iinc (v := nI (t + 2)) C dX1_passTime_69 rfl (ziinc (t + 1)) (Nat.le_of_ble_eq_true rfl) rfl ?_
          refine z_goto (tgt := 19) C dX1_passTime_72 (by decide) ?_
          exact z_convG (ih19 (t + 1) (by omega) (by omega)) (And.intro (rfl) (And.intro (rfl) (And.intro (rfl) (And.intro (rfl) (And.intro (rfl) (And.intro (by first | exact congrArg Value.int (if_pos (by first | exact c_57 | exact Int32.not_le.mp c_57)).symm | exact congrArg Value.int (if_neg (by first | exact Int32.not_lt.mpr c_57 | exact c_57)).symm) (And.intro (rfl) trivial))))))) (Nat.le_of_ble_eq_true rfl) (Nat.le_of_ble_eq_true rfl)
  exact z_convG (lp19 257 0 (by omega) (by omega)) (And.intro (rfl) (And.intro (rfl) (And.intro (rfl) (And.intro (rfl) (And.intro (rfl) (And.intro (rfl) (And.intro (rfl) trivial))))))) (Nat.le_of_ble_eq_true rfl) (Nat.le_of_ble_eq_true rfl)
set_option maxHeartbeats 4000000 in
set_option maxRecDepth 100000 in
theorem ct_X1_passTime_x (D : zG) (B : Nat) {G : zH} (o : Nat) (v1 v2 v3 v4 v5 : Value) (χ : Nat → Nat) (c a lv ls lm fo pa su : Nat) (va sa ua ma ra : Nat → Nat) (rq : Nat) (S : Nat → Int32) (x y : Int32) (nv : Nat) (hO : G o = some (.inr (0, [.ref a, v1, v2, v3, v4, v5]))) (hR : zTr G χ c a lv ls lm fo pa su va sa ua ma ra rq S) (g : zGe S) (hc : 100 ≤ c) (ev : S 6 = nI nv) (nv4 : nv ≤ 4) (h1 : ¬ (0 ≤ x ∧ x ≤ S 6 - 1)) : Ct D B yX1_passTime (ws_ yX1_passTime cX1_passTime 7 (some .int)) (zrc 8 1 6) [.ref o, .int x, .int y] G (zpF) (zpxE zIOB G) := by
  refine ct_intro (by decide +kernel) (Nat.le_of_ble_eq_true rfl) ?_
  intro X C
  refine z_aload_n (i := 0) C dX1_passTime_0 rfl rfl ?_
  refine z_iload_n (i := 1) C dX1_passTime_1 rfl rfl ?_
  exact z_callV C (hO) rfl (ct_X1_vehicle_x D B o v1 v2 v3 v4 v5 χ c a lv ls lm fo pa su va sa ua ma ra rq S x nv hO hR g hc ev nv4 h1) q1424 q1426 qs20 q83 q1427 np_X1_vehicle (zr_ok rfl rfl) rfl rfl (Nat.le_of_ble_eq_true rfl) (⟨Nat.le_of_ble_eq_true rfl, Nat.le_of_ble_eq_true rfl⟩) dX1_passTime_2 (fun E9 q9 G9 h9 => z_out C h9 (Nat.le_of_ble_eq_true rfl) (Nat.le_of_ble_eq_true rfl)) (fun v9 G9 h9 => h9.elim)
set_option maxHeartbeats 4000000 in
set_option maxRecDepth 100000 in
theorem ct_X1_passTime_y (D : zG) (B : Nat) {G : zH} (o : Nat) (v1 v2 v3 v4 v5 : Value) (χ : Nat → Nat) (c a lv ls lm fo pa su : Nat) (va sa ua ma ra : Nat → Nat) (rq : Nat) (S : Nat → Int32) (k n nv : Nat) (y : Int32) (hO : G o = some (.inr (0, [.ref a, v1, v2, v3, v4, v5]))) (hR : zTr G χ c a lv ls lm fo pa su va sa ua ma ra rq S) (g : zGe S) (hc : 100 ≤ c) (e9 : S 8 = nI n) (n9 : n ≤ 8) (ev : S 6 = nI nv) (nv4 : nv ≤ 4) (hk : k < 100) (hv1 : 0 ≤ nI k ∧ nI k ≤ S 6 - 1) (h1 : ¬ (0 ≤ y ∧ y ≤ S 8 - 1)) : Ct D B yX1_passTime (ws_ yX1_passTime cX1_passTime 7 (some .int)) (zrc 8 1 6) [.ref o, .int (nI k), .int y] G (zpF) (zpxE zIOB G) := by
  refine ct_intro (by decide +kernel) (Nat.le_of_ble_eq_true rfl) ?_
  intro X C
  refine z_aload_n (i := 0) C dX1_passTime_0 rfl rfl ?_
  refine z_iload_n (i := 1) C dX1_passTime_1 rfl rfl ?_
  refine z_callVe C (hO) rfl (ct_X1_vehicle_ok D B o v1 v2 v3 v4 v5 χ c a lv ls lm fo pa su va sa ua ma ra rq S k nv hO hR g hc ev nv4 hk hv1) q1424 q1426 qs20 q83 q1427 np_X1_vehicle (zr_ok rfl rfl) rfl rfl (Nat.le_of_ble_eq_true rfl) (⟨Nat.le_of_ble_eq_true rfl, Nat.le_of_ble_eq_true rfl⟩) dX1_passTime_2 ?_
  refine z_astore_n (i := 3) C dX1_passTime_5 rfl (Nat.le_of_ble_eq_true rfl) rfl ?_
  refine z_aload_n (i := 0) C dX1_passTime_6 rfl rfl ?_
  refine z_iload_n (i := 2) C dX1_passTime_7 rfl rfl ?_
  exact z_callV C (hO) rfl (ct_X1_microphone_x D B o v1 v2 v3 v4 v5 χ c a lv ls lm fo pa su va sa ua ma ra rq S y n hO hR g hc e9 n9 h1) q1375 q1377 qs19 q83 q1378 np_X1_microphone (zr_ok rfl rfl) rfl rfl (Nat.le_of_ble_eq_true rfl) (⟨Nat.le_of_ble_eq_true rfl, Nat.le_of_ble_eq_true rfl⟩) dX1_passTime_8 (fun E9 q9 G9 h9 => z_out C h9 (Nat.le_of_ble_eq_true rfl) (Nat.le_of_ble_eq_true rfl)) (fun v9 G9 h9 => h9.elim)
theorem np_X2_copy : znp yX2_copy 0 := ⟨by decide +kernel, by decide +kernel, by decide +kernel⟩
set_option maxHeartbeats 4000000 in
set_option maxRecDepth 100000 in
theorem ct_X1_save_ok (D : zG) (B : Nat) {G : zH} (o : Nat) (v1 v2 v3 v4 v5 : Value) (χ : Nat → Nat) (c a lv ls lm fo pa su : Nat) (va sa ua ma ra : Nat → Nat) (rq : Nat) (S : Nat → Int32) (k c2 sv : Nat) (fs9 : Nat → Option Nat) (hO : G o = some (.inr (0, [.ref a, v1, v2, v3, v4, v5]))) (hR : zTr G χ c a lv ls lm fo pa su va sa ua ma ra rq S) (g : zGe S) (hc : 100 ≤ c) (hk : k < 2) (h : 0 ≤ nI k ∧ nI k ≤ 1) (hv1 : v1 = .ref sv) (hsv : zo G χ 11 sv (.inl (6, 2, .inr (.inr (.inr (.inr fs9)))))) (hc2 : 100 ≤ c2) (hcc : c2 + 100 ≤ c ∨ c + 100 ≤ c2) (h2 : S 2 = 0 ∨ S 2 = 1) (h5 : S 5 = 0 ∨ S 5 = 1) : Ct D B yX1_save (ws_ yX1_save cX1_save 2 none) (zrc 10 100 6000) [.ref o, .int (nI k)] G (fun r9 G9 => r9 = none ∧ ∃ (a2 : Nat) (χ9 : Nat → Nat) (lv2 ls2 lm2 fo2 pa2 su2 : Nat) (sa2 ua2 ma2 ra2 : Nat → Nat), zkee (fun y => zPc c2 y ∧ y ≠ 11) G χ G9 χ9 ∧ zTr G9 χ9 c2 a2 lv2 ls2 lm2 fo2 pa2 su2 va sa2 ua2 ma2 ra2 rq S ∧ zo G9 χ9 11 sv (.inl (6, 2, .inr (.inr (.inr (.inr (va_up fs9 k (some a2)))))))) zno := by
  refine ct_intro (by decide +kernel) (Nat.le_of_ble_eq_true rfl) ?_
  intro X C
  subst hv1
  refine z_iload_n (i := 1) C dX1_save_0 rfl rfl ?_
  refine z_i2l C dX1_save_1 rfl ?_
  refine z_lconst (v := 0) C dX1_save_2 (by decide) ?_
  refine z_lconst (v := 1) C dX1_save_3 (by decide) ?_
  refine z_callSe C (ct_X1_isBetween D B (nI k) 0 1 0 1 (by decide) (by decide)) q1220 q789 q83 q790 np_X1_isBetween (zr_ok rfl rfl) rfl rfl (Nat.le_of_ble_eq_true rfl) (⟨Nat.le_of_ble_eq_true rfl, Nat.le_of_ble_eq_true rfl⟩) dX1_save_4 ?_
  refine z_callSe C (ct_X1_checkArgument_ok D B _ (zb_ne.mpr h)) q1221 q1222 q83 q1223 np_X1_checkArgument (zr_ok rfl rfl) rfl rfl (Nat.le_of_ble_eq_true rfl) (⟨Nat.le_of_ble_eq_true rfl, Nat.le_of_ble_eq_true rfl⟩) dX1_save_7 ?_
  refine z_aload_n (i := 0) C dX1_save_10 rfl rfl ?_
  refine z_getf (ci := 0) (k := 1) C (hO) rfl rfl q571 dX1_save_11 ?_
  refine z_iload_n (i := 1) C dX1_save_14 rfl rfl ?_
  refine z_aload_n (i := 0) C dX1_save_15 rfl rfl ?_
  refine z_getf (ci := 0) (k := 0) C (hO) rfl rfl q570 dX1_save_16 ?_
  refine z_callVn C (hR.1.1) rfl (ct_X2_copy D B χ c a lv ls lm fo pa su va sa ua ma ra rq S c2 hR g hc hc2 hcc h2 h5) q1808 q1809 q1810 q84 q1811 np_X2_copy (zr_ok rfl rfl) rfl rfl (Nat.le_of_ble_eq_true rfl) (⟨Nat.le_of_ble_eq_true rfl, Nat.le_of_ble_eq_true rfl⟩) dX1_save_19 ?_
  intro v9 G9 h9
  obtain ⟨a2, rfl, χ9, lv2, ls2, lm2, fo2, pa2, su2, sa2, ua2, ma2, ra2, K9, t9⟩ := h9
  have s9 := hsv.kp (show zPc c2 11 from ⟨by decide, by omega⟩) K9
  have q9 : zkee (fun y => y ≠ 11) G9 χ9 (zup G9 sv (.inl (6, 2, .inr (.inr (.inr (.inr (va_up fs9 k (some a2)))))))) χ9 := zkee.put s9.2 (fun h => h rfl)
  refine z_aast (ci := 1) (t := 6) (E0 := "TrackArray$Track") C s9.1 rfl t9.1.1 rfl (Or.inl rfl) (by
    have e1 := nI_pos (n := k) (by omega)
    have e2 := nI_clamp (n := k) (by omega)
    intro h
    rcases h with h | h
    · exact e1 h
    · rw [e2] at h; omega) dX1_save_22 ?_
  rw [nI_clamp (n := k) (by omega)]
  exact z_return C rfl dX1_save_23 (⟨rfl, a2, χ9, lv2, ls2, lm2, fo2, pa2, su2, sa2, ua2, ma2, ra2, (K9.mono (fun y hy => hy.1)).trans (q9.mono (fun y hy => hy.2)), t9.kp g (fun x hx => by show x ≠ 11; omega) q9, ⟨zup_s, s9.2⟩⟩) (Nat.le_of_ble_eq_true rfl) (Nat.le_of_ble_eq_true rfl)
set_option maxHeartbeats 4000000 in
set_option maxRecDepth 100000 in
theorem ct_X1_save_x (D : zG) (B : Nat) {G : zH} (o : Nat) (v1 v2 v3 v4 v5 : Value) (χ : Nat → Nat) (c a lv ls lm fo pa su : Nat) (va sa ua ma ra : Nat → Nat) (rq : Nat) (S : Nat → Int32) (x : Int32) (h : ¬ (0 ≤ x ∧ x ≤ 1)) : Ct D B yX1_save (ws_ yX1_save cX1_save 2 none) (zrc 8 1 6) [.ref o, .int x] G (zpF) (zpxE zIAE G) := by
  refine ct_intro (by decide +kernel) (Nat.le_of_ble_eq_true rfl) ?_
  intro X C
  refine z_iload_n (i := 1) C dX1_save_0 rfl rfl ?_
  refine z_i2l C dX1_save_1 rfl ?_
  refine z_lconst (v := 0) C dX1_save_2 (by decide) ?_
  refine z_lconst (v := 1) C dX1_save_3 (by decide) ?_
  refine z_callSe C (ct_X1_isBetween D B x 0 1 0 1 (by decide) (by decide)) q1220 q789 q83 q790 np_X1_isBetween (zr_ok rfl rfl) rfl rfl (Nat.le_of_ble_eq_true rfl) (⟨Nat.le_of_ble_eq_true rfl, Nat.le_of_ble_eq_true rfl⟩) dX1_save_4 ?_
  exact z_callS C (ct_X1_checkArgument_x D B _ (zb_eq.mpr h)) q1221 q1222 q83 q1223 np_X1_checkArgument (zr_ok rfl rfl) rfl rfl (Nat.le_of_ble_eq_true rfl) (⟨Nat.le_of_ble_eq_true rfl, Nat.le_of_ble_eq_true rfl⟩) dX1_save_7 (fun E9 q9 G9 h9 => z_out C h9 (Nat.le_of_ble_eq_true rfl) (Nat.le_of_ble_eq_true rfl)) (fun v9 G9 h9 => h9.elim)
set_option maxHeartbeats 4000000 in
set_option maxRecDepth 100000 in
theorem ct_X1_restore_x (D : zG) (B : Nat) {G : zH} (o : Nat) (v1 v2 v3 v4 v5 : Value) (χ : Nat → Nat) (c a lv ls lm fo pa su : Nat) (va sa ua ma ra : Nat → Nat) (rq : Nat) (S : Nat → Int32) (x : Int32) (h : ¬ (0 ≤ x ∧ x ≤ 1)) : Ct D B yX1_restore (ws_ yX1_restore cX1_restore 2 none) (zrc 8 1 6) [.ref o, .int x] G (zpF) (zpxE zIAE G) := by
  refine ct_intro (by decide +kernel) (Nat.le_of_ble_eq_true rfl) ?_
  intro X C
  refine z_iload_n (i := 1) C dX1_restore_0 rfl rfl ?_
  refine z_i2l C dX1_restore_1 rfl ?_
  refine z_lconst (v := 0) C dX1_restore_2 (by decide) ?_
  refine z_lconst (v := 1) C dX1_restore_3 (by decide) ?_
  refine z_callSe C (ct_X1_isBetween D B x 0 1 0 1 (by decide) (by decide)) q1220 q789 q83 q790 np_X1_isBetween (zr_ok rfl rfl) rfl rfl (Nat.le_of_ble_eq_true rfl) (⟨Nat.le_of_ble_eq_true rfl, Nat.le_of_ble_eq_true rfl⟩) dX1_restore_4 ?_
  exact z_callS C (ct_X1_checkArgument_x D B _ (zb_eq.mpr h)) q1221 q1222 q83 q1223 np_X1_checkArgument (zr_ok rfl rfl) rfl rfl (Nat.le_of_ble_eq_true rfl) (⟨Nat.le_of_ble_eq_true rfl, Nat.le_of_ble_eq_true rfl⟩) dX1_restore_7 (fun E9 q9 G9 h9 => z_out C h9 (Nat.le_of_ble_eq_true rfl) (Nat.le_of_ble_eq_true rfl)) (fun v9 G9 h9 => h9.elim)
