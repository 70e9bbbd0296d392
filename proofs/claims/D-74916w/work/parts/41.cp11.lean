/-! component: signals and their measures -/
theorem zmaxL (a b : Int32) : (if b.toInt64 < a.toInt64 then a.toInt64 else b.toInt64) = (zmxI a b).toInt64 := by
  unfold zmxI
  by_cases h : a < b
  · rw [if_pos h, if_neg (fun q => by rw [Int64.lt_iff_toInt_lt, Int32.toInt_toInt64, Int32.toInt_toInt64] at q; rw [Int32.lt_iff_toInt_lt] at h; omega)]
  · rw [if_neg h]
    split
    · rfl
    · next q =>
      congr 1
      rw [Int64.lt_iff_toInt_lt, Int32.toInt_toInt64, Int32.toInt_toInt64] at q
      rw [Int32.lt_iff_toInt_lt] at h
      exact Int32.toInt_inj.mp (by omega)
theorem zabsL (x : Int32) (h : ¬ x = -2147483648) : (if 0 < x.toInt64 then x.toInt64 else -x.toInt64) = (zabI x).toInt64 := by
  have hm : -2147483648 < x.toInt := by
    have h1 := Int32.minValue_le_toInt x
    have h2 : x.toInt ≠ -2147483648 := fun q => h (Int32.toInt_inj.mp (q.trans (by decide)))
    have h3 : Int32.minValue.toInt = -2147483648 := by decide
    omega
  have hM := Int32.toInt_lt x
  have en : (-x).toInt = -x.toInt := by
    rw [Int32.toInt_neg]
    exact Int.bmod_eq_of_le (by omega) (by omega)
  have eN : (-x.toInt64).toInt = -x.toInt := by
    rw [Int64.toInt_neg, Int32.toInt_toInt64]
    exact Int.bmod_eq_of_le (by omega) (by omega)
  unfold zabI
  by_cases q : 0 < x
  · rw [if_pos (Int32.le_of_lt q), if_pos (by rw [Int64.lt_iff_toInt_lt, Int32.toInt_toInt64]; rw [Int32.lt_iff_toInt_lt] at q; exact q)]
  · rw [if_neg (fun z => q (by rw [Int64.lt_iff_toInt_lt, Int32.toInt_toInt64] at z; rw [Int32.lt_iff_toInt_lt]; exact z))]
    by_cases z : 0 ≤ x
    · have e0 : x = 0 := Int32.le_antisymm (Int32.not_lt.mp q) z
      subst e0
      rfl
    · rw [if_neg z]
      exact Int64.toInt_inj.mp (by rw [eN, Int32.toInt_toInt64, en])
theorem zshr63 (x : Int64) : x >>> ((63 : Int32).toInt64 &&& 63) = if x < 0 then -1 else 0 := by
  apply Int64.toInt_inj.mp
  have e : ((63 : Int32).toInt64 &&& 63) = (63 : Int64) := by decide
  rw [e]
  show (x >>> (63 : Int64)).toInt = _
  have h1 : (x >>> (63 : Int64)).toInt = x.toInt / 2 ^ 63 := by
    rw [show (x >>> (63 : Int64)).toInt = (x.toBitVec.sshiftRight 63).toInt from rfl, BitVec.toInt_sshiftRight, Int.shiftRight_eq_div_pow]
    rfl
  rw [h1]
  have h2 := Int64.minValue_le_toInt x
  have h3 := Int64.toInt_lt x
  have h4 : Int64.minValue.toInt = -9223372036854775808 := by decide
  by_cases q : x < 0
  · rw [if_pos q]
    rw [Int64.lt_iff_toInt_lt] at q
    have : x.toInt < 0 := q
    show x.toInt / 9223372036854775808 = -1
    omega
  · rw [if_neg q]
    have : ¬ x.toInt < 0 := fun z => q (by rw [Int64.lt_iff_toInt_lt]; exact z)
    show x.toInt / 9223372036854775808 = 0
    omega
theorem zusr63 (x : Int64) : (x.toUInt64 >>> ((63 : Int32).toInt64.toUInt64 &&& Int64.toUInt64 63)).toInt64 = if x < 0 then 1 else 0 := by
  apply Int64.toInt_inj.mp
  have e : ((63 : Int32).toInt64.toUInt64 &&& Int64.toUInt64 63) = (63 : UInt64) := by decide
  rw [e]
  have h0 : (x.toUInt64 >>> (63 : UInt64)).toNat = x.toBitVec.toNat / 2 ^ 63 := by
    rw [UInt64.toNat_shiftRight]
    show x.toBitVec.toNat >>> (63 % 64) = _
    rw [Nat.shiftRight_eq_div_pow]
  have hl := x.toBitVec.isLt
  have hc := BitVec.toInt_eq_toNat_cond x.toBitVec
  have hx : x.toInt = x.toBitVec.toInt := rfl
  have hq : x < 0 ↔ 2 ^ 63 ≤ x.toBitVec.toNat := by
    rw [Int64.lt_iff_toInt_lt, hx, hc]
    show _ < (0 : Int) ↔ _
    split <;> omega
  have hu : ∀ (u : UInt64) (k : Nat), u.toNat = k → k < 2 → u.toInt64 = if k = 1 then 1 else 0 := by
    intro u k h1 h2
    have : u = UInt64.ofNat k := UInt64.toNat_inj.mp (by rw [h1, UInt64.toNat_ofNat']; exact (Nat.mod_eq_of_lt (by omega)).symm)
    subst this
    rcases (show k = 0 ∨ k = 1 by omega) with rfl | rfl <;> rfl
  by_cases q : x < 0
  · rw [if_pos q, hu _ 1 (by rw [h0]; have := hq.mp q; omega) (by decide)]; rfl
  · rw [if_neg q, hu _ 0 (by rw [h0]; have : ¬ 2 ^ 63 ≤ x.toBitVec.toNat := fun z => q (hq.mpr z); omega) (by decide)]; rfl
theorem zsgL (x : Int32) : ((if x.toInt64 < 0 then (-1 : Int64) else 0) ||| (if -x.toInt64 < 0 then (1 : Int64) else 0)).toInt32 = zsg x := by
  have eN : (-x.toInt64).toInt = -x.toInt := by
    have h1 := Int32.minValue_le_toInt x
    have h3 : Int32.minValue.toInt = -2147483648 := by decide
    have hM := Int32.toInt_lt x
    rw [Int64.toInt_neg, Int32.toInt_toInt64]
    exact Int.bmod_eq_of_le (by omega) (by omega)
  have a1 : x.toInt64 < 0 ↔ x.toInt < 0 := by rw [Int64.lt_iff_toInt_lt, Int32.toInt_toInt64]; exact Iff.rfl
  have a2 : -x.toInt64 < 0 ↔ 0 < x.toInt := by
    rw [Int64.lt_iff_toInt_lt, eN]
    show -x.toInt < 0 ↔ _
    omega
  have b1 : x < 0 ↔ x.toInt < 0 := by rw [Int32.lt_iff_toInt_lt]; exact Iff.rfl
  have b2 : 0 < x ↔ 0 < x.toInt := by rw [Int32.lt_iff_toInt_lt]; exact Iff.rfl
  unfold zsg
  by_cases p : 0 < x.toInt
  · rw [if_neg (fun q => by have := a1.mp q; omega), if_pos (a2.mpr p), if_pos (b2.mpr p)]; rfl
  · by_cases n : x.toInt < 0
    · rw [if_pos (a1.mpr n), if_neg (fun q => p (a2.mp q)), if_neg (fun q => p (b2.mp q)), if_pos (b1.mpr n)]; rfl
    · rw [if_neg (fun q => n (a1.mp q)), if_neg (fun q => p (a2.mp q)), if_neg (fun q => p (b2.mp q)), if_neg (fun q => n (b1.mp q))]; rfl
set_option maxHeartbeats 4000000 in
set_option maxRecDepth 100000 in
theorem ct_X2_lambda_beam_0 (D : zG) (B : Nat) {G : zH} (a su n : Nat) (v0 v1 v2 v3 v4 v5 v6 v7 v8 v9 v10 v11 : Value) (w : Nat → Int64) (h1 : G a = some (.inr (1, [v0, v1, v2, v3, v4, v5, v6, v7, v8, v9, v10, v11, .ref su]))) (h2 : G su = some (.inl (1, 256, .inr (.inl w)))) (hn : n < 256) : Ct D B yX2_lambda_beam_0 (ws_ yX2_lambda_beam_0 cX2_lambda_beam_0 2 (some .long)) (zr 0) [.ref a, .int (nI n)] G (zpe (some (.long (w n))) G) zno := by
  refine ct_intro (by decide +kernel) (Nat.le_of_ble_eq_true rfl) ?_
  intro X C
  refine z_aload_n (i := 0) C dX2_lambda_beam_0_0 rfl rfl ?_
  refine z_getf (ci := 1) (k := 12) C (by first | assumption | exact (zup_n (by assumption)).trans (by assumption)) rfl rfl q539 dX2_lambda_beam_0_1 ?_
  refine z_iload_n (i := 1) C dX2_lambda_beam_0_4 rfl rfl ?_
  refine zj_lald C h2 (zixI rfl hn) (by omega) dX2_lambda_beam_0_5 ?_
  exact z_lreturn C rfl dX2_lambda_beam_0_6 (⟨rfl, rfl⟩) (Nat.le_of_ble_eq_true rfl) (Nat.le_of_ble_eq_true rfl)
set_option maxHeartbeats 4000000 in
set_option maxRecDepth 100000 in
theorem ct_X2_lambda_record_1 (D : zG) (B : Nat) {G : zH} (m q n : Nat) (x y z t : Int32) (w : Nat → Int32) (h1 : G m = some (.inr (6, [.int x, .int y, .int z, .int t, .ref q]))) (h2 : G q = some (.inl (0, 256, .inl w))) (hn : n < 256) : Ct D B yX2_lambda_record_1 (ws_ yX2_lambda_record_1 cX2_lambda_record_1 2 (some .long)) (zr 0) [.ref m, .int (nI n)] G (zpe (some (.long ((w n).toInt64))) G) zno := by
  refine ct_intro (by decide +kernel) (Nat.le_of_ble_eq_true rfl) ?_
  intro X C
  refine z_aload_n (i := 0) C dX2_lambda_record_1_0 rfl rfl ?_
  refine z_getfN (ci := 6) (k := 4) C (by first | assumption | exact (zup_n (by assumption)).trans (by assumption)) rfl rfl q1032 dX2_lambda_record_1_1 ?_
  refine z_iload_n (i := 1) C dX2_lambda_record_1_4 rfl rfl ?_
  refine zj_iald C h2 (zixI rfl hn) (by omega) dX2_lambda_record_1_5 ?_
  refine z_i2l C dX2_lambda_record_1_6 rfl ?_
  exact z_lreturn C rfl dX2_lambda_record_1_7 (⟨rfl, rfl⟩) (Nat.le_of_ble_eq_true rfl) (Nat.le_of_ble_eq_true rfl)
set_option maxHeartbeats 4000000 in
set_option maxRecDepth 100000 in
theorem cb_X17_of (D : zG) (B : Nat) {G : zH} (f : Nat → Int32) (v b a l N : Nat) (hs : zSg D B G b N f) (ha : a ≤ l + 1) (hl : l < N) (hN : N ≤ 256) : CtB D B yX17_of cX17_of 7 (some .long) (zr 2) [.ref v, .ref b, .int (nI a), .int (nI l)] G (zpe (some (.long (zen f a l))) G) := by
  intro X C
  refine z_lconst (v := 0) C dX17_of_0 (by decide) ?_
  refine z_lstore C dX17_of_1 (Nat.le_of_ble_eq_true rfl) rfl ?_
  refine z_iload_n (i := 2) C dX17_of_3 rfl rfl ?_
  refine z_istore C dX17_of_4 (Nat.le_of_ble_eq_true rfl) rfl ?_
  have lp6 : ∀ (μ : Nat) (i : Nat) (h1 : a ≤ i) (h2 : i ≤ l + 1), l + 1 - i < μ → Z X 6 [none, some (.ref b), some (.int (nI a)), some (.int (nI l)), some (.long (zsumL (fun t => (f t).toInt64 * (f t).toInt64) a (i - a))), none, some (.int (nI i))] [] G 0 0 := by
    intro μ
    induction μ with
    | zero => intro i h1 h2 hμ; exact absurd hμ (Nat.not_lt_zero _)
    | succ μ ih6 =>
      intro i h1 h2 hμ
      refine z_iload C dX17_of_6 rfl ?_
      refine z_iload_n (i := 3) C dX17_of_8 rfl rfl ?_
      refine z_icmp_gt (tgt := 40) C dX17_of_9 (by decide) (fun c_9 => ?_) (fun c_9 => ?_)
      · have hend : l < i := zgt c_9 (by omega) (by omega)
        refine z_lload C dX17_of_40 rfl ?_
        exact z_lreturn C rfl dX17_of_42 (⟨zvl (by unfold zen; rw [show i = l + 1 by omega]), rfl⟩) (Nat.le_of_ble_eq_true rfl) (Nat.le_of_ble_eq_true rfl)
      · have hle : i ≤ l := zngt c_9 (by omega) (by omega)
        refine z_lload C dX17_of_12 rfl ?_
        refine z_aload_n (i := 1) C dX17_of_14 rfl rfl ?_
        refine z_iload C dX17_of_15 rfl ?_
        refine z_sig C (hs) ((by omega : i < N)) (by omega) q1481 q1483 q2475 ⟨rfl, rfl⟩ rfl (Nat.le_of_ble_eq_true rfl) (⟨Nat.le_of_ble_eq_true rfl, Nat.le_of_ble_eq_true rfl⟩) dX17_of_17 ?_
        refine z_aload_n (i := 1) C dX17_of_22 rfl rfl ?_
        refine z_iload C dX17_of_23 rfl ?_
        refine z_sig C (hs) ((by omega : i < N)) (by omega) q1481 q1483 q2475 ⟨rfl, rfl⟩ rfl (Nat.le_of_ble_eq_true rfl) (⟨Nat.le_of_ble_eq_true rfl, Nat.le_of_ble_eq_true rfl⟩) dX17_of_25 ?_
        refine z_lmul C dX17_of_30 ?_
        refine z_ladd C dX17_of_31 ?_
        refine z_lstore C dX17_of_32 (Nat.le_of_ble_eq_true rfl) rfl ?_
        refine z_iinc (v := nI (i + 1)) C dX17_of_34 rfl (ziinc i) (Nat.le_of_ble_eq_true rfl) rfl ?_
        refine z_goto (tgt := 6) C dX17_of_37 (by decide) ?_
        exact z_convG (ih6 (i + 1) (by omega) (by omega) (by omega)) (And.intro (rfl) (And.intro (rfl) (And.intro (rfl) (And.intro (by rw [zsumL_1 _ h1]) (And.intro (rfl) trivial))))) (Nat.le_of_ble_eq_true rfl) (Nat.le_of_ble_eq_true rfl)
  exact z_convG (lp6 (l + 2) a (by omega) (by omega) (by omega)) (And.intro (rfl) (And.intro (rfl) (And.intro (rfl) (And.intro (by rw [Nat.sub_self]; rfl) (And.intro (rfl) trivial))))) (Nat.le_of_ble_eq_true rfl) (Nat.le_of_ble_eq_true rfl)
set_option maxHeartbeats 4000000 in
set_option maxRecDepth 100000 in
theorem cb_X19_of (D : zG) (B : Nat) {G : zH} (f : Nat → Int32) (v b a l N : Nat) (hs : zSg D B G b N f) (ha : a ≤ l + 1) (hl : l < N) (hN : N ≤ 256) : CtB D B yX19_of cX19_of 7 (some .long) (zr 2) [.ref v, .ref b, .int (nI a), .int (nI l)] G (zpe (some (.long (zsm f a l))) G) := by
  intro X C
  refine z_lconst (v := 0) C dX19_of_0 (by decide) ?_
  refine z_lstore C dX19_of_1 (Nat.le_of_ble_eq_true rfl) rfl ?_
  refine z_iload_n (i := 2) C dX19_of_3 rfl rfl ?_
  refine z_istore C dX19_of_4 (Nat.le_of_ble_eq_true rfl) rfl ?_
  have lp6 : ∀ (μ : Nat) (i : Nat) (h1 : a ≤ i) (h2 : i ≤ l + 1), l + 1 - i < μ → Z X 6 [none, some (.ref b), some (.int (nI a)), some (.int (nI l)), some (.long (zsumL (fun t => (f t).toInt64) a (i - a))), none, some (.int (nI i))] [] G 0 0 := by
    intro μ
    induction μ with
    | zero => intro i h1 h2 hμ; exact absurd hμ (Nat.not_lt_zero _)
    | succ μ ih6 =>
      intro i h1 h2 hμ
      refine z_iload C dX19_of_6 rfl ?_
      refine z_iload_n (i := 3) C dX19_of_8 rfl rfl ?_
      refine z_icmp_gt (tgt := 31) C dX19_of_9 (by decide) (fun c_9 => ?_) (fun c_9 => ?_)
      · have hend : l < i := zgt c_9 (by omega) (by omega)
        refine z_lload C dX19_of_31 rfl ?_
        exact z_lreturn C rfl dX19_of_33 (⟨zvl (by unfold zsm; rw [show i = l + 1 by omega]), rfl⟩) (Nat.le_of_ble_eq_true rfl) (Nat.le_of_ble_eq_true rfl)
      · have hle : i ≤ l := zngt c_9 (by omega) (by omega)
        refine z_lload C dX19_of_12 rfl ?_
        refine z_aload_n (i := 1) C dX19_of_14 rfl rfl ?_
        refine z_iload C dX19_of_15 rfl ?_
        refine z_sig C (hs) ((by omega : i < N)) (by omega) q1505 q1483 q2475 ⟨rfl, rfl⟩ rfl (Nat.le_of_ble_eq_true rfl) (⟨Nat.le_of_ble_eq_true rfl, Nat.le_of_ble_eq_true rfl⟩) dX19_of_17 ?_
        refine z_ladd C dX19_of_22 ?_
        refine z_lstore C dX19_of_23 (Nat.le_of_ble_eq_true rfl) rfl ?_
        refine z_iinc (v := nI (i + 1)) C dX19_of_25 rfl (ziinc i) (Nat.le_of_ble_eq_true rfl) rfl ?_
        refine z_goto (tgt := 6) C dX19_of_28 (by decide) ?_
        exact z_convG (ih6 (i + 1) (by omega) (by omega) (by omega)) (And.intro (rfl) (And.intro (rfl) (And.intro (rfl) (And.intro (by rw [zsumL_1 _ h1]) (And.intro (rfl) trivial))))) (Nat.le_of_ble_eq_true rfl) (Nat.le_of_ble_eq_true rfl)
  exact z_convG (lp6 (l + 2) a (by omega) (by omega) (by omega)) (And.intro (rfl) (And.intro (rfl) (And.intro (rfl) (And.intro (by rw [Nat.sub_self]; rfl) (And.intro (rfl) trivial))))) (Nat.le_of_ble_eq_true rfl) (Nat.le_of_ble_eq_true rfl)
theorem np_J12_abs_2 : znp yJ12_abs_2 1 := ⟨by decide +kernel, by decide +kernel, by decide +kernel⟩
theorem np_J12_max_2 : znp yJ12_max_2 2 := ⟨by decide +kernel, by decide +kernel, by decide +kernel⟩
set_option maxHeartbeats 4000000 in
set_option maxRecDepth 100000 in
theorem cb_X18_of (D : zG) (B : Nat) {G : zH} (f : Nat → Int32) (v b a l N : Nat) (hs : zSg D B G b N f) (ha : a ≤ l + 1) (hl : l < N) (hN : N ≤ 256) (hm : ∀ t, t < N → ¬ f t = -2147483648) : CtB D B yX18_of cX18_of 7 (some .long) (zr 2) [.ref v, .ref b, .int (nI a), .int (nI l)] G (zpe (some (.long ((zpk f a (l + 1 - a)).toInt64))) G) := by
  intro X C
  refine z_lconst (v := 0) C dX18_of_0 (by decide) ?_
  refine z_lstore C dX18_of_1 (Nat.le_of_ble_eq_true rfl) rfl ?_
  refine z_iload_n (i := 2) C dX18_of_3 rfl rfl ?_
  refine z_istore C dX18_of_4 (Nat.le_of_ble_eq_true rfl) rfl ?_
  have lp6 : ∀ (μ : Nat) (i : Nat) (h1 : a ≤ i) (h2 : i ≤ l + 1), l + 1 - i < μ → Z X 6 [none, some (.ref b), some (.int (nI a)), some (.int (nI l)), some (.long (zpk f a (i - a)).toInt64), none, some (.int (nI i))] [] G 0 0 := by
    intro μ
    induction μ with
    | zero => intro i h1 h2 hμ; exact absurd hμ (Nat.not_lt_zero _)
    | succ μ ih6 =>
      intro i h1 h2 hμ
      refine z_iload C dX18_of_6 rfl ?_
      refine z_iload_n (i := 3) C dX18_of_8 rfl rfl ?_
      refine z_icmp_gt (tgt := 36) C dX18_of_9 (by decide) (fun c_9 => ?_) (fun c_9 => ?_)
      · have hend : l < i := zgt c_9 (by omega) (by omega)
        refine z_lload C dX18_of_36 rfl ?_
        exact z_lreturn C rfl dX18_of_38 (⟨zvl (by rw [show i = l + 1 by omega]), rfl⟩) (Nat.le_of_ble_eq_true rfl) (Nat.le_of_ble_eq_true rfl)
      · have hle : i ≤ l := zngt c_9 (by omega) (by omega)
        refine z_lload C dX18_of_12 rfl ?_
        refine z_aload_n (i := 1) C dX18_of_14 rfl rfl ?_
        refine z_iload C dX18_of_15 rfl ?_
        refine z_sig C (hs) ((by omega : i < N)) (by omega) q1488 q1483 q2475 ⟨rfl, rfl⟩ rfl (Nat.le_of_ble_eq_true rfl) (⟨Nat.le_of_ble_eq_true rfl, Nat.le_of_ble_eq_true rfl⟩) dX18_of_17 ?_
        refine z_mabsL C q1489 q1490 q97 q1491 (Nat.le_of_ble_eq_true rfl) (Nat.le_of_ble_eq_true rfl) (Nat.le_of_ble_eq_true rfl) (Nat.le_of_ble_eq_true rfl) dX18_of_22 ?_
        refine z_setl (zabsL (f i) (hm i (by omega))) ?_
        refine z_mmaxL C q1492 q1493 q97 q1494 (Nat.le_of_ble_eq_true rfl) (Nat.le_of_ble_eq_true rfl) (Nat.le_of_ble_eq_true rfl) (Nat.le_of_ble_eq_true rfl) dX18_of_25 ?_
        refine z_setl (zmaxL _ _) ?_
        refine z_lstore C dX18_of_28 (Nat.le_of_ble_eq_true rfl) rfl ?_
        refine z_iinc (v := nI (i + 1)) C dX18_of_30 rfl (ziinc i) (Nat.le_of_ble_eq_true rfl) rfl ?_
        refine z_goto (tgt := 6) C dX18_of_33 (by decide) ?_
        exact z_convG (ih6 (i + 1) (by omega) (by omega) (by omega)) (And.intro (rfl) (And.intro (rfl) (And.intro (rfl) (And.intro (by rw [zpk_1 _ h1]) (And.intro (rfl) trivial))))) (Nat.le_of_ble_eq_true rfl) (Nat.le_of_ble_eq_true rfl)
  exact z_convG (lp6 (l + 2) a (by omega) (by omega) (by omega)) (And.intro (rfl) (And.intro (rfl) (And.intro (rfl) (And.intro (by rw [Nat.sub_self]; rfl) (And.intro (rfl) trivial))))) (Nat.le_of_ble_eq_true rfl) (Nat.le_of_ble_eq_true rfl)
set_option maxHeartbeats 4000000 in
set_option maxRecDepth 100000 in
theorem ct_J23_signum (D : zG) (B : Nat) {G : zH} (x : Int32)  : Ct D B yJ23_signum (ws_ yJ23_signum cJ23_signum 2 (some .int)) (zr 0) [.long x.toInt64] G (zpe (some (.int (zsg x))) G) zno := by
  refine ct_intro (by decide +kernel) (Nat.le_of_ble_eq_true rfl) ?_
  intro X C
  refine z_lload_n (i := 0) C dJ23_signum_0 rfl rfl ?_
  refine z_bipush (v := 63) C dJ23_signum_1 (by decide) ?_
  refine z_lshr C dJ23_signum_3 (zshr63 _) ?_
  refine z_lload_n (i := 0) C dJ23_signum_4 rfl rfl ?_
  refine z_lneg C dJ23_signum_5 ?_
  refine z_bipush (v := 63) C dJ23_signum_6 (by decide) ?_
  refine z_lushr C dJ23_signum_8 rfl ?_
  refine z_lor C dJ23_signum_9 ?_
  refine z_l2i C dJ23_signum_10 rfl ?_
  exact z_ireturn C rfl (rfl) dJ23_signum_11 (⟨zvs (by rw [zusr63]; exact zsgL x), rfl⟩) (Nat.le_of_ble_eq_true rfl) (Nat.le_of_ble_eq_true rfl)
theorem np_J23_signum : znp yJ23_signum 1 := ⟨by decide +kernel, by decide +kernel, by decide +kernel⟩
set_option maxHeartbeats 4000000 in
set_option maxRecDepth 100000 in
theorem cb_X20_of (D : zG) (B : Nat) {G : zH} (f : Nat → Int32) (v b a l N : Nat) (hs : zSg D B G b N f) (ha : a ≤ l) (hl : l < N) (hN : N ≤ 256) : CtB D B yX20_of cX20_of 6 (some .long) (zr 2) [.ref v, .ref b, .int (nI a), .int (nI l)] G (zpe (some (.long ((zcr f a (l - a)).toInt64))) G) := by
  intro X C
  refine z_iconst (v := 0) C dX20_of_0 (by decide) ?_
  refine z_istore C dX20_of_1 (Nat.le_of_ble_eq_true rfl) rfl ?_
  refine z_iload_n (i := 2) C dX20_of_3 rfl rfl ?_
  refine z_iconst (v := 1) C dX20_of_4 (by decide) ?_
  refine z_iadd C dX20_of_5 ?_
  refine z_seti (nI_1 a) ?_
  refine z_istore C dX20_of_6 (Nat.le_of_ble_eq_true rfl) rfl ?_
  have lp8 : ∀ (μ : Nat) (i : Nat) (h1 : a + 1 ≤ i) (h2 : i ≤ l + 1), l + 1 - i < μ → Z X 8 [none, some (.ref b), some (.int (nI a)), some (.int (nI l)), some (.int (zcr f a (i - (a + 1)))), some (.int (nI i))] [] G 0 0 := by
    intro μ
    induction μ with
    | zero => intro i h1 h2 hμ; exact absurd hμ (Nat.not_lt_zero _)
    | succ μ ih8 =>
      intro i h1 h2 hμ
      refine z_iload C dX20_of_8 rfl ?_
      refine z_iload_n (i := 3) C dX20_of_10 rfl rfl ?_
      refine z_icmp_gt (tgt := 57) C dX20_of_11 (by decide) (fun c_11 => ?_) (fun c_11 => ?_)
      · have hend : l < i := zgt c_11 (by omega) (by omega)
        refine z_iload C dX20_of_57 rfl ?_
        refine z_i2l C dX20_of_59 rfl ?_
        exact z_lreturn C rfl dX20_of_60 (⟨zvl (by rw [show i - (a + 1) = l - a by omega]), rfl⟩) (Nat.le_of_ble_eq_true rfl) (Nat.le_of_ble_eq_true rfl)
      · have hle : i ≤ l := zngt c_11 (by omega) (by omega)
        refine z_iload C dX20_of_14 rfl ?_
        refine z_aload_n (i := 1) C dX20_of_16 rfl rfl ?_
        refine z_iload C dX20_of_17 rfl ?_
        refine z_sig C (hs) ((by omega : i < N)) (by omega) q1509 q1483 q2475 ⟨rfl, rfl⟩ rfl (Nat.le_of_ble_eq_true rfl) (⟨Nat.le_of_ble_eq_true rfl, Nat.le_of_ble_eq_true rfl⟩) dX20_of_19 ?_
        refine z_callSe C (ct_J23_signum D B (f i)) q1510 q1511 q119 q1512 np_J23_signum (zr_ok rfl rfl) rfl rfl (Nat.le_of_ble_eq_true rfl) (⟨Nat.le_of_ble_eq_true rfl, Nat.le_of_ble_eq_true rfl⟩) dX20_of_24 ?_
        refine z_aload_n (i := 1) C dX20_of_27 rfl rfl ?_
        refine z_iload C dX20_of_28 rfl ?_
        refine z_iconst (v := 1) C dX20_of_30 (by decide) ?_
        refine z_isub C dX20_of_31 ?_
        refine z_seti (y := nI (i - 1)) (pk_sub (b := 1) (by omega)) ?_
        refine z_sig C (hs) ((by omega : i - 1 < N)) (by omega) q1509 q1483 q2475 ⟨rfl, rfl⟩ rfl (Nat.le_of_ble_eq_true rfl) (⟨Nat.le_of_ble_eq_true rfl, Nat.le_of_ble_eq_true rfl⟩) dX20_of_32 ?_
        refine z_callSe C (ct_J23_signum D B (f (i - 1))) q1510 q1511 q119 q1512 np_J23_signum (zr_ok rfl rfl) rfl rfl (Nat.le_of_ble_eq_true rfl) (⟨Nat.le_of_ble_eq_true rfl, Nat.le_of_ble_eq_true rfl⟩) dX20_of_37 ?_
        refine z_icmp_ne (tgt := 47) C dX20_of_40 (by decide) (fun c_40 => ?_) (fun c_40 => ?_)
        · refine z_iconst (v := 1) C dX20_of_47 (by decide) ?_
          refine z_iadd C dX20_of_48 ?_
          refine z_istore C dX20_of_49 (Nat.le_of_ble_eq_true rfl) rfl ?_
          refine z_iinc (v := nI (i + 1)) C dX20_of_51 rfl (ziinc i) (Nat.le_of_ble_eq_true rfl) rfl ?_
          refine z_goto (tgt := 8) C dX20_of_54 (by decide) ?_
          exact z_convG (ih8 (i + 1) (by omega) (by omega) (by omega)) (And.intro (rfl) (And.intro (rfl) (And.intro (rfl) (And.intro (by rw [show i + 1 - (a + 1) = (i - (a + 1)) + 1 by omega]; simp only [zcr]; rw [show a + 1 + (i - (a + 1)) = i by omega, show a + (i - (a + 1)) = i - 1 by omega]; first | rw [if_pos (Classical.byContradiction c_40)] | rw [if_neg c_40] | rw [if_pos c_40]) (And.intro (rfl) trivial))))) (Nat.le_of_ble_eq_true rfl) (Nat.le_of_ble_eq_true rfl)
        · refine z_iconst (v := 0) C dX20_of_43 (by decide) ?_
          refine z_goto (tgt := 48) C dX20_of_44 (by decide) ?_
          refine z_iadd C dX20_of_48 ?_
          refine z_istore C dX20_of_49 (Nat.le_of_ble_eq_true rfl) rfl ?_
          refine z_iinc (v := nI (i + 1)) C dX20_of_51 rfl (ziinc i) (Nat.le_of_ble_eq_true rfl) rfl ?_
          refine z_goto (tgt := 8) C dX20_of_54 (by decide) ?_
          exact z_convG (ih8 (i + 1) (by omega) (by omega) (by omega)) (And.intro (rfl) (And.intro (rfl) (And.intro (rfl) (And.intro (by rw [show i + 1 - (a + 1) = (i - (a + 1)) + 1 by omega]; simp only [zcr]; rw [show a + 1 + (i - (a + 1)) = i by omega, show a + (i - (a + 1)) = i - 1 by omega]; first | rw [if_pos (Classical.byContradiction c_40)] | rw [if_neg c_40] | rw [if_pos c_40]) (And.intro (rfl) trivial))))) (Nat.le_of_ble_eq_true rfl) (Nat.le_of_ble_eq_true rfl)
  exact z_convG (lp8 (l + 2) (a + 1) (by omega) (by omega) (by omega)) (And.intro (rfl) (And.intro (rfl) (And.intro (rfl) (And.intro (by rw [Nat.sub_self]; rfl) (And.intro (rfl) trivial))))) (Nat.le_of_ble_eq_true rfl) (Nat.le_of_ble_eq_true rfl)
