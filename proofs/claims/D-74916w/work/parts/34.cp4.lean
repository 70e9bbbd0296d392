/-! component: copies of lists, sources, microphones, distances -/
theorem zup_aba {h : zH} {a b : Nat} {x y z : zE} (n : ¬ a = b) : zup (zup (zup h a x) b y) a z = zup (zup h b y) a z := by
  funext q
  unfold zup
  by_cases p : q = a
  · simp only [if_pos p]
  · simp only [if_neg p]
theorem zup_no {h : zH} {a q : Nat} {e : zE} (w : zup h a e q = none) : ¬ q = a ∧ h q = none := by
  have n : ¬ q = a := fun z => by rw [z, zup_s] at w; cases w
  exact ⟨n, (zup_n n).symm.trans w⟩
theorem zne_of {h : zH} {a q : Nat} {e : zE} (w : h q = none) (g : h a = some e) : ¬ a = q := fun z => by rw [z, w] at g; cases g
/-- a cell that is forgotten under two others -/
theorem zsub2 {G : zH} {q b c : Nat} {e f g : zE} (hq : G q = none) : ∀ a x, zup (zup G b f) c g a = some x → zup (zup (zup G q e) b f) c g a = some x := by
  intro a x h
  unfold zup at h ⊢
  by_cases h1 : a = c
  · rw [if_pos h1] at h ⊢; exact h
  · rw [if_neg h1] at h ⊢
    by_cases h2 : a = b
    · rw [if_pos h2] at h ⊢; exact h
    · rw [if_neg h2] at h ⊢
      by_cases h3 : a = q
      · rw [h3, hq] at h; cases h
      · rw [if_neg h3]; exact h
set_option maxHeartbeats 4000000 in
set_option maxRecDepth 100000 in
theorem ct_J2_toArray (D : zG) (B : Nat) {G : zH} (a n : Nat) (f : Nat → Nat) (mc : Int32) (e cap : Nat) (g : Nat → Option Nat) (ci : Nat) (C0 : String) (T0 : u_T) (N0 : Nat) (hl : zli G a n f mc e cap g) (hel : zel G f n ci) (hc : zCL[ci]? = some (C0, T0, N0)) (hw : Cond.castable C0 "java/lang/Object" ∈ lw_tbl) : Ct D B yJ2_toArray (ws_ yJ2_toArray cJ2_toArray 1 (some (.array (.object "java/lang/Object")))) (zrc 3 1 24) [.ref a] G (fun r G9 => ∃ (q : Nat) (w : Nat → Option Nat), r = some (.ref q) ∧ G q = none ∧ (∀ i, i < n → w i = some (f i)) ∧ G9 = zup G q (.inl (5, n, .inr (.inr (.inr (.inr w)))))) zno := by
  refine ct_intro (by decide +kernel) (Nat.le_of_ble_eq_true rfl) ?_
  intro X C
  obtain ⟨h1, h2, ⟨h3, h4, h5⟩, h6, h7⟩ := hl
  refine z_aload_n (i := 0) C dJ2_toArray_0 rfl rfl ?_
  refine z_getf (ci := 13) (k := 1) C (h1) rfl rfl q474 dJ2_toArray_1 ?_
  refine z_aload_n (i := 0) C dJ2_toArray_4 rfl rfl ?_
  refine z_getf (ci := 13) (k := 2) C (h1) rfl rfl q477 dJ2_toArray_5 ?_
  refine z_callSn C (ct_J13_copyOf_2 D B e cap n g ci C0 T0 N0 h2 (by omega) (by omega) hc hw (hel.g h6 h7)) q1064 q1065 q98 q1066 np_J13_copyOf_2 (zr_ok rfl rfl) rfl rfl (Nat.le_of_ble_eq_true rfl) (⟨Nat.le_of_ble_eq_true rfl, Nat.le_of_ble_eq_true rfl⟩) dJ2_toArray_8 ?_
  intro v9 G9 h9
  obtain ⟨q, rfl, hq, rfl⟩ := h9
  exact z_areturn C rfl (Or.inr ⟨_, rfl⟩) (Or.inr ⟨_, rfl⟩) dJ2_toArray_11 (⟨q, _, rfl, hq, fun i hi => (zcpy_lo (by omega)).trans (h6 i hi), rfl⟩) (Nat.le_of_ble_eq_true rfl) (Nat.le_of_ble_eq_true rfl)
set_option maxHeartbeats 4000000 in
set_option maxRecDepth 100000 in
theorem ct_J2_addAll (D : zG) (B : Nat) {G : zH} (a b n : Nat) (f f0 : Nat → Nat) (mc mcb : Int32) (e cap eb capb : Nat) (g gb : Nat → Option Nat) (ci : Nat) (C0 : String) (T0 : u_T) (N0 : Nat) (ha0 : zli G a 0 f0 mc e cap g) (hb0 : zli G b n f mcb eb capb gb) (hel : zel G f n ci) (hn16 : n ≤ 8) (hci : ¬ ci = 13) (hc : zCL[ci]? = some (C0, T0, N0)) (hw : Cond.castable C0 "java/lang/Object" ∈ lw_tbl) : Ct D B yJ2_addAll (ws_ yJ2_addAll cJ2_addAll 6 (some .boolean)) (zrc 6 2 48) [.ref a, .ref b] G (fun r G9 => (∃ r9, r = some (.int r9)) ∧ ∃ (e' cap' : Nat) (g' : Nat → Option Nat), (e' = e ∨ G e' = none) ∧ ((n ≤ cap' ∧ 1 ≤ cap' ∧ cap' ≤ 16) ∧ (∀ i, i < n → g' i = some (f i)) ∧ ∀ i, n ≤ i → g' i = none) ∧ G9 = zup (zup G e' (.inl (5, cap', .inr (.inr (.inr (.inr g')))))) a (.inr (13, [.int (mc + 1), .ref e', .int (nI n)]))) zno := by
  refine ct_intro (by decide +kernel) (Nat.le_of_ble_eq_true rfl) ?_
  intro X C
  obtain ⟨h1, h2, ⟨h3, h4, h5⟩, h6, h7⟩ := ha0
  have b1 := hb0.1
  have nea : ¬ e = a := fun z => by rw [z, h1] at h2; cases h2
  refine z_aload_n (i := 1) C dJ2_addAll_0 rfl rfl ?_
  refine z_callFn (x := ⟨"java/util/Collection", "toArray", "()[Ljava/lang/Object;"⟩) (C0 := "java/util/ArrayList") (np := 0) C (b1) rfl (by decide) (ct_J2_toArray D B b n f mcb eb capb gb ci C0 T0 N0 hb0 hel hc hw) q1819 q1823 q1825 q87 q1827 ⟨by decide +kernel, by decide +kernel, by decide +kernel⟩ (zr_ok rfl rfl) rfl rfl (Nat.le_of_ble_eq_true rfl) (⟨Nat.le_of_ble_eq_true rfl, Nat.le_of_ble_eq_true rfl⟩) dJ2_addAll_1 ?_
  intro v9 G9 h9
  obtain ⟨q, w, rfl, hq, hw6, rfl⟩ := h9
  have nqa := zne_of hq h1
  have nqe := zne_of hq h2
  refine z_astore_n (i := 2) C dJ2_addAll_6 rfl (Nat.le_of_ble_eq_true rfl) rfl ?_
  refine z_aload_n (i := 0) C dJ2_addAll_7 rfl rfl ?_
  refine z_dup C dJ2_addAll_8 rfl ?_
  refine z_getfG (ci := 13) (k := 0) C ((zup_n nqa).trans h1) rfl rfl (Or.inr q480) q481 dJ2_addAll_9 ?_
  refine z_iconst (v := 1) C dJ2_addAll_12 (by decide) ?_
  refine z_iadd C dJ2_addAll_13 ?_
  refine z_putfG (ci := 13) (k := 0) C ((zup_n nqa).trans h1) rfl (Nat.le_of_ble_eq_true rfl) (zfit_I _) (Or.inr q480) q481 dJ2_addAll_14 ?_
  refine z_aload_n (i := 2) C dJ2_addAll_17 rfl rfl ?_
  refine z_alen C ((zup_n (fun z => nqa z.symm)).trans zup_s) rfl rfl dJ2_addAll_18 ?_
  refine z_seti (y := nI n) rfl ?_
  refine z_istore_n (i := 3) C dJ2_addAll_19 rfl (Nat.le_of_ble_eq_true rfl) rfl ?_
  refine z_iload_n (i := 3) C dJ2_addAll_20 rfl rfl ?_
  refine z_if_ne (tgt := 26) C dJ2_addAll_21 (by decide) (fun c_21 => ?_) (fun c_21 => ?_)
  · have hn0 : ¬ n = 0 := fun z => c_21 (by rw [z]; rfl)
    refine z_iload_n (i := 3) C dJ2_addAll_26 rfl rfl ?_
    refine z_aload_n (i := 0) C dJ2_addAll_27 rfl rfl ?_
    refine z_getf (ci := 13) (k := 1) C (zup_s) rfl rfl q474 dJ2_addAll_28 ?_
    refine z_dup C dJ2_addAll_31 rfl ?_
    refine z_astore C dJ2_addAll_32 (Nat.le_of_ble_eq_true rfl) rfl ?_
    refine z_alen C ((zup_n nea).trans ((zup_n nqe).trans h2)) rfl rfl dJ2_addAll_34 ?_
    refine z_seti (y := nI cap) rfl ?_
    refine z_aload_n (i := 0) C dJ2_addAll_35 rfl rfl ?_
    refine z_getf (ci := 13) (k := 2) C (zup_s) rfl rfl q477 dJ2_addAll_36 ?_
    refine z_dup C dJ2_addAll_39 rfl ?_
    refine z_istore C dJ2_addAll_40 (Nat.le_of_ble_eq_true rfl) rfl ?_
    refine z_isub C dJ2_addAll_42 ?_
    refine z_seti (y := nI cap) (pk_sub (b := 0) (Nat.zero_le _)) ?_
    refine z_icmp_le (tgt := 56) C dJ2_addAll_43 (by decide) (fun c_43 => ?_) (fun c_43 => ?_)
    · have hle : n ≤ cap := (nI_leI (by omega) (by omega)).mp c_43
      refine z_aload_n (i := 2) C dJ2_addAll_56 rfl rfl ?_
      refine z_iconst (v := 0) C dJ2_addAll_57 (by decide) ?_
      refine z_aload C dJ2_addAll_58 rfl ?_
      refine z_iload C dJ2_addAll_60 rfl ?_
      refine z_iload_n (i := 3) C dJ2_addAll_62 rfl rfl ?_
      refine z_copyq (ci := ci) (C0 := C0) (E0 := "java/lang/Object") (N0 := N0) C ((zup_n (fun z => nqa z.symm)).trans zup_s) ((zup_n nea).trans ((zup_n nqe).trans h2)) rfl hc (Or.inr hw) q1828 q279 q278 q99 (by decide) (nI_pos (by omega)) (nI_pos (by omega)) (by rw [nI_clamp (n := n) (by omega)]; show 0 + _ ≤ _; omega) (by rw [nI_clamp (n := n) (by omega), nI_clamp (n := 0) (by omega)]; omega) (fun i hi y hy => ?_) (Nat.le_of_ble_eq_true rfl) (Nat.le_of_ble_eq_true rfl) dJ2_addAll_63 ?_
      · rw [nI_clamp (by omega)] at hi
        have hy2 := hw6 i hi
        rw [show (0 : Int32).toNatClampNeg + i = i from Nat.zero_add i] at hy
        rw [hy2] at hy
        cases hy
        obtain ⟨fs, hf⟩ := hel i hi
        exact ⟨fs, (zup_n (fun z => by rw [z, h1] at hf; cases hf; exact hci rfl)).trans ((zup_n (zne_of hq hf)).trans hf)⟩
      rw [nI_clamp (n := n) (by omega), nI_clamp (n := 0) (by omega)]
      refine z_aload_n (i := 0) C dJ2_addAll_66 rfl rfl ?_
      refine z_iload C dJ2_addAll_67 rfl ?_
      refine z_iload_n (i := 3) C dJ2_addAll_69 rfl rfl ?_
      refine z_iadd C dJ2_addAll_70 ?_
      refine z_seti (y := nI n) ((nI_add 0 n).trans (by rw [Nat.zero_add])) ?_
      refine z_putf (ci := 13) (k := 2) C ((zup_n (fun z => nea z.symm)).trans zup_s) rfl (Nat.le_of_ble_eq_true rfl) (zfit_I _) q477 dJ2_addAll_71 ?_
      refine z_heap (zup_aba (fun z => nea z.symm)) ?_
      refine z_sub (zsub2 hq) ?_
      refine z_iconst (v := 1) C dJ2_addAll_74 (by decide) ?_
      exact z_ireturn C rfl (rfl) dJ2_addAll_75 (⟨⟨_, rfl⟩, e, cap, _, Or.inl rfl, ⟨⟨hle, h4, h5⟩, fun i hi => (if_pos ⟨Nat.zero_le _, by omega⟩).trans (by show w (0 + (i - 0)) = _; rw [Nat.zero_add, Nat.sub_zero]; exact hw6 i hi), fun i hi => (if_neg (by omega)).trans (h7 i (Nat.zero_le _))⟩, rfl⟩) (Nat.le_of_ble_eq_true rfl) (Nat.le_of_ble_eq_true rfl)
    · have hlt : cap < n := Nat.lt_of_not_le fun z => c_43 (nI_le z (by omega))
      refine z_aload_n (i := 0) C dJ2_addAll_46 rfl rfl ?_
      refine z_iload C dJ2_addAll_47 rfl ?_
      refine z_iload_n (i := 3) C dJ2_addAll_49 rfl rfl ?_
      refine z_iadd C dJ2_addAll_50 ?_
      refine z_seti (y := nI n) ((nI_add 0 n).trans (by rw [Nat.zero_add])) ?_
      refine z_callVn C (zup_s) rfl (ct_J2_grow_2 D B a 0 f0 (mc + 1) e cap g n (cap + max (n - cap) (cap / 2)) ci C0 T0 N0 ⟨zup_s, (zup_n nea).trans ((zup_n nqe).trans h2), ⟨Nat.zero_le _, h4, h5⟩, fun i hi => absurd hi (Nat.not_lt_zero _), fun i _ => h7 i (Nat.zero_le _)⟩ (fun i hi => absurd hi (Nat.not_lt_zero _)) hlt (by omega) rfl hc hw) q1057 q1059 qs14 q87 q1060 np_J2_grow_2 (zr_ok rfl rfl) rfl rfl (Nat.le_of_ble_eq_true rfl) (⟨Nat.le_of_ble_eq_true rfl, Nat.le_of_ble_eq_true rfl⟩) dJ2_addAll_51 ?_
      intro v9 G9 h9
      obtain ⟨q2, rfl, hq2, rfl⟩ := h9
      obtain ⟨m1, m2⟩ := zup_no hq2
      obtain ⟨m3, m4⟩ := zup_no m2
      refine z_heap (zup_aba (fun z => m1 z.symm)) ?_
      refine z_astore C dJ2_addAll_54 (Nat.le_of_ble_eq_true rfl) rfl ?_
      refine z_aload_n (i := 2) C dJ2_addAll_56 rfl rfl ?_
      refine z_iconst (v := 0) C dJ2_addAll_57 (by decide) ?_
      refine z_aload C dJ2_addAll_58 rfl ?_
      refine z_iload C dJ2_addAll_60 rfl ?_
      refine z_iload_n (i := 3) C dJ2_addAll_62 rfl rfl ?_
      refine z_copyq (ci := ci) (C0 := C0) (E0 := "java/lang/Object") (N0 := N0) C ((zup_n (fun z => nqa z.symm)).trans ((zup_n (fun z => m3 z.symm)).trans zup_s)) ((zup_n m1).trans zup_s) rfl hc (Or.inr hw) q1828 q279 q278 q99 (by decide) (nI_pos (by omega)) (nI_pos (by omega)) (by rw [nI_clamp (n := n) (by omega)]; show 0 + _ ≤ _; omega) (by rw [nI_clamp (n := n) (by omega), nI_clamp (n := 0) (by omega)]; omega) (fun i hi y hy => ?_) (Nat.le_of_ble_eq_true rfl) (Nat.le_of_ble_eq_true rfl) dJ2_addAll_63 ?_
      · rw [nI_clamp (by omega)] at hi
        have hy2 := hw6 i hi
        rw [show (0 : Int32).toNatClampNeg + i = i from Nat.zero_add i] at hy
        rw [hy2] at hy
        cases hy
        obtain ⟨fs, hf⟩ := hel i hi
        exact ⟨fs, (zup_n (fun z => by rw [z, h1] at hf; cases hf; exact hci rfl)).trans ((zup_n (zne_of m4 hf)).trans ((zup_n (zne_of hq hf)).trans hf))⟩
      rw [nI_clamp (n := n) (by omega), nI_clamp (n := 0) (by omega)]
      refine z_heap (zup_aba m1) ?_
      refine z_aload_n (i := 0) C dJ2_addAll_66 rfl rfl ?_
      refine z_iload C dJ2_addAll_67 rfl ?_
      refine z_iload_n (i := 3) C dJ2_addAll_69 rfl rfl ?_
      refine z_iadd C dJ2_addAll_70 ?_
      refine z_seti (y := nI n) ((nI_add 0 n).trans (by rw [Nat.zero_add])) ?_
      refine z_putf (ci := 13) (k := 2) C ((zup_n (fun z => m1 z.symm)).trans zup_s) rfl (Nat.le_of_ble_eq_true rfl) (zfit_I _) q477 dJ2_addAll_71 ?_
      refine z_heap (zup_aba (fun z => m1 z.symm)) ?_
      refine z_sub (zsub2 hq) ?_
      refine z_iconst (v := 1) C dJ2_addAll_74 (by decide) ?_
      exact z_ireturn C rfl (rfl) dJ2_addAll_75 (⟨⟨_, rfl⟩, q2, cap + max (n - cap) (cap / 2), _, Or.inr m4, ⟨⟨by omega, by omega, by omega⟩, fun i hi => (if_pos ⟨Nat.zero_le _, by omega⟩).trans (by show w (0 + (i - 0)) = _; rw [Nat.zero_add, Nat.sub_zero]; exact hw6 i hi), fun i hi => (if_neg (by omega)).trans (by by_cases hz : i < min cap (cap + max (n - cap) (cap / 2)); (· exact (zcpy_lo hz).trans (h7 i (Nat.zero_le _))); (· exact zcpy_hi (by omega)))⟩, rfl⟩) (Nat.le_of_ble_eq_true rfl) (Nat.le_of_ble_eq_true rfl)
  · have hn0 : n = 0 := (nI_eq (b := 0) (by omega) (by decide)).mp c_21
    subst hn0
    refine z_iconst (v := 0) C dJ2_addAll_24 (by decide) ?_
    refine z_heap (G' := zup (zup (zup G q (.inl (5, 0, .inr (.inr (.inr (.inr w)))))) e (.inl (5, cap, .inr (.inr (.inr (.inr g)))))) a (.inr (13, [.int (mc + 1), .ref e, .int (nI 0)]))) (congrArg (fun z => zup z a _) (zup_self ((zup_n nqe).trans h2)).symm) ?_
    refine z_sub (zsub2 hq) ?_
    exact z_ireturn C rfl (rfl) dJ2_addAll_25 (⟨⟨_, rfl⟩, e, cap, g, Or.inl rfl, ⟨⟨by omega, h4, h5⟩, fun i hi => absurd hi (Nat.not_lt_zero _), fun i _ => h7 i (Nat.zero_le _)⟩, rfl⟩) (Nat.le_of_ble_eq_true rfl) (Nat.le_of_ble_eq_true rfl)
