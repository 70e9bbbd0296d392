/-! component: lists that grow -/
theorem zcpy_lo {g : Nat → Option Nat} {k i : Nat} (h : i < k) : va_cpy g (fun _ => none) 0 0 k i = g i := by
  unfold va_cpy
  rw [if_pos ⟨Nat.zero_le _, by omega⟩]
  congr 1
  omega
theorem zcpy_hi {g : Nat → Option Nat} {k i : Nat} (h : k ≤ i) : va_cpy g (fun _ => none) 0 0 k i = none := by
  unfold va_cpy
  rw [if_neg (by omega)]
/-- all elements are objects of a class -/
def zel (G : zH) (f : Nat → Nat) (n ci : Nat) : Prop := ∀ i, i < n → ∃ fs, G (f i) = some (.inr (ci, fs))
theorem zel.g {G : zH} {f : Nat → Nat} {n ci : Nat} {g : Nat → Option Nat} (h : zel G f n ci) (h6 : ∀ i, i < n → g i = some (f i)) (h7 : ∀ i, n ≤ i → g i = none) : ∀ i y, g i = some y → ∃ fs, G y = some (.inr (ci, fs)) := by
  intro i y hy
  by_cases q : i < n
  · rw [h6 i q] at hy
    cases hy
    exact h i q
  · rw [h7 i (by omega)] at hy
    cases hy
theorem np_J11_newLength : znp yJ11_newLength 3 := ⟨by decide +kernel, by decide +kernel, by decide +kernel⟩
theorem np_J13_copyOf_2 : znp yJ13_copyOf_2 2 := ⟨by decide +kernel, by decide +kernel, by decide +kernel⟩
set_option maxHeartbeats 4000000 in
set_option maxRecDepth 100000 in
theorem ct_J2_grow_2 (D : zG) (B : Nat) {G : zH} (a n : Nat) (f : Nat → Nat) (mc : Int32) (e cap : Nat) (g : Nat → Option Nat) (m m9 : Nat) (ci : Nat) (C0 : String) (T0 : u_T) (N0 : Nat) (hl : zli G a n f mc e cap g) (hel : zel G f n ci) (hm : cap < m) (hm2 : m ≤ 16) (hm9 : m9 = cap + max (m - cap) (cap / 2)) (hc : zCL[ci]? = some (C0, T0, N0)) (hw : Cond.castable C0 "java/lang/Object" ∈ lw_tbl) : Ct D B yJ2_grow_2 (ws_ yJ2_grow_2 cJ2_grow_2 4 (some (.array (.object "java/lang/Object")))) (zrc 4 1 24) [.ref a, .int (nI m)] G (fun r G9 => ∃ q : Nat, r = some (.ref q) ∧ G q = none ∧ G9 = zup (zup G q (.inl (5, m9, .inr (.inr (.inr (.inr (va_cpy g (fun _ => none) 0 0 (min cap m9)))))))) a (.inr (13, [.int mc, .ref q, .int (nI n)]))) zno := by
  refine ct_intro (by decide +kernel) (Nat.le_of_ble_eq_true rfl) ?_
  intro X C
  have hl0 := hl
  obtain ⟨h1, h2, ⟨h3, h4, h5⟩, h6, h7⟩ := hl
  have hm24 : m9 ≤ 24 := by omega
  refine z_aload_n (i := 0) C dJ2_grow_2_0 rfl rfl ?_
  refine z_getf (ci := 13) (k := 1) C (h1) rfl rfl q474 dJ2_grow_2_1 ?_
  refine z_alen C (h2) rfl rfl dJ2_grow_2_4 ?_
  refine z_istore_n (i := 2) C dJ2_grow_2_5 rfl (Nat.le_of_ble_eq_true rfl) rfl ?_
  refine z_iload_n (i := 2) C dJ2_grow_2_6 rfl rfl ?_
  refine z_if_gt (tgt := 20) C dJ2_grow_2_7 (by decide) (fun c_7 => ?_) (fun c_7 => ?_)
  · refine z_iload_n (i := 2) C dJ2_grow_2_20 rfl rfl ?_
    refine z_iload_n (i := 1) C dJ2_grow_2_21 rfl rfl ?_
    refine z_iload_n (i := 2) C dJ2_grow_2_22 rfl rfl ?_
    refine z_isub C dJ2_grow_2_23 ?_
    refine z_seti (y := nI (m - cap)) (pk_sub (by omega)) ?_
    refine z_iload_n (i := 2) C dJ2_grow_2_24 rfl rfl ?_
    refine z_iconst (v := 1) C dJ2_grow_2_25 (by decide) ?_
    refine z_ishr C dJ2_grow_2_26 ?_
    refine z_seti (zsh1 cap h5) ?_
    refine z_callSe C (ct_J11_newLength D B cap (m - cap) (cap / 2) (by omega) (by omega) (by omega) (by omega)) q1063 q254 q96 q255 np_J11_newLength (zr_ok rfl rfl) rfl rfl (Nat.le_of_ble_eq_true rfl) (⟨Nat.le_of_ble_eq_true rfl, Nat.le_of_ble_eq_true rfl⟩) dJ2_grow_2_27 ?_
    rw [← hm9]
    refine z_istore_n (i := 3) C dJ2_grow_2_30 rfl (Nat.le_of_ble_eq_true rfl) rfl ?_
    refine z_aload_n (i := 0) C dJ2_grow_2_31 rfl rfl ?_
    refine z_aload_n (i := 0) C dJ2_grow_2_32 rfl rfl ?_
    refine z_getf (ci := 13) (k := 1) C (h1) rfl rfl q474 dJ2_grow_2_33 ?_
    refine z_iload_n (i := 3) C dJ2_grow_2_36 rfl rfl ?_
    refine z_callSn C (ct_J13_copyOf_2 D B e cap m9 g ci C0 T0 N0 h2 (by omega) hm24 hc hw (hel.g h6 h7)) q1064 q1065 q98 q1066 np_J13_copyOf_2 (zr_ok rfl rfl) rfl rfl (Nat.le_of_ble_eq_true rfl) (⟨Nat.le_of_ble_eq_true rfl, Nat.le_of_ble_eq_true rfl⟩) dJ2_grow_2_37 ?_
    intro v9 G9 h9
    obtain ⟨q, rfl, hq, rfl⟩ := h9
    have hne : ¬ a = q := fun z => by rw [← z, h1] at hq; cases hq
    refine z_dup_x1 C dJ2_grow_2_40 rfl rfl ?_
    refine z_putf (ci := 13) (k := 1) C ((zup_n hne).trans h1) rfl (Nat.le_of_ble_eq_true rfl) (zfit_ao (C0 := "java/lang/Object") (by decide +kernel) _) q474 dJ2_grow_2_41 ?_
    exact z_areturn C rfl (Or.inr ⟨_, rfl⟩) (Or.inr ⟨_, rfl⟩) dJ2_grow_2_44 (⟨q, rfl, hq, rfl⟩) (Nat.le_of_ble_eq_true rfl) (by show 0 + 24 ≤ 24; omega)
  · exact absurd (nI_lt (a := 0) (by omega) (by omega)) c_7
theorem np_J2_grow_2 : znp yJ2_grow_2 1 := ⟨by decide +kernel, by decide +kernel, by decide +kernel⟩
set_option maxHeartbeats 4000000 in
set_option maxRecDepth 100000 in
theorem ct_J2_grow (D : zG) (B : Nat) {G : zH} (a n : Nat) (f : Nat → Nat) (mc : Int32) (e cap : Nat) (g : Nat → Option Nat) (m9 : Nat) (ci : Nat) (C0 : String) (T0 : u_T) (N0 : Nat) (hl : zli G a n f mc e cap g) (hel : zel G f n ci) (hm : cap = n) (hm2 : n ≤ 15) (hm9 : m9 = cap + max 1 (cap / 2)) (hc : zCL[ci]? = some (C0, T0, N0)) (hw : Cond.castable C0 "java/lang/Object" ∈ lw_tbl) : Ct D B yJ2_grow (ws_ yJ2_grow cJ2_grow 1 (some (.array (.object "java/lang/Object")))) (zrc 5 1 24) [.ref a] G (fun r G9 => ∃ q : Nat, r = some (.ref q) ∧ G q = none ∧ G9 = zup (zup G q (.inl (5, m9, .inr (.inr (.inr (.inr (va_cpy g (fun _ => none) 0 0 (min cap m9)))))))) a (.inr (13, [.int mc, .ref q, .int (nI n)]))) zno := by
  refine ct_intro (by decide +kernel) (Nat.le_of_ble_eq_true rfl) ?_
  intro X C
  have hl0 := hl
  obtain ⟨h1, h2, ⟨h3, h4, h5⟩, h6, h7⟩ := hl
  refine z_aload_n (i := 0) C dJ2_grow_0 rfl rfl ?_
  refine z_aload_n (i := 0) C dJ2_grow_1 rfl rfl ?_
  refine z_getf (ci := 13) (k := 2) C (h1) rfl rfl q477 dJ2_grow_2 ?_
  refine z_iconst (v := 1) C dJ2_grow_5 (by decide) ?_
  refine z_iadd C dJ2_grow_6 ?_
  refine z_seti (nI_1 n) ?_
  refine z_callVn C (by assumption) rfl (ct_J2_grow_2 D B a n f mc e cap g (n + 1) m9 ci C0 T0 N0 hl0 hel (by omega) (by omega) (by rw [hm9]; congr 2; omega) hc hw) q1057 q1059 qs14 q87 q1060 np_J2_grow_2 (zr_ok rfl rfl) rfl rfl (Nat.le_of_ble_eq_true rfl) (⟨Nat.le_of_ble_eq_true rfl, Nat.le_of_ble_eq_true rfl⟩) dJ2_grow_7 ?_
  intro v9 G9 h9
  obtain ⟨q, rfl, hq, rfl⟩ := h9
  exact z_areturn C rfl (Or.inr ⟨_, rfl⟩) (Or.inr ⟨_, rfl⟩) dJ2_grow_10 (⟨q, rfl, hq, rfl⟩) (Nat.le_of_ble_eq_true rfl) (Nat.le_of_ble_eq_true rfl)
theorem np_J2_grow : znp yJ2_grow 0 := ⟨by decide +kernel, by decide +kernel, by decide +kernel⟩
set_option maxHeartbeats 4000000 in
set_option maxRecDepth 100000 in
theorem ct_J2_add_2 (D : zG) (B : Nat) {G : zH} (a n : Nat) (f : Nat → Nat) (mc : Int32) (e cap : Nat) (g : Nat → Option Nat) (ci : Nat) (C0 : String) (T0 : u_T) (N0 : Nat) (x : Nat) (fs : List Value) (hx : G x = some (.inr (ci, fs))) (hl : zli G a n f mc e cap g) (hel : zel G f n ci) (hn8 : n ≤ 10) (hci : ¬ ci = 13) (hc : zCL[ci]? = some (C0, T0, N0)) (hw : Cond.castable C0 "java/lang/Object" ∈ lw_tbl) : Ct D B yJ2_add_2 (ws_ yJ2_add_2 cJ2_add_2 4 none) (zrc 6 1 24) [.ref a, .ref x, .ref e, .int (nI n)] G (fun r G9 => r = none ∧ ∃ (e' cap' : Nat) (g' : Nat → Option Nat), (e' = e ∨ G e' = none) ∧ ((n + 1 ≤ cap' ∧ 1 ≤ cap' ∧ cap' ≤ 16) ∧ (∀ i, i < n → g' i = some (f i)) ∧ g' n = some x ∧ ∀ i, n + 1 ≤ i → g' i = none) ∧ G9 = zup (zup G e' (.inl (5, cap', .inr (.inr (.inr (.inr g')))))) a (.inr (13, [.int mc, .ref e', .int (nI (n + 1))]))) zno := by
  refine ct_intro (by decide +kernel) (Nat.le_of_ble_eq_true rfl) ?_
  intro X C
  have hl0 := hl
  obtain ⟨h1, h2, ⟨h3, h4, h5⟩, h6, h7⟩ := hl
  refine z_iload_n (i := 3) C dJ2_add_2_0 rfl rfl ?_
  refine z_aload_n (i := 2) C dJ2_add_2_1 rfl rfl ?_
  refine z_alen C (h2) rfl rfl dJ2_add_2_2 ?_
  refine z_icmp_ne (tgt := 11) C dJ2_add_2_3 (by decide) (fun c_3 => ?_) (fun c_3 => ?_)
  · have hcn : ¬ n = cap := fun z => c_3 (by show nI n = nI cap; rw [z])
    refine z_aload_n (i := 2) C dJ2_add_2_11 rfl rfl ?_
    refine z_iload_n (i := 3) C dJ2_add_2_12 rfl rfl ?_
    refine z_aload_n (i := 1) C dJ2_add_2_13 rfl rfl ?_
    refine z_aast (t := 5) (ci := ci) (C0 := C0) (E0 := "java/lang/Object") (T0 := T0) (N0 := N0) C h2 rfl hx hc (Or.inr hw) (vp_in_nI (by omega) (by omega)) dJ2_add_2_14 ?_
    rw [nI_clamp (by omega)]
    have hae : ¬ a = e := fun z => by rw [z, h2] at h1; cases h1
    refine z_aload_n (i := 0) C dJ2_add_2_15 rfl rfl ?_
    refine z_iload_n (i := 3) C dJ2_add_2_16 rfl rfl ?_
    refine z_iconst (v := 1) C dJ2_add_2_17 (by decide) ?_
    refine z_iadd C dJ2_add_2_18 ?_
    refine z_seti (nI_1 n) ?_
    refine z_putf (ci := 13) (k := 2) C ((zup_n hae).trans h1) rfl (Nat.le_of_ble_eq_true rfl) (zfit_I _) q477 dJ2_add_2_19 ?_
    
    exact z_return C rfl dJ2_add_2_22 (⟨rfl, e, cap, va_up g n (some x), Or.inl rfl, ⟨⟨by omega, h4, h5⟩, fun i hi => (if_neg (by omega)).trans (h6 i hi), if_pos rfl, fun i hi => (if_neg (by omega)).trans (h7 i (by omega))⟩, rfl⟩) (Nat.le_of_ble_eq_true rfl) (Nat.le_of_ble_eq_true rfl)
  · have hcn : cap = n := ((nI_eq (by omega) (by omega)).mp c_3).symm
    refine z_aload_n (i := 0) C dJ2_add_2_6 rfl rfl ?_
    refine z_callVn C (by assumption) rfl (ct_J2_grow D B a n f mc e cap g (cap + max 1 (cap / 2)) ci C0 T0 N0 hl0 hel hcn (by omega) rfl hc hw) q1053 q1055 qs13 q87 q1056 np_J2_grow (zr_ok rfl rfl) rfl rfl (Nat.le_of_ble_eq_true rfl) (⟨Nat.le_of_ble_eq_true rfl, Nat.le_of_ble_eq_true rfl⟩) dJ2_add_2_7 ?_
    intro v9 G9 h9
    obtain ⟨q, rfl, hq, rfl⟩ := h9
    have hna : ¬ q = a := fun z => by rw [z, h1] at hq; cases hq
    have hnx : ¬ x = q := fun z => by rw [← z, hx] at hq; cases hq
    have hxa : ¬ x = a := fun z => by rw [z, h1] at hx; cases hx; exact hci rfl
    refine z_astore_n (i := 2) C dJ2_add_2_10 rfl (Nat.le_of_ble_eq_true rfl) rfl ?_
    refine z_aload_n (i := 2) C dJ2_add_2_11 rfl rfl ?_
    refine z_iload_n (i := 3) C dJ2_add_2_12 rfl rfl ?_
    refine z_aload_n (i := 1) C dJ2_add_2_13 rfl rfl ?_
    refine z_aast (t := 5) (ci := ci) (C0 := C0) (E0 := "java/lang/Object") (T0 := T0) (N0 := N0) C ((zup_n hna).trans zup_s) rfl ((zup_n hxa).trans ((zup_n hnx).trans hx)) hc (Or.inr hw) (vp_in_nI (by omega) (by omega)) dJ2_add_2_14 ?_
    rw [nI_clamp (by omega)]
    refine z_heap (zup_comm (fun z => hna z.symm)) ?_
    refine z_heap (congrArg (fun z => zup z a _) zup_zup) ?_
    refine z_aload_n (i := 0) C dJ2_add_2_15 rfl rfl ?_
    refine z_iload_n (i := 3) C dJ2_add_2_16 rfl rfl ?_
    refine z_iconst (v := 1) C dJ2_add_2_17 (by decide) ?_
    refine z_iadd C dJ2_add_2_18 ?_
    refine z_seti (nI_1 n) ?_
    refine z_putf (ci := 13) (k := 2) C (zup_s) rfl (Nat.le_of_ble_eq_true rfl) (zfit_I _) q477 dJ2_add_2_19 ?_
    refine z_heap zup_zup ?_
    exact z_return C rfl dJ2_add_2_22 (⟨rfl, q, cap + max 1 (cap / 2), va_up (va_cpy g (fun _ => none) 0 0 (min cap (cap + max 1 (cap / 2)))) n (some x), Or.inr hq, ⟨⟨by omega, by omega, by omega⟩, fun i hi => (if_neg (by omega)).trans ((zcpy_lo (by omega)).trans (h6 i hi)), if_pos rfl, fun i hi => (if_neg (by omega)).trans (by by_cases hz : i < min cap (cap + max 1 (cap / 2)); (· exact (zcpy_lo hz).trans (h7 i (by omega))); (· exact zcpy_hi (by omega)))⟩, rfl⟩) (Nat.le_of_ble_eq_true rfl) (Nat.le_of_ble_eq_true rfl)
theorem np_J2_add_2 : znp yJ2_add_2 3 := ⟨by decide +kernel, by decide +kernel, by decide +kernel⟩
set_option maxHeartbeats 4000000 in
set_option maxRecDepth 100000 in
theorem ct_J2_add (D : zG) (B : Nat) {G : zH} (a n : Nat) (f : Nat → Nat) (mc : Int32) (e cap : Nat) (g : Nat → Option Nat) (ci : Nat) (C0 : String) (T0 : u_T) (N0 : Nat) (x : Nat) (fs : List Value) (hx : G x = some (.inr (ci, fs))) (hl : zli G a n f mc e cap g) (hel : zel G f n ci) (hn8 : n ≤ 10) (hci : ¬ ci = 13) (hc : zCL[ci]? = some (C0, T0, N0)) (hw : Cond.castable C0 "java/lang/Object" ∈ lw_tbl) : Ct D B yJ2_add (ws_ yJ2_add cJ2_add 2 (some .boolean)) (zrc 7 1 24) [.ref a, .ref x] G (fun r G9 => r = some (.int 1) ∧ ∃ (e' cap' : Nat) (g' : Nat → Option Nat), (e' = e ∨ G e' = none) ∧ ((n + 1 ≤ cap' ∧ 1 ≤ cap' ∧ cap' ≤ 16) ∧ (∀ i, i < n → g' i = some (f i)) ∧ g' n = some x ∧ ∀ i, n + 1 ≤ i → g' i = none) ∧ G9 = zup (zup G e' (.inl (5, cap', .inr (.inr (.inr (.inr g')))))) a (.inr (13, [.int (mc + 1), .ref e', .int (nI (n + 1))]))) zno := by
  refine ct_intro (by decide +kernel) (Nat.le_of_ble_eq_true rfl) ?_
  intro X C
  obtain ⟨h1, h2, ⟨h3, h4, h5⟩, h6, h7⟩ := hl
  refine z_aload_n (i := 0) C dJ2_add_0 rfl rfl ?_
  refine z_dup C dJ2_add_1 rfl ?_
  refine z_getfG (ci := 13) (k := 0) C (h1) rfl rfl (Or.inr q480) q481 dJ2_add_2 ?_
  refine z_iconst (v := 1) C dJ2_add_5 (by decide) ?_
  refine z_iadd C dJ2_add_6 ?_
  refine z_putfG (ci := 13) (k := 0) C (h1) rfl (Nat.le_of_ble_eq_true rfl) (zfit_I _) (Or.inr q480) q481 dJ2_add_7 ?_
  have hae : ¬ e = a := fun z => by rw [z, h1] at h2; cases h2
  have hxa : ¬ x = a := fun z => by rw [z, h1] at hx; cases hx; exact hci rfl
  have hl1 : zli (zup G a (.inr (13, [.int (mc + 1), .ref e, .int (nI n)]))) a n f (mc + 1) e cap g := ⟨zup_s, (zup_n hae).trans h2, ⟨h3, h4, h5⟩, h6, h7⟩
  have hel1 : zel (zup G a (.inr (13, [.int (mc + 1), .ref e, .int (nI n)]))) f n ci := fun i hi => by
    obtain ⟨fs9, hf9⟩ := hel i hi
    exact ⟨fs9, (zup_n (fun z => by rw [z, h1] at hf9; cases hf9; exact hci rfl)).trans hf9⟩
  refine z_aload_n (i := 0) C dJ2_add_10 rfl rfl ?_
  refine z_aload_n (i := 1) C dJ2_add_11 rfl rfl ?_
  refine z_aload_n (i := 0) C dJ2_add_12 rfl rfl ?_
  refine z_getf (ci := 13) (k := 1) C (zup_s) rfl rfl q474 dJ2_add_13 ?_
  refine z_aload_n (i := 0) C dJ2_add_16 rfl rfl ?_
  refine z_getf (ci := 13) (k := 2) C (zup_s) rfl rfl q477 dJ2_add_17 ?_
  refine z_callVn C (zup_s) rfl (ct_J2_add_2 D B a n f (mc + 1) e cap g ci C0 T0 N0 x fs ((zup_n hxa).trans hx) hl1 hel1 hn8 hci hc hw) q1049 q1051 qs12 q87 q1052 np_J2_add_2 (zr_ok rfl rfl) rfl rfl (Nat.le_of_ble_eq_true rfl) (⟨Nat.le_of_ble_eq_true rfl, Nat.le_of_ble_eq_true rfl⟩) dJ2_add_20 ?_
  intro v9 G9 h9
  obtain ⟨rfl, e', cap', g', he, hg', rfl⟩ := h9
  have he' : e' = e ∨ G e' = none := he.imp id (fun q => by
    by_cases z : e' = a
    · rw [z, zup_s] at q; cases q
    · exact (zup_n z).symm.trans q)
  have hea : ¬ e' = a := by
    rcases he' with z | z
    · rw [z]; exact hae
    · intro q; rw [q, h1] at z; cases z
  refine z_heap (congrArg (fun z => zup z a _) (zup_comm (fun z => hea z.symm))) ?_
  refine z_heap zup_zup ?_
  refine z_iconst (v := 1) C dJ2_add_23 (by decide) ?_
  exact z_ireturn C rfl (rfl) dJ2_add_24 (⟨rfl, e', cap', g', he', hg', rfl⟩) (Nat.le_of_ble_eq_true rfl) (Nat.le_of_ble_eq_true rfl)
