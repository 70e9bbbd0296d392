/-! component: constructors, lists -/
theorem zfit_ob {dsc C0 : String} (h : parseFieldDescriptor dsc = some (.object C0)) (q : Nat) : zfit dsc (.ref q) := ⟨_, h, rfl, rfl⟩
theorem zfit_obN {dsc C0 : String} (h : parseFieldDescriptor dsc = some (.object C0)) : zfit dsc .null := ⟨_, h, rfl, rfl⟩
theorem zfit_ao {dsc C0 : String} (h : parseFieldDescriptor dsc = some (.array (.object C0))) (q : Nat) : zfit dsc (.ref q) := ⟨_, h, rfl, rfl⟩
theorem zfit_aoN {dsc C0 : String} (h : parseFieldDescriptor dsc = some (.array (.object C0))) : zfit dsc .null := ⟨_, h, rfl, rfl⟩
theorem zmx (a b : Nat) (ha : a < 2 ^ 31) (hb : b < 2 ^ 31) : (if nI a < nI b then nI b else nI a) = nI (max a b) := by
  by_cases h : a < b
  · rw [if_pos (nI_lt h hb), Nat.max_eq_right (Nat.le_of_lt h)]
  · rw [if_neg (fun q => h ((nI_ltI ha hb).mp q)), Nat.max_eq_left (Nat.le_of_not_lt h)]
theorem zmn_ (a b : Nat) (ha : a < 2 ^ 31) (hb : b < 2 ^ 31) : (if nI b < nI a then nI b else nI a) = nI (min a b) := by
  by_cases h : b < a
  · rw [if_pos (nI_lt h ha), Nat.min_eq_right (Nat.le_of_lt h)]
  · rw [if_neg (fun q => h ((nI_ltI hb ha).mp q)), Nat.min_eq_left (Nat.le_of_not_lt h)]
theorem zsh1 (n : Nat) (h : n ≤ 16) : nI n >>> ((1 : Int32) &&& 31) = nI (n / 2) := by
  have : ∀ k, k < 17 → nI k >>> ((1 : Int32) &&& 31) = nI (k / 2) := by decide
  exact this n (by omega)
set_option maxHeartbeats 4000000 in
set_option maxRecDepth 100000 in
theorem ct_J17_init (D : zG) (B : Nat) {G : zH} (a : Nat)  : Ct D B yJ17_init (ws_ yJ17_init cJ17_init 1 none) (zr 1) [.ref a] G (zpe none G) zno := by
  refine ct_intro (by decide +kernel) (Nat.le_of_ble_eq_true rfl) ?_
  intro X C
  refine z_aload_n (i := 0) C dJ17_init_0 rfl rfl ?_
  refine z_objInit C q497 q132 q133 (Nat.le_of_ble_eq_true rfl) (Nat.le_of_ble_eq_true rfl) dJ17_init_1 ?_
  exact z_return C rfl dJ17_init_4 (⟨rfl, rfl⟩) (Nat.le_of_ble_eq_true rfl) (Nat.le_of_ble_eq_true rfl)
theorem np_J17_init : znp yJ17_init 0 := ⟨by decide +kernel, by decide +kernel, by decide +kernel⟩
set_option maxHeartbeats 4000000 in
set_option maxRecDepth 100000 in
theorem ct_X5_init (D : zG) (B : Nat) {G : zH} (a : Nat) (x s y : Int32) (h0 : G a = some (.inr (4, zfs0 4))) : Ct D B yX5_init (ws_ yX5_init cX5_init 4 none) (zr 2) [.ref a, .int x, .int s, .int y] G (zpe none (zup G a (.inr (4, [.int x, .int s, .int y])))) zno := by
  refine ct_intro (by decide +kernel) (Nat.le_of_ble_eq_true rfl) ?_
  intro X C
  refine z_aload_n (i := 0) C dX5_init_0 rfl rfl ?_
  refine z_callIe C (ct_J17_init D B a) q1118 q495 q104 q496 rfl np_J17_init (zr_ok rfl rfl) rfl rfl (Nat.le_of_ble_eq_true rfl) (⟨Nat.le_of_ble_eq_true rfl, Nat.le_of_ble_eq_true rfl⟩) dX5_init_1 ?_
  refine z_aload_n (i := 0) C dX5_init_4 rfl rfl ?_
  refine z_iload_n (i := 1) C dX5_init_5 rfl rfl ?_
  refine z_putfF (ci := 4) (k := 0) C (by first | assumption | exact (zup_n (by assumption)).trans (by assumption)) rfl (Nat.le_of_ble_eq_true rfl) (zfit_I _) rfl rfl q1119 dX5_init_6 ?_
  refine z_aload_n (i := 0) C dX5_init_9 rfl rfl ?_
  refine z_iload_n (i := 2) C dX5_init_10 rfl rfl ?_
  refine z_putfF (ci := 4) (k := 1) C (zup_s) rfl (Nat.le_of_ble_eq_true rfl) (zfit_I _) rfl rfl q1120 dX5_init_11 ?_
  refine z_heap zup_zup ?_
  refine z_aload_n (i := 0) C dX5_init_14 rfl rfl ?_
  refine z_iload_n (i := 3) C dX5_init_15 rfl rfl ?_
  refine z_putfF (ci := 4) (k := 2) C (zup_s) rfl (Nat.le_of_ble_eq_true rfl) (zfit_I _) rfl rfl q1121 dX5_init_16 ?_
  refine z_heap zup_zup ?_
  exact z_return C rfl dX5_init_19 (⟨rfl, rfl⟩) (Nat.le_of_ble_eq_true rfl) (Nat.le_of_ble_eq_true rfl)
set_option maxHeartbeats 4000000 in
set_option maxRecDepth 100000 in
theorem ct_X3_init (D : zG) (B : Nat) {G : zH} (a : Nat) (x s y : Int32) (h0 : G a = some (.inr (2, zfs0 2))) : Ct D B yX3_init (ws_ yX3_init cX3_init 4 none) (zr 2) [.ref a, .int x, .int s, .int y] G (zpe none (zup G a (.inr (2, [.int x, .int s, .int y])))) zno := by
  refine ct_intro (by decide +kernel) (Nat.le_of_ble_eq_true rfl) ?_
  intro X C
  refine z_aload_n (i := 0) C dX3_init_0 rfl rfl ?_
  refine z_callIe C (ct_J17_init D B a) q494 q495 q104 q496 rfl np_J17_init (zr_ok rfl rfl) rfl rfl (Nat.le_of_ble_eq_true rfl) (⟨Nat.le_of_ble_eq_true rfl, Nat.le_of_ble_eq_true rfl⟩) dX3_init_1 ?_
  refine z_aload_n (i := 0) C dX3_init_4 rfl rfl ?_
  refine z_iload_n (i := 1) C dX3_init_5 rfl rfl ?_
  refine z_putfF (ci := 2) (k := 0) C (by first | assumption | exact (zup_n (by assumption)).trans (by assumption)) rfl (Nat.le_of_ble_eq_true rfl) (zfit_I _) rfl rfl q498 dX3_init_6 ?_
  refine z_aload_n (i := 0) C dX3_init_9 rfl rfl ?_
  refine z_iload_n (i := 2) C dX3_init_10 rfl rfl ?_
  refine z_putfF (ci := 2) (k := 1) C (zup_s) rfl (Nat.le_of_ble_eq_true rfl) (zfit_I _) rfl rfl q499 dX3_init_11 ?_
  refine z_heap zup_zup ?_
  refine z_aload_n (i := 0) C dX3_init_14 rfl rfl ?_
  refine z_iload_n (i := 3) C dX3_init_15 rfl rfl ?_
  refine z_putfF (ci := 2) (k := 2) C (zup_s) rfl (Nat.le_of_ble_eq_true rfl) (zfit_I _) rfl rfl q500 dX3_init_16 ?_
  refine z_heap zup_zup ?_
  exact z_return C rfl dX3_init_19 (⟨rfl, rfl⟩) (Nat.le_of_ble_eq_true rfl) (Nat.le_of_ble_eq_true rfl)
set_option maxHeartbeats 4000000 in
set_option maxRecDepth 100000 in
theorem ct_X11_init (D : zG) (B : Nat) {G : zH} (a : Nat) (x : Int32) (h0 : G a = some (.inr (8, zfs0 8))) : Ct D B yX11_init (ws_ yX11_init cX11_init 2 none) (zr 2) [.ref a, .int x] G (zpe none (zup G a (.inr (8, [.int x])))) zno := by
  refine ct_intro (by decide +kernel) (Nat.le_of_ble_eq_true rfl) ?_
  intro X C
  refine z_aload_n (i := 0) C dX11_init_0 rfl rfl ?_
  refine z_callIe C (ct_J17_init D B a) q1607 q495 q104 q496 rfl np_J17_init (zr_ok rfl rfl) rfl rfl (Nat.le_of_ble_eq_true rfl) (⟨Nat.le_of_ble_eq_true rfl, Nat.le_of_ble_eq_true rfl⟩) dX11_init_1 ?_
  refine z_aload_n (i := 0) C dX11_init_4 rfl rfl ?_
  refine z_iload_n (i := 1) C dX11_init_5 rfl rfl ?_
  refine z_putfF (ci := 8) (k := 0) C (by first | assumption | exact (zup_n (by assumption)).trans (by assumption)) rfl (Nat.le_of_ble_eq_true rfl) (zfit_I _) rfl rfl q1608 dX11_init_6 ?_
  exact z_return C rfl dX11_init_9 (⟨rfl, rfl⟩) (Nat.le_of_ble_eq_true rfl) (Nat.le_of_ble_eq_true rfl)
set_option maxHeartbeats 4000000 in
set_option maxRecDepth 100000 in
theorem ct_X8_init (D : zG) (B : Nat) {G : zH} (a : Nat) (w : Nat) (o z : Int32) (h0 : G a = some (.inr (7, zfs0 7))) : Ct D B yX8_init (ws_ yX8_init cX8_init 4 none) (zr 2) [.ref a, .ref w, .int o, .int z] G (zpe none (zup G a (.inr (7, [.ref w, .int o, .int z])))) zno := by
  refine ct_intro (by decide +kernel) (Nat.le_of_ble_eq_true rfl) ?_
  intro X C
  refine z_aload_n (i := 0) C dX8_init_0 rfl rfl ?_
  refine z_callIe C (ct_J17_init D B a) q663 q495 q104 q496 rfl np_J17_init (zr_ok rfl rfl) rfl rfl (Nat.le_of_ble_eq_true rfl) (⟨Nat.le_of_ble_eq_true rfl, Nat.le_of_ble_eq_true rfl⟩) dX8_init_1 ?_
  refine z_aload_n (i := 0) C dX8_init_4 rfl rfl ?_
  refine z_aload_n (i := 1) C dX8_init_5 rfl rfl ?_
  refine z_putfF (ci := 7) (k := 0) C (by first | assumption | exact (zup_n (by assumption)).trans (by assumption)) rfl (Nat.le_of_ble_eq_true rfl) (zfit_ob (C0 := "TrackArray$Vehicle") (by decide +kernel) _) rfl rfl q664 dX8_init_6 ?_
  refine z_aload_n (i := 0) C dX8_init_9 rfl rfl ?_
  refine z_iload_n (i := 2) C dX8_init_10 rfl rfl ?_
  refine z_putfF (ci := 7) (k := 1) C (zup_s) rfl (Nat.le_of_ble_eq_true rfl) (zfit_I _) rfl rfl q665 dX8_init_11 ?_
  refine z_heap zup_zup ?_
  refine z_aload_n (i := 0) C dX8_init_14 rfl rfl ?_
  refine z_iload_n (i := 3) C dX8_init_15 rfl rfl ?_
  refine z_putfF (ci := 7) (k := 2) C (zup_s) rfl (Nat.le_of_ble_eq_true rfl) (zfit_I _) rfl rfl q666 dX8_init_16 ?_
  refine z_heap zup_zup ?_
  exact z_return C rfl dX8_init_19 (⟨rfl, rfl⟩) (Nat.le_of_ble_eq_true rfl) (Nat.le_of_ble_eq_true rfl)
set_option maxHeartbeats 4000000 in
set_option maxRecDepth 100000 in
theorem ct_X6_init (D : zG) (B : Nat) {G : zH} (a : Nat) (w : Nat) (o z s : Int32) (h0 : G a = some (.inr (5, zfs0 5))) : Ct D B yX6_init (ws_ yX6_init cX6_init 5 none) (zrc 1 1 16) [.ref a, .ref w, .int o, .int z, .int s] G (fun r9 G9 => r9 = none ∧ ∃ q : Nat, G q = none ∧ G9 = zup (zup G q (.inl (0, 16, .inl fun _ => 0))) a (.inr (5, [.ref w, .int o, .int z, .int s, .ref q, .int 0]))) zno := by
  refine ct_intro (by decide +kernel) (Nat.le_of_ble_eq_true rfl) ?_
  intro X C
  refine z_aload_n (i := 0) C dX6_init_0 rfl rfl ?_
  refine z_objInit C q1153 q132 q133 (Nat.le_of_ble_eq_true rfl) (Nat.le_of_ble_eq_true rfl) dX6_init_1 ?_
  refine z_aload_n (i := 0) C dX6_init_4 rfl rfl ?_
  refine z_bipush (v := 16) C dX6_init_5 (by decide) ?_
  refine z_newarr (ty := .int) (t := 0) (N := 16) (x0 := (16, .inl fun _ => 0)) C rfl rfl q567 (fun _ => rfl) (by decide) (by decide +kernel) (Nat.le_of_ble_eq_true rfl) (Nat.le_of_ble_eq_true rfl) (Nat.le_of_ble_eq_true rfl) dX6_init_7 ?_
  intro q hq hb
  have hne : ¬ a = q := fun z => by rw [← z, h0] at hq; cases hq
  have h1 : (zup G q (.inl (0, 16, .inl fun _ => 0))) a = some (.inr (5, zfs0 5)) := (zup_n hne).trans h0
  refine z_putfF (ci := 5) (k := 4) C (h1) rfl (Nat.le_of_ble_eq_true rfl) (zfit_aI _) rfl rfl q1161 dX6_init_9 ?_
  refine z_aload_n (i := 0) C dX6_init_12 rfl rfl ?_
  refine z_aload_n (i := 1) C dX6_init_13 rfl rfl ?_
  refine z_putfF (ci := 5) (k := 0) C (zup_s) rfl (Nat.le_of_ble_eq_true rfl) (zfit_ob (C0 := "TrackArray$Vehicle") (by decide +kernel) _) rfl rfl q1154 dX6_init_14 ?_
  refine z_heap zup_zup ?_
  refine z_aload_n (i := 0) C dX6_init_17 rfl rfl ?_
  refine z_iload_n (i := 2) C dX6_init_18 rfl rfl ?_
  refine z_putfF (ci := 5) (k := 1) C (zup_s) rfl (Nat.le_of_ble_eq_true rfl) (zfit_I _) rfl rfl q1156 dX6_init_19 ?_
  refine z_heap zup_zup ?_
  refine z_aload_n (i := 0) C dX6_init_22 rfl rfl ?_
  refine z_iload_n (i := 3) C dX6_init_23 rfl rfl ?_
  refine z_putfF (ci := 5) (k := 2) C (zup_s) rfl (Nat.le_of_ble_eq_true rfl) (zfit_I _) rfl rfl q1158 dX6_init_24 ?_
  refine z_heap zup_zup ?_
  refine z_aload_n (i := 0) C dX6_init_27 rfl rfl ?_
  refine z_iload C dX6_init_28 rfl ?_
  refine z_putfF (ci := 5) (k := 3) C (zup_s) rfl (Nat.le_of_ble_eq_true rfl) (zfit_I _) rfl rfl q1160 dX6_init_30 ?_
  refine z_heap zup_zup ?_
  exact z_return C rfl dX6_init_33 (⟨rfl, q, hq, rfl⟩) (Nat.le_of_ble_eq_true rfl) (Nat.le_of_ble_eq_true rfl)
set_option maxHeartbeats 4000000 in
set_option maxRecDepth 100000 in
theorem ct_X7_init (D : zG) (B : Nat) {G : zH} (a : Nat) (x y z w : Int32) (h0 : G a = some (.inr (6, zfs0 6))) : Ct D B yX7_init (ws_ yX7_init cX7_init 5 none) (zrc 1 1 256) [.ref a, .int x, .int y, .int z, .int w] G (fun r9 G9 => r9 = none ∧ ∃ q : Nat, G q = none ∧ G9 = zup (zup G q (.inl (0, 256, .inl fun _ => 0))) a (.inr (6, [.int x, .int y, .int z, .int w, .ref q]))) zno := by
  refine ct_intro (by decide +kernel) (Nat.le_of_ble_eq_true rfl) ?_
  intro X C
  refine z_aload_n (i := 0) C dX7_init_0 rfl rfl ?_
  refine z_objInit C q1022 q132 q133 (Nat.le_of_ble_eq_true rfl) (Nat.le_of_ble_eq_true rfl) dX7_init_1 ?_
  refine z_aload_n (i := 0) C dX7_init_4 rfl rfl ?_
  refine z_sipush (v := 256) C dX7_init_5 (by decide) ?_
  refine z_newarr (ty := .int) (t := 0) (N := 256) (x0 := (256, .inl fun _ => 0)) C rfl rfl q567 (fun _ => rfl) (by decide) (by decide +kernel) (Nat.le_of_ble_eq_true rfl) (Nat.le_of_ble_eq_true rfl) (Nat.le_of_ble_eq_true rfl) dX7_init_8 ?_
  intro q hq hb
  have hne : ¬ a = q := fun z => by rw [← z, h0] at hq; cases hq
  have h1 : (zup G q (.inl (0, 256, .inl fun _ => 0))) a = some (.inr (6, zfs0 6)) := (zup_n hne).trans h0
  refine z_putf (ci := 6) (k := 4) C (h1) rfl (Nat.le_of_ble_eq_true rfl) (zfit_aI _) q1031 dX7_init_10 ?_
  refine z_aload_n (i := 0) C dX7_init_13 rfl rfl ?_
  refine z_iload_n (i := 1) C dX7_init_14 rfl rfl ?_
  refine z_putfF (ci := 6) (k := 0) C (zup_s) rfl (Nat.le_of_ble_eq_true rfl) (zfit_I _) rfl rfl q1023 dX7_init_15 ?_
  refine z_heap zup_zup ?_
  refine z_aload_n (i := 0) C dX7_init_18 rfl rfl ?_
  refine z_iload_n (i := 2) C dX7_init_19 rfl rfl ?_
  refine z_putfF (ci := 6) (k := 1) C (zup_s) rfl (Nat.le_of_ble_eq_true rfl) (zfit_I _) rfl rfl q1026 dX7_init_20 ?_
  refine z_heap zup_zup ?_
  refine z_aload_n (i := 0) C dX7_init_23 rfl rfl ?_
  refine z_iload_n (i := 3) C dX7_init_24 rfl rfl ?_
  refine z_putfF (ci := 6) (k := 2) C (zup_s) rfl (Nat.le_of_ble_eq_true rfl) (zfit_I _) rfl rfl q1027 dX7_init_25 ?_
  refine z_heap zup_zup ?_
  refine z_aload_n (i := 0) C dX7_init_28 rfl rfl ?_
  refine z_iload C dX7_init_29 rfl ?_
  refine z_putf (ci := 6) (k := 3) C (zup_s) rfl (Nat.le_of_ble_eq_true rfl) (zfit_I _) q1028 dX7_init_31 ?_
  refine z_heap zup_zup ?_
  exact z_return C rfl dX7_init_34 (⟨rfl, q, hq, rfl⟩) (Nat.le_of_ble_eq_true rfl) (Nat.le_of_ble_eq_true rfl)
set_option maxHeartbeats 4000000 in
set_option maxRecDepth 100000 in
theorem ct_J0_init (D : zG) (B : Nat) {G : zH} (a : Nat)  : Ct D B yJ0_init (ws_ yJ0_init cJ0_init 1 none) (zr 1) [.ref a] G (zpe none G) zno := by
  refine ct_intro (by decide +kernel) (Nat.le_of_ble_eq_true rfl) ?_
  intro X C
  refine z_aload_n (i := 0) C dJ0_init_0 rfl rfl ?_
  refine z_objInit C q151 q132 q133 (Nat.le_of_ble_eq_true rfl) (Nat.le_of_ble_eq_true rfl) dJ0_init_1 ?_
  exact z_return C rfl dJ0_init_4 (⟨rfl, rfl⟩) (Nat.le_of_ble_eq_true rfl) (Nat.le_of_ble_eq_true rfl)
theorem np_J0_init : znp yJ0_init 0 := ⟨by decide +kernel, by decide +kernel, by decide +kernel⟩
set_option maxHeartbeats 4000000 in
set_option maxRecDepth 100000 in
theorem ct_J1_init (D : zG) (B : Nat) {G : zH} (a : Nat) (h0 : G a = some (.inr (13, zfs0 13))) : Ct D B yJ1_init (ws_ yJ1_init cJ1_init 1 none) (zr 2) [.ref a] G (zpe none (zup G a (.inr (13, [.int 0, .null, .int 0])))) zno := by
  refine ct_intro (by decide +kernel) (Nat.le_of_ble_eq_true rfl) ?_
  intro X C
  refine z_aload_n (i := 0) C dJ1_init_0 rfl rfl ?_
  refine z_callIe C (ct_J0_init D B a) q148 q149 q85 q150 rfl np_J0_init (zr_ok rfl rfl) rfl rfl (Nat.le_of_ble_eq_true rfl) (⟨Nat.le_of_ble_eq_true rfl, Nat.le_of_ble_eq_true rfl⟩) dJ1_init_1 ?_
  refine z_aload_n (i := 0) C dJ1_init_4 rfl rfl ?_
  refine z_iconst (v := 0) C dJ1_init_5 (by decide) ?_
  refine z_putf (ci := 13) (k := 0) C (by first | assumption | exact (zup_n (by assumption)).trans (by assumption)) rfl (Nat.le_of_ble_eq_true rfl) (zfit_I _) q478 dJ1_init_6 ?_
  exact z_return C rfl dJ1_init_9 (⟨rfl, rfl⟩) (Nat.le_of_ble_eq_true rfl) (Nat.le_of_ble_eq_true rfl)
theorem np_J1_init : znp yJ1_init 0 := ⟨by decide +kernel, by decide +kernel, by decide +kernel⟩
theorem np_J8_init : znp yJ8_init 0 := ⟨by decide +kernel, by decide +kernel, by decide +kernel⟩
theorem np_J8_append : znp yJ8_append 1 := ⟨by decide +kernel, by decide +kernel, by decide +kernel⟩
theorem np_J8_append_2 : znp yJ8_append_2 1 := ⟨by decide +kernel, by decide +kernel, by decide +kernel⟩
theorem np_J8_toString : znp yJ8_toString 0 := ⟨by decide +kernel, by decide +kernel, by decide +kernel⟩
theorem np_J6_init : znp yJ6_init 1 := ⟨by decide +kernel, by decide +kernel, by decide +kernel⟩
set_option maxHeartbeats 4000000 in
set_option maxRecDepth 100000 in
theorem ct_J2_init (D : zG) (B : Nat) {G : zH} (a k : Nat) (h0 : G a = some (.inr (13, zfs0 13))) (hk : 1 ≤ k) (hk2 : k ≤ 16) : Ct D B yJ2_init (ws_ yJ2_init cJ2_init 2 none) (zrc 3 1 16) [.ref a, .int (nI k)] G (fun w G9 => w = none ∧ ∃ q : Nat, G q = none ∧ G9 = zup (zup G q (.inl (5, k, .inr (.inr (.inr (.inr fun _ => none)))))) a (.inr (13, [.int 0, .ref q, .int 0]))) zno := by
  refine ct_intro (by decide +kernel) (Nat.le_of_ble_eq_true rfl) ?_
  intro X C
  refine z_aload_n (i := 0) C dJ2_init_0 rfl rfl ?_
  refine z_callIe C (ct_J1_init D B a h0) q145 q146 q86 q147 rfl np_J1_init (zr_ok rfl rfl) rfl rfl (Nat.le_of_ble_eq_true rfl) (⟨Nat.le_of_ble_eq_true rfl, Nat.le_of_ble_eq_true rfl⟩) dJ2_init_1 ?_
  refine z_iload_n (i := 1) C dJ2_init_4 rfl rfl ?_
  refine z_if_le (tgt := 19) C dJ2_init_5 (by decide) (fun c_5 => ?_) (fun c_5 => ?_)
  · exact absurd c_5 (Int32.not_le.mpr (nI_lt (a := 0) (by omega) (by omega)))
  · refine z_aload_n (i := 0) C dJ2_init_8 rfl rfl ?_
    refine z_iload_n (i := 1) C dJ2_init_9 rfl rfl ?_
    refine z_anewarr (t := 5) (N := k) C rfl (by decide) q152 (nI_pos (by omega)) (nI_clamp (by omega)) (by omega) (Nat.le_of_ble_eq_true rfl) (by show 0 + k ≤ 16; omega) dJ2_init_10 ?_
    intro q hq hb
    have hne : ¬ q = a := fun z => by rw [z, zup_s] at hq; cases hq
    have hq0 : G q = none := (zup_n hne).symm.trans hq
    refine z_heap (zup_comm (fun z => hne z.symm)) ?_
    refine z_putf (ci := 13) (k := 1) C (zup_s) rfl (Nat.le_of_ble_eq_true rfl) (zfit_ao (C0 := "java/lang/Object") (by decide +kernel) _) q474 dJ2_init_13 ?_
    refine z_heap zup_zup ?_
    refine z_goto (tgt := 60) C dJ2_init_16 (by decide) ?_
    exact z_return C rfl dJ2_init_60 (⟨rfl, q, hq0, rfl⟩) (Nat.le_of_ble_eq_true rfl) (by show 0 + k ≤ 16; omega)
set_option maxHeartbeats 4000000 in
set_option maxRecDepth 100000 in
theorem ct_J2_size (D : zG) (B : Nat) {G : zH} (a n : Nat) (v e : Value) (hl : G a = some (.inr (13, [v, e, .int (nI n)]))) : Ct D B yJ2_size (ws_ yJ2_size cJ2_size 1 (some .int)) (zr 0) [.ref a] G (zpe (some (.int (nI n))) G) zno := by
  refine ct_intro (by decide +kernel) (Nat.le_of_ble_eq_true rfl) ?_
  intro X C
  refine z_aload_n (i := 0) C dJ2_size_0 rfl rfl ?_
  refine z_getf (ci := 13) (k := 2) C (by first | assumption | exact (zup_n (by assumption)).trans (by assumption)) rfl rfl q477 dJ2_size_1 ?_
  exact z_ireturn C rfl (rfl) dJ2_size_4 (⟨rfl, rfl⟩) (Nat.le_of_ble_eq_true rfl) (Nat.le_of_ble_eq_true rfl)
set_option maxHeartbeats 4000000 in
set_option maxRecDepth 100000 in
theorem ct_J21_checkIndex (D : zG) (B : Nat) {G : zH} (i n : Nat) (h : i < n) (hn : n < 2 ^ 31) : Ct D B yJ21_checkIndex (ws_ yJ21_checkIndex cJ21_checkIndex 2 (some .int)) (zr 1) [.int (nI i), .int (nI n)] G (zpe (some (.int (nI i))) G) zno := by
  refine ct_intro (by decide +kernel) (Nat.le_of_ble_eq_true rfl) ?_
  intro X C
  refine z_iload_n (i := 0) C dJ21_checkIndex_0 rfl rfl ?_
  refine z_iload_n (i := 1) C dJ21_checkIndex_1 rfl rfl ?_
  refine z_null C dJ21_checkIndex_2 ?_
  refine z_callSe C (ct_J14_checkIndex_n D B i n h hn) q1145 q817 q100 q818 np_J14_checkIndex (zr_ok rfl rfl) rfl rfl (Nat.le_of_ble_eq_true rfl) (⟨Nat.le_of_ble_eq_true rfl, Nat.le_of_ble_eq_true rfl⟩) dJ21_checkIndex_3 ?_
  exact z_ireturn C rfl (rfl) dJ21_checkIndex_6 (⟨rfl, rfl⟩) (Nat.le_of_ble_eq_true rfl) (Nat.le_of_ble_eq_true rfl)
set_option maxHeartbeats 4000000 in
set_option maxRecDepth 100000 in
theorem ct_J2_elementData (D : zG) (B : Nat) {G : zH} (a n : Nat) (f : Nat → Nat) (mc : Int32) (e cap : Nat) (g : Nat → Option Nat) (i : Nat) (hl : zli G a n f mc e cap g) (hi : i < n) : Ct D B yJ2_elementData (ws_ yJ2_elementData cJ2_elementData 2 (some (.object "java/lang/Object"))) (zr 0) [.ref a, .int (nI i)] G (zpe (some (.ref (f i))) G) zno := by
  refine ct_intro (by decide +kernel) (Nat.le_of_ble_eq_true rfl) ?_
  intro X C
  obtain ⟨h1, h2, ⟨h3, h4, h5⟩, h6, h7⟩ := hl
  refine z_aload_n (i := 0) C dJ2_elementData_0 rfl rfl ?_
  refine z_getf (ci := 13) (k := 1) C (by first | assumption | exact (zup_n (by assumption)).trans (by assumption)) rfl rfl q474 dJ2_elementData_1 ?_
  refine z_iload_n (i := 1) C dJ2_elementData_4 rfl rfl ?_
  refine zj_aald C h2 rfl (zixI rfl (by omega)) (by omega) dJ2_elementData_5 ?_
  refine z_eq (st' := [.ref (f i)]) (by rw [h6 i hi]; rfl) rfl ?_
  exact z_areturn C rfl (Or.inl ⟨_, rfl⟩) (Or.inr ⟨_, rfl⟩) dJ2_elementData_6 (⟨rfl, rfl⟩) (Nat.le_of_ble_eq_true rfl) (Nat.le_of_ble_eq_true rfl)
theorem np_J21_checkIndex : znp yJ21_checkIndex 2 := ⟨by decide +kernel, by decide +kernel, by decide +kernel⟩
theorem np_J2_elementData : znp yJ2_elementData 1 := ⟨by decide +kernel, by decide +kernel, by decide +kernel⟩
set_option maxHeartbeats 4000000 in
set_option maxRecDepth 100000 in
theorem ct_J2_get (D : zG) (B : Nat) {G : zH} (a n : Nat) (f : Nat → Nat) (mc : Int32) (e cap : Nat) (g : Nat → Option Nat) (i : Nat) (hl : zli G a n f mc e cap g) (hi : i < n) : Ct D B yJ2_get (ws_ yJ2_get cJ2_get 2 (some (.object "java/lang/Object"))) (zr 2) [.ref a, .int (nI i)] G (zpe (some (.ref (f i))) G) zno := by
  refine ct_intro (by decide +kernel) (Nat.le_of_ble_eq_true rfl) ?_
  intro X C
  have hl0 := hl
  obtain ⟨h1, h2, ⟨h3, h4, h5⟩, h6, h7⟩ := hl
  refine z_iload_n (i := 1) C dJ2_get_0 rfl rfl ?_
  refine z_aload_n (i := 0) C dJ2_get_1 rfl rfl ?_
  refine z_getf (ci := 13) (k := 2) C (by first | assumption | exact (zup_n (by assumption)).trans (by assumption)) rfl rfl q477 dJ2_get_2 ?_
  refine z_callSe C (ct_J21_checkIndex D B i n hi (by omega)) q1142 q1143 q112 q1144 np_J21_checkIndex (zr_ok rfl rfl) rfl rfl (Nat.le_of_ble_eq_true rfl) (⟨Nat.le_of_ble_eq_true rfl, Nat.le_of_ble_eq_true rfl⟩) dJ2_get_5 ?_
  refine z_pop C dJ2_get_8 rfl ?_
  refine z_aload_n (i := 0) C dJ2_get_9 rfl rfl ?_
  refine z_iload_n (i := 1) C dJ2_get_10 rfl rfl ?_
  refine z_callVe C (by assumption) rfl (ct_J2_elementData D B a n f mc e cap g i hl0 hi) q1146 q1147 q1148 q87 q1149 np_J2_elementData (zr_ok rfl rfl) rfl rfl (Nat.le_of_ble_eq_true rfl) (⟨Nat.le_of_ble_eq_true rfl, Nat.le_of_ble_eq_true rfl⟩) dJ2_get_11 ?_
  exact z_areturn C rfl (Or.inl ⟨_, rfl⟩) (Or.inr ⟨_, rfl⟩) dJ2_get_14 (⟨rfl, rfl⟩) (Nat.le_of_ble_eq_true rfl) (Nat.le_of_ble_eq_true rfl)
set_option maxHeartbeats 4000000 in
set_option maxRecDepth 100000 in
theorem ct_J22_init (D : zG) (B : Nat) {G : zH} (t a : Nat) (mc : Int32) (v w : Value) (h0 : G t = some (.inr (14, zfs0 14))) (h1 : G a = some (.inr (13, [.int mc, v, w]))) : Ct D B yJ22_init (ws_ yJ22_init cJ22_init 2 none) (zr 1) [.ref t, .ref a] G (zpe none (zup G t (.inr (14, [.int 0, .int (-1), .int mc, .ref a])))) zno := by
  refine ct_intro (by decide +kernel) (Nat.le_of_ble_eq_true rfl) ?_
  intro X C
  have hne : ¬ a = t := fun z => by rw [z, h0] at h1; cases h1
  refine z_aload_n (i := 0) C dJ22_init_0 rfl rfl ?_
  refine z_aload_n (i := 1) C dJ22_init_1 rfl rfl ?_
  refine z_putfF (ci := 14) (k := 3) C (by first | assumption | exact (zup_n (by assumption)).trans (by assumption)) rfl (Nat.le_of_ble_eq_true rfl) (zfit_ob (C0 := "java/util/ArrayList") (by decide +kernel) _) rfl rfl q615 dJ22_init_2 ?_
  refine z_aload_n (i := 0) C dJ22_init_5 rfl rfl ?_
  refine z_objInit C q611 q132 q133 (Nat.le_of_ble_eq_true rfl) (Nat.le_of_ble_eq_true rfl) dJ22_init_6 ?_
  refine z_aload_n (i := 0) C dJ22_init_9 rfl rfl ?_
  refine z_iconst (v := (-1)) C dJ22_init_10 (by decide) ?_
  refine z_putf (ci := 14) (k := 1) C (zup_s) rfl (Nat.le_of_ble_eq_true rfl) (zfit_I _) q613 dJ22_init_11 ?_
  refine z_heap zup_zup ?_
  refine z_aload_n (i := 0) C dJ22_init_14 rfl rfl ?_
  refine z_aload_n (i := 0) C dJ22_init_15 rfl rfl ?_
  refine z_getf (ci := 14) (k := 3) C (zup_s) rfl rfl q615 dJ22_init_16 ?_
  refine z_getfG (ci := 13) (k := 0) C ((zup_n hne).trans h1) rfl rfl (Or.inr q480) q479 dJ22_init_19 ?_
  refine z_putf (ci := 14) (k := 2) C (zup_s) rfl (Nat.le_of_ble_eq_true rfl) (zfit_I _) q614 dJ22_init_22 ?_
  refine z_heap zup_zup ?_
  exact z_return C rfl dJ22_init_25 (⟨rfl, rfl⟩) (Nat.le_of_ble_eq_true rfl) (Nat.le_of_ble_eq_true rfl)
theorem np_J22_init : znp yJ22_init 1 := ⟨by decide +kernel, by decide +kernel, by decide +kernel⟩
set_option maxHeartbeats 4000000 in
set_option maxRecDepth 100000 in
theorem ct_J2_iterator (D : zG) (B : Nat) {G : zH} (a : Nat) (mc : Int32) (v w : Value) (h1 : G a = some (.inr (13, [.int mc, v, w]))) : Ct D B yJ2_iterator (ws_ yJ2_iterator cJ2_iterator 1 (some (.object "java/util/Iterator"))) (zrc 3 1 4) [.ref a] G (fun r G9 => ∃ q : Nat, r = some (.ref q) ∧ G q = none ∧ G9 = zup G q (.inr (14, [.int 0, .int (-1), .int mc, .ref a]))) zno := by
  refine ct_intro (by decide +kernel) (Nat.le_of_ble_eq_true rfl) ?_
  intro X C
  refine z_new (ci := 14) C rfl q606 q607 q115 (Nat.le_of_ble_eq_true rfl) (Nat.le_of_ble_eq_true rfl) dJ2_iterator_0 ?_
  intro q hq hb
  have hne : ¬ a = q := fun z => by rw [z, hq] at h1; cases h1
  refine z_dup C dJ2_iterator_3 rfl ?_
  refine z_aload_n (i := 0) C dJ2_iterator_4 rfl rfl ?_
  refine z_callIe C (ct_J22_init D B q a mc v w zup_s ((zup_n hne).trans h1)) q608 q609 q115 q610 rfl np_J22_init (zr_ok rfl rfl) rfl rfl (Nat.le_of_ble_eq_true rfl) (⟨Nat.le_of_ble_eq_true rfl, Nat.le_of_ble_eq_true rfl⟩) dJ2_iterator_5 ?_
  refine z_heap zup_zup ?_
  exact z_areturn C rfl (Or.inl ⟨_, rfl⟩) (Or.inr ⟨_, rfl⟩) dJ2_iterator_8 (⟨q, rfl, hq, rfl⟩) (Nat.le_of_ble_eq_true rfl) (Nat.le_of_ble_eq_true rfl)
set_option maxHeartbeats 4000000 in
set_option maxRecDepth 100000 in
theorem ct_J22_hasNext (D : zG) (B : Nat) {G : zH} (t a i n : Nat) (u v w x : Value) (h1 : G a = some (.inr (13, [v, w, .int (nI n)]))) (h0 : G t = some (.inr (14, [.int (nI i), u, x, .ref a]))) (hi : i < 2 ^ 31) (hn : n < 2 ^ 31) : Ct D B yJ22_hasNext (ws_ yJ22_hasNext cJ22_hasNext 1 (some .boolean)) (zr 0) [.ref t] G (zpe (some (.int (zb (¬ i = n)))) G) zno := by
  refine ct_intro (by decide +kernel) (Nat.le_of_ble_eq_true rfl) ?_
  intro X C
  refine z_aload_n (i := 0) C dJ22_hasNext_0 rfl rfl ?_
  refine z_getf (ci := 14) (k := 0) C (by first | assumption | exact (zup_n (by assumption)).trans (by assumption)) rfl rfl q612 dJ22_hasNext_1 ?_
  refine z_aload_n (i := 0) C dJ22_hasNext_4 rfl rfl ?_
  refine z_getf (ci := 14) (k := 3) C (by first | assumption | exact (zup_n (by assumption)).trans (by assumption)) rfl rfl q615 dJ22_hasNext_5 ?_
  refine z_getfN (ci := 13) (k := 2) C (h1) rfl rfl q476 dJ22_hasNext_8 ?_
  refine z_icmp_eq (tgt := 18) C dJ22_hasNext_11 (by decide) (fun c_11 => ?_) (fun c_11 => ?_)
  · refine z_iconst (v := 0) C dJ22_hasNext_18 (by decide) ?_
    exact z_ireturn C rfl (rfl) dJ22_hasNext_19 (⟨zvs (zb_f (p := ¬ i = n) (fun q => q ((nI_eq hi hn).mp c_11))).symm, rfl⟩) (Nat.le_of_ble_eq_true rfl) (Nat.le_of_ble_eq_true rfl)
  · refine z_iconst (v := 1) C dJ22_hasNext_14 (by decide) ?_
    refine z_goto (tgt := 19) C dJ22_hasNext_15 (by decide) ?_
    exact z_ireturn C rfl (rfl) dJ22_hasNext_19 (⟨zvs (zb_t (p := ¬ i = n) (fun q => c_11 (by rw [q]))).symm, rfl⟩) (Nat.le_of_ble_eq_true rfl) (Nat.le_of_ble_eq_true rfl)
set_option maxHeartbeats 4000000 in
set_option maxRecDepth 100000 in
theorem ct_J22_checkForComodification (D : zG) (B : Nat) {G : zH} (t a : Nat) (mc : Int32) (u v w x : Value) (h1 : G a = some (.inr (13, [.int mc, v, w]))) (h0 : G t = some (.inr (14, [u, x, .int mc, .ref a]))) : Ct D B yJ22_checkForComodification (ws_ yJ22_checkForComodification cJ22_checkForComodification 1 none) (zr 0) [.ref t] G (zpe none G) zno := by
  refine ct_intro (by decide +kernel) (Nat.le_of_ble_eq_true rfl) ?_
  intro X C
  refine z_aload_n (i := 0) C dJ22_checkForComodification_0 rfl rfl ?_
  refine z_getf (ci := 14) (k := 3) C (by first | assumption | exact (zup_n (by assumption)).trans (by assumption)) rfl rfl q615 dJ22_checkForComodification_1 ?_
  refine z_getfG (ci := 13) (k := 0) C (by first | assumption | exact (zup_n (by assumption)).trans (by assumption)) rfl rfl (Or.inr q480) q479 dJ22_checkForComodification_4 ?_
  refine z_aload_n (i := 0) C dJ22_checkForComodification_7 rfl rfl ?_
  refine z_getf (ci := 14) (k := 2) C (by first | assumption | exact (zup_n (by assumption)).trans (by assumption)) rfl rfl q614 dJ22_checkForComodification_8 ?_
  refine z_icmp_eq (tgt := 22) C dJ22_checkForComodification_11 (by decide) (fun c_11 => ?_) (fun c_11 => ?_)
  · exact z_return C rfl dJ22_checkForComodification_22 (⟨rfl, rfl⟩) (Nat.le_of_ble_eq_true rfl) (Nat.le_of_ble_eq_true rfl)
  · exact absurd rfl c_11
theorem np_J22_checkForComodification : znp yJ22_checkForComodification 0 := ⟨by decide +kernel, by decide +kernel, by decide +kernel⟩
set_option maxHeartbeats 4000000 in
set_option maxRecDepth 100000 in
theorem ct_J22_next (D : zG) (B : Nat) {G : zH} (a n : Nat) (f : Nat → Nat) (mc : Int32) (e cap : Nat) (g : Nat → Option Nat) (t i : Nat) (u : Value) (hl : zli G a n f mc e cap g) (h0 : G t = some (.inr (14, [.int (nI i), u, .int mc, .ref a]))) (hi : i < n) : Ct D B yJ22_next (ws_ yJ22_next cJ22_next 3 (some (.object "java/lang/Object"))) (zr 1) [.ref t] G (zpe (some (.ref (f i))) (zup G t (.inr (14, [.int (nI (i + 1)), .int (nI i), .int mc, .ref a])))) zno := by
  refine ct_intro (by decide +kernel) (Nat.le_of_ble_eq_true rfl) ?_
  intro X C
  obtain ⟨h1, h2, ⟨h3, h4, h5⟩, h6, h7⟩ := hl
  have hne : ¬ e = t := fun z => by rw [z, h0] at h2; cases h2
  refine z_aload_n (i := 0) C dJ22_next_0 rfl rfl ?_
  refine z_callVe C (by assumption) rfl (ct_J22_checkForComodification D B t a mc _ _ _ _ h1 h0) q644 q645 q646 q115 q647 np_J22_checkForComodification (zr_ok rfl rfl) rfl rfl (Nat.le_of_ble_eq_true rfl) (⟨Nat.le_of_ble_eq_true rfl, Nat.le_of_ble_eq_true rfl⟩) dJ22_next_1 ?_
  refine z_aload_n (i := 0) C dJ22_next_4 rfl rfl ?_
  refine z_getf (ci := 14) (k := 0) C (h0) rfl rfl q612 dJ22_next_5 ?_
  refine z_istore_n (i := 1) C dJ22_next_8 rfl (Nat.le_of_ble_eq_true rfl) rfl ?_
  refine z_iload_n (i := 1) C dJ22_next_9 rfl rfl ?_
  refine z_aload_n (i := 0) C dJ22_next_10 rfl rfl ?_
  refine z_getf (ci := 14) (k := 3) C (h0) rfl rfl q615 dJ22_next_11 ?_
  refine z_getfN (ci := 13) (k := 2) C (h1) rfl rfl q476 dJ22_next_14 ?_
  refine z_icmp_lt (tgt := 28) C dJ22_next_17 (by decide) (fun c_17 => ?_) (fun c_17 => ?_)
  · refine z_aload_n (i := 0) C dJ22_next_28 rfl rfl ?_
    refine z_getf (ci := 14) (k := 3) C (h0) rfl rfl q615 dJ22_next_29 ?_
    refine z_getf (ci := 13) (k := 1) C (h1) rfl rfl q475 dJ22_next_32 ?_
    refine z_astore_n (i := 2) C dJ22_next_35 rfl (Nat.le_of_ble_eq_true rfl) rfl ?_
    refine z_iload_n (i := 1) C dJ22_next_36 rfl rfl ?_
    refine z_aload_n (i := 2) C dJ22_next_37 rfl rfl ?_
    refine z_alen C (h2) rfl rfl dJ22_next_38 ?_
    refine z_icmp_lt (tgt := 50) C dJ22_next_39 (by decide) (fun c_39 => ?_) (fun c_39 => ?_)
    · refine z_aload_n (i := 0) C dJ22_next_50 rfl rfl ?_
      refine z_iload_n (i := 1) C dJ22_next_51 rfl rfl ?_
      refine z_iconst (v := 1) C dJ22_next_52 (by decide) ?_
      refine z_iadd C dJ22_next_53 ?_
      refine z_seti (nI_1 i) ?_
      refine z_putf (ci := 14) (k := 0) C (h0) rfl (Nat.le_of_ble_eq_true rfl) (zfit_I _) q612 dJ22_next_54 ?_
      refine z_aload_n (i := 2) C dJ22_next_57 rfl rfl ?_
      refine z_aload_n (i := 0) C dJ22_next_58 rfl rfl ?_
      refine z_iload_n (i := 1) C dJ22_next_59 rfl rfl ?_
      refine z_dup_x1 C dJ22_next_60 rfl rfl ?_
      refine z_putf (ci := 14) (k := 1) C (zup_s) rfl (Nat.le_of_ble_eq_true rfl) (zfit_I _) q613 dJ22_next_61 ?_
      refine z_heap zup_zup ?_
      refine zj_aald C ((zup_n hne).trans h2) rfl (zixI rfl (by omega)) (by omega) dJ22_next_64 ?_
      refine z_eq (st' := [.ref (f i)]) (by rw [h6 i hi]; rfl) rfl ?_
      exact z_areturn C rfl (Or.inl ⟨_, rfl⟩) (Or.inr ⟨_, rfl⟩) dJ22_next_65 (⟨rfl, rfl⟩) (Nat.le_of_ble_eq_true rfl) (Nat.le_of_ble_eq_true rfl)
    · exact absurd (nI_lt (by omega) (by omega)) c_39
  · exact absurd (nI_lt hi (by omega)) c_17
theorem np_J11_hugeLength : znp yJ11_hugeLength 2 := ⟨by decide +kernel, by decide +kernel, by decide +kernel⟩
set_option maxHeartbeats 4000000 in
set_option maxRecDepth 100000 in
theorem ct_J11_newLength (D : zG) (B : Nat) {G : zH} (a b c : Nat) (ha : 1 ≤ a) (ha2 : a ≤ 100000) (hb : b ≤ 100000) (hc : c ≤ 100000) : Ct D B yJ11_newLength (ws_ yJ11_newLength cJ11_newLength 4 (some .int)) (zr 1) [.int (nI a), .int (nI b), .int (nI c)] G (zpe (some (.int (nI (a + max b c)))) G) zno := by
  refine ct_intro (by decide +kernel) (Nat.le_of_ble_eq_true rfl) ?_
  intro X C
  obtain ⟨w, hw⟩ : ∃ w, w = a + max b c := ⟨_, rfl⟩
  rw [← hw] at C
  have hw2 : 1 ≤ w := by omega
  have hw3 : w ≤ 200000 := by omega
  refine z_iload_n (i := 0) C dJ11_newLength_0 rfl rfl ?_
  refine z_iload_n (i := 1) C dJ11_newLength_1 rfl rfl ?_
  refine z_iload_n (i := 2) C dJ11_newLength_2 rfl rfl ?_
  refine z_mmax C q256 q257 q97 q258 (Nat.le_of_ble_eq_true rfl) (Nat.le_of_ble_eq_true rfl) (Nat.le_of_ble_eq_true rfl) (Nat.le_of_ble_eq_true rfl) dJ11_newLength_3 ?_
  refine z_seti (zmx b c (by omega) (by omega)) ?_
  refine z_iadd C dJ11_newLength_6 ?_
  refine z_seti (y := nI w) ((nI_add a (max b c)).trans (by rw [hw])) ?_
  refine z_istore_n (i := 3) C dJ11_newLength_7 rfl (Nat.le_of_ble_eq_true rfl) rfl ?_
  refine z_iconst (v := 0) C dJ11_newLength_8 (by decide) ?_
  refine z_iload_n (i := 3) C dJ11_newLength_9 rfl rfl ?_
  refine z_icmp_ge (tgt := 21) C dJ11_newLength_10 (by decide) (fun c_10 => ?_) (fun c_10 => ?_)
  · exact absurd c_10 (Int32.not_le.mpr (nI_lt (a := 0) (by omega) (by omega)))
  · refine z_iload_n (i := 3) C dJ11_newLength_13 rfl rfl ?_
    refine z_ldc C q259 dJ11_newLength_14 ?_
    refine z_icmp_gt (tgt := 21) C dJ11_newLength_16 (by decide) (fun c_16 => ?_) (fun c_16 => ?_)
    · exact absurd c_16 (Int32.not_lt.mpr (nI_le (b := 2147483647 - 8) (by omega) (by decide)))
    · refine z_iload_n (i := 3) C dJ11_newLength_19 rfl rfl ?_
      exact z_ireturn C rfl (rfl) dJ11_newLength_20 (⟨rfl, rfl⟩) (Nat.le_of_ble_eq_true rfl) (Nat.le_of_ble_eq_true rfl)
theorem np_J12_min : znp yJ12_min 2 := ⟨by decide +kernel, by decide +kernel, by decide +kernel⟩
set_option maxHeartbeats 4000000 in
set_option maxRecDepth 100000 in
theorem ct_J13_copyOf_3 (D : zG) (B : Nat) {G : zH} (e cap m : Nat) (g : Nat → Option Nat) (ci : Nat) (C0 : String) (T0 : u_T) (N0 : Nat) (h2 : G e = some (.inl (5, cap, .inr (.inr (.inr (.inr g)))))) (hcap : cap ≤ 100) (hm : m ≤ 24) (hc : zCL[ci]? = some (C0, T0, N0)) (hw : Cond.castable C0 "java/lang/Object" ∈ lw_tbl) (hel : ∀ i y, g i = some y → ∃ fs, G y = some (.inr (ci, fs))) : Ct D B yJ13_copyOf_3 (ws_ yJ13_copyOf_3 cJ13_copyOf_3 4 (some (.array (.object "java/lang/Object")))) (zrc 1 1 24) [.ref e, .int (nI m), .ref (D.2.2.2 60)] G (fun r G9 => ∃ q : Nat, r = some (.ref q) ∧ G q = none ∧ G9 = zup G q (.inl (5, m, .inr (.inr (.inr (.inr (va_cpy g (fun _ => none) 0 0 (min cap m)))))))) zno := by
  refine ct_intro (by decide +kernel) (Nat.le_of_ble_eq_true rfl) ?_
  intro X C
  refine z_aload_n (i := 2) C dJ13_copyOf_3_0 rfl rfl ?_
  refine z_ldcM C q1101 dJ13_copyOf_3_1 ?_
  refine z_acmp_ne (rx := some (D.2.2.2 60)) (ry := some (D.2.2.2 60)) (tgt := 13) C dJ13_copyOf_3_3 (by decide) (fun c_3 => ?_) (fun c_3 => ?_)
  · exact absurd rfl c_3
  refine z_iload_n (i := 1) C dJ13_copyOf_3_6 rfl rfl ?_
  refine z_anewarr (t := 5) (N := m) C rfl (by decide) q1102 (nI_pos (by omega)) (nI_clamp (by omega)) (by omega) (Nat.le_of_ble_eq_true rfl) (by show 0 + m ≤ 24; omega) dJ13_copyOf_3_7 ?_
  intro q hq hb
  have hne : ¬ e = q := fun z => by rw [z, hq] at h2; cases h2
  have h2' := (zup_n (e := .inl (5, m, .inr (.inr (.inr (.inr fun _ => none))))) hne).trans h2
  refine z_goto (tgt := 24) C dJ13_copyOf_3_10 (by decide) ?_
  refine z_astore_n (i := 3) C dJ13_copyOf_3_24 rfl (Nat.le_of_ble_eq_true rfl) rfl ?_
  refine z_aload_n (i := 0) C dJ13_copyOf_3_25 rfl rfl ?_
  refine z_iconst (v := 0) C dJ13_copyOf_3_26 (by decide) ?_
  refine z_aload_n (i := 3) C dJ13_copyOf_3_27 rfl rfl ?_
  refine z_iconst (v := 0) C dJ13_copyOf_3_28 (by decide) ?_
  refine z_aload_n (i := 0) C dJ13_copyOf_3_29 rfl rfl ?_
  refine z_alen C (h2') rfl rfl dJ13_copyOf_3_30 ?_
  refine z_iload_n (i := 1) C dJ13_copyOf_3_31 rfl rfl ?_
  refine z_mmin C q274 q275 q97 q276 (Nat.le_of_ble_eq_true rfl) (Nat.le_of_ble_eq_true rfl) (Nat.le_of_ble_eq_true rfl) (by show 0 + m ≤ 24; omega) dJ13_copyOf_3_32 ?_
  refine z_seti (zmn_ cap m (by omega) (by omega)) ?_
  refine z_copyq (ci := ci) (C0 := C0) (E0 := "java/lang/Object") (N0 := N0) C h2' zup_s rfl hc (Or.inr hw) q277 q279 q278 q99 (by decide) (by decide) (nI_pos (by omega)) (by rw [nI_clamp (by omega)]; show 0 + _ ≤ _; omega) (by rw [nI_clamp (by omega)]; show 0 + _ ≤ _; omega) (fun i hi y hy => ?_) (Nat.le_of_ble_eq_true rfl) (by decide) dJ13_copyOf_3_35 ?_
  · obtain ⟨fs, hf⟩ := hel _ y hy
    exact ⟨fs, (zup_n (fun z => by rw [z, hq] at hf; cases hf)).trans hf⟩
  refine z_heap zup_zup ?_
  refine z_heap (G' := zup G q (.inl (5, m, .inr (.inr (.inr (.inr (va_cpy g (fun _ => none) 0 0 (min cap m)))))))) (by rw [nI_clamp (by omega)]; rfl) ?_
  refine z_aload_n (i := 3) C dJ13_copyOf_3_38 rfl rfl ?_
  exact z_areturn C rfl (Or.inr ⟨_, rfl⟩) (Or.inr ⟨_, rfl⟩) dJ13_copyOf_3_39 (⟨q, rfl, hq, rfl⟩) (Nat.le_of_ble_eq_true rfl) (by show 0 + m ≤ 24; omega)
theorem np_J13_copyOf_3 : znp yJ13_copyOf_3 3 := ⟨by decide +kernel, by decide +kernel, by decide +kernel⟩
set_option maxHeartbeats 4000000 in
set_option maxRecDepth 100000 in
theorem ct_J13_copyOf_2 (D : zG) (B : Nat) {G : zH} (e cap m : Nat) (g : Nat → Option Nat) (ci : Nat) (C0 : String) (T0 : u_T) (N0 : Nat) (h2 : G e = some (.inl (5, cap, .inr (.inr (.inr (.inr g)))))) (hcap : cap ≤ 100) (hm : m ≤ 24) (hc : zCL[ci]? = some (C0, T0, N0)) (hw : Cond.castable C0 "java/lang/Object" ∈ lw_tbl) (hel : ∀ i y, g i = some y → ∃ fs, G y = some (.inr (ci, fs))) : Ct D B yJ13_copyOf_2 (ws_ yJ13_copyOf_2 cJ13_copyOf_2 2 (some (.array (.object "java/lang/Object")))) (zrc 2 1 24) [.ref e, .int (nI m)] G (fun r G9 => ∃ q : Nat, r = some (.ref q) ∧ G q = none ∧ G9 = zup G q (.inl (5, m, .inr (.inr (.inr (.inr (va_cpy g (fun _ => none) 0 0 (min cap m)))))))) zno := by
  refine ct_intro (by decide +kernel) (Nat.le_of_ble_eq_true rfl) ?_
  intro X C
  refine z_aload_n (i := 0) C dJ13_copyOf_2_0 rfl rfl ?_
  refine z_iload_n (i := 1) C dJ13_copyOf_2_1 rfl rfl ?_
  refine z_aload_n (i := 0) C dJ13_copyOf_2_2 rfl rfl ?_
  refine z_getC C h2 q1067 q2461 q2460 q1068 q1097 (Nat.le_of_ble_eq_true rfl) (Nat.le_of_ble_eq_true rfl) dJ13_copyOf_2_3 ?_
  refine z_callSn C (ct_J13_copyOf_3 D B e cap m g ci C0 T0 N0 h2 hcap hm hc hw hel) q1098 q1099 q98 q1100 np_J13_copyOf_3 (zr_ok rfl rfl) rfl rfl (Nat.le_of_ble_eq_true rfl) (⟨Nat.le_of_ble_eq_true rfl, Nat.le_of_ble_eq_true rfl⟩) dJ13_copyOf_2_6 ?_
  intro v9 G9 h9
  obtain ⟨q, rfl, hq, rfl⟩ := h9
  exact z_areturn C rfl (Or.inr ⟨_, rfl⟩) (Or.inr ⟨_, rfl⟩) dJ13_copyOf_2_9 (⟨q, rfl, hq, rfl⟩) (Nat.le_of_ble_eq_true rfl) (Nat.le_of_ble_eq_true rfl)
