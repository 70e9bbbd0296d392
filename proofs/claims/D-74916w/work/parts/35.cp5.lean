/-! component: paths -/
theorem zdr_sd (S : Nat → Int32) (m s : Nat) (r : Int32) (j : Nat) : zdr S m (some (zsv S s)) (S (28 + 21 * s + 1)) (S (16 + 3 * zsv S s + 2)) (S (28 + 21 * s + 2)) r (nI j) = zsd S m s r j := by
  unfold zdr zsd zdd
  by_cases h : r = 0
  · rw [if_pos h, if_pos h]
  · rw [if_neg h, if_neg h]
theorem zdr_fd (S : Nat → Int32) (m : Nat) (b r : Int32) (j : Nat) : zdr S m (zfv S) (S 12 + b) (zfy S) (S 14) r (nI j) = zfdd S m b r j := by
  unfold zdr zfdd zdd
  by_cases h : r = 0
  · rw [if_pos h, if_pos h]
  · rw [if_neg h, if_neg h]
theorem zdrok_sd {S : Nat → Int32} (g : zGe S) {m s j : Nat} (hm : m < 8) (hs : s < 6) (hj : j < 256) (r : Int32) : zdrok S m (some (zsv S s)) (S (28 + 21 * s + 1)) (S (16 + 3 * zsv S s + 2)) (S (28 + 21 * s + 2)) r (nI j) := by
  have := zsd_ok g hm hs hj
  unfold zdrok
  by_cases h : r = 0
  · rw [if_pos h]; exact this.1
  · rw [if_neg h]; exact this.2
theorem zdrok_fd {S : Nat → Int32} (g : zGe S) {m j : Nat} {b : Int32} (hm : m < 8) (hj : j < 256) (hb : zin b (-2000) 2000) (r : Int32) : zdrok S m (zfv S) (S 12 + b) (zfy S) (S 14) r (nI j) := by
  have := zfo_ok g hm hj hb
  unfold zdrok
  by_cases h : r = 0
  · rw [if_pos h]; exact this.1
  · rw [if_neg h]; exact this.2
theorem zge255 {c : Nat} (h : c ≤ 256) : 255 ≤ ztm c ↔ c = 256 := by
  cases c with
  | zero => exact ⟨fun h => absurd h (by decide), fun h => by omega⟩
  | succ k =>
    show nI 255 ≤ nI k ↔ _
    rw [nI_leI (by decide) (by omega)]
    omega
theorem zinl {t n u m : Nat} {f g : Nat → Int32} (h : (some (.inl (t, n, .inl f)) : Option zE) = some (.inl (u, m, .inl g))) : n = m := by
  have h1 := Sum.inl.inj (Option.some.inj h)
  exact congrArg (fun z => z.2.1) h1
abbrev zMo (S : Nat → Int32) (k q : Nat) : zE := .inr (6, [.int (S (154 + 4 * k + 0)), .int (S (154 + 4 * k + 1)), .int (S (154 + 4 * k + 2)), .int (S (154 + 4 * k + 3)), .ref q])
set_option maxHeartbeats 4000000 in
set_option maxRecDepth 100000 in
theorem ct_X6_add (D : zG) (B : Nat) {G : zH} (a u k v : Nat) (x o z s : Int32) (w : Nat → Int32) (h1 : G a = some (.inr (5, [.ref v, .int o, .int z, .int s, .ref u, .int (nI k)]))) (h2 : G u = some (.inl (0, 16, .inl w))) (hk : k < 16) : Ct D B yX6_add (ws_ yX6_add cX6_add 2 (some .int)) (zr 0) [.ref a, .int x] G (zpe (some (.int (nI (k + 1)))) (zup (zup G u (.inl (0, 16, .inl (upd w k x)))) a (.inr (5, [.ref v, .int o, .int z, .int s, .ref u, .int (nI (k + 1))])))) zno := by
  refine ct_intro (by decide +kernel) (Nat.le_of_ble_eq_true rfl) ?_
  intro X C
  have nau : ¬ a = u := fun z => by rw [z, h2] at h1; cases h1
  refine z_aload_n (i := 0) C dX6_add_0 rfl rfl ?_
  refine z_getf (ci := 5) (k := 4) C (by first | assumption | exact (zup_n (by assumption)).trans (by assumption)) rfl rfl q1161 dX6_add_1 ?_
  refine z_aload_n (i := 0) C dX6_add_4 rfl rfl ?_
  refine z_getf (ci := 5) (k := 5) C (by first | assumption | exact (zup_n (by assumption)).trans (by assumption)) rfl rfl q1162 dX6_add_5 ?_
  refine z_iload_n (i := 1) C dX6_add_8 rfl rfl ?_
  refine zj_iast C h2 (zixI rfl hk) (by decide) dX6_add_9 ?_
  refine z_aload_n (i := 0) C dX6_add_10 rfl rfl ?_
  refine z_dup C dX6_add_11 rfl ?_
  refine z_getf (ci := 5) (k := 5) C ((zup_n nau).trans h1) rfl rfl q1162 dX6_add_12 ?_
  refine z_iconst (v := 1) C dX6_add_15 (by decide) ?_
  refine z_iadd C dX6_add_16 ?_
  refine z_seti (nI_1 k) ?_
  refine z_putf (ci := 5) (k := 5) C ((zup_n nau).trans h1) rfl (Nat.le_of_ble_eq_true rfl) (zfit_I _) q1162 dX6_add_17 ?_
  refine z_aload_n (i := 0) C dX6_add_20 rfl rfl ?_
  refine z_getf (ci := 5) (k := 5) C (zup_s) rfl rfl q1162 dX6_add_21 ?_
  exact z_ireturn C rfl (rfl) dX6_add_24 (⟨rfl, rfl⟩) (Nat.le_of_ble_eq_true rfl) (Nat.le_of_ble_eq_true rfl)
set_option maxHeartbeats 4000000 in
set_option maxRecDepth 100000 in
theorem ct_X6_emitted (D : zG) (B : Nat) {G : zH} (a u k v j : Nat) (o z s : Int32) (w : Nat → Int32) (h1 : G a = some (.inr (5, [.ref v, .int o, .int z, .int s, .ref u, .int (nI k)]))) (h2 : G u = some (.inl (0, 16, .inl w))) (hk : 1 ≤ k) (hk2 : k ≤ 16) (hj : j < 256) : Ct D B yX6_emitted (ws_ yX6_emitted cX6_emitted 2 (some .int)) (zr 0) [.ref a, .int (nI j)] G (zpe (some (.int (w (j % k) * s))) G) zno := by
  refine ct_intro (by decide +kernel) (Nat.le_of_ble_eq_true rfl) ?_
  intro X C
  refine z_aload_n (i := 0) C dX6_emitted_0 rfl rfl ?_
  refine z_getf (ci := 5) (k := 4) C (by first | assumption | exact (zup_n (by assumption)).trans (by assumption)) rfl rfl q1161 dX6_emitted_1 ?_
  refine z_iload_n (i := 1) C dX6_emitted_4 rfl rfl ?_
  refine z_aload_n (i := 0) C dX6_emitted_5 rfl rfl ?_
  refine z_getf (ci := 5) (k := 5) C (by first | assumption | exact (zup_n (by assumption)).trans (by assumption)) rfl rfl q1162 dX6_emitted_6 ?_
  refine z_irem C dX6_emitted_9 (nI_ne0 (by omega) (by omega)) ?_
  have hmod := Nat.mod_lt j (show 0 < k by omega)
  refine z_seti (y := nI (j % k)) (pk_rem (by omega) (by omega) (by omega)) ?_
  refine zj_iald C h2 (zixI rfl (by omega)) (by decide) dX6_emitted_10 ?_
  refine z_aload_n (i := 0) C dX6_emitted_11 rfl rfl ?_
  refine z_getf (ci := 5) (k := 3) C (by first | assumption | exact (zup_n (by assumption)).trans (by assumption)) rfl rfl q1160 dX6_emitted_12 ?_
  refine z_imul C dX6_emitted_15 ?_
  exact z_ireturn C rfl (rfl) dX6_emitted_16 (⟨rfl, rfl⟩) (Nat.le_of_ble_eq_true rfl) (Nat.le_of_ble_eq_true rfl)
set_option maxHeartbeats 4000000 in
set_option maxRecDepth 100000 in
theorem ct_X7_at (D : zG) (B : Nat) {G : zH} (a m q : Nat) (x : Int32) (S : Nat → Int32) (w : Nat → Int32) (h1 : G a = some (zMo S m q)) (h2 : G q = some (.inl (0, 256, .inl w))) (hw : ∀ j, j < 256 → w j = S (186 + 256 * m + j)) : Ct D B yX7_at (ws_ yX7_at cX7_at 2 (some .int)) (zr 1) [.ref a, .int x] G (zpe (some (.int (zrec S m x))) G) zno := by
  refine ct_intro (by decide +kernel) (Nat.le_of_ble_eq_true rfl) ?_
  intro X C
  refine z_iload_n (i := 1) C dX7_at_0 rfl rfl ?_
  refine z_i2l C dX7_at_1 rfl ?_
  refine z_lconst (v := 0) C dX7_at_2 (by decide) ?_
  refine z_ldc2 C q1556 dX7_at_3 ?_
  refine z_callSNe C (ct_X1_isBetween D B (x) (0) (255) _ _ (by first | rfl | decide) (by first | rfl | decide)) q1557 q789 q83 q790 np_X1_isBetween (zr_ok rfl rfl) rfl rfl (Nat.le_of_ble_eq_true rfl) (⟨Nat.le_of_ble_eq_true rfl, Nat.le_of_ble_eq_true rfl⟩) dX7_at_6 ?_
  refine z_if_eq (tgt := 21) C dX7_at_9 (by decide) (fun c_9 => ?_) (fun c_9 => ?_)
  · have hx := zb_eq.mp c_9
    refine z_iconst (v := 0) C dX7_at_21 (by decide) ?_
    exact z_ireturn C rfl (rfl) dX7_at_22 (⟨zvs (by unfold zrec; rw [if_neg hx]), rfl⟩) (Nat.le_of_ble_eq_true rfl) (Nat.le_of_ble_eq_true rfl)
  · have hx := zb_ne.mp c_9
    obtain ⟨j, hj, rfl⟩ := znI_of hx
    refine z_aload_n (i := 0) C dX7_at_12 rfl rfl ?_
    refine z_getf (ci := 6) (k := 4) C (by first | assumption | exact (zup_n (by assumption)).trans (by assumption)) rfl rfl q1031 dX7_at_13 ?_
    refine z_iload_n (i := 1) C dX7_at_16 rfl rfl ?_
    refine zj_iald C h2 (zixI rfl hj) (by decide) dX7_at_17 ?_
    refine z_goto (tgt := 22) C dX7_at_18 (by decide) ?_
    exact z_ireturn C rfl (rfl) dX7_at_22 (⟨zvs (by rw [zrec_in S m hj]; exact hw j hj), rfl⟩) (Nat.le_of_ble_eq_true rfl) (Nat.le_of_ble_eq_true rfl)
theorem np_X1_rootOf : znp yX1_rootOf 1 := ⟨by decide +kernel, by decide +kernel, by decide +kernel⟩
set_option maxHeartbeats 4000000 in
set_option maxRecDepth 100000 in
theorem ct_X7_distance_f (D : zG) (B : Nat) {G : zH} (a k q : Nat) (S : Nat → Int32) (t r : Int32) (p : Nat) (x y z : Int32) (h1 : G a = some (zMo S k q)) (hp : G p = some (.inr (2, [.int x, .int y, .int z]))) (hok : zdrok S k none x y z r t) : Ct D B yX7_distance (ws_ yX7_distance cX7_distance 10 (some .int)) (zr 2) [.ref a, .ref p, .int t, .int r] G (zpe (some (.int (zdr S k none x y z r t))) G) zno := by
  refine ct_intro (by decide +kernel) (Nat.le_of_ble_eq_true rfl) ?_
  intro X C
  refine z_aload_n (i := 1) C dX7_distance_0 rfl rfl ?_
  refine z_iload_n (i := 2) C dX7_distance_1 rfl rfl ?_
  refine z_callFe (x := ⟨"TrackArray$Place", "x", "(I)I"⟩) (C0 := "TrackArray$Fixed") (np := 1) C (by assumption) rfl (by decide) (ct_X3_x D B p x y z t hp) q687 q691 q693 q105 q695 ⟨by decide +kernel, by decide +kernel, by decide +kernel⟩ (zr_ok rfl rfl) rfl rfl (Nat.le_of_ble_eq_true rfl) (⟨Nat.le_of_ble_eq_true rfl, Nat.le_of_ble_eq_true rfl⟩) dX7_distance_2 ?_
  refine z_aload_n (i := 0) C dX7_distance_7 rfl rfl ?_
  refine z_getf (ci := 6) (k := 0) C (by first | assumption | exact (zup_n (by assumption)).trans (by assumption)) rfl rfl q1023 dX7_distance_8 ?_
  refine z_isub C dX7_distance_11 ?_
  refine z_i2l C dX7_distance_12 rfl ?_
  refine z_lstore C dX7_distance_13 (Nat.le_of_ble_eq_true rfl) rfl ?_
  refine z_aload_n (i := 1) C dX7_distance_15 rfl rfl ?_
  refine z_callFe (x := ⟨"TrackArray$Place", "y", "()I"⟩) (C0 := "TrackArray$Fixed") (np := 0) C (by assumption) rfl (by decide) (ct_X3_y D B p x y z hp) q707 q710 q712 q105 q714 ⟨by decide +kernel, by decide +kernel, by decide +kernel⟩ (zr_ok rfl rfl) rfl rfl (Nat.le_of_ble_eq_true rfl) (⟨Nat.le_of_ble_eq_true rfl, Nat.le_of_ble_eq_true rfl⟩) dX7_distance_16 ?_
  refine z_aload_n (i := 0) C dX7_distance_21 rfl rfl ?_
  refine z_getf (ci := 6) (k := 1) C (by first | assumption | exact (zup_n (by assumption)).trans (by assumption)) rfl rfl q1026 dX7_distance_22 ?_
  refine z_isub C dX7_distance_25 ?_
  refine z_i2l C dX7_distance_26 rfl ?_
  refine z_lstore C dX7_distance_27 (Nat.le_of_ble_eq_true rfl) rfl ?_
  refine z_iload_n (i := 3) C dX7_distance_29 rfl rfl ?_
  refine z_if_eq (tgt := 43) C dX7_distance_30 (by decide) (fun c_30 => ?_) (fun c_30 => ?_)
  · unfold zdrok at hok
    rw [if_pos c_30] at hok
    refine z_aload_n (i := 1) C dX7_distance_43 rfl rfl ?_
    refine z_callFe (x := ⟨"TrackArray$Place", "height", "()I"⟩) (C0 := "TrackArray$Fixed") (np := 0) C (by assumption) rfl (by decide) (ct_X3_height D B p x y z hp) q725 q728 q730 q105 q732 ⟨by decide +kernel, by decide +kernel, by decide +kernel⟩ (zr_ok rfl rfl) rfl rfl (Nat.le_of_ble_eq_true rfl) (⟨Nat.le_of_ble_eq_true rfl, Nat.le_of_ble_eq_true rfl⟩) dX7_distance_44 ?_
    refine z_aload_n (i := 0) C dX7_distance_49 rfl rfl ?_
    refine z_getf (ci := 6) (k := 2) C (by first | assumption | exact (zup_n (by assumption)).trans (by assumption)) rfl rfl q1027 dX7_distance_50 ?_
    refine z_isub C dX7_distance_53 ?_
    refine z_i2l C dX7_distance_54 rfl ?_
    refine z_lstore C dX7_distance_55 (Nat.le_of_ble_eq_true rfl) rfl ?_
    refine z_lload C dX7_distance_57 rfl ?_
    refine z_lload C dX7_distance_59 rfl ?_
    refine z_lmul C dX7_distance_61 ?_
    refine z_lload C dX7_distance_62 rfl ?_
    refine z_lload C dX7_distance_64 rfl ?_
    refine z_lmul C dX7_distance_66 ?_
    refine z_ladd C dX7_distance_67 ?_
    refine z_lload C dX7_distance_68 rfl ?_
    refine z_lload C dX7_distance_70 rfl ?_
    refine z_lmul C dX7_distance_72 ?_
    refine z_ladd C dX7_distance_73 ?_
    obtain ⟨n, hn, hq⟩ := hok
    refine z_setl hq ?_
    refine z_callSNe C (ct_X1_rootOf D B n hn) q738 q739 q83 q740 np_X1_rootOf (zr_ok rfl rfl) rfl rfl (Nat.le_of_ble_eq_true rfl) (⟨Nat.le_of_ble_eq_true rfl, Nat.le_of_ble_eq_true rfl⟩) dX7_distance_74 ?_
    exact z_ireturn C rfl (rfl) dX7_distance_77 (⟨zvs (by unfold zdr; rw [if_pos c_30]; exact (zd_of hn hq).symm), rfl⟩) (Nat.le_of_ble_eq_true rfl) (Nat.le_of_ble_eq_true rfl)
  · unfold zdrok at hok
    rw [if_neg c_30] at hok
    refine z_aload_n (i := 1) C dX7_distance_33 rfl rfl ?_
    refine z_callFe (x := ⟨"TrackArray$Place", "height", "()I"⟩) (C0 := "TrackArray$Fixed") (np := 0) C (by assumption) rfl (by decide) (ct_X3_height D B p x y z hp) q725 q728 q730 q105 q732 ⟨by decide +kernel, by decide +kernel, by decide +kernel⟩ (zr_ok rfl rfl) rfl rfl (Nat.le_of_ble_eq_true rfl) (⟨Nat.le_of_ble_eq_true rfl, Nat.le_of_ble_eq_true rfl⟩) dX7_distance_34 ?_
    refine z_ineg C dX7_distance_39 ?_
    refine z_goto (tgt := 49) C dX7_distance_40 (by decide) ?_
    refine z_aload_n (i := 0) C dX7_distance_49 rfl rfl ?_
    refine z_getf (ci := 6) (k := 2) C (by first | assumption | exact (zup_n (by assumption)).trans (by assumption)) rfl rfl q1027 dX7_distance_50 ?_
    refine z_isub C dX7_distance_53 ?_
    refine z_i2l C dX7_distance_54 rfl ?_
    refine z_lstore C dX7_distance_55 (Nat.le_of_ble_eq_true rfl) rfl ?_
    refine z_lload C dX7_distance_57 rfl ?_
    refine z_lload C dX7_distance_59 rfl ?_
    refine z_lmul C dX7_distance_61 ?_
    refine z_lload C dX7_distance_62 rfl ?_
    refine z_lload C dX7_distance_64 rfl ?_
    refine z_lmul C dX7_distance_66 ?_
    refine z_ladd C dX7_distance_67 ?_
    refine z_lload C dX7_distance_68 rfl ?_
    refine z_lload C dX7_distance_70 rfl ?_
    refine z_lmul C dX7_distance_72 ?_
    refine z_ladd C dX7_distance_73 ?_
    obtain ⟨n, hn, hq⟩ := hok
    refine z_setl hq ?_
    refine z_callSNe C (ct_X1_rootOf D B n hn) q738 q739 q83 q740 np_X1_rootOf (zr_ok rfl rfl) rfl rfl (Nat.le_of_ble_eq_true rfl) (⟨Nat.le_of_ble_eq_true rfl, Nat.le_of_ble_eq_true rfl⟩) dX7_distance_74 ?_
    exact z_ireturn C rfl (rfl) dX7_distance_77 (⟨zvs (by unfold zdr; rw [if_neg c_30]; exact (zd_of hn hq).symm), rfl⟩) (Nat.le_of_ble_eq_true rfl) (Nat.le_of_ble_eq_true rfl)
set_option maxHeartbeats 4000000 in
set_option maxRecDepth 100000 in
theorem ct_X7_distance_r (D : zG) (B : Nat) {G : zH} (a k q : Nat) (S : Nat → Int32) (t r : Int32) (p w i : Nat) (x z : Int32) (h1 : G a = some (zMo S k q)) (hp : G p = some (.inr (7, [.ref w, .int x, .int z]))) (hw : G w = some (zvE S i)) (hok : zdrok S k (some i) x (S (16 + 3 * i + 2)) z r t) : Ct D B yX7_distance (ws_ yX7_distance cX7_distance 10 (some .int)) (zr 2) [.ref a, .ref p, .int t, .int r] G (zpe (some (.int (zdr S k (some i) x (S (16 + 3 * i + 2)) z r t))) G) zno := by
  refine ct_intro (by decide +kernel) (Nat.le_of_ble_eq_true rfl) ?_
  intro X C
  refine z_aload_n (i := 1) C dX7_distance_0 rfl rfl ?_
  refine z_iload_n (i := 2) C dX7_distance_1 rfl rfl ?_
  refine z_callFe (x := ⟨"TrackArray$Place", "x", "(I)I"⟩) (C0 := "TrackArray$Riding") (np := 1) C (by assumption) rfl (by decide) (ct_X8_x D B p w x z _ _ _ t hp hw) q687 q697 q699 q114 q701 ⟨by decide +kernel, by decide +kernel, by decide +kernel⟩ (zr_ok rfl rfl) rfl rfl (Nat.le_of_ble_eq_true rfl) (⟨Nat.le_of_ble_eq_true rfl, Nat.le_of_ble_eq_true rfl⟩) dX7_distance_2 ?_
  refine z_aload_n (i := 0) C dX7_distance_7 rfl rfl ?_
  refine z_getf (ci := 6) (k := 0) C (by first | assumption | exact (zup_n (by assumption)).trans (by assumption)) rfl rfl q1023 dX7_distance_8 ?_
  refine z_isub C dX7_distance_11 ?_
  refine z_i2l C dX7_distance_12 rfl ?_
  refine z_lstore C dX7_distance_13 (Nat.le_of_ble_eq_true rfl) rfl ?_
  refine z_aload_n (i := 1) C dX7_distance_15 rfl rfl ?_
  refine z_callFe (x := ⟨"TrackArray$Place", "y", "()I"⟩) (C0 := "TrackArray$Riding") (np := 0) C (by assumption) rfl (by decide) (ct_X8_y D B p w x z _ _ _ hp hw) q707 q715 q717 q114 q719 ⟨by decide +kernel, by decide +kernel, by decide +kernel⟩ (zr_ok rfl rfl) rfl rfl (Nat.le_of_ble_eq_true rfl) (⟨Nat.le_of_ble_eq_true rfl, Nat.le_of_ble_eq_true rfl⟩) dX7_distance_16 ?_
  refine z_aload_n (i := 0) C dX7_distance_21 rfl rfl ?_
  refine z_getf (ci := 6) (k := 1) C (by first | assumption | exact (zup_n (by assumption)).trans (by assumption)) rfl rfl q1026 dX7_distance_22 ?_
  refine z_isub C dX7_distance_25 ?_
  refine z_i2l C dX7_distance_26 rfl ?_
  refine z_lstore C dX7_distance_27 (Nat.le_of_ble_eq_true rfl) rfl ?_
  refine z_iload_n (i := 3) C dX7_distance_29 rfl rfl ?_
  refine z_if_eq (tgt := 43) C dX7_distance_30 (by decide) (fun c_30 => ?_) (fun c_30 => ?_)
  · unfold zdrok at hok
    rw [if_pos c_30] at hok
    refine z_aload_n (i := 1) C dX7_distance_43 rfl rfl ?_
    refine z_callFe (x := ⟨"TrackArray$Place", "height", "()I"⟩) (C0 := "TrackArray$Riding") (np := 0) C (by assumption) rfl (by decide) (ct_X8_height D B p w x z hp) q725 q733 q735 q114 q737 ⟨by decide +kernel, by decide +kernel, by decide +kernel⟩ (zr_ok rfl rfl) rfl rfl (Nat.le_of_ble_eq_true rfl) (⟨Nat.le_of_ble_eq_true rfl, Nat.le_of_ble_eq_true rfl⟩) dX7_distance_44 ?_
    refine z_aload_n (i := 0) C dX7_distance_49 rfl rfl ?_
    refine z_getf (ci := 6) (k := 2) C (by first | assumption | exact (zup_n (by assumption)).trans (by assumption)) rfl rfl q1027 dX7_distance_50 ?_
    refine z_isub C dX7_distance_53 ?_
    refine z_i2l C dX7_distance_54 rfl ?_
    refine z_lstore C dX7_distance_55 (Nat.le_of_ble_eq_true rfl) rfl ?_
    refine z_lload C dX7_distance_57 rfl ?_
    refine z_lload C dX7_distance_59 rfl ?_
    refine z_lmul C dX7_distance_61 ?_
    refine z_lload C dX7_distance_62 rfl ?_
    refine z_lload C dX7_distance_64 rfl ?_
    refine z_lmul C dX7_distance_66 ?_
    refine z_ladd C dX7_distance_67 ?_
    refine z_lload C dX7_distance_68 rfl ?_
    refine z_lload C dX7_distance_70 rfl ?_
    refine z_lmul C dX7_distance_72 ?_
    refine z_ladd C dX7_distance_73 ?_
    obtain ⟨n, hn, hq⟩ := hok
    refine z_setl hq ?_
    refine z_callSNe C (ct_X1_rootOf D B n hn) q738 q739 q83 q740 np_X1_rootOf (zr_ok rfl rfl) rfl rfl (Nat.le_of_ble_eq_true rfl) (⟨Nat.le_of_ble_eq_true rfl, Nat.le_of_ble_eq_true rfl⟩) dX7_distance_74 ?_
    exact z_ireturn C rfl (rfl) dX7_distance_77 (⟨zvs (by unfold zdr; rw [if_pos c_30]; exact (zd_of hn hq).symm), rfl⟩) (Nat.le_of_ble_eq_true rfl) (Nat.le_of_ble_eq_true rfl)
  · unfold zdrok at hok
    rw [if_neg c_30] at hok
    refine z_aload_n (i := 1) C dX7_distance_33 rfl rfl ?_
    refine z_callFe (x := ⟨"TrackArray$Place", "height", "()I"⟩) (C0 := "TrackArray$Riding") (np := 0) C (by assumption) rfl (by decide) (ct_X8_height D B p w x z hp) q725 q733 q735 q114 q737 ⟨by decide +kernel, by decide +kernel, by decide +kernel⟩ (zr_ok rfl rfl) rfl rfl (Nat.le_of_ble_eq_true rfl) (⟨Nat.le_of_ble_eq_true rfl, Nat.le_of_ble_eq_true rfl⟩) dX7_distance_34 ?_
    refine z_ineg C dX7_distance_39 ?_
    refine z_goto (tgt := 49) C dX7_distance_40 (by decide) ?_
    refine z_aload_n (i := 0) C dX7_distance_49 rfl rfl ?_
    refine z_getf (ci := 6) (k := 2) C (by first | assumption | exact (zup_n (by assumption)).trans (by assumption)) rfl rfl q1027 dX7_distance_50 ?_
    refine z_isub C dX7_distance_53 ?_
    refine z_i2l C dX7_distance_54 rfl ?_
    refine z_lstore C dX7_distance_55 (Nat.le_of_ble_eq_true rfl) rfl ?_
    refine z_lload C dX7_distance_57 rfl ?_
    refine z_lload C dX7_distance_59 rfl ?_
    refine z_lmul C dX7_distance_61 ?_
    refine z_lload C dX7_distance_62 rfl ?_
    refine z_lload C dX7_distance_64 rfl ?_
    refine z_lmul C dX7_distance_66 ?_
    refine z_ladd C dX7_distance_67 ?_
    refine z_lload C dX7_distance_68 rfl ?_
    refine z_lload C dX7_distance_70 rfl ?_
    refine z_lmul C dX7_distance_72 ?_
    refine z_ladd C dX7_distance_73 ?_
    obtain ⟨n, hn, hq⟩ := hok
    refine z_setl hq ?_
    refine z_callSNe C (ct_X1_rootOf D B n hn) q738 q739 q83 q740 np_X1_rootOf (zr_ok rfl rfl) rfl rfl (Nat.le_of_ble_eq_true rfl) (⟨Nat.le_of_ble_eq_true rfl, Nat.le_of_ble_eq_true rfl⟩) dX7_distance_74 ?_
    exact z_ireturn C rfl (rfl) dX7_distance_77 (⟨zvs (by unfold zdr; rw [if_neg c_30]; exact (zd_of hn hq).symm), rfl⟩) (Nat.le_of_ble_eq_true rfl) (Nat.le_of_ble_eq_true rfl)
theorem ct_X7_distance (D : zG) (B : Nat) {G : zH} (a k q : Nat) (S : Nat → Int32) (t r : Int32) (p : Nat) (v : Option Nat) (x y z : Int32) (h1 : G a = some (zMo S k q)) (hp : zPl G p S v x y z) (hok : zdrok S k v x y z r t) : Ct D B yX7_distance (ws_ yX7_distance cX7_distance 10 (some .int)) (zr 2) [.ref a, .ref p, .int t, .int r] G (zpe (some (.int (zdr S k v x y z r t))) G) zno := by
  rcases hp with ⟨rfl, h⟩ | ⟨i, w, rfl, h2, h3, rfl⟩
  · exact ct_X7_distance_f D B a k q S t r p x y z h1 h hok
  · exact ct_X7_distance_r D B a k q S t r p w i x z h1 h2 h3 hok
theorem np_X7_distance : znp yX7_distance 3 := ⟨by decide +kernel, by decide +kernel, by decide +kernel⟩
set_option maxHeartbeats 4000000 in
set_option maxRecDepth 100000 in
theorem ct_X2_mark (D : zG) (B : Nat) {G : zH} (a : Nat) (lv ls lm fo pa su rq : Nat) (S : Nat → Int32) (m k q : Nat) (p : Nat) (v : Option Nat) (x y z : Int32) (j : Nat) (r : Int32) (hT : G a = some (.inr (1, zTf lv ls lm fo pa su rq S))) (h1 : G m = some (zMo S k q)) (hp : zPl G p S v x y z) (hok : zdrok S k v x y z r (nI j)) : Ct D B yX2_mark (ws_ yX2_mark cX2_mark 5 (some .int)) (zr 3) [.ref a, .ref m, .ref p, .int (nI j), .int r] G (zpe (some (.int (nI j * S 0 + zdr S k v x y z r (nI j)))) G) zno := by
  refine ct_intro (by decide +kernel) (Nat.le_of_ble_eq_true rfl) ?_
  intro X C
  refine z_iload_n (i := 3) C dX2_mark_0 rfl rfl ?_
  refine z_aload_n (i := 0) C dX2_mark_1 rfl rfl ?_
  refine z_getf (ci := 1) (k := 3) C (hT) rfl rfl q517 dX2_mark_2 ?_
  refine z_imul C dX2_mark_5 ?_
  refine z_aload_n (i := 1) C dX2_mark_6 rfl rfl ?_
  refine z_aload_n (i := 2) C dX2_mark_7 rfl rfl ?_
  refine z_iload_n (i := 3) C dX2_mark_8 rfl rfl ?_
  refine z_iload C dX2_mark_9 rfl ?_
  refine z_callVe C (h1) rfl (ct_X7_distance D B m k q S (nI j) r p v x y z h1 hp hok) q682 q683 q684 q113 q685 np_X7_distance (zr_ok rfl rfl) rfl rfl (Nat.le_of_ble_eq_true rfl) (⟨Nat.le_of_ble_eq_true rfl, Nat.le_of_ble_eq_true rfl⟩) dX2_mark_11 ?_
  refine z_iadd C dX2_mark_14 ?_
  exact z_ireturn C rfl (rfl) dX2_mark_15 (⟨rfl, rfl⟩) (Nat.le_of_ble_eq_true rfl) (Nat.le_of_ble_eq_true rfl)
theorem np_X2_mark : znp yX2_mark 4 := ⟨by decide +kernel, by decide +kernel, by decide +kernel⟩
set_option maxHeartbeats 4000000 in
set_option maxRecDepth 100000 in
theorem ct_X2_heard (D : zG) (B : Nat) {G : zH} (a : Nat) (lv ls lm fo pa su rq : Nat) (S : Nat → Int32) (m k q : Nat) (p : Nat) (v : Option Nat) (x y z : Int32) (xs r : Int32) (k0 : Nat) (hT : G a = some (.inr (1, zTf lv ls lm fo pa su rq S))) (h1 : G m = some (zMo S k q)) (hp : zPl G p S v x y z) (hok : ∀ j, j < 256 → zdrok S k v x y z r (nI j)) (hm : zmono (fun j => nI j * S 0 + zdr S k v x y z r (nI j))) (hk0 : k0 ≤ 256) (hk1 : k0 = 0 ∨ (fun j => nI j * S 0 + zdr S k v x y z r (nI j)) (k0 - 1) ≤ xs * S 0) : Ct D B yX2_heard (ws_ yX2_heard cX2_heard 7 (some .int)) (zr 4) [.ref a, .ref m, .ref p, .int xs, .int r, .int (ztm k0)] G (zpe (some (.int (ztm (zlc (fun j => nI j * S 0 + zdr S k v x y z r (nI j)) (xs * S 0) 256)))) G) zno := by
  refine ct_intro (by decide +kernel) (Nat.le_of_ble_eq_true rfl) ?_
  intro X C
  refine z_iload C dX2_heard_0 rfl ?_
  refine z_istore C dX2_heard_2 (Nat.le_of_ble_eq_true rfl) rfl ?_
  have lp4 : ∀ (μ : Nat) (c : Nat) (g1 : c ≤ 256) (g2 : c = 0 ∨ (fun j => nI j * S 0 + zdr S k v x y z r (nI j)) (c - 1) ≤ xs * S 0), 256 - c < μ → Z X 4 [some (.ref a), some (.ref m), some (.ref p), some (.int xs), some (.int r), none, some (.int (ztm c))] [] G 0 0 := by
    intro μ
    induction μ with
    | zero => intro c g1 g2 hμ; exact absurd hμ (Nat.not_lt_zero _)
    | succ μ ih4 =>
      intro c g1 g2 hμ
      refine z_iload C dX2_heard_4 rfl ?_
      refine z_sipush (v := 255) C dX2_heard_6 (by decide) ?_
      refine z_icmp_ge (tgt := 39) C dX2_heard_9 (by decide) (fun c_9 => ?_) (fun c_9 => ?_)
      · have hc : c = 256 := (zge255 g1).mp c_9
        refine z_iload C dX2_heard_39 rfl ?_
        exact z_ireturn C rfl (rfl) dX2_heard_41 (⟨zvs (by rw [zlc_stop hm g1 g2 (Or.inl hc)]), rfl⟩) (Nat.le_of_ble_eq_true rfl) (Nat.le_of_ble_eq_true rfl)
      · have hc : c < 256 := by
          have : ¬ c = 256 := fun z => c_9 ((zge255 g1).mpr z)
          omega
        refine z_aload_n (i := 0) C dX2_heard_12 rfl rfl ?_
        refine z_aload_n (i := 1) C dX2_heard_13 rfl rfl ?_
        refine z_aload_n (i := 2) C dX2_heard_14 rfl rfl ?_
        refine z_iload C dX2_heard_15 rfl ?_
        refine z_iconst (v := 1) C dX2_heard_17 (by decide) ?_
        refine z_iadd C dX2_heard_18 ?_
        refine z_seti (ztm_1 c) ?_
        refine z_iload C dX2_heard_19 rfl ?_
        refine z_callVe C (hT) rfl (ct_X2_mark D B a lv ls lm fo pa su rq S m k q p v x y z c r hT h1 hp (hok c hc)) q678 q679 q680 q84 q681 np_X2_mark (zr_ok rfl rfl) rfl rfl (Nat.le_of_ble_eq_true rfl) (⟨Nat.le_of_ble_eq_true rfl, Nat.le_of_ble_eq_true rfl⟩) dX2_heard_21 ?_
        refine z_iload_n (i := 3) C dX2_heard_24 rfl rfl ?_
        refine z_aload_n (i := 0) C dX2_heard_25 rfl rfl ?_
        refine z_getf (ci := 1) (k := 3) C (hT) rfl rfl q517 dX2_heard_26 ?_
        refine z_imul C dX2_heard_29 ?_
        refine z_icmp_gt (tgt := 39) C dX2_heard_30 (by decide) (fun c_30 => ?_) (fun c_30 => ?_)
        · refine z_iload C dX2_heard_39 rfl ?_
          exact z_ireturn C rfl (rfl) dX2_heard_41 (⟨zvs (by rw [zlc_stop hm g1 g2 (Or.inr (Int32.not_le.mpr c_30))]), rfl⟩) (Nat.le_of_ble_eq_true rfl) (Nat.le_of_ble_eq_true rfl)
        · refine z_iinc (v := ztm (c + 1)) C dX2_heard_33 rfl ((by rw [ztm_1]; rfl : ztm c + 1 = ztm (c + 1))) (Nat.le_of_ble_eq_true rfl) rfl ?_
          refine z_goto (tgt := 4) C dX2_heard_36 (by decide) ?_
          exact z_convG (ih4 (c + 1) (by omega) (Or.inr (Int32.not_lt.mp c_30)) (by omega)) (And.intro (rfl) (And.intro (rfl) (And.intro (rfl) (And.intro (rfl) (And.intro (rfl) (And.intro (rfl) trivial)))))) (Nat.le_of_ble_eq_true rfl) (Nat.le_of_ble_eq_true rfl)
  exact z_convG (lp4 257 k0 hk0 hk1 (by omega)) (And.intro (rfl) (And.intro (rfl) (And.intro (rfl) (And.intro (rfl) (And.intro (rfl) (And.intro (rfl) trivial)))))) (Nat.le_of_ble_eq_true rfl) (Nat.le_of_ble_eq_true rfl)
set_option maxHeartbeats 4000000 in
set_option maxRecDepth 100000 in
theorem ct_X2_amount (D : zG) (B : Nat) {G : zH} (a : Nat) (lv ls lm fo pa su rq : Nat) (S : Nat → Int32) (x r : Int32) (e : Nat) (hT : G a = some (.inr (1, zTf lv ls lm fo pa su rq S))) (he : e ≤ 70000) (h2 : S 2 = 0 ∨ S 2 = 1) : Ct D B yX2_amount (ws_ yX2_amount cX2_amount 5 (some .int)) (zr 0) [.ref a, .int x, .int (nI e), .int r] G (zpe (some (.int (zam S x (nI e) r))) G) zno := by
  refine ct_intro (by decide +kernel) (Nat.le_of_ble_eq_true rfl) ?_
  intro X C
  refine z_aload_n (i := 0) C dX2_amount_0 rfl rfl ?_
  refine z_getf (ci := 1) (k := 5) C (hT) rfl rfl q523 dX2_amount_1 ?_
  refine z_if_eq (tgt := 21) C dX2_amount_4 (by decide) (fun c_4 => ?_) (fun c_4 => ?_)
  · have h2n : ¬ S 2 = 1 := fun z => by rw [z] at c_4; exact absurd c_4 (by decide)
    refine z_iload_n (i := 1) C dX2_amount_21 rfl rfl ?_
    refine z_istore C dX2_amount_22 (Nat.le_of_ble_eq_true rfl) rfl ?_
    refine z_iload_n (i := 3) C dX2_amount_24 rfl rfl ?_
    refine z_if_eq (tgt := 41) C dX2_amount_25 (by decide) (fun c_25 => ?_) (fun c_25 => ?_)
    · refine z_iload C dX2_amount_41 rfl ?_
      exact z_ireturn C rfl (rfl) dX2_amount_43 (⟨zvs (by unfold zam; rw [if_pos c_25, if_neg h2n]), rfl⟩) (Nat.le_of_ble_eq_true rfl) (Nat.le_of_ble_eq_true rfl)
    · refine z_iload C dX2_amount_28 rfl ?_
      refine z_aload_n (i := 0) C dX2_amount_30 rfl rfl ?_
      refine z_getf (ci := 1) (k := 4) C (hT) rfl rfl q520 dX2_amount_31 ?_
      refine z_imul C dX2_amount_34 ?_
      refine z_bipush (v := 100) C dX2_amount_35 (by decide) ?_
      refine z_idiv C dX2_amount_37 (by decide) ?_
      refine z_goto (tgt := 43) C dX2_amount_38 (by decide) ?_
      exact z_ireturn C rfl (rfl) dX2_amount_43 (⟨zvs (by unfold zam; rw [if_neg c_25, if_neg h2n]), rfl⟩) (Nat.le_of_ble_eq_true rfl) (Nat.le_of_ble_eq_true rfl)
  · have h2y : S 2 = 1 := h2.resolve_left c_4
    refine z_iload_n (i := 1) C dX2_amount_7 rfl rfl ?_
    refine z_sipush (v := 1000) C dX2_amount_8 (by decide) ?_
    refine z_imul C dX2_amount_11 ?_
    refine z_sipush (v := 1000) C dX2_amount_12 (by decide) ?_
    refine z_iload_n (i := 2) C dX2_amount_15 rfl rfl ?_
    refine z_iadd C dX2_amount_16 ?_
    refine z_seti (y := nI (1000 + e)) (nI_add 1000 e) ?_
    refine z_idiv C dX2_amount_17 (nI_ne0 (by omega) (by omega)) ?_
    refine z_goto (tgt := 22) C dX2_amount_18 (by decide) ?_
    refine z_istore C dX2_amount_22 (Nat.le_of_ble_eq_true rfl) rfl ?_
    refine z_iload_n (i := 3) C dX2_amount_24 rfl rfl ?_
    refine z_if_eq (tgt := 41) C dX2_amount_25 (by decide) (fun c_25 => ?_) (fun c_25 => ?_)
    · refine z_iload C dX2_amount_41 rfl ?_
      exact z_ireturn C rfl (rfl) dX2_amount_43 (⟨zvs (by unfold zam; rw [if_pos c_25, if_pos h2y]; rw [show (1000 : Int32) + nI e = nI (1000 + e) from nI_add 1000 e]), rfl⟩) (Nat.le_of_ble_eq_true rfl) (Nat.le_of_ble_eq_true rfl)
    · refine z_iload C dX2_amount_28 rfl ?_
      refine z_aload_n (i := 0) C dX2_amount_30 rfl rfl ?_
      refine z_getf (ci := 1) (k := 4) C (hT) rfl rfl q520 dX2_amount_31 ?_
      refine z_imul C dX2_amount_34 ?_
      refine z_bipush (v := 100) C dX2_amount_35 (by decide) ?_
      refine z_idiv C dX2_amount_37 (by decide) ?_
      refine z_goto (tgt := 43) C dX2_amount_38 (by decide) ?_
      exact z_ireturn C rfl (rfl) dX2_amount_43 (⟨zvs (by unfold zam; rw [if_neg c_25, if_pos h2y]; rw [show (1000 : Int32) + nI e = nI (1000 + e) from nI_add 1000 e]), rfl⟩) (Nat.le_of_ble_eq_true rfl) (Nat.le_of_ble_eq_true rfl)
theorem np_X8_init : znp yX8_init 3 := ⟨by decide +kernel, by decide +kernel, by decide +kernel⟩
set_option maxHeartbeats 4000000 in
set_option maxRecDepth 100000 in
theorem ct_X2_placeOf (D : zG) (B : Nat) {G : zH} (a s u v : Nat) (o z st : Int32) (c : Int32) (h1 : G s = some (.inr (5, [.ref v, .int o, .int z, .int st, .ref u, .int c]))) : Ct D B yX2_placeOf (ws_ yX2_placeOf cX2_placeOf 2 (some (.object "TrackArray$Place"))) (zrc 3 1 3) [.ref a, .ref s] G (fun r9 G9 => ∃ q : Nat, r9 = some (.ref q) ∧ G q = none ∧ G9 = zup G q (.inr (7, [.ref v, .int o, .int z]))) zno := by
  refine ct_intro (by decide +kernel) (Nat.le_of_ble_eq_true rfl) ?_
  intro X C
  refine z_new (ci := 7) C rfl q658 q659 q114 (Nat.le_of_ble_eq_true rfl) (Nat.le_of_ble_eq_true rfl) dX2_placeOf_0 ?_
  intro q hq hb
  have ne := zne_of hq h1
  refine z_dup C dX2_placeOf_3 rfl ?_
  refine z_aload_n (i := 1) C dX2_placeOf_4 rfl rfl ?_
  refine z_getfN (ci := 5) (k := 0) C ((zup_n ne).trans h1) rfl rfl q1155 dX2_placeOf_5 ?_
  refine z_aload_n (i := 1) C dX2_placeOf_8 rfl rfl ?_
  refine z_getfN (ci := 5) (k := 1) C ((zup_n ne).trans h1) rfl rfl q1157 dX2_placeOf_9 ?_
  refine z_aload_n (i := 1) C dX2_placeOf_12 rfl rfl ?_
  refine z_getfN (ci := 5) (k := 2) C ((zup_n ne).trans h1) rfl rfl q1159 dX2_placeOf_13 ?_
  refine z_callINe C (ct_X8_init D B q v o z zup_s) q660 q661 q114 q662 rfl np_X8_init (zr_ok rfl rfl) rfl rfl (Nat.le_of_ble_eq_true rfl) (⟨Nat.le_of_ble_eq_true rfl, Nat.le_of_ble_eq_true rfl⟩) dX2_placeOf_16 ?_
  refine z_heap zup_zup ?_
  exact z_areturn C rfl (Or.inl ⟨_, rfl⟩) (Or.inr ⟨_, rfl⟩) dX2_placeOf_19 (⟨q, rfl, hq, rfl⟩) (Nat.le_of_ble_eq_true rfl) (Nat.le_of_ble_eq_true rfl)
set_option maxHeartbeats 4000000 in
set_option maxRecDepth 100000 in
theorem ct_X2_draw (D : zG) (B : Nat) {G : zH} (a : Nat) (lv ls lm fo pa su rq : Nat) (S : Nat → Int32) (b : Nat) (hT : G a = some (.inr (1, zTf lv ls lm fo pa su rq S))) (hq : rq < 2147483648) (hb : 0 < b) (hb2 : b < 1000) : Ct D B yX2_draw (ws_ yX2_draw cX2_draw 2 (some .int)) (zr 0) [.ref a, .int (nI b)] G (zpe (some (.int (nI (zrn rq / 65536 % b)))) (zup G a (.inr (1, zTf lv ls lm fo pa su (zrn rq) S)))) zno := by
  refine ct_intro (by decide +kernel) (Nat.le_of_ble_eq_true rfl) ?_
  intro X C
  refine z_aload_n (i := 0) C dX2_draw_0 rfl rfl ?_
  refine z_aload_n (i := 0) C dX2_draw_1 rfl rfl ?_
  refine z_getf (ci := 1) (k := 6) C (hT) rfl rfl q526 dX2_draw_2 ?_
  refine z_ldc2 C q754 dX2_draw_5 ?_
  refine z_lmul C dX2_draw_8 ?_
  refine z_ldc2 C q755 dX2_draw_9 ?_
  refine z_ladd C dX2_draw_12 ?_
  refine z_ldc2 C q756 dX2_draw_13 ?_
  refine z_lrem C dX2_draw_16 (by decide) ?_
  refine z_setl (zrn_l hq) ?_
  refine z_putf (ci := 1) (k := 6) C (hT) rfl (Nat.le_of_ble_eq_true rfl) (zfit_J _) q526 dX2_draw_17 ?_
  refine z_aload_n (i := 0) C dX2_draw_20 rfl rfl ?_
  refine z_getf (ci := 1) (k := 6) C (zup_s) rfl rfl q526 dX2_draw_21 ?_
  refine z_ldc2 C q757 dX2_draw_24 ?_
  refine z_ldiv C dX2_draw_27 (by decide) ?_
  refine z_iload_n (i := 1) C dX2_draw_28 rfl rfl ?_
  refine z_i2l C dX2_draw_29 (nI_l (by omega)) ?_
  refine z_lrem C dX2_draw_30 (fun e => absurd ((lN_eq (b := 0) (by omega) (by decide)).mp e) (by omega)) ?_
  refine z_l2i C dX2_draw_31 rfl ?_
  refine z_seti (zrn_d (zrn_lt rq) hb (by omega)) ?_
  exact z_ireturn C rfl (rfl) dX2_draw_32 (⟨rfl, rfl⟩) (Nat.le_of_ble_eq_true rfl) (Nat.le_of_ble_eq_true rfl)
