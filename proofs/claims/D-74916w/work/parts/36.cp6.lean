/-! component: parts of a microphone -/
theorem znk {G : zH} {p q : Nat} {o : Nat × List Value} {i : Nat × vp_A} (h : G p = some (.inr o)) (g : G q = some (.inl i)) : ¬ p = q := fun z => by rw [z, g] at h; cases h
theorem z1000 {e : Nat} (h : e ≤ 70000) : (nI (1000 + e)).toInt64 = 1000 + (nI e).toInt64 := by
  rw [nI_l (by omega), nI_l (by omega), show (1000 : Int64) = lN 1000 from rfl, lN_add]
theorem zdr_nat (S : Nat → Int32) (m : Nat) (v : Option Nat) (x y z r t : Int32) : ∃ e : Nat, e ≤ 70000 ∧ zdr S m v x y z r t = nI e := zd_nat _ _ _
/-- the parts once laid stay -/
theorem zpff_stay {S d r : Nat → Int32} {m : Nat} {j : Nat} : ∀ k n, j < n → zpff S d r m (n + k) j = zpff S d r m n j
  | 0, n, _ => rfl
  | k + 1, n, h => by
    have ih := zpff_stay (S := S) (d := d) (r := r) (m := m) k n h
    rw [← ih]
    show upd (zpff S d r m (n + k)) (n + k) _ j = _
    unfold upd
    rw [if_neg (by omega)]
theorem zpff_256 {S d r : Nat → Int32} {m n j : Nat} (h : j < n) (hn : n ≤ 256) : zpff S d r m 256 j = zpff S d r m n j := by
  have := zpff_stay (S := S) (d := d) (r := r) (m := m) (256 - n) n h
  rw [show n + (256 - n) = 256 by omega] at this
  exact this
/-- samples of a path come in order -/
theorem zfs_nat {S : Nat → Int32} {n0 k : Nat} (h0 : S 0 = nI n0) (h1 : 100 ≤ n0) (h2 : n0 ≤ 1000) (hk : k ≤ 1000000) : zfs S (nI k) = nI ((k + n0 - 1) / n0) := by
  unfold zfs
  rw [h0, nI_add, show nI (k + n0) - 1 = nI (k + n0 - 1) from pk_sub (b := 1) (by omega)]
  exact pk_div (by omega) (by omega) (by omega)
theorem zsmp {S : Nat → Int32} (g : zGe S) {d : Nat → Int32} (hd : ∀ j, j < 256 → ∃ e : Nat, e ≤ 70000 ∧ d j = nI e) (hm : zmono (fun j => nI j * S 0 + d j)) {i j : Nat} (hij : i ≤ j) (hj : j < 256) : zfs S (nI i * S 0 + d i) * S 0 ≤ zfs S (nI j * S 0 + d j) * S 0 := by
  obtain ⟨n0, h1, h2, h0⟩ := g.snd
  have key : ∀ k, k < 256 → ∃ M : Nat, M ≤ 1000000 ∧ nI k * S 0 + d k = nI M := fun k hk => by
    obtain ⟨e, e1, e2⟩ := hd k hk
    have a3 : k * n0 ≤ 255 * 1000 := Nat.mul_le_mul (by omega) h2
    exact ⟨k * n0 + e, by omega, by rw [h0, e2, pk_mul, nI_add]⟩
  obtain ⟨M1, b1, c1⟩ := key i (by omega)
  obtain ⟨M2, b2, c2⟩ := key j hj
  have hle : nI M1 ≤ nI M2 := by rw [← c1, ← c2]; exact hm i j hij hj
  have hle2 : M1 ≤ M2 := (nI_leI (by omega) (by omega)).mp hle
  rw [c1, c2, zfs_nat h0 h1 h2 b1, zfs_nat h0 h1 h2 b2, h0, pk_mul, pk_mul]
  have q1 : (M1 + n0 - 1) / n0 ≤ (M2 + n0 - 1) / n0 := Nat.div_le_div_right (by omega)
  have q2 := Nat.div_mul_le_self (M2 + n0 - 1) n0
  exact nI_le (Nat.mul_le_mul_right n0 q1) (by omega)
/-- a focus moved by a number -/
def zFc (G : zH) (p : Nat) (S : Nat → Int32) (b : Int32) : Prop := zPl G p S (zfv S) (S 12 + b) (zfy S) (S 14)
abbrev zDi (G : zH) (p : Nat) (d : Int32) : Prop := G p = some (.inr (8, [.int d]))
theorem zPl.up {G : zH} {p a : Nat} {S : Nat → Int32} {v : Option Nat} {x y z : Int32} {t n : Nat} {f : vp_A} {e : zE} (h : zPl G p S v x y z) (ha : G a = some (.inl (t, f))) : zPl (zup G a e) p S v x y z := by
  have k : ∀ b (o : Nat × List Value), G b = some (.inr o) → zup G a e b = some (.inr o) := fun b o hb => (zup_n (fun q => by rw [q, ha] at hb; cases hb)).trans hb
  rcases h with ⟨h1, h2⟩ | ⟨i, w, h1, h2, h3, h4⟩
  · exact Or.inl ⟨h1, k _ _ h2⟩
  · exact Or.inr ⟨i, w, h1, k _ _ h2, k _ _ h3, h4⟩
theorem zpk0 {f : Int32} (h : f = 0 ∨ f = 1) : ¬ f = 0 ↔ f = 1 := by
  rcases h with rfl | rfl
  · exact ⟨fun q => absurd rfl q, fun q => absurd q (by decide)⟩
  · exact ⟨fun _ => rfl, fun _ q => absurd q (by decide)⟩
set_option maxHeartbeats 4000000 in
set_option maxRecDepth 100000 in
theorem ct_X2_reduction (D : zG) (B : Nat) {G : zH} (a : Nat) (lv ls lm fo pa su rq : Nat) (S : Nat → Int32) (m k q : Nat) (p : Nat) (v : Option Nat) (x y z : Int32) (pt : Int32) (j : Nat) (hT : G a = some (.inr (1, zTf lv ls lm fo pa su rq S))) (h1 : G m = some (zMo S k q)) (hp : zPl G p S v x y z) (hok : ∀ r, zdrok S k v x y z r (nI j)) (h2 : S 2 = 0 ∨ S 2 = 1) : Ct D B yX2_reduction (ws_ yX2_reduction cX2_reduction 7 (some .int)) (zr 3) [.ref a, .ref m, .ref p, .int pt, .int (nI j)] G (zpe (some (.int (((if S 2 = 1 then pt.toInt64 * (1000 + (zdr S k v x y z 0 (nI j)).toInt64) / (1000 + (zdr S k v x y z 1 (nI j)).toInt64) else pt.toInt64) * (S 1).toInt64 / 100).toInt32))) G) zno := by
  refine ct_intro (by decide +kernel) (Nat.le_of_ble_eq_true rfl) ?_
  intro X C
  obtain ⟨e0, f0, d0⟩ := zdr_nat S k v x y z 0 (nI j)
  obtain ⟨e1, f1, d1⟩ := zdr_nat S k v x y z 1 (nI j)
  refine z_iload_n (i := 3) C dX2_reduction_0 rfl rfl ?_
  refine z_i2l C dX2_reduction_1 rfl ?_
  refine z_lstore C dX2_reduction_2 (Nat.le_of_ble_eq_true rfl) rfl ?_
  refine z_aload_n (i := 0) C dX2_reduction_4 rfl rfl ?_
  refine z_getf (ci := 1) (k := 5) C (hT) rfl rfl q523 dX2_reduction_5 ?_
  refine z_if_eq (tgt := 43) C dX2_reduction_8 (by decide) (fun c_8 => ?_) (fun c_8 => ?_)
  · have h2n : ¬ S 2 = 1 := fun z => by rw [z] at c_8; exact absurd c_8 (by decide)
    refine z_lload C dX2_reduction_43 rfl ?_
    refine z_aload_n (i := 0) C dX2_reduction_45 rfl rfl ?_
    refine z_getf (ci := 1) (k := 4) C (hT) rfl rfl q520 dX2_reduction_46 ?_
    refine z_i2l C dX2_reduction_49 rfl ?_
    refine z_lmul C dX2_reduction_50 ?_
    refine z_ldc2 C q1649 dX2_reduction_51 ?_
    refine z_ldiv C dX2_reduction_54 (by decide) ?_
    refine z_l2i C dX2_reduction_55 rfl ?_
    exact z_ireturn C rfl (rfl) dX2_reduction_56 (⟨zvs (by rw [if_neg h2n]), rfl⟩) (Nat.le_of_ble_eq_true rfl) (Nat.le_of_ble_eq_true rfl)
  · have h2y : S 2 = 1 := h2.resolve_left c_8
    refine z_lload C dX2_reduction_11 rfl ?_
    refine z_sipush (v := 1000) C dX2_reduction_13 (by decide) ?_
    refine z_aload_n (i := 1) C dX2_reduction_16 rfl rfl ?_
    refine z_aload_n (i := 2) C dX2_reduction_17 rfl rfl ?_
    refine z_iload C dX2_reduction_18 rfl ?_
    refine z_iconst (v := 0) C dX2_reduction_20 (by decide) ?_
    refine z_callVe C (h1) rfl (ct_X7_distance D B m k q S (nI j) 0 p v x y z h1 hp (hok 0)) q682 q683 q684 q113 q685 np_X7_distance (zr_ok rfl rfl) rfl rfl (Nat.le_of_ble_eq_true rfl) (⟨Nat.le_of_ble_eq_true rfl, Nat.le_of_ble_eq_true rfl⟩) dX2_reduction_21 ?_
    rw [d0]
    refine z_iadd C dX2_reduction_24 ?_
    refine z_seti (nI_add 1000 e0) ?_
    refine z_i2l C dX2_reduction_25 (z1000 f0) ?_
    refine z_lmul C dX2_reduction_26 ?_
    refine z_sipush (v := 1000) C dX2_reduction_27 (by decide) ?_
    refine z_aload_n (i := 1) C dX2_reduction_30 rfl rfl ?_
    refine z_aload_n (i := 2) C dX2_reduction_31 rfl rfl ?_
    refine z_iload C dX2_reduction_32 rfl ?_
    refine z_iconst (v := 1) C dX2_reduction_34 (by decide) ?_
    refine z_callVe C (h1) rfl (ct_X7_distance D B m k q S (nI j) 1 p v x y z h1 hp (hok 1)) q682 q683 q684 q113 q685 np_X7_distance (zr_ok rfl rfl) rfl rfl (Nat.le_of_ble_eq_true rfl) (⟨Nat.le_of_ble_eq_true rfl, Nat.le_of_ble_eq_true rfl⟩) dX2_reduction_35 ?_
    rw [d1]
    refine z_iadd C dX2_reduction_38 ?_
    refine z_seti (nI_add 1000 e1) ?_
    refine z_i2l C dX2_reduction_39 (z1000 f1) ?_
    refine z_ldiv C dX2_reduction_40 (by rw [← z1000 f1, nI_l (by omega)]; exact fun e => absurd ((lN_eq (b := 0) (by omega) (by decide)).mp e) (by omega)) ?_
    refine z_lstore C dX2_reduction_41 (Nat.le_of_ble_eq_true rfl) rfl ?_
    refine z_lload C dX2_reduction_43 rfl ?_
    refine z_aload_n (i := 0) C dX2_reduction_45 rfl rfl ?_
    refine z_getf (ci := 1) (k := 4) C (hT) rfl rfl q520 dX2_reduction_46 ?_
    refine z_i2l C dX2_reduction_49 rfl ?_
    refine z_lmul C dX2_reduction_50 ?_
    refine z_ldc2 C q1649 dX2_reduction_51 ?_
    refine z_ldiv C dX2_reduction_54 (by decide) ?_
    refine z_l2i C dX2_reduction_55 rfl ?_
    exact z_ireturn C rfl (rfl) dX2_reduction_56 (⟨zvs (by rw [if_pos h2y]; rw [d0, d1]), rfl⟩) (Nat.le_of_ble_eq_true rfl) (Nat.le_of_ble_eq_true rfl)
theorem np_X11_percent : znp yX11_percent 0 := ⟨by decide +kernel, by decide +kernel, by decide +kernel⟩
set_option maxHeartbeats 4000000 in
set_option maxRecDepth 100000 in
theorem ct_X2_sampleNumber_d (D : zG) (B : Nat) {G : zH} (a : Nat) (lv ls lm fo pa su rq : Nat) (S : Nat → Int32) (m k q p : Nat) (dd t : Int32) (hT : G a = some (.inr (1, zTf lv ls lm fo pa su rq S))) (h1 : G m = some (zMo S k q)) (hp : zDi G p dd) (g : zGe S) : Ct D B yX2_sampleNumber (ws_ yX2_sampleNumber cX2_sampleNumber 5 (some .int)) (zr 4) [.ref a, .ref m, .ref p, .int t] G (zpe (some (.int (t + zsh S k dd))) G) zno := by
  refine ct_intro (by decide +kernel) (Nat.le_of_ble_eq_true rfl) ?_
  intro X C
  obtain ⟨n0, n1, n2, h0⟩ := g.snd
  have hne : ¬ S 0 = 0 := by rw [h0]; exact nI_ne0 (by omega) (by omega)
  refine z_aload_n (i := 2) C dX2_sampleNumber_0 rfl rfl ?_
  refine z_instS (ci := 8) C (hp) rfl q1623 dX2_sampleNumber_1 ?_
  refine z_if_eq (tgt := 36) C dX2_sampleNumber_4 (by decide) (fun c_4 => ?_) (fun c_4 => ?_)
  · exact absurd c_4 (by decide)
  · refine z_aload_n (i := 2) C dX2_sampleNumber_7 rfl rfl ?_
    refine z_castS (ci := 8) C (hp) rfl q1623 dX2_sampleNumber_8 ?_
    refine z_astore C dX2_sampleNumber_11 (Nat.le_of_ble_eq_true rfl) rfl ?_
    refine z_iload_n (i := 3) C dX2_sampleNumber_13 rfl rfl ?_
    refine z_aload_n (i := 1) C dX2_sampleNumber_14 rfl rfl ?_
    refine z_getfN (ci := 6) (k := 0) C (h1) rfl rfl q1024 dX2_sampleNumber_15 ?_
    refine z_aload C dX2_sampleNumber_18 rfl ?_
    refine z_callVe C (hp) rfl (ct_X11_percent D B p dd hp) q1624 q1625 q1626 q120 q1627 np_X11_percent (zr_ok rfl rfl) rfl rfl (Nat.le_of_ble_eq_true rfl) (⟨Nat.le_of_ble_eq_true rfl, Nat.le_of_ble_eq_true rfl⟩) dX2_sampleNumber_20 ?_
    refine z_imul C dX2_sampleNumber_23 ?_
    refine z_bipush (v := 100) C dX2_sampleNumber_24 (by decide) ?_
    refine z_aload_n (i := 0) C dX2_sampleNumber_26 rfl rfl ?_
    refine z_getf (ci := 1) (k := 3) C (hT) rfl rfl q517 dX2_sampleNumber_27 ?_
    refine z_imul C dX2_sampleNumber_30 ?_
    refine z_callSe C (ct_J12_floorDiv D B _ _ (by rw [h0, show (100 : Int32) * nI n0 = nI (100 * n0) from pk_mul 100 n0]; exact nI_ne0 (by omega) (by omega))) q1628 q1629 q97 q1630 np_J12_floorDiv (zr_ok rfl rfl) rfl rfl (Nat.le_of_ble_eq_true rfl) (⟨Nat.le_of_ble_eq_true rfl, Nat.le_of_ble_eq_true rfl⟩) dX2_sampleNumber_31 ?_
    refine z_iadd C dX2_sampleNumber_34 ?_
    exact z_ireturn C rfl (rfl) dX2_sampleNumber_35 (⟨rfl, rfl⟩) (Nat.le_of_ble_eq_true rfl) (Nat.le_of_ble_eq_true rfl)
set_option maxHeartbeats 4000000 in
set_option maxRecDepth 100000 in
theorem ct_X2_sampleNumber_f (D : zG) (B : Nat) {G : zH} (a : Nat) (lv ls lm fo pa su rq : Nat) (S : Nat → Int32) (m k q : Nat) (p : Nat) (v : Option Nat) (x y z : Int32) (fp : List Value) (j : Nat) (hT : G a = some (.inr (1, zTf lv ls lm fo pa su rq S))) (h1 : G m = some (zMo S k q)) (hp : G p = some (.inr (2, fp))) (hpl : zPl G p S v x y z) (hok : zdrok S k v x y z 0 (nI j)) (g : zGe S) : Ct D B yX2_sampleNumber (ws_ yX2_sampleNumber cX2_sampleNumber 5 (some .int)) (zr 4) [.ref a, .ref m, .ref p, .int (nI j)] G (zpe (some (.int (zfs S (nI j * S 0 + zdr S k v x y z 0 (nI j))))) G) zno := by
  refine ct_intro (by decide +kernel) (Nat.le_of_ble_eq_true rfl) ?_
  intro X C
  obtain ⟨n0, n1, n2, h0⟩ := g.snd
  have hne : ¬ S 0 = 0 := by rw [h0]; exact nI_ne0 (by omega) (by omega)
  refine z_aload_n (i := 2) C dX2_sampleNumber_0 rfl rfl ?_
  refine z_instNo (ci := 2) (C0 := "TrackArray$Fixed") (nme := "TrackArray$Direction") C (hp) rfl q1623 (by decide) dX2_sampleNumber_1 ?_
  refine z_if_eq (tgt := 36) C dX2_sampleNumber_4 (by decide) (fun c_4 => ?_) (fun c_4 => ?_)
  · refine z_aload_n (i := 2) C dX2_sampleNumber_36 rfl rfl ?_
    refine z_castY (ci := 2) (C0 := "TrackArray$Fixed") (nme := "TrackArray$Place") C (hp) rfl q1631 q690 dX2_sampleNumber_37 ?_
    refine z_astore C dX2_sampleNumber_40 (Nat.le_of_ble_eq_true rfl) rfl ?_
    refine z_aload_n (i := 0) C dX2_sampleNumber_42 rfl rfl ?_
    refine z_aload_n (i := 1) C dX2_sampleNumber_43 rfl rfl ?_
    refine z_aload C dX2_sampleNumber_44 rfl ?_
    refine z_iload_n (i := 3) C dX2_sampleNumber_46 rfl rfl ?_
    refine z_iconst (v := 0) C dX2_sampleNumber_47 (by decide) ?_
    refine z_callVe C (hT) rfl (ct_X2_mark D B a lv ls lm fo pa su rq S m k q p v x y z j 0 hT h1 hpl hok) q678 q679 q680 q84 q681 np_X2_mark (zr_ok rfl rfl) rfl rfl (Nat.le_of_ble_eq_true rfl) (⟨Nat.le_of_ble_eq_true rfl, Nat.le_of_ble_eq_true rfl⟩) dX2_sampleNumber_48 ?_
    refine z_aload_n (i := 0) C dX2_sampleNumber_51 rfl rfl ?_
    refine z_getf (ci := 1) (k := 3) C (hT) rfl rfl q517 dX2_sampleNumber_52 ?_
    refine z_iadd C dX2_sampleNumber_55 ?_
    refine z_iconst (v := 1) C dX2_sampleNumber_56 (by decide) ?_
    refine z_isub C dX2_sampleNumber_57 ?_
    refine z_aload_n (i := 0) C dX2_sampleNumber_58 rfl rfl ?_
    refine z_getf (ci := 1) (k := 3) C (hT) rfl rfl q517 dX2_sampleNumber_59 ?_
    refine z_idiv C dX2_sampleNumber_62 (hne) ?_
    exact z_ireturn C rfl (rfl) dX2_sampleNumber_63 (⟨rfl, rfl⟩) (Nat.le_of_ble_eq_true rfl) (Nat.le_of_ble_eq_true rfl)
  · exact absurd rfl c_4
set_option maxHeartbeats 4000000 in
set_option maxRecDepth 100000 in
theorem ct_X2_sampleNumber_r (D : zG) (B : Nat) {G : zH} (a : Nat) (lv ls lm fo pa su rq : Nat) (S : Nat → Int32) (m k q : Nat) (p : Nat) (v : Option Nat) (x y z : Int32) (fp : List Value) (j : Nat) (hT : G a = some (.inr (1, zTf lv ls lm fo pa su rq S))) (h1 : G m = some (zMo S k q)) (hp : G p = some (.inr (7, fp))) (hpl : zPl G p S v x y z) (hok : zdrok S k v x y z 0 (nI j)) (g : zGe S) : Ct D B yX2_sampleNumber (ws_ yX2_sampleNumber cX2_sampleNumber 5 (some .int)) (zr 4) [.ref a, .ref m, .ref p, .int (nI j)] G (zpe (some (.int (zfs S (nI j * S 0 + zdr S k v x y z 0 (nI j))))) G) zno := by
  refine ct_intro (by decide +kernel) (Nat.le_of_ble_eq_true rfl) ?_
  intro X C
  obtain ⟨n0, n1, n2, h0⟩ := g.snd
  have hne : ¬ S 0 = 0 := by rw [h0]; exact nI_ne0 (by omega) (by omega)
  refine z_aload_n (i := 2) C dX2_sampleNumber_0 rfl rfl ?_
  refine z_instNo (ci := 7) (C0 := "TrackArray$Riding") (nme := "TrackArray$Direction") C (hp) rfl q1623 (by decide) dX2_sampleNumber_1 ?_
  refine z_if_eq (tgt := 36) C dX2_sampleNumber_4 (by decide) (fun c_4 => ?_) (fun c_4 => ?_)
  · refine z_aload_n (i := 2) C dX2_sampleNumber_36 rfl rfl ?_
    refine z_castY (ci := 7) (C0 := "TrackArray$Riding") (nme := "TrackArray$Place") C (hp) rfl q1631 q696 dX2_sampleNumber_37 ?_
    refine z_astore C dX2_sampleNumber_40 (Nat.le_of_ble_eq_true rfl) rfl ?_
    refine z_aload_n (i := 0) C dX2_sampleNumber_42 rfl rfl ?_
    refine z_aload_n (i := 1) C dX2_sampleNumber_43 rfl rfl ?_
    refine z_aload C dX2_sampleNumber_44 rfl ?_
    refine z_iload_n (i := 3) C dX2_sampleNumber_46 rfl rfl ?_
    refine z_iconst (v := 0) C dX2_sampleNumber_47 (by decide) ?_
    refine z_callVe C (hT) rfl (ct_X2_mark D B a lv ls lm fo pa su rq S m k q p v x y z j 0 hT h1 hpl hok) q678 q679 q680 q84 q681 np_X2_mark (zr_ok rfl rfl) rfl rfl (Nat.le_of_ble_eq_true rfl) (⟨Nat.le_of_ble_eq_true rfl, Nat.le_of_ble_eq_true rfl⟩) dX2_sampleNumber_48 ?_
    refine z_aload_n (i := 0) C dX2_sampleNumber_51 rfl rfl ?_
    refine z_getf (ci := 1) (k := 3) C (hT) rfl rfl q517 dX2_sampleNumber_52 ?_
    refine z_iadd C dX2_sampleNumber_55 ?_
    refine z_iconst (v := 1) C dX2_sampleNumber_56 (by decide) ?_
    refine z_isub C dX2_sampleNumber_57 ?_
    refine z_aload_n (i := 0) C dX2_sampleNumber_58 rfl rfl ?_
    refine z_getf (ci := 1) (k := 3) C (hT) rfl rfl q517 dX2_sampleNumber_59 ?_
    refine z_idiv C dX2_sampleNumber_62 (hne) ?_
    exact z_ireturn C rfl (rfl) dX2_sampleNumber_63 (⟨rfl, rfl⟩) (Nat.le_of_ble_eq_true rfl) (Nat.le_of_ble_eq_true rfl)
  · exact absurd rfl c_4
theorem ct_X2_sampleNumber_p (D : zG) (B : Nat) {G : zH} (a : Nat) (lv ls lm fo pa su rq : Nat) (S : Nat → Int32) (m k q : Nat) (p : Nat) (v : Option Nat) (x y z : Int32) (j : Nat) (hT : G a = some (.inr (1, zTf lv ls lm fo pa su rq S))) (h1 : G m = some (zMo S k q)) (hpl : zPl G p S v x y z) (hok : zdrok S k v x y z 0 (nI j)) (g : zGe S) : Ct D B yX2_sampleNumber (ws_ yX2_sampleNumber cX2_sampleNumber 5 (some .int)) (zr 4) [.ref a, .ref m, .ref p, .int (nI j)] G (zpe (some (.int (zfs S (nI j * S 0 + zdr S k v x y z 0 (nI j))))) G) zno := by
  have hh := hpl
  rcases hh with ⟨-, h⟩ | ⟨i, w, -, h2, -, -⟩
  · exact ct_X2_sampleNumber_f D B a lv ls lm fo pa su rq S m k q p v x y z _ j hT h1 h hpl hok g
  · exact ct_X2_sampleNumber_r D B a lv ls lm fo pa su rq S m k q p v x y z _ j hT h1 h2 hpl hok g
theorem np_X2_sampleNumber : znp yX2_sampleNumber 3 := ⟨by decide +kernel, by decide +kernel, by decide +kernel⟩
theorem np_X7_at : znp yX7_at 1 := ⟨by decide +kernel, by decide +kernel, by decide +kernel⟩
theorem np_X2_heard : znp yX2_heard 5 := ⟨by decide +kernel, by decide +kernel, by decide +kernel⟩
theorem np_X2_reduction : znp yX2_reduction 4 := ⟨by decide +kernel, by decide +kernel, by decide +kernel⟩
set_option maxHeartbeats 4000000 in
set_option maxRecDepth 100000 in
theorem ct_X2_layParts_d (D : zG) (B : Nat) {G : zH} (a : Nat) (lv ls lm fo pa su rq : Nat) (S : Nat → Int32) (m k q p l : Nat) (dd : Int32) (w p0 : Nat → Int32) (hT : G a = some (.inr (1, zTf lv ls lm fo pa su rq S))) (h1 : G m = some (zMo S k q)) (hr : G q = some (.inl (0, 256, .inl w))) (hpa : G pa = some (.inl (0, 256, .inl p0))) (hqp : ¬ q = pa) (hw : ∀ j, j < 256 → w j = S (186 + 256 * k + j)) (hp : zDi G p dd) (hl : l < 256) (g : zGe S) : Ct D B yX2_layParts (ws_ yX2_layParts cX2_layParts 8 none) (zr 5) [.ref a, .ref m, .ref p, .int (nI l)] G (fun r9 G9 => r9 = none ∧ ∃ px_ : Nat → Int32, (∀ j, j ≤ l → px_ j = zrec S k (nI j + zsh S k dd)) ∧ G9 = (zup G pa (.inl (0, 256, .inl px_)))) zno := by
  refine ct_intro (by decide +kernel) (Nat.le_of_ble_eq_true rfl) ?_
  intro X C
  refine z_iconst (v := (-1)) C dX2_layParts_0 (by decide) ?_
  refine z_istore C dX2_layParts_1 (Nat.le_of_ble_eq_true rfl) rfl ?_
  refine z_iconst (v := 0) C dX2_layParts_3 (by decide) ?_
  refine z_istore C dX2_layParts_4 (Nat.le_of_ble_eq_true rfl) rfl ?_
  have lp6 : ∀ (μ : Nat) (i : Nat) (px_ : Nat → Int32) (g1 : i ≤ l + 1) (g2 : ∀ j, j < i → px_ j = zrec S k (nI j + zsh S k dd)), l + 1 - i < μ → Z X 6 [some (.ref a), some (.ref m), some (.ref p), some (.int (nI l)), none, some (.int (nI i)), none, none] [] (zup G pa (.inl (0, 256, .inl px_))) 0 0 := by
    intro μ
    induction μ with
    | zero => intro i px_ g1 g2 hμ; exact absurd hμ (Nat.not_lt_zero _)
    | succ μ ih6 =>
      intro i px_ g1 g2 hμ
      have hT2 : (zup G pa (.inl (0, 256, .inl px_))) a = _ := (zup_n (znk hT hpa)).trans hT
      have h12 : (zup G pa (.inl (0, 256, .inl px_))) m = _ := (zup_n (znk h1 hpa)).trans h1
      have hr2 : (zup G pa (.inl (0, 256, .inl px_))) q = _ := (zup_n hqp).trans hr
      have hp2 : (zup G pa (.inl (0, 256, .inl px_))) p = _ := (zup_n (znk hp hpa)).trans hp
      refine z_iload C dX2_layParts_6 rfl ?_
      refine z_iload_n (i := 3) C dX2_layParts_8 rfl rfl ?_
      refine z_icmp_gt (tgt := 122) C dX2_layParts_9 (by decide) (fun c_9 => ?_) (fun c_9 => ?_)
      · have hend : i = l + 1 := by have := zgt c_9 (by omega) (by omega); omega
        exact z_return C rfl dX2_layParts_122 (⟨rfl, px_, fun j hj => g2 j (by omega), rfl⟩) (Nat.le_of_ble_eq_true rfl) (Nat.le_of_ble_eq_true rfl)
      · have hle : i ≤ l := zngt c_9 (by omega) (by omega)
        refine z_aload_n (i := 0) C dX2_layParts_12 rfl rfl ?_
        refine z_aload_n (i := 1) C dX2_layParts_13 rfl rfl ?_
        refine z_aload_n (i := 2) C dX2_layParts_14 rfl rfl ?_
        refine z_iload C dX2_layParts_15 rfl ?_
        refine z_callVe C (hT2) rfl (ct_X2_sampleNumber_d D B a lv ls lm fo pa su rq S m k q p dd (nI i) hT2 h12 hp2 g) q1643 q1620 q1621 q84 q1622 np_X2_sampleNumber (zr_ok rfl rfl) rfl rfl (Nat.le_of_ble_eq_true rfl) (⟨Nat.le_of_ble_eq_true rfl, Nat.le_of_ble_eq_true rfl⟩) dX2_layParts_17 ?_
        refine z_istore C dX2_layParts_20 (Nat.le_of_ble_eq_true rfl) rfl ?_
        refine z_aload_n (i := 0) C dX2_layParts_22 rfl rfl ?_
        refine z_getf (ci := 1) (k := 11) C (hT2) rfl rfl q537 dX2_layParts_23 ?_
        refine z_iload C dX2_layParts_26 rfl ?_
        refine z_aload_n (i := 1) C dX2_layParts_28 rfl rfl ?_
        refine z_iload C dX2_layParts_29 rfl ?_
        refine z_callVe C (h12) rfl (ct_X7_at D B m k q _ S w h12 hr2 hw) q1644 q1553 q1554 q113 q1555 np_X7_at (zr_ok rfl rfl) rfl rfl (Nat.le_of_ble_eq_true rfl) (⟨Nat.le_of_ble_eq_true rfl, Nat.le_of_ble_eq_true rfl⟩) dX2_layParts_31 ?_
        refine zj_iast C zup_s (zixI rfl (by omega)) (by decide) dX2_layParts_34 ?_
        refine z_heap zup_zup ?_
        refine z_aload_n (i := 0) C dX2_layParts_35 rfl rfl ?_
        refine z_getf (ci := 1) (k := 10) C ((zup_n (znk hT hpa)).trans hT) rfl rfl q535 dX2_layParts_36 ?_
        refine z_if_eq (tgt := 116) C dX2_layParts_39 (by decide) (fun c_39 => ?_) (fun c_39 => ?_)
        · refine z_iinc (v := nI (i + 1)) C dX2_layParts_116 rfl (ziinc i) (Nat.le_of_ble_eq_true rfl) rfl ?_
          refine z_goto (tgt := 6) C dX2_layParts_119 (by decide) ?_
          exact z_convG (ih6 (i + 1) _ (by omega) (fun j hj => by unfold upd; by_cases e : j = i; (· subst e; exact if_pos rfl); (· exact (if_neg e).trans (g2 j (by omega)))) (by omega)) (And.intro (rfl) (And.intro (rfl) (And.intro (rfl) (And.intro (rfl) (And.intro (rfl) trivial))))) (Nat.le_of_ble_eq_true rfl) (Nat.le_of_ble_eq_true rfl)
        · refine z_iload C dX2_layParts_42 rfl ?_
          refine z_sipush (v := 255) C dX2_layParts_44 (by decide) ?_
          refine z_icmp_gt (tgt := 116) C dX2_layParts_47 (by decide) (fun c_47 => ?_) (fun c_47 => ?_)
          · refine z_iinc (v := nI (i + 1)) C dX2_layParts_116 rfl (ziinc i) (Nat.le_of_ble_eq_true rfl) rfl ?_
            refine z_goto (tgt := 6) C dX2_layParts_119 (by decide) ?_
            exact z_convG (ih6 (i + 1) _ (by omega) (fun j hj => by unfold upd; by_cases e : j = i; (· subst e; exact if_pos rfl); (· exact (if_neg e).trans (g2 j (by omega)))) (by omega)) (And.intro (rfl) (And.intro (rfl) (And.intro (rfl) (And.intro (rfl) (And.intro (rfl) trivial))))) (Nat.le_of_ble_eq_true rfl) (Nat.le_of_ble_eq_true rfl)
          · refine z_aload_n (i := 2) C dX2_layParts_50 rfl rfl ?_
            refine z_instNo (ci := 8) (C0 := "TrackArray$Direction") (nme := "TrackArray$Place") C ((zup_n (znk hp hpa)).trans hp) rfl q1631 (by decide) dX2_layParts_51 ?_
            refine z_if_eq (tgt := 116) C dX2_layParts_54 (by decide) (fun c_54 => ?_) (fun c_54 => ?_)
            · refine z_iinc (v := nI (i + 1)) C dX2_layParts_116 rfl (ziinc i) (Nat.le_of_ble_eq_true rfl) rfl ?_
              refine z_goto (tgt := 6) C dX2_layParts_119 (by decide) ?_
              exact z_convG (ih6 (i + 1) _ (by omega) (fun j hj => by unfold upd; by_cases e : j = i; (· subst e; exact if_pos rfl); (· exact (if_neg e).trans (g2 j (by omega)))) (by omega)) (And.intro (rfl) (And.intro (rfl) (And.intro (rfl) (And.intro (rfl) (And.intro (rfl) trivial))))) (Nat.le_of_ble_eq_true rfl) (Nat.le_of_ble_eq_true rfl)
            · exact absurd rfl c_54
  refine z_heap (zup_self hpa).symm ?_
  exact z_convG (lp6 (l + 2) 0 p0 (by omega) (fun j hj => absurd hj (Nat.not_lt_zero _)) (by omega)) (And.intro (rfl) (And.intro (rfl) (And.intro (rfl) (And.intro (rfl) (And.intro (rfl) trivial))))) (Nat.le_of_ble_eq_true rfl) (Nat.le_of_ble_eq_true rfl)
set_option maxHeartbeats 8000000 in
set_option maxRecDepth 100000 in
theorem ct_X2_layParts_f (D : zG) (B : Nat) {G : zH} (a : Nat) (lv ls lm fo pa su rq : Nat) (S : Nat → Int32) (m k q l : Nat) (p : Nat) (v : Option Nat) (x y z : Int32) (fp : List Value) (w p0 : Nat → Int32) (hT : G a = some (.inr (1, zTf lv ls lm fo pa su rq S))) (h1 : G m = some (zMo S k q)) (hr : G q = some (.inl (0, 256, .inl w))) (hpa : G pa = some (.inl (0, 256, .inl p0))) (hqp : ¬ q = pa) (hw : ∀ j, j < 256 → w j = S (186 + 256 * k + j)) (hpo : G p = some (.inr (2, fp))) (hp : zPl G p S v x y z) (hok : ∀ j, j < 256 → ∀ r, zdrok S k v x y z r (nI j)) (hm0 : zmono (fun j => nI j * S 0 + zdr S k v x y z 0 (nI j))) (hm1 : zmono (fun j => nI j * S 0 + zdr S k v x y z 1 (nI j))) (hl : l < 256) (h2 : S 2 = 0 ∨ S 2 = 1) (h5 : S 5 = 0 ∨ S 5 = 1) (g : zGe S) : Ct D B yX2_layParts (ws_ yX2_layParts cX2_layParts 8 none) (zr 5) [.ref a, .ref m, .ref p, .int (nI l)] G (fun r9 G9 => r9 = none ∧ ∃ px_ : Nat → Int32, (∀ j, j ≤ l → px_ j = (zpff S (fun j => zdr S k v x y z 0 (nI j)) (fun j => zdr S k v x y z 1 (nI j)) k) 256 j) ∧ G9 = (zup G pa (.inl (0, 256, .inl px_)))) zno := by
  refine ct_intro (by decide +kernel) (Nat.le_of_ble_eq_true rfl) ?_
  intro X C
  refine z_iconst (v := (-1)) C dX2_layParts_0 (by decide) ?_
  refine z_istore C dX2_layParts_1 (Nat.le_of_ble_eq_true rfl) rfl ?_
  refine z_iconst (v := 0) C dX2_layParts_3 (by decide) ?_
  refine z_istore C dX2_layParts_4 (Nat.le_of_ble_eq_true rfl) rfl ?_
  have lp6 : ∀ (μ : Nat) (i : Nat) (px_ : Nat → Int32) (c : Nat) (g1 : i ≤ l + 1) (g2 : c ≤ 256) (g3 : c = 0 ∨ ∀ t, i ≤ t → t < 256 → (fun j => nI j * S 0 + zdr S k v x y z 1 (nI j)) (c - 1) ≤ zfs S (nI t * S 0 + zdr S k v x y z 0 (nI t)) * S 0) (g4 : ∀ j, j < i → px_ j = (zpff S (fun j => zdr S k v x y z 0 (nI j)) (fun j => zdr S k v x y z 1 (nI j)) k) i j), l + 1 - i < μ → Z X 6 [some (.ref a), some (.ref m), some (.ref p), some (.int (nI l)), some (.int (ztm c)), some (.int (nI i)), none, none] [] (zup G pa (.inl (0, 256, .inl px_))) 0 0 := by
    intro μ
    induction μ with
    | zero => intro i px_ c g1 g2 g3 g4 hμ; exact absurd hμ (Nat.not_lt_zero _)
    | succ μ ih6 =>
      intro i px_ c g1 g2 g3 g4 hμ
      have hT2 : (zup G pa (.inl (0, 256, .inl px_))) a = _ := (zup_n (znk hT hpa)).trans hT
      have h12 : (zup G pa (.inl (0, 256, .inl px_))) m = _ := (zup_n (znk h1 hpa)).trans h1
      have hr2 : (zup G pa (.inl (0, 256, .inl px_))) q = _ := (zup_n hqp).trans hr
      have hp2 : zPl (zup G pa (.inl (0, 256, .inl px_))) p S v x y z := hp.up (n := 0) hpa
      refine z_iload C dX2_layParts_6 rfl ?_
      refine z_iload_n (i := 3) C dX2_layParts_8 rfl rfl ?_
      refine z_icmp_gt (tgt := 122) C dX2_layParts_9 (by decide) (fun c_9 => ?_) (fun c_9 => ?_)
      · have hend : i = l + 1 := by have := zgt c_9 (by omega) (by omega); omega
        exact z_return C rfl dX2_layParts_122 (⟨rfl, px_, fun j hj => (g4 j (by omega)).trans (zpff_256 (by omega) (by omega)).symm, rfl⟩) (Nat.le_of_ble_eq_true rfl) (Nat.le_of_ble_eq_true rfl)
      · have hle : i ≤ l := zngt c_9 (by omega) (by omega)
        refine z_aload_n (i := 0) C dX2_layParts_12 rfl rfl ?_
        refine z_aload_n (i := 1) C dX2_layParts_13 rfl rfl ?_
        refine z_aload_n (i := 2) C dX2_layParts_14 rfl rfl ?_
        refine z_iload C dX2_layParts_15 rfl ?_
        refine z_callVe C (hT2) rfl (ct_X2_sampleNumber_p D B a lv ls lm fo pa su rq S m k q p v x y z i hT2 h12 hp2 (hok i (by omega) 0) g) q1643 q1620 q1621 q84 q1622 np_X2_sampleNumber (zr_ok rfl rfl) rfl rfl (Nat.le_of_ble_eq_true rfl) (⟨Nat.le_of_ble_eq_true rfl, Nat.le_of_ble_eq_true rfl⟩) dX2_layParts_17 ?_
        refine z_istore C dX2_layParts_20 (Nat.le_of_ble_eq_true rfl) rfl ?_
        refine z_aload_n (i := 0) C dX2_layParts_22 rfl rfl ?_
        refine z_getf (ci := 1) (k := 11) C (hT2) rfl rfl q537 dX2_layParts_23 ?_
        refine z_iload C dX2_layParts_26 rfl ?_
        refine z_aload_n (i := 1) C dX2_layParts_28 rfl rfl ?_
        refine z_iload C dX2_layParts_29 rfl ?_
        refine z_callVe C (h12) rfl (ct_X7_at D B m k q _ S w h12 hr2 hw) q1644 q1553 q1554 q113 q1555 np_X7_at (zr_ok rfl rfl) rfl rfl (Nat.le_of_ble_eq_true rfl) (⟨Nat.le_of_ble_eq_true rfl, Nat.le_of_ble_eq_true rfl⟩) dX2_layParts_31 ?_
        refine zj_iast C zup_s (zixI rfl (by omega)) (by decide) dX2_layParts_34 ?_
        refine z_heap zup_zup ?_
        have hT3 : (zup G pa (.inl (0, 256, .inl (upd px_ i (zrec S k (zfs S (nI i * S 0 + zdr S k v x y z 0 (nI i)))))))) a = _ := (zup_n (znk hT hpa)).trans hT
        have h13 : (zup G pa (.inl (0, 256, .inl (upd px_ i (zrec S k (zfs S (nI i * S 0 + zdr S k v x y z 0 (nI i)))))))) m = _ := (zup_n (znk h1 hpa)).trans h1
        have hp3 : zPl (zup G pa (.inl (0, 256, .inl (upd px_ i (zrec S k (zfs S (nI i * S 0 + zdr S k v x y z 0 (nI i)))))))) p S v x y z := hp.up (n := 0) hpa
        refine z_aload_n (i := 0) C dX2_layParts_35 rfl rfl ?_
        refine z_getf (ci := 1) (k := 10) C (hT3) rfl rfl q535 dX2_layParts_36 ?_
        refine z_if_eq (tgt := 116) C dX2_layParts_39 (by decide) (fun c_39 => ?_) (fun c_39 => ?_)
        · have h5n : ¬ S 5 = 1 := fun z => by rw [z] at c_39; exact absurd c_39 (by decide)
          refine z_iinc (v := nI (i + 1)) C dX2_layParts_116 rfl (ziinc i) (Nat.le_of_ble_eq_true rfl) rfl ?_
          refine z_goto (tgt := 6) C dX2_layParts_119 (by decide) ?_
          exact z_convG (ih6 (i + 1) _ c (by omega) g2 (g3.imp id (fun q9 t t1 t2 => q9 t (by omega) t2)) (zpff_step (by omega) g4 (fun j9 e9 => (if_neg e9)) ((show upd _ i _ i = _ from if_pos rfl).trans (by unfold zp1; rw [if_neg (fun q9 => h5n q9.1)]))) (by omega)) (And.intro rfl (And.intro rfl (And.intro rfl (And.intro rfl (And.intro rfl (And.intro rfl trivial)))))) (Nat.le_of_ble_eq_true rfl) (Nat.le_of_ble_eq_true rfl)
        · have h5y : S 5 = 1 := (zpk0 h5).mp c_39
          refine z_iload C dX2_layParts_42 rfl ?_
          refine z_sipush (v := 255) C dX2_layParts_44 (by decide) ?_
          refine z_icmp_gt (tgt := 116) C dX2_layParts_47 (by decide) (fun c_47 => ?_) (fun c_47 => ?_)
          · refine z_iinc (v := nI (i + 1)) C dX2_layParts_116 rfl (ziinc i) (Nat.le_of_ble_eq_true rfl) rfl ?_
            refine z_goto (tgt := 6) C dX2_layParts_119 (by decide) ?_
            exact z_convG (ih6 (i + 1) _ c (by omega) g2 (g3.imp id (fun q9 t t1 t2 => q9 t (by omega) t2)) (zpff_step (by omega) g4 (fun j9 e9 => (if_neg e9)) ((show upd _ i _ i = _ from if_pos rfl).trans (by unfold zp1; rw [if_neg (fun q9 => Int32.not_lt.mpr q9.2 c_47)]))) (by omega)) (And.intro rfl (And.intro rfl (And.intro rfl (And.intro rfl (And.intro rfl (And.intro rfl trivial)))))) (Nat.le_of_ble_eq_true rfl) (Nat.le_of_ble_eq_true rfl)
          · refine z_aload_n (i := 2) C dX2_layParts_50 rfl rfl ?_
            refine z_instY (ci := 2) (C0 := "TrackArray$Fixed") (nme := "TrackArray$Place") C ((zup_n (znk hpo hpa)).trans hpo) rfl q1631 q690 dX2_layParts_51 ?_
            refine z_if_eq (tgt := 116) C dX2_layParts_54 (by decide) (fun c_54 => ?_) (fun c_54 => ?_)
            · exact absurd c_54 (by decide)
            · refine z_aload_n (i := 2) C dX2_layParts_57 rfl rfl ?_
              refine z_castY (ci := 2) (C0 := "TrackArray$Fixed") (nme := "TrackArray$Place") C ((zup_n (znk hpo hpa)).trans hpo) rfl q1631 q690 dX2_layParts_58 ?_
              refine z_astore C dX2_layParts_61 (Nat.le_of_ble_eq_true rfl) rfl ?_
              refine z_aload_n (i := 0) C dX2_layParts_63 rfl rfl ?_
              refine z_aload_n (i := 1) C dX2_layParts_64 rfl rfl ?_
              refine z_aload C dX2_layParts_65 rfl ?_
              refine z_iload C dX2_layParts_67 rfl ?_
              refine z_iconst (v := 1) C dX2_layParts_69 (by decide) ?_
              refine z_iload C dX2_layParts_70 rfl ?_
              refine z_callVe C (hT3) rfl (ct_X2_heard D B a lv ls lm fo pa su rq S m k q p v x y z (zfs S (nI i * S 0 + zdr S k v x y z 0 (nI i))) 1 c hT3 h13 hp3 (fun j hj => hok j hj 1) hm1 g2 (g3.imp id (fun q9 => q9 i (Nat.le_refl _) (by omega)))) q674 q675 q676 q84 q677 np_X2_heard (zr_ok rfl rfl) rfl rfl (Nat.le_of_ble_eq_true rfl) (⟨Nat.le_of_ble_eq_true rfl, Nat.le_of_ble_eq_true rfl⟩) dX2_layParts_72 ?_
              obtain ⟨c2, hc2⟩ : ∃ c2, c2 = zlc (fun j => nI j * S 0 + zdr S k v x y z 1 (nI j)) (zfs S (nI i * S 0 + zdr S k v x y z 0 (nI i)) * S 0) 256 := ⟨_, rfl⟩
              rw [← hc2]
              have g2' : c2 ≤ 256 := by rw [hc2]; exact zlc_le _ _ _
              have g3' : c2 = 0 ∨ ∀ t, i + 1 ≤ t → t < 256 → (fun j => nI j * S 0 + zdr S k v x y z 1 (nI j)) (c2 - 1) ≤ zfs S (nI t * S 0 + zdr S k v x y z 0 (nI t)) * S 0 := by
                rcases zlc_spec (fun j => nI j * S 0 + zdr S k v x y z 1 (nI j)) (zfs S (nI i * S 0 + zdr S k v x y z 0 (nI i)) * S 0) 256 with e | e
                · left; rw [hc2]; exact e
                · right
                  intro t t1 t2
                  rw [← hc2] at e
                  exact Int32.le_trans e (zsmp g (d := (fun j => zdr S k v x y z 0 (nI j))) (fun j _ => zdr_nat _ _ _ _ _ _ _ _) hm0 (by omega) t2)
              refine z_istore C dX2_layParts_75 (Nat.le_of_ble_eq_true rfl) rfl ?_
              refine z_iload C dX2_layParts_77 rfl ?_
              refine z_iconst (v := (-1)) C dX2_layParts_79 (by decide) ?_
              refine z_icmp_eq (tgt := 116) C dX2_layParts_80 (by decide) (fun c_80 => ?_) (fun c_80 => ?_)
              · have hc0 : c2 = 0 := (ztm_m1 (by omega)).mp c_80
                have hz : zrp S px_ (fun j => zdr S k v x y z 0 (nI j)) (fun j => zdr S k v x y z 1 (nI j)) i (zfs S (nI i * S 0 + zdr S k v x y z 0 (nI i))) = 0 := by unfold zrp; rw [← hc2, hc0]
                refine z_iinc (v := nI (i + 1)) C dX2_layParts_116 rfl (ziinc i) (Nat.le_of_ble_eq_true rfl) rfl ?_
                refine z_goto (tgt := 6) C dX2_layParts_119 (by decide) ?_
                exact z_convG (ih6 (i + 1) _ c2 (by omega) g2' g3' (zpff_step (by omega) g4 (fun j9 e9 => (if_neg e9)) ((show upd _ i _ i = _ from if_pos rfl).trans (by unfold zp1; rw [if_pos ⟨h5y, Int32.not_lt.mp c_47⟩, hz, Int32.sub_zero]))) (by omega)) (And.intro rfl (And.intro rfl (And.intro rfl (And.intro rfl (And.intro rfl (And.intro rfl trivial)))))) (Nat.le_of_ble_eq_true rfl) (Nat.le_of_ble_eq_true rfl)
              · have hc0 : ¬ c2 = 0 := fun z => c_80 ((ztm_m1 (by omega)).mpr z)
                obtain ⟨j, rfl⟩ : ∃ j, c2 = j + 1 := ⟨c2 - 1, by omega⟩
                refine z_iload C dX2_layParts_83 rfl ?_
                refine z_iload C dX2_layParts_85 rfl ?_
                refine z_icmp_ge (tgt := 116) C dX2_layParts_87 (by decide) (fun c_87 => ?_) (fun c_87 => ?_)
                · have hij : i ≤ j := (nI_leI (by omega) (by omega)).mp c_87
                  have hz : zrp S px_ (fun j => zdr S k v x y z 0 (nI j)) (fun j => zdr S k v x y z 1 (nI j)) i (zfs S (nI i * S 0 + zdr S k v x y z 0 (nI i))) = 0 := by unfold zrp; rw [← hc2]; exact if_pos hij
                  refine z_iinc (v := nI (i + 1)) C dX2_layParts_116 rfl (ziinc i) (Nat.le_of_ble_eq_true rfl) rfl ?_
                  refine z_goto (tgt := 6) C dX2_layParts_119 (by decide) ?_
                  exact z_convG (ih6 (i + 1) _ (j + 1) (by omega) g2' g3' (zpff_step (by omega) g4 (fun j9 e9 => (if_neg e9)) ((show upd _ i _ i = _ from if_pos rfl).trans (by unfold zp1; rw [if_pos ⟨h5y, Int32.not_lt.mp c_47⟩, hz, Int32.sub_zero]))) (by omega)) (And.intro rfl (And.intro rfl (And.intro rfl (And.intro rfl (And.intro rfl (And.intro rfl trivial)))))) (Nat.le_of_ble_eq_true rfl) (Nat.le_of_ble_eq_true rfl)
                · have hij : j < i := Nat.lt_of_not_le fun z => c_87 (nI_le z (by omega))
                  refine z_aload_n (i := 0) C dX2_layParts_90 rfl rfl ?_
                  refine z_getf (ci := 1) (k := 11) C (hT3) rfl rfl q537 dX2_layParts_91 ?_
                  refine z_iload C dX2_layParts_94 rfl ?_
                  refine z_dup2_11 C dX2_layParts_96 rfl rfl ?_
                  refine zj_iald C zup_s (zixI rfl (by omega)) (by decide) dX2_layParts_97 ?_
                  refine z_seti (y := zrec S k (zfs S (nI i * S 0 + zdr S k v x y z 0 (nI i)))) (if_pos rfl) ?_
                  refine z_aload_n (i := 0) C dX2_layParts_98 rfl rfl ?_
                  refine z_aload_n (i := 1) C dX2_layParts_99 rfl rfl ?_
                  refine z_aload C dX2_layParts_100 rfl ?_
                  refine z_aload_n (i := 0) C dX2_layParts_102 rfl rfl ?_
                  refine z_getf (ci := 1) (k := 11) C (hT3) rfl rfl q537 dX2_layParts_103 ?_
                  refine z_iload C dX2_layParts_106 rfl ?_
                  refine zj_iald C zup_s (zixI rfl (by omega)) (by decide) dX2_layParts_108 ?_
                  refine z_seti (y := px_ j) (if_neg (by omega)) ?_
                  refine z_iload C dX2_layParts_109 rfl ?_
                  refine z_callVe C (hT3) rfl (ct_X2_reduction D B a lv ls lm fo pa su rq S m k q p v x y z (px_ j) j hT3 h13 hp3 (fun r => hok j (by omega) r) h2) q1645 q1647 qs21 q84 q1648 np_X2_reduction (zr_ok rfl rfl) rfl rfl (Nat.le_of_ble_eq_true rfl) (⟨Nat.le_of_ble_eq_true rfl, Nat.le_of_ble_eq_true rfl⟩) dX2_layParts_111 ?_
                  refine z_seti (y := zrp S px_ (fun j => zdr S k v x y z 0 (nI j)) (fun j => zdr S k v x y z 1 (nI j)) i (zfs S (nI i * S 0 + zdr S k v x y z 0 (nI i)))) (by unfold zrp; rw [← hc2]; exact (if_neg (by omega)).symm) ?_
                  refine z_isub C dX2_layParts_114 ?_
                  refine zj_iast C zup_s (zixI rfl (by omega)) (by decide) dX2_layParts_115 ?_
                  refine z_heap zup_zup ?_
                  refine z_iinc (v := nI (i + 1)) C dX2_layParts_116 rfl (ziinc i) (Nat.le_of_ble_eq_true rfl) rfl ?_
                  refine z_goto (tgt := 6) C dX2_layParts_119 (by decide) ?_
                  exact z_convG (ih6 (i + 1) _ (j + 1) (by omega) g2' g3' (zpff_step (by omega) g4 (fun j9 e9 => (if_neg e9).trans (if_neg e9)) ((show upd _ i _ i = _ from if_pos rfl).trans (by unfold zp1; rw [if_pos ⟨h5y, Int32.not_lt.mp c_47⟩]))) (by omega)) (And.intro rfl (And.intro rfl (And.intro rfl (And.intro rfl (And.intro rfl (And.intro rfl trivial)))))) (Nat.le_of_ble_eq_true rfl) (Nat.le_of_ble_eq_true rfl)
  refine z_heap (zup_self hpa).symm ?_
  exact z_convG (lp6 (l + 2) 0 p0 0 (by omega) (by omega) (Or.inl rfl) (fun j hj => absurd hj (Nat.not_lt_zero _)) (by omega)) (And.intro (rfl) (And.intro (rfl) (And.intro (rfl) (And.intro (rfl) (And.intro (rfl) (And.intro (rfl) trivial)))))) (Nat.le_of_ble_eq_true rfl) (Nat.le_of_ble_eq_true rfl)
set_option maxHeartbeats 8000000 in
set_option maxRecDepth 100000 in
theorem ct_X2_layParts_r (D : zG) (B : Nat) {G : zH} (a : Nat) (lv ls lm fo pa su rq : Nat) (S : Nat → Int32) (m k q l : Nat) (p : Nat) (v : Option Nat) (x y z : Int32) (fp : List Value) (w p0 : Nat → Int32) (hT : G a = some (.inr (1, zTf lv ls lm fo pa su rq S))) (h1 : G m = some (zMo S k q)) (hr : G q = some (.inl (0, 256, .inl w))) (hpa : G pa = some (.inl (0, 256, .inl p0))) (hqp : ¬ q = pa) (hw : ∀ j, j < 256 → w j = S (186 + 256 * k + j)) (hpo : G p = some (.inr (7, fp))) (hp : zPl G p S v x y z) (hok : ∀ j, j < 256 → ∀ r, zdrok S k v x y z r (nI j)) (hm0 : zmono (fun j => nI j * S 0 + zdr S k v x y z 0 (nI j))) (hm1 : zmono (fun j => nI j * S 0 + zdr S k v x y z 1 (nI j))) (hl : l < 256) (h2 : S 2 = 0 ∨ S 2 = 1) (h5 : S 5 = 0 ∨ S 5 = 1) (g : zGe S) : Ct D B yX2_layParts (ws_ yX2_layParts cX2_layParts 8 none) (zr 5) [.ref a, .ref m, .ref p, .int (nI l)] G (fun r9 G9 => r9 = none ∧ ∃ px_ : Nat → Int32, (∀ j, j ≤ l → px_ j = (zpff S (fun j => zdr S k v x y z 0 (nI j)) (fun j => zdr S k v x y z 1 (nI j)) k) 256 j) ∧ G9 = (zup G pa (.inl (0, 256, .inl px_)))) zno := by
  refine ct_intro (by decide +kernel) (Nat.le_of_ble_eq_true rfl) ?_
  intro X C
  refine z_iconst (v := (-1)) C dX2_layParts_0 (by decide) ?_
  refine z_istore C dX2_layParts_1 (Nat.le_of_ble_eq_true rfl) rfl ?_
  refine z_iconst (v := 0) C dX2_layParts_3 (by decide) ?_
  refine z_istore C dX2_layParts_4 (Nat.le_of_ble_eq_true rfl) rfl ?_
  have lp6 : ∀ (μ : Nat) (i : Nat) (px_ : Nat → Int32) (c : Nat) (g1 : i ≤ l + 1) (g2 : c ≤ 256) (g3 : c = 0 ∨ ∀ t, i ≤ t → t < 256 → (fun j => nI j * S 0 + zdr S k v x y z 1 (nI j)) (c - 1) ≤ zfs S (nI t * S 0 + zdr S k v x y z 0 (nI t)) * S 0) (g4 : ∀ j, j < i → px_ j = (zpff S (fun j => zdr S k v x y z 0 (nI j)) (fun j => zdr S k v x y z 1 (nI j)) k) i j), l + 1 - i < μ → Z X 6 [some (.ref a), some (.ref m), some (.ref p), some (.int (nI l)), some (.int (ztm c)), some (.int (nI i)), none, none] [] (zup G pa (.inl (0, 256, .inl px_))) 0 0 := by
    intro μ
    induction μ with
    | zero => intro i px_ c g1 g2 g3 g4 hμ; exact absurd hμ (Nat.not_lt_zero _)
    | succ μ ih6 =>
      intro i px_ c g1 g2 g3 g4 hμ
      have hT2 : (zup G pa (.inl (0, 256, .inl px_))) a = _ := (zup_n (znk hT hpa)).trans hT
      have h12 : (zup G pa (.inl (0, 256, .inl px_))) m = _ := (zup_n (znk h1 hpa)).trans h1
      have hr2 : (zup G pa (.inl (0, 256, .inl px_))) q = _ := (zup_n hqp).trans hr
      have hp2 : zPl (zup G pa (.inl (0, 256, .inl px_))) p S v x y z := hp.up (n := 0) hpa
      refine z_iload C dX2_layParts_6 rfl ?_
      refine z_iload_n (i := 3) C dX2_layParts_8 rfl rfl ?_
      refine z_icmp_gt (tgt := 122) C dX2_layParts_9 (by decide) (fun c_9 => ?_) (fun c_9 => ?_)
      · have hend : i = l + 1 := by have := zgt c_9 (by omega) (by omega); omega
        exact z_return C rfl dX2_layParts_122 (⟨rfl, px_, fun j hj => (g4 j (by omega)).trans (zpff_256 (by omega) (by omega)).symm, rfl⟩) (Nat.le_of_ble_eq_true rfl) (Nat.le_of_ble_eq_true rfl)
      · have hle : i ≤ l := zngt c_9 (by omega) (by omega)
        refine z_aload_n (i := 0) C dX2_layParts_12 rfl rfl ?_
        refine z_aload_n (i := 1) C dX2_layParts_13 rfl rfl ?_
        refine z_aload_n (i := 2) C dX2_layParts_14 rfl rfl ?_
        refine z_iload C dX2_layParts_15 rfl ?_
        refine z_callVe C (hT2) rfl (ct_X2_sampleNumber_p D B a lv ls lm fo pa su rq S m k q p v x y z i hT2 h12 hp2 (hok i (by omega) 0) g) q1643 q1620 q1621 q84 q1622 np_X2_sampleNumber (zr_ok rfl rfl) rfl rfl (Nat.le_of_ble_eq_true rfl) (⟨Nat.le_of_ble_eq_true rfl, Nat.le_of_ble_eq_true rfl⟩) dX2_layParts_17 ?_
        refine z_istore C dX2_layParts_20 (Nat.le_of_ble_eq_true rfl) rfl ?_
        refine z_aload_n (i := 0) C dX2_layParts_22 rfl rfl ?_
        refine z_getf (ci := 1) (k := 11) C (hT2) rfl rfl q537 dX2_layParts_23 ?_
        refine z_iload C dX2_layParts_26 rfl ?_
        refine z_aload_n (i := 1) C dX2_layParts_28 rfl rfl ?_
        refine z_iload C dX2_layParts_29 rfl ?_
        refine z_callVe C (h12) rfl (ct_X7_at D B m k q _ S w h12 hr2 hw) q1644 q1553 q1554 q113 q1555 np_X7_at (zr_ok rfl rfl) rfl rfl (Nat.le_of_ble_eq_true rfl) (⟨Nat.le_of_ble_eq_true rfl, Nat.le_of_ble_eq_true rfl⟩) dX2_layParts_31 ?_
        refine zj_iast C zup_s (zixI rfl (by omega)) (by decide) dX2_layParts_34 ?_
        refine z_heap zup_zup ?_
        have hT3 : (zup G pa (.inl (0, 256, .inl (upd px_ i (zrec S k (zfs S (nI i * S 0 + zdr S k v x y z 0 (nI i)))))))) a = _ := (zup_n (znk hT hpa)).trans hT
        have h13 : (zup G pa (.inl (0, 256, .inl (upd px_ i (zrec S k (zfs S (nI i * S 0 + zdr S k v x y z 0 (nI i)))))))) m = _ := (zup_n (znk h1 hpa)).trans h1
        have hp3 : zPl (zup G pa (.inl (0, 256, .inl (upd px_ i (zrec S k (zfs S (nI i * S 0 + zdr S k v x y z 0 (nI i)))))))) p S v x y z := hp.up (n := 0) hpa
        refine z_aload_n (i := 0) C dX2_layParts_35 rfl rfl ?_
        refine z_getf (ci := 1) (k := 10) C (hT3) rfl rfl q535 dX2_layParts_36 ?_
        refine z_if_eq (tgt := 116) C dX2_layParts_39 (by decide) (fun c_39 => ?_) (fun c_39 => ?_)
        · have h5n : ¬ S 5 = 1 := fun z => by rw [z] at c_39; exact absurd c_39 (by decide)
          refine z_iinc (v := nI (i + 1)) C dX2_layParts_116 rfl (ziinc i) (Nat.le_of_ble_eq_true rfl) rfl ?_
          refine z_goto (tgt := 6) C dX2_layParts_119 (by decide) ?_
          exact z_convG (ih6 (i + 1) _ c (by omega) g2 (g3.imp id (fun q9 t t1 t2 => q9 t (by omega) t2)) (zpff_step (by omega) g4 (fun j9 e9 => (if_neg e9)) ((show upd _ i _ i = _ from if_pos rfl).trans (by unfold zp1; rw [if_neg (fun q9 => h5n q9.1)]))) (by omega)) (And.intro rfl (And.intro rfl (And.intro rfl (And.intro rfl (And.intro rfl (And.intro rfl trivial)))))) (Nat.le_of_ble_eq_true rfl) (Nat.le_of_ble_eq_true rfl)
        · have h5y : S 5 = 1 := (zpk0 h5).mp c_39
          refine z_iload C dX2_layParts_42 rfl ?_
          refine z_sipush (v := 255) C dX2_layParts_44 (by decide) ?_
          refine z_icmp_gt (tgt := 116) C dX2_layParts_47 (by decide) (fun c_47 => ?_) (fun c_47 => ?_)
          · refine z_iinc (v := nI (i + 1)) C dX2_layParts_116 rfl (ziinc i) (Nat.le_of_ble_eq_true rfl) rfl ?_
            refine z_goto (tgt := 6) C dX2_layParts_119 (by decide) ?_
            exact z_convG (ih6 (i + 1) _ c (by omega) g2 (g3.imp id (fun q9 t t1 t2 => q9 t (by omega) t2)) (zpff_step (by omega) g4 (fun j9 e9 => (if_neg e9)) ((show upd _ i _ i = _ from if_pos rfl).trans (by unfold zp1; rw [if_neg (fun q9 => Int32.not_lt.mpr q9.2 c_47)]))) (by omega)) (And.intro rfl (And.intro rfl (And.intro rfl (And.intro rfl (And.intro rfl (And.intro rfl trivial)))))) (Nat.le_of_ble_eq_true rfl) (Nat.le_of_ble_eq_true rfl)
          · refine z_aload_n (i := 2) C dX2_layParts_50 rfl rfl ?_
            refine z_instY (ci := 7) (C0 := "TrackArray$Riding") (nme := "TrackArray$Place") C ((zup_n (znk hpo hpa)).trans hpo) rfl q1631 q696 dX2_layParts_51 ?_
            refine z_if_eq (tgt := 116) C dX2_layParts_54 (by decide) (fun c_54 => ?_) (fun c_54 => ?_)
            · exact absurd c_54 (by decide)
            · refine z_aload_n (i := 2) C dX2_layParts_57 rfl rfl ?_
              refine z_castY (ci := 7) (C0 := "TrackArray$Riding") (nme := "TrackArray$Place") C ((zup_n (znk hpo hpa)).trans hpo) rfl q1631 q696 dX2_layParts_58 ?_
              refine z_astore C dX2_layParts_61 (Nat.le_of_ble_eq_true rfl) rfl ?_
              refine z_aload_n (i := 0) C dX2_layParts_63 rfl rfl ?_
              refine z_aload_n (i := 1) C dX2_layParts_64 rfl rfl ?_
              refine z_aload C dX2_layParts_65 rfl ?_
              refine z_iload C dX2_layParts_67 rfl ?_
              refine z_iconst (v := 1) C dX2_layParts_69 (by decide) ?_
              refine z_iload C dX2_layParts_70 rfl ?_
              refine z_callVe C (hT3) rfl (ct_X2_heard D B a lv ls lm fo pa su rq S m k q p v x y z (zfs S (nI i * S 0 + zdr S k v x y z 0 (nI i))) 1 c hT3 h13 hp3 (fun j hj => hok j hj 1) hm1 g2 (g3.imp id (fun q9 => q9 i (Nat.le_refl _) (by omega)))) q674 q675 q676 q84 q677 np_X2_heard (zr_ok rfl rfl) rfl rfl (Nat.le_of_ble_eq_true rfl) (⟨Nat.le_of_ble_eq_true rfl, Nat.le_of_ble_eq_true rfl⟩) dX2_layParts_72 ?_
              obtain ⟨c2, hc2⟩ : ∃ c2, c2 = zlc (fun j => nI j * S 0 + zdr S k v x y z 1 (nI j)) (zfs S (nI i * S 0 + zdr S k v x y z 0 (nI i)) * S 0) 256 := ⟨_, rfl⟩
              rw [← hc2]
              have g2' : c2 ≤ 256 := by rw [hc2]; exact zlc_le _ _ _
              have g3' : c2 = 0 ∨ ∀ t, i + 1 ≤ t → t < 256 → (fun j => nI j * S 0 + zdr S k v x y z 1 (nI j)) (c2 - 1) ≤ zfs S (nI t * S 0 + zdr S k v x y z 0 (nI t)) * S 0 := by
                rcases zlc_spec (fun j => nI j * S 0 + zdr S k v x y z 1 (nI j)) (zfs S (nI i * S 0 + zdr S k v x y z 0 (nI i)) * S 0) 256 with e | e
                · left; rw [hc2]; exact e
                · right
                  intro t t1 t2
                  rw [← hc2] at e
                  exact Int32.le_trans e (zsmp g (d := (fun j => zdr S k v x y z 0 (nI j))) (fun j _ => zdr_nat _ _ _ _ _ _ _ _) hm0 (by omega) t2)
              refine z_istore C dX2_layParts_75 (Nat.le_of_ble_eq_true rfl) rfl ?_
              refine z_iload C dX2_layParts_77 rfl ?_
              refine z_iconst (v := (-1)) C dX2_layParts_79 (by decide) ?_
              refine z_icmp_eq (tgt := 116) C dX2_layParts_80 (by decide) (fun c_80 => ?_) (fun c_80 => ?_)
              · have hc0 : c2 = 0 := (ztm_m1 (by omega)).mp c_80
                have hz : zrp S px_ (fun j => zdr S k v x y z 0 (nI j)) (fun j => zdr S k v x y z 1 (nI j)) i (zfs S (nI i * S 0 + zdr S k v x y z 0 (nI i))) = 0 := by unfold zrp; rw [← hc2, hc0]
                refine z_iinc (v := nI (i + 1)) C dX2_layParts_116 rfl (ziinc i) (Nat.le_of_ble_eq_true rfl) rfl ?_
                refine z_goto (tgt := 6) C dX2_layParts_119 (by decide) ?_
                exact z_convG (ih6 (i + 1) _ c2 (by omega) g2' g3' (zpff_step (by omega) g4 (fun j9 e9 => (if_neg e9)) ((show upd _ i _ i = _ from if_pos rfl).trans (by unfold zp1; rw [if_pos ⟨h5y, Int32.not_lt.mp c_47⟩, hz, Int32.sub_zero]))) (by omega)) (And.intro rfl (And.intro rfl (And.intro rfl (And.intro rfl (And.intro rfl (And.intro rfl trivial)))))) (Nat.le_of_ble_eq_true rfl) (Nat.le_of_ble_eq_true rfl)
              · have hc0 : ¬ c2 = 0 := fun z => c_80 ((ztm_m1 (by omega)).mpr z)
                obtain ⟨j, rfl⟩ : ∃ j, c2 = j + 1 := ⟨c2 - 1, by omega⟩
                refine z_iload C dX2_layParts_83 rfl ?_
                refine z_iload C dX2_layParts_85 rfl ?_
                refine z_icmp_ge (tgt := 116) C dX2_layParts_87 (by decide) (fun c_87 => ?_) (fun c_87 => ?_)
                · have hij : i ≤ j := (nI_leI (by omega) (by omega)).mp c_87
                  have hz : zrp S px_ (fun j => zdr S k v x y z 0 (nI j)) (fun j => zdr S k v x y z 1 (nI j)) i (zfs S (nI i * S 0 + zdr S k v x y z 0 (nI i))) = 0 := by unfold zrp; rw [← hc2]; exact if_pos hij
                  refine z_iinc (v := nI (i + 1)) C dX2_layParts_116 rfl (ziinc i) (Nat.le_of_ble_eq_true rfl) rfl ?_
                  refine z_goto (tgt := 6) C dX2_layParts_119 (by decide) ?_
                  exact z_convG (ih6 (i + 1) _ (j + 1) (by omega) g2' g3' (zpff_step (by omega) g4 (fun j9 e9 => (if_neg e9)) ((show upd _ i _ i = _ from if_pos rfl).trans (by unfold zp1; rw [if_pos ⟨h5y, Int32.not_lt.mp c_47⟩, hz, Int32.sub_zero]))) (by omega)) (And.intro rfl (And.intro rfl (And.intro rfl (And.intro rfl (And.intro rfl (And.intro rfl trivial)))))) (Nat.le_of_ble_eq_true rfl) (Nat.le_of_ble_eq_true rfl)
                · have hij : j < i := Nat.lt_of_not_le fun z => c_87 (nI_le z (by omega))
                  refine z_aload_n (i := 0) C dX2_layParts_90 rfl rfl ?_
                  refine z_getf (ci := 1) (k := 11) C (hT3) rfl rfl q537 dX2_layParts_91 ?_
                  refine z_iload C dX2_layParts_94 rfl ?_
                  refine z_dup2_11 C dX2_layParts_96 rfl rfl ?_
                  refine zj_iald C zup_s (zixI rfl (by omega)) (by decide) dX2_layParts_97 ?_
                  refine z_seti (y := zrec S k (zfs S (nI i * S 0 + zdr S k v x y z 0 (nI i)))) (if_pos rfl) ?_
                  refine z_aload_n (i := 0) C dX2_layParts_98 rfl rfl ?_
                  refine z_aload_n (i := 1) C dX2_layParts_99 rfl rfl ?_
                  refine z_aload C dX2_layParts_100 rfl ?_
                  refine z_aload_n (i := 0) C dX2_layParts_102 rfl rfl ?_
                  refine z_getf (ci := 1) (k := 11) C (hT3) rfl rfl q537 dX2_layParts_103 ?_
                  refine z_iload C dX2_layParts_106 rfl ?_
                  refine zj_iald C zup_s (zixI rfl (by omega)) (by decide) dX2_layParts_108 ?_
                  refine z_seti (y := px_ j) (if_neg (by omega)) ?_
                  refine z_iload C dX2_layParts_109 rfl ?_
                  refine z_callVe C (hT3) rfl (ct_X2_reduction D B a lv ls lm fo pa su rq S m k q p v x y z (px_ j) j hT3 h13 hp3 (fun r => hok j (by omega) r) h2) q1645 q1647 qs21 q84 q1648 np_X2_reduction (zr_ok rfl rfl) rfl rfl (Nat.le_of_ble_eq_true rfl) (⟨Nat.le_of_ble_eq_true rfl, Nat.le_of_ble_eq_true rfl⟩) dX2_layParts_111 ?_
                  refine z_seti (y := zrp S px_ (fun j => zdr S k v x y z 0 (nI j)) (fun j => zdr S k v x y z 1 (nI j)) i (zfs S (nI i * S 0 + zdr S k v x y z 0 (nI i)))) (by unfold zrp; rw [← hc2]; exact (if_neg (by omega)).symm) ?_
                  refine z_isub C dX2_layParts_114 ?_
                  refine zj_iast C zup_s (zixI rfl (by omega)) (by decide) dX2_layParts_115 ?_
                  refine z_heap zup_zup ?_
                  refine z_iinc (v := nI (i + 1)) C dX2_layParts_116 rfl (ziinc i) (Nat.le_of_ble_eq_true rfl) rfl ?_
                  refine z_goto (tgt := 6) C dX2_layParts_119 (by decide) ?_
                  exact z_convG (ih6 (i + 1) _ (j + 1) (by omega) g2' g3' (zpff_step (by omega) g4 (fun j9 e9 => (if_neg e9).trans (if_neg e9)) ((show upd _ i _ i = _ from if_pos rfl).trans (by unfold zp1; rw [if_pos ⟨h5y, Int32.not_lt.mp c_47⟩]))) (by omega)) (And.intro rfl (And.intro rfl (And.intro rfl (And.intro rfl (And.intro rfl (And.intro rfl trivial)))))) (Nat.le_of_ble_eq_true rfl) (Nat.le_of_ble_eq_true rfl)
  refine z_heap (zup_self hpa).symm ?_
  exact z_convG (lp6 (l + 2) 0 p0 0 (by omega) (by omega) (Or.inl rfl) (fun j hj => absurd hj (Nat.not_lt_zero _)) (by omega)) (And.intro (rfl) (And.intro (rfl) (And.intro (rfl) (And.intro (rfl) (And.intro (rfl) (And.intro (rfl) trivial)))))) (Nat.le_of_ble_eq_true rfl) (Nat.le_of_ble_eq_true rfl)
theorem ct_X2_layParts_p (D : zG) (B : Nat) {G : zH} (a : Nat) (lv ls lm fo pa su rq : Nat) (S : Nat → Int32) (m k q l : Nat) (p : Nat) (v : Option Nat) (x y z : Int32) (w p0 : Nat → Int32) (hT : G a = some (.inr (1, zTf lv ls lm fo pa su rq S))) (h1 : G m = some (zMo S k q)) (hr : G q = some (.inl (0, 256, .inl w))) (hpa : G pa = some (.inl (0, 256, .inl p0))) (hqp : ¬ q = pa) (hw : ∀ j, j < 256 → w j = S (186 + 256 * k + j)) (hp : zPl G p S v x y z) (hok : ∀ j, j < 256 → ∀ r, zdrok S k v x y z r (nI j)) (hm0 : zmono (fun j => nI j * S 0 + zdr S k v x y z 0 (nI j))) (hm1 : zmono (fun j => nI j * S 0 + zdr S k v x y z 1 (nI j))) (hl : l < 256) (h2 : S 2 = 0 ∨ S 2 = 1) (h5 : S 5 = 0 ∨ S 5 = 1) (g : zGe S) : Ct D B yX2_layParts (ws_ yX2_layParts cX2_layParts 8 none) (zr 5) [.ref a, .ref m, .ref p, .int (nI l)] G (fun r9 G9 => r9 = none ∧ ∃ px_ : Nat → Int32, (∀ j, j ≤ l → px_ j = (zpff S (fun j => zdr S k v x y z 0 (nI j)) (fun j => zdr S k v x y z 1 (nI j)) k) 256 j) ∧ G9 = (zup G pa (.inl (0, 256, .inl px_)))) zno := by
  have hh := hp
  rcases hh with ⟨-, h⟩ | ⟨i, w9, -, h9, -, -⟩
  · exact ct_X2_layParts_f D B a lv ls lm fo pa su rq S m k q l p v x y z _ w p0 hT h1 hr hpa hqp hw h hp hok hm0 hm1 hl h2 h5 g
  · exact ct_X2_layParts_r D B a lv ls lm fo pa su rq S m k q l p v x y z _ w p0 hT h1 hr hpa hqp hw h9 hp hok hm0 hm1 hl h2 h5 g
