/-! component: a new track and a track's copy -/
abbrev zt0 (lv ls lm : Value) (so : Int32) (ra : Int64) (fo pa su : Value) : zE := .inr (1, [lv, ls, lm, .int so, .int 0, .int 0, .long ra, .int 0, .int 0, fo, .int 0, pa, su])
theorem np_J2_init : znp yJ2_init 1 := ⟨by decide +kernel, by decide +kernel, by decide +kernel⟩
theorem np_X3_init : znp yX3_init 3 := ⟨by decide +kernel, by decide +kernel, by decide +kernel⟩
set_option maxHeartbeats 4000000 in
set_option maxRecDepth 100000 in
theorem ct_X2_init (D : zG) (B : Nat) {G : zH} (χ : Nat → Nat) (c a : Nat) (ha : zo G χ c a (.inr (1, zfs0 1))) (hc : 100 ≤ c) : Ct D B yX2_init (ws_ yX2_init cX2_init 1 none) (zrc 4 9 580) [.ref a] G (fun r9 G9 => r9 = none ∧ ∃ (χ2 : Nat → Nat) (lv ls lm fo pa su : Nat), zkee (fun k => k ≠ c) G χ G9 χ2 ∧ ∀ (va sa ua ma ra : Nat → Nat) (S : Nat → Int32), (∀ j, j < 2234 → S j = zini j) → zTr G9 χ2 c a lv ls lm fo pa su va sa ua ma ra 1 S) zno := by
  refine ct_intro (by decide +kernel) (Nat.le_of_ble_eq_true rfl) ?_
  intro X C
  have t0 : zo G χ c a (zt0 .null .null .null 0 0 .null .null .null) := ha
  have K0 : zkee (fun k => k ≠ c) G χ G χ := zkee.refl
  refine z_aload_n (i := 0) C dX2_init_0 rfl rfl ?_
  refine z_objInit C q139 q132 q133 (Nat.le_of_ble_eq_true rfl) (Nat.le_of_ble_eq_true rfl) dX2_init_1 ?_
  refine z_aload_n (i := 0) C dX2_init_4 rfl rfl ?_
  refine z_new (ci := 13) C rfl q140 q141 q87 (Nat.le_of_ble_eq_true rfl) (Nat.le_of_ble_eq_true rfl) dX2_init_5 ?_
  intro lv hlv hb
  refine z_dup C dX2_init_8 rfl ?_
  refine z_iconst (v := 2) C dX2_init_9 (by decide) ?_
  refine z_callIn C (ct_J2_init D B lv 2 zup_s (by decide) (by decide)) q142 q143 q87 q144 rfl np_J2_init (zr_ok rfl rfl) rfl rfl (Nat.le_of_ble_eq_true rfl) (⟨Nat.le_of_ble_eq_true rfl, Nat.le_of_ble_eq_true rfl⟩) dX2_init_10 ?_
  intro v9 G9 h9
  obtain ⟨rfl, qlv, hq, rfl⟩ := h9
  obtain ⟨r1, r2⟩ := zup_no hq
  refine z_heap (zup_aba (fun z => r1 z.symm)) ?_
  obtain ⟨k1, Llv1⟩ := zLi_new (χ := χ) (c := c) (j := 1) (k := 2) hlv r2 (fun z => r1 z.symm) (by decide)
  obtain ⟨G1, hG1⟩ : ∃ G1, G1 = zup (zup G qlv (.inl (5, 2, .inr (.inr (.inr (.inr fun _ => none)))))) lv (.inr (13, [.int 0, .ref qlv, .int 0])) := ⟨_, rfl⟩
  obtain ⟨χ1, hχ1⟩ : ∃ χ1, χ1 = zcol (zcol χ qlv (c + 3 + 1)) lv (c + 1) := ⟨_, rfl⟩
  rw [← hG1, ← hχ1] at k1 Llv1
  have t1 := t0.kp trivial k1
  have K1 := K0.trans (k1.mono (fun _ _ => trivial))
  refine z_heap hG1.symm ?_
  refine z_putfF (ci := 1) (k := 0) C (t1.1) rfl (Nat.le_of_ble_eq_true rfl) (zfit_ob (C0 := "java/util/ArrayList") (by decide +kernel) _) rfl rfl q508 dX2_init_13 ?_
  obtain ⟨G2, hG2⟩ : ∃ G2, G2 = zup G1 a (zt0 (.ref lv) .null .null 0 0 .null .null .null) := ⟨_, rfl⟩
  obtain ⟨χ2, hχ2⟩ : ∃ χ2, χ2 = χ1 := ⟨_, rfl⟩
  have k2 : zkee (fun k => k ≠ c) G1 χ1 G2 χ2 := by rw [hG2, hχ2]; exact zkee.put t1.2 (fun h => h rfl)
  have t2 : zo G2 χ2 c a (zt0 (.ref lv) .null .null 0 0 .null .null .null) := by rw [hG2, hχ2]; exact t1.put
  have K2 : zkee (fun k => k ≠ c) G χ G2 χ2 := K1.trans k2
  refine z_heap hG2.symm ?_
  have Llv2 : ∀ f, zLi G2 χ2 c 1 lv 0 f := fun f => (Llv1 f).kp (show c + 1 ≠ c by omega) (show c + 3 + 1 ≠ c by omega) k2
  refine z_aload_n (i := 0) C dX2_init_16 rfl rfl ?_
  refine z_new (ci := 13) C rfl q140 q141 q87 (Nat.le_of_ble_eq_true rfl) (Nat.le_of_ble_eq_true rfl) dX2_init_17 ?_
  intro ls hls hb
  refine z_dup C dX2_init_20 rfl ?_
  refine z_iconst (v := 2) C dX2_init_21 (by decide) ?_
  refine z_callIn C (ct_J2_init D B ls 2 zup_s (by decide) (by decide)) q142 q143 q87 q144 rfl np_J2_init (zr_ok rfl rfl) rfl rfl (Nat.le_of_ble_eq_true rfl) (⟨Nat.le_of_ble_eq_true rfl, Nat.le_of_ble_eq_true rfl⟩) dX2_init_22 ?_
  intro v9 G9 h9
  obtain ⟨rfl, qls, hq, rfl⟩ := h9
  obtain ⟨r1, r2⟩ := zup_no hq
  refine z_heap (zup_aba (fun z => r1 z.symm)) ?_
  obtain ⟨k3, Lls3⟩ := zLi_new (χ := χ2) (c := c) (j := 2) (k := 2) hls r2 (fun z => r1 z.symm) (by decide)
  obtain ⟨G3, hG3⟩ : ∃ G3, G3 = zup (zup G2 qls (.inl (5, 2, .inr (.inr (.inr (.inr fun _ => none)))))) ls (.inr (13, [.int 0, .ref qls, .int 0])) := ⟨_, rfl⟩
  obtain ⟨χ3, hχ3⟩ : ∃ χ3, χ3 = zcol (zcol χ2 qls (c + 3 + 2)) ls (c + 2) := ⟨_, rfl⟩
  rw [← hG3, ← hχ3] at k3 Lls3
  have t3 := t2.kp trivial k3
  have K3 := K2.trans (k3.mono (fun _ _ => trivial))
  refine z_heap hG3.symm ?_
  have Llv3 : ∀ f, zLi G3 χ3 c 1 lv 0 f := fun f => (Llv2 f).kp (P := fun _ => True) trivial trivial k3
  refine z_putfF (ci := 1) (k := 1) C (t3.1) rfl (Nat.le_of_ble_eq_true rfl) (zfit_ob (C0 := "java/util/ArrayList") (by decide +kernel) _) rfl rfl q511 dX2_init_25 ?_
  obtain ⟨G4, hG4⟩ : ∃ G4, G4 = zup G3 a (zt0 (.ref lv) (.ref ls) .null 0 0 .null .null .null) := ⟨_, rfl⟩
  obtain ⟨χ4, hχ4⟩ : ∃ χ4, χ4 = χ3 := ⟨_, rfl⟩
  have k4 : zkee (fun k => k ≠ c) G3 χ3 G4 χ4 := by rw [hG4, hχ4]; exact zkee.put t3.2 (fun h => h rfl)
  have t4 : zo G4 χ4 c a (zt0 (.ref lv) (.ref ls) .null 0 0 .null .null .null) := by rw [hG4, hχ4]; exact t3.put
  have K4 : zkee (fun k => k ≠ c) G χ G4 χ4 := K3.trans k4
  refine z_heap hG4.symm ?_
  have Llv4 : ∀ f, zLi G4 χ4 c 1 lv 0 f := fun f => (Llv3 f).kp (show c + 1 ≠ c by omega) (show c + 3 + 1 ≠ c by omega) k4
  have Lls4 : ∀ f, zLi G4 χ4 c 2 ls 0 f := fun f => (Lls3 f).kp (show c + 2 ≠ c by omega) (show c + 3 + 2 ≠ c by omega) k4
  refine z_aload_n (i := 0) C dX2_init_28 rfl rfl ?_
  refine z_new (ci := 13) C rfl q140 q141 q87 (Nat.le_of_ble_eq_true rfl) (Nat.le_of_ble_eq_true rfl) dX2_init_29 ?_
  intro lm hlm hb
  refine z_dup C dX2_init_32 rfl ?_
  refine z_iconst (v := 4) C dX2_init_33 (by decide) ?_
  refine z_callIn C (ct_J2_init D B lm 4 zup_s (by decide) (by decide)) q142 q143 q87 q144 rfl np_J2_init (zr_ok rfl rfl) rfl rfl (Nat.le_of_ble_eq_true rfl) (⟨Nat.le_of_ble_eq_true rfl, Nat.le_of_ble_eq_true rfl⟩) dX2_init_34 ?_
  intro v9 G9 h9
  obtain ⟨rfl, qlm, hq, rfl⟩ := h9
  obtain ⟨r1, r2⟩ := zup_no hq
  refine z_heap (zup_aba (fun z => r1 z.symm)) ?_
  obtain ⟨k5, Llm5⟩ := zLi_new (χ := χ4) (c := c) (j := 3) (k := 4) hlm r2 (fun z => r1 z.symm) (by decide)
  obtain ⟨G5, hG5⟩ : ∃ G5, G5 = zup (zup G4 qlm (.inl (5, 4, .inr (.inr (.inr (.inr fun _ => none)))))) lm (.inr (13, [.int 0, .ref qlm, .int 0])) := ⟨_, rfl⟩
  obtain ⟨χ5, hχ5⟩ : ∃ χ5, χ5 = zcol (zcol χ4 qlm (c + 3 + 3)) lm (c + 3) := ⟨_, rfl⟩
  rw [← hG5, ← hχ5] at k5 Llm5
  have t5 := t4.kp trivial k5
  have K5 := K4.trans (k5.mono (fun _ _ => trivial))
  refine z_heap hG5.symm ?_
  have Llv5 : ∀ f, zLi G5 χ5 c 1 lv 0 f := fun f => (Llv4 f).kp (P := fun _ => True) trivial trivial k5
  have Lls5 : ∀ f, zLi G5 χ5 c 2 ls 0 f := fun f => (Lls4 f).kp (P := fun _ => True) trivial trivial k5
  refine z_putfF (ci := 1) (k := 2) C (t5.1) rfl (Nat.le_of_ble_eq_true rfl) (zfit_ob (C0 := "java/util/ArrayList") (by decide +kernel) _) rfl rfl q514 dX2_init_37 ?_
  obtain ⟨G6, hG6⟩ : ∃ G6, G6 = zup G5 a (zt0 (.ref lv) (.ref ls) (.ref lm) 0 0 .null .null .null) := ⟨_, rfl⟩
  obtain ⟨χ6, hχ6⟩ : ∃ χ6, χ6 = χ5 := ⟨_, rfl⟩
  have k6 : zkee (fun k => k ≠ c) G5 χ5 G6 χ6 := by rw [hG6, hχ6]; exact zkee.put t5.2 (fun h => h rfl)
  have t6 : zo G6 χ6 c a (zt0 (.ref lv) (.ref ls) (.ref lm) 0 0 .null .null .null) := by rw [hG6, hχ6]; exact t5.put
  have K6 : zkee (fun k => k ≠ c) G χ G6 χ6 := K5.trans k6
  refine z_heap hG6.symm ?_
  have Llv6 : ∀ f, zLi G6 χ6 c 1 lv 0 f := fun f => (Llv5 f).kp (show c + 1 ≠ c by omega) (show c + 3 + 1 ≠ c by omega) k6
  have Lls6 : ∀ f, zLi G6 χ6 c 2 ls 0 f := fun f => (Lls5 f).kp (show c + 2 ≠ c by omega) (show c + 3 + 2 ≠ c by omega) k6
  have Llm6 : ∀ f, zLi G6 χ6 c 3 lm 0 f := fun f => (Llm5 f).kp (show c + 3 ≠ c by omega) (show c + 3 + 3 ≠ c by omega) k6
  refine z_aload_n (i := 0) C dX2_init_40 rfl rfl ?_
  refine z_sipush (v := 340) C dX2_init_41 (by decide) ?_
  refine z_putf (ci := 1) (k := 3) C (t6.1) rfl (Nat.le_of_ble_eq_true rfl) (zfit_I _) q517 dX2_init_44 ?_
  obtain ⟨G7, hG7⟩ : ∃ G7, G7 = zup G6 a (zt0 (.ref lv) (.ref ls) (.ref lm) 340 0 .null .null .null) := ⟨_, rfl⟩
  obtain ⟨χ7, hχ7⟩ : ∃ χ7, χ7 = χ6 := ⟨_, rfl⟩
  have k7 : zkee (fun k => k ≠ c) G6 χ6 G7 χ7 := by rw [hG7, hχ7]; exact zkee.put t6.2 (fun h => h rfl)
  have t7 : zo G7 χ7 c a (zt0 (.ref lv) (.ref ls) (.ref lm) 340 0 .null .null .null) := by rw [hG7, hχ7]; exact t6.put
  have K7 : zkee (fun k => k ≠ c) G χ G7 χ7 := K6.trans k7
  refine z_heap hG7.symm ?_
  have Llv7 : ∀ f, zLi G7 χ7 c 1 lv 0 f := fun f => (Llv6 f).kp (show c + 1 ≠ c by omega) (show c + 3 + 1 ≠ c by omega) k7
  have Lls7 : ∀ f, zLi G7 χ7 c 2 ls 0 f := fun f => (Lls6 f).kp (show c + 2 ≠ c by omega) (show c + 3 + 2 ≠ c by omega) k7
  have Llm7 : ∀ f, zLi G7 χ7 c 3 lm 0 f := fun f => (Llm6 f).kp (show c + 3 ≠ c by omega) (show c + 3 + 3 ≠ c by omega) k7
  refine z_aload_n (i := 0) C dX2_init_47 rfl rfl ?_
  refine z_lconst (v := 1) C dX2_init_48 (by decide) ?_
  refine z_putf (ci := 1) (k := 6) C (t7.1) rfl (Nat.le_of_ble_eq_true rfl) (zfit_J _) q526 dX2_init_49 ?_
  obtain ⟨G8, hG8⟩ : ∃ G8, G8 = zup G7 a (zt0 (.ref lv) (.ref ls) (.ref lm) 340 1 .null .null .null) := ⟨_, rfl⟩
  obtain ⟨χ8, hχ8⟩ : ∃ χ8, χ8 = χ7 := ⟨_, rfl⟩
  have k8 : zkee (fun k => k ≠ c) G7 χ7 G8 χ8 := by rw [hG8, hχ8]; exact zkee.put t7.2 (fun h => h rfl)
  have t8 : zo G8 χ8 c a (zt0 (.ref lv) (.ref ls) (.ref lm) 340 1 .null .null .null) := by rw [hG8, hχ8]; exact t7.put
  have K8 : zkee (fun k => k ≠ c) G χ G8 χ8 := K7.trans k8
  refine z_heap hG8.symm ?_
  have Llv8 : ∀ f, zLi G8 χ8 c 1 lv 0 f := fun f => (Llv7 f).kp (show c + 1 ≠ c by omega) (show c + 3 + 1 ≠ c by omega) k8
  have Lls8 : ∀ f, zLi G8 χ8 c 2 ls 0 f := fun f => (Lls7 f).kp (show c + 2 ≠ c by omega) (show c + 3 + 2 ≠ c by omega) k8
  have Llm8 : ∀ f, zLi G8 χ8 c 3 lm 0 f := fun f => (Llm7 f).kp (show c + 3 ≠ c by omega) (show c + 3 + 3 ≠ c by omega) k8
  refine z_aload_n (i := 0) C dX2_init_52 rfl rfl ?_
  refine z_new (ci := 2) C rfl q489 q490 q105 (Nat.le_of_ble_eq_true rfl) (Nat.le_of_ble_eq_true rfl) dX2_init_53 ?_
  intro fo hfo hb
  refine z_dup C dX2_init_56 rfl ?_
  refine z_iconst (v := 0) C dX2_init_57 (by decide) ?_
  refine z_bipush (v := 100) C dX2_init_58 (by decide) ?_
  refine z_iconst (v := 0) C dX2_init_60 (by decide) ?_
  refine z_callINe C (ct_X3_init D B fo 0 100 0 zup_s) q491 q492 q105 q493 rfl np_X3_init (zr_ok rfl rfl) rfl rfl (Nat.le_of_ble_eq_true rfl) (⟨Nat.le_of_ble_eq_true rfl, Nat.le_of_ble_eq_true rfl⟩) dX2_init_61 ?_
  refine z_heap zup_zup ?_
  have k9 : zkee (fun _ => True) G8 χ8 (zup G8 fo (.inr (2, [.int 0, .int 100, .int 0]))) (zcol χ8 fo 1) := zkee.new hfo
  have F9 : zo (zup G8 fo (.inr (2, [.int 0, .int 100, .int 0]))) (zcol χ8 fo 1) 1 fo (.inr (2, [.int 0, .int 100, .int 0])) := zo.newc hfo
  obtain ⟨G9, hG9⟩ : ∃ G9, G9 = zup G8 fo (.inr (2, [.int 0, .int 100, .int 0])) := ⟨_, rfl⟩
  obtain ⟨χ9, hχ9⟩ : ∃ χ9, χ9 = zcol χ8 fo 1 := ⟨_, rfl⟩
  rw [← hG9, ← hχ9] at k9 F9
  have t9 := t8.kp trivial k9
  have K9 := K8.trans (k9.mono (fun _ _ => trivial))
  refine z_heap hG9.symm ?_
  have Llv9 : ∀ f, zLi G9 χ9 c 1 lv 0 f := fun f => (Llv8 f).kp (P := fun _ => True) trivial trivial k9
  have Lls9 : ∀ f, zLi G9 χ9 c 2 ls 0 f := fun f => (Lls8 f).kp (P := fun _ => True) trivial trivial k9
  have Llm9 : ∀ f, zLi G9 χ9 c 3 lm 0 f := fun f => (Llm8 f).kp (P := fun _ => True) trivial trivial k9
  refine z_putf (ci := 1) (k := 9) C (t9.1) rfl (Nat.le_of_ble_eq_true rfl) (zfit_ob (C0 := "TrackArray$Focus") (by decide +kernel) _) q533 dX2_init_64 ?_
  obtain ⟨G10, hG10⟩ : ∃ G10, G10 = zup G9 a (zt0 (.ref lv) (.ref ls) (.ref lm) 340 1 (.ref fo) .null .null) := ⟨_, rfl⟩
  obtain ⟨χ10, hχ10⟩ : ∃ χ10, χ10 = χ9 := ⟨_, rfl⟩
  have k10 : zkee (fun k => k ≠ c) G9 χ9 G10 χ10 := by rw [hG10, hχ10]; exact zkee.put t9.2 (fun h => h rfl)
  have t10 : zo G10 χ10 c a (zt0 (.ref lv) (.ref ls) (.ref lm) 340 1 (.ref fo) .null .null) := by rw [hG10, hχ10]; exact t9.put
  have K10 : zkee (fun k => k ≠ c) G χ G10 χ10 := K9.trans k10
  refine z_heap hG10.symm ?_
  have Llv10 : ∀ f, zLi G10 χ10 c 1 lv 0 f := fun f => (Llv9 f).kp (show c + 1 ≠ c by omega) (show c + 3 + 1 ≠ c by omega) k10
  have Lls10 : ∀ f, zLi G10 χ10 c 2 ls 0 f := fun f => (Lls9 f).kp (show c + 2 ≠ c by omega) (show c + 3 + 2 ≠ c by omega) k10
  have Llm10 : ∀ f, zLi G10 χ10 c 3 lm 0 f := fun f => (Llm9 f).kp (show c + 3 ≠ c by omega) (show c + 3 + 3 ≠ c by omega) k10
  have F10 := F9.kp (show 1 ≠ c by omega) k10
  refine z_aload_n (i := 0) C dX2_init_67 rfl rfl ?_
  refine z_sipush (v := 256) C dX2_init_68 (by decide) ?_
  refine z_newarr (ty := .int) (t := 0) (N := 256) (x0 := (256, .inl fun _ => 0)) C rfl rfl q567 (fun _ => rfl) (by decide) (by decide +kernel) (Nat.le_of_ble_eq_true rfl) (by decide) (by decide) dX2_init_71 ?_
  intro pa hpa hb
  have k11 : zkee (fun _ => True) G10 χ10 (zup G10 pa (.inl (0, 256, .inl fun _ => 0))) (zcol χ10 pa (c + 7)) := zkee.new hpa
  have Apa : zo (zup G10 pa (.inl (0, 256, .inl fun _ => 0))) (zcol χ10 pa (c + 7)) (c + 7) pa (.inl (0, 256, .inl fun _ => 0)) := zo.newc hpa
  obtain ⟨G11, hG11⟩ : ∃ G11, G11 = zup G10 pa (.inl (0, 256, .inl fun _ => 0)) := ⟨_, rfl⟩
  obtain ⟨χ11, hχ11⟩ : ∃ χ11, χ11 = zcol χ10 pa (c + 7) := ⟨_, rfl⟩
  rw [← hG11, ← hχ11] at k11 Apa
  have t11 := t10.kp trivial k11
  have K11 := K10.trans (k11.mono (fun _ _ => trivial))
  refine z_heap hG11.symm ?_
  have Llv11 : ∀ f, zLi G11 χ11 c 1 lv 0 f := fun f => (Llv10 f).kp (P := fun _ => True) trivial trivial k11
  have Lls11 : ∀ f, zLi G11 χ11 c 2 ls 0 f := fun f => (Lls10 f).kp (P := fun _ => True) trivial trivial k11
  have Llm11 : ∀ f, zLi G11 χ11 c 3 lm 0 f := fun f => (Llm10 f).kp (P := fun _ => True) trivial trivial k11
  have F11 := F10.kp trivial k11
  refine z_putfF (ci := 1) (k := 11) C (t11.1) rfl (Nat.le_of_ble_eq_true rfl) (zfit_aI _) rfl rfl q537 dX2_init_73 ?_
  obtain ⟨G12, hG12⟩ : ∃ G12, G12 = zup G11 a (zt0 (.ref lv) (.ref ls) (.ref lm) 340 1 (.ref fo) (.ref pa) .null) := ⟨_, rfl⟩
  obtain ⟨χ12, hχ12⟩ : ∃ χ12, χ12 = χ11 := ⟨_, rfl⟩
  have k12 : zkee (fun k => k ≠ c) G11 χ11 G12 χ12 := by rw [hG12, hχ12]; exact zkee.put t11.2 (fun h => h rfl)
  have t12 : zo G12 χ12 c a (zt0 (.ref lv) (.ref ls) (.ref lm) 340 1 (.ref fo) (.ref pa) .null) := by rw [hG12, hχ12]; exact t11.put
  have K12 : zkee (fun k => k ≠ c) G χ G12 χ12 := K11.trans k12
  refine z_heap hG12.symm ?_
  have Llv12 : ∀ f, zLi G12 χ12 c 1 lv 0 f := fun f => (Llv11 f).kp (show c + 1 ≠ c by omega) (show c + 3 + 1 ≠ c by omega) k12
  have Lls12 : ∀ f, zLi G12 χ12 c 2 ls 0 f := fun f => (Lls11 f).kp (show c + 2 ≠ c by omega) (show c + 3 + 2 ≠ c by omega) k12
  have Llm12 : ∀ f, zLi G12 χ12 c 3 lm 0 f := fun f => (Llm11 f).kp (show c + 3 ≠ c by omega) (show c + 3 + 3 ≠ c by omega) k12
  have F12 := F11.kp (show 1 ≠ c by omega) k12
  have A12 := Apa.kp (show c + 7 ≠ c by omega) k12
  refine z_aload_n (i := 0) C dX2_init_76 rfl rfl ?_
  refine z_sipush (v := 256) C dX2_init_77 (by decide) ?_
  refine z_newarr (ty := .long) (t := 1) (N := 256) (x0 := (256, .inr (.inl fun _ => 0))) C rfl rfl q568 (fun _ => rfl) (by decide) (by decide +kernel) (Nat.le_of_ble_eq_true rfl) (by decide) (by decide) dX2_init_80 ?_
  intro su hsu hb
  have k13 : zkee (fun _ => True) G12 χ12 (zup G12 su (.inl (1, 256, .inr (.inl fun _ => 0)))) (zcol χ12 su (c + 8)) := zkee.new hsu
  have Asu : zo (zup G12 su (.inl (1, 256, .inr (.inl fun _ => 0)))) (zcol χ12 su (c + 8)) (c + 8) su (.inl (1, 256, .inr (.inl fun _ => 0))) := zo.newc hsu
  obtain ⟨G13, hG13⟩ : ∃ G13, G13 = zup G12 su (.inl (1, 256, .inr (.inl fun _ => 0))) := ⟨_, rfl⟩
  obtain ⟨χ13, hχ13⟩ : ∃ χ13, χ13 = zcol χ12 su (c + 8) := ⟨_, rfl⟩
  rw [← hG13, ← hχ13] at k13 Asu
  have t13 := t12.kp trivial k13
  have K13 := K12.trans (k13.mono (fun _ _ => trivial))
  refine z_heap hG13.symm ?_
  have Llv13 : ∀ f, zLi G13 χ13 c 1 lv 0 f := fun f => (Llv12 f).kp (P := fun _ => True) trivial trivial k13
  have Lls13 : ∀ f, zLi G13 χ13 c 2 ls 0 f := fun f => (Lls12 f).kp (P := fun _ => True) trivial trivial k13
  have Llm13 : ∀ f, zLi G13 χ13 c 3 lm 0 f := fun f => (Llm12 f).kp (P := fun _ => True) trivial trivial k13
  have F13 := F12.kp trivial k13
  have A13 := A12.kp trivial k13
  refine z_putfF (ci := 1) (k := 12) C (t13.1) rfl (Nat.le_of_ble_eq_true rfl) (zfit_aJ _) rfl rfl q539 dX2_init_82 ?_
  obtain ⟨G14, hG14⟩ : ∃ G14, G14 = zup G13 a (zt0 (.ref lv) (.ref ls) (.ref lm) 340 1 (.ref fo) (.ref pa) (.ref su)) := ⟨_, rfl⟩
  obtain ⟨χ14, hχ14⟩ : ∃ χ14, χ14 = χ13 := ⟨_, rfl⟩
  have k14 : zkee (fun k => k ≠ c) G13 χ13 G14 χ14 := by rw [hG14, hχ14]; exact zkee.put t13.2 (fun h => h rfl)
  have t14 : zo G14 χ14 c a (zt0 (.ref lv) (.ref ls) (.ref lm) 340 1 (.ref fo) (.ref pa) (.ref su)) := by rw [hG14, hχ14]; exact t13.put
  have K14 : zkee (fun k => k ≠ c) G χ G14 χ14 := K13.trans k14
  refine z_heap hG14.symm ?_
  have Llv14 : ∀ f, zLi G14 χ14 c 1 lv 0 f := fun f => (Llv13 f).kp (show c + 1 ≠ c by omega) (show c + 3 + 1 ≠ c by omega) k14
  have Lls14 : ∀ f, zLi G14 χ14 c 2 ls 0 f := fun f => (Lls13 f).kp (show c + 2 ≠ c by omega) (show c + 3 + 2 ≠ c by omega) k14
  have Llm14 : ∀ f, zLi G14 χ14 c 3 lm 0 f := fun f => (Llm13 f).kp (show c + 3 ≠ c by omega) (show c + 3 + 3 ≠ c by omega) k14
  have F14 := F13.kp (show 1 ≠ c by omega) k14
  have A14 := A13.kp (show c + 7 ≠ c by omega) k14
  have B14 := Asu.kp (show c + 8 ≠ c by omega) k14
  exact z_return C rfl dX2_init_85 (⟨rfl, χ14, lv, ls, lm, fo, pa, su, K14, fun va sa ua ma ra S hS => zTr_init t14 Llv14 Lls14 Llm14 F14 ⟨⟨_, A14⟩, _, B14⟩ hS⟩) (Nat.le_of_ble_eq_true rfl) (Nat.le_of_ble_eq_true rfl)
def zPc (c2 : Nat) (k : Nat) : Prop := k ≠ 2 ∧ (k < c2 ∨ c2 + 100 ≤ k)
theorem zPc_of {c c2 k : Nat} (hc : 100 ≤ c) (hc2 : 100 ≤ c2) (h : c2 + 100 ≤ c ∨ c + 100 ≤ c2) (hk : k = 1 ∨ (c ≤ k ∧ k < c + 100)) : zPc c2 k := ⟨by omega, by omega⟩
theorem zLi_all {G : zH} {χ : Nat → Nat} {c j a n0 n : Nat} {f f0 : Nat → Nat} {mc : Int32} {e cap : Nat} {g : Nat → Option Nat} (hl : zli G a n0 f0 mc e cap g) (c1 : χ a = c + j) (c2 : χ e = c + 3 + j)
    {e' cap' : Nat} {g' : Nat → Option Nat} {m2 : Int32} (he : e' = e ∨ G e' = none) (hg : (n ≤ cap' ∧ 1 ≤ cap' ∧ cap' ≤ 16) ∧ (∀ i, i < n → g' i = some (f i)) ∧ ∀ i, n ≤ i → g' i = none) :
    zLi (zup (zup G e' (.inl (5, cap', .inr (.inr (.inr (.inr g')))))) a (.inr (13, [.int m2, .ref e', .int (nI n)]))) (zcol χ e' (c + 3 + j)) c j a n f ∧
    zkee (fun k => k ≠ c + j ∧ k ≠ c + 3 + j) G χ (zup (zup G e' (.inl (5, cap', .inr (.inr (.inr (.inr g')))))) a (.inr (13, [.int m2, .ref e', .int (nI n)]))) (zcol χ e' (c + 3 + j)) := by
  obtain ⟨h1, h2, h3, h4, h5⟩ := hl
  have hea : ¬ e' = a := by
    rcases he with q | q
    · rw [q]; intro z; rw [z, h1] at h2; cases h2
    · intro z; rw [z, h1] at q; cases q
  have hxe : zcol χ e' (c + 3 + j) e' = c + 3 + j := if_pos rfl
  have hxa : zcol χ e' (c + 3 + j) a = c + j := (if_neg (fun z => hea z.symm)).trans c1
  refine ⟨⟨m2, e', cap', g', ⟨zup_s, (zup_n hea).trans zup_s, hg⟩, hxa, hxe⟩, fun b x hb hp => ?_⟩
  have n1 : ¬ b = a := fun z => by rw [z, c1] at hp; exact hp.1 rfl
  have n2 : ¬ b = e' := by
    rcases he with q | q
    · intro z; rw [z, q, c2] at hp; exact hp.2 rfl
    · intro z; rw [z, q] at hb; cases hb
  exact ⟨(zup_n n1).trans ((zup_n n2).trans hb), if_neg n2⟩
theorem zini_n (j : Nat) (h : j < 2234) (a2 : j ≠ 0) (a3 : j ≠ 3) (a4 : j ≠ 10) (a5 : j ≠ 13) : zini j = 0 := by
  unfold zini; rw [if_neg a2, if_neg (by omega), if_neg a5]
theorem zct0 {S : Nat → Int32} {k : Nat} (h : S k = 0) : zct S k = 0 := by unfold zct; rw [h]; rfl
/-- a list of sources with one more -/
theorem zSs_add {G G' : zH} {χ χ' : Nat → Nat} {P : Nat → Prop} {c a n : Nat} {sa ua va : Nat → Nat} {S : Nat → Int32} {s2 u2 : Nat} {w2 : Nat → Int32} (h : zSs G χ c a n sa ua va S) (hk : zkee P G χ G' χ') (hP : ∀ k, c + 20 ≤ k → k < c + 40 → P k) (hn : n < 6) (hl : zLi G' χ' c 2 a (n + 1) (fun i => if i = n then s2 else sa i))
    (h1 : zo G' χ' (c + 20 + n) s2 (.inr (5, [.ref (va (zsv S n)), .int (S (28 + 21 * n + 1)), .int (S (28 + 21 * n + 2)), .int (S (28 + 21 * n + 3)), .ref u2, .int (S (28 + 21 * n + 4))]))) (h2 : zo G' χ' (c + 30 + n) u2 (.inl (0, 16, .inl w2))) (h3 : ∀ j, j < zct S (28 + 21 * n + 4) → w2 j = S (28 + 21 * n + (5 + j))) :
    zSs G' χ' c a (n + 1) (fun i => if i = n then s2 else sa i) (fun i => if i = n then u2 else ua i) va S := by
  refine ⟨hl, fun i hi => ?_⟩
  by_cases e : i = n
  · subst e
    refine ⟨?_, w2, ?_, h3⟩
    · unfold zsE
      dsimp only
      rw [if_pos rfl, if_pos rfl]
      exact h1
    · dsimp only
      rw [if_pos rfl]
      exact h2
  · obtain ⟨q1, w, q2, q3⟩ := h.2 i (by omega)
    refine ⟨?_, w, ?_, q3⟩
    · have := q1.kp (hP _ (by omega) (by omega)) hk
      unfold zsE at this ⊢
      dsimp only
      rw [if_neg e, if_neg e]
      exact this
    · dsimp only
      rw [if_neg e]
      exact q2.kp (hP _ (by omega) (by omega)) hk
theorem zMs_add {G G' : zH} {χ χ' : Nat → Nat} {P : Nat → Prop} {c a n : Nat} {ma ra : Nat → Nat} {S : Nat → Int32} {m2 q2 : Nat} {w2 : Nat → Int32} (h : zMs G χ c a n ma ra S) (hk : zkee P G χ G' χ') (hP : ∀ k, c + 40 ≤ k → k < c + 60 → P k) (hn : n < 8) (hl : zLi G' χ' c 3 a (n + 1) (fun i => if i = n then m2 else ma i))
    (h1 : zo G' χ' (c + 40 + n) m2 (.inr (6, [.int (S (154 + 4 * n + 0)), .int (S (154 + 4 * n + 1)), .int (S (154 + 4 * n + 2)), .int (S (154 + 4 * n + 3)), .ref q2]))) (h2 : zo G' χ' (c + 50 + n) q2 (.inl (0, 256, .inl w2))) (h3 : ∀ j, j < 256 → w2 j = S (186 + 256 * n + j)) :
    zMs G' χ' c a (n + 1) (fun i => if i = n then m2 else ma i) (fun i => if i = n then q2 else ra i) S := by
  refine ⟨hl, fun i hi => ?_⟩
  by_cases e : i = n
  · subst e
    refine ⟨?_, w2, ?_, h3⟩
    · unfold zmE
      dsimp only
      rw [if_pos rfl, if_pos rfl]
      exact h1
    · dsimp only
      rw [if_pos rfl]
      exact h2
  · obtain ⟨q1, w, q2, q3⟩ := h.2 i (by omega)
    refine ⟨?_, w, ?_, q3⟩
    · have := q1.kp (hP _ (by omega) (by omega)) hk
      unfold zmE at this ⊢
      dsimp only
      rw [if_neg e, if_neg e]
      exact this
    · dsimp only
      rw [if_neg e]
      exact q2.kp (hP _ (by omega) (by omega)) hk
theorem np_X2_init : znp yX2_init 0 := ⟨by decide +kernel, by decide +kernel, by decide +kernel⟩
theorem np_J2_addAll : znp yJ2_addAll 1 := ⟨by decide +kernel, by decide +kernel, by decide +kernel⟩
theorem np_X6_copy : znp yX6_copy 0 := ⟨by decide +kernel, by decide +kernel, by decide +kernel⟩
theorem np_X7_copy : znp yX7_copy 0 := ⟨by decide +kernel, by decide +kernel, by decide +kernel⟩
set_option maxHeartbeats 16000000 in
set_option maxRecDepth 100000 in
theorem ct_X2_copy (D : zG) (B : Nat) {G : zH} (χ : Nat → Nat) (c a lv ls lm fo pa su : Nat) (va sa ua ma ra : Nat → Nat) (rq : Nat) (S : Nat → Int32) (c2 : Nat) (hR : zTr G χ c a lv ls lm fo pa su va sa ua ma ra rq S) (g : zGe S) (hc : 100 ≤ c) (hc2 : 100 ≤ c2) (hcc : c2 + 100 ≤ c ∨ c + 100 ≤ c2) (h2 : S 2 = 0 ∨ S 2 = 1) (h5 : S 5 = 0 ∨ S 5 = 1) : Ct D B yX2_copy (ws_ yX2_copy cX2_copy 4 (some (.object "TrackArray$Track"))) (zrc 9 100 6000) [.ref a] G (fun r9 G9 => ∃ a2, r9 = some (.ref a2) ∧ ∃ (χ2 : Nat → Nat) (lv2 ls2 lm2 fo2 pa2 su2 : Nat) (sa2 ua2 ma2 ra2 : Nat → Nat), zkee (zPc c2) G χ G9 χ2 ∧ zTr G9 χ2 c2 a2 lv2 ls2 lm2 fo2 pa2 su2 va sa2 ua2 ma2 ra2 rq S) zno := by
  refine ct_intro (by decide +kernel) (Nat.le_of_ble_eq_true rfl) ?_
  intro X C
  obtain ⟨nv, nv4, ev⟩ := g.nv
  obtain ⟨ns, ns6, es⟩ := g.ns
  obtain ⟨nm, nm8, em⟩ := g.nm
  have PC : ∀ k, k = 1 ∨ (c ≤ k ∧ k < c + 100) → zPc c2 k := fun k hk => zPc_of hc hc2 hcc hk
  obtain ⟨t1, t2, t3, t4, t5, t6, t7⟩ := id hR
  rw [zct_of ev (by omega)] at t3
  rw [zct_of es (by omega)] at t4
  rw [zct_of em (by omega)] at t5
  obtain ⟨⟨mcv, ev1, capv, gv, lv1, lvc, lvd⟩, tv⟩ := t3
  obtain ⟨⟨mcs, es1, caps, gs, ls1, lsc, lsd⟩, ts⟩ := t4
  obtain ⟨⟨mcm, em1, capm, gm, lm1, lmc, lmd⟩, tm⟩ := t5
  have hcn : ∀ i, i < ns → zct S (28 + 21 * i + 4) ≤ 16 := fun i hi => by
    obtain ⟨-, n4, n41, n42, e4s⟩ := g.sn i (by omega) (by rw [es]; exact nI_lt hi (by omega))
    rw [zct_of e4s (by omega)]
    exact n42
  refine z_new (ci := 1) C rfl q1812 q135 q84 (Nat.le_of_ble_eq_true rfl) (Nat.le_of_ble_eq_true rfl) dX2_copy_0 ?_
  intro a2 ha2 hb
  refine z_dup C dX2_copy_3 rfl ?_
  refine z_callIn C (ct_X2_init D B (zcol χ a2 c2) c2 a2 (zo.newc ha2) hc2) q1813 q137 q84 q138 rfl np_X2_init (zr_ok rfl rfl) rfl rfl (Nat.le_of_ble_eq_true rfl) (⟨Nat.le_of_ble_eq_true rfl, Nat.le_of_ble_eq_true rfl⟩) dX2_copy_4 ?_
  intro v9 G1 h9
  obtain ⟨rfl, χ1, lv2, ls2, lm2, fo2, pa2, su2, k1, T1⟩ := h9
  have K1 : zkee (zPc c2) G χ G1 χ1 := ((zkee.new (k := c2) ha2).mono (fun _ _ => trivial)).trans (k1.mono (fun x hx => by have := hx.2; omega))
  have A1 : zo G1 χ1 c2 a2 (.inr (1, [.ref lv2, .ref ls2, .ref lm2, .int 340, .int 0, .int 0, .long (lN 1), .int 0, .int 0, .ref fo2, .int 0, .ref pa2, .ref su2])) := (T1 va va va va va zini (fun _ _ => rfl)).1
  have Lv1 : ∀ f, zLi G1 χ1 c2 1 lv2 0 f := fun f => by
    have := (T1 f va va va va zini (fun _ _ => rfl)).2.2.1.1
    rw [zct0 (zini_n 6 (by decide) (by decide) (by decide) (by decide) (by decide))] at this
    exact this
  have Ls1 : ∀ f, zLi G1 χ1 c2 2 ls2 0 f := fun f => by
    have := (T1 va f va va va zini (fun _ _ => rfl)).2.2.2.1.1
    rw [zct0 (zini_n 7 (by decide) (by decide) (by decide) (by decide) (by decide))] at this
    exact this
  have Lm1 : ∀ f, zLi G1 χ1 c2 3 lm2 0 f := fun f => by
    have := (T1 va va va f va zini (fun _ _ => rfl)).2.2.2.2.1.1
    rw [zct0 (zini_n 8 (by decide) (by decide) (by decide) (by decide) (by decide))] at this
    exact this
  have R1 : zRw G1 χ1 c2 pa2 su2 := (T1 va va va va va zini (fun _ _ => rfl)).2.2.2.2.2.2
  obtain ⟨mc0, e0, cap0, g0, l01, l02, l03⟩ := Lv1 va
  have o1 := (t1.kp (PC c (by omega)) K1).1
  have bv : zli G1 lv nv va mcv ev1 capv gv := ⟨(K1 lv _ lv1.1 (by rw [lvc]; exact PC _ (by omega))).1, (K1 ev1 _ lv1.2.1 (by rw [lvd]; exact PC _ (by omega))).1, lv1.2.2⟩
  have tv1 : ∀ i, i < nv → zo G1 χ1 1 (va i) (zvE S i) := fun i hi => (tv i hi).kp (PC 1 (by omega)) K1
  refine z_astore_n (i := 1) C dX2_copy_7 rfl (Nat.le_of_ble_eq_true rfl) rfl ?_
  refine z_aload_n (i := 1) C dX2_copy_8 rfl rfl ?_
  refine z_getf (ci := 1) (k := 0) C (A1.1) rfl rfl q508 dX2_copy_9 ?_
  refine z_aload_n (i := 0) C dX2_copy_12 rfl rfl ?_
  refine z_getf (ci := 1) (k := 0) C (o1) rfl rfl q508 dX2_copy_13 ?_
  refine z_callVn C (l01.1) rfl (ct_J2_addAll D B lv2 lv nv va va mc0 mcv e0 cap0 ev1 capv g0 gv 4 "TrackArray$Vehicle" TX5 3 l01 bv (fun i hi => ⟨_, (tv1 i hi).1⟩) (by omega) (by decide) rfl q2435) q1814 q1815 q1816 q87 q1817 np_J2_addAll (zr_ok rfl rfl) rfl rfl (Nat.le_of_ble_eq_true rfl) (⟨Nat.le_of_ble_eq_true rfl, Nat.le_of_ble_eq_true rfl⟩) dX2_copy_16 ?_
  intro v9 G9 h9
  obtain ⟨⟨r9, rfl⟩, e', cap', g', he, hg', rfl⟩ := h9
  obtain ⟨LV, k2⟩ := zLi_all (m2 := mc0 + 1) l01 l02 l03 he hg'
  obtain ⟨G2, hG2⟩ : ∃ G2, G2 = zup (zup G1 e' (.inl (5, cap', .inr (.inr (.inr (.inr g')))))) lv2 (.inr (13, [.int (mc0 + 1), .ref e', .int (nI nv)])) := ⟨_, rfl⟩
  obtain ⟨χ2, hχ2⟩ : ∃ χ2, χ2 = zcol χ1 e' (c2 + 3 + 1) := ⟨_, rfl⟩
  rw [← hG2, ← hχ2] at LV k2
  refine z_heap hG2.symm ?_
  have K2 : zkee (zPc c2) G χ G2 χ2 := K1.trans (k2.mono (fun x hx => by have := hx.2; omega))
  have A2 := A1.kp (show c2 ≠ c2 + 1 ∧ c2 ≠ c2 + 3 + 1 by omega) k2
  have V2 : zVs G2 χ2 c2 lv2 nv va S := ⟨LV, fun i hi => (tv i hi).kp (PC 1 (by omega)) K2⟩
  have Ls2 : ∀ f, zLi G2 χ2 c2 2 ls2 0 f := fun f => (Ls1 f).kp (show c2 + 2 ≠ c2 + 1 ∧ c2 + 2 ≠ c2 + 3 + 1 by omega) (show c2 + 3 + 2 ≠ c2 + 1 ∧ c2 + 3 + 2 ≠ c2 + 3 + 1 by omega) k2
  have Lm2 : ∀ f, zLi G2 χ2 c2 3 lm2 0 f := fun f => (Lm1 f).kp (show c2 + 3 ≠ c2 + 1 ∧ c2 + 3 ≠ c2 + 3 + 1 by omega) (show c2 + 3 + 3 ≠ c2 + 1 ∧ c2 + 3 + 3 ≠ c2 + 3 + 1 by omega) k2
  have R2 := R1.kp (show c2 + 7 ≠ c2 + 1 ∧ c2 + 7 ≠ c2 + 3 + 1 by omega) (show c2 + 8 ≠ c2 + 1 ∧ c2 + 8 ≠ c2 + 3 + 1 by omega) k2
  have o2 := (t1.kp (PC c (by omega)) K2).1
  have bs : zli G2 ls ns sa mcs es1 caps gs := ⟨(K2 ls _ ls1.1 (by rw [lsc]; exact PC _ (by omega))).1, (K2 es1 _ ls1.2.1 (by rw [lsd]; exact PC _ (by omega))).1, ls1.2.2⟩
  refine z_pop C dX2_copy_19 rfl ?_
  refine z_aload_n (i := 0) C dX2_copy_20 rfl rfl ?_
  refine z_getf (ci := 1) (k := 1) C (o2) rfl rfl q511 dX2_copy_21 ?_
  refine z_callVn C (bs.1) rfl (ct_J2_iterator D B ls mcs _ _ bs.1) q602 q603 q604 q87 q605 np_J2_iterator (zr_ok rfl rfl) rfl rfl (Nat.le_of_ble_eq_true rfl) (⟨Nat.le_of_ble_eq_true rfl, Nat.le_of_ble_eq_true rfl⟩) dX2_copy_24 ?_
  intro v9 G9 h9
  obtain ⟨it1, rfl, hit, rfl⟩ := h9
  have N3 : zkee (fun _ => True) G2 χ2 (zup G2 it1 (.inr (14, [.int (nI (0)), .int (-1), .int mcs, .ref ls]))) (zcol χ2 it1 2) := zkee.new hit
  refine z_astore_n (i := 2) C dX2_copy_27 rfl (Nat.le_of_ble_eq_true rfl) rfl ?_
  have lp28 : ∀ (μ : Nat) (i : Nat) (G3 : zH) (χ3 : Nat → Nat) (sa2 ua2 : Nat → Nat) (lr : Value) (i1 : i ≤ ns) (i2 : zkee (zPc c2) G χ G3 χ3) (i3 : zo G3 χ3 c2 a2 (.inr (1, [.ref lv2, .ref ls2, .ref lm2, .int 340, .int 0, .int 0, .long (lN 1), .int 0, .int 0, .ref fo2, .int 0, .ref pa2, .ref su2]))) (i4 : zVs G3 χ3 c2 lv2 nv va S) (i5 : zSs G3 χ3 c2 ls2 i sa2 ua2 va S) (i6 : ∀ f, zLi G3 χ3 c2 3 lm2 0 f) (i7 : zo G3 χ3 2 it1 (.inr (14, [.int (nI (i)), lr, .int mcs, .ref ls]))) (i8 : zRw G3 χ3 c2 pa2 su2), ns - i < μ → Z X 28 [some (.ref a), some (.ref a2), some (.ref it1), none] [] G3 (30 + 3 * i) (700 + 60 * i) := by
    intro μ
    induction μ with
    | zero => intro i G3 χ3 sa2 ua2 lr i1 i2 i3 i4 i5 i6 i7 i8 hμ; exact absurd hμ (Nat.not_lt_zero _)
    | succ μ ih28 =>
      intro i G3 χ3 sa2 ua2 lr i1 i2 i3 i4 i5 i6 i7 i8 hμ
      have lsZ : zli G3 ls ns sa mcs es1 caps gs := ⟨(i2 ls _ ls1.1 (by rw [lsc]; exact PC _ (by omega))).1, (i2 es1 _ ls1.2.1 (by rw [lsd]; exact PC _ (by omega))).1, ls1.2.2⟩
      refine z_aload_n (i := 2) C dX2_copy_28 rfl rfl ?_
      refine z_callFe (x := ⟨"java/util/Iterator", "hasNext", "()Z"⟩) (C0 := "java/util/ArrayList$Itr") (np := 0) C (i7.1) rfl (by decide) (ct_J22_hasNext D B it1 ls i ns _ _ _ _ lsZ.1 i7.1 (by omega) (by omega)) q626 q630 q632 q115 q634 ⟨by decide +kernel, by decide +kernel, by decide +kernel⟩ (zr_ok rfl rfl) rfl rfl (Nat.le_of_ble_eq_true rfl) (⟨by simp only [zrc, zr]; omega, by simp only [zrc, zr]; omega⟩) dX2_copy_29 ?_
      refine z_if_eq (tgt := 62) C dX2_copy_34 (by decide) (fun c_34 => ?_) (fun c_34 => ?_)
      · have hend : i = ns := by
          by_cases z : i = ns
          · exact z
          · exact absurd z (zb_eq.mp c_34)
        subst hend
        have o3 := (t1.kp (PC c (by omega)) i2).1
        have bm : zli G3 lm nm ma mcm em1 capm gm := ⟨(i2 lm _ lm1.1 (by rw [lmc]; exact PC _ (by omega))).1, (i2 em1 _ lm1.2.1 (by rw [lmd]; exact PC _ (by omega))).1, lm1.2.2⟩
        refine z_aload_n (i := 0) C dX2_copy_62 rfl rfl ?_
        refine z_getf (ci := 1) (k := 2) C (o3) rfl rfl q514 dX2_copy_63 ?_
        
        refine z_callVn C (bm.1) rfl (ct_J2_iterator D B lm mcm _ _ bm.1) q602 q603 q604 q87 q605 np_J2_iterator (zr_ok rfl rfl) rfl rfl (Nat.le_of_ble_eq_true rfl) (⟨by simp only [zrc, zr]; omega, by simp only [zrc, zr]; omega⟩) dX2_copy_66 ?_
        intro v9 G9 h9
        obtain ⟨it2, rfl, hit2, rfl⟩ := h9
        have N7 : zkee (fun _ => True) G3 χ3 (zup G3 it2 (.inr (14, [.int (nI (0)), .int (-1), .int mcm, .ref lm]))) (zcol χ3 it2 2) := zkee.new hit2
        refine z_astore_n (i := 2) C dX2_copy_69 rfl (Nat.le_of_ble_eq_true rfl) rfl ?_
        have lp70 : ∀ (μ : Nat) (k : Nat) (G7 : zH) (χ7 : Nat → Nat) (ma2 ra2 : Nat → Nat) (lrk : Value) (j1 : k ≤ nm) (j2 : zkee (zPc c2) G χ G7 χ7) (j3 : zo G7 χ7 c2 a2 (.inr (1, [.ref lv2, .ref ls2, .ref lm2, .int 340, .int 0, .int 0, .long (lN 1), .int 0, .int 0, .ref fo2, .int 0, .ref pa2, .ref su2]))) (j4 : zVs G7 χ7 c2 lv2 nv va S) (j5 : zSs G7 χ7 c2 ls2 i sa2 ua2 va S) (j6 : zMs G7 χ7 c2 lm2 k ma2 ra2 S) (j7 : zo G7 χ7 2 it2 (.inr (14, [.int (nI (k)), lrk, .int mcm, .ref lm]))) (j8 : zRw G7 χ7 c2 pa2 su2), nm - k < μ → Z X 70 [some (.ref a), some (.ref a2), some (.ref it2), none] [] G7 (50 + 5 * k) (1100 + 600 * k) := by
          intro μ
          induction μ with
          | zero => intro k G7 χ7 ma2 ra2 lrk j1 j2 j3 j4 j5 j6 j7 j8 hμ; exact absurd hμ (Nat.not_lt_zero _)
          | succ μ ih70 =>
            intro k G7 χ7 ma2 ra2 lrk j1 j2 j3 j4 j5 j6 j7 j8 hμ
            have lmZ : zli G7 lm nm ma mcm em1 capm gm := ⟨(j2 lm _ lm1.1 (by rw [lmc]; exact PC _ (by omega))).1, (j2 em1 _ lm1.2.1 (by rw [lmd]; exact PC _ (by omega))).1, lm1.2.2⟩
            have naa : ¬ a = a2 := (t1.kp (PC c (by omega)) j2).ne j3.2 (by omega)
            have o9 := (t1.kp (PC c (by omega)) j2).1
            refine z_aload_n (i := 2) C dX2_copy_70 rfl rfl ?_
            refine z_callFe (x := ⟨"java/util/Iterator", "hasNext", "()Z"⟩) (C0 := "java/util/ArrayList$Itr") (np := 0) C (j7.1) rfl (by decide) (ct_J22_hasNext D B it2 lm k nm _ _ _ _ lmZ.1 j7.1 (by omega) (by omega)) q626 q630 q632 q115 q634 ⟨by decide +kernel, by decide +kernel, by decide +kernel⟩ (zr_ok rfl rfl) rfl rfl (Nat.le_of_ble_eq_true rfl) (⟨by simp only [zrc, zr]; omega, by simp only [zrc, zr]; omega⟩) dX2_copy_71 ?_
            refine z_if_eq (tgt := 104) C dX2_copy_76 (by decide) (fun c_76 => ?_) (fun c_76 => ?_)
            · have hendk : k = nm := by
                by_cases z : k = nm
                · exact z
                · exact absurd z (zb_eq.mp c_76)
              subst hendk
              refine z_aload_n (i := 1) C dX2_copy_104 rfl rfl ?_
              refine z_aload_n (i := 0) C dX2_copy_105 rfl rfl ?_
              refine z_getf (ci := 1) (k := 3) C (o9) rfl rfl q517 dX2_copy_106 ?_
              refine z_putf (ci := 1) (k := 3) C (j3.1) rfl (Nat.le_of_ble_eq_true rfl) (zfit_I _) q517 dX2_copy_109 ?_
              refine z_aload_n (i := 1) C dX2_copy_112 rfl rfl ?_
              refine z_aload_n (i := 0) C dX2_copy_113 rfl rfl ?_
              refine z_getf (ci := 1) (k := 4) C ((zup_n naa).trans o9) rfl rfl q520 dX2_copy_114 ?_
              refine z_putf (ci := 1) (k := 4) C (zup_s) rfl (Nat.le_of_ble_eq_true rfl) (zfit_I _) q520 dX2_copy_117 ?_
              refine z_heap zup_zup ?_
              refine z_aload_n (i := 1) C dX2_copy_120 rfl rfl ?_
              refine z_aload_n (i := 0) C dX2_copy_121 rfl rfl ?_
              refine z_getf (ci := 1) (k := 5) C ((zup_n naa).trans o9) rfl rfl q523 dX2_copy_122 ?_
              refine z_putf (ci := 1) (k := 5) C (zup_s) rfl (Nat.le_of_ble_eq_true rfl) (zfit_Z _ h2) q523 dX2_copy_125 ?_
              refine z_heap zup_zup ?_
              refine z_aload_n (i := 1) C dX2_copy_128 rfl rfl ?_
              refine z_aload_n (i := 0) C dX2_copy_129 rfl rfl ?_
              refine z_getf (ci := 1) (k := 6) C ((zup_n naa).trans o9) rfl rfl q526 dX2_copy_130 ?_
              refine z_putf (ci := 1) (k := 6) C (zup_s) rfl (Nat.le_of_ble_eq_true rfl) (zfit_J _) q526 dX2_copy_133 ?_
              refine z_heap zup_zup ?_
              refine z_aload_n (i := 1) C dX2_copy_136 rfl rfl ?_
              refine z_aload_n (i := 0) C dX2_copy_137 rfl rfl ?_
              refine z_getf (ci := 1) (k := 7) C ((zup_n naa).trans o9) rfl rfl q528 dX2_copy_138 ?_
              refine z_putf (ci := 1) (k := 7) C (zup_s) rfl (Nat.le_of_ble_eq_true rfl) (zfit_I _) q528 dX2_copy_141 ?_
              refine z_heap zup_zup ?_
              refine z_aload_n (i := 1) C dX2_copy_144 rfl rfl ?_
              refine z_aload_n (i := 0) C dX2_copy_145 rfl rfl ?_
              refine z_getf (ci := 1) (k := 8) C ((zup_n naa).trans o9) rfl rfl q531 dX2_copy_146 ?_
              refine z_putf (ci := 1) (k := 8) C (zup_s) rfl (Nat.le_of_ble_eq_true rfl) (zfit_I _) q531 dX2_copy_149 ?_
              refine z_heap zup_zup ?_
              refine z_aload_n (i := 1) C dX2_copy_152 rfl rfl ?_
              refine z_aload_n (i := 0) C dX2_copy_153 rfl rfl ?_
              refine z_getf (ci := 1) (k := 9) C ((zup_n naa).trans o9) rfl rfl q533 dX2_copy_154 ?_
              refine z_putf (ci := 1) (k := 9) C (zup_s) rfl (Nat.le_of_ble_eq_true rfl) (zfit_ob (C0 := "TrackArray$Focus") (by decide +kernel) _) q533 dX2_copy_157 ?_
              refine z_heap zup_zup ?_
              refine z_aload_n (i := 1) C dX2_copy_160 rfl rfl ?_
              refine z_aload_n (i := 0) C dX2_copy_161 rfl rfl ?_
              refine z_getf (ci := 1) (k := 10) C ((zup_n naa).trans o9) rfl rfl q535 dX2_copy_162 ?_
              refine z_putf (ci := 1) (k := 10) C (zup_s) rfl (Nat.le_of_ble_eq_true rfl) (zfit_Z _ h5) q535 dX2_copy_165 ?_
              refine z_heap zup_zup ?_
              refine z_aload_n (i := 1) C dX2_copy_168 rfl rfl ?_
              refine z_areturn C rfl (Or.inl ⟨_, rfl⟩) (Or.inr ⟨_, rfl⟩) dX2_copy_169 ⟨a2, rfl, χ7, lv2, ls2, lm2, fo, pa2, su2, sa2, ua2, ma2, ra2, j2.trans (zkee.put j3.2 (fun h => by have := h.2; omega)), ⟨zup_s, j3.2⟩, t2, ?_, ?_, ?_, ?_, ?_⟩ (by simp only [zrc, zr]; omega) (by simp only [zrc, zr]; omega)
              · rw [zct_of ev (by omega)]
                exact j4.kp (P := fun x => x ≠ c2) (by omega) (by omega) (by omega) (zkee.put j3.2 (fun h => h rfl)) (fun _ _ _ => rfl)
              · rw [zct_of es (by omega)]
                refine zSs.kp j5 (show c2 + 2 ≠ c2 by omega) (show c2 + 5 ≠ c2 by omega) (fun j hj => ⟨show c2 + 20 + j ≠ c2 by omega, show c2 + 30 + j ≠ c2 by omega⟩) (zkee.put (P := fun x => x ≠ c2) j3.2 (fun h => h rfl)) (fun _ _ _ => rfl) hcn
              · rw [zct_of em (by omega)]
                refine zMs.kp j6 (show c2 + 3 ≠ c2 by omega) (show c2 + 6 ≠ c2 by omega) (fun j hj => ⟨show c2 + 40 + j ≠ c2 by omega, show c2 + 50 + j ≠ c2 by omega⟩) (zkee.put (P := fun x => x ≠ c2) j3.2 (fun h => h rfl)) (fun _ _ _ => rfl) (fun _ _ _ => rfl)
              · exact (t6.kp (PC 1 (by omega)) j2).kp (show 1 ≠ c2 by omega) (zkee.put (P := fun x => x ≠ c2) j3.2 (fun h => h rfl))
              · exact j8.kp (show c2 + 7 ≠ c2 by omega) (show c2 + 8 ≠ c2 by omega) (zkee.put (P := fun x => x ≠ c2) j3.2 (fun h => h rfl))
            · have hltk : k < nm := by
                have := zb_ne.mp c_76
                omega
              refine z_aload_n (i := 2) C dX2_copy_79 rfl rfl ?_
              refine z_callFe (x := ⟨"java/util/Iterator", "next", "()Ljava/lang/Object;"⟩) (C0 := "java/util/ArrayList$Itr") (np := 0) C (j7.1) rfl (by decide) (ct_J22_next D B lm nm ma mcm em1 capm gm it2 k lrk lmZ j7.1 hltk) q636 q639 q641 q115 q643 ⟨by decide +kernel, by decide +kernel, by decide +kernel⟩ (zr_ok rfl rfl) rfl rfl (Nat.le_of_ble_eq_true rfl) (⟨by simp only [zrc, zr]; omega, by simp only [zrc, zr]; omega⟩) dX2_copy_80 ?_
              have q1 : zkee (fun x => x ≠ 2) G7 χ7 (zup G7 it2 (.inr (14, [.int (nI (k + 1)), .int (nI k), .int mcm, .ref lm]))) χ7 := zkee.put j7.2 (fun h => h rfl)
              obtain ⟨G8, hG8⟩ : ∃ G8, G8 = zup G7 it2 (.inr (14, [.int (nI (k + 1)), .int (nI k), .int mcm, .ref lm])) := ⟨_, rfl⟩
              have I8 : zo G8 χ7 2 it2 (.inr (14, [.int (nI (k + 1)), .int (nI k), .int mcm, .ref lm])) := by rw [hG8]; exact j7.put
              rw [← hG8] at q1
              refine z_heap hG8.symm ?_
              have K8 : zkee (zPc c2) G χ G8 χ7 := j2.trans (q1.mono (fun x hx => hx.1))
              obtain ⟨s1, w, s2, s3⟩ := tm k hltk
              have y1 := (s1.kp (PC _ (by omega)) K8).1
              have y2 := (s2.kp (PC _ (by omega)) K8).1
              have A8 := j3.kp (show c2 ≠ 2 by omega) q1
              refine z_castS (ci := 6) C (y1) rfl q648 dX2_copy_85 ?_
              refine z_astore_n (i := 3) C dX2_copy_88 rfl (Nat.le_of_ble_eq_true rfl) rfl ?_
              refine z_aload_n (i := 1) C dX2_copy_89 rfl rfl ?_
              refine z_getf (ci := 1) (k := 2) C (A8.1) rfl rfl q514 dX2_copy_90 ?_
              refine z_aload_n (i := 3) C dX2_copy_93 rfl rfl ?_
              refine z_callVn C (y1) rfl (ct_X7_copy D B (ma k) (ra k) _ _ _ _ w y1 y2) q1836 q1837 q1838 q113 q1839 np_X7_copy (zr_ok rfl rfl) rfl rfl (Nat.le_of_ble_eq_true rfl) (⟨by simp only [zrc, zr]; omega, by simp only [zrc, zr]; omega⟩) dX2_copy_94 ?_
              intro v9 G9 h9
              obtain ⟨x2, u2, rfl, hx2, hu2, nux, rfl⟩ := h9
              obtain ⟨χ9, hχ9⟩ : ∃ χ9, χ9 = zcol (zcol χ7 u2 (c2 + 50 + k)) x2 (c2 + 40 + k) := ⟨_, rfl⟩
              have q2 : zkee (fun _ => True) G8 χ7 (zup (zup G8 u2 (.inl (0, 256, .inl w))) x2 (.inr (6, [.int (S (154 + 4 * k + 0)), .int (S (154 + 4 * k + 1)), .int (S (154 + 4 * k + 2)), .int (S (154 + 4 * k + 3)), .ref u2]))) χ9 := by rw [hχ9]; exact (zkee.new hu2).trans (zkee.new ((zup_n (fun z => nux z.symm)).trans hx2))
              obtain ⟨G9, hG9⟩ : ∃ G9, G9 = zup (zup G8 u2 (.inl (0, 256, .inl w))) x2 (.inr (6, [.int (S (154 + 4 * k + 0)), .int (S (154 + 4 * k + 1)), .int (S (154 + 4 * k + 2)), .int (S (154 + 4 * k + 3)), .ref u2])) := ⟨_, rfl⟩
              have v1 : zo G9 χ9 (c2 + 40 + k) x2 (.inr (6, [.int (S (154 + 4 * k + 0)), .int (S (154 + 4 * k + 1)), .int (S (154 + 4 * k + 2)), .int (S (154 + 4 * k + 3)), .ref u2])) := by rw [hG9, hχ9]; exact ⟨zup_s, if_pos rfl⟩
              have v2 : zo G9 χ9 (c2 + 50 + k) u2 (.inl (0, 256, .inl w)) := by rw [hG9, hχ9]; exact ⟨(zup_n nux).trans zup_s, (if_neg nux).trans (if_pos rfl)⟩
              rw [← hG9] at q2
              refine z_heap hG9.symm ?_
              have MM9 : zMs G9 χ9 c2 lm2 k ma2 ra2 S := by
                refine ⟨((j6.1).kp (show c2 + 3 ≠ 2 by omega) (show c2 + 3 + 3 ≠ 2 by omega) q1).kp (P := fun _ => True) trivial trivial q2, fun j hj => ?_⟩
                obtain ⟨z1, w9, z2, z3⟩ := j6.2 j hj
                exact ⟨(z1.kp (show c2 + 40 + j ≠ 2 by omega) q1).kp trivial q2, w9, (z2.kp (show c2 + 50 + j ≠ 2 by omega) q1).kp trivial q2, z3⟩
              obtain ⟨⟨mc, e, cap, gg, l1, l2, l3⟩, l4⟩ := id MM9
              refine z_callVn C (l1.1) rfl (ct_J2_add D B lm2 k ma2 mc e cap gg 6 "TrackArray$Microphone" TX7 5 x2 _ v1.1 l1 (fun j hj => ⟨_, (l4 j hj).1.1⟩) (by omega) (by decide) rfl q2439) q1045 q1046 q1047 q87 q1048 np_J2_add (zr_ok rfl rfl) rfl rfl (Nat.le_of_ble_eq_true rfl) (⟨by simp only [zrc, zr]; omega, by simp only [zrc, zr]; omega⟩) dX2_copy_97 ?_
              intro v9 G9' h9
              obtain ⟨rfl, e', cap', g', he, hg', rfl⟩ := h9
              obtain ⟨a1, q3⟩ := zLi_add (mc' := 0) (m2 := mc + 1) l1 l2 l3 (Or.inr (Or.inr rfl)) he hg'
              obtain ⟨G10, hG10⟩ : ∃ G10, G10 = zup (zup G9 e' (.inl (5, cap', .inr (.inr (.inr (.inr g')))))) lm2 (.inr (13, [.int (mc + 1), .ref e', .int (nI (k + 1))])) := ⟨_, rfl⟩
              rw [← hG10] at a1 q3
              refine z_heap hG10.symm ?_
              have MM10 := zMs_add MM9 q3 (fun k h1 h2 => by omega) (by omega) a1 (v1.kp (show c2 + 40 + k ≠ c2 + 3 ∧ c2 + 40 + k ≠ c2 + 3 + 3 by omega) q3) (v2.kp (show c2 + 50 + k ≠ c2 + 3 ∧ c2 + 50 + k ≠ c2 + 3 + 3 by omega) q3) s3
              have q9 : zkee (fun x => x ≠ 2 ∧ x ≠ c2 + 3 ∧ x ≠ c2 + 3 + 3) G7 χ7 G10 (zcol χ9 e' (c2 + 3 + 3)) := ((q1.mono (fun x hx => hx.1)).trans (q2.mono (fun _ _ => trivial))).trans (q3.mono (fun x hx => hx.2))
              refine z_pop C dX2_copy_100 rfl ?_
              refine z_goto (tgt := 70) C dX2_copy_101 (by decide) ?_
              exact z_convG (ih70 (k + 1) G10 _ _ _ _ (by omega) (j2.trans (q9.mono (fun x hx => by have h1 := hx.1; have h2 := hx.2; omega))) (j3.kp (show c2 ≠ 2 ∧ c2 ≠ c2 + 3 ∧ c2 ≠ c2 + 3 + 3 by omega) q9) (j4.kp (P := fun x => x ≠ 2 ∧ x ≠ c2 + 3 ∧ x ≠ c2 + 3 + 3) (by omega) (by omega) (by omega) q9 (fun _ _ _ => rfl)) (j5.kp (P := fun x => x ≠ 2 ∧ x ≠ c2 + 3 ∧ x ≠ c2 + 3 + 3) (by omega) (by omega) (fun j hj => ⟨by omega, by omega⟩) q9 (fun _ _ _ => rfl) hcn) MM10 ((I8.kp trivial q2).kp (show 2 ≠ c2 + 3 ∧ 2 ≠ c2 + 3 + 3 by omega) q3) (j8.kp (P := fun x => x ≠ 2 ∧ x ≠ c2 + 3 ∧ x ≠ c2 + 3 + 3) (by omega) (by omega) q9) (by omega)) (And.intro rfl (And.intro rfl (And.intro rfl trivial))) (by simp only [zrc, zr]; omega) (by simp only [zrc, zr]; omega)
        exact z_convG (lp70 9 0 _ (zcol χ3 it2 2) va va (.int (-1)) (by omega) (i2.trans (N7.mono (fun _ _ => trivial))) (i3.kp trivial N7) (i4.kp (P := fun _ => True) trivial trivial trivial N7 (fun _ _ _ => rfl)) (i5.kp (P := fun _ => True) trivial trivial (fun _ _ => ⟨trivial, trivial⟩) N7 (fun _ _ _ => rfl) hcn) ⟨(i6 va).kp (P := fun _ => True) trivial trivial N7, fun j hj => absurd hj (Nat.not_lt_zero _)⟩ (zo.newc hit2) (i8.kp (P := fun _ => True) trivial trivial N7) (by omega)) (And.intro (rfl) (And.intro (rfl) (And.intro (rfl) trivial))) (by simp only [zrc, zr]; omega) (by simp only [zrc, zr]; omega)
      · have hlt : i < ns := by
          have := zb_ne.mp c_34
          omega
        refine z_aload_n (i := 2) C dX2_copy_37 rfl rfl ?_
        refine z_callFe (x := ⟨"java/util/Iterator", "next", "()Ljava/lang/Object;"⟩) (C0 := "java/util/ArrayList$Itr") (np := 0) C (i7.1) rfl (by decide) (ct_J22_next D B ls ns sa mcs es1 caps gs it1 i lr lsZ i7.1 hlt) q636 q639 q641 q115 q643 ⟨by decide +kernel, by decide +kernel, by decide +kernel⟩ (zr_ok rfl rfl) rfl rfl (Nat.le_of_ble_eq_true rfl) (⟨by simp only [zrc, zr]; omega, by simp only [zrc, zr]; omega⟩) dX2_copy_38 ?_
        have q1 : zkee (fun x => x ≠ 2) G3 χ3 (zup G3 it1 (.inr (14, [.int (nI (i + 1)), .int (nI i), .int mcs, .ref ls]))) χ3 := zkee.put i7.2 (fun h => h rfl)
        obtain ⟨G4, hG4⟩ : ∃ G4, G4 = zup G3 it1 (.inr (14, [.int (nI (i + 1)), .int (nI i), .int mcs, .ref ls])) := ⟨_, rfl⟩
        have I4 : zo G4 χ3 2 it1 (.inr (14, [.int (nI (i + 1)), .int (nI i), .int mcs, .ref ls])) := by rw [hG4]; exact i7.put
        rw [← hG4] at q1
        refine z_heap hG4.symm ?_
        have K4 : zkee (zPc c2) G χ G4 χ3 := i2.trans (q1.mono (fun x hx => hx.1))
        obtain ⟨s1, w, s2, s3⟩ := ts i hlt
        obtain ⟨-, n4, n41, n42, e4s⟩ := g.sn i (by omega) (by rw [es]; exact nI_lt hlt (by omega))
        have y1 := (s1.kp (PC _ (by omega)) K4).1
        have y2 := (s2.kp (PC _ (by omega)) K4).1
        unfold zsE at y1
        rw [e4s] at y1
        have A4 := i3.kp (show c2 ≠ 2 by omega) q1
        refine z_castS (ci := 5) C (y1) rfl q649 dX2_copy_43 ?_
        refine z_astore_n (i := 3) C dX2_copy_46 rfl (Nat.le_of_ble_eq_true rfl) rfl ?_
        refine z_aload_n (i := 1) C dX2_copy_47 rfl rfl ?_
        refine z_getf (ci := 1) (k := 1) C (A4.1) rfl rfl q511 dX2_copy_48 ?_
        refine z_aload_n (i := 3) C dX2_copy_51 rfl rfl ?_
        refine z_callVn C (y1) rfl (ct_X6_copy D B (sa i) (ua i) (va (zsv S i)) n4 _ _ _ w y1 y2 n42) q1829 q1830 q1831 q111 q1832 np_X6_copy (zr_ok rfl rfl) rfl rfl (Nat.le_of_ble_eq_true rfl) (⟨by simp only [zrc, zr]; omega, by simp only [zrc, zr]; omega⟩) dX2_copy_52 ?_
        intro v9 G9 h9
        obtain ⟨x2, u2, w2, rfl, hx2, hu2, nux, hw2, rfl⟩ := h9
        obtain ⟨χ5, hχ5⟩ : ∃ χ5, χ5 = zcol (zcol χ3 u2 (c2 + 30 + i)) x2 (c2 + 20 + i) := ⟨_, rfl⟩
        have q2 : zkee (fun _ => True) G4 χ3 (zup (zup G4 u2 (.inl (0, 16, .inl w2))) x2 (.inr (5, [.ref (va (zsv S i)), .int (S (28 + 21 * i + 1)), .int (S (28 + 21 * i + 2)), .int (S (28 + 21 * i + 3)), .ref u2, .int (nI n4)]))) χ5 := by rw [hχ5]; exact (zkee.new hu2).trans (zkee.new ((zup_n (fun z => nux z.symm)).trans hx2))
        obtain ⟨G5, hG5⟩ : ∃ G5, G5 = zup (zup G4 u2 (.inl (0, 16, .inl w2))) x2 (.inr (5, [.ref (va (zsv S i)), .int (S (28 + 21 * i + 1)), .int (S (28 + 21 * i + 2)), .int (S (28 + 21 * i + 3)), .ref u2, .int (nI n4)])) := ⟨_, rfl⟩
        have v1 : zo G5 χ5 (c2 + 20 + i) x2 (.inr (5, [.ref (va (zsv S i)), .int (S (28 + 21 * i + 1)), .int (S (28 + 21 * i + 2)), .int (S (28 + 21 * i + 3)), .ref u2, .int (nI n4)])) := by rw [hG5, hχ5]; exact ⟨zup_s, if_pos rfl⟩
        have v2 : zo G5 χ5 (c2 + 30 + i) u2 (.inl (0, 16, .inl w2)) := by rw [hG5, hχ5]; exact ⟨(zup_n nux).trans zup_s, (if_neg nux).trans (if_pos rfl)⟩
        rw [← hG5] at q2
        refine z_heap hG5.symm ?_
        have SS5 : zSs G5 χ5 c2 ls2 i sa2 ua2 va S := by
          refine ⟨((i5.1).kp (show c2 + 2 ≠ 2 by omega) (show c2 + 3 + 2 ≠ 2 by omega) q1).kp (P := fun _ => True) trivial trivial q2, fun j hj => ?_⟩
          obtain ⟨z1, w9, z2, z3⟩ := i5.2 j hj
          exact ⟨(z1.kp (show c2 + 20 + j ≠ 2 by omega) q1).kp trivial q2, w9, (z2.kp (show c2 + 30 + j ≠ 2 by omega) q1).kp trivial q2, z3⟩
        obtain ⟨⟨mc, e, cap, gg, l1, l2, l3⟩, l4⟩ := id SS5
        refine z_callVn C (l1.1) rfl (ct_J2_add D B ls2 i sa2 mc e cap gg 5 "TrackArray$Source" TX6 6 x2 _ v1.1 l1 (fun j hj => ⟨_, (l4 j hj).1.1⟩) (by omega) (by decide) rfl q2438) q1045 q1046 q1047 q87 q1048 np_J2_add (zr_ok rfl rfl) rfl rfl (Nat.le_of_ble_eq_true rfl) (⟨by simp only [zrc, zr]; omega, by simp only [zrc, zr]; omega⟩) dX2_copy_55 ?_
        intro v9 G9 h9
        obtain ⟨rfl, e', cap', g', he, hg', rfl⟩ := h9
        obtain ⟨a1, q3⟩ := zLi_add (mc' := 0) (m2 := mc + 1) l1 l2 l3 (Or.inr (Or.inl rfl)) he hg'
        obtain ⟨G6, hG6⟩ : ∃ G6, G6 = zup (zup G5 e' (.inl (5, cap', .inr (.inr (.inr (.inr g')))))) ls2 (.inr (13, [.int (mc + 1), .ref e', .int (nI (i + 1))])) := ⟨_, rfl⟩
        rw [← hG6] at a1 q3
        refine z_heap hG6.symm ?_
        have SS6 := zSs_add SS5 q3 (fun k h1 h2 => by omega) (by omega) a1 (by rw [e4s]; exact v1.kp (show c2 + 20 + i ≠ c2 + 2 ∧ c2 + 20 + i ≠ c2 + 3 + 2 by omega) q3) (v2.kp (show c2 + 30 + i ≠ c2 + 2 ∧ c2 + 30 + i ≠ c2 + 3 + 2 by omega) q3) (fun j hj => by
          rw [zct_of e4s (by omega)] at hj
          rw [hw2 j hj]
          exact s3 j (by rw [zct_of e4s (by omega)]; exact hj))
        have q9 : zkee (fun x => x ≠ 2 ∧ x ≠ c2 + 2 ∧ x ≠ c2 + 3 + 2) G3 χ3 G6 (zcol χ5 e' (c2 + 3 + 2)) := ((q1.mono (fun x hx => hx.1)).trans (q2.mono (fun _ _ => trivial))).trans (q3.mono (fun x hx => hx.2))
        refine z_pop C dX2_copy_58 rfl ?_
        refine z_goto (tgt := 28) C dX2_copy_59 (by decide) ?_
        exact z_convG (ih28 (i + 1) G6 _ _ _ _ (by omega) (i2.trans (q9.mono (fun x hx => by have h1 := hx.1; have h2 := hx.2; omega))) (i3.kp (show c2 ≠ 2 ∧ c2 ≠ c2 + 2 ∧ c2 ≠ c2 + 3 + 2 by omega) q9) (i4.kp (P := fun x => x ≠ 2 ∧ x ≠ c2 + 2 ∧ x ≠ c2 + 3 + 2) (by omega) (by omega) (by omega) q9 (fun _ _ _ => rfl)) SS6 (fun f => (i6 f).kp (P := fun x => x ≠ 2 ∧ x ≠ c2 + 2 ∧ x ≠ c2 + 3 + 2) (by omega) (by omega) q9) ((I4.kp trivial q2).kp (show 2 ≠ c2 + 2 ∧ 2 ≠ c2 + 3 + 2 by omega) q3) (i8.kp (P := fun x => x ≠ 2 ∧ x ≠ c2 + 2 ∧ x ≠ c2 + 3 + 2) (by omega) (by omega) q9) (by omega)) (And.intro rfl (And.intro rfl (And.intro rfl trivial))) (by simp only [zrc, zr]; omega) (by simp only [zrc, zr]; omega)
  exact z_convG (lp28 7 0 _ (zcol χ2 it1 2) va va (.int (-1)) (by omega) (K2.trans (N3.mono (fun _ _ => trivial))) (A2.kp trivial N3) (V2.kp (P := fun _ => True) trivial trivial trivial N3 (fun _ _ _ => rfl)) ⟨(Ls2 va).kp (P := fun _ => True) trivial trivial N3, fun j hj => absurd hj (Nat.not_lt_zero _)⟩ (fun f => (Lm2 f).kp (P := fun _ => True) trivial trivial N3) (zo.newc hit) (R2.kp (P := fun _ => True) trivial trivial N3) (by omega)) (And.intro (rfl) (And.intro (rfl) (And.intro (rfl) trivial))) (by simp only [zrc, zr]; omega) (by simp only [zrc, zr]; omega)
