/-! the twin: setting up -/
theorem zwI (b t1 : Prop) : True := trivial
set_option maxHeartbeats 4000000 in
set_option maxRecDepth 100000 in
theorem ct_X4_appendVehicle (D : zG) (B : Nat) {b : zH} {t : tA} {st : Nat → Int32} {bk : Nat → Int32} {sv : Nat → Int32} {iz : Nat → Int32} {th : Int32} {di : Nat → Int32} {re : Nat → Int32} {si : Nat → Int32} {pa : Nat → Int32} {fo : Nat → Int64} {te : Nat → Int32} {tl : Int32} {po : Int32} {ts : Int32} {to : Int32} {le : Int32} {nu : Int32} {ec : Int32} {ep : Int32} {wo : Int64} (x s y : Int32) (n : Nat) (hn : st 6 = nI n) (hn4 : n < 4) : Ct D B yX4_appendVehicle (ws_ yX4_appendVehicle cX4_appendVehicle 5 (some .int)) (zr 0) [.ref (t.1 0), .int x, .int s, .int y] (tw b t st bk sv iz th di re si pa fo te tl po ts to le nu ec ep wo) (zpe (some (.int (nI n))) (tw b t (upd (upd (upd (upd st (16 + 3 * n + 0) x) (16 + 3 * n + 1) s) (16 + 3 * n + 2) y) 6 (nI (n + 1))) bk sv iz th di re si pa fo te tl po ts to le nu ec ep wo)) zno := by
  refine ct_intro (by decide +kernel) (Nat.le_of_ble_eq_true rfl) ?_
  intro X C
  refine z_bipush (v := 16) C dX4_appendVehicle_0 (by decide) ?_
  refine z_iconst (v := 3) C dX4_appendVehicle_2 (by decide) ?_
  refine z_aload_n (i := 0) C dX4_appendVehicle_3 rfl rfl ?_
  refine tg_state C q1864 dX4_appendVehicle_4 ?_
  refine z_bipush (v := 6) C dX4_appendVehicle_7 (by decide) ?_
  refine tl_state C (⟨(rfl : (6 : Int32) = nI 6), by decide⟩) dX4_appendVehicle_9 ?_
  refine z_seti hn ?_
  refine z_imul C dX4_appendVehicle_10 ?_
  refine z_iadd C dX4_appendVehicle_11 ?_
  refine z_seti (y := nI (16 + 3 * n)) (zlin0 16 3 n) ?_
  refine z_istore C dX4_appendVehicle_12 (Nat.le_of_ble_eq_true rfl) rfl ?_
  refine z_aload_n (i := 0) C dX4_appendVehicle_14 rfl rfl ?_
  refine tg_state C q1864 dX4_appendVehicle_15 ?_
  refine z_iload C dX4_appendVehicle_18 rfl ?_
  refine z_iconst (v := 0) C dX4_appendVehicle_20 (by decide) ?_
  refine z_iadd C dX4_appendVehicle_21 ?_
  refine z_iload_n (i := 1) C dX4_appendVehicle_22 rfl rfl ?_
  refine ts_state C (zixI (nI_add (16 + 3 * n) 0) (by omega)) dX4_appendVehicle_23 ?_
  refine z_aload_n (i := 0) C dX4_appendVehicle_24 rfl rfl ?_
  refine tg_state C q1864 dX4_appendVehicle_25 ?_
  refine z_iload C dX4_appendVehicle_28 rfl ?_
  refine z_iconst (v := 1) C dX4_appendVehicle_30 (by decide) ?_
  refine z_iadd C dX4_appendVehicle_31 ?_
  refine z_iload_n (i := 2) C dX4_appendVehicle_32 rfl rfl ?_
  refine ts_state C (zixI (nI_add (16 + 3 * n) 1) (by omega)) dX4_appendVehicle_33 ?_
  refine z_aload_n (i := 0) C dX4_appendVehicle_34 rfl rfl ?_
  refine tg_state C q1864 dX4_appendVehicle_35 ?_
  refine z_iload C dX4_appendVehicle_38 rfl ?_
  refine z_iconst (v := 2) C dX4_appendVehicle_40 (by decide) ?_
  refine z_iadd C dX4_appendVehicle_41 ?_
  refine z_iload_n (i := 3) C dX4_appendVehicle_42 rfl rfl ?_
  refine ts_state C (zixI (nI_add (16 + 3 * n) 2) (by omega)) dX4_appendVehicle_43 ?_
  refine z_aload_n (i := 0) C dX4_appendVehicle_44 rfl rfl ?_
  refine tg_state C q1864 dX4_appendVehicle_45 ?_
  refine z_bipush (v := 6) C dX4_appendVehicle_48 (by decide) ?_
  refine z_dup2_11 C dX4_appendVehicle_50 rfl rfl ?_
  refine tl_state C (⟨(rfl : (6 : Int32) = nI 6), by decide⟩) dX4_appendVehicle_51 ?_
  refine z_seti (y := nI n) (by unfold upd; simp only [show ¬ (6 = 16 + 3 * n + 0) from by omega, show ¬ (6 = 16 + 3 * n + 1) from by omega, show ¬ (6 = 16 + 3 * n + 2) from by omega, if_false]; exact hn) ?_
  refine z_iconst (v := 1) C dX4_appendVehicle_52 (by decide) ?_
  refine z_iadd C dX4_appendVehicle_53 ?_
  refine z_seti (nI_1 n) ?_
  refine ts_state C (⟨(rfl : (6 : Int32) = nI 6), by decide⟩) dX4_appendVehicle_54 ?_
  refine z_aload_n (i := 0) C dX4_appendVehicle_55 rfl rfl ?_
  refine tg_state C q1864 dX4_appendVehicle_56 ?_
  refine z_bipush (v := 6) C dX4_appendVehicle_59 (by decide) ?_
  refine tl_state C (⟨(rfl : (6 : Int32) = nI 6), by decide⟩) dX4_appendVehicle_61 ?_
  refine z_seti (y := nI (n + 1)) (if_pos rfl) ?_
  refine z_iconst (v := 1) C dX4_appendVehicle_62 (by decide) ?_
  refine z_isub C dX4_appendVehicle_63 ?_
  refine z_seti (y := nI n) (pk_sub (b := 1) (by omega)) ?_
  exact z_ireturn C rfl (rfl) dX4_appendVehicle_64 (⟨rfl, rfl⟩) (Nat.le_of_ble_eq_true rfl) (Nat.le_of_ble_eq_true rfl)
set_option maxHeartbeats 4000000 in
set_option maxRecDepth 100000 in
theorem ct_X4_appendMicrophone (D : zG) (B : Nat) {b : zH} {t : tA} {st : Nat → Int32} {bk : Nat → Int32} {sv : Nat → Int32} {iz : Nat → Int32} {th : Int32} {di : Nat → Int32} {re : Nat → Int32} {si : Nat → Int32} {pa : Nat → Int32} {fo : Nat → Int64} {te : Nat → Int32} {tl : Int32} {po : Int32} {ts : Int32} {to : Int32} {le : Int32} {nu : Int32} {ec : Int32} {ep : Int32} {wo : Int64} (x y z w : Int32) (n : Nat) (hn : st 8 = nI n) (hn4 : n < 8) : Ct D B yX4_appendMicrophone (ws_ yX4_appendMicrophone cX4_appendMicrophone 6 (some .int)) (zr 0) [.ref (t.1 0), .int x, .int y, .int z, .int w] (tw b t st bk sv iz th di re si pa fo te tl po ts to le nu ec ep wo) (zpe (some (.int (nI n))) (tw b t (upd (upd (upd (upd (upd st (154 + 4 * n + 0) x) (154 + 4 * n + 1) y) (154 + 4 * n + 2) z) (154 + 4 * n + 3) w) 8 (nI (n + 1))) bk sv iz th di re si pa fo te tl po ts to le nu ec ep wo)) zno := by
  refine ct_intro (by decide +kernel) (Nat.le_of_ble_eq_true rfl) ?_
  intro X C
  refine z_sipush (v := 154) C dX4_appendMicrophone_0 (by decide) ?_
  refine z_iconst (v := 4) C dX4_appendMicrophone_3 (by decide) ?_
  refine z_aload_n (i := 0) C dX4_appendMicrophone_4 rfl rfl ?_
  refine tg_state C q1864 dX4_appendMicrophone_5 ?_
  refine z_bipush (v := 8) C dX4_appendMicrophone_8 (by decide) ?_
  refine tl_state C (⟨(rfl : (8 : Int32) = nI 8), by decide⟩) dX4_appendMicrophone_10 ?_
  refine z_seti hn ?_
  refine z_imul C dX4_appendMicrophone_11 ?_
  refine z_iadd C dX4_appendMicrophone_12 ?_
  refine z_seti (y := nI (154 + 4 * n)) (zlin0 154 4 n) ?_
  refine z_istore C dX4_appendMicrophone_13 (Nat.le_of_ble_eq_true rfl) rfl ?_
  refine z_aload_n (i := 0) C dX4_appendMicrophone_15 rfl rfl ?_
  refine tg_state C q1864 dX4_appendMicrophone_16 ?_
  refine z_iload C dX4_appendMicrophone_19 rfl ?_
  refine z_iconst (v := 0) C dX4_appendMicrophone_21 (by decide) ?_
  refine z_iadd C dX4_appendMicrophone_22 ?_
  refine z_iload_n (i := 1) C dX4_appendMicrophone_23 rfl rfl ?_
  refine ts_state C (zixI (nI_add (154 + 4 * n) 0) (by omega)) dX4_appendMicrophone_24 ?_
  refine z_aload_n (i := 0) C dX4_appendMicrophone_25 rfl rfl ?_
  refine tg_state C q1864 dX4_appendMicrophone_26 ?_
  refine z_iload C dX4_appendMicrophone_29 rfl ?_
  refine z_iconst (v := 1) C dX4_appendMicrophone_31 (by decide) ?_
  refine z_iadd C dX4_appendMicrophone_32 ?_
  refine z_iload_n (i := 2) C dX4_appendMicrophone_33 rfl rfl ?_
  refine ts_state C (zixI (nI_add (154 + 4 * n) 1) (by omega)) dX4_appendMicrophone_34 ?_
  refine z_aload_n (i := 0) C dX4_appendMicrophone_35 rfl rfl ?_
  refine tg_state C q1864 dX4_appendMicrophone_36 ?_
  refine z_iload C dX4_appendMicrophone_39 rfl ?_
  refine z_iconst (v := 2) C dX4_appendMicrophone_41 (by decide) ?_
  refine z_iadd C dX4_appendMicrophone_42 ?_
  refine z_iload_n (i := 3) C dX4_appendMicrophone_43 rfl rfl ?_
  refine ts_state C (zixI (nI_add (154 + 4 * n) 2) (by omega)) dX4_appendMicrophone_44 ?_
  refine z_aload_n (i := 0) C dX4_appendMicrophone_45 rfl rfl ?_
  refine tg_state C q1864 dX4_appendMicrophone_46 ?_
  refine z_iload C dX4_appendMicrophone_49 rfl ?_
  refine z_iconst (v := 3) C dX4_appendMicrophone_51 (by decide) ?_
  refine z_iadd C dX4_appendMicrophone_52 ?_
  refine z_iload C dX4_appendMicrophone_53 rfl ?_
  refine ts_state C (zixI (nI_add (154 + 4 * n) 3) (by omega)) dX4_appendMicrophone_55 ?_
  refine z_aload_n (i := 0) C dX4_appendMicrophone_56 rfl rfl ?_
  refine tg_state C q1864 dX4_appendMicrophone_57 ?_
  refine z_bipush (v := 8) C dX4_appendMicrophone_60 (by decide) ?_
  refine z_dup2_11 C dX4_appendMicrophone_62 rfl rfl ?_
  refine tl_state C (⟨(rfl : (8 : Int32) = nI 8), by decide⟩) dX4_appendMicrophone_63 ?_
  refine z_seti (y := nI n) (by unfold upd; simp only [show ¬ (8 = 154 + 4 * n + 0) from by omega, show ¬ (8 = 154 + 4 * n + 1) from by omega, show ¬ (8 = 154 + 4 * n + 2) from by omega, show ¬ (8 = 154 + 4 * n + 3) from by omega, if_false]; exact hn) ?_
  refine z_iconst (v := 1) C dX4_appendMicrophone_64 (by decide) ?_
  refine z_iadd C dX4_appendMicrophone_65 ?_
  refine z_seti (nI_1 n) ?_
  refine ts_state C (⟨(rfl : (8 : Int32) = nI 8), by decide⟩) dX4_appendMicrophone_66 ?_
  refine z_aload_n (i := 0) C dX4_appendMicrophone_67 rfl rfl ?_
  refine tg_state C q1864 dX4_appendMicrophone_68 ?_
  refine z_bipush (v := 8) C dX4_appendMicrophone_71 (by decide) ?_
  refine tl_state C (⟨(rfl : (8 : Int32) = nI 8), by decide⟩) dX4_appendMicrophone_73 ?_
  refine z_seti (y := nI (n + 1)) (if_pos rfl) ?_
  refine z_iconst (v := 1) C dX4_appendMicrophone_74 (by decide) ?_
  refine z_isub C dX4_appendMicrophone_75 ?_
  refine z_seti (y := nI n) (pk_sub (b := 1) (by omega)) ?_
  exact z_ireturn C rfl (rfl) dX4_appendMicrophone_76 (⟨rfl, rfl⟩) (Nat.le_of_ble_eq_true rfl) (Nat.le_of_ble_eq_true rfl)
set_option maxHeartbeats 4000000 in
set_option maxRecDepth 100000 in
theorem ct_X4_appendSource (D : zG) (B : Nat) {b : zH} {t : tA} {st : Nat → Int32} {bk : Nat → Int32} {sv : Nat → Int32} {iz : Nat → Int32} {th : Int32} {di : Nat → Int32} {re : Nat → Int32} {si : Nat → Int32} {pa : Nat → Int32} {fo : Nat → Int64} {te : Nat → Int32} {tl : Int32} {po : Int32} {ts : Int32} {to : Int32} {le : Int32} {nu : Int32} {ec : Int32} {ep : Int32} {wo : Int64} (v o z s : Int32) (n : Nat) (hn : st 7 = nI n) (hn4 : n < 6) : Ct D B yX4_appendSource (ws_ yX4_appendSource cX4_appendSource 6 (some .int)) (zr 0) [.ref (t.1 0), .int v, .int o, .int z, .int s] (tw b t st bk sv iz th di re si pa fo te tl po ts to le nu ec ep wo) (zpe (some (.int (nI n))) (tw b t (upd (upd (upd (upd (upd (upd st (28 + 21 * n + 0) v) (28 + 21 * n + 1) o) (28 + 21 * n + 2) z) (28 + 21 * n + 3) s) (28 + 21 * n + 4) 0) 7 (nI (n + 1))) bk sv iz th di re si pa fo te tl po ts to le nu ec ep wo)) zno := by
  refine ct_intro (by decide +kernel) (Nat.le_of_ble_eq_true rfl) ?_
  intro X C
  refine z_bipush (v := 28) C dX4_appendSource_0 (by decide) ?_
  refine z_bipush (v := 21) C dX4_appendSource_2 (by decide) ?_
  refine z_aload_n (i := 0) C dX4_appendSource_4 rfl rfl ?_
  refine tg_state C q1864 dX4_appendSource_5 ?_
  refine z_bipush (v := 7) C dX4_appendSource_8 (by decide) ?_
  refine tl_state C (⟨(rfl : (7 : Int32) = nI 7), by decide⟩) dX4_appendSource_10 ?_
  refine z_seti hn ?_
  refine z_imul C dX4_appendSource_11 ?_
  refine z_iadd C dX4_appendSource_12 ?_
  refine z_seti (y := nI (28 + 21 * n)) (zlin0 28 21 n) ?_
  refine z_istore C dX4_appendSource_13 (Nat.le_of_ble_eq_true rfl) rfl ?_
  refine z_aload_n (i := 0) C dX4_appendSource_15 rfl rfl ?_
  refine tg_state C q1864 dX4_appendSource_16 ?_
  refine z_iload C dX4_appendSource_19 rfl ?_
  refine z_iconst (v := 0) C dX4_appendSource_21 (by decide) ?_
  refine z_iadd C dX4_appendSource_22 ?_
  refine z_iload_n (i := 1) C dX4_appendSource_23 rfl rfl ?_
  refine ts_state C (zixI (nI_add (28 + 21 * n) 0) (by omega)) dX4_appendSource_24 ?_
  refine z_aload_n (i := 0) C dX4_appendSource_25 rfl rfl ?_
  refine tg_state C q1864 dX4_appendSource_26 ?_
  refine z_iload C dX4_appendSource_29 rfl ?_
  refine z_iconst (v := 1) C dX4_appendSource_31 (by decide) ?_
  refine z_iadd C dX4_appendSource_32 ?_
  refine z_iload_n (i := 2) C dX4_appendSource_33 rfl rfl ?_
  refine ts_state C (zixI (nI_add (28 + 21 * n) 1) (by omega)) dX4_appendSource_34 ?_
  refine z_aload_n (i := 0) C dX4_appendSource_35 rfl rfl ?_
  refine tg_state C q1864 dX4_appendSource_36 ?_
  refine z_iload C dX4_appendSource_39 rfl ?_
  refine z_iconst (v := 2) C dX4_appendSource_41 (by decide) ?_
  refine z_iadd C dX4_appendSource_42 ?_
  refine z_iload_n (i := 3) C dX4_appendSource_43 rfl rfl ?_
  refine ts_state C (zixI (nI_add (28 + 21 * n) 2) (by omega)) dX4_appendSource_44 ?_
  refine z_aload_n (i := 0) C dX4_appendSource_45 rfl rfl ?_
  refine tg_state C q1864 dX4_appendSource_46 ?_
  refine z_iload C dX4_appendSource_49 rfl ?_
  refine z_iconst (v := 3) C dX4_appendSource_51 (by decide) ?_
  refine z_iadd C dX4_appendSource_52 ?_
  refine z_iload C dX4_appendSource_53 rfl ?_
  refine ts_state C (zixI (nI_add (28 + 21 * n) 3) (by omega)) dX4_appendSource_55 ?_
  refine z_aload_n (i := 0) C dX4_appendSource_56 rfl rfl ?_
  refine tg_state C q1864 dX4_appendSource_57 ?_
  refine z_iload C dX4_appendSource_60 rfl ?_
  refine z_iconst (v := 4) C dX4_appendSource_62 (by decide) ?_
  refine z_iadd C dX4_appendSource_63 ?_
  refine z_iconst (v := 0) C dX4_appendSource_64 (by decide) ?_
  refine ts_state C (zixI (nI_add (28 + 21 * n) 4) (by omega)) dX4_appendSource_65 ?_
  refine z_aload_n (i := 0) C dX4_appendSource_66 rfl rfl ?_
  refine tg_state C q1864 dX4_appendSource_67 ?_
  refine z_bipush (v := 7) C dX4_appendSource_70 (by decide) ?_
  refine z_dup2_11 C dX4_appendSource_72 rfl rfl ?_
  refine tl_state C (⟨(rfl : (7 : Int32) = nI 7), by decide⟩) dX4_appendSource_73 ?_
  refine z_seti (y := nI n) (by unfold upd; simp only [show ¬ (7 = 28 + 21 * n + 0) from by omega, show ¬ (7 = 28 + 21 * n + 1) from by omega, show ¬ (7 = 28 + 21 * n + 2) from by omega, show ¬ (7 = 28 + 21 * n + 3) from by omega, show ¬ (7 = 28 + 21 * n + 4) from by omega, if_false]; exact hn) ?_
  refine z_iconst (v := 1) C dX4_appendSource_74 (by decide) ?_
  refine z_iadd C dX4_appendSource_75 ?_
  refine z_seti (nI_1 n) ?_
  refine ts_state C (⟨(rfl : (7 : Int32) = nI 7), by decide⟩) dX4_appendSource_76 ?_
  refine z_aload_n (i := 0) C dX4_appendSource_77 rfl rfl ?_
  refine tg_state C q1864 dX4_appendSource_78 ?_
  refine z_bipush (v := 7) C dX4_appendSource_81 (by decide) ?_
  refine tl_state C (⟨(rfl : (7 : Int32) = nI 7), by decide⟩) dX4_appendSource_83 ?_
  refine z_seti (y := nI (n + 1)) (if_pos rfl) ?_
  refine z_iconst (v := 1) C dX4_appendSource_84 (by decide) ?_
  refine z_isub C dX4_appendSource_85 ?_
  refine z_seti (y := nI n) (pk_sub (b := 1) (by omega)) ?_
  exact z_ireturn C rfl (rfl) dX4_appendSource_86 (⟨rfl, rfl⟩) (Nat.le_of_ble_eq_true rfl) (Nat.le_of_ble_eq_true rfl)
set_option maxHeartbeats 4000000 in
set_option maxRecDepth 100000 in
theorem ct_X4_appendValue (D : zG) (B : Nat) {b : zH} {t : tA} {st : Nat → Int32} {bk : Nat → Int32} {sv : Nat → Int32} {iz : Nat → Int32} {th : Int32} {di : Nat → Int32} {re : Nat → Int32} {si : Nat → Int32} {pa : Nat → Int32} {fo : Nat → Int64} {te : Nat → Int32} {tl : Int32} {po : Int32} {ts : Int32} {to : Int32} {le : Int32} {nu : Int32} {ec : Int32} {ep : Int32} {wo : Int64} (k : Nat) (x : Int32) (hk : k < 6) (n : Nat) (hn : st (28 + 21 * k + 4) = nI n) (hn16 : n < 16) : Ct D B yX4_appendValue (ws_ yX4_appendValue cX4_appendValue 4 (some .int)) (zr 0) [.ref (t.1 0), .int (nI k), .int x] (tw b t st bk sv iz th di re si pa fo te tl po ts to le nu ec ep wo) (zpe (some (.int (nI (n + 1)))) (tw b t (upd (upd st (28 + 21 * k + 5 + n) x) (28 + 21 * k + 4) (nI (n + 1))) bk sv iz th di re si pa fo te tl po ts to le nu ec ep wo)) zno := by
  refine ct_intro (by decide +kernel) (Nat.le_of_ble_eq_true rfl) ?_
  intro X C
  refine z_bipush (v := 28) C dX4_appendValue_0 (by decide) ?_
  refine z_bipush (v := 21) C dX4_appendValue_2 (by decide) ?_
  refine z_iload_n (i := 1) C dX4_appendValue_4 rfl rfl ?_
  refine z_imul C dX4_appendValue_5 ?_
  refine z_iadd C dX4_appendValue_6 ?_
  refine z_seti (y := nI (28 + 21 * k)) (zlin0 28 21 k) ?_
  refine z_istore_n (i := 3) C dX4_appendValue_7 rfl (Nat.le_of_ble_eq_true rfl) rfl ?_
  refine z_aload_n (i := 0) C dX4_appendValue_8 rfl rfl ?_
  refine tg_state C q1864 dX4_appendValue_9 ?_
  refine z_iload_n (i := 3) C dX4_appendValue_12 rfl rfl ?_
  refine z_iconst (v := 5) C dX4_appendValue_13 (by decide) ?_
  refine z_iadd C dX4_appendValue_14 ?_
  refine z_seti (y := nI (28 + 21 * k + 5)) (nI_add _ 5) ?_
  refine z_aload_n (i := 0) C dX4_appendValue_15 rfl rfl ?_
  refine tg_state C q1864 dX4_appendValue_16 ?_
  refine z_iload_n (i := 3) C dX4_appendValue_19 rfl rfl ?_
  refine z_iconst (v := 4) C dX4_appendValue_20 (by decide) ?_
  refine z_iadd C dX4_appendValue_21 ?_
  refine tl_state C (zixI (nI_add (28 + 21 * k) 4) (by omega)) dX4_appendValue_22 ?_
  refine z_seti hn ?_
  refine z_iadd C dX4_appendValue_23 ?_
  refine z_iload_n (i := 2) C dX4_appendValue_24 rfl rfl ?_
  refine ts_state C (zixI (nI_add (28 + 21 * k + 5) n) (by omega)) dX4_appendValue_25 ?_
  refine z_aload_n (i := 0) C dX4_appendValue_26 rfl rfl ?_
  refine tg_state C q1864 dX4_appendValue_27 ?_
  refine z_iload_n (i := 3) C dX4_appendValue_30 rfl rfl ?_
  refine z_iconst (v := 4) C dX4_appendValue_31 (by decide) ?_
  refine z_iadd C dX4_appendValue_32 ?_
  refine z_dup2_11 C dX4_appendValue_33 rfl rfl ?_
  refine tl_state C (zixI (nI_add (28 + 21 * k) 4) (by omega)) dX4_appendValue_34 ?_
  refine z_seti (y := nI n) (by unfold upd; rw [if_neg (by omega)]; exact hn) ?_
  refine z_iconst (v := 1) C dX4_appendValue_35 (by decide) ?_
  refine z_iadd C dX4_appendValue_36 ?_
  refine z_seti (nI_1 n) ?_
  refine ts_state C (zixI (nI_add (28 + 21 * k) 4) (by omega)) dX4_appendValue_37 ?_
  refine z_aload_n (i := 0) C dX4_appendValue_38 rfl rfl ?_
  refine tg_state C q1864 dX4_appendValue_39 ?_
  refine z_iload_n (i := 3) C dX4_appendValue_42 rfl rfl ?_
  refine z_iconst (v := 4) C dX4_appendValue_43 (by decide) ?_
  refine z_iadd C dX4_appendValue_44 ?_
  refine tl_state C (zixI (nI_add (28 + 21 * k) 4) (by omega)) dX4_appendValue_45 ?_
  refine z_seti (y := nI (n + 1)) (if_pos rfl) ?_
  exact z_ireturn C rfl (rfl) dX4_appendValue_46 (⟨rfl, rfl⟩) (Nat.le_of_ble_eq_true rfl) (Nat.le_of_ble_eq_true rfl)
theorem np_X4_replace : znp yX4_replace 2 := ⟨by decide +kernel, by decide +kernel, by decide +kernel⟩
theorem np_X4_fail : znp yX4_fail 1 := ⟨by decide +kernel, by decide +kernel, by decide +kernel⟩
set_option maxHeartbeats 4000000 in
set_option maxRecDepth 100000 in
theorem ct_X4_setSound_ok (D : zG) (B : Nat) {b : zH} {t : tA} {st : Nat → Int32} {bk : Nat → Int32} {sv : Nat → Int32} {iz : Nat → Int32} {th : Int32} {di : Nat → Int32} {re : Nat → Int32} {si : Nat → Int32} {pa : Nat → Int32} {fo : Nat → Int64} {te : Nat → Int32} {tl : Int32} {po : Int32} {ts : Int32} {to : Int32} {le : Int32} {nu : Int32} {ec : Int32} {ep : Int32} {wo : Int64} (x : Int32) (h : 100 ≤ x ∧ x ≤ 1000) : Ct D B yX4_setSound (ws_ yX4_setSound cX4_setSound 2 (some .int)) (zr 1) [.ref (t.1 0), .int x] (tw b t st bk sv iz th di re si pa fo te tl po ts to le nu ec ep wo) (zpe (some (.int (st 0))) (tw b t (upd st 0 x) bk sv iz 0 di re si pa fo te tl po ts to le nu ec ep wo)) zno := by
  refine ct_intro (by decide +kernel) (Nat.le_of_ble_eq_true rfl) ?_
  intro X C
  refine z_aload_n (i := 0) C dX4_setSound_0 rfl rfl ?_
  refine z_iconst (v := 0) C dX4_setSound_1 (by decide) ?_
  refine tp_thrown C q1868 dX4_setSound_2 ?_
  refine z_iload_n (i := 1) C dX4_setSound_5 rfl rfl ?_
  refine z_bipush (v := 100) C dX4_setSound_6 (by decide) ?_
  refine z_sipush (v := 1000) C dX4_setSound_8 (by decide) ?_
  refine z_callSe C (ct_X4_isBetween D B _ _ _) q1934 q1935 q106 q1936 np_X4_isBetween (zr_ok rfl rfl) rfl rfl (Nat.le_of_ble_eq_true rfl) (⟨Nat.le_of_ble_eq_true rfl, Nat.le_of_ble_eq_true rfl⟩) dX4_setSound_11 ?_
  refine z_seti (zb_t (h)) ?_
  refine z_if_eq (tgt := 26) C dX4_setSound_14 (by decide) (fun c_14 => ?_) (fun c_14 => ?_)
  · exact absurd c_14 (by decide)
  · refine z_aload_n (i := 0) C dX4_setSound_17 rfl rfl ?_
    refine z_iconst (v := 0) C dX4_setSound_18 (by decide) ?_
    refine z_iload_n (i := 1) C dX4_setSound_19 rfl rfl ?_
    refine z_callVe C (tw_obj) rfl (ct_X4_replace D B 0 x (by decide)) q1937 q1939 qs25 q106 q1940 np_X4_replace (zr_ok rfl rfl) rfl rfl (Nat.le_of_ble_eq_true rfl) (⟨Nat.le_of_ble_eq_true rfl, Nat.le_of_ble_eq_true rfl⟩) dX4_setSound_20 ?_
    refine z_goto (tgt := 31) C dX4_setSound_23 (by decide) ?_
    exact z_ireturn C rfl (rfl) dX4_setSound_31 (⟨rfl, rfl⟩) (Nat.le_of_ble_eq_true rfl) (Nat.le_of_ble_eq_true rfl)
set_option maxHeartbeats 4000000 in
set_option maxRecDepth 100000 in
theorem ct_X4_setSound_1 (D : zG) (B : Nat) {b : zH} {t : tA} {st : Nat → Int32} {bk : Nat → Int32} {sv : Nat → Int32} {iz : Nat → Int32} {th : Int32} {di : Nat → Int32} {re : Nat → Int32} {si : Nat → Int32} {pa : Nat → Int32} {fo : Nat → Int64} {te : Nat → Int32} {tl : Int32} {po : Int32} {ts : Int32} {to : Int32} {le : Int32} {nu : Int32} {ec : Int32} {ep : Int32} {wo : Int64} (x : Int32) (h : ¬ (100 ≤ x ∧ x ≤ 1000)) : Ct D B yX4_setSound (ws_ yX4_setSound cX4_setSound 2 (some .int)) (zr 1) [.ref (t.1 0), .int x] (tw b t st bk sv iz th di re si pa fo te tl po ts to le nu ec ep wo) (zpe (some (.int (0))) (tw b t st bk sv iz 1 di re si pa fo te tl po ts to le nu ec ep wo)) zno := by
  refine ct_intro (by decide +kernel) (Nat.le_of_ble_eq_true rfl) ?_
  intro X C
  refine z_aload_n (i := 0) C dX4_setSound_0 rfl rfl ?_
  refine z_iconst (v := 0) C dX4_setSound_1 (by decide) ?_
  refine tp_thrown C q1868 dX4_setSound_2 ?_
  refine z_iload_n (i := 1) C dX4_setSound_5 rfl rfl ?_
  refine z_bipush (v := 100) C dX4_setSound_6 (by decide) ?_
  refine z_sipush (v := 1000) C dX4_setSound_8 (by decide) ?_
  refine z_callSe C (ct_X4_isBetween D B _ _ _) q1934 q1935 q106 q1936 np_X4_isBetween (zr_ok rfl rfl) rfl rfl (Nat.le_of_ble_eq_true rfl) (⟨Nat.le_of_ble_eq_true rfl, Nat.le_of_ble_eq_true rfl⟩) dX4_setSound_11 ?_
  refine z_seti (zb_f (h)) ?_
  refine z_if_eq (tgt := 26) C dX4_setSound_14 (by decide) (fun c_14 => ?_) (fun c_14 => ?_)
  · refine z_aload_n (i := 0) C dX4_setSound_26 rfl rfl ?_
    refine z_iconst (v := 1) C dX4_setSound_27 (by decide) ?_
    refine z_callVe C (tw_obj) rfl (ct_X4_fail D B _) q1941 q1943 qs26 q106 q1944 np_X4_fail (zr_ok rfl rfl) rfl rfl (Nat.le_of_ble_eq_true rfl) (⟨Nat.le_of_ble_eq_true rfl, Nat.le_of_ble_eq_true rfl⟩) dX4_setSound_28 ?_
    exact z_ireturn C rfl (rfl) dX4_setSound_31 (⟨rfl, rfl⟩) (Nat.le_of_ble_eq_true rfl) (Nat.le_of_ble_eq_true rfl)
  · exact absurd rfl c_14
set_option maxHeartbeats 4000000 in
set_option maxRecDepth 100000 in
theorem ct_X4_setGround_ok (D : zG) (B : Nat) {b : zH} {t : tA} {st : Nat → Int32} {bk : Nat → Int32} {sv : Nat → Int32} {iz : Nat → Int32} {th : Int32} {di : Nat → Int32} {re : Nat → Int32} {si : Nat → Int32} {pa : Nat → Int32} {fo : Nat → Int64} {te : Nat → Int32} {tl : Int32} {po : Int32} {ts : Int32} {to : Int32} {le : Int32} {nu : Int32} {ec : Int32} {ep : Int32} {wo : Int64} (x : Int32) (h : -90 ≤ x ∧ x ≤ 90) : Ct D B yX4_setGround (ws_ yX4_setGround cX4_setGround 2 (some .int)) (zr 1) [.ref (t.1 0), .int x] (tw b t st bk sv iz th di re si pa fo te tl po ts to le nu ec ep wo) (zpe (some (.int (st 1))) (tw b t (upd st 1 x) bk sv iz 0 di re si pa fo te tl po ts to le nu ec ep wo)) zno := by
  refine ct_intro (by decide +kernel) (Nat.le_of_ble_eq_true rfl) ?_
  intro X C
  refine z_aload_n (i := 0) C dX4_setGround_0 rfl rfl ?_
  refine z_iconst (v := 0) C dX4_setGround_1 (by decide) ?_
  refine tp_thrown C q1868 dX4_setGround_2 ?_
  refine z_iload_n (i := 1) C dX4_setGround_5 rfl rfl ?_
  refine z_bipush (v := (-90)) C dX4_setGround_6 (by decide) ?_
  refine z_bipush (v := 90) C dX4_setGround_8 (by decide) ?_
  refine z_callSe C (ct_X4_isBetween D B _ _ _) q1934 q1935 q106 q1936 np_X4_isBetween (zr_ok rfl rfl) rfl rfl (Nat.le_of_ble_eq_true rfl) (⟨Nat.le_of_ble_eq_true rfl, Nat.le_of_ble_eq_true rfl⟩) dX4_setGround_10 ?_
  refine z_seti (zb_t (h)) ?_
  refine z_if_eq (tgt := 25) C dX4_setGround_13 (by decide) (fun c_13 => ?_) (fun c_13 => ?_)
  · exact absurd c_13 (by decide)
  · refine z_aload_n (i := 0) C dX4_setGround_16 rfl rfl ?_
    refine z_iconst (v := 1) C dX4_setGround_17 (by decide) ?_
    refine z_iload_n (i := 1) C dX4_setGround_18 rfl rfl ?_
    refine z_callVe C (tw_obj) rfl (ct_X4_replace D B 1 x (by decide)) q1937 q1939 qs25 q106 q1940 np_X4_replace (zr_ok rfl rfl) rfl rfl (Nat.le_of_ble_eq_true rfl) (⟨Nat.le_of_ble_eq_true rfl, Nat.le_of_ble_eq_true rfl⟩) dX4_setGround_19 ?_
    refine z_goto (tgt := 30) C dX4_setGround_22 (by decide) ?_
    exact z_ireturn C rfl (rfl) dX4_setGround_30 (⟨rfl, rfl⟩) (Nat.le_of_ble_eq_true rfl) (Nat.le_of_ble_eq_true rfl)
set_option maxHeartbeats 4000000 in
set_option maxRecDepth 100000 in
theorem ct_X4_setGround_1 (D : zG) (B : Nat) {b : zH} {t : tA} {st : Nat → Int32} {bk : Nat → Int32} {sv : Nat → Int32} {iz : Nat → Int32} {th : Int32} {di : Nat → Int32} {re : Nat → Int32} {si : Nat → Int32} {pa : Nat → Int32} {fo : Nat → Int64} {te : Nat → Int32} {tl : Int32} {po : Int32} {ts : Int32} {to : Int32} {le : Int32} {nu : Int32} {ec : Int32} {ep : Int32} {wo : Int64} (x : Int32) (h : ¬ (-90 ≤ x ∧ x ≤ 90)) : Ct D B yX4_setGround (ws_ yX4_setGround cX4_setGround 2 (some .int)) (zr 1) [.ref (t.1 0), .int x] (tw b t st bk sv iz th di re si pa fo te tl po ts to le nu ec ep wo) (zpe (some (.int (0))) (tw b t st bk sv iz 1 di re si pa fo te tl po ts to le nu ec ep wo)) zno := by
  refine ct_intro (by decide +kernel) (Nat.le_of_ble_eq_true rfl) ?_
  intro X C
  refine z_aload_n (i := 0) C dX4_setGround_0 rfl rfl ?_
  refine z_iconst (v := 0) C dX4_setGround_1 (by decide) ?_
  refine tp_thrown C q1868 dX4_setGround_2 ?_
  refine z_iload_n (i := 1) C dX4_setGround_5 rfl rfl ?_
  refine z_bipush (v := (-90)) C dX4_setGround_6 (by decide) ?_
  refine z_bipush (v := 90) C dX4_setGround_8 (by decide) ?_
  refine z_callSe C (ct_X4_isBetween D B _ _ _) q1934 q1935 q106 q1936 np_X4_isBetween (zr_ok rfl rfl) rfl rfl (Nat.le_of_ble_eq_true rfl) (⟨Nat.le_of_ble_eq_true rfl, Nat.le_of_ble_eq_true rfl⟩) dX4_setGround_10 ?_
  refine z_seti (zb_f (h)) ?_
  refine z_if_eq (tgt := 25) C dX4_setGround_13 (by decide) (fun c_13 => ?_) (fun c_13 => ?_)
  · refine z_aload_n (i := 0) C dX4_setGround_25 rfl rfl ?_
    refine z_iconst (v := 1) C dX4_setGround_26 (by decide) ?_
    refine z_callVe C (tw_obj) rfl (ct_X4_fail D B _) q1941 q1943 qs26 q106 q1944 np_X4_fail (zr_ok rfl rfl) rfl rfl (Nat.le_of_ble_eq_true rfl) (⟨Nat.le_of_ble_eq_true rfl, Nat.le_of_ble_eq_true rfl⟩) dX4_setGround_27 ?_
    exact z_ireturn C rfl (rfl) dX4_setGround_30 (⟨rfl, rfl⟩) (Nat.le_of_ble_eq_true rfl) (Nat.le_of_ble_eq_true rfl)
  · exact absurd rfl c_13
set_option maxHeartbeats 4000000 in
set_option maxRecDepth 100000 in
theorem ct_X4_setSpreading (D : zG) (B : Nat) {b : zH} {t : tA} {st : Nat → Int32} {bk : Nat → Int32} {sv : Nat → Int32} {iz : Nat → Int32} {th : Int32} {di : Nat → Int32} {re : Nat → Int32} {si : Nat → Int32} {pa : Nat → Int32} {fo : Nat → Int64} {te : Nat → Int32} {tl : Int32} {po : Int32} {ts : Int32} {to : Int32} {le : Int32} {nu : Int32} {ec : Int32} {ep : Int32} {wo : Int64} (x : Int32)  : Ct D B yX4_setSpreading (ws_ yX4_setSpreading cX4_setSpreading 2 (some .boolean)) (zr 1) [.ref (t.1 0), .int x] (tw b t st bk sv iz th di re si pa fo te tl po ts to le nu ec ep wo) (zpe (some (.int (zb (st 2 = 1)))) (tw b t (upd st 2 (zb (¬ x = 0))) bk sv iz 0 di re si pa fo te tl po ts to le nu ec ep wo)) zno := by
  refine ct_intro (by decide +kernel) (Nat.le_of_ble_eq_true rfl) ?_
  intro X C
  refine z_aload_n (i := 0) C dX4_setSpreading_0 rfl rfl ?_
  refine z_iconst (v := 0) C dX4_setSpreading_1 (by decide) ?_
  refine tp_thrown C q1868 dX4_setSpreading_2 ?_
  refine z_aload_n (i := 0) C dX4_setSpreading_5 rfl rfl ?_
  refine z_iconst (v := 2) C dX4_setSpreading_6 (by decide) ?_
  refine z_iload_n (i := 1) C dX4_setSpreading_7 rfl rfl ?_
  refine z_if_eq (tgt := 15) C dX4_setSpreading_8 (by decide) (fun c_8 => ?_) (fun c_8 => ?_)
  · have hx : zb (¬ x = 0) = 0 := zb_f (fun h => h c_8)
    refine z_iconst (v := 0) C dX4_setSpreading_15 (by decide) ?_
    refine z_callVe C (tw_obj) rfl (ct_X4_replace D B 2 _ (by decide)) q1937 q1939 qs25 q106 q1940 np_X4_replace (zr_ok rfl rfl) rfl rfl (Nat.le_of_ble_eq_true rfl) (⟨Nat.le_of_ble_eq_true rfl, Nat.le_of_ble_eq_true rfl⟩) dX4_setSpreading_16 ?_
    refine z_iconst (v := 1) C dX4_setSpreading_19 (by decide) ?_
    refine z_icmp_ne (tgt := 27) C dX4_setSpreading_20 (by decide) (fun c_20 => ?_) (fun c_20 => ?_)
    · refine z_iconst (v := 0) C dX4_setSpreading_27 (by decide) ?_
      exact z_ireturn C rfl (rfl) dX4_setSpreading_28 (⟨zvs (by first | exact (zb_t c_20).symm | exact (zb_f c_20).symm), by rw [hx]⟩) (Nat.le_of_ble_eq_true rfl) (Nat.le_of_ble_eq_true rfl)
    · refine z_iconst (v := 1) C dX4_setSpreading_23 (by decide) ?_
      refine z_goto (tgt := 28) C dX4_setSpreading_24 (by decide) ?_
      exact z_ireturn C rfl (rfl) dX4_setSpreading_28 (⟨zvs (by first | exact (zb_t c_20).symm | exact (zb_f c_20).symm), by rw [hx]⟩) (Nat.le_of_ble_eq_true rfl) (Nat.le_of_ble_eq_true rfl)
  · have hx : zb (¬ x = 0) = 1 := zb_t c_8
    refine z_iconst (v := 1) C dX4_setSpreading_11 (by decide) ?_
    refine z_goto (tgt := 16) C dX4_setSpreading_12 (by decide) ?_
    refine z_callVe C (tw_obj) rfl (ct_X4_replace D B 2 _ (by decide)) q1937 q1939 qs25 q106 q1940 np_X4_replace (zr_ok rfl rfl) rfl rfl (Nat.le_of_ble_eq_true rfl) (⟨Nat.le_of_ble_eq_true rfl, Nat.le_of_ble_eq_true rfl⟩) dX4_setSpreading_16 ?_
    refine z_iconst (v := 1) C dX4_setSpreading_19 (by decide) ?_
    refine z_icmp_ne (tgt := 27) C dX4_setSpreading_20 (by decide) (fun c_20 => ?_) (fun c_20 => ?_)
    · refine z_iconst (v := 0) C dX4_setSpreading_27 (by decide) ?_
      exact z_ireturn C rfl (rfl) dX4_setSpreading_28 (⟨zvs (by first | exact (zb_t c_20).symm | exact (zb_f c_20).symm), by rw [hx]⟩) (Nat.le_of_ble_eq_true rfl) (Nat.le_of_ble_eq_true rfl)
    · refine z_iconst (v := 1) C dX4_setSpreading_23 (by decide) ?_
      refine z_goto (tgt := 28) C dX4_setSpreading_24 (by decide) ?_
      exact z_ireturn C rfl (rfl) dX4_setSpreading_28 (⟨zvs (by first | exact (zb_t c_20).symm | exact (zb_f c_20).symm), by rw [hx]⟩) (Nat.le_of_ble_eq_true rfl) (Nat.le_of_ble_eq_true rfl)
set_option maxHeartbeats 4000000 in
set_option maxRecDepth 100000 in
theorem ct_X4_setCut (D : zG) (B : Nat) {b : zH} {t : tA} {st : Nat → Int32} {bk : Nat → Int32} {sv : Nat → Int32} {iz : Nat → Int32} {th : Int32} {di : Nat → Int32} {re : Nat → Int32} {si : Nat → Int32} {pa : Nat → Int32} {fo : Nat → Int64} {te : Nat → Int32} {tl : Int32} {po : Int32} {ts : Int32} {to : Int32} {le : Int32} {nu : Int32} {ec : Int32} {ep : Int32} {wo : Int64} (x : Int32)  : Ct D B yX4_setCut (ws_ yX4_setCut cX4_setCut 2 (some .boolean)) (zr 1) [.ref (t.1 0), .int x] (tw b t st bk sv iz th di re si pa fo te tl po ts to le nu ec ep wo) (zpe (some (.int (zb (st 5 = 1)))) (tw b t (upd st 5 (zb (¬ x = 0))) bk sv iz 0 di re si pa fo te tl po ts to le nu ec ep wo)) zno := by
  refine ct_intro (by decide +kernel) (Nat.le_of_ble_eq_true rfl) ?_
  intro X C
  refine z_aload_n (i := 0) C dX4_setCut_0 rfl rfl ?_
  refine z_iconst (v := 0) C dX4_setCut_1 (by decide) ?_
  refine tp_thrown C q1868 dX4_setCut_2 ?_
  refine z_aload_n (i := 0) C dX4_setCut_5 rfl rfl ?_
  refine z_iconst (v := 5) C dX4_setCut_6 (by decide) ?_
  refine z_iload_n (i := 1) C dX4_setCut_7 rfl rfl ?_
  refine z_if_eq (tgt := 15) C dX4_setCut_8 (by decide) (fun c_8 => ?_) (fun c_8 => ?_)
  · have hx : zb (¬ x = 0) = 0 := zb_f (fun h => h c_8)
    refine z_iconst (v := 0) C dX4_setCut_15 (by decide) ?_
    refine z_callVe C (tw_obj) rfl (ct_X4_replace D B 5 _ (by decide)) q1937 q1939 qs25 q106 q1940 np_X4_replace (zr_ok rfl rfl) rfl rfl (Nat.le_of_ble_eq_true rfl) (⟨Nat.le_of_ble_eq_true rfl, Nat.le_of_ble_eq_true rfl⟩) dX4_setCut_16 ?_
    refine z_iconst (v := 1) C dX4_setCut_19 (by decide) ?_
    refine z_icmp_ne (tgt := 27) C dX4_setCut_20 (by decide) (fun c_20 => ?_) (fun c_20 => ?_)
    · refine z_iconst (v := 0) C dX4_setCut_27 (by decide) ?_
      exact z_ireturn C rfl (rfl) dX4_setCut_28 (⟨zvs (by first | exact (zb_t c_20).symm | exact (zb_f c_20).symm), by rw [hx]⟩) (Nat.le_of_ble_eq_true rfl) (Nat.le_of_ble_eq_true rfl)
    · refine z_iconst (v := 1) C dX4_setCut_23 (by decide) ?_
      refine z_goto (tgt := 28) C dX4_setCut_24 (by decide) ?_
      exact z_ireturn C rfl (rfl) dX4_setCut_28 (⟨zvs (by first | exact (zb_t c_20).symm | exact (zb_f c_20).symm), by rw [hx]⟩) (Nat.le_of_ble_eq_true rfl) (Nat.le_of_ble_eq_true rfl)
  · have hx : zb (¬ x = 0) = 1 := zb_t c_8
    refine z_iconst (v := 1) C dX4_setCut_11 (by decide) ?_
    refine z_goto (tgt := 16) C dX4_setCut_12 (by decide) ?_
    refine z_callVe C (tw_obj) rfl (ct_X4_replace D B 5 _ (by decide)) q1937 q1939 qs25 q106 q1940 np_X4_replace (zr_ok rfl rfl) rfl rfl (Nat.le_of_ble_eq_true rfl) (⟨Nat.le_of_ble_eq_true rfl, Nat.le_of_ble_eq_true rfl⟩) dX4_setCut_16 ?_
    refine z_iconst (v := 1) C dX4_setCut_19 (by decide) ?_
    refine z_icmp_ne (tgt := 27) C dX4_setCut_20 (by decide) (fun c_20 => ?_) (fun c_20 => ?_)
    · refine z_iconst (v := 0) C dX4_setCut_27 (by decide) ?_
      exact z_ireturn C rfl (rfl) dX4_setCut_28 (⟨zvs (by first | exact (zb_t c_20).symm | exact (zb_f c_20).symm), by rw [hx]⟩) (Nat.le_of_ble_eq_true rfl) (Nat.le_of_ble_eq_true rfl)
    · refine z_iconst (v := 1) C dX4_setCut_23 (by decide) ?_
      refine z_goto (tgt := 28) C dX4_setCut_24 (by decide) ?_
      exact z_ireturn C rfl (rfl) dX4_setCut_28 (⟨zvs (by first | exact (zb_t c_20).symm | exact (zb_f c_20).symm), by rw [hx]⟩) (Nat.le_of_ble_eq_true rfl) (Nat.le_of_ble_eq_true rfl)
set_option maxHeartbeats 4000000 in
set_option maxRecDepth 100000 in
theorem ct_X4_setNoise_ok (D : zG) (B : Nat) {b : zH} {t : tA} {st : Nat → Int32} {bk : Nat → Int32} {sv : Nat → Int32} {iz : Nat → Int32} {th : Int32} {di : Nat → Int32} {re : Nat → Int32} {si : Nat → Int32} {pa : Nat → Int32} {fo : Nat → Int64} {te : Nat → Int32} {tl : Int32} {po : Int32} {ts : Int32} {to : Int32} {le : Int32} {nu : Int32} {ec : Int32} {ep : Int32} {wo : Int64} (x l : Int32) (h1 : ¬ x < 0) (h2 : 0 ≤ l ∧ l ≤ 99) : Ct D B yX4_setNoise (ws_ yX4_setNoise cX4_setNoise 3 none) (zr 1) [.ref (t.1 0), .int x, .int l] (tw b t st bk sv iz th di re si pa fo te tl po ts to le nu ec ep wo) (zpe none (tw b t (upd (upd st 3 x) 4 l) bk sv iz 0 di re si pa fo te tl po ts to le nu ec ep wo)) zno := by
  refine ct_intro (by decide +kernel) (Nat.le_of_ble_eq_true rfl) ?_
  intro X C
  refine z_aload_n (i := 0) C dX4_setNoise_0 rfl rfl ?_
  refine z_iload_n (i := 1) C dX4_setNoise_1 rfl rfl ?_
  refine z_if_lt (tgt := 15) C dX4_setNoise_2 (by decide) (fun c_2 => ?_) (fun c_2 => ?_)
  · exact absurd c_2 h1
  · refine z_iload_n (i := 2) C dX4_setNoise_5 rfl rfl ?_
    refine z_iconst (v := 0) C dX4_setNoise_6 (by decide) ?_
    refine z_bipush (v := 99) C dX4_setNoise_7 (by decide) ?_
    refine z_callSe C (ct_X4_isBetween D B _ _ _) q1934 q1935 q106 q1936 np_X4_isBetween (zr_ok rfl rfl) rfl rfl (Nat.le_of_ble_eq_true rfl) (⟨Nat.le_of_ble_eq_true rfl, Nat.le_of_ble_eq_true rfl⟩) dX4_setNoise_9 ?_
    refine z_seti (zb_t (h2)) ?_
    refine z_if_ne (tgt := 19) C dX4_setNoise_12 (by decide) (fun c_12 => ?_) (fun c_12 => ?_)
    · refine z_iconst (v := 0) C dX4_setNoise_19 (by decide) ?_
      refine tp_thrown C q1868 dX4_setNoise_20 ?_
      refine z_aload_n (i := 0) C dX4_setNoise_23 rfl rfl ?_
      refine tg_thrown C q1868 dX4_setNoise_24 ?_
      refine z_if_ne (tgt := 44) C dX4_setNoise_27 (by decide) (fun c_27 => ?_) (fun c_27 => ?_)
      · exact absurd rfl c_27
      · refine z_aload_n (i := 0) C dX4_setNoise_30 rfl rfl ?_
        refine tg_state C q1864 dX4_setNoise_31 ?_
        refine z_iconst (v := 3) C dX4_setNoise_34 (by decide) ?_
        refine z_iload_n (i := 1) C dX4_setNoise_35 rfl rfl ?_
        refine ts_state C (⟨(rfl : (3 : Int32) = nI 3), by decide⟩) dX4_setNoise_36 ?_
        refine z_aload_n (i := 0) C dX4_setNoise_37 rfl rfl ?_
        refine tg_state C q1864 dX4_setNoise_38 ?_
        refine z_iconst (v := 4) C dX4_setNoise_41 (by decide) ?_
        refine z_iload_n (i := 2) C dX4_setNoise_42 rfl rfl ?_
        refine ts_state C (⟨(rfl : (4 : Int32) = nI 4), by decide⟩) dX4_setNoise_43 ?_
        exact z_return C rfl dX4_setNoise_44 (⟨rfl, rfl⟩) (Nat.le_of_ble_eq_true rfl) (Nat.le_of_ble_eq_true rfl)
    · exact absurd c_12 (by decide)
set_option maxHeartbeats 4000000 in
set_option maxRecDepth 100000 in
theorem ct_X4_setNoise_1a (D : zG) (B : Nat) {b : zH} {t : tA} {st : Nat → Int32} {bk : Nat → Int32} {sv : Nat → Int32} {iz : Nat → Int32} {th : Int32} {di : Nat → Int32} {re : Nat → Int32} {si : Nat → Int32} {pa : Nat → Int32} {fo : Nat → Int64} {te : Nat → Int32} {tl : Int32} {po : Int32} {ts : Int32} {to : Int32} {le : Int32} {nu : Int32} {ec : Int32} {ep : Int32} {wo : Int64} (x l : Int32) (h1 : x < 0) : Ct D B yX4_setNoise (ws_ yX4_setNoise cX4_setNoise 3 none) (zr 1) [.ref (t.1 0), .int x, .int l] (tw b t st bk sv iz th di re si pa fo te tl po ts to le nu ec ep wo) (zpe none (tw b t st bk sv iz 1 di re si pa fo te tl po ts to le nu ec ep wo)) zno := by
  refine ct_intro (by decide +kernel) (Nat.le_of_ble_eq_true rfl) ?_
  intro X C
  refine z_aload_n (i := 0) C dX4_setNoise_0 rfl rfl ?_
  refine z_iload_n (i := 1) C dX4_setNoise_1 rfl rfl ?_
  refine z_if_lt (tgt := 15) C dX4_setNoise_2 (by decide) (fun c_2 => ?_) (fun c_2 => ?_)
  · refine z_iconst (v := 1) C dX4_setNoise_15 (by decide) ?_
    refine z_goto (tgt := 20) C dX4_setNoise_16 (by decide) ?_
    refine tp_thrown C q1868 dX4_setNoise_20 ?_
    refine z_aload_n (i := 0) C dX4_setNoise_23 rfl rfl ?_
    refine tg_thrown C q1868 dX4_setNoise_24 ?_
    refine z_if_ne (tgt := 44) C dX4_setNoise_27 (by decide) (fun c_27 => ?_) (fun c_27 => ?_)
    · exact z_return C rfl dX4_setNoise_44 (⟨rfl, rfl⟩) (Nat.le_of_ble_eq_true rfl) (Nat.le_of_ble_eq_true rfl)
    · exact absurd c_27 (by decide)
  · exact absurd h1 c_2
set_option maxHeartbeats 4000000 in
set_option maxRecDepth 100000 in
theorem ct_X4_setNoise_1b (D : zG) (B : Nat) {b : zH} {t : tA} {st : Nat → Int32} {bk : Nat → Int32} {sv : Nat → Int32} {iz : Nat → Int32} {th : Int32} {di : Nat → Int32} {re : Nat → Int32} {si : Nat → Int32} {pa : Nat → Int32} {fo : Nat → Int64} {te : Nat → Int32} {tl : Int32} {po : Int32} {ts : Int32} {to : Int32} {le : Int32} {nu : Int32} {ec : Int32} {ep : Int32} {wo : Int64} (x l : Int32) (h1 : ¬ x < 0) (h2 : ¬ (0 ≤ l ∧ l ≤ 99)) : Ct D B yX4_setNoise (ws_ yX4_setNoise cX4_setNoise 3 none) (zr 1) [.ref (t.1 0), .int x, .int l] (tw b t st bk sv iz th di re si pa fo te tl po ts to le nu ec ep wo) (zpe none (tw b t st bk sv iz 1 di re si pa fo te tl po ts to le nu ec ep wo)) zno := by
  refine ct_intro (by decide +kernel) (Nat.le_of_ble_eq_true rfl) ?_
  intro X C
  refine z_aload_n (i := 0) C dX4_setNoise_0 rfl rfl ?_
  refine z_iload_n (i := 1) C dX4_setNoise_1 rfl rfl ?_
  refine z_if_lt (tgt := 15) C dX4_setNoise_2 (by decide) (fun c_2 => ?_) (fun c_2 => ?_)
  · exact absurd c_2 h1
  · refine z_iload_n (i := 2) C dX4_setNoise_5 rfl rfl ?_
    refine z_iconst (v := 0) C dX4_setNoise_6 (by decide) ?_
    refine z_bipush (v := 99) C dX4_setNoise_7 (by decide) ?_
    refine z_callSe C (ct_X4_isBetween D B _ _ _) q1934 q1935 q106 q1936 np_X4_isBetween (zr_ok rfl rfl) rfl rfl (Nat.le_of_ble_eq_true rfl) (⟨Nat.le_of_ble_eq_true rfl, Nat.le_of_ble_eq_true rfl⟩) dX4_setNoise_9 ?_
    refine z_seti (zb_f (h2)) ?_
    refine z_if_ne (tgt := 19) C dX4_setNoise_12 (by decide) (fun c_12 => ?_) (fun c_12 => ?_)
    · exact absurd rfl c_12
    · refine z_iconst (v := 1) C dX4_setNoise_15 (by decide) ?_
      refine z_goto (tgt := 20) C dX4_setNoise_16 (by decide) ?_
      refine tp_thrown C q1868 dX4_setNoise_20 ?_
      refine z_aload_n (i := 0) C dX4_setNoise_23 rfl rfl ?_
      refine tg_thrown C q1868 dX4_setNoise_24 ?_
      refine z_if_ne (tgt := 44) C dX4_setNoise_27 (by decide) (fun c_27 => ?_) (fun c_27 => ?_)
      · exact z_return C rfl dX4_setNoise_44 (⟨rfl, rfl⟩) (Nat.le_of_ble_eq_true rfl) (Nat.le_of_ble_eq_true rfl)
      · exact absurd c_27 (by decide)
theorem np_X4_isVehiclePlace : znp yX4_isVehiclePlace 3 := ⟨by decide +kernel, by decide +kernel, by decide +kernel⟩
theorem np_X4_appendVehicle : znp yX4_appendVehicle 3 := ⟨by decide +kernel, by decide +kernel, by decide +kernel⟩
set_option maxHeartbeats 4000000 in
set_option maxRecDepth 100000 in
theorem ct_X4_addVehicle_ok (D : zG) (B : Nat) {b : zH} {t : tA} {st : Nat → Int32} {bk : Nat → Int32} {sv : Nat → Int32} {iz : Nat → Int32} {th : Int32} {di : Nat → Int32} {re : Nat → Int32} {si : Nat → Int32} {pa : Nat → Int32} {fo : Nat → Int64} {te : Nat → Int32} {tl : Int32} {po : Int32} {ts : Int32} {to : Int32} {le : Int32} {nu : Int32} {ec : Int32} {ep : Int32} {wo : Int64} (x s y : Int32) (h : (-20000 ≤ x ∧ x ≤ 20000) ∧ (-50 ≤ s ∧ s ≤ 50) ∧ 100 ≤ y ∧ y ≤ 5000) (n : Nat) (hn : st 6 = nI n) (hn4 : n < 4) : Ct D B yX4_addVehicle (ws_ yX4_addVehicle cX4_addVehicle 4 (some .int)) (zr 2) [.ref (t.1 0), .int x, .int s, .int y] (tw b t st bk sv iz th di re si pa fo te tl po ts to le nu ec ep wo) (zpe (some (.int (nI n))) (tw b t (upd (upd (upd (upd st (16 + 3 * n + 0) x) (16 + 3 * n + 1) s) (16 + 3 * n + 2) y) 6 (nI (n + 1))) bk sv iz 0 di re si pa fo te tl po ts to le nu ec ep wo)) zno := by
  refine ct_intro (by decide +kernel) (Nat.le_of_ble_eq_true rfl) ?_
  intro X C
  refine z_aload_n (i := 0) C dX4_addVehicle_0 rfl rfl ?_
  refine z_iconst (v := 0) C dX4_addVehicle_1 (by decide) ?_
  refine tp_thrown C q1868 dX4_addVehicle_2 ?_
  refine z_iload_n (i := 1) C dX4_addVehicle_5 rfl rfl ?_
  refine z_iload_n (i := 2) C dX4_addVehicle_6 rfl rfl ?_
  refine z_iload_n (i := 3) C dX4_addVehicle_7 rfl rfl ?_
  refine z_callSe C (ct_X4_isVehiclePlace D B _ _ _) q1961 q1962 q106 q1963 np_X4_isVehiclePlace (zr_ok rfl rfl) rfl rfl (Nat.le_of_ble_eq_true rfl) (⟨Nat.le_of_ble_eq_true rfl, Nat.le_of_ble_eq_true rfl⟩) dX4_addVehicle_8 ?_
  refine z_seti (zb_t (h)) ?_
  refine z_if_ne (tgt := 20) C dX4_addVehicle_11 (by decide) (fun c_11 => ?_) (fun c_11 => ?_)
  · refine z_aload_n (i := 0) C dX4_addVehicle_20 rfl rfl ?_
    refine tg_state C q1864 dX4_addVehicle_21 ?_
    refine z_bipush (v := 6) C dX4_addVehicle_24 (by decide) ?_
    refine tl_state C (⟨(rfl : (6 : Int32) = nI 6), by decide⟩) dX4_addVehicle_26 ?_
    refine z_iconst (v := 4) C dX4_addVehicle_27 (by decide) ?_
    refine z_icmp_ne (tgt := 39) C dX4_addVehicle_28 (by decide) (fun c_28 => ?_) (fun c_28 => ?_)
    · refine z_aload_n (i := 0) C dX4_addVehicle_39 rfl rfl ?_
      refine z_iload_n (i := 1) C dX4_addVehicle_40 rfl rfl ?_
      refine z_iload_n (i := 2) C dX4_addVehicle_41 rfl rfl ?_
      refine z_iload_n (i := 3) C dX4_addVehicle_42 rfl rfl ?_
      refine z_callVe C (tw_obj) rfl (ct_X4_appendVehicle D B x s y n hn hn4) q1964 q1966 qs27 q106 q1967 np_X4_appendVehicle (zr_ok rfl rfl) rfl rfl (Nat.le_of_ble_eq_true rfl) (⟨Nat.le_of_ble_eq_true rfl, Nat.le_of_ble_eq_true rfl⟩) dX4_addVehicle_43 ?_
      exact z_ireturn C rfl (rfl) dX4_addVehicle_46 (⟨rfl, rfl⟩) (Nat.le_of_ble_eq_true rfl) (Nat.le_of_ble_eq_true rfl)
    · exact absurd c_28 (by rw [hn]; exact zne (b := 4) (by omega) (by decide))
  · exact absurd c_11 (by decide)
set_option maxHeartbeats 4000000 in
set_option maxRecDepth 100000 in
theorem ct_X4_addVehicle_1 (D : zG) (B : Nat) {b : zH} {t : tA} {st : Nat → Int32} {bk : Nat → Int32} {sv : Nat → Int32} {iz : Nat → Int32} {th : Int32} {di : Nat → Int32} {re : Nat → Int32} {si : Nat → Int32} {pa : Nat → Int32} {fo : Nat → Int64} {te : Nat → Int32} {tl : Int32} {po : Int32} {ts : Int32} {to : Int32} {le : Int32} {nu : Int32} {ec : Int32} {ep : Int32} {wo : Int64} (x s y : Int32) (h : ¬ ((-20000 ≤ x ∧ x ≤ 20000) ∧ (-50 ≤ s ∧ s ≤ 50) ∧ 100 ≤ y ∧ y ≤ 5000)) : Ct D B yX4_addVehicle (ws_ yX4_addVehicle cX4_addVehicle 4 (some .int)) (zr 2) [.ref (t.1 0), .int x, .int s, .int y] (tw b t st bk sv iz th di re si pa fo te tl po ts to le nu ec ep wo) (zpe (some (.int (0))) (tw b t st bk sv iz 1 di re si pa fo te tl po ts to le nu ec ep wo)) zno := by
  refine ct_intro (by decide +kernel) (Nat.le_of_ble_eq_true rfl) ?_
  intro X C
  refine z_aload_n (i := 0) C dX4_addVehicle_0 rfl rfl ?_
  refine z_iconst (v := 0) C dX4_addVehicle_1 (by decide) ?_
  refine tp_thrown C q1868 dX4_addVehicle_2 ?_
  refine z_iload_n (i := 1) C dX4_addVehicle_5 rfl rfl ?_
  refine z_iload_n (i := 2) C dX4_addVehicle_6 rfl rfl ?_
  refine z_iload_n (i := 3) C dX4_addVehicle_7 rfl rfl ?_
  refine z_callSe C (ct_X4_isVehiclePlace D B _ _ _) q1961 q1962 q106 q1963 np_X4_isVehiclePlace (zr_ok rfl rfl) rfl rfl (Nat.le_of_ble_eq_true rfl) (⟨Nat.le_of_ble_eq_true rfl, Nat.le_of_ble_eq_true rfl⟩) dX4_addVehicle_8 ?_
  refine z_seti (zb_f (h)) ?_
  refine z_if_ne (tgt := 20) C dX4_addVehicle_11 (by decide) (fun c_11 => ?_) (fun c_11 => ?_)
  · exact absurd rfl c_11
  · refine z_aload_n (i := 0) C dX4_addVehicle_14 rfl rfl ?_
    refine z_iconst (v := 1) C dX4_addVehicle_15 (by decide) ?_
    refine z_callVe C (tw_obj) rfl (ct_X4_fail D B _) q1941 q1943 qs26 q106 q1944 np_X4_fail (zr_ok rfl rfl) rfl rfl (Nat.le_of_ble_eq_true rfl) (⟨Nat.le_of_ble_eq_true rfl, Nat.le_of_ble_eq_true rfl⟩) dX4_addVehicle_16 ?_
    exact z_ireturn C rfl (rfl) dX4_addVehicle_19 (⟨rfl, rfl⟩) (Nat.le_of_ble_eq_true rfl) (Nat.le_of_ble_eq_true rfl)
set_option maxHeartbeats 4000000 in
set_option maxRecDepth 100000 in
theorem ct_X4_addVehicle_2 (D : zG) (B : Nat) {b : zH} {t : tA} {st : Nat → Int32} {bk : Nat → Int32} {sv : Nat → Int32} {iz : Nat → Int32} {th : Int32} {di : Nat → Int32} {re : Nat → Int32} {si : Nat → Int32} {pa : Nat → Int32} {fo : Nat → Int64} {te : Nat → Int32} {tl : Int32} {po : Int32} {ts : Int32} {to : Int32} {le : Int32} {nu : Int32} {ec : Int32} {ep : Int32} {wo : Int64} (x s y : Int32) (h : (-20000 ≤ x ∧ x ≤ 20000) ∧ (-50 ≤ s ∧ s ≤ 50) ∧ 100 ≤ y ∧ y ≤ 5000) (hn : st 6 = 4) : Ct D B yX4_addVehicle (ws_ yX4_addVehicle cX4_addVehicle 4 (some .int)) (zr 2) [.ref (t.1 0), .int x, .int s, .int y] (tw b t st bk sv iz th di re si pa fo te tl po ts to le nu ec ep wo) (zpe (some (.int (0))) (tw b t st bk sv iz 2 di re si pa fo te tl po ts to le nu ec ep wo)) zno := by
  refine ct_intro (by decide +kernel) (Nat.le_of_ble_eq_true rfl) ?_
  intro X C
  refine z_aload_n (i := 0) C dX4_addVehicle_0 rfl rfl ?_
  refine z_iconst (v := 0) C dX4_addVehicle_1 (by decide) ?_
  refine tp_thrown C q1868 dX4_addVehicle_2 ?_
  refine z_iload_n (i := 1) C dX4_addVehicle_5 rfl rfl ?_
  refine z_iload_n (i := 2) C dX4_addVehicle_6 rfl rfl ?_
  refine z_iload_n (i := 3) C dX4_addVehicle_7 rfl rfl ?_
  refine z_callSe C (ct_X4_isVehiclePlace D B _ _ _) q1961 q1962 q106 q1963 np_X4_isVehiclePlace (zr_ok rfl rfl) rfl rfl (Nat.le_of_ble_eq_true rfl) (⟨Nat.le_of_ble_eq_true rfl, Nat.le_of_ble_eq_true rfl⟩) dX4_addVehicle_8 ?_
  refine z_seti (zb_t (h)) ?_
  refine z_if_ne (tgt := 20) C dX4_addVehicle_11 (by decide) (fun c_11 => ?_) (fun c_11 => ?_)
  · refine z_aload_n (i := 0) C dX4_addVehicle_20 rfl rfl ?_
    refine tg_state C q1864 dX4_addVehicle_21 ?_
    refine z_bipush (v := 6) C dX4_addVehicle_24 (by decide) ?_
    refine tl_state C (⟨(rfl : (6 : Int32) = nI 6), by decide⟩) dX4_addVehicle_26 ?_
    refine z_iconst (v := 4) C dX4_addVehicle_27 (by decide) ?_
    refine z_icmp_ne (tgt := 39) C dX4_addVehicle_28 (by decide) (fun c_28 => ?_) (fun c_28 => ?_)
    · exact absurd (hn) c_28
    · refine z_aload_n (i := 0) C dX4_addVehicle_31 rfl rfl ?_
      refine z_iconst (v := 2) C dX4_addVehicle_32 (by decide) ?_
      refine z_callVe C (tw_obj) rfl (ct_X4_fail D B _) q1941 q1943 qs26 q106 q1944 np_X4_fail (zr_ok rfl rfl) rfl rfl (Nat.le_of_ble_eq_true rfl) (⟨Nat.le_of_ble_eq_true rfl, Nat.le_of_ble_eq_true rfl⟩) dX4_addVehicle_33 ?_
      refine z_goto (tgt := 46) C dX4_addVehicle_36 (by decide) ?_
      exact z_ireturn C rfl (rfl) dX4_addVehicle_46 (⟨rfl, rfl⟩) (Nat.le_of_ble_eq_true rfl) (Nat.le_of_ble_eq_true rfl)
  · exact absurd c_11 (by decide)
theorem np_X4_isMicrophonePlace : znp yX4_isMicrophonePlace 3 := ⟨by decide +kernel, by decide +kernel, by decide +kernel⟩
theorem np_X4_appendMicrophone : znp yX4_appendMicrophone 4 := ⟨by decide +kernel, by decide +kernel, by decide +kernel⟩
set_option maxHeartbeats 4000000 in
set_option maxRecDepth 100000 in
theorem ct_X4_addMicrophone_ok (D : zG) (B : Nat) {b : zH} {t : tA} {st : Nat → Int32} {bk : Nat → Int32} {sv : Nat → Int32} {iz : Nat → Int32} {th : Int32} {di : Nat → Int32} {re : Nat → Int32} {si : Nat → Int32} {pa : Nat → Int32} {fo : Nat → Int64} {te : Nat → Int32} {tl : Int32} {po : Int32} {ts : Int32} {to : Int32} {le : Int32} {nu : Int32} {ec : Int32} {ep : Int32} {wo : Int64} (x y z w : Int32) (h : (-5000 ≤ x ∧ x ≤ 5000) ∧ (-100 ≤ y ∧ y ≤ 99) ∧ 0 ≤ z ∧ z ≤ 500) (h2 : 0 ≤ w ∧ w ≤ 9) (n : Nat) (hn : st 8 = nI n) (hn8 : n < 8) : Ct D B yX4_addMicrophone (ws_ yX4_addMicrophone cX4_addMicrophone 5 (some .int)) (zr 3) [.ref (t.1 0), .int x, .int y, .int z, .int w] (tw b t st bk sv iz th di re si pa fo te tl po ts to le nu ec ep wo) (zpe (some (.int (nI n))) (tw b t (upd (upd (upd (upd (upd st (154 + 4 * n + 0) x) (154 + 4 * n + 1) y) (154 + 4 * n + 2) z) (154 + 4 * n + 3) w) 8 (nI (n + 1))) bk sv iz 0 di re si pa fo te tl po ts to le nu ec ep wo)) zno := by
  refine ct_intro (by decide +kernel) (Nat.le_of_ble_eq_true rfl) ?_
  intro X C
  refine z_aload_n (i := 0) C dX4_addMicrophone_0 rfl rfl ?_
  refine z_iconst (v := 0) C dX4_addMicrophone_1 (by decide) ?_
  refine tp_thrown C q1868 dX4_addMicrophone_2 ?_
  refine z_iload_n (i := 1) C dX4_addMicrophone_5 rfl rfl ?_
  refine z_iload_n (i := 2) C dX4_addMicrophone_6 rfl rfl ?_
  refine z_iload_n (i := 3) C dX4_addMicrophone_7 rfl rfl ?_
  refine z_callSe C (ct_X4_isMicrophonePlace D B _ _ _) q2009 q2010 q106 q2011 np_X4_isMicrophonePlace (zr_ok rfl rfl) rfl rfl (Nat.le_of_ble_eq_true rfl) (⟨Nat.le_of_ble_eq_true rfl, Nat.le_of_ble_eq_true rfl⟩) dX4_addMicrophone_8 ?_
  refine z_seti (zb_t (h)) ?_
  refine z_if_eq (tgt := 25) C dX4_addMicrophone_11 (by decide) (fun c_11 => ?_) (fun c_11 => ?_)
  · exact absurd c_11 (by decide)
  · refine z_iload C dX4_addMicrophone_14 rfl ?_
    refine z_iconst (v := 0) C dX4_addMicrophone_16 (by decide) ?_
    refine z_bipush (v := 9) C dX4_addMicrophone_17 (by decide) ?_
    refine z_callSe C (ct_X4_isBetween D B _ _ _) q1934 q1935 q106 q1936 np_X4_isBetween (zr_ok rfl rfl) rfl rfl (Nat.le_of_ble_eq_true rfl) (⟨Nat.le_of_ble_eq_true rfl, Nat.le_of_ble_eq_true rfl⟩) dX4_addMicrophone_19 ?_
    refine z_seti (zb_t (h2)) ?_
    refine z_if_ne (tgt := 31) C dX4_addMicrophone_22 (by decide) (fun c_22 => ?_) (fun c_22 => ?_)
    · refine z_aload_n (i := 0) C dX4_addMicrophone_31 rfl rfl ?_
      refine tg_state C q1864 dX4_addMicrophone_32 ?_
      refine z_bipush (v := 8) C dX4_addMicrophone_35 (by decide) ?_
      refine tl_state C (⟨(rfl : (8 : Int32) = nI 8), by decide⟩) dX4_addMicrophone_37 ?_
      refine z_bipush (v := 8) C dX4_addMicrophone_38 (by decide) ?_
      refine z_icmp_ne (tgt := 51) C dX4_addMicrophone_40 (by decide) (fun c_40 => ?_) (fun c_40 => ?_)
      · refine z_aload_n (i := 0) C dX4_addMicrophone_51 rfl rfl ?_
        refine z_iload_n (i := 1) C dX4_addMicrophone_52 rfl rfl ?_
        refine z_iload_n (i := 2) C dX4_addMicrophone_53 rfl rfl ?_
        refine z_iload_n (i := 3) C dX4_addMicrophone_54 rfl rfl ?_
        refine z_iload C dX4_addMicrophone_55 rfl ?_
        refine z_callVe C (tw_obj) rfl (ct_X4_appendMicrophone D B x y z w n hn hn8) q2012 q2014 qs33 q106 q2015 np_X4_appendMicrophone (zr_ok rfl rfl) rfl rfl (Nat.le_of_ble_eq_true rfl) (⟨Nat.le_of_ble_eq_true rfl, Nat.le_of_ble_eq_true rfl⟩) dX4_addMicrophone_57 ?_
        exact z_ireturn C rfl (rfl) dX4_addMicrophone_60 (⟨rfl, rfl⟩) (Nat.le_of_ble_eq_true rfl) (Nat.le_of_ble_eq_true rfl)
      · exact absurd c_40 (by rw [hn]; exact zne (b := 8) (by omega) (by decide))
    · exact absurd c_22 (by decide)
set_option maxHeartbeats 4000000 in
set_option maxRecDepth 100000 in
theorem ct_X4_addMicrophone_1a (D : zG) (B : Nat) {b : zH} {t : tA} {st : Nat → Int32} {bk : Nat → Int32} {sv : Nat → Int32} {iz : Nat → Int32} {th : Int32} {di : Nat → Int32} {re : Nat → Int32} {si : Nat → Int32} {pa : Nat → Int32} {fo : Nat → Int64} {te : Nat → Int32} {tl : Int32} {po : Int32} {ts : Int32} {to : Int32} {le : Int32} {nu : Int32} {ec : Int32} {ep : Int32} {wo : Int64} (x y z w : Int32) (h : ¬ ((-5000 ≤ x ∧ x ≤ 5000) ∧ (-100 ≤ y ∧ y ≤ 99) ∧ 0 ≤ z ∧ z ≤ 500)) : Ct D B yX4_addMicrophone (ws_ yX4_addMicrophone cX4_addMicrophone 5 (some .int)) (zr 3) [.ref (t.1 0), .int x, .int y, .int z, .int w] (tw b t st bk sv iz th di re si pa fo te tl po ts to le nu ec ep wo) (zpe (some (.int (0))) (tw b t st bk sv iz 1 di re si pa fo te tl po ts to le nu ec ep wo)) zno := by
  refine ct_intro (by decide +kernel) (Nat.le_of_ble_eq_true rfl) ?_
  intro X C
  refine z_aload_n (i := 0) C dX4_addMicrophone_0 rfl rfl ?_
  refine z_iconst (v := 0) C dX4_addMicrophone_1 (by decide) ?_
  refine tp_thrown C q1868 dX4_addMicrophone_2 ?_
  refine z_iload_n (i := 1) C dX4_addMicrophone_5 rfl rfl ?_
  refine z_iload_n (i := 2) C dX4_addMicrophone_6 rfl rfl ?_
  refine z_iload_n (i := 3) C dX4_addMicrophone_7 rfl rfl ?_
  refine z_callSe C (ct_X4_isMicrophonePlace D B _ _ _) q2009 q2010 q106 q2011 np_X4_isMicrophonePlace (zr_ok rfl rfl) rfl rfl (Nat.le_of_ble_eq_true rfl) (⟨Nat.le_of_ble_eq_true rfl, Nat.le_of_ble_eq_true rfl⟩) dX4_addMicrophone_8 ?_
  refine z_seti (zb_f (h)) ?_
  refine z_if_eq (tgt := 25) C dX4_addMicrophone_11 (by decide) (fun c_11 => ?_) (fun c_11 => ?_)
  · refine z_aload_n (i := 0) C dX4_addMicrophone_25 rfl rfl ?_
    refine z_iconst (v := 1) C dX4_addMicrophone_26 (by decide) ?_
    refine z_callVe C (tw_obj) rfl (ct_X4_fail D B _) q1941 q1943 qs26 q106 q1944 np_X4_fail (zr_ok rfl rfl) rfl rfl (Nat.le_of_ble_eq_true rfl) (⟨Nat.le_of_ble_eq_true rfl, Nat.le_of_ble_eq_true rfl⟩) dX4_addMicrophone_27 ?_
    exact z_ireturn C rfl (rfl) dX4_addMicrophone_30 (⟨rfl, rfl⟩) (Nat.le_of_ble_eq_true rfl) (Nat.le_of_ble_eq_true rfl)
  · exact absurd rfl c_11
set_option maxHeartbeats 4000000 in
set_option maxRecDepth 100000 in
theorem ct_X4_addMicrophone_1b (D : zG) (B : Nat) {b : zH} {t : tA} {st : Nat → Int32} {bk : Nat → Int32} {sv : Nat → Int32} {iz : Nat → Int32} {th : Int32} {di : Nat → Int32} {re : Nat → Int32} {si : Nat → Int32} {pa : Nat → Int32} {fo : Nat → Int64} {te : Nat → Int32} {tl : Int32} {po : Int32} {ts : Int32} {to : Int32} {le : Int32} {nu : Int32} {ec : Int32} {ep : Int32} {wo : Int64} (x y z w : Int32) (h : (-5000 ≤ x ∧ x ≤ 5000) ∧ (-100 ≤ y ∧ y ≤ 99) ∧ 0 ≤ z ∧ z ≤ 500) (h2 : ¬ (0 ≤ w ∧ w ≤ 9)) : Ct D B yX4_addMicrophone (ws_ yX4_addMicrophone cX4_addMicrophone 5 (some .int)) (zr 3) [.ref (t.1 0), .int x, .int y, .int z, .int w] (tw b t st bk sv iz th di re si pa fo te tl po ts to le nu ec ep wo) (zpe (some (.int (0))) (tw b t st bk sv iz 1 di re si pa fo te tl po ts to le nu ec ep wo)) zno := by
  refine ct_intro (by decide +kernel) (Nat.le_of_ble_eq_true rfl) ?_
  intro X C
  refine z_aload_n (i := 0) C dX4_addMicrophone_0 rfl rfl ?_
  refine z_iconst (v := 0) C dX4_addMicrophone_1 (by decide) ?_
  refine tp_thrown C q1868 dX4_addMicrophone_2 ?_
  refine z_iload_n (i := 1) C dX4_addMicrophone_5 rfl rfl ?_
  refine z_iload_n (i := 2) C dX4_addMicrophone_6 rfl rfl ?_
  refine z_iload_n (i := 3) C dX4_addMicrophone_7 rfl rfl ?_
  refine z_callSe C (ct_X4_isMicrophonePlace D B _ _ _) q2009 q2010 q106 q2011 np_X4_isMicrophonePlace (zr_ok rfl rfl) rfl rfl (Nat.le_of_ble_eq_true rfl) (⟨Nat.le_of_ble_eq_true rfl, Nat.le_of_ble_eq_true rfl⟩) dX4_addMicrophone_8 ?_
  refine z_seti (zb_t (h)) ?_
  refine z_if_eq (tgt := 25) C dX4_addMicrophone_11 (by decide) (fun c_11 => ?_) (fun c_11 => ?_)
  · exact absurd c_11 (by decide)
  · refine z_iload C dX4_addMicrophone_14 rfl ?_
    refine z_iconst (v := 0) C dX4_addMicrophone_16 (by decide) ?_
    refine z_bipush (v := 9) C dX4_addMicrophone_17 (by decide) ?_
    refine z_callSe C (ct_X4_isBetween D B _ _ _) q1934 q1935 q106 q1936 np_X4_isBetween (zr_ok rfl rfl) rfl rfl (Nat.le_of_ble_eq_true rfl) (⟨Nat.le_of_ble_eq_true rfl, Nat.le_of_ble_eq_true rfl⟩) dX4_addMicrophone_19 ?_
    refine z_seti (zb_f (h2)) ?_
    refine z_if_ne (tgt := 31) C dX4_addMicrophone_22 (by decide) (fun c_22 => ?_) (fun c_22 => ?_)
    · exact absurd rfl c_22
    · refine z_aload_n (i := 0) C dX4_addMicrophone_25 rfl rfl ?_
      refine z_iconst (v := 1) C dX4_addMicrophone_26 (by decide) ?_
      refine z_callVe C (tw_obj) rfl (ct_X4_fail D B _) q1941 q1943 qs26 q106 q1944 np_X4_fail (zr_ok rfl rfl) rfl rfl (Nat.le_of_ble_eq_true rfl) (⟨Nat.le_of_ble_eq_true rfl, Nat.le_of_ble_eq_true rfl⟩) dX4_addMicrophone_27 ?_
      exact z_ireturn C rfl (rfl) dX4_addMicrophone_30 (⟨rfl, rfl⟩) (Nat.le_of_ble_eq_true rfl) (Nat.le_of_ble_eq_true rfl)
set_option maxHeartbeats 4000000 in
set_option maxRecDepth 100000 in
theorem ct_X4_addMicrophone_2 (D : zG) (B : Nat) {b : zH} {t : tA} {st : Nat → Int32} {bk : Nat → Int32} {sv : Nat → Int32} {iz : Nat → Int32} {th : Int32} {di : Nat → Int32} {re : Nat → Int32} {si : Nat → Int32} {pa : Nat → Int32} {fo : Nat → Int64} {te : Nat → Int32} {tl : Int32} {po : Int32} {ts : Int32} {to : Int32} {le : Int32} {nu : Int32} {ec : Int32} {ep : Int32} {wo : Int64} (x y z w : Int32) (h : (-5000 ≤ x ∧ x ≤ 5000) ∧ (-100 ≤ y ∧ y ≤ 99) ∧ 0 ≤ z ∧ z ≤ 500) (h2 : 0 ≤ w ∧ w ≤ 9) (hn : st 8 = 8) : Ct D B yX4_addMicrophone (ws_ yX4_addMicrophone cX4_addMicrophone 5 (some .int)) (zr 3) [.ref (t.1 0), .int x, .int y, .int z, .int w] (tw b t st bk sv iz th di re si pa fo te tl po ts to le nu ec ep wo) (zpe (some (.int (0))) (tw b t st bk sv iz 2 di re si pa fo te tl po ts to le nu ec ep wo)) zno := by
  refine ct_intro (by decide +kernel) (Nat.le_of_ble_eq_true rfl) ?_
  intro X C
  refine z_aload_n (i := 0) C dX4_addMicrophone_0 rfl rfl ?_
  refine z_iconst (v := 0) C dX4_addMicrophone_1 (by decide) ?_
  refine tp_thrown C q1868 dX4_addMicrophone_2 ?_
  refine z_iload_n (i := 1) C dX4_addMicrophone_5 rfl rfl ?_
  refine z_iload_n (i := 2) C dX4_addMicrophone_6 rfl rfl ?_
  refine z_iload_n (i := 3) C dX4_addMicrophone_7 rfl rfl ?_
  refine z_callSe C (ct_X4_isMicrophonePlace D B _ _ _) q2009 q2010 q106 q2011 np_X4_isMicrophonePlace (zr_ok rfl rfl) rfl rfl (Nat.le_of_ble_eq_true rfl) (⟨Nat.le_of_ble_eq_true rfl, Nat.le_of_ble_eq_true rfl⟩) dX4_addMicrophone_8 ?_
  refine z_seti (zb_t (h)) ?_
  refine z_if_eq (tgt := 25) C dX4_addMicrophone_11 (by decide) (fun c_11 => ?_) (fun c_11 => ?_)
  · exact absurd c_11 (by decide)
  · refine z_iload C dX4_addMicrophone_14 rfl ?_
    refine z_iconst (v := 0) C dX4_addMicrophone_16 (by decide) ?_
    refine z_bipush (v := 9) C dX4_addMicrophone_17 (by decide) ?_
    refine z_callSe C (ct_X4_isBetween D B _ _ _) q1934 q1935 q106 q1936 np_X4_isBetween (zr_ok rfl rfl) rfl rfl (Nat.le_of_ble_eq_true rfl) (⟨Nat.le_of_ble_eq_true rfl, Nat.le_of_ble_eq_true rfl⟩) dX4_addMicrophone_19 ?_
    refine z_seti (zb_t (h2)) ?_
    refine z_if_ne (tgt := 31) C dX4_addMicrophone_22 (by decide) (fun c_22 => ?_) (fun c_22 => ?_)
    · refine z_aload_n (i := 0) C dX4_addMicrophone_31 rfl rfl ?_
      refine tg_state C q1864 dX4_addMicrophone_32 ?_
      refine z_bipush (v := 8) C dX4_addMicrophone_35 (by decide) ?_
      refine tl_state C (⟨(rfl : (8 : Int32) = nI 8), by decide⟩) dX4_addMicrophone_37 ?_
      refine z_bipush (v := 8) C dX4_addMicrophone_38 (by decide) ?_
      refine z_icmp_ne (tgt := 51) C dX4_addMicrophone_40 (by decide) (fun c_40 => ?_) (fun c_40 => ?_)
      · exact absurd (hn) c_40
      · refine z_aload_n (i := 0) C dX4_addMicrophone_43 rfl rfl ?_
        refine z_iconst (v := 2) C dX4_addMicrophone_44 (by decide) ?_
        refine z_callVe C (tw_obj) rfl (ct_X4_fail D B _) q1941 q1943 qs26 q106 q1944 np_X4_fail (zr_ok rfl rfl) rfl rfl (Nat.le_of_ble_eq_true rfl) (⟨Nat.le_of_ble_eq_true rfl, Nat.le_of_ble_eq_true rfl⟩) dX4_addMicrophone_45 ?_
        refine z_goto (tgt := 60) C dX4_addMicrophone_48 (by decide) ?_
        exact z_ireturn C rfl (rfl) dX4_addMicrophone_60 (⟨rfl, rfl⟩) (Nat.le_of_ble_eq_true rfl) (Nat.le_of_ble_eq_true rfl)
    · exact absurd c_22 (by decide)
theorem np_X4_isVehicle : znp yX4_isVehicle 1 := ⟨by decide +kernel, by decide +kernel, by decide +kernel⟩
theorem np_X4_isOffset : znp yX4_isOffset 1 := ⟨by decide +kernel, by decide +kernel, by decide +kernel⟩
theorem np_X4_isValue : znp yX4_isValue 1 := ⟨by decide +kernel, by decide +kernel, by decide +kernel⟩
theorem np_X4_appendSource : znp yX4_appendSource 4 := ⟨by decide +kernel, by decide +kernel, by decide +kernel⟩
theorem np_X4_appendValue : znp yX4_appendValue 2 := ⟨by decide +kernel, by decide +kernel, by decide +kernel⟩
set_option maxHeartbeats 4000000 in
set_option maxRecDepth 100000 in
theorem ct_X4_addSource_ok (D : zG) (B : Nat) {b : zH} {t : tA} {st : Nat → Int32} {bk : Nat → Int32} {sv : Nat → Int32} {iz : Nat → Int32} {th : Int32} {di : Nat → Int32} {re : Nat → Int32} {si : Nat → Int32} {pa : Nat → Int32} {fo : Nat → Int64} {te : Nat → Int32} {tl : Int32} {po : Int32} {ts : Int32} {to : Int32} {le : Int32} {nu : Int32} {ec : Int32} {ep : Int32} {wo : Int64} (v o z s x : Int32) (hv : 0 ≤ v ∧ v ≤ st 6 - 1) (h1 : -1000 ≤ o ∧ o ≤ 1000) (h2 : 0 ≤ z ∧ z ≤ 500) (h3 : 1 ≤ s ∧ s ≤ 10) (h4 : -99 ≤ x ∧ x ≤ 99) (n : Nat) (hn : st 7 = nI n) (hn6 : n < 6) : Ct D B yX4_addSource (ws_ yX4_addSource cX4_addSource 8 (some .int)) (zr 2) [.ref (t.1 0), .int v, .int o, .int z, .int s, .int x] (tw b t st bk sv iz th di re si pa fo te tl po ts to le nu ec ep wo) (zpe (some (.int (nI n))) (tw b t (upd (upd (upd (upd (upd (upd (upd (upd st (28 + 21 * n + 0) v) (28 + 21 * n + 1) o) (28 + 21 * n + 2) z) (28 + 21 * n + 3) s) (28 + 21 * n + 4) 0) 7 (nI (n + 1))) (28 + 21 * n + 5 + 0) x) (28 + 21 * n + 4) (nI (0 + 1))) bk sv iz 0 di re si pa fo te tl po ts to le nu ec ep wo)) zno := by
  refine ct_intro (by decide +kernel) (Nat.le_of_ble_eq_true rfl) ?_
  intro X C
  refine z_aload_n (i := 0) C dX4_addSource_0 rfl rfl ?_
  refine z_iconst (v := 0) C dX4_addSource_1 (by decide) ?_
  refine tp_thrown C q1868 dX4_addSource_2 ?_
  refine z_aload_n (i := 0) C dX4_addSource_5 rfl rfl ?_
  refine z_iload_n (i := 1) C dX4_addSource_6 rfl rfl ?_
  refine z_callVe C (tw_obj) rfl (ct_X4_isVehicle D B _) q1972 q1974 qs28 q106 q1975 np_X4_isVehicle (zr_ok rfl rfl) rfl rfl (Nat.le_of_ble_eq_true rfl) (⟨Nat.le_of_ble_eq_true rfl, Nat.le_of_ble_eq_true rfl⟩) dX4_addSource_7 ?_
  refine z_seti (zb_t (hv)) ?_
  refine z_if_ne (tgt := 19) C dX4_addSource_10 (by decide) (fun c_10 => ?_) (fun c_10 => ?_)
  · refine z_iload_n (i := 2) C dX4_addSource_19 rfl rfl ?_
    refine z_callSe C (ct_X4_isOffset D B _) q1976 q1977 q106 q1978 np_X4_isOffset (zr_ok rfl rfl) rfl rfl (Nat.le_of_ble_eq_true rfl) (⟨Nat.le_of_ble_eq_true rfl, Nat.le_of_ble_eq_true rfl⟩) dX4_addSource_20 ?_
    refine z_seti (zb_t (h1)) ?_
    refine z_if_eq (tgt := 52) C dX4_addSource_23 (by decide) (fun c_23 => ?_) (fun c_23 => ?_)
    · exact absurd c_23 (by decide)
    · refine z_iload_n (i := 3) C dX4_addSource_26 rfl rfl ?_
      refine z_callSe C (ct_X4_isHeight D B _) q1979 q1980 q106 q1981 np_X4_isHeight (zr_ok rfl rfl) rfl rfl (Nat.le_of_ble_eq_true rfl) (⟨Nat.le_of_ble_eq_true rfl, Nat.le_of_ble_eq_true rfl⟩) dX4_addSource_27 ?_
      refine z_seti (zb_t (h2)) ?_
      refine z_if_eq (tgt := 52) C dX4_addSource_30 (by decide) (fun c_30 => ?_) (fun c_30 => ?_)
      · exact absurd c_30 (by decide)
      · refine z_iload C dX4_addSource_33 rfl ?_
        refine z_iconst (v := 1) C dX4_addSource_35 (by decide) ?_
        refine z_bipush (v := 10) C dX4_addSource_36 (by decide) ?_
        refine z_callSe C (ct_X4_isBetween D B _ _ _) q1934 q1935 q106 q1936 np_X4_isBetween (zr_ok rfl rfl) rfl rfl (Nat.le_of_ble_eq_true rfl) (⟨Nat.le_of_ble_eq_true rfl, Nat.le_of_ble_eq_true rfl⟩) dX4_addSource_38 ?_
        refine z_seti (zb_t (h3)) ?_
        refine z_if_eq (tgt := 52) C dX4_addSource_41 (by decide) (fun c_41 => ?_) (fun c_41 => ?_)
        · exact absurd c_41 (by decide)
        · refine z_iload C dX4_addSource_44 rfl ?_
          refine z_callSe C (ct_X4_isValue D B _) q1982 q1983 q106 q1984 np_X4_isValue (zr_ok rfl rfl) rfl rfl (Nat.le_of_ble_eq_true rfl) (⟨Nat.le_of_ble_eq_true rfl, Nat.le_of_ble_eq_true rfl⟩) dX4_addSource_46 ?_
          refine z_seti (zb_t (h4)) ?_
          refine z_if_ne (tgt := 58) C dX4_addSource_49 (by decide) (fun c_49 => ?_) (fun c_49 => ?_)
          · refine z_aload_n (i := 0) C dX4_addSource_58 rfl rfl ?_
            refine tg_state C q1864 dX4_addSource_59 ?_
            refine z_bipush (v := 7) C dX4_addSource_62 (by decide) ?_
            refine tl_state C (⟨(rfl : (7 : Int32) = nI 7), by decide⟩) dX4_addSource_64 ?_
            refine z_bipush (v := 6) C dX4_addSource_65 (by decide) ?_
            refine z_icmp_ne (tgt := 76) C dX4_addSource_67 (by decide) (fun c_67 => ?_) (fun c_67 => ?_)
            · refine z_aload_n (i := 0) C dX4_addSource_76 rfl rfl ?_
              refine z_iload_n (i := 1) C dX4_addSource_77 rfl rfl ?_
              refine z_iload_n (i := 2) C dX4_addSource_78 rfl rfl ?_
              refine z_iload_n (i := 3) C dX4_addSource_79 rfl rfl ?_
              refine z_iload C dX4_addSource_80 rfl ?_
              refine z_callVe C (tw_obj) rfl (ct_X4_appendSource D B v o z s n hn hn6) q1985 q1987 qs29 q106 q1988 np_X4_appendSource (zr_ok rfl rfl) rfl rfl (Nat.le_of_ble_eq_true rfl) (⟨Nat.le_of_ble_eq_true rfl, Nat.le_of_ble_eq_true rfl⟩) dX4_addSource_82 ?_
              refine z_istore C dX4_addSource_85 (Nat.le_of_ble_eq_true rfl) rfl ?_
              refine z_aload_n (i := 0) C dX4_addSource_87 rfl rfl ?_
              refine z_iload C dX4_addSource_88 rfl ?_
              refine z_iload C dX4_addSource_90 rfl ?_
              refine z_callVe C (tw_obj) rfl (ct_X4_appendValue D B n x hn6 0 (by unfold upd; rw [if_neg (by omega), if_pos rfl]; rfl) (by decide)) q1989 q1991 qs30 q106 q1992 np_X4_appendValue (zr_ok rfl rfl) rfl rfl (Nat.le_of_ble_eq_true rfl) (⟨Nat.le_of_ble_eq_true rfl, Nat.le_of_ble_eq_true rfl⟩) dX4_addSource_92 ?_
              refine z_istore C dX4_addSource_95 (Nat.le_of_ble_eq_true rfl) rfl ?_
              refine z_iload C dX4_addSource_97 rfl ?_
              exact z_ireturn C rfl (rfl) dX4_addSource_99 (⟨rfl, rfl⟩) (Nat.le_of_ble_eq_true rfl) (Nat.le_of_ble_eq_true rfl)
            · exact absurd c_67 (by rw [hn]; exact zne (b := 6) (by omega) (by decide))
          · exact absurd c_49 (by decide)
  · exact absurd c_10 (by decide)
set_option maxHeartbeats 4000000 in
set_option maxRecDepth 100000 in
theorem ct_X4_addSource_1 (D : zG) (B : Nat) {b : zH} {t : tA} {st : Nat → Int32} {bk : Nat → Int32} {sv : Nat → Int32} {iz : Nat → Int32} {th : Int32} {di : Nat → Int32} {re : Nat → Int32} {si : Nat → Int32} {pa : Nat → Int32} {fo : Nat → Int64} {te : Nat → Int32} {tl : Int32} {po : Int32} {ts : Int32} {to : Int32} {le : Int32} {nu : Int32} {ec : Int32} {ep : Int32} {wo : Int64} (v o z s x : Int32) (hv : ¬ (0 ≤ v ∧ v ≤ st 6 - 1)) : Ct D B yX4_addSource (ws_ yX4_addSource cX4_addSource 8 (some .int)) (zr 2) [.ref (t.1 0), .int v, .int o, .int z, .int s, .int x] (tw b t st bk sv iz th di re si pa fo te tl po ts to le nu ec ep wo) (zpe (some (.int (0))) (tw b t st bk sv iz 1 di re si pa fo te tl po ts to le nu ec ep wo)) zno := by
  refine ct_intro (by decide +kernel) (Nat.le_of_ble_eq_true rfl) ?_
  intro X C
  refine z_aload_n (i := 0) C dX4_addSource_0 rfl rfl ?_
  refine z_iconst (v := 0) C dX4_addSource_1 (by decide) ?_
  refine tp_thrown C q1868 dX4_addSource_2 ?_
  refine z_aload_n (i := 0) C dX4_addSource_5 rfl rfl ?_
  refine z_iload_n (i := 1) C dX4_addSource_6 rfl rfl ?_
  refine z_callVe C (tw_obj) rfl (ct_X4_isVehicle D B _) q1972 q1974 qs28 q106 q1975 np_X4_isVehicle (zr_ok rfl rfl) rfl rfl (Nat.le_of_ble_eq_true rfl) (⟨Nat.le_of_ble_eq_true rfl, Nat.le_of_ble_eq_true rfl⟩) dX4_addSource_7 ?_
  refine z_seti (zb_f (hv)) ?_
  refine z_if_ne (tgt := 19) C dX4_addSource_10 (by decide) (fun c_10 => ?_) (fun c_10 => ?_)
  · exact absurd rfl c_10
  · refine z_aload_n (i := 0) C dX4_addSource_13 rfl rfl ?_
    refine z_iconst (v := 1) C dX4_addSource_14 (by decide) ?_
    refine z_callVe C (tw_obj) rfl (ct_X4_fail D B _) q1941 q1943 qs26 q106 q1944 np_X4_fail (zr_ok rfl rfl) rfl rfl (Nat.le_of_ble_eq_true rfl) (⟨Nat.le_of_ble_eq_true rfl, Nat.le_of_ble_eq_true rfl⟩) dX4_addSource_15 ?_
    exact z_ireturn C rfl (rfl) dX4_addSource_18 (⟨rfl, rfl⟩) (Nat.le_of_ble_eq_true rfl) (Nat.le_of_ble_eq_true rfl)
set_option maxHeartbeats 4000000 in
set_option maxRecDepth 100000 in
theorem ct_X4_addSource_2a (D : zG) (B : Nat) {b : zH} {t : tA} {st : Nat → Int32} {bk : Nat → Int32} {sv : Nat → Int32} {iz : Nat → Int32} {th : Int32} {di : Nat → Int32} {re : Nat → Int32} {si : Nat → Int32} {pa : Nat → Int32} {fo : Nat → Int64} {te : Nat → Int32} {tl : Int32} {po : Int32} {ts : Int32} {to : Int32} {le : Int32} {nu : Int32} {ec : Int32} {ep : Int32} {wo : Int64} (v o z s x : Int32) (hv : 0 ≤ v ∧ v ≤ st 6 - 1)  (h1 : ¬ (-1000 ≤ o ∧ o ≤ 1000)) : Ct D B yX4_addSource (ws_ yX4_addSource cX4_addSource 8 (some .int)) (zr 2) [.ref (t.1 0), .int v, .int o, .int z, .int s, .int x] (tw b t st bk sv iz th di re si pa fo te tl po ts to le nu ec ep wo) (zpe (some (.int (0))) (tw b t st bk sv iz 2 di re si pa fo te tl po ts to le nu ec ep wo)) zno := by
  refine ct_intro (by decide +kernel) (Nat.le_of_ble_eq_true rfl) ?_
  intro X C
  refine z_aload_n (i := 0) C dX4_addSource_0 rfl rfl ?_
  refine z_iconst (v := 0) C dX4_addSource_1 (by decide) ?_
  refine tp_thrown C q1868 dX4_addSource_2 ?_
  refine z_aload_n (i := 0) C dX4_addSource_5 rfl rfl ?_
  refine z_iload_n (i := 1) C dX4_addSource_6 rfl rfl ?_
  refine z_callVe C (tw_obj) rfl (ct_X4_isVehicle D B _) q1972 q1974 qs28 q106 q1975 np_X4_isVehicle (zr_ok rfl rfl) rfl rfl (Nat.le_of_ble_eq_true rfl) (⟨Nat.le_of_ble_eq_true rfl, Nat.le_of_ble_eq_true rfl⟩) dX4_addSource_7 ?_
  refine z_seti (zb_t (hv)) ?_
  refine z_if_ne (tgt := 19) C dX4_addSource_10 (by decide) (fun c_10 => ?_) (fun c_10 => ?_)
  · refine z_iload_n (i := 2) C dX4_addSource_19 rfl rfl ?_
    refine z_callSe C (ct_X4_isOffset D B _) q1976 q1977 q106 q1978 np_X4_isOffset (zr_ok rfl rfl) rfl rfl (Nat.le_of_ble_eq_true rfl) (⟨Nat.le_of_ble_eq_true rfl, Nat.le_of_ble_eq_true rfl⟩) dX4_addSource_20 ?_
    refine z_seti (zb_f (h1)) ?_
    refine z_if_eq (tgt := 52) C dX4_addSource_23 (by decide) (fun c_23 => ?_) (fun c_23 => ?_)
    · refine z_aload_n (i := 0) C dX4_addSource_52 rfl rfl ?_
      refine z_iconst (v := 2) C dX4_addSource_53 (by decide) ?_
      refine z_callVe C (tw_obj) rfl (ct_X4_fail D B _) q1941 q1943 qs26 q106 q1944 np_X4_fail (zr_ok rfl rfl) rfl rfl (Nat.le_of_ble_eq_true rfl) (⟨Nat.le_of_ble_eq_true rfl, Nat.le_of_ble_eq_true rfl⟩) dX4_addSource_54 ?_
      exact z_ireturn C rfl (rfl) dX4_addSource_57 (⟨rfl, rfl⟩) (Nat.le_of_ble_eq_true rfl) (Nat.le_of_ble_eq_true rfl)
    · exact absurd rfl c_23
  · exact absurd c_10 (by decide)
set_option maxHeartbeats 4000000 in
set_option maxRecDepth 100000 in
theorem ct_X4_addSource_2b (D : zG) (B : Nat) {b : zH} {t : tA} {st : Nat → Int32} {bk : Nat → Int32} {sv : Nat → Int32} {iz : Nat → Int32} {th : Int32} {di : Nat → Int32} {re : Nat → Int32} {si : Nat → Int32} {pa : Nat → Int32} {fo : Nat → Int64} {te : Nat → Int32} {tl : Int32} {po : Int32} {ts : Int32} {to : Int32} {le : Int32} {nu : Int32} {ec : Int32} {ep : Int32} {wo : Int64} (v o z s x : Int32) (hv : 0 ≤ v ∧ v ≤ st 6 - 1) (h1 : -1000 ≤ o ∧ o ≤ 1000) (h2 : ¬ (0 ≤ z ∧ z ≤ 500)) : Ct D B yX4_addSource (ws_ yX4_addSource cX4_addSource 8 (some .int)) (zr 2) [.ref (t.1 0), .int v, .int o, .int z, .int s, .int x] (tw b t st bk sv iz th di re si pa fo te tl po ts to le nu ec ep wo) (zpe (some (.int (0))) (tw b t st bk sv iz 2 di re si pa fo te tl po ts to le nu ec ep wo)) zno := by
  refine ct_intro (by decide +kernel) (Nat.le_of_ble_eq_true rfl) ?_
  intro X C
  refine z_aload_n (i := 0) C dX4_addSource_0 rfl rfl ?_
  refine z_iconst (v := 0) C dX4_addSource_1 (by decide) ?_
  refine tp_thrown C q1868 dX4_addSource_2 ?_
  refine z_aload_n (i := 0) C dX4_addSource_5 rfl rfl ?_
  refine z_iload_n (i := 1) C dX4_addSource_6 rfl rfl ?_
  refine z_callVe C (tw_obj) rfl (ct_X4_isVehicle D B _) q1972 q1974 qs28 q106 q1975 np_X4_isVehicle (zr_ok rfl rfl) rfl rfl (Nat.le_of_ble_eq_true rfl) (⟨Nat.le_of_ble_eq_true rfl, Nat.le_of_ble_eq_true rfl⟩) dX4_addSource_7 ?_
  refine z_seti (zb_t (hv)) ?_
  refine z_if_ne (tgt := 19) C dX4_addSource_10 (by decide) (fun c_10 => ?_) (fun c_10 => ?_)
  · refine z_iload_n (i := 2) C dX4_addSource_19 rfl rfl ?_
    refine z_callSe C (ct_X4_isOffset D B _) q1976 q1977 q106 q1978 np_X4_isOffset (zr_ok rfl rfl) rfl rfl (Nat.le_of_ble_eq_true rfl) (⟨Nat.le_of_ble_eq_true rfl, Nat.le_of_ble_eq_true rfl⟩) dX4_addSource_20 ?_
    refine z_seti (zb_t (h1)) ?_
    refine z_if_eq (tgt := 52) C dX4_addSource_23 (by decide) (fun c_23 => ?_) (fun c_23 => ?_)
    · exact absurd c_23 (by decide)
    · refine z_iload_n (i := 3) C dX4_addSource_26 rfl rfl ?_
      refine z_callSe C (ct_X4_isHeight D B _) q1979 q1980 q106 q1981 np_X4_isHeight (zr_ok rfl rfl) rfl rfl (Nat.le_of_ble_eq_true rfl) (⟨Nat.le_of_ble_eq_true rfl, Nat.le_of_ble_eq_true rfl⟩) dX4_addSource_27 ?_
      refine z_seti (zb_f (h2)) ?_
      refine z_if_eq (tgt := 52) C dX4_addSource_30 (by decide) (fun c_30 => ?_) (fun c_30 => ?_)
      · refine z_aload_n (i := 0) C dX4_addSource_52 rfl rfl ?_
        refine z_iconst (v := 2) C dX4_addSource_53 (by decide) ?_
        refine z_callVe C (tw_obj) rfl (ct_X4_fail D B _) q1941 q1943 qs26 q106 q1944 np_X4_fail (zr_ok rfl rfl) rfl rfl (Nat.le_of_ble_eq_true rfl) (⟨Nat.le_of_ble_eq_true rfl, Nat.le_of_ble_eq_true rfl⟩) dX4_addSource_54 ?_
        exact z_ireturn C rfl (rfl) dX4_addSource_57 (⟨rfl, rfl⟩) (Nat.le_of_ble_eq_true rfl) (Nat.le_of_ble_eq_true rfl)
      · exact absurd rfl c_30
  · exact absurd c_10 (by decide)
set_option maxHeartbeats 4000000 in
set_option maxRecDepth 100000 in
theorem ct_X4_addSource_2c (D : zG) (B : Nat) {b : zH} {t : tA} {st : Nat → Int32} {bk : Nat → Int32} {sv : Nat → Int32} {iz : Nat → Int32} {th : Int32} {di : Nat → Int32} {re : Nat → Int32} {si : Nat → Int32} {pa : Nat → Int32} {fo : Nat → Int64} {te : Nat → Int32} {tl : Int32} {po : Int32} {ts : Int32} {to : Int32} {le : Int32} {nu : Int32} {ec : Int32} {ep : Int32} {wo : Int64} (v o z s x : Int32) (hv : 0 ≤ v ∧ v ≤ st 6 - 1) (h1 : -1000 ≤ o ∧ o ≤ 1000) (h2 : 0 ≤ z ∧ z ≤ 500) (h3 : ¬ (1 ≤ s ∧ s ≤ 10)) : Ct D B yX4_addSource (ws_ yX4_addSource cX4_addSource 8 (some .int)) (zr 2) [.ref (t.1 0), .int v, .int o, .int z, .int s, .int x] (tw b t st bk sv iz th di re si pa fo te tl po ts to le nu ec ep wo) (zpe (some (.int (0))) (tw b t st bk sv iz 2 di re si pa fo te tl po ts to le nu ec ep wo)) zno := by
  refine ct_intro (by decide +kernel) (Nat.le_of_ble_eq_true rfl) ?_
  intro X C
  refine z_aload_n (i := 0) C dX4_addSource_0 rfl rfl ?_
  refine z_iconst (v := 0) C dX4_addSource_1 (by decide) ?_
  refine tp_thrown C q1868 dX4_addSource_2 ?_
  refine z_aload_n (i := 0) C dX4_addSource_5 rfl rfl ?_
  refine z_iload_n (i := 1) C dX4_addSource_6 rfl rfl ?_
  refine z_callVe C (tw_obj) rfl (ct_X4_isVehicle D B _) q1972 q1974 qs28 q106 q1975 np_X4_isVehicle (zr_ok rfl rfl) rfl rfl (Nat.le_of_ble_eq_true rfl) (⟨Nat.le_of_ble_eq_true rfl, Nat.le_of_ble_eq_true rfl⟩) dX4_addSource_7 ?_
  refine z_seti (zb_t (hv)) ?_
  refine z_if_ne (tgt := 19) C dX4_addSource_10 (by decide) (fun c_10 => ?_) (fun c_10 => ?_)
  · refine z_iload_n (i := 2) C dX4_addSource_19 rfl rfl ?_
    refine z_callSe C (ct_X4_isOffset D B _) q1976 q1977 q106 q1978 np_X4_isOffset (zr_ok rfl rfl) rfl rfl (Nat.le_of_ble_eq_true rfl) (⟨Nat.le_of_ble_eq_true rfl, Nat.le_of_ble_eq_true rfl⟩) dX4_addSource_20 ?_
    refine z_seti (zb_t (h1)) ?_
    refine z_if_eq (tgt := 52) C dX4_addSource_23 (by decide) (fun c_23 => ?_) (fun c_23 => ?_)
    · exact absurd c_23 (by decide)
    · refine z_iload_n (i := 3) C dX4_addSource_26 rfl rfl ?_
      refine z_callSe C (ct_X4_isHeight D B _) q1979 q1980 q106 q1981 np_X4_isHeight (zr_ok rfl rfl) rfl rfl (Nat.le_of_ble_eq_true rfl) (⟨Nat.le_of_ble_eq_true rfl, Nat.le_of_ble_eq_true rfl⟩) dX4_addSource_27 ?_
      refine z_seti (zb_t (h2)) ?_
      refine z_if_eq (tgt := 52) C dX4_addSource_30 (by decide) (fun c_30 => ?_) (fun c_30 => ?_)
      · exact absurd c_30 (by decide)
      · refine z_iload C dX4_addSource_33 rfl ?_
        refine z_iconst (v := 1) C dX4_addSource_35 (by decide) ?_
        refine z_bipush (v := 10) C dX4_addSource_36 (by decide) ?_
        refine z_callSe C (ct_X4_isBetween D B _ _ _) q1934 q1935 q106 q1936 np_X4_isBetween (zr_ok rfl rfl) rfl rfl (Nat.le_of_ble_eq_true rfl) (⟨Nat.le_of_ble_eq_true rfl, Nat.le_of_ble_eq_true rfl⟩) dX4_addSource_38 ?_
        refine z_seti (zb_f (h3)) ?_
        refine z_if_eq (tgt := 52) C dX4_addSource_41 (by decide) (fun c_41 => ?_) (fun c_41 => ?_)
        · refine z_aload_n (i := 0) C dX4_addSource_52 rfl rfl ?_
          refine z_iconst (v := 2) C dX4_addSource_53 (by decide) ?_
          refine z_callVe C (tw_obj) rfl (ct_X4_fail D B _) q1941 q1943 qs26 q106 q1944 np_X4_fail (zr_ok rfl rfl) rfl rfl (Nat.le_of_ble_eq_true rfl) (⟨Nat.le_of_ble_eq_true rfl, Nat.le_of_ble_eq_true rfl⟩) dX4_addSource_54 ?_
          exact z_ireturn C rfl (rfl) dX4_addSource_57 (⟨rfl, rfl⟩) (Nat.le_of_ble_eq_true rfl) (Nat.le_of_ble_eq_true rfl)
        · exact absurd rfl c_41
  · exact absurd c_10 (by decide)
set_option maxHeartbeats 4000000 in
set_option maxRecDepth 100000 in
theorem ct_X4_addSource_2d (D : zG) (B : Nat) {b : zH} {t : tA} {st : Nat → Int32} {bk : Nat → Int32} {sv : Nat → Int32} {iz : Nat → Int32} {th : Int32} {di : Nat → Int32} {re : Nat → Int32} {si : Nat → Int32} {pa : Nat → Int32} {fo : Nat → Int64} {te : Nat → Int32} {tl : Int32} {po : Int32} {ts : Int32} {to : Int32} {le : Int32} {nu : Int32} {ec : Int32} {ep : Int32} {wo : Int64} (v o z s x : Int32) (hv : 0 ≤ v ∧ v ≤ st 6 - 1) (h1 : -1000 ≤ o ∧ o ≤ 1000) (h2 : 0 ≤ z ∧ z ≤ 500) (h3 : 1 ≤ s ∧ s ≤ 10) (h4 : ¬ (-99 ≤ x ∧ x ≤ 99)) : Ct D B yX4_addSource (ws_ yX4_addSource cX4_addSource 8 (some .int)) (zr 2) [.ref (t.1 0), .int v, .int o, .int z, .int s, .int x] (tw b t st bk sv iz th di re si pa fo te tl po ts to le nu ec ep wo) (zpe (some (.int (0))) (tw b t st bk sv iz 2 di re si pa fo te tl po ts to le nu ec ep wo)) zno := by
  refine ct_intro (by decide +kernel) (Nat.le_of_ble_eq_true rfl) ?_
  intro X C
  refine z_aload_n (i := 0) C dX4_addSource_0 rfl rfl ?_
  refine z_iconst (v := 0) C dX4_addSource_1 (by decide) ?_
  refine tp_thrown C q1868 dX4_addSource_2 ?_
  refine z_aload_n (i := 0) C dX4_addSource_5 rfl rfl ?_
  refine z_iload_n (i := 1) C dX4_addSource_6 rfl rfl ?_
  refine z_callVe C (tw_obj) rfl (ct_X4_isVehicle D B _) q1972 q1974 qs28 q106 q1975 np_X4_isVehicle (zr_ok rfl rfl) rfl rfl (Nat.le_of_ble_eq_true rfl) (⟨Nat.le_of_ble_eq_true rfl, Nat.le_of_ble_eq_true rfl⟩) dX4_addSource_7 ?_
  refine z_seti (zb_t (hv)) ?_
  refine z_if_ne (tgt := 19) C dX4_addSource_10 (by decide) (fun c_10 => ?_) (fun c_10 => ?_)
  · refine z_iload_n (i := 2) C dX4_addSource_19 rfl rfl ?_
    refine z_callSe C (ct_X4_isOffset D B _) q1976 q1977 q106 q1978 np_X4_isOffset (zr_ok rfl rfl) rfl rfl (Nat.le_of_ble_eq_true rfl) (⟨Nat.le_of_ble_eq_true rfl, Nat.le_of_ble_eq_true rfl⟩) dX4_addSource_20 ?_
    refine z_seti (zb_t (h1)) ?_
    refine z_if_eq (tgt := 52) C dX4_addSource_23 (by decide) (fun c_23 => ?_) (fun c_23 => ?_)
    · exact absurd c_23 (by decide)
    · refine z_iload_n (i := 3) C dX4_addSource_26 rfl rfl ?_
      refine z_callSe C (ct_X4_isHeight D B _) q1979 q1980 q106 q1981 np_X4_isHeight (zr_ok rfl rfl) rfl rfl (Nat.le_of_ble_eq_true rfl) (⟨Nat.le_of_ble_eq_true rfl, Nat.le_of_ble_eq_true rfl⟩) dX4_addSource_27 ?_
      refine z_seti (zb_t (h2)) ?_
      refine z_if_eq (tgt := 52) C dX4_addSource_30 (by decide) (fun c_30 => ?_) (fun c_30 => ?_)
      · exact absurd c_30 (by decide)
      · refine z_iload C dX4_addSource_33 rfl ?_
        refine z_iconst (v := 1) C dX4_addSource_35 (by decide) ?_
        refine z_bipush (v := 10) C dX4_addSource_36 (by decide) ?_
        refine z_callSe C (ct_X4_isBetween D B _ _ _) q1934 q1935 q106 q1936 np_X4_isBetween (zr_ok rfl rfl) rfl rfl (Nat.le_of_ble_eq_true rfl) (⟨Nat.le_of_ble_eq_true rfl, Nat.le_of_ble_eq_true rfl⟩) dX4_addSource_38 ?_
        refine z_seti (zb_t (h3)) ?_
        refine z_if_eq (tgt := 52) C dX4_addSource_41 (by decide) (fun c_41 => ?_) (fun c_41 => ?_)
        · exact absurd c_41 (by decide)
        · refine z_iload C dX4_addSource_44 rfl ?_
          refine z_callSe C (ct_X4_isValue D B _) q1982 q1983 q106 q1984 np_X4_isValue (zr_ok rfl rfl) rfl rfl (Nat.le_of_ble_eq_true rfl) (⟨Nat.le_of_ble_eq_true rfl, Nat.le_of_ble_eq_true rfl⟩) dX4_addSource_46 ?_
          refine z_seti (zb_f (h4)) ?_
          refine z_if_ne (tgt := 58) C dX4_addSource_49 (by decide) (fun c_49 => ?_) (fun c_49 => ?_)
          · exact absurd rfl c_49
          · refine z_aload_n (i := 0) C dX4_addSource_52 rfl rfl ?_
            refine z_iconst (v := 2) C dX4_addSource_53 (by decide) ?_
            refine z_callVe C (tw_obj) rfl (ct_X4_fail D B _) q1941 q1943 qs26 q106 q1944 np_X4_fail (zr_ok rfl rfl) rfl rfl (Nat.le_of_ble_eq_true rfl) (⟨Nat.le_of_ble_eq_true rfl, Nat.le_of_ble_eq_true rfl⟩) dX4_addSource_54 ?_
            exact z_ireturn C rfl (rfl) dX4_addSource_57 (⟨rfl, rfl⟩) (Nat.le_of_ble_eq_true rfl) (Nat.le_of_ble_eq_true rfl)
  · exact absurd c_10 (by decide)
set_option maxHeartbeats 4000000 in
set_option maxRecDepth 100000 in
theorem ct_X4_addSource_3 (D : zG) (B : Nat) {b : zH} {t : tA} {st : Nat → Int32} {bk : Nat → Int32} {sv : Nat → Int32} {iz : Nat → Int32} {th : Int32} {di : Nat → Int32} {re : Nat → Int32} {si : Nat → Int32} {pa : Nat → Int32} {fo : Nat → Int64} {te : Nat → Int32} {tl : Int32} {po : Int32} {ts : Int32} {to : Int32} {le : Int32} {nu : Int32} {ec : Int32} {ep : Int32} {wo : Int64} (v o z s x : Int32) (hv : 0 ≤ v ∧ v ≤ st 6 - 1) (h1 : -1000 ≤ o ∧ o ≤ 1000) (h2 : 0 ≤ z ∧ z ≤ 500) (h3 : 1 ≤ s ∧ s ≤ 10) (h4 : -99 ≤ x ∧ x ≤ 99) (hn : st 7 = 6) : Ct D B yX4_addSource (ws_ yX4_addSource cX4_addSource 8 (some .int)) (zr 2) [.ref (t.1 0), .int v, .int o, .int z, .int s, .int x] (tw b t st bk sv iz th di re si pa fo te tl po ts to le nu ec ep wo) (zpe (some (.int (0))) (tw b t st bk sv iz 3 di re si pa fo te tl po ts to le nu ec ep wo)) zno := by
  refine ct_intro (by decide +kernel) (Nat.le_of_ble_eq_true rfl) ?_
  intro X C
  refine z_aload_n (i := 0) C dX4_addSource_0 rfl rfl ?_
  refine z_iconst (v := 0) C dX4_addSource_1 (by decide) ?_
  refine tp_thrown C q1868 dX4_addSource_2 ?_
  refine z_aload_n (i := 0) C dX4_addSource_5 rfl rfl ?_
  refine z_iload_n (i := 1) C dX4_addSource_6 rfl rfl ?_
  refine z_callVe C (tw_obj) rfl (ct_X4_isVehicle D B _) q1972 q1974 qs28 q106 q1975 np_X4_isVehicle (zr_ok rfl rfl) rfl rfl (Nat.le_of_ble_eq_true rfl) (⟨Nat.le_of_ble_eq_true rfl, Nat.le_of_ble_eq_true rfl⟩) dX4_addSource_7 ?_
  refine z_seti (zb_t (hv)) ?_
  refine z_if_ne (tgt := 19) C dX4_addSource_10 (by decide) (fun c_10 => ?_) (fun c_10 => ?_)
  · refine z_iload_n (i := 2) C dX4_addSource_19 rfl rfl ?_
    refine z_callSe C (ct_X4_isOffset D B _) q1976 q1977 q106 q1978 np_X4_isOffset (zr_ok rfl rfl) rfl rfl (Nat.le_of_ble_eq_true rfl) (⟨Nat.le_of_ble_eq_true rfl, Nat.le_of_ble_eq_true rfl⟩) dX4_addSource_20 ?_
    refine z_seti (zb_t (h1)) ?_
    refine z_if_eq (tgt := 52) C dX4_addSource_23 (by decide) (fun c_23 => ?_) (fun c_23 => ?_)
    · exact absurd c_23 (by decide)
    · refine z_iload_n (i := 3) C dX4_addSource_26 rfl rfl ?_
      refine z_callSe C (ct_X4_isHeight D B _) q1979 q1980 q106 q1981 np_X4_isHeight (zr_ok rfl rfl) rfl rfl (Nat.le_of_ble_eq_true rfl) (⟨Nat.le_of_ble_eq_true rfl, Nat.le_of_ble_eq_true rfl⟩) dX4_addSource_27 ?_
      refine z_seti (zb_t (h2)) ?_
      refine z_if_eq (tgt := 52) C dX4_addSource_30 (by decide) (fun c_30 => ?_) (fun c_30 => ?_)
      · exact absurd c_30 (by decide)
      · refine z_iload C dX4_addSource_33 rfl ?_
        refine z_iconst (v := 1) C dX4_addSource_35 (by decide) ?_
        refine z_bipush (v := 10) C dX4_addSource_36 (by decide) ?_
        refine z_callSe C (ct_X4_isBetween D B _ _ _) q1934 q1935 q106 q1936 np_X4_isBetween (zr_ok rfl rfl) rfl rfl (Nat.le_of_ble_eq_true rfl) (⟨Nat.le_of_ble_eq_true rfl, Nat.le_of_ble_eq_true rfl⟩) dX4_addSource_38 ?_
        refine z_seti (zb_t (h3)) ?_
        refine z_if_eq (tgt := 52) C dX4_addSource_41 (by decide) (fun c_41 => ?_) (fun c_41 => ?_)
        · exact absurd c_41 (by decide)
        · refine z_iload C dX4_addSource_44 rfl ?_
          refine z_callSe C (ct_X4_isValue D B _) q1982 q1983 q106 q1984 np_X4_isValue (zr_ok rfl rfl) rfl rfl (Nat.le_of_ble_eq_true rfl) (⟨Nat.le_of_ble_eq_true rfl, Nat.le_of_ble_eq_true rfl⟩) dX4_addSource_46 ?_
          refine z_seti (zb_t (h4)) ?_
          refine z_if_ne (tgt := 58) C dX4_addSource_49 (by decide) (fun c_49 => ?_) (fun c_49 => ?_)
          · refine z_aload_n (i := 0) C dX4_addSource_58 rfl rfl ?_
            refine tg_state C q1864 dX4_addSource_59 ?_
            refine z_bipush (v := 7) C dX4_addSource_62 (by decide) ?_
            refine tl_state C (⟨(rfl : (7 : Int32) = nI 7), by decide⟩) dX4_addSource_64 ?_
            refine z_bipush (v := 6) C dX4_addSource_65 (by decide) ?_
            refine z_icmp_ne (tgt := 76) C dX4_addSource_67 (by decide) (fun c_67 => ?_) (fun c_67 => ?_)
            · exact absurd (hn) c_67
            · refine z_aload_n (i := 0) C dX4_addSource_70 rfl rfl ?_
              refine z_iconst (v := 3) C dX4_addSource_71 (by decide) ?_
              refine z_callVe C (tw_obj) rfl (ct_X4_fail D B _) q1941 q1943 qs26 q106 q1944 np_X4_fail (zr_ok rfl rfl) rfl rfl (Nat.le_of_ble_eq_true rfl) (⟨Nat.le_of_ble_eq_true rfl, Nat.le_of_ble_eq_true rfl⟩) dX4_addSource_72 ?_
              exact z_ireturn C rfl (rfl) dX4_addSource_75 (⟨rfl, rfl⟩) (Nat.le_of_ble_eq_true rfl) (Nat.le_of_ble_eq_true rfl)
          · exact absurd c_49 (by decide)
  · exact absurd c_10 (by decide)
theorem np_X4_isSource : znp yX4_isSource 1 := ⟨by decide +kernel, by decide +kernel, by decide +kernel⟩
set_option maxHeartbeats 4000000 in
set_option maxRecDepth 100000 in
theorem ct_X4_addValue_ok (D : zG) (B : Nat) {b : zH} {t : tA} {st : Nat → Int32} {bk : Nat → Int32} {sv : Nat → Int32} {iz : Nat → Int32} {th : Int32} {di : Nat → Int32} {re : Nat → Int32} {si : Nat → Int32} {pa : Nat → Int32} {fo : Nat → Int64} {te : Nat → Int32} {tl : Int32} {po : Int32} {ts : Int32} {to : Int32} {le : Int32} {nu : Int32} {ec : Int32} {ep : Int32} {wo : Int64} (k : Nat) (x : Int32) (hs : 0 ≤ nI k ∧ nI k ≤ st 7 - 1) (hk : k < 6) (h4 : -99 ≤ x ∧ x ≤ 99) (n : Nat) (hn : st (28 + 21 * k + 4) = nI n) (hn16 : n < 16) : Ct D B yX4_addValue (ws_ yX4_addValue cX4_addValue 3 (some .int)) (zr 2) [.ref (t.1 0), .int (nI k), .int x] (tw b t st bk sv iz th di re si pa fo te tl po ts to le nu ec ep wo) (zpe (some (.int (nI (n + 1)))) (tw b t (upd (upd st (28 + 21 * k + 5 + n) x) (28 + 21 * k + 4) (nI (n + 1))) bk sv iz 0 di re si pa fo te tl po ts to le nu ec ep wo)) zno := by
  refine ct_intro (by decide +kernel) (Nat.le_of_ble_eq_true rfl) ?_
  intro X C
  refine z_aload_n (i := 0) C dX4_addValue_0 rfl rfl ?_
  refine z_iconst (v := 0) C dX4_addValue_1 (by decide) ?_
  refine tp_thrown C q1868 dX4_addValue_2 ?_
  refine z_aload_n (i := 0) C dX4_addValue_5 rfl rfl ?_
  refine z_iload_n (i := 1) C dX4_addValue_6 rfl rfl ?_
  refine z_callVe C (tw_obj) rfl (ct_X4_isSource D B _) q1997 q1999 qs31 q106 q2000 np_X4_isSource (zr_ok rfl rfl) rfl rfl (Nat.le_of_ble_eq_true rfl) (⟨Nat.le_of_ble_eq_true rfl, Nat.le_of_ble_eq_true rfl⟩) dX4_addValue_7 ?_
  refine z_seti (zb_t (hs)) ?_
  refine z_if_ne (tgt := 19) C dX4_addValue_10 (by decide) (fun c_10 => ?_) (fun c_10 => ?_)
  · refine z_iload_n (i := 2) C dX4_addValue_19 rfl rfl ?_
    refine z_callSe C (ct_X4_isValue D B _) q1982 q1983 q106 q1984 np_X4_isValue (zr_ok rfl rfl) rfl rfl (Nat.le_of_ble_eq_true rfl) (⟨Nat.le_of_ble_eq_true rfl, Nat.le_of_ble_eq_true rfl⟩) dX4_addValue_20 ?_
    refine z_seti (zb_t (h4)) ?_
    refine z_if_ne (tgt := 32) C dX4_addValue_23 (by decide) (fun c_23 => ?_) (fun c_23 => ?_)
    · refine z_aload_n (i := 0) C dX4_addValue_32 rfl rfl ?_
      refine z_iload_n (i := 1) C dX4_addValue_33 rfl rfl ?_
      refine z_iconst (v := 4) C dX4_addValue_34 (by decide) ?_
      refine z_callVe C (tw_obj) rfl (ct_X4_source D B k 4 (by omega)) q2001 q2003 qs32 q106 q2004 np_X4_source (zr_ok rfl rfl) rfl rfl (Nat.le_of_ble_eq_true rfl) (⟨Nat.le_of_ble_eq_true rfl, Nat.le_of_ble_eq_true rfl⟩) dX4_addValue_35 ?_
      refine z_seti hn ?_
      refine z_bipush (v := 16) C dX4_addValue_38 (by decide) ?_
      refine z_icmp_ne (tgt := 51) C dX4_addValue_40 (by decide) (fun c_40 => ?_) (fun c_40 => ?_)
      · refine z_aload_n (i := 0) C dX4_addValue_51 rfl rfl ?_
        refine z_iload_n (i := 1) C dX4_addValue_52 rfl rfl ?_
        refine z_iload_n (i := 2) C dX4_addValue_53 rfl rfl ?_
        refine z_callVe C (tw_obj) rfl (ct_X4_appendValue D B k x hk n hn hn16) q1989 q1991 qs30 q106 q1992 np_X4_appendValue (zr_ok rfl rfl) rfl rfl (Nat.le_of_ble_eq_true rfl) (⟨Nat.le_of_ble_eq_true rfl, Nat.le_of_ble_eq_true rfl⟩) dX4_addValue_54 ?_
        exact z_ireturn C rfl (rfl) dX4_addValue_57 (⟨rfl, rfl⟩) (Nat.le_of_ble_eq_true rfl) (Nat.le_of_ble_eq_true rfl)
      · exact absurd c_40 (zne (b := 16) (by omega) (by decide))
    · exact absurd c_23 (by decide)
  · exact absurd c_10 (by decide)
set_option maxHeartbeats 4000000 in
set_option maxRecDepth 100000 in
theorem ct_X4_addValue_1 (D : zG) (B : Nat) {b : zH} {t : tA} {st : Nat → Int32} {bk : Nat → Int32} {sv : Nat → Int32} {iz : Nat → Int32} {th : Int32} {di : Nat → Int32} {re : Nat → Int32} {si : Nat → Int32} {pa : Nat → Int32} {fo : Nat → Int64} {te : Nat → Int32} {tl : Int32} {po : Int32} {ts : Int32} {to : Int32} {le : Int32} {nu : Int32} {ec : Int32} {ep : Int32} {wo : Int64} (s x : Int32) (hs : ¬ (0 ≤ s ∧ s ≤ st 7 - 1)) : Ct D B yX4_addValue (ws_ yX4_addValue cX4_addValue 3 (some .int)) (zr 2) [.ref (t.1 0), .int s, .int x] (tw b t st bk sv iz th di re si pa fo te tl po ts to le nu ec ep wo) (zpe (some (.int (0))) (tw b t st bk sv iz 1 di re si pa fo te tl po ts to le nu ec ep wo)) zno := by
  refine ct_intro (by decide +kernel) (Nat.le_of_ble_eq_true rfl) ?_
  intro X C
  refine z_aload_n (i := 0) C dX4_addValue_0 rfl rfl ?_
  refine z_iconst (v := 0) C dX4_addValue_1 (by decide) ?_
  refine tp_thrown C q1868 dX4_addValue_2 ?_
  refine z_aload_n (i := 0) C dX4_addValue_5 rfl rfl ?_
  refine z_iload_n (i := 1) C dX4_addValue_6 rfl rfl ?_
  refine z_callVe C (tw_obj) rfl (ct_X4_isSource D B _) q1997 q1999 qs31 q106 q2000 np_X4_isSource (zr_ok rfl rfl) rfl rfl (Nat.le_of_ble_eq_true rfl) (⟨Nat.le_of_ble_eq_true rfl, Nat.le_of_ble_eq_true rfl⟩) dX4_addValue_7 ?_
  refine z_seti (zb_f (hs)) ?_
  refine z_if_ne (tgt := 19) C dX4_addValue_10 (by decide) (fun c_10 => ?_) (fun c_10 => ?_)
  · exact absurd rfl c_10
  · refine z_aload_n (i := 0) C dX4_addValue_13 rfl rfl ?_
    refine z_iconst (v := 1) C dX4_addValue_14 (by decide) ?_
    refine z_callVe C (tw_obj) rfl (ct_X4_fail D B _) q1941 q1943 qs26 q106 q1944 np_X4_fail (zr_ok rfl rfl) rfl rfl (Nat.le_of_ble_eq_true rfl) (⟨Nat.le_of_ble_eq_true rfl, Nat.le_of_ble_eq_true rfl⟩) dX4_addValue_15 ?_
    exact z_ireturn C rfl (rfl) dX4_addValue_18 (⟨rfl, rfl⟩) (Nat.le_of_ble_eq_true rfl) (Nat.le_of_ble_eq_true rfl)
set_option maxHeartbeats 4000000 in
set_option maxRecDepth 100000 in
theorem ct_X4_addValue_2 (D : zG) (B : Nat) {b : zH} {t : tA} {st : Nat → Int32} {bk : Nat → Int32} {sv : Nat → Int32} {iz : Nat → Int32} {th : Int32} {di : Nat → Int32} {re : Nat → Int32} {si : Nat → Int32} {pa : Nat → Int32} {fo : Nat → Int64} {te : Nat → Int32} {tl : Int32} {po : Int32} {ts : Int32} {to : Int32} {le : Int32} {nu : Int32} {ec : Int32} {ep : Int32} {wo : Int64} (s x : Int32) (hs : 0 ≤ s ∧ s ≤ st 7 - 1) (h4 : ¬ (-99 ≤ x ∧ x ≤ 99)) : Ct D B yX4_addValue (ws_ yX4_addValue cX4_addValue 3 (some .int)) (zr 2) [.ref (t.1 0), .int s, .int x] (tw b t st bk sv iz th di re si pa fo te tl po ts to le nu ec ep wo) (zpe (some (.int (0))) (tw b t st bk sv iz 2 di re si pa fo te tl po ts to le nu ec ep wo)) zno := by
  refine ct_intro (by decide +kernel) (Nat.le_of_ble_eq_true rfl) ?_
  intro X C
  refine z_aload_n (i := 0) C dX4_addValue_0 rfl rfl ?_
  refine z_iconst (v := 0) C dX4_addValue_1 (by decide) ?_
  refine tp_thrown C q1868 dX4_addValue_2 ?_
  refine z_aload_n (i := 0) C dX4_addValue_5 rfl rfl ?_
  refine z_iload_n (i := 1) C dX4_addValue_6 rfl rfl ?_
  refine z_callVe C (tw_obj) rfl (ct_X4_isSource D B _) q1997 q1999 qs31 q106 q2000 np_X4_isSource (zr_ok rfl rfl) rfl rfl (Nat.le_of_ble_eq_true rfl) (⟨Nat.le_of_ble_eq_true rfl, Nat.le_of_ble_eq_true rfl⟩) dX4_addValue_7 ?_
  refine z_seti (zb_t (hs)) ?_
  refine z_if_ne (tgt := 19) C dX4_addValue_10 (by decide) (fun c_10 => ?_) (fun c_10 => ?_)
  · refine z_iload_n (i := 2) C dX4_addValue_19 rfl rfl ?_
    refine z_callSe C (ct_X4_isValue D B _) q1982 q1983 q106 q1984 np_X4_isValue (zr_ok rfl rfl) rfl rfl (Nat.le_of_ble_eq_true rfl) (⟨Nat.le_of_ble_eq_true rfl, Nat.le_of_ble_eq_true rfl⟩) dX4_addValue_20 ?_
    refine z_seti (zb_f (h4)) ?_
    refine z_if_ne (tgt := 32) C dX4_addValue_23 (by decide) (fun c_23 => ?_) (fun c_23 => ?_)
    · exact absurd rfl c_23
    · refine z_aload_n (i := 0) C dX4_addValue_26 rfl rfl ?_
      refine z_iconst (v := 2) C dX4_addValue_27 (by decide) ?_
      refine z_callVe C (tw_obj) rfl (ct_X4_fail D B _) q1941 q1943 qs26 q106 q1944 np_X4_fail (zr_ok rfl rfl) rfl rfl (Nat.le_of_ble_eq_true rfl) (⟨Nat.le_of_ble_eq_true rfl, Nat.le_of_ble_eq_true rfl⟩) dX4_addValue_28 ?_
      exact z_ireturn C rfl (rfl) dX4_addValue_31 (⟨rfl, rfl⟩) (Nat.le_of_ble_eq_true rfl) (Nat.le_of_ble_eq_true rfl)
  · exact absurd c_10 (by decide)
set_option maxHeartbeats 4000000 in
set_option maxRecDepth 100000 in
theorem ct_X4_addValue_3 (D : zG) (B : Nat) {b : zH} {t : tA} {st : Nat → Int32} {bk : Nat → Int32} {sv : Nat → Int32} {iz : Nat → Int32} {th : Int32} {di : Nat → Int32} {re : Nat → Int32} {si : Nat → Int32} {pa : Nat → Int32} {fo : Nat → Int64} {te : Nat → Int32} {tl : Int32} {po : Int32} {ts : Int32} {to : Int32} {le : Int32} {nu : Int32} {ec : Int32} {ep : Int32} {wo : Int64} (k : Nat) (x : Int32) (hs : 0 ≤ nI k ∧ nI k ≤ st 7 - 1) (hk : k < 6) (h4 : -99 ≤ x ∧ x ≤ 99) (hn : st (28 + 21 * k + 4) = 16) : Ct D B yX4_addValue (ws_ yX4_addValue cX4_addValue 3 (some .int)) (zr 2) [.ref (t.1 0), .int (nI k), .int x] (tw b t st bk sv iz th di re si pa fo te tl po ts to le nu ec ep wo) (zpe (some (.int (0))) (tw b t st bk sv iz 3 di re si pa fo te tl po ts to le nu ec ep wo)) zno := by
  refine ct_intro (by decide +kernel) (Nat.le_of_ble_eq_true rfl) ?_
  intro X C
  refine z_aload_n (i := 0) C dX4_addValue_0 rfl rfl ?_
  refine z_iconst (v := 0) C dX4_addValue_1 (by decide) ?_
  refine tp_thrown C q1868 dX4_addValue_2 ?_
  refine z_aload_n (i := 0) C dX4_addValue_5 rfl rfl ?_
  refine z_iload_n (i := 1) C dX4_addValue_6 rfl rfl ?_
  refine z_callVe C (tw_obj) rfl (ct_X4_isSource D B _) q1997 q1999 qs31 q106 q2000 np_X4_isSource (zr_ok rfl rfl) rfl rfl (Nat.le_of_ble_eq_true rfl) (⟨Nat.le_of_ble_eq_true rfl, Nat.le_of_ble_eq_true rfl⟩) dX4_addValue_7 ?_
  refine z_seti (zb_t (hs)) ?_
  refine z_if_ne (tgt := 19) C dX4_addValue_10 (by decide) (fun c_10 => ?_) (fun c_10 => ?_)
  · refine z_iload_n (i := 2) C dX4_addValue_19 rfl rfl ?_
    refine z_callSe C (ct_X4_isValue D B _) q1982 q1983 q106 q1984 np_X4_isValue (zr_ok rfl rfl) rfl rfl (Nat.le_of_ble_eq_true rfl) (⟨Nat.le_of_ble_eq_true rfl, Nat.le_of_ble_eq_true rfl⟩) dX4_addValue_20 ?_
    refine z_seti (zb_t (h4)) ?_
    refine z_if_ne (tgt := 32) C dX4_addValue_23 (by decide) (fun c_23 => ?_) (fun c_23 => ?_)
    · refine z_aload_n (i := 0) C dX4_addValue_32 rfl rfl ?_
      refine z_iload_n (i := 1) C dX4_addValue_33 rfl rfl ?_
      refine z_iconst (v := 4) C dX4_addValue_34 (by decide) ?_
      refine z_callVe C (tw_obj) rfl (ct_X4_source D B k 4 (by omega)) q2001 q2003 qs32 q106 q2004 np_X4_source (zr_ok rfl rfl) rfl rfl (Nat.le_of_ble_eq_true rfl) (⟨Nat.le_of_ble_eq_true rfl, Nat.le_of_ble_eq_true rfl⟩) dX4_addValue_35 ?_
      refine z_seti hn ?_
      refine z_bipush (v := 16) C dX4_addValue_38 (by decide) ?_
      refine z_icmp_ne (tgt := 51) C dX4_addValue_40 (by decide) (fun c_40 => ?_) (fun c_40 => ?_)
      · exact absurd (rfl) c_40
      · refine z_aload_n (i := 0) C dX4_addValue_43 rfl rfl ?_
        refine z_iconst (v := 3) C dX4_addValue_44 (by decide) ?_
        refine z_callVe C (tw_obj) rfl (ct_X4_fail D B _) q1941 q1943 qs26 q106 q1944 np_X4_fail (zr_ok rfl rfl) rfl rfl (Nat.le_of_ble_eq_true rfl) (⟨Nat.le_of_ble_eq_true rfl, Nat.le_of_ble_eq_true rfl⟩) dX4_addValue_45 ?_
        refine z_goto (tgt := 57) C dX4_addValue_48 (by decide) ?_
        exact z_ireturn C rfl (rfl) dX4_addValue_57 (⟨rfl, rfl⟩) (Nat.le_of_ble_eq_true rfl) (Nat.le_of_ble_eq_true rfl)
    · exact absurd c_23 (by decide)
  · exact absurd c_10 (by decide)
theorem np_X4_isMicrophone : znp yX4_isMicrophone 1 := ⟨by decide +kernel, by decide +kernel, by decide +kernel⟩
set_option maxHeartbeats 4000000 in
set_option maxRecDepth 100000 in
theorem ct_X4_setWeight_ok (D : zG) (B : Nat) {b : zH} {t : tA} {st : Nat → Int32} {bk : Nat → Int32} {sv : Nat → Int32} {iz : Nat → Int32} {th : Int32} {di : Nat → Int32} {re : Nat → Int32} {si : Nat → Int32} {pa : Nat → Int32} {fo : Nat → Int64} {te : Nat → Int32} {tl : Int32} {po : Int32} {ts : Int32} {to : Int32} {le : Int32} {nu : Int32} {ec : Int32} {ep : Int32} {wo : Int64} (k : Nat) (w : Int32) (hs : 0 ≤ nI k ∧ nI k ≤ st 8 - 1) (hk : k < 8) (h2 : 0 ≤ w ∧ w ≤ 9) : Ct D B yX4_setWeight (ws_ yX4_setWeight cX4_setWeight 3 (some .int)) (zr 2) [.ref (t.1 0), .int (nI k), .int w] (tw b t st bk sv iz th di re si pa fo te tl po ts to le nu ec ep wo) (zpe (some (.int (st (154 + 4 * k + 3)))) (tw b t (upd st (154 + 4 * k + 3) w) bk sv iz 0 di re si pa fo te tl po ts to le nu ec ep wo)) zno := by
  refine ct_intro (by decide +kernel) (Nat.le_of_ble_eq_true rfl) ?_
  intro X C
  refine z_aload_n (i := 0) C dX4_setWeight_0 rfl rfl ?_
  refine z_iconst (v := 0) C dX4_setWeight_1 (by decide) ?_
  refine tp_thrown C q1868 dX4_setWeight_2 ?_
  refine z_aload_n (i := 0) C dX4_setWeight_5 rfl rfl ?_
  refine z_iload_n (i := 1) C dX4_setWeight_6 rfl rfl ?_
  refine z_callVe C (tw_obj) rfl (ct_X4_isMicrophone D B _) q2020 q2022 qs34 q106 q2023 np_X4_isMicrophone (zr_ok rfl rfl) rfl rfl (Nat.le_of_ble_eq_true rfl) (⟨Nat.le_of_ble_eq_true rfl, Nat.le_of_ble_eq_true rfl⟩) dX4_setWeight_7 ?_
  refine z_seti (zb_t (hs)) ?_
  refine z_if_ne (tgt := 19) C dX4_setWeight_10 (by decide) (fun c_10 => ?_) (fun c_10 => ?_)
  · refine z_iload_n (i := 2) C dX4_setWeight_19 rfl rfl ?_
    refine z_iconst (v := 0) C dX4_setWeight_20 (by decide) ?_
    refine z_bipush (v := 9) C dX4_setWeight_21 (by decide) ?_
    refine z_callSe C (ct_X4_isBetween D B _ _ _) q1934 q1935 q106 q1936 np_X4_isBetween (zr_ok rfl rfl) rfl rfl (Nat.le_of_ble_eq_true rfl) (⟨Nat.le_of_ble_eq_true rfl, Nat.le_of_ble_eq_true rfl⟩) dX4_setWeight_23 ?_
    refine z_seti (zb_t (h2)) ?_
    refine z_if_eq (tgt := 46) C dX4_setWeight_26 (by decide) (fun c_26 => ?_) (fun c_26 => ?_)
    · exact absurd c_26 (by decide)
    · refine z_aload_n (i := 0) C dX4_setWeight_29 rfl rfl ?_
      refine z_sipush (v := 154) C dX4_setWeight_30 (by decide) ?_
      refine z_iconst (v := 4) C dX4_setWeight_33 (by decide) ?_
      refine z_iload_n (i := 1) C dX4_setWeight_34 rfl rfl ?_
      refine z_imul C dX4_setWeight_35 ?_
      refine z_iadd C dX4_setWeight_36 ?_
      refine z_iconst (v := 3) C dX4_setWeight_37 (by decide) ?_
      refine z_iadd C dX4_setWeight_38 ?_
      refine z_seti (zlin 154 4 k 3) ?_
      refine z_iload_n (i := 2) C dX4_setWeight_39 rfl rfl ?_
      refine z_callVe C (tw_obj) rfl (ct_X4_replace D B (154 + 4 * k + 3) w (by omega)) q1937 q1939 qs25 q106 q1940 np_X4_replace (zr_ok rfl rfl) rfl rfl (Nat.le_of_ble_eq_true rfl) (⟨Nat.le_of_ble_eq_true rfl, Nat.le_of_ble_eq_true rfl⟩) dX4_setWeight_40 ?_
      refine z_goto (tgt := 51) C dX4_setWeight_43 (by decide) ?_
      exact z_ireturn C rfl (rfl) dX4_setWeight_51 (⟨rfl, rfl⟩) (Nat.le_of_ble_eq_true rfl) (Nat.le_of_ble_eq_true rfl)
  · exact absurd c_10 (by decide)
set_option maxHeartbeats 4000000 in
set_option maxRecDepth 100000 in
theorem ct_X4_setWeight_1 (D : zG) (B : Nat) {b : zH} {t : tA} {st : Nat → Int32} {bk : Nat → Int32} {sv : Nat → Int32} {iz : Nat → Int32} {th : Int32} {di : Nat → Int32} {re : Nat → Int32} {si : Nat → Int32} {pa : Nat → Int32} {fo : Nat → Int64} {te : Nat → Int32} {tl : Int32} {po : Int32} {ts : Int32} {to : Int32} {le : Int32} {nu : Int32} {ec : Int32} {ep : Int32} {wo : Int64} (s w : Int32) (hs : ¬ (0 ≤ s ∧ s ≤ st 8 - 1)) : Ct D B yX4_setWeight (ws_ yX4_setWeight cX4_setWeight 3 (some .int)) (zr 2) [.ref (t.1 0), .int s, .int w] (tw b t st bk sv iz th di re si pa fo te tl po ts to le nu ec ep wo) (zpe (some (.int (0))) (tw b t st bk sv iz 1 di re si pa fo te tl po ts to le nu ec ep wo)) zno := by
  refine ct_intro (by decide +kernel) (Nat.le_of_ble_eq_true rfl) ?_
  intro X C
  refine z_aload_n (i := 0) C dX4_setWeight_0 rfl rfl ?_
  refine z_iconst (v := 0) C dX4_setWeight_1 (by decide) ?_
  refine tp_thrown C q1868 dX4_setWeight_2 ?_
  refine z_aload_n (i := 0) C dX4_setWeight_5 rfl rfl ?_
  refine z_iload_n (i := 1) C dX4_setWeight_6 rfl rfl ?_
  refine z_callVe C (tw_obj) rfl (ct_X4_isMicrophone D B _) q2020 q2022 qs34 q106 q2023 np_X4_isMicrophone (zr_ok rfl rfl) rfl rfl (Nat.le_of_ble_eq_true rfl) (⟨Nat.le_of_ble_eq_true rfl, Nat.le_of_ble_eq_true rfl⟩) dX4_setWeight_7 ?_
  refine z_seti (zb_f (hs)) ?_
  refine z_if_ne (tgt := 19) C dX4_setWeight_10 (by decide) (fun c_10 => ?_) (fun c_10 => ?_)
  · exact absurd rfl c_10
  · refine z_aload_n (i := 0) C dX4_setWeight_13 rfl rfl ?_
    refine z_iconst (v := 1) C dX4_setWeight_14 (by decide) ?_
    refine z_callVe C (tw_obj) rfl (ct_X4_fail D B _) q1941 q1943 qs26 q106 q1944 np_X4_fail (zr_ok rfl rfl) rfl rfl (Nat.le_of_ble_eq_true rfl) (⟨Nat.le_of_ble_eq_true rfl, Nat.le_of_ble_eq_true rfl⟩) dX4_setWeight_15 ?_
    exact z_ireturn C rfl (rfl) dX4_setWeight_18 (⟨rfl, rfl⟩) (Nat.le_of_ble_eq_true rfl) (Nat.le_of_ble_eq_true rfl)
set_option maxHeartbeats 4000000 in
set_option maxRecDepth 100000 in
theorem ct_X4_setWeight_2 (D : zG) (B : Nat) {b : zH} {t : tA} {st : Nat → Int32} {bk : Nat → Int32} {sv : Nat → Int32} {iz : Nat → Int32} {th : Int32} {di : Nat → Int32} {re : Nat → Int32} {si : Nat → Int32} {pa : Nat → Int32} {fo : Nat → Int64} {te : Nat → Int32} {tl : Int32} {po : Int32} {ts : Int32} {to : Int32} {le : Int32} {nu : Int32} {ec : Int32} {ep : Int32} {wo : Int64} (s w : Int32) (hs : 0 ≤ s ∧ s ≤ st 8 - 1) (h2 : ¬ (0 ≤ w ∧ w ≤ 9)) : Ct D B yX4_setWeight (ws_ yX4_setWeight cX4_setWeight 3 (some .int)) (zr 2) [.ref (t.1 0), .int s, .int w] (tw b t st bk sv iz th di re si pa fo te tl po ts to le nu ec ep wo) (zpe (some (.int (0))) (tw b t st bk sv iz 2 di re si pa fo te tl po ts to le nu ec ep wo)) zno := by
  refine ct_intro (by decide +kernel) (Nat.le_of_ble_eq_true rfl) ?_
  intro X C
  refine z_aload_n (i := 0) C dX4_setWeight_0 rfl rfl ?_
  refine z_iconst (v := 0) C dX4_setWeight_1 (by decide) ?_
  refine tp_thrown C q1868 dX4_setWeight_2 ?_
  refine z_aload_n (i := 0) C dX4_setWeight_5 rfl rfl ?_
  refine z_iload_n (i := 1) C dX4_setWeight_6 rfl rfl ?_
  refine z_callVe C (tw_obj) rfl (ct_X4_isMicrophone D B _) q2020 q2022 qs34 q106 q2023 np_X4_isMicrophone (zr_ok rfl rfl) rfl rfl (Nat.le_of_ble_eq_true rfl) (⟨Nat.le_of_ble_eq_true rfl, Nat.le_of_ble_eq_true rfl⟩) dX4_setWeight_7 ?_
  refine z_seti (zb_t (hs)) ?_
  refine z_if_ne (tgt := 19) C dX4_setWeight_10 (by decide) (fun c_10 => ?_) (fun c_10 => ?_)
  · refine z_iload_n (i := 2) C dX4_setWeight_19 rfl rfl ?_
    refine z_iconst (v := 0) C dX4_setWeight_20 (by decide) ?_
    refine z_bipush (v := 9) C dX4_setWeight_21 (by decide) ?_
    refine z_callSe C (ct_X4_isBetween D B _ _ _) q1934 q1935 q106 q1936 np_X4_isBetween (zr_ok rfl rfl) rfl rfl (Nat.le_of_ble_eq_true rfl) (⟨Nat.le_of_ble_eq_true rfl, Nat.le_of_ble_eq_true rfl⟩) dX4_setWeight_23 ?_
    refine z_seti (zb_f (h2)) ?_
    refine z_if_eq (tgt := 46) C dX4_setWeight_26 (by decide) (fun c_26 => ?_) (fun c_26 => ?_)
    · refine z_aload_n (i := 0) C dX4_setWeight_46 rfl rfl ?_
      refine z_iconst (v := 2) C dX4_setWeight_47 (by decide) ?_
      refine z_callVe C (tw_obj) rfl (ct_X4_fail D B _) q1941 q1943 qs26 q106 q1944 np_X4_fail (zr_ok rfl rfl) rfl rfl (Nat.le_of_ble_eq_true rfl) (⟨Nat.le_of_ble_eq_true rfl, Nat.le_of_ble_eq_true rfl⟩) dX4_setWeight_48 ?_
      exact z_ireturn C rfl (rfl) dX4_setWeight_51 (⟨rfl, rfl⟩) (Nat.le_of_ble_eq_true rfl) (Nat.le_of_ble_eq_true rfl)
    · exact absurd rfl c_26
  · exact absurd c_10 (by decide)
set_option maxHeartbeats 4000000 in
set_option maxRecDepth 100000 in
theorem ct_X4_count_ok (D : zG) (B : Nat) {b : zH} {t : tA} {st : Nat → Int32} {bk : Nat → Int32} {sv : Nat → Int32} {iz : Nat → Int32} {th : Int32} {di : Nat → Int32} {re : Nat → Int32} {si : Nat → Int32} {pa : Nat → Int32} {fo : Nat → Int64} {te : Nat → Int32} {tl : Int32} {po : Int32} {ts : Int32} {to : Int32} {le : Int32} {nu : Int32} {ec : Int32} {ep : Int32} {wo : Int64} (k : Nat) (hk : k < 4) (h : 0 ≤ nI k ∧ nI k ≤ 3) : Ct D B yX4_count (ws_ yX4_count cX4_count 2 (some .int)) (zr 1) [.ref (t.1 0), .int (nI k)] (tw b t st bk sv iz th di re si pa fo te tl po ts to le nu ec ep wo) (zpe (some (.int (st (6 + k)))) (tw b t st bk sv iz 0 di re si pa fo te tl po ts to le nu ec ep wo)) zno := by
  refine ct_intro (by decide +kernel) (Nat.le_of_ble_eq_true rfl) ?_
  intro X C
  refine z_aload_n (i := 0) C dX4_count_0 rfl rfl ?_
  refine z_iconst (v := 0) C dX4_count_1 (by decide) ?_
  refine tp_thrown C q1868 dX4_count_2 ?_
  refine z_iload_n (i := 1) C dX4_count_5 rfl rfl ?_
  refine z_iconst (v := 0) C dX4_count_6 (by decide) ?_
  refine z_iconst (v := 3) C dX4_count_7 (by decide) ?_
  refine z_callSe C (ct_X4_isBetween D B _ _ _) q1934 q1935 q106 q1936 np_X4_isBetween (zr_ok rfl rfl) rfl rfl (Nat.le_of_ble_eq_true rfl) (⟨Nat.le_of_ble_eq_true rfl, Nat.le_of_ble_eq_true rfl⟩) dX4_count_8 ?_
  refine z_seti (zb_t (h)) ?_
  refine z_if_eq (tgt := 26) C dX4_count_11 (by decide) (fun c_11 => ?_) (fun c_11 => ?_)
  · exact absurd c_11 (by decide)
  · refine z_aload_n (i := 0) C dX4_count_14 rfl rfl ?_
    refine tg_state C q1864 dX4_count_15 ?_
    refine z_bipush (v := 6) C dX4_count_18 (by decide) ?_
    refine z_iload_n (i := 1) C dX4_count_20 rfl rfl ?_
    refine z_iadd C dX4_count_21 ?_
    refine tl_state C (zixI (nI_add 6 k) (by omega)) dX4_count_22 ?_
    refine z_goto (tgt := 31) C dX4_count_23 (by decide) ?_
    exact z_ireturn C rfl (rfl) dX4_count_31 (⟨rfl, rfl⟩) (Nat.le_of_ble_eq_true rfl) (Nat.le_of_ble_eq_true rfl)
set_option maxHeartbeats 4000000 in
set_option maxRecDepth 100000 in
theorem ct_X4_count_1 (D : zG) (B : Nat) {b : zH} {t : tA} {st : Nat → Int32} {bk : Nat → Int32} {sv : Nat → Int32} {iz : Nat → Int32} {th : Int32} {di : Nat → Int32} {re : Nat → Int32} {si : Nat → Int32} {pa : Nat → Int32} {fo : Nat → Int64} {te : Nat → Int32} {tl : Int32} {po : Int32} {ts : Int32} {to : Int32} {le : Int32} {nu : Int32} {ec : Int32} {ep : Int32} {wo : Int64} (x : Int32) (h : ¬ (0 ≤ x ∧ x ≤ 3)) : Ct D B yX4_count (ws_ yX4_count cX4_count 2 (some .int)) (zr 1) [.ref (t.1 0), .int x] (tw b t st bk sv iz th di re si pa fo te tl po ts to le nu ec ep wo) (zpe (some (.int (0))) (tw b t st bk sv iz 1 di re si pa fo te tl po ts to le nu ec ep wo)) zno := by
  refine ct_intro (by decide +kernel) (Nat.le_of_ble_eq_true rfl) ?_
  intro X C
  refine z_aload_n (i := 0) C dX4_count_0 rfl rfl ?_
  refine z_iconst (v := 0) C dX4_count_1 (by decide) ?_
  refine tp_thrown C q1868 dX4_count_2 ?_
  refine z_iload_n (i := 1) C dX4_count_5 rfl rfl ?_
  refine z_iconst (v := 0) C dX4_count_6 (by decide) ?_
  refine z_iconst (v := 3) C dX4_count_7 (by decide) ?_
  refine z_callSe C (ct_X4_isBetween D B _ _ _) q1934 q1935 q106 q1936 np_X4_isBetween (zr_ok rfl rfl) rfl rfl (Nat.le_of_ble_eq_true rfl) (⟨Nat.le_of_ble_eq_true rfl, Nat.le_of_ble_eq_true rfl⟩) dX4_count_8 ?_
  refine z_seti (zb_f (h)) ?_
  refine z_if_eq (tgt := 26) C dX4_count_11 (by decide) (fun c_11 => ?_) (fun c_11 => ?_)
  · refine z_aload_n (i := 0) C dX4_count_26 rfl rfl ?_
    refine z_iconst (v := 1) C dX4_count_27 (by decide) ?_
    refine z_callVe C (tw_obj) rfl (ct_X4_fail D B _) q1941 q1943 qs26 q106 q1944 np_X4_fail (zr_ok rfl rfl) rfl rfl (Nat.le_of_ble_eq_true rfl) (⟨Nat.le_of_ble_eq_true rfl, Nat.le_of_ble_eq_true rfl⟩) dX4_count_28 ?_
    exact z_ireturn C rfl (rfl) dX4_count_31 (⟨rfl, rfl⟩) (Nat.le_of_ble_eq_true rfl) (Nat.le_of_ble_eq_true rfl)
  · exact absurd rfl c_11
theorem np_X4_emittedBy : znp yX4_emittedBy 2 := ⟨by decide +kernel, by decide +kernel, by decide +kernel⟩
set_option maxHeartbeats 4000000 in
set_option maxRecDepth 100000 in
theorem ct_X4_emitted_ok (D : zG) (B : Nat) {b : zH} {t : tA} {st : Nat → Int32} {bk : Nat → Int32} {sv : Nat → Int32} {iz : Nat → Int32} {th : Int32} {di : Nat → Int32} {re : Nat → Int32} {si : Nat → Int32} {pa : Nat → Int32} {fo : Nat → Int64} {te : Nat → Int32} {tl : Int32} {po : Int32} {ts : Int32} {to : Int32} {le : Int32} {nu : Int32} {ec : Int32} {ep : Int32} {wo : Int64} (s j : Nat) (hs0 : 0 ≤ nI s ∧ nI s ≤ st 7 - 1) (hs : s < 6) (ht0 : 0 ≤ nI j ∧ nI j ≤ 255) (hj : j < 256) (n : Nat) (hn : st (28 + 21 * s + 4) = nI n) (hn1 : 0 < n) (hn2 : n ≤ 16) : Ct D B yX4_emitted (ws_ yX4_emitted cX4_emitted 3 (some .int)) (zr 2) [.ref (t.1 0), .int (nI s), .int (nI j)] (tw b t st bk sv iz th di re si pa fo te tl po ts to le nu ec ep wo) (zpe (some (.int (zem st s j))) (tw b t st bk sv iz 0 di re si pa fo te tl po ts to le nu ec ep wo)) zno := by
  refine ct_intro (by decide +kernel) (Nat.le_of_ble_eq_true rfl) ?_
  intro X C
  refine z_aload_n (i := 0) C dX4_emitted_0 rfl rfl ?_
  refine z_iconst (v := 0) C dX4_emitted_1 (by decide) ?_
  refine tp_thrown C q1868 dX4_emitted_2 ?_
  refine z_aload_n (i := 0) C dX4_emitted_5 rfl rfl ?_
  refine z_iload_n (i := 1) C dX4_emitted_6 rfl rfl ?_
  refine z_callVe C (tw_obj) rfl (ct_X4_isSource D B _) q1997 q1999 qs31 q106 q2000 np_X4_isSource (zr_ok rfl rfl) rfl rfl (Nat.le_of_ble_eq_true rfl) (⟨Nat.le_of_ble_eq_true rfl, Nat.le_of_ble_eq_true rfl⟩) dX4_emitted_7 ?_
  refine z_seti (zb_t (hs0)) ?_
  refine z_if_ne (tgt := 19) C dX4_emitted_10 (by decide) (fun c_10 => ?_) (fun c_10 => ?_)
  · refine z_iload_n (i := 2) C dX4_emitted_19 rfl rfl ?_
    refine z_callSe C (ct_X4_isTime D B _) q2032 q2033 q106 q2034 np_X4_isTime (zr_ok rfl rfl) rfl rfl (Nat.le_of_ble_eq_true rfl) (⟨Nat.le_of_ble_eq_true rfl, Nat.le_of_ble_eq_true rfl⟩) dX4_emitted_20 ?_
    refine z_seti (zb_t (ht0)) ?_
    refine z_if_eq (tgt := 35) C dX4_emitted_23 (by decide) (fun c_23 => ?_) (fun c_23 => ?_)
    · exact absurd c_23 (by decide)
    · refine z_aload_n (i := 0) C dX4_emitted_26 rfl rfl ?_
      refine z_iload_n (i := 1) C dX4_emitted_27 rfl rfl ?_
      refine z_iload_n (i := 2) C dX4_emitted_28 rfl rfl ?_
      refine z_callVe C (tw_obj) rfl (ct_X4_emittedBy D B s j hs hj n hn hn1 hn2) q2035 q2037 qs35 q106 q2038 np_X4_emittedBy (zr_ok rfl rfl) rfl rfl (Nat.le_of_ble_eq_true rfl) (⟨Nat.le_of_ble_eq_true rfl, Nat.le_of_ble_eq_true rfl⟩) dX4_emitted_29 ?_
      refine z_goto (tgt := 40) C dX4_emitted_32 (by decide) ?_
      exact z_ireturn C rfl (rfl) dX4_emitted_40 (⟨rfl, rfl⟩) (Nat.le_of_ble_eq_true rfl) (Nat.le_of_ble_eq_true rfl)
  · exact absurd c_10 (by decide)
set_option maxHeartbeats 4000000 in
set_option maxRecDepth 100000 in
theorem ct_X4_emitted_1 (D : zG) (B : Nat) {b : zH} {t : tA} {st : Nat → Int32} {bk : Nat → Int32} {sv : Nat → Int32} {iz : Nat → Int32} {th : Int32} {di : Nat → Int32} {re : Nat → Int32} {si : Nat → Int32} {pa : Nat → Int32} {fo : Nat → Int64} {te : Nat → Int32} {tl : Int32} {po : Int32} {ts : Int32} {to : Int32} {le : Int32} {nu : Int32} {ec : Int32} {ep : Int32} {wo : Int64} (s j : Int32) (hs : ¬ (0 ≤ s ∧ s ≤ st 7 - 1)) : Ct D B yX4_emitted (ws_ yX4_emitted cX4_emitted 3 (some .int)) (zr 2) [.ref (t.1 0), .int s, .int j] (tw b t st bk sv iz th di re si pa fo te tl po ts to le nu ec ep wo) (zpe (some (.int (0))) (tw b t st bk sv iz 1 di re si pa fo te tl po ts to le nu ec ep wo)) zno := by
  refine ct_intro (by decide +kernel) (Nat.le_of_ble_eq_true rfl) ?_
  intro X C
  refine z_aload_n (i := 0) C dX4_emitted_0 rfl rfl ?_
  refine z_iconst (v := 0) C dX4_emitted_1 (by decide) ?_
  refine tp_thrown C q1868 dX4_emitted_2 ?_
  refine z_aload_n (i := 0) C dX4_emitted_5 rfl rfl ?_
  refine z_iload_n (i := 1) C dX4_emitted_6 rfl rfl ?_
  refine z_callVe C (tw_obj) rfl (ct_X4_isSource D B _) q1997 q1999 qs31 q106 q2000 np_X4_isSource (zr_ok rfl rfl) rfl rfl (Nat.le_of_ble_eq_true rfl) (⟨Nat.le_of_ble_eq_true rfl, Nat.le_of_ble_eq_true rfl⟩) dX4_emitted_7 ?_
  refine z_seti (zb_f (hs)) ?_
  refine z_if_ne (tgt := 19) C dX4_emitted_10 (by decide) (fun c_10 => ?_) (fun c_10 => ?_)
  · exact absurd rfl c_10
  · refine z_aload_n (i := 0) C dX4_emitted_13 rfl rfl ?_
    refine z_iconst (v := 1) C dX4_emitted_14 (by decide) ?_
    refine z_callVe C (tw_obj) rfl (ct_X4_fail D B _) q1941 q1943 qs26 q106 q1944 np_X4_fail (zr_ok rfl rfl) rfl rfl (Nat.le_of_ble_eq_true rfl) (⟨Nat.le_of_ble_eq_true rfl, Nat.le_of_ble_eq_true rfl⟩) dX4_emitted_15 ?_
    exact z_ireturn C rfl (rfl) dX4_emitted_18 (⟨rfl, rfl⟩) (Nat.le_of_ble_eq_true rfl) (Nat.le_of_ble_eq_true rfl)
set_option maxHeartbeats 4000000 in
set_option maxRecDepth 100000 in
theorem ct_X4_emitted_2 (D : zG) (B : Nat) {b : zH} {t : tA} {st : Nat → Int32} {bk : Nat → Int32} {sv : Nat → Int32} {iz : Nat → Int32} {th : Int32} {di : Nat → Int32} {re : Nat → Int32} {si : Nat → Int32} {pa : Nat → Int32} {fo : Nat → Int64} {te : Nat → Int32} {tl : Int32} {po : Int32} {ts : Int32} {to : Int32} {le : Int32} {nu : Int32} {ec : Int32} {ep : Int32} {wo : Int64} (s j : Int32) (hs : 0 ≤ s ∧ s ≤ st 7 - 1) (ht : ¬ (0 ≤ j ∧ j ≤ 255)) : Ct D B yX4_emitted (ws_ yX4_emitted cX4_emitted 3 (some .int)) (zr 2) [.ref (t.1 0), .int s, .int j] (tw b t st bk sv iz th di re si pa fo te tl po ts to le nu ec ep wo) (zpe (some (.int (0))) (tw b t st bk sv iz 2 di re si pa fo te tl po ts to le nu ec ep wo)) zno := by
  refine ct_intro (by decide +kernel) (Nat.le_of_ble_eq_true rfl) ?_
  intro X C
  refine z_aload_n (i := 0) C dX4_emitted_0 rfl rfl ?_
  refine z_iconst (v := 0) C dX4_emitted_1 (by decide) ?_
  refine tp_thrown C q1868 dX4_emitted_2 ?_
  refine z_aload_n (i := 0) C dX4_emitted_5 rfl rfl ?_
  refine z_iload_n (i := 1) C dX4_emitted_6 rfl rfl ?_
  refine z_callVe C (tw_obj) rfl (ct_X4_isSource D B _) q1997 q1999 qs31 q106 q2000 np_X4_isSource (zr_ok rfl rfl) rfl rfl (Nat.le_of_ble_eq_true rfl) (⟨Nat.le_of_ble_eq_true rfl, Nat.le_of_ble_eq_true rfl⟩) dX4_emitted_7 ?_
  refine z_seti (zb_t (hs)) ?_
  refine z_if_ne (tgt := 19) C dX4_emitted_10 (by decide) (fun c_10 => ?_) (fun c_10 => ?_)
  · refine z_iload_n (i := 2) C dX4_emitted_19 rfl rfl ?_
    refine z_callSe C (ct_X4_isTime D B _) q2032 q2033 q106 q2034 np_X4_isTime (zr_ok rfl rfl) rfl rfl (Nat.le_of_ble_eq_true rfl) (⟨Nat.le_of_ble_eq_true rfl, Nat.le_of_ble_eq_true rfl⟩) dX4_emitted_20 ?_
    refine z_seti (zb_f (ht)) ?_
    refine z_if_eq (tgt := 35) C dX4_emitted_23 (by decide) (fun c_23 => ?_) (fun c_23 => ?_)
    · refine z_aload_n (i := 0) C dX4_emitted_35 rfl rfl ?_
      refine z_iconst (v := 2) C dX4_emitted_36 (by decide) ?_
      refine z_callVe C (tw_obj) rfl (ct_X4_fail D B _) q1941 q1943 qs26 q106 q1944 np_X4_fail (zr_ok rfl rfl) rfl rfl (Nat.le_of_ble_eq_true rfl) (⟨Nat.le_of_ble_eq_true rfl, Nat.le_of_ble_eq_true rfl⟩) dX4_emitted_37 ?_
      exact z_ireturn C rfl (rfl) dX4_emitted_40 (⟨rfl, rfl⟩) (Nat.le_of_ble_eq_true rfl) (Nat.le_of_ble_eq_true rfl)
    · exact absurd rfl c_23
  · exact absurd c_10 (by decide)
theorem np_X4_laySource : znp yX4_laySource 2 := ⟨by decide +kernel, by decide +kernel, by decide +kernel⟩
set_option maxHeartbeats 4000000 in
set_option maxRecDepth 100000 in
theorem ct_X4_distance_ok (D : zG) (B : Nat) {b : zH} {t : tA} {st : Nat → Int32} {bk : Nat → Int32} {sv : Nat → Int32} {iz : Nat → Int32} {th : Int32} {di : Nat → Int32} {re : Nat → Int32} {si : Nat → Int32} {pa : Nat → Int32} {fo : Nat → Int64} {te : Nat → Int32} {tl : Int32} {po : Int32} {ts : Int32} {to : Int32} {le : Int32} {nu : Int32} {ec : Int32} {ep : Int32} {wo : Int64} (m s j : Nat) (r : Int32) (hm0 : 0 ≤ nI m ∧ nI m ≤ st 8 - 1) (hs0 : 0 ≤ nI s ∧ nI s ≤ st 7 - 1) (ht0 : 0 ≤ nI j ∧ nI j ≤ 255) (hj : j < 256) (hm : m < 8) (hs : s < 6) (hv : st (28 + 21 * s + 0) = nI (zsv st s)) (hv4 : zsv st s < 4) (hok : ∀ j, j < 256 → zddok st m (some (zsv st s)) (st (28 + 21 * s + 1)) (st (16 + 3 * zsv st s + 2)) (st (28 + 21 * s + 2)) j ∧ zddok st m (some (zsv st s)) (st (28 + 21 * s + 1)) (st (16 + 3 * zsv st s + 2)) (-st (28 + 21 * s + 2)) j) : Ct D B yX4_distance (ws_ yX4_distance cX4_distance 5 (some .int)) (zr 4) [.ref (t.1 0), .int (nI m), .int (nI s), .int (nI j), .int r] (tw b t st bk sv iz th di re si pa fo te tl po ts to le nu ec ep wo) (fun w G9 => w = some (.int (if r = 0 then zdd st m (some (zsv st s)) (st (28 + 21 * s + 1)) (st (16 + 3 * zsv st s + 2)) (st (28 + 21 * s + 2)) j else zdd st m (some (zsv st s)) (st (28 + 21 * s + 1)) (st (16 + 3 * zsv st s + 2)) (-st (28 + 21 * s + 2)) j)) ∧ ∃ dx rx : Nat → Int32, G9 = (tw b t st bk sv iz 0 dx rx si pa fo te tl po ts to le nu ec ep wo)) zno := by
  refine ct_intro (by decide +kernel) (Nat.le_of_ble_eq_true rfl) ?_
  intro X C
  refine z_aload_n (i := 0) C dX4_distance_0 rfl rfl ?_
  refine z_iconst (v := 0) C dX4_distance_1 (by decide) ?_
  refine tp_thrown C q1868 dX4_distance_2 ?_
  refine z_aload_n (i := 0) C dX4_distance_5 rfl rfl ?_
  refine z_iload_n (i := 1) C dX4_distance_6 rfl rfl ?_
  refine z_callVe C (tw_obj) rfl (ct_X4_isMicrophone D B _) q2020 q2022 qs34 q106 q2023 np_X4_isMicrophone (zr_ok rfl rfl) rfl rfl (Nat.le_of_ble_eq_true rfl) (⟨Nat.le_of_ble_eq_true rfl, Nat.le_of_ble_eq_true rfl⟩) dX4_distance_7 ?_
  refine z_seti (zb_t (hm0)) ?_
  refine z_if_eq (tgt := 21) C dX4_distance_10 (by decide) (fun c_10 => ?_) (fun c_10 => ?_)
  · exact absurd c_10 (by decide)
  · refine z_aload_n (i := 0) C dX4_distance_13 rfl rfl ?_
    refine z_iload_n (i := 2) C dX4_distance_14 rfl rfl ?_
    refine z_callVe C (tw_obj) rfl (ct_X4_isSource D B _) q1997 q1999 qs31 q106 q2000 np_X4_isSource (zr_ok rfl rfl) rfl rfl (Nat.le_of_ble_eq_true rfl) (⟨Nat.le_of_ble_eq_true rfl, Nat.le_of_ble_eq_true rfl⟩) dX4_distance_15 ?_
    refine z_seti (zb_t (hs0)) ?_
    refine z_if_ne (tgt := 27) C dX4_distance_18 (by decide) (fun c_18 => ?_) (fun c_18 => ?_)
    · refine z_iload_n (i := 3) C dX4_distance_27 rfl rfl ?_
      refine z_callSe C (ct_X4_isTime D B _) q2032 q2033 q106 q2034 np_X4_isTime (zr_ok rfl rfl) rfl rfl (Nat.le_of_ble_eq_true rfl) (⟨Nat.le_of_ble_eq_true rfl, Nat.le_of_ble_eq_true rfl⟩) dX4_distance_28 ?_
      refine z_seti (zb_t (ht0)) ?_
      refine z_if_ne (tgt := 40) C dX4_distance_31 (by decide) (fun c_31 => ?_) (fun c_31 => ?_)
      · refine z_aload_n (i := 0) C dX4_distance_40 rfl rfl ?_
        refine z_iload_n (i := 1) C dX4_distance_41 rfl rfl ?_
        refine z_iload_n (i := 2) C dX4_distance_42 rfl rfl ?_
        refine z_callVn C (tw_obj) rfl (ct_X4_laySource D B m s hm hs hv hv4 hok) q2043 q2045 qs36 q106 q2046 np_X4_laySource (zr_ok rfl rfl) rfl rfl (Nat.le_of_ble_eq_true rfl) (⟨Nat.le_of_ble_eq_true rfl, Nat.le_of_ble_eq_true rfl⟩) dX4_distance_43 ?_
        intro v9 G9 h9
        obtain ⟨rfl, dx, rx, rfl, hd⟩ := h9
        refine z_iload C dX4_distance_46 rfl ?_
        refine z_if_eq (tgt := 60) C dX4_distance_48 (by decide) (fun c_48 => ?_) (fun c_48 => ?_)
        · refine z_aload_n (i := 0) C dX4_distance_60 rfl rfl ?_
          refine tg_distances C q1869 dX4_distance_61 ?_
          refine z_iload_n (i := 3) C dX4_distance_64 rfl rfl ?_
          refine tl_distances C (⟨rfl, hj⟩) dX4_distance_65 ?_
          exact z_ireturn C rfl (rfl) dX4_distance_66 (⟨zvs (by first | rw [if_pos c_48, (hd j hj).1] | rw [if_neg c_48, (hd j hj).2]), dx, rx, rfl⟩) (Nat.le_of_ble_eq_true rfl) (Nat.le_of_ble_eq_true rfl)
        · refine z_aload_n (i := 0) C dX4_distance_51 rfl rfl ?_
          refine tg_reflections C q1870 dX4_distance_52 ?_
          refine z_iload_n (i := 3) C dX4_distance_55 rfl rfl ?_
          refine tl_reflections C (⟨rfl, hj⟩) dX4_distance_56 ?_
          refine z_goto (tgt := 66) C dX4_distance_57 (by decide) ?_
          exact z_ireturn C rfl (rfl) dX4_distance_66 (⟨zvs (by first | rw [if_pos c_48, (hd j hj).1] | rw [if_neg c_48, (hd j hj).2]), dx, rx, rfl⟩) (Nat.le_of_ble_eq_true rfl) (Nat.le_of_ble_eq_true rfl)
      · exact absurd c_31 (by decide)
    · exact absurd c_18 (by decide)
theorem np_X4_latest : znp yX4_latest 2 := ⟨by decide +kernel, by decide +kernel, by decide +kernel⟩
set_option maxHeartbeats 4000000 in
set_option maxRecDepth 100000 in
theorem ct_X4_emissionTime_ok (D : zG) (B : Nat) {b : zH} {t : tA} {st : Nat → Int32} {bk : Nat → Int32} {sv : Nat → Int32} {iz : Nat → Int32} {th : Int32} {di : Nat → Int32} {re : Nat → Int32} {si : Nat → Int32} {pa : Nat → Int32} {fo : Nat → Int64} {te : Nat → Int32} {tl : Int32} {po : Int32} {ts : Int32} {to : Int32} {le : Int32} {nu : Int32} {ec : Int32} {ep : Int32} {wo : Int64} (m s j : Nat) (r : Int32) (hm0 : 0 ≤ nI m ∧ nI m ≤ st 8 - 1) (hs0 : 0 ≤ nI s ∧ nI s ≤ st 7 - 1) (ht0 : 0 ≤ nI j ∧ nI j ≤ 255) (hj : j < 256) (hm : m < 8) (hs : s < 6) (hv : st (28 + 21 * s + 0) = nI (zsv st s)) (hv4 : zsv st s < 4) (hok : ∀ j, j < 256 → zddok st m (some (zsv st s)) (st (28 + 21 * s + 1)) (st (16 + 3 * zsv st s + 2)) (st (28 + 21 * s + 2)) j ∧ zddok st m (some (zsv st s)) (st (28 + 21 * s + 1)) (st (16 + 3 * zsv st s + 2)) (-st (28 + 21 * s + 2)) j) : Ct D B yX4_emissionTime (ws_ yX4_emissionTime cX4_emissionTime 5 (some .int)) (zr 4) [.ref (t.1 0), .int (nI m), .int (nI s), .int (nI j), .int r] (tw b t st bk sv iz th di re si pa fo te tl po ts to le nu ec ep wo) (fun w G9 => w = some (.int (zlat (fun i => nI i * st 0 + (if r = 0 then zdd st m (some (zsv st s)) (st (28 + 21 * s + 1)) (st (16 + 3 * zsv st s + 2)) (st (28 + 21 * s + 2)) i else zdd st m (some (zsv st s)) (st (28 + 21 * s + 1)) (st (16 + 3 * zsv st s + 2)) (-st (28 + 21 * s + 2)) i)) (nI j * st 0) 256)) ∧ ∃ dx rx : Nat → Int32, G9 = (tw b t st bk sv iz 0 dx rx si pa fo te tl po ts to le nu ec ep wo)) zno := by
  refine ct_intro (by decide +kernel) (Nat.le_of_ble_eq_true rfl) ?_
  intro X C
  refine z_aload_n (i := 0) C dX4_emissionTime_0 rfl rfl ?_
  refine z_iconst (v := 0) C dX4_emissionTime_1 (by decide) ?_
  refine tp_thrown C q1868 dX4_emissionTime_2 ?_
  refine z_aload_n (i := 0) C dX4_emissionTime_5 rfl rfl ?_
  refine z_iload_n (i := 1) C dX4_emissionTime_6 rfl rfl ?_
  refine z_callVe C (tw_obj) rfl (ct_X4_isMicrophone D B _) q2020 q2022 qs34 q106 q2023 np_X4_isMicrophone (zr_ok rfl rfl) rfl rfl (Nat.le_of_ble_eq_true rfl) (⟨Nat.le_of_ble_eq_true rfl, Nat.le_of_ble_eq_true rfl⟩) dX4_emissionTime_7 ?_
  refine z_seti (zb_t (hm0)) ?_
  refine z_if_eq (tgt := 21) C dX4_emissionTime_10 (by decide) (fun c_10 => ?_) (fun c_10 => ?_)
  · exact absurd c_10 (by decide)
  · refine z_aload_n (i := 0) C dX4_emissionTime_13 rfl rfl ?_
    refine z_iload_n (i := 2) C dX4_emissionTime_14 rfl rfl ?_
    refine z_callVe C (tw_obj) rfl (ct_X4_isSource D B _) q1997 q1999 qs31 q106 q2000 np_X4_isSource (zr_ok rfl rfl) rfl rfl (Nat.le_of_ble_eq_true rfl) (⟨Nat.le_of_ble_eq_true rfl, Nat.le_of_ble_eq_true rfl⟩) dX4_emissionTime_15 ?_
    refine z_seti (zb_t (hs0)) ?_
    refine z_if_ne (tgt := 27) C dX4_emissionTime_18 (by decide) (fun c_18 => ?_) (fun c_18 => ?_)
    · refine z_iload_n (i := 3) C dX4_emissionTime_27 rfl rfl ?_
      refine z_callSe C (ct_X4_isTime D B _) q2032 q2033 q106 q2034 np_X4_isTime (zr_ok rfl rfl) rfl rfl (Nat.le_of_ble_eq_true rfl) (⟨Nat.le_of_ble_eq_true rfl, Nat.le_of_ble_eq_true rfl⟩) dX4_emissionTime_28 ?_
      refine z_seti (zb_t (ht0)) ?_
      refine z_if_ne (tgt := 40) C dX4_emissionTime_31 (by decide) (fun c_31 => ?_) (fun c_31 => ?_)
      · refine z_aload_n (i := 0) C dX4_emissionTime_40 rfl rfl ?_
        refine z_iload_n (i := 1) C dX4_emissionTime_41 rfl rfl ?_
        refine z_iload_n (i := 2) C dX4_emissionTime_42 rfl rfl ?_
        refine z_callVn C (tw_obj) rfl (ct_X4_laySource D B m s hm hs hv hv4 hok) q2043 q2045 qs36 q106 q2046 np_X4_laySource (zr_ok rfl rfl) rfl rfl (Nat.le_of_ble_eq_true rfl) (⟨Nat.le_of_ble_eq_true rfl, Nat.le_of_ble_eq_true rfl⟩) dX4_emissionTime_43 ?_
        intro v9 G9 h9
        obtain ⟨rfl, dx, rx, rfl, hd⟩ := h9
        refine z_aload_n (i := 0) C dX4_emissionTime_46 rfl rfl ?_
        refine z_iload_n (i := 3) C dX4_emissionTime_47 rfl rfl ?_
        refine z_iload C dX4_emissionTime_48 rfl ?_
        refine z_callVe C (tw_obj) rfl (ct_X4_latest D B _ _) q2076 q2078 qs42 q106 q2079 np_X4_latest (zr_ok rfl rfl) rfl rfl (Nat.le_of_ble_eq_true rfl) (⟨Nat.le_of_ble_eq_true rfl, Nat.le_of_ble_eq_true rfl⟩) dX4_emissionTime_50 ?_
        exact z_ireturn C rfl (rfl) dX4_emissionTime_53 (⟨zvs (zlat_congr (fun i hi => by split; (· rw [(hd i hi).1]); (· rw [(hd i hi).2]))), dx, rx, rfl⟩) (Nat.le_of_ble_eq_true rfl) (Nat.le_of_ble_eq_true rfl)
      · exact absurd c_31 (by decide)
    · exact absurd c_18 (by decide)
set_option maxHeartbeats 4000000 in
set_option maxRecDepth 100000 in
theorem ct_X4_distance_1a (D : zG) (B : Nat) {b : zH} {t : tA} {st : Nat → Int32} {bk : Nat → Int32} {sv : Nat → Int32} {iz : Nat → Int32} {th : Int32} {di : Nat → Int32} {re : Nat → Int32} {si : Nat → Int32} {pa : Nat → Int32} {fo : Nat → Int64} {te : Nat → Int32} {tl : Int32} {po : Int32} {ts : Int32} {to : Int32} {le : Int32} {nu : Int32} {ec : Int32} {ep : Int32} {wo : Int64} (m s j r : Int32) (h1 : ¬ (0 ≤ m ∧ m ≤ st 8 - 1)) : Ct D B yX4_distance (ws_ yX4_distance cX4_distance 5 (some .int)) (zr 4) [.ref (t.1 0), .int m, .int s, .int j, .int r] (tw b t st bk sv iz th di re si pa fo te tl po ts to le nu ec ep wo) (zpe (some (.int (0))) (tw b t st bk sv iz 1 di re si pa fo te tl po ts to le nu ec ep wo)) zno := by
  refine ct_intro (by decide +kernel) (Nat.le_of_ble_eq_true rfl) ?_
  intro X C
  refine z_aload_n (i := 0) C dX4_distance_0 rfl rfl ?_
  refine z_iconst (v := 0) C dX4_distance_1 (by decide) ?_
  refine tp_thrown C q1868 dX4_distance_2 ?_
  refine z_aload_n (i := 0) C dX4_distance_5 rfl rfl ?_
  refine z_iload_n (i := 1) C dX4_distance_6 rfl rfl ?_
  refine z_callVe C (tw_obj) rfl (ct_X4_isMicrophone D B _) q2020 q2022 qs34 q106 q2023 np_X4_isMicrophone (zr_ok rfl rfl) rfl rfl (Nat.le_of_ble_eq_true rfl) (⟨Nat.le_of_ble_eq_true rfl, Nat.le_of_ble_eq_true rfl⟩) dX4_distance_7 ?_
  refine z_seti (zb_f (h1)) ?_
  refine z_if_eq (tgt := 21) C dX4_distance_10 (by decide) (fun c_10 => ?_) (fun c_10 => ?_)
  · refine z_aload_n (i := 0) C dX4_distance_21 rfl rfl ?_
    refine z_iconst (v := 1) C dX4_distance_22 (by decide) ?_
    refine z_callVe C (tw_obj) rfl (ct_X4_fail D B _) q1941 q1943 qs26 q106 q1944 np_X4_fail (zr_ok rfl rfl) rfl rfl (Nat.le_of_ble_eq_true rfl) (⟨Nat.le_of_ble_eq_true rfl, Nat.le_of_ble_eq_true rfl⟩) dX4_distance_23 ?_
    exact z_ireturn C rfl (rfl) dX4_distance_26 (⟨rfl, rfl⟩) (Nat.le_of_ble_eq_true rfl) (Nat.le_of_ble_eq_true rfl)
  · exact absurd rfl c_10
set_option maxHeartbeats 4000000 in
set_option maxRecDepth 100000 in
theorem ct_X4_distance_1b (D : zG) (B : Nat) {b : zH} {t : tA} {st : Nat → Int32} {bk : Nat → Int32} {sv : Nat → Int32} {iz : Nat → Int32} {th : Int32} {di : Nat → Int32} {re : Nat → Int32} {si : Nat → Int32} {pa : Nat → Int32} {fo : Nat → Int64} {te : Nat → Int32} {tl : Int32} {po : Int32} {ts : Int32} {to : Int32} {le : Int32} {nu : Int32} {ec : Int32} {ep : Int32} {wo : Int64} (m s j r : Int32) (h1 : 0 ≤ m ∧ m ≤ st 8 - 1) (h2 : ¬ (0 ≤ s ∧ s ≤ st 7 - 1)) : Ct D B yX4_distance (ws_ yX4_distance cX4_distance 5 (some .int)) (zr 4) [.ref (t.1 0), .int m, .int s, .int j, .int r] (tw b t st bk sv iz th di re si pa fo te tl po ts to le nu ec ep wo) (zpe (some (.int (0))) (tw b t st bk sv iz 1 di re si pa fo te tl po ts to le nu ec ep wo)) zno := by
  refine ct_intro (by decide +kernel) (Nat.le_of_ble_eq_true rfl) ?_
  intro X C
  refine z_aload_n (i := 0) C dX4_distance_0 rfl rfl ?_
  refine z_iconst (v := 0) C dX4_distance_1 (by decide) ?_
  refine tp_thrown C q1868 dX4_distance_2 ?_
  refine z_aload_n (i := 0) C dX4_distance_5 rfl rfl ?_
  refine z_iload_n (i := 1) C dX4_distance_6 rfl rfl ?_
  refine z_callVe C (tw_obj) rfl (ct_X4_isMicrophone D B _) q2020 q2022 qs34 q106 q2023 np_X4_isMicrophone (zr_ok rfl rfl) rfl rfl (Nat.le_of_ble_eq_true rfl) (⟨Nat.le_of_ble_eq_true rfl, Nat.le_of_ble_eq_true rfl⟩) dX4_distance_7 ?_
  refine z_seti (zb_t (h1)) ?_
  refine z_if_eq (tgt := 21) C dX4_distance_10 (by decide) (fun c_10 => ?_) (fun c_10 => ?_)
  · exact absurd c_10 (by decide)
  · refine z_aload_n (i := 0) C dX4_distance_13 rfl rfl ?_
    refine z_iload_n (i := 2) C dX4_distance_14 rfl rfl ?_
    refine z_callVe C (tw_obj) rfl (ct_X4_isSource D B _) q1997 q1999 qs31 q106 q2000 np_X4_isSource (zr_ok rfl rfl) rfl rfl (Nat.le_of_ble_eq_true rfl) (⟨Nat.le_of_ble_eq_true rfl, Nat.le_of_ble_eq_true rfl⟩) dX4_distance_15 ?_
    refine z_seti (zb_f (h2)) ?_
    refine z_if_ne (tgt := 27) C dX4_distance_18 (by decide) (fun c_18 => ?_) (fun c_18 => ?_)
    · exact absurd rfl c_18
    · refine z_aload_n (i := 0) C dX4_distance_21 rfl rfl ?_
      refine z_iconst (v := 1) C dX4_distance_22 (by decide) ?_
      refine z_callVe C (tw_obj) rfl (ct_X4_fail D B _) q1941 q1943 qs26 q106 q1944 np_X4_fail (zr_ok rfl rfl) rfl rfl (Nat.le_of_ble_eq_true rfl) (⟨Nat.le_of_ble_eq_true rfl, Nat.le_of_ble_eq_true rfl⟩) dX4_distance_23 ?_
      exact z_ireturn C rfl (rfl) dX4_distance_26 (⟨rfl, rfl⟩) (Nat.le_of_ble_eq_true rfl) (Nat.le_of_ble_eq_true rfl)
set_option maxHeartbeats 4000000 in
set_option maxRecDepth 100000 in
theorem ct_X4_distance_2 (D : zG) (B : Nat) {b : zH} {t : tA} {st : Nat → Int32} {bk : Nat → Int32} {sv : Nat → Int32} {iz : Nat → Int32} {th : Int32} {di : Nat → Int32} {re : Nat → Int32} {si : Nat → Int32} {pa : Nat → Int32} {fo : Nat → Int64} {te : Nat → Int32} {tl : Int32} {po : Int32} {ts : Int32} {to : Int32} {le : Int32} {nu : Int32} {ec : Int32} {ep : Int32} {wo : Int64} (m s j r : Int32) (h1 : 0 ≤ m ∧ m ≤ st 8 - 1) (h2 : 0 ≤ s ∧ s ≤ st 7 - 1) (h3 : ¬ (0 ≤ j ∧ j ≤ 255)) : Ct D B yX4_distance (ws_ yX4_distance cX4_distance 5 (some .int)) (zr 4) [.ref (t.1 0), .int m, .int s, .int j, .int r] (tw b t st bk sv iz th di re si pa fo te tl po ts to le nu ec ep wo) (zpe (some (.int (0))) (tw b t st bk sv iz 2 di re si pa fo te tl po ts to le nu ec ep wo)) zno := by
  refine ct_intro (by decide +kernel) (Nat.le_of_ble_eq_true rfl) ?_
  intro X C
  refine z_aload_n (i := 0) C dX4_distance_0 rfl rfl ?_
  refine z_iconst (v := 0) C dX4_distance_1 (by decide) ?_
  refine tp_thrown C q1868 dX4_distance_2 ?_
  refine z_aload_n (i := 0) C dX4_distance_5 rfl rfl ?_
  refine z_iload_n (i := 1) C dX4_distance_6 rfl rfl ?_
  refine z_callVe C (tw_obj) rfl (ct_X4_isMicrophone D B _) q2020 q2022 qs34 q106 q2023 np_X4_isMicrophone (zr_ok rfl rfl) rfl rfl (Nat.le_of_ble_eq_true rfl) (⟨Nat.le_of_ble_eq_true rfl, Nat.le_of_ble_eq_true rfl⟩) dX4_distance_7 ?_
  refine z_seti (zb_t (h1)) ?_
  refine z_if_eq (tgt := 21) C dX4_distance_10 (by decide) (fun c_10 => ?_) (fun c_10 => ?_)
  · exact absurd c_10 (by decide)
  · refine z_aload_n (i := 0) C dX4_distance_13 rfl rfl ?_
    refine z_iload_n (i := 2) C dX4_distance_14 rfl rfl ?_
    refine z_callVe C (tw_obj) rfl (ct_X4_isSource D B _) q1997 q1999 qs31 q106 q2000 np_X4_isSource (zr_ok rfl rfl) rfl rfl (Nat.le_of_ble_eq_true rfl) (⟨Nat.le_of_ble_eq_true rfl, Nat.le_of_ble_eq_true rfl⟩) dX4_distance_15 ?_
    refine z_seti (zb_t (h2)) ?_
    refine z_if_ne (tgt := 27) C dX4_distance_18 (by decide) (fun c_18 => ?_) (fun c_18 => ?_)
    · refine z_iload_n (i := 3) C dX4_distance_27 rfl rfl ?_
      refine z_callSe C (ct_X4_isTime D B _) q2032 q2033 q106 q2034 np_X4_isTime (zr_ok rfl rfl) rfl rfl (Nat.le_of_ble_eq_true rfl) (⟨Nat.le_of_ble_eq_true rfl, Nat.le_of_ble_eq_true rfl⟩) dX4_distance_28 ?_
      refine z_seti (zb_f (h3)) ?_
      refine z_if_ne (tgt := 40) C dX4_distance_31 (by decide) (fun c_31 => ?_) (fun c_31 => ?_)
      · exact absurd rfl c_31
      · refine z_aload_n (i := 0) C dX4_distance_34 rfl rfl ?_
        refine z_iconst (v := 2) C dX4_distance_35 (by decide) ?_
        refine z_callVe C (tw_obj) rfl (ct_X4_fail D B _) q1941 q1943 qs26 q106 q1944 np_X4_fail (zr_ok rfl rfl) rfl rfl (Nat.le_of_ble_eq_true rfl) (⟨Nat.le_of_ble_eq_true rfl, Nat.le_of_ble_eq_true rfl⟩) dX4_distance_36 ?_
        exact z_ireturn C rfl (rfl) dX4_distance_39 (⟨rfl, rfl⟩) (Nat.le_of_ble_eq_true rfl) (Nat.le_of_ble_eq_true rfl)
    · exact absurd c_18 (by decide)
set_option maxHeartbeats 4000000 in
set_option maxRecDepth 100000 in
theorem ct_X4_emissionTime_1a (D : zG) (B : Nat) {b : zH} {t : tA} {st : Nat → Int32} {bk : Nat → Int32} {sv : Nat → Int32} {iz : Nat → Int32} {th : Int32} {di : Nat → Int32} {re : Nat → Int32} {si : Nat → Int32} {pa : Nat → Int32} {fo : Nat → Int64} {te : Nat → Int32} {tl : Int32} {po : Int32} {ts : Int32} {to : Int32} {le : Int32} {nu : Int32} {ec : Int32} {ep : Int32} {wo : Int64} (m s j r : Int32) (h1 : ¬ (0 ≤ m ∧ m ≤ st 8 - 1)) : Ct D B yX4_emissionTime (ws_ yX4_emissionTime cX4_emissionTime 5 (some .int)) (zr 4) [.ref (t.1 0), .int m, .int s, .int j, .int r] (tw b t st bk sv iz th di re si pa fo te tl po ts to le nu ec ep wo) (zpe (some (.int (0))) (tw b t st bk sv iz 1 di re si pa fo te tl po ts to le nu ec ep wo)) zno := by
  refine ct_intro (by decide +kernel) (Nat.le_of_ble_eq_true rfl) ?_
  intro X C
  refine z_aload_n (i := 0) C dX4_emissionTime_0 rfl rfl ?_
  refine z_iconst (v := 0) C dX4_emissionTime_1 (by decide) ?_
  refine tp_thrown C q1868 dX4_emissionTime_2 ?_
  refine z_aload_n (i := 0) C dX4_emissionTime_5 rfl rfl ?_
  refine z_iload_n (i := 1) C dX4_emissionTime_6 rfl rfl ?_
  refine z_callVe C (tw_obj) rfl (ct_X4_isMicrophone D B _) q2020 q2022 qs34 q106 q2023 np_X4_isMicrophone (zr_ok rfl rfl) rfl rfl (Nat.le_of_ble_eq_true rfl) (⟨Nat.le_of_ble_eq_true rfl, Nat.le_of_ble_eq_true rfl⟩) dX4_emissionTime_7 ?_
  refine z_seti (zb_f (h1)) ?_
  refine z_if_eq (tgt := 21) C dX4_emissionTime_10 (by decide) (fun c_10 => ?_) (fun c_10 => ?_)
  · refine z_aload_n (i := 0) C dX4_emissionTime_21 rfl rfl ?_
    refine z_iconst (v := 1) C dX4_emissionTime_22 (by decide) ?_
    refine z_callVe C (tw_obj) rfl (ct_X4_fail D B _) q1941 q1943 qs26 q106 q1944 np_X4_fail (zr_ok rfl rfl) rfl rfl (Nat.le_of_ble_eq_true rfl) (⟨Nat.le_of_ble_eq_true rfl, Nat.le_of_ble_eq_true rfl⟩) dX4_emissionTime_23 ?_
    exact z_ireturn C rfl (rfl) dX4_emissionTime_26 (⟨rfl, rfl⟩) (Nat.le_of_ble_eq_true rfl) (Nat.le_of_ble_eq_true rfl)
  · exact absurd rfl c_10
set_option maxHeartbeats 4000000 in
set_option maxRecDepth 100000 in
theorem ct_X4_emissionTime_1b (D : zG) (B : Nat) {b : zH} {t : tA} {st : Nat → Int32} {bk : Nat → Int32} {sv : Nat → Int32} {iz : Nat → Int32} {th : Int32} {di : Nat → Int32} {re : Nat → Int32} {si : Nat → Int32} {pa : Nat → Int32} {fo : Nat → Int64} {te : Nat → Int32} {tl : Int32} {po : Int32} {ts : Int32} {to : Int32} {le : Int32} {nu : Int32} {ec : Int32} {ep : Int32} {wo : Int64} (m s j r : Int32) (h1 : 0 ≤ m ∧ m ≤ st 8 - 1) (h2 : ¬ (0 ≤ s ∧ s ≤ st 7 - 1)) : Ct D B yX4_emissionTime (ws_ yX4_emissionTime cX4_emissionTime 5 (some .int)) (zr 4) [.ref (t.1 0), .int m, .int s, .int j, .int r] (tw b t st bk sv iz th di re si pa fo te tl po ts to le nu ec ep wo) (zpe (some (.int (0))) (tw b t st bk sv iz 1 di re si pa fo te tl po ts to le nu ec ep wo)) zno := by
  refine ct_intro (by decide +kernel) (Nat.le_of_ble_eq_true rfl) ?_
  intro X C
  refine z_aload_n (i := 0) C dX4_emissionTime_0 rfl rfl ?_
  refine z_iconst (v := 0) C dX4_emissionTime_1 (by decide) ?_
  refine tp_thrown C q1868 dX4_emissionTime_2 ?_
  refine z_aload_n (i := 0) C dX4_emissionTime_5 rfl rfl ?_
  refine z_iload_n (i := 1) C dX4_emissionTime_6 rfl rfl ?_
  refine z_callVe C (tw_obj) rfl (ct_X4_isMicrophone D B _) q2020 q2022 qs34 q106 q2023 np_X4_isMicrophone (zr_ok rfl rfl) rfl rfl (Nat.le_of_ble_eq_true rfl) (⟨Nat.le_of_ble_eq_true rfl, Nat.le_of_ble_eq_true rfl⟩) dX4_emissionTime_7 ?_
  refine z_seti (zb_t (h1)) ?_
  refine z_if_eq (tgt := 21) C dX4_emissionTime_10 (by decide) (fun c_10 => ?_) (fun c_10 => ?_)
  · exact absurd c_10 (by decide)
  · refine z_aload_n (i := 0) C dX4_emissionTime_13 rfl rfl ?_
    refine z_iload_n (i := 2) C dX4_emissionTime_14 rfl rfl ?_
    refine z_callVe C (tw_obj) rfl (ct_X4_isSource D B _) q1997 q1999 qs31 q106 q2000 np_X4_isSource (zr_ok rfl rfl) rfl rfl (Nat.le_of_ble_eq_true rfl) (⟨Nat.le_of_ble_eq_true rfl, Nat.le_of_ble_eq_true rfl⟩) dX4_emissionTime_15 ?_
    refine z_seti (zb_f (h2)) ?_
    refine z_if_ne (tgt := 27) C dX4_emissionTime_18 (by decide) (fun c_18 => ?_) (fun c_18 => ?_)
    · exact absurd rfl c_18
    · refine z_aload_n (i := 0) C dX4_emissionTime_21 rfl rfl ?_
      refine z_iconst (v := 1) C dX4_emissionTime_22 (by decide) ?_
      refine z_callVe C (tw_obj) rfl (ct_X4_fail D B _) q1941 q1943 qs26 q106 q1944 np_X4_fail (zr_ok rfl rfl) rfl rfl (Nat.le_of_ble_eq_true rfl) (⟨Nat.le_of_ble_eq_true rfl, Nat.le_of_ble_eq_true rfl⟩) dX4_emissionTime_23 ?_
      exact z_ireturn C rfl (rfl) dX4_emissionTime_26 (⟨rfl, rfl⟩) (Nat.le_of_ble_eq_true rfl) (Nat.le_of_ble_eq_true rfl)
set_option maxHeartbeats 4000000 in
set_option maxRecDepth 100000 in
theorem ct_X4_emissionTime_2 (D : zG) (B : Nat) {b : zH} {t : tA} {st : Nat → Int32} {bk : Nat → Int32} {sv : Nat → Int32} {iz : Nat → Int32} {th : Int32} {di : Nat → Int32} {re : Nat → Int32} {si : Nat → Int32} {pa : Nat → Int32} {fo : Nat → Int64} {te : Nat → Int32} {tl : Int32} {po : Int32} {ts : Int32} {to : Int32} {le : Int32} {nu : Int32} {ec : Int32} {ep : Int32} {wo : Int64} (m s j r : Int32) (h1 : 0 ≤ m ∧ m ≤ st 8 - 1) (h2 : 0 ≤ s ∧ s ≤ st 7 - 1) (h3 : ¬ (0 ≤ j ∧ j ≤ 255)) : Ct D B yX4_emissionTime (ws_ yX4_emissionTime cX4_emissionTime 5 (some .int)) (zr 4) [.ref (t.1 0), .int m, .int s, .int j, .int r] (tw b t st bk sv iz th di re si pa fo te tl po ts to le nu ec ep wo) (zpe (some (.int (0))) (tw b t st bk sv iz 2 di re si pa fo te tl po ts to le nu ec ep wo)) zno := by
  refine ct_intro (by decide +kernel) (Nat.le_of_ble_eq_true rfl) ?_
  intro X C
  refine z_aload_n (i := 0) C dX4_emissionTime_0 rfl rfl ?_
  refine z_iconst (v := 0) C dX4_emissionTime_1 (by decide) ?_
  refine tp_thrown C q1868 dX4_emissionTime_2 ?_
  refine z_aload_n (i := 0) C dX4_emissionTime_5 rfl rfl ?_
  refine z_iload_n (i := 1) C dX4_emissionTime_6 rfl rfl ?_
  refine z_callVe C (tw_obj) rfl (ct_X4_isMicrophone D B _) q2020 q2022 qs34 q106 q2023 np_X4_isMicrophone (zr_ok rfl rfl) rfl rfl (Nat.le_of_ble_eq_true rfl) (⟨Nat.le_of_ble_eq_true rfl, Nat.le_of_ble_eq_true rfl⟩) dX4_emissionTime_7 ?_
  refine z_seti (zb_t (h1)) ?_
  refine z_if_eq (tgt := 21) C dX4_emissionTime_10 (by decide) (fun c_10 => ?_) (fun c_10 => ?_)
  · exact absurd c_10 (by decide)
  · refine z_aload_n (i := 0) C dX4_emissionTime_13 rfl rfl ?_
    refine z_iload_n (i := 2) C dX4_emissionTime_14 rfl rfl ?_
    refine z_callVe C (tw_obj) rfl (ct_X4_isSource D B _) q1997 q1999 qs31 q106 q2000 np_X4_isSource (zr_ok rfl rfl) rfl rfl (Nat.le_of_ble_eq_true rfl) (⟨Nat.le_of_ble_eq_true rfl, Nat.le_of_ble_eq_true rfl⟩) dX4_emissionTime_15 ?_
    refine z_seti (zb_t (h2)) ?_
    refine z_if_ne (tgt := 27) C dX4_emissionTime_18 (by decide) (fun c_18 => ?_) (fun c_18 => ?_)
    · refine z_iload_n (i := 3) C dX4_emissionTime_27 rfl rfl ?_
      refine z_callSe C (ct_X4_isTime D B _) q2032 q2033 q106 q2034 np_X4_isTime (zr_ok rfl rfl) rfl rfl (Nat.le_of_ble_eq_true rfl) (⟨Nat.le_of_ble_eq_true rfl, Nat.le_of_ble_eq_true rfl⟩) dX4_emissionTime_28 ?_
      refine z_seti (zb_f (h3)) ?_
      refine z_if_ne (tgt := 40) C dX4_emissionTime_31 (by decide) (fun c_31 => ?_) (fun c_31 => ?_)
      · exact absurd rfl c_31
      · refine z_aload_n (i := 0) C dX4_emissionTime_34 rfl rfl ?_
        refine z_iconst (v := 2) C dX4_emissionTime_35 (by decide) ?_
        refine z_callVe C (tw_obj) rfl (ct_X4_fail D B _) q1941 q1943 qs26 q106 q1944 np_X4_fail (zr_ok rfl rfl) rfl rfl (Nat.le_of_ble_eq_true rfl) (⟨Nat.le_of_ble_eq_true rfl, Nat.le_of_ble_eq_true rfl⟩) dX4_emissionTime_36 ?_
        exact z_ireturn C rfl (rfl) dX4_emissionTime_39 (⟨rfl, rfl⟩) (Nat.le_of_ble_eq_true rfl) (Nat.le_of_ble_eq_true rfl)
    · exact absurd c_18 (by decide)
