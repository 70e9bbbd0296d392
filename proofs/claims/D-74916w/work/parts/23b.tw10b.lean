/-! the twin: parsing statements -/
theorem np_X4_parseInteger : znp yX4_parseInteger 2 := ⟨by decide +kernel, by decide +kernel, by decide +kernel⟩
set_option maxHeartbeats 4000000 in
set_option maxRecDepth 100000 in
theorem ct_X4_parseMicrophone (D : zG) (B : Nat) {b : zH} {t : tA} {st : Nat → Int32} {bk : Nat → Int32} {sv : Nat → Int32} {iz : Nat → Int32} {th : Int32} {di : Nat → Int32} {re : Nat → Int32} {si : Nat → Int32} {pa : Nat → Int32} {fo : Nat → Int64} {te : Nat → Int32}  (n : Nat) (hn5 : n ≤ 500) (hte : ∀ j, j < n → ¬ te j = -1) (c : zC) (hc : c.1 ≤ n) (n8 : Nat) (h8 : st 8 = nI n8) (h88 : n8 ≤ 8) : Ct D B yX4_parseMicrophone (ws_ yX4_parseMicrophone cX4_parseMicrophone 6 none) (zr 6) [.ref (t.1 0)] (tw b t st bk sv iz th di re si pa fo te (nI n) (nI (zed te n c.1)) (nI c.1) (nI (zkd te n c.1)) (nI (zleN te n c.1)) (znmN te n c.1) c.2.1 c.2.2 (zwoN te n c.1)) (zpe none (tw b t (zpM te n st c).1 bk sv iz th di re si pa fo te (nI n) (nI (zed te n (zpM te n st c).2.1)) (nI (zpM te n st c).2.1) (nI (zkd te n (zpM te n st c).2.1)) (nI (zleN te n (zpM te n st c).2.1)) (znmN te n (zpM te n st c).2.1) (zpM te n st c).2.2.1 (zpM te n st c).2.2.2 (zwoN te n (zpM te n st c).2.1))) zno := by
  refine ct_intro (by decide +kernel) (Nat.le_of_ble_eq_true rfl) ?_
  intro X C
  refine z_aload_n (i := 0) C dX4_parseMicrophone_0 rfl rfl ?_
  refine z_aload_n (i := 0) C dX4_parseMicrophone_1 rfl rfl ?_
  refine tg_state C q1864 dX4_parseMicrophone_2 ?_
  refine z_bipush (v := 8) C dX4_parseMicrophone_5 (by decide) ?_
  refine tl_state C (⟨(rfl : (8 : Int32) = nI 8), by decide⟩) dX4_parseMicrophone_7 ?_
  refine z_bipush (v := 8) C dX4_parseMicrophone_8 (by decide) ?_
  refine z_icmp_ge (tgt := 17) C dX4_parseMicrophone_10 (by decide) (fun c_10 => ?_) (fun c_10 => ?_)
  · refine z_iconst (v := 0) C dX4_parseMicrophone_17 (by decide) ?_
    refine z_seti (y := zb (st 8 < 8)) (zb_f (Int32.not_lt.mpr c_10)).symm ?_
    refine z_iconst (v := 3) C dX4_parseMicrophone_18 (by decide) ?_
    refine z_callVe C (tw_obj) rfl (ct_X4_require D B _ _ n c) q2366 q2368 qs76 q106 q2369 np_X4_require (zr_ok rfl rfl) rfl rfl (Nat.le_of_ble_eq_true rfl) (⟨Nat.le_of_ble_eq_true rfl, Nat.le_of_ble_eq_true rfl⟩) dX4_parseMicrophone_19 ?_
    refine z_aload_n (i := 0) C dX4_parseMicrophone_22 rfl rfl ?_
    refine z_callVe C (tw_obj) rfl (ct_X4_advance D B n hn5 hte (zrq _ 3 c) (hc)) q2370 q2372 qs77 q106 q2373 np_X4_advance (zr_ok rfl rfl) rfl rfl (Nat.le_of_ble_eq_true rfl) (⟨Nat.le_of_ble_eq_true rfl, Nat.le_of_ble_eq_true rfl⟩) dX4_parseMicrophone_23 ?_
    refine z_aload_n (i := 0) C dX4_parseMicrophone_26 rfl rfl ?_
    refine z_sipush (v := (-5000)) C dX4_parseMicrophone_27 (by decide) ?_
    refine z_sipush (v := 5000) C dX4_parseMicrophone_30 (by decide) ?_
    refine z_callVe C (tw_obj) rfl (ct_X4_parseInteger D B (-5000) (5000) n hn5 hte (zpM1 te n st c) (zad_le (c := zrq _ 3 c) hc)) q2374 q2376 qs78 q106 q2377 np_X4_parseInteger (zr_ok rfl rfl) rfl rfl (Nat.le_of_ble_eq_true rfl) (⟨Nat.le_of_ble_eq_true rfl, Nat.le_of_ble_eq_true rfl⟩) dX4_parseMicrophone_33 ?_
    refine z_istore_n (i := 1) C dX4_parseMicrophone_36 rfl (Nat.le_of_ble_eq_true rfl) rfl ?_
    refine z_aload_n (i := 0) C dX4_parseMicrophone_37 rfl rfl ?_
    refine z_bipush (v := (-100)) C dX4_parseMicrophone_38 (by decide) ?_
    refine z_bipush (v := 99) C dX4_parseMicrophone_40 (by decide) ?_
    refine z_callVe C (tw_obj) rfl (ct_X4_parseInteger D B (-100) (99) n hn5 hte (zpM2 te n st c).2 (zpI_le (c := (zpM1 te n st c)) (zad_le (c := zrq _ 3 c) hc))) q2374 q2376 qs78 q106 q2377 np_X4_parseInteger (zr_ok rfl rfl) rfl rfl (Nat.le_of_ble_eq_true rfl) (⟨Nat.le_of_ble_eq_true rfl, Nat.le_of_ble_eq_true rfl⟩) dX4_parseMicrophone_42 ?_
    refine z_istore_n (i := 2) C dX4_parseMicrophone_45 rfl (Nat.le_of_ble_eq_true rfl) rfl ?_
    refine z_aload_n (i := 0) C dX4_parseMicrophone_46 rfl rfl ?_
    refine z_iconst (v := 0) C dX4_parseMicrophone_47 (by decide) ?_
    refine z_sipush (v := 500) C dX4_parseMicrophone_48 (by decide) ?_
    refine z_callVe C (tw_obj) rfl (ct_X4_parseNumber D B (0) (500) n hn5 hte (zpM3 te n st c).2 (zpI_le (c := (zpM2 te n st c).2) (zpI_le (c := (zpM1 te n st c)) (zad_le (c := zrq _ 3 c) hc)))) q2378 q2380 qs79 q106 q2381 np_X4_parseNumber (zr_ok rfl rfl) rfl rfl (Nat.le_of_ble_eq_true rfl) (⟨Nat.le_of_ble_eq_true rfl, Nat.le_of_ble_eq_true rfl⟩) dX4_parseMicrophone_51 ?_
    refine z_istore_n (i := 3) C dX4_parseMicrophone_54 rfl (Nat.le_of_ble_eq_true rfl) rfl ?_
    refine z_aload_n (i := 0) C dX4_parseMicrophone_55 rfl rfl ?_
    refine z_iconst (v := 0) C dX4_parseMicrophone_56 (by decide) ?_
    refine z_bipush (v := 9) C dX4_parseMicrophone_57 (by decide) ?_
    refine z_callVe C (tw_obj) rfl (ct_X4_parseNumber D B (0) (9) n hn5 hte (zpM4 te n st c).2 (zpN_le (c := (zpM3 te n st c).2) (zpI_le (c := (zpM2 te n st c).2) (zpI_le (c := (zpM1 te n st c)) (zad_le (c := zrq _ 3 c) hc))))) q2378 q2380 qs79 q106 q2381 np_X4_parseNumber (zr_ok rfl rfl) rfl rfl (Nat.le_of_ble_eq_true rfl) (⟨Nat.le_of_ble_eq_true rfl, Nat.le_of_ble_eq_true rfl⟩) dX4_parseMicrophone_59 ?_
    refine z_istore C dX4_parseMicrophone_62 (Nat.le_of_ble_eq_true rfl) rfl ?_
    refine z_aload_n (i := 0) C dX4_parseMicrophone_64 rfl rfl ?_
    refine tg_errorCode C q1881 dX4_parseMicrophone_65 ?_
    refine z_if_ne (tgt := 82) C dX4_parseMicrophone_68 (by decide) (fun c_68 => ?_) (fun c_68 => ?_)
    · exact z_return C rfl dX4_parseMicrophone_82 (⟨rfl, (congrArg (fun c9 : (Nat → Int32) × zC => (tw b t c9.1 bk sv iz th di re si pa fo te (nI n) (nI (zed te n c9.2.1)) (nI c9.2.1) (nI (zkd te n c9.2.1)) (nI (zleN te n c9.2.1)) (znmN te n c9.2.1) c9.2.2.1 c9.2.2.2 (zwoN te n c9.2.1))) (show zpM te n st c = (st, (zpM5 te n st c).2) from by unfold zpM; rw [if_neg (show ¬ (zpM5 te n st c).2.2.1 = 0 from c_68)])).symm⟩) (Nat.le_of_ble_eq_true rfl) (Nat.le_of_ble_eq_true rfl)
    · have a4 := (zpN_e (c := (zpM4 te n st c).2) c_68).1
      have a3 := (zpN_e (c := (zpM3 te n st c).2) a4).1
      have a2 := (zpI_e (c := (zpM2 te n st c).2) a3).1
      have a1 := (zpI_e (c := zpM1 te n st c) a2).1
      have h9 : st 8 < 8 := zb_ne.mp (zrq_e (by decide) (zad_e a1)).2.1
      rw [h8] at h9
      have hlt : n8 < 8 := (nI_ltI (b := 8) (by omega) (by decide)).mp h9
      refine z_aload_n (i := 0) C dX4_parseMicrophone_71 rfl rfl ?_
      refine z_iload_n (i := 1) C dX4_parseMicrophone_72 rfl rfl ?_
      refine z_iload_n (i := 2) C dX4_parseMicrophone_73 rfl rfl ?_
      refine z_iload_n (i := 3) C dX4_parseMicrophone_74 rfl rfl ?_
      refine z_iload C dX4_parseMicrophone_75 rfl ?_
      refine z_callVe C (tw_obj) rfl (ct_X4_appendMicrophone D B _ _ _ _ n8 h8 hlt) q2012 q2014 qs33 q106 q2015 np_X4_appendMicrophone (zr_ok rfl rfl) rfl rfl (Nat.le_of_ble_eq_true rfl) (⟨Nat.le_of_ble_eq_true rfl, Nat.le_of_ble_eq_true rfl⟩) dX4_parseMicrophone_77 ?_
      refine z_istore C dX4_parseMicrophone_80 (Nat.le_of_ble_eq_true rfl) rfl ?_
      exact z_return C rfl dX4_parseMicrophone_82 (⟨rfl, (congrArg (fun c9 : (Nat → Int32) × zC => (tw b t c9.1 bk sv iz th di re si pa fo te (nI n) (nI (zed te n c9.2.1)) (nI c9.2.1) (nI (zkd te n c9.2.1)) (nI (zleN te n c9.2.1)) (znmN te n c9.2.1) c9.2.2.1 c9.2.2.2 (zwoN te n c9.2.1))) (show zpM te n st c = (zaM st n8 (zpM2 te n st c).1 (zpM3 te n st c).1 (zpM4 te n st c).1 (zpM5 te n st c).1, (zpM5 te n st c).2) from by unfold zpM; rw [if_pos (show (zpM5 te n st c).2.2.1 = 0 from c_68), zct_of h8 (by omega)])).symm⟩) (Nat.le_of_ble_eq_true rfl) (Nat.le_of_ble_eq_true rfl)
  · refine z_iconst (v := 1) C dX4_parseMicrophone_13 (by decide) ?_
    refine z_seti (y := zb (st 8 < 8)) (zb_t (Int32.not_le.mp c_10)).symm ?_
    refine z_goto (tgt := 18) C dX4_parseMicrophone_14 (by decide) ?_
    refine z_iconst (v := 3) C dX4_parseMicrophone_18 (by decide) ?_
    refine z_callVe C (tw_obj) rfl (ct_X4_require D B _ _ n c) q2366 q2368 qs76 q106 q2369 np_X4_require (zr_ok rfl rfl) rfl rfl (Nat.le_of_ble_eq_true rfl) (⟨Nat.le_of_ble_eq_true rfl, Nat.le_of_ble_eq_true rfl⟩) dX4_parseMicrophone_19 ?_
    refine z_aload_n (i := 0) C dX4_parseMicrophone_22 rfl rfl ?_
    refine z_callVe C (tw_obj) rfl (ct_X4_advance D B n hn5 hte (zrq _ 3 c) (hc)) q2370 q2372 qs77 q106 q2373 np_X4_advance (zr_ok rfl rfl) rfl rfl (Nat.le_of_ble_eq_true rfl) (⟨Nat.le_of_ble_eq_true rfl, Nat.le_of_ble_eq_true rfl⟩) dX4_parseMicrophone_23 ?_
    refine z_aload_n (i := 0) C dX4_parseMicrophone_26 rfl rfl ?_
    refine z_sipush (v := (-5000)) C dX4_parseMicrophone_27 (by decide) ?_
    refine z_sipush (v := 5000) C dX4_parseMicrophone_30 (by decide) ?_
    refine z_callVe C (tw_obj) rfl (ct_X4_parseInteger D B (-5000) (5000) n hn5 hte (zpM1 te n st c) (zad_le (c := zrq _ 3 c) hc)) q2374 q2376 qs78 q106 q2377 np_X4_parseInteger (zr_ok rfl rfl) rfl rfl (Nat.le_of_ble_eq_true rfl) (⟨Nat.le_of_ble_eq_true rfl, Nat.le_of_ble_eq_true rfl⟩) dX4_parseMicrophone_33 ?_
    refine z_istore_n (i := 1) C dX4_parseMicrophone_36 rfl (Nat.le_of_ble_eq_true rfl) rfl ?_
    refine z_aload_n (i := 0) C dX4_parseMicrophone_37 rfl rfl ?_
    refine z_bipush (v := (-100)) C dX4_parseMicrophone_38 (by decide) ?_
    refine z_bipush (v := 99) C dX4_parseMicrophone_40 (by decide) ?_
    refine z_callVe C (tw_obj) rfl (ct_X4_parseInteger D B (-100) (99) n hn5 hte (zpM2 te n st c).2 (zpI_le (c := (zpM1 te n st c)) (zad_le (c := zrq _ 3 c) hc))) q2374 q2376 qs78 q106 q2377 np_X4_parseInteger (zr_ok rfl rfl) rfl rfl (Nat.le_of_ble_eq_true rfl) (⟨Nat.le_of_ble_eq_true rfl, Nat.le_of_ble_eq_true rfl⟩) dX4_parseMicrophone_42 ?_
    refine z_istore_n (i := 2) C dX4_parseMicrophone_45 rfl (Nat.le_of_ble_eq_true rfl) rfl ?_
    refine z_aload_n (i := 0) C dX4_parseMicrophone_46 rfl rfl ?_
    refine z_iconst (v := 0) C dX4_parseMicrophone_47 (by decide) ?_
    refine z_sipush (v := 500) C dX4_parseMicrophone_48 (by decide) ?_
    refine z_callVe C (tw_obj) rfl (ct_X4_parseNumber D B (0) (500) n hn5 hte (zpM3 te n st c).2 (zpI_le (c := (zpM2 te n st c).2) (zpI_le (c := (zpM1 te n st c)) (zad_le (c := zrq _ 3 c) hc)))) q2378 q2380 qs79 q106 q2381 np_X4_parseNumber (zr_ok rfl rfl) rfl rfl (Nat.le_of_ble_eq_true rfl) (⟨Nat.le_of_ble_eq_true rfl, Nat.le_of_ble_eq_true rfl⟩) dX4_parseMicrophone_51 ?_
    refine z_istore_n (i := 3) C dX4_parseMicrophone_54 rfl (Nat.le_of_ble_eq_true rfl) rfl ?_
    refine z_aload_n (i := 0) C dX4_parseMicrophone_55 rfl rfl ?_
    refine z_iconst (v := 0) C dX4_parseMicrophone_56 (by decide) ?_
    refine z_bipush (v := 9) C dX4_parseMicrophone_57 (by decide) ?_
    refine z_callVe C (tw_obj) rfl (ct_X4_parseNumber D B (0) (9) n hn5 hte (zpM4 te n st c).2 (zpN_le (c := (zpM3 te n st c).2) (zpI_le (c := (zpM2 te n st c).2) (zpI_le (c := (zpM1 te n st c)) (zad_le (c := zrq _ 3 c) hc))))) q2378 q2380 qs79 q106 q2381 np_X4_parseNumber (zr_ok rfl rfl) rfl rfl (Nat.le_of_ble_eq_true rfl) (⟨Nat.le_of_ble_eq_true rfl, Nat.le_of_ble_eq_true rfl⟩) dX4_parseMicrophone_59 ?_
    refine z_istore C dX4_parseMicrophone_62 (Nat.le_of_ble_eq_true rfl) rfl ?_
    refine z_aload_n (i := 0) C dX4_parseMicrophone_64 rfl rfl ?_
    refine tg_errorCode C q1881 dX4_parseMicrophone_65 ?_
    refine z_if_ne (tgt := 82) C dX4_parseMicrophone_68 (by decide) (fun c_68 => ?_) (fun c_68 => ?_)
    · exact z_return C rfl dX4_parseMicrophone_82 (⟨rfl, (congrArg (fun c9 : (Nat → Int32) × zC => (tw b t c9.1 bk sv iz th di re si pa fo te (nI n) (nI (zed te n c9.2.1)) (nI c9.2.1) (nI (zkd te n c9.2.1)) (nI (zleN te n c9.2.1)) (znmN te n c9.2.1) c9.2.2.1 c9.2.2.2 (zwoN te n c9.2.1))) (show zpM te n st c = (st, (zpM5 te n st c).2) from by unfold zpM; rw [if_neg (show ¬ (zpM5 te n st c).2.2.1 = 0 from c_68)])).symm⟩) (Nat.le_of_ble_eq_true rfl) (Nat.le_of_ble_eq_true rfl)
    · have a4 := (zpN_e (c := (zpM4 te n st c).2) c_68).1
      have a3 := (zpN_e (c := (zpM3 te n st c).2) a4).1
      have a2 := (zpI_e (c := (zpM2 te n st c).2) a3).1
      have a1 := (zpI_e (c := zpM1 te n st c) a2).1
      have h9 : st 8 < 8 := zb_ne.mp (zrq_e (by decide) (zad_e a1)).2.1
      rw [h8] at h9
      have hlt : n8 < 8 := (nI_ltI (b := 8) (by omega) (by decide)).mp h9
      refine z_aload_n (i := 0) C dX4_parseMicrophone_71 rfl rfl ?_
      refine z_iload_n (i := 1) C dX4_parseMicrophone_72 rfl rfl ?_
      refine z_iload_n (i := 2) C dX4_parseMicrophone_73 rfl rfl ?_
      refine z_iload_n (i := 3) C dX4_parseMicrophone_74 rfl rfl ?_
      refine z_iload C dX4_parseMicrophone_75 rfl ?_
      refine z_callVe C (tw_obj) rfl (ct_X4_appendMicrophone D B _ _ _ _ n8 h8 hlt) q2012 q2014 qs33 q106 q2015 np_X4_appendMicrophone (zr_ok rfl rfl) rfl rfl (Nat.le_of_ble_eq_true rfl) (⟨Nat.le_of_ble_eq_true rfl, Nat.le_of_ble_eq_true rfl⟩) dX4_parseMicrophone_77 ?_
      refine z_istore C dX4_parseMicrophone_80 (Nat.le_of_ble_eq_true rfl) rfl ?_
      exact z_return C rfl dX4_parseMicrophone_82 (⟨rfl, (congrArg (fun c9 : (Nat → Int32) × zC => (tw b t c9.1 bk sv iz th di re si pa fo te (nI n) (nI (zed te n c9.2.1)) (nI c9.2.1) (nI (zkd te n c9.2.1)) (nI (zleN te n c9.2.1)) (znmN te n c9.2.1) c9.2.2.1 c9.2.2.2 (zwoN te n c9.2.1))) (show zpM te n st c = (zaM st n8 (zpM2 te n st c).1 (zpM3 te n st c).1 (zpM4 te n st c).1 (zpM5 te n st c).1, (zpM5 te n st c).2) from by unfold zpM; rw [if_pos (show (zpM5 te n st c).2.2.1 = 0 from c_68), zct_of h8 (by omega)])).symm⟩) (Nat.le_of_ble_eq_true rfl) (Nat.le_of_ble_eq_true rfl)
set_option maxHeartbeats 4000000 in
set_option maxRecDepth 100000 in
theorem ct_X4_parseVehicle (D : zG) (B : Nat) {b : zH} {t : tA} {st : Nat → Int32} {bk : Nat → Int32} {sv : Nat → Int32} {iz : Nat → Int32} {th : Int32} {di : Nat → Int32} {re : Nat → Int32} {si : Nat → Int32} {pa : Nat → Int32} {fo : Nat → Int64} {te : Nat → Int32}  (n : Nat) (hn5 : n ≤ 500) (hte : ∀ j, j < n → ¬ te j = -1) (c : zC) (hc : c.1 ≤ n) (n8 : Nat) (h8 : st 6 = nI n8) (h88 : n8 ≤ 4) : Ct D B yX4_parseVehicle (ws_ yX4_parseVehicle cX4_parseVehicle 5 none) (zr 6) [.ref (t.1 0)] (tw b t st bk sv iz th di re si pa fo te (nI n) (nI (zed te n c.1)) (nI c.1) (nI (zkd te n c.1)) (nI (zleN te n c.1)) (znmN te n c.1) c.2.1 c.2.2 (zwoN te n c.1)) (zpe none (tw b t (zpV te n st c).1 bk sv iz th di re si pa fo te (nI n) (nI (zed te n (zpV te n st c).2.1)) (nI (zpV te n st c).2.1) (nI (zkd te n (zpV te n st c).2.1)) (nI (zleN te n (zpV te n st c).2.1)) (znmN te n (zpV te n st c).2.1) (zpV te n st c).2.2.1 (zpV te n st c).2.2.2 (zwoN te n (zpV te n st c).2.1))) zno := by
  refine ct_intro (by decide +kernel) (Nat.le_of_ble_eq_true rfl) ?_
  intro X C
  refine z_aload_n (i := 0) C dX4_parseVehicle_0 rfl rfl ?_
  refine z_aload_n (i := 0) C dX4_parseVehicle_1 rfl rfl ?_
  refine tg_state C q1864 dX4_parseVehicle_2 ?_
  refine z_bipush (v := 6) C dX4_parseVehicle_5 (by decide) ?_
  refine tl_state C (⟨(rfl : (6 : Int32) = nI 6), by decide⟩) dX4_parseVehicle_7 ?_
  refine z_iconst (v := 4) C dX4_parseVehicle_8 (by decide) ?_
  refine z_icmp_ge (tgt := 16) C dX4_parseVehicle_9 (by decide) (fun c_9 => ?_) (fun c_9 => ?_)
  · refine z_iconst (v := 0) C dX4_parseVehicle_16 (by decide) ?_
    refine z_seti (y := zb (st 6 < 4)) (zb_f (Int32.not_lt.mpr c_9)).symm ?_
    refine z_iconst (v := 3) C dX4_parseVehicle_17 (by decide) ?_
    refine z_callVe C (tw_obj) rfl (ct_X4_require D B _ _ n c) q2366 q2368 qs76 q106 q2369 np_X4_require (zr_ok rfl rfl) rfl rfl (Nat.le_of_ble_eq_true rfl) (⟨Nat.le_of_ble_eq_true rfl, Nat.le_of_ble_eq_true rfl⟩) dX4_parseVehicle_18 ?_
    refine z_aload_n (i := 0) C dX4_parseVehicle_21 rfl rfl ?_
    refine z_callVe C (tw_obj) rfl (ct_X4_advance D B n hn5 hte (zrq _ 3 c) (hc)) q2370 q2372 qs77 q106 q2373 np_X4_advance (zr_ok rfl rfl) rfl rfl (Nat.le_of_ble_eq_true rfl) (⟨Nat.le_of_ble_eq_true rfl, Nat.le_of_ble_eq_true rfl⟩) dX4_parseVehicle_22 ?_
    refine z_aload_n (i := 0) C dX4_parseVehicle_25 rfl rfl ?_
    refine z_sipush (v := (-20000)) C dX4_parseVehicle_26 (by decide) ?_
    refine z_sipush (v := 20000) C dX4_parseVehicle_29 (by decide) ?_
    refine z_callVe C (tw_obj) rfl (ct_X4_parseInteger D B (-20000) (20000) n hn5 hte (zpV1 te n st c) (zad_le (c := zrq _ 3 c) hc)) q2374 q2376 qs78 q106 q2377 np_X4_parseInteger (zr_ok rfl rfl) rfl rfl (Nat.le_of_ble_eq_true rfl) (⟨Nat.le_of_ble_eq_true rfl, Nat.le_of_ble_eq_true rfl⟩) dX4_parseVehicle_32 ?_
    refine z_istore_n (i := 1) C dX4_parseVehicle_35 rfl (Nat.le_of_ble_eq_true rfl) rfl ?_
    refine z_aload_n (i := 0) C dX4_parseVehicle_36 rfl rfl ?_
    refine z_bipush (v := (-50)) C dX4_parseVehicle_37 (by decide) ?_
    refine z_bipush (v := 50) C dX4_parseVehicle_39 (by decide) ?_
    refine z_callVe C (tw_obj) rfl (ct_X4_parseInteger D B (-50) (50) n hn5 hte (zpV2 te n st c).2 (zpI_le (c := (zpV1 te n st c)) (zad_le (c := zrq _ 3 c) hc))) q2374 q2376 qs78 q106 q2377 np_X4_parseInteger (zr_ok rfl rfl) rfl rfl (Nat.le_of_ble_eq_true rfl) (⟨Nat.le_of_ble_eq_true rfl, Nat.le_of_ble_eq_true rfl⟩) dX4_parseVehicle_41 ?_
    refine z_istore_n (i := 2) C dX4_parseVehicle_44 rfl (Nat.le_of_ble_eq_true rfl) rfl ?_
    refine z_aload_n (i := 0) C dX4_parseVehicle_45 rfl rfl ?_
    refine z_bipush (v := 100) C dX4_parseVehicle_46 (by decide) ?_
    refine z_sipush (v := 5000) C dX4_parseVehicle_48 (by decide) ?_
    refine z_callVe C (tw_obj) rfl (ct_X4_parseInteger D B (100) (5000) n hn5 hte (zpV3 te n st c).2 (zpI_le (c := (zpV2 te n st c).2) (zpI_le (c := (zpV1 te n st c)) (zad_le (c := zrq _ 3 c) hc)))) q2374 q2376 qs78 q106 q2377 np_X4_parseInteger (zr_ok rfl rfl) rfl rfl (Nat.le_of_ble_eq_true rfl) (⟨Nat.le_of_ble_eq_true rfl, Nat.le_of_ble_eq_true rfl⟩) dX4_parseVehicle_51 ?_
    refine z_istore_n (i := 3) C dX4_parseVehicle_54 rfl (Nat.le_of_ble_eq_true rfl) rfl ?_
    refine z_aload_n (i := 0) C dX4_parseVehicle_55 rfl rfl ?_
    refine tg_errorCode C q1881 dX4_parseVehicle_56 ?_
    refine z_if_ne (tgt := 71) C dX4_parseVehicle_59 (by decide) (fun c_59 => ?_) (fun c_59 => ?_)
    · exact z_return C rfl dX4_parseVehicle_71 (⟨rfl, (congrArg (fun c9 : (Nat → Int32) × zC => (tw b t c9.1 bk sv iz th di re si pa fo te (nI n) (nI (zed te n c9.2.1)) (nI c9.2.1) (nI (zkd te n c9.2.1)) (nI (zleN te n c9.2.1)) (znmN te n c9.2.1) c9.2.2.1 c9.2.2.2 (zwoN te n c9.2.1))) (show zpV te n st c = (st, (zpV4 te n st c).2) from by unfold zpV; rw [if_neg (show ¬ (zpV4 te n st c).2.2.1 = 0 from c_59)])).symm⟩) (Nat.le_of_ble_eq_true rfl) (Nat.le_of_ble_eq_true rfl)
    · have a3 := (zpI_e (c := (zpV3 te n st c).2) c_59).1
      have a2 := (zpI_e (c := (zpV2 te n st c).2) a3).1
      have a1 := (zpI_e (c := zpV1 te n st c) a2).1
      have h9 : st 6 < 4 := zb_ne.mp (zrq_e (by decide) (zad_e a1)).2.1
      rw [h8] at h9
      have hlt : n8 < 4 := (nI_ltI (b := 4) (by omega) (by decide)).mp h9
      refine z_aload_n (i := 0) C dX4_parseVehicle_62 rfl rfl ?_
      refine z_iload_n (i := 1) C dX4_parseVehicle_63 rfl rfl ?_
      refine z_iload_n (i := 2) C dX4_parseVehicle_64 rfl rfl ?_
      refine z_iload_n (i := 3) C dX4_parseVehicle_65 rfl rfl ?_
      refine z_callVe C (tw_obj) rfl (ct_X4_appendVehicle D B _ _ _ n8 h8 hlt) q1964 q1966 qs27 q106 q1967 np_X4_appendVehicle (zr_ok rfl rfl) rfl rfl (Nat.le_of_ble_eq_true rfl) (⟨Nat.le_of_ble_eq_true rfl, Nat.le_of_ble_eq_true rfl⟩) dX4_parseVehicle_66 ?_
      refine z_istore C dX4_parseVehicle_69 (Nat.le_of_ble_eq_true rfl) rfl ?_
      exact z_return C rfl dX4_parseVehicle_71 (⟨rfl, (congrArg (fun c9 : (Nat → Int32) × zC => (tw b t c9.1 bk sv iz th di re si pa fo te (nI n) (nI (zed te n c9.2.1)) (nI c9.2.1) (nI (zkd te n c9.2.1)) (nI (zleN te n c9.2.1)) (znmN te n c9.2.1) c9.2.2.1 c9.2.2.2 (zwoN te n c9.2.1))) (show zpV te n st c = (zaV st n8 (zpV2 te n st c).1 (zpV3 te n st c).1 (zpV4 te n st c).1, (zpV4 te n st c).2) from by unfold zpV; rw [if_pos (show (zpV4 te n st c).2.2.1 = 0 from c_59), zct_of h8 (by omega)])).symm⟩) (Nat.le_of_ble_eq_true rfl) (Nat.le_of_ble_eq_true rfl)
  · refine z_iconst (v := 1) C dX4_parseVehicle_12 (by decide) ?_
    refine z_seti (y := zb (st 6 < 4)) (zb_t (Int32.not_le.mp c_9)).symm ?_
    refine z_goto (tgt := 17) C dX4_parseVehicle_13 (by decide) ?_
    refine z_iconst (v := 3) C dX4_parseVehicle_17 (by decide) ?_
    refine z_callVe C (tw_obj) rfl (ct_X4_require D B _ _ n c) q2366 q2368 qs76 q106 q2369 np_X4_require (zr_ok rfl rfl) rfl rfl (Nat.le_of_ble_eq_true rfl) (⟨Nat.le_of_ble_eq_true rfl, Nat.le_of_ble_eq_true rfl⟩) dX4_parseVehicle_18 ?_
    refine z_aload_n (i := 0) C dX4_parseVehicle_21 rfl rfl ?_
    refine z_callVe C (tw_obj) rfl (ct_X4_advance D B n hn5 hte (zrq _ 3 c) (hc)) q2370 q2372 qs77 q106 q2373 np_X4_advance (zr_ok rfl rfl) rfl rfl (Nat.le_of_ble_eq_true rfl) (⟨Nat.le_of_ble_eq_true rfl, Nat.le_of_ble_eq_true rfl⟩) dX4_parseVehicle_22 ?_
    refine z_aload_n (i := 0) C dX4_parseVehicle_25 rfl rfl ?_
    refine z_sipush (v := (-20000)) C dX4_parseVehicle_26 (by decide) ?_
    refine z_sipush (v := 20000) C dX4_parseVehicle_29 (by decide) ?_
    refine z_callVe C (tw_obj) rfl (ct_X4_parseInteger D B (-20000) (20000) n hn5 hte (zpV1 te n st c) (zad_le (c := zrq _ 3 c) hc)) q2374 q2376 qs78 q106 q2377 np_X4_parseInteger (zr_ok rfl rfl) rfl rfl (Nat.le_of_ble_eq_true rfl) (⟨Nat.le_of_ble_eq_true rfl, Nat.le_of_ble_eq_true rfl⟩) dX4_parseVehicle_32 ?_
    refine z_istore_n (i := 1) C dX4_parseVehicle_35 rfl (Nat.le_of_ble_eq_true rfl) rfl ?_
    refine z_aload_n (i := 0) C dX4_parseVehicle_36 rfl rfl ?_
    refine z_bipush (v := (-50)) C dX4_parseVehicle_37 (by decide) ?_
    refine z_bipush (v := 50) C dX4_parseVehicle_39 (by decide) ?_
    refine z_callVe C (tw_obj) rfl (ct_X4_parseInteger D B (-50) (50) n hn5 hte (zpV2 te n st c).2 (zpI_le (c := (zpV1 te n st c)) (zad_le (c := zrq _ 3 c) hc))) q2374 q2376 qs78 q106 q2377 np_X4_parseInteger (zr_ok rfl rfl) rfl rfl (Nat.le_of_ble_eq_true rfl) (⟨Nat.le_of_ble_eq_true rfl, Nat.le_of_ble_eq_true rfl⟩) dX4_parseVehicle_41 ?_
    refine z_istore_n (i := 2) C dX4_parseVehicle_44 rfl (Nat.le_of_ble_eq_true rfl) rfl ?_
    refine z_aload_n (i := 0) C dX4_parseVehicle_45 rfl rfl ?_
    refine z_bipush (v := 100) C dX4_parseVehicle_46 (by decide) ?_
    refine z_sipush (v := 5000) C dX4_parseVehicle_48 (by decide) ?_
    refine z_callVe C (tw_obj) rfl (ct_X4_parseInteger D B (100) (5000) n hn5 hte (zpV3 te n st c).2 (zpI_le (c := (zpV2 te n st c).2) (zpI_le (c := (zpV1 te n st c)) (zad_le (c := zrq _ 3 c) hc)))) q2374 q2376 qs78 q106 q2377 np_X4_parseInteger (zr_ok rfl rfl) rfl rfl (Nat.le_of_ble_eq_true rfl) (⟨Nat.le_of_ble_eq_true rfl, Nat.le_of_ble_eq_true rfl⟩) dX4_parseVehicle_51 ?_
    refine z_istore_n (i := 3) C dX4_parseVehicle_54 rfl (Nat.le_of_ble_eq_true rfl) rfl ?_
    refine z_aload_n (i := 0) C dX4_parseVehicle_55 rfl rfl ?_
    refine tg_errorCode C q1881 dX4_parseVehicle_56 ?_
    refine z_if_ne (tgt := 71) C dX4_parseVehicle_59 (by decide) (fun c_59 => ?_) (fun c_59 => ?_)
    · exact z_return C rfl dX4_parseVehicle_71 (⟨rfl, (congrArg (fun c9 : (Nat → Int32) × zC => (tw b t c9.1 bk sv iz th di re si pa fo te (nI n) (nI (zed te n c9.2.1)) (nI c9.2.1) (nI (zkd te n c9.2.1)) (nI (zleN te n c9.2.1)) (znmN te n c9.2.1) c9.2.2.1 c9.2.2.2 (zwoN te n c9.2.1))) (show zpV te n st c = (st, (zpV4 te n st c).2) from by unfold zpV; rw [if_neg (show ¬ (zpV4 te n st c).2.2.1 = 0 from c_59)])).symm⟩) (Nat.le_of_ble_eq_true rfl) (Nat.le_of_ble_eq_true rfl)
    · have a3 := (zpI_e (c := (zpV3 te n st c).2) c_59).1
      have a2 := (zpI_e (c := (zpV2 te n st c).2) a3).1
      have a1 := (zpI_e (c := zpV1 te n st c) a2).1
      have h9 : st 6 < 4 := zb_ne.mp (zrq_e (by decide) (zad_e a1)).2.1
      rw [h8] at h9
      have hlt : n8 < 4 := (nI_ltI (b := 4) (by omega) (by decide)).mp h9
      refine z_aload_n (i := 0) C dX4_parseVehicle_62 rfl rfl ?_
      refine z_iload_n (i := 1) C dX4_parseVehicle_63 rfl rfl ?_
      refine z_iload_n (i := 2) C dX4_parseVehicle_64 rfl rfl ?_
      refine z_iload_n (i := 3) C dX4_parseVehicle_65 rfl rfl ?_
      refine z_callVe C (tw_obj) rfl (ct_X4_appendVehicle D B _ _ _ n8 h8 hlt) q1964 q1966 qs27 q106 q1967 np_X4_appendVehicle (zr_ok rfl rfl) rfl rfl (Nat.le_of_ble_eq_true rfl) (⟨Nat.le_of_ble_eq_true rfl, Nat.le_of_ble_eq_true rfl⟩) dX4_parseVehicle_66 ?_
      refine z_istore C dX4_parseVehicle_69 (Nat.le_of_ble_eq_true rfl) rfl ?_
      exact z_return C rfl dX4_parseVehicle_71 (⟨rfl, (congrArg (fun c9 : (Nat → Int32) × zC => (tw b t c9.1 bk sv iz th di re si pa fo te (nI n) (nI (zed te n c9.2.1)) (nI c9.2.1) (nI (zkd te n c9.2.1)) (nI (zleN te n c9.2.1)) (znmN te n c9.2.1) c9.2.2.1 c9.2.2.2 (zwoN te n c9.2.1))) (show zpV te n st c = (zaV st n8 (zpV2 te n st c).1 (zpV3 te n st c).1 (zpV4 te n st c).1, (zpV4 te n st c).2) from by unfold zpV; rw [if_pos (show (zpV4 te n st c).2.2.1 = 0 from c_59), zct_of h8 (by omega)])).symm⟩) (Nat.le_of_ble_eq_true rfl) (Nat.le_of_ble_eq_true rfl)
set_option maxHeartbeats 4000000 in
set_option maxRecDepth 100000 in
theorem ct_X4_parseSource (D : zG) (B : Nat) {b : zH} {t : tA} {st : Nat → Int32} {bk : Nat → Int32} {sv : Nat → Int32} {iz : Nat → Int32} {th : Int32} {di : Nat → Int32} {re : Nat → Int32} {si : Nat → Int32} {pa : Nat → Int32} {fo : Nat → Int64} {te : Nat → Int32}  (n : Nat) (hn5 : n ≤ 500) (hte : ∀ j, j < n → ¬ te j = -1) (c : zC) (hc : c.1 ≤ n) (n8 : Nat) (h8 : st 7 = nI n8) (h88 : n8 ≤ 6) : Ct D B yX4_parseSource (ws_ yX4_parseSource cX4_parseSource 10 none) (zr 6) [.ref (t.1 0)] (tw b t st bk sv iz th di re si pa fo te (nI n) (nI (zed te n c.1)) (nI c.1) (nI (zkd te n c.1)) (nI (zleN te n c.1)) (znmN te n c.1) c.2.1 c.2.2 (zwoN te n c.1)) (zpe none (tw b t (zpS te n st c).1 bk sv iz th di re si pa fo te (nI n) (nI (zed te n (zpS te n st c).2.1)) (nI (zpS te n st c).2.1) (nI (zkd te n (zpS te n st c).2.1)) (nI (zleN te n (zpS te n st c).2.1)) (znmN te n (zpS te n st c).2.1) (zpS te n st c).2.2.1 (zpS te n st c).2.2.2 (zwoN te n (zpS te n st c).2.1))) zno := by
  refine ct_intro (by decide +kernel) (Nat.le_of_ble_eq_true rfl) ?_
  intro X C
  refine z_aload_n (i := 0) C dX4_parseSource_0 rfl rfl ?_
  refine z_aload_n (i := 0) C dX4_parseSource_1 rfl rfl ?_
  refine tg_state C q1864 dX4_parseSource_2 ?_
  refine z_bipush (v := 7) C dX4_parseSource_5 (by decide) ?_
  refine tl_state C (⟨(rfl : (7 : Int32) = nI 7), by decide⟩) dX4_parseSource_7 ?_
  refine z_bipush (v := 6) C dX4_parseSource_8 (by decide) ?_
  refine z_icmp_ge (tgt := 17) C dX4_parseSource_10 (by decide) (fun c_10 => ?_) (fun c_10 => ?_)
  · refine z_iconst (v := 0) C dX4_parseSource_17 (by decide) ?_
    refine z_seti (y := zb (st 7 < 6)) (zb_f (Int32.not_lt.mpr c_10)).symm ?_
    refine z_iconst (v := 3) C dX4_parseSource_18 (by decide) ?_
    refine z_callVe C (tw_obj) rfl (ct_X4_require D B _ _ n c) q2366 q2368 qs76 q106 q2369 np_X4_require (zr_ok rfl rfl) rfl rfl (Nat.le_of_ble_eq_true rfl) (⟨Nat.le_of_ble_eq_true rfl, Nat.le_of_ble_eq_true rfl⟩) dX4_parseSource_19 ?_
    refine z_aload_n (i := 0) C dX4_parseSource_22 rfl rfl ?_
    refine z_callVe C (tw_obj) rfl (ct_X4_advance D B n hn5 hte (zrq _ 3 c) (hc)) q2370 q2372 qs77 q106 q2373 np_X4_advance (zr_ok rfl rfl) rfl rfl (Nat.le_of_ble_eq_true rfl) (⟨Nat.le_of_ble_eq_true rfl, Nat.le_of_ble_eq_true rfl⟩) dX4_parseSource_23 ?_
    refine z_aload_n (i := 0) C dX4_parseSource_26 rfl rfl ?_
    refine z_iconst (v := 0) C dX4_parseSource_27 (by decide) ?_
    refine z_aload_n (i := 0) C dX4_parseSource_28 rfl rfl ?_
    refine tg_state C q1864 dX4_parseSource_29 ?_
    refine z_bipush (v := 6) C dX4_parseSource_32 (by decide) ?_
    refine tl_state C (⟨(rfl : (6 : Int32) = nI 6), by decide⟩) dX4_parseSource_34 ?_
    refine z_iconst (v := 1) C dX4_parseSource_35 (by decide) ?_
    refine z_isub C dX4_parseSource_36 ?_
    refine z_callVe C (tw_obj) rfl (ct_X4_parseNumber D B (0) (st 6 - 1) n hn5 hte (zpS1 te n st c) (zad_le (c := zrq _ 3 c) hc)) q2378 q2380 qs79 q106 q2381 np_X4_parseNumber (zr_ok rfl rfl) rfl rfl (Nat.le_of_ble_eq_true rfl) (⟨Nat.le_of_ble_eq_true rfl, Nat.le_of_ble_eq_true rfl⟩) dX4_parseSource_37 ?_
    refine z_istore_n (i := 1) C dX4_parseSource_40 rfl (Nat.le_of_ble_eq_true rfl) rfl ?_
    refine z_aload_n (i := 0) C dX4_parseSource_41 rfl rfl ?_
    refine z_sipush (v := (-1000)) C dX4_parseSource_42 (by decide) ?_
    refine z_sipush (v := 1000) C dX4_parseSource_45 (by decide) ?_
    refine z_callVe C (tw_obj) rfl (ct_X4_parseInteger D B (-1000) (1000) n hn5 hte (zpS2 te n st c).2 (zpN_le (c := (zpS1 te n st c)) (zad_le (c := zrq _ 3 c) hc))) q2374 q2376 qs78 q106 q2377 np_X4_parseInteger (zr_ok rfl rfl) rfl rfl (Nat.le_of_ble_eq_true rfl) (⟨Nat.le_of_ble_eq_true rfl, Nat.le_of_ble_eq_true rfl⟩) dX4_parseSource_48 ?_
    refine z_istore_n (i := 2) C dX4_parseSource_51 rfl (Nat.le_of_ble_eq_true rfl) rfl ?_
    refine z_aload_n (i := 0) C dX4_parseSource_52 rfl rfl ?_
    refine z_iconst (v := 0) C dX4_parseSource_53 (by decide) ?_
    refine z_sipush (v := 500) C dX4_parseSource_54 (by decide) ?_
    refine z_callVe C (tw_obj) rfl (ct_X4_parseNumber D B (0) (500) n hn5 hte (zpS3 te n st c).2 (zpI_le (c := (zpS2 te n st c).2) (zpN_le (c := (zpS1 te n st c)) (zad_le (c := zrq _ 3 c) hc)))) q2378 q2380 qs79 q106 q2381 np_X4_parseNumber (zr_ok rfl rfl) rfl rfl (Nat.le_of_ble_eq_true rfl) (⟨Nat.le_of_ble_eq_true rfl, Nat.le_of_ble_eq_true rfl⟩) dX4_parseSource_57 ?_
    refine z_istore_n (i := 3) C dX4_parseSource_60 rfl (Nat.le_of_ble_eq_true rfl) rfl ?_
    refine z_aload_n (i := 0) C dX4_parseSource_61 rfl rfl ?_
    refine z_iconst (v := 1) C dX4_parseSource_62 (by decide) ?_
    refine z_bipush (v := 10) C dX4_parseSource_63 (by decide) ?_
    refine z_callVe C (tw_obj) rfl (ct_X4_parseNumber D B (1) (10) n hn5 hte (zpS4 te n st c).2 (zpN_le (c := (zpS3 te n st c).2) (zpI_le (c := (zpS2 te n st c).2) (zpN_le (c := (zpS1 te n st c)) (zad_le (c := zrq _ 3 c) hc))))) q2378 q2380 qs79 q106 q2381 np_X4_parseNumber (zr_ok rfl rfl) rfl rfl (Nat.le_of_ble_eq_true rfl) (⟨Nat.le_of_ble_eq_true rfl, Nat.le_of_ble_eq_true rfl⟩) dX4_parseSource_65 ?_
    refine z_istore C dX4_parseSource_68 (Nat.le_of_ble_eq_true rfl) rfl ?_
    refine z_aload_n (i := 0) C dX4_parseSource_70 rfl rfl ?_
    refine tg_errorCode C q1881 dX4_parseSource_71 ?_
    refine z_if_ne (tgt := 89) C dX4_parseSource_74 (by decide) (fun c_74 => ?_) (fun c_74 => ?_)
    · obtain ⟨k9, hk9⟩ : ∃ k9, k9 = 0 := ⟨_, rfl⟩
      obtain ⟨S0, hS0⟩ : ∃ S0, S0 = st := ⟨_, rfl⟩
      have h06 : k9 < 6 := by omega
      have h0c : (zpS5 te n st c).2.2.1 = 0 → S0 (28 + 21 * k9 + 4) = nI 0 := fun e => absurd e c_74
      refine z_iconst (v := 0) C dX4_parseSource_89 (by decide) ?_
      refine z_seti (y := nI k9) (by rw [hk9]; first | done | rfl) ?_
      refine z_heap (G' := (tw b t (zpX te n k9 S0 (zpS5 te n st c).2 0).1 bk sv iz th di re si pa fo te (nI n) (nI (zed te n (zpX te n k9 S0 (zpS5 te n st c).2 0).2.1.1)) (nI (zpX te n k9 S0 (zpS5 te n st c).2 0).2.1.1) (nI (zkd te n (zpX te n k9 S0 (zpS5 te n st c).2 0).2.1.1)) (nI (zleN te n (zpX te n k9 S0 (zpS5 te n st c).2 0).2.1.1)) (znmN te n (zpX te n k9 S0 (zpS5 te n st c).2 0).2.1.1) (zpX te n k9 S0 (zpS5 te n st c).2 0).2.1.2.1 (zpX te n k9 S0 (zpS5 te n st c).2 0).2.1.2.2 (zwoN te n (zpX te n k9 S0 (zpS5 te n st c).2 0).2.1.1))) (by rw [hS0]; rfl) ?_
      refine z_istore C dX4_parseSource_90 (Nat.le_of_ble_eq_true rfl) rfl ?_
      refine z_iconst (v := 1) C dX4_parseSource_92 (by decide) ?_
      refine z_seti (y := zb ((zpX te n k9 S0 (zpS5 te n st c).2 0).2.2 = true)) (zb_t rfl).symm ?_
      refine z_istore C dX4_parseSource_93 (Nat.le_of_ble_eq_true rfl) rfl ?_
      refine z_iconst (v := 0) C dX4_parseSource_95 (by decide) ?_
      refine z_istore C dX4_parseSource_96 (Nat.le_of_ble_eq_true rfl) rfl ?_
      have lp98 : ∀ (μ : Nat) (i : Nat) (h1 : i ≤ 16), 16 - i < μ → Z X 98 [some (.ref (t.1 0)), none, none, none, none, some (.int (nI k9)), some (.int (zb ((zpX te n k9 S0 (zpS5 te n st c).2 i).2.2 = true))), some (.int (nI i)), none, none] [] (tw b t (zpX te n k9 S0 (zpS5 te n st c).2 i).1 bk sv iz th di re si pa fo te (nI n) (nI (zed te n (zpX te n k9 S0 (zpS5 te n st c).2 i).2.1.1)) (nI (zpX te n k9 S0 (zpS5 te n st c).2 i).2.1.1) (nI (zkd te n (zpX te n k9 S0 (zpS5 te n st c).2 i).2.1.1)) (nI (zleN te n (zpX te n k9 S0 (zpS5 te n st c).2 i).2.1.1)) (znmN te n (zpX te n k9 S0 (zpS5 te n st c).2 i).2.1.1) (zpX te n k9 S0 (zpS5 te n st c).2 i).2.1.2.1 (zpX te n k9 S0 (zpS5 te n st c).2 i).2.1.2.2 (zwoN te n (zpX te n k9 S0 (zpS5 te n st c).2 i).2.1.1)) 0 0 := by
        intro μ
        induction μ with
        | zero => intro i h1 hμ; exact absurd hμ (Nat.not_lt_zero _)
        | succ μ ih98 =>
          intro i h1 hμ
          refine z_iload C dX4_parseSource_98 rfl ?_
          refine z_bipush (v := 16) C dX4_parseSource_100 (by decide) ?_
          refine z_icmp_ge (tgt := 173) C dX4_parseSource_102 (by decide) (fun c_102 => ?_) (fun c_102 => ?_)
          · have hend_102 : i = 16 := by have := zge (b := 16) c_102 (by omega) (by omega); omega
            exact z_return C rfl dX4_parseSource_173 (⟨rfl, (congrArg (fun c9 : (Nat → Int32) × zC => (tw b t c9.1 bk sv iz th di re si pa fo te (nI n) (nI (zed te n c9.2.1)) (nI c9.2.1) (nI (zkd te n c9.2.1)) (nI (zleN te n c9.2.1)) (znmN te n c9.2.1) c9.2.2.1 c9.2.2.2 (zwoN te n c9.2.1))) (show zpS te n st c = ((zpX te n k9 S0 (zpS5 te n st c).2 i).1, (zpX te n k9 S0 (zpS5 te n st c).2 i).2.1) from by unfold zpS; rw [if_neg (show ¬ (zpS5 te n st c).2.2.1 = 0 from c_74), hk9, hS0]; rw [hend_102])).symm⟩) (Nat.le_of_ble_eq_true rfl) (Nat.le_of_ble_eq_true rfl)
          · have hlt_102 : i < 16 := znge (b := 16) c_102 (by omega) (by omega)
            refine z_iload C dX4_parseSource_105 rfl ?_
            refine z_if_eq (tgt := 173) C dX4_parseSource_107 (by decide) (fun c_107 => ?_) (fun c_107 => ?_)
            · have hdone : ¬ (zpX te n k9 S0 (zpS5 te n st c).2 i).2.2 = true := zb_eq.mp c_107
              exact z_return C rfl dX4_parseSource_173 (⟨rfl, (congrArg (fun c9 : (Nat → Int32) × zC => (tw b t c9.1 bk sv iz th di re si pa fo te (nI n) (nI (zed te n c9.2.1)) (nI c9.2.1) (nI (zkd te n c9.2.1)) (nI (zleN te n c9.2.1)) (znmN te n c9.2.1) c9.2.2.1 c9.2.2.2 (zwoN te n c9.2.1))) (show zpS te n st c = ((zpX te n k9 S0 (zpS5 te n st c).2 i).1, (zpX te n k9 S0 (zpS5 te n st c).2 i).2.1) from by rw [← zpX_end hdone (16 - i), show i + (16 - i) = 16 from by omega]; unfold zpS; rw [if_neg (show ¬ (zpS5 te n st c).2.2.1 = 0 from c_74), hk9, hS0])).symm⟩) (Nat.le_of_ble_eq_true rfl) (Nat.le_of_ble_eq_true rfl)
            · have hmore : (zpX te n k9 S0 (zpS5 te n st c).2 i).2.2 = true := zb_ne.mp c_107
              have e : (zpX te n k9 S0 (zpS5 te n st c).2 (i + 1)) = (if (zpI te n (-99) 99 (zpX te n k9 S0 (zpS5 te n st c).2 i).2.1).2.2.1 = 0 then zaX (zpX te n k9 S0 (zpS5 te n st c).2 i).1 k9 i (zpI te n (-99) 99 (zpX te n k9 S0 (zpS5 te n st c).2 i).2.1).1 else (zpX te n k9 S0 (zpS5 te n st c).2 i).1, (zpI te n (-99) 99 (zpX te n k9 S0 (zpS5 te n st c).2 i).2.1).2, decide ((zpI te n (-99) 99 (zpX te n k9 S0 (zpS5 te n st c).2 i).2.1).2.2.1 = 0 ∧ (nI (zkd te n (zpI te n (-99) 99 (zpX te n k9 S0 (zpS5 te n st c).2 i).2.1).2.1) = 3 ∨ nI (zkd te n (zpI te n (-99) 99 (zpX te n k9 S0 (zpS5 te n st c).2 i).2.1).2.1) = 5))) := if_pos hmore
              refine z_aload_n (i := 0) C dX4_parseSource_110 rfl rfl ?_
              refine z_bipush (v := (-99)) C dX4_parseSource_111 (by decide) ?_
              refine z_bipush (v := 99) C dX4_parseSource_113 (by decide) ?_
              refine z_callVe C (tw_obj) rfl (ct_X4_parseInteger D B (-99) 99 n hn5 hte (zpX te n k9 S0 (zpS5 te n st c).2 i).2.1 (zpX_le (zpN_le (c := (zpS4 te n st c).2) (zpN_le (c := (zpS3 te n st c).2) (zpI_le (c := (zpS2 te n st c).2) (zpN_le (c := (zpS1 te n st c)) (zad_le (c := zrq _ 3 c) hc))))) i)) q2374 q2376 qs78 q106 q2377 np_X4_parseInteger (zr_ok rfl rfl) rfl rfl (Nat.le_of_ble_eq_true rfl) (⟨Nat.le_of_ble_eq_true rfl, Nat.le_of_ble_eq_true rfl⟩) dX4_parseSource_115 ?_
              refine z_istore C dX4_parseSource_118 (Nat.le_of_ble_eq_true rfl) rfl ?_
              refine z_aload_n (i := 0) C dX4_parseSource_120 rfl rfl ?_
              refine tg_errorCode C q1881 dX4_parseSource_121 ?_
              refine z_if_ne (tgt := 137) C dX4_parseSource_124 (by decide) (fun c_124 => ?_) (fun c_124 => ?_)
              · refine z_aload_n (i := 0) C dX4_parseSource_137 rfl rfl ?_
                refine tg_errorCode C q1881 dX4_parseSource_138 ?_
                refine z_if_ne (tgt := 164) C dX4_parseSource_141 (by decide) (fun c_141 => ?_) (fun c_141 => ?_)
                · refine z_iconst (v := 0) C dX4_parseSource_164 (by decide) ?_
                  refine z_seti (y := zb ((zpX te n k9 S0 (zpS5 te n st c).2 (i + 1)).2.2 = true)) (zb_f (by rw [e]; exact fun g => absurd (of_decide_eq_true g) (fun q => c_141 q.1))).symm ?_
                  refine z_istore C dX4_parseSource_165 (Nat.le_of_ble_eq_true rfl) rfl ?_
                  refine z_iinc (v := nI (i + 1)) C dX4_parseSource_167 rfl (ziinc i) (Nat.le_of_ble_eq_true rfl) rfl ?_
                  refine z_heap (G' := (tw b t (zpX te n k9 S0 (zpS5 te n st c).2 (i + 1)).1 bk sv iz th di re si pa fo te (nI n) (nI (zed te n (zpX te n k9 S0 (zpS5 te n st c).2 (i + 1)).2.1.1)) (nI (zpX te n k9 S0 (zpS5 te n st c).2 (i + 1)).2.1.1) (nI (zkd te n (zpX te n k9 S0 (zpS5 te n st c).2 (i + 1)).2.1.1)) (nI (zleN te n (zpX te n k9 S0 (zpS5 te n st c).2 (i + 1)).2.1.1)) (znmN te n (zpX te n k9 S0 (zpS5 te n st c).2 (i + 1)).2.1.1) (zpX te n k9 S0 (zpS5 te n st c).2 (i + 1)).2.1.2.1 (zpX te n k9 S0 (zpS5 te n st c).2 (i + 1)).2.1.2.2 (zwoN te n (zpX te n k9 S0 (zpS5 te n st c).2 (i + 1)).2.1.1))) (by rw [e]; simp only [if_neg c_124]) ?_
                  refine z_goto (tgt := 98) C dX4_parseSource_170 (by decide) ?_
                  exact z_convG (ih98 (i + 1) (by omega) (by omega)) (And.intro (rfl) (And.intro (rfl) (And.intro (rfl) (And.intro (rfl) trivial)))) (Nat.le_of_ble_eq_true rfl) (Nat.le_of_ble_eq_true rfl)
                · exact absurd c_141 c_124
              · refine z_aload_n (i := 0) C dX4_parseSource_127 rfl rfl ?_
                refine z_iload C dX4_parseSource_128 rfl ?_
                refine z_iload C dX4_parseSource_130 rfl ?_
                refine z_callVe C (tw_obj) rfl (ct_X4_appendValue D B k9 _ h06 i (zpX_ct h0c i hmore (zpI_e c_124).1) (by omega)) q1989 q1991 qs30 q106 q1992 np_X4_appendValue (zr_ok rfl rfl) rfl rfl (Nat.le_of_ble_eq_true rfl) (⟨Nat.le_of_ble_eq_true rfl, Nat.le_of_ble_eq_true rfl⟩) dX4_parseSource_132 ?_
                refine z_istore C dX4_parseSource_135 (Nat.le_of_ble_eq_true rfl) rfl ?_
                refine z_aload_n (i := 0) C dX4_parseSource_137 rfl rfl ?_
                refine tg_errorCode C q1881 dX4_parseSource_138 ?_
                refine z_if_ne (tgt := 164) C dX4_parseSource_141 (by decide) (fun c_141 => ?_) (fun c_141 => ?_)
                · exact absurd c_124 c_141
                · refine z_aload_n (i := 0) C dX4_parseSource_144 rfl rfl ?_
                  refine tg_token C q1878 dX4_parseSource_145 ?_
                  refine z_iconst (v := 3) C dX4_parseSource_148 (by decide) ?_
                  refine z_icmp_eq (tgt := 160) C dX4_parseSource_149 (by decide) (fun c_149 => ?_) (fun c_149 => ?_)
                  · refine z_iconst (v := 1) C dX4_parseSource_160 (by decide) ?_
                    refine z_seti (y := zb ((zpX te n k9 S0 (zpS5 te n st c).2 (i + 1)).2.2 = true)) (zb_t (by rw [e]; exact decide_eq_true ⟨c_141, Or.inl c_149⟩)).symm ?_
                    refine z_goto (tgt := 165) C dX4_parseSource_161 (by decide) ?_
                    refine z_istore C dX4_parseSource_165 (Nat.le_of_ble_eq_true rfl) rfl ?_
                    refine z_iinc (v := nI (i + 1)) C dX4_parseSource_167 rfl (ziinc i) (Nat.le_of_ble_eq_true rfl) rfl ?_
                    refine z_heap (G' := (tw b t (zpX te n k9 S0 (zpS5 te n st c).2 (i + 1)).1 bk sv iz th di re si pa fo te (nI n) (nI (zed te n (zpX te n k9 S0 (zpS5 te n st c).2 (i + 1)).2.1.1)) (nI (zpX te n k9 S0 (zpS5 te n st c).2 (i + 1)).2.1.1) (nI (zkd te n (zpX te n k9 S0 (zpS5 te n st c).2 (i + 1)).2.1.1)) (nI (zleN te n (zpX te n k9 S0 (zpS5 te n st c).2 (i + 1)).2.1.1)) (znmN te n (zpX te n k9 S0 (zpS5 te n st c).2 (i + 1)).2.1.1) (zpX te n k9 S0 (zpS5 te n st c).2 (i + 1)).2.1.2.1 (zpX te n k9 S0 (zpS5 te n st c).2 (i + 1)).2.1.2.2 (zwoN te n (zpX te n k9 S0 (zpS5 te n st c).2 (i + 1)).2.1.1))) (by rw [e]; simp only [if_pos c_124]; rfl) ?_
                    refine z_goto (tgt := 98) C dX4_parseSource_170 (by decide) ?_
                    exact z_convG (ih98 (i + 1) (by omega) (by omega)) (And.intro (rfl) (And.intro (rfl) (And.intro (rfl) (And.intro (rfl) trivial)))) (Nat.le_of_ble_eq_true rfl) (Nat.le_of_ble_eq_true rfl)
                  · refine z_aload_n (i := 0) C dX4_parseSource_152 rfl rfl ?_
                    refine tg_token C q1878 dX4_parseSource_153 ?_
                    refine z_iconst (v := 5) C dX4_parseSource_156 (by decide) ?_
                    refine z_icmp_ne (tgt := 164) C dX4_parseSource_157 (by decide) (fun c_157 => ?_) (fun c_157 => ?_)
                    · refine z_iconst (v := 0) C dX4_parseSource_164 (by decide) ?_
                      refine z_seti (y := zb ((zpX te n k9 S0 (zpS5 te n st c).2 (i + 1)).2.2 = true)) (zb_f (by rw [e]; exact fun g => absurd (of_decide_eq_true g) (fun q => (q.2.elim c_149 c_157)))).symm ?_
                      refine z_istore C dX4_parseSource_165 (Nat.le_of_ble_eq_true rfl) rfl ?_
                      refine z_iinc (v := nI (i + 1)) C dX4_parseSource_167 rfl (ziinc i) (Nat.le_of_ble_eq_true rfl) rfl ?_
                      refine z_heap (G' := (tw b t (zpX te n k9 S0 (zpS5 te n st c).2 (i + 1)).1 bk sv iz th di re si pa fo te (nI n) (nI (zed te n (zpX te n k9 S0 (zpS5 te n st c).2 (i + 1)).2.1.1)) (nI (zpX te n k9 S0 (zpS5 te n st c).2 (i + 1)).2.1.1) (nI (zkd te n (zpX te n k9 S0 (zpS5 te n st c).2 (i + 1)).2.1.1)) (nI (zleN te n (zpX te n k9 S0 (zpS5 te n st c).2 (i + 1)).2.1.1)) (znmN te n (zpX te n k9 S0 (zpS5 te n st c).2 (i + 1)).2.1.1) (zpX te n k9 S0 (zpS5 te n st c).2 (i + 1)).2.1.2.1 (zpX te n k9 S0 (zpS5 te n st c).2 (i + 1)).2.1.2.2 (zwoN te n (zpX te n k9 S0 (zpS5 te n st c).2 (i + 1)).2.1.1))) (by rw [e]; simp only [if_pos c_124]; rfl) ?_
                      refine z_goto (tgt := 98) C dX4_parseSource_170 (by decide) ?_
                      exact z_convG (ih98 (i + 1) (by omega) (by omega)) (And.intro (rfl) (And.intro (rfl) (And.intro (rfl) (And.intro (rfl) trivial)))) (Nat.le_of_ble_eq_true rfl) (Nat.le_of_ble_eq_true rfl)
                    · refine z_iconst (v := 1) C dX4_parseSource_160 (by decide) ?_
                      refine z_seti (y := zb ((zpX te n k9 S0 (zpS5 te n st c).2 (i + 1)).2.2 = true)) (zb_t (by rw [e]; exact decide_eq_true ⟨c_141, Or.inr c_157⟩)).symm ?_
                      refine z_goto (tgt := 165) C dX4_parseSource_161 (by decide) ?_
                      refine z_istore C dX4_parseSource_165 (Nat.le_of_ble_eq_true rfl) rfl ?_
                      refine z_iinc (v := nI (i + 1)) C dX4_parseSource_167 rfl (ziinc i) (Nat.le_of_ble_eq_true rfl) rfl ?_
                      refine z_heap (G' := (tw b t (zpX te n k9 S0 (zpS5 te n st c).2 (i + 1)).1 bk sv iz th di re si pa fo te (nI n) (nI (zed te n (zpX te n k9 S0 (zpS5 te n st c).2 (i + 1)).2.1.1)) (nI (zpX te n k9 S0 (zpS5 te n st c).2 (i + 1)).2.1.1) (nI (zkd te n (zpX te n k9 S0 (zpS5 te n st c).2 (i + 1)).2.1.1)) (nI (zleN te n (zpX te n k9 S0 (zpS5 te n st c).2 (i + 1)).2.1.1)) (znmN te n (zpX te n k9 S0 (zpS5 te n st c).2 (i + 1)).2.1.1) (zpX te n k9 S0 (zpS5 te n st c).2 (i + 1)).2.1.2.1 (zpX te n k9 S0 (zpS5 te n st c).2 (i + 1)).2.1.2.2 (zwoN te n (zpX te n k9 S0 (zpS5 te n st c).2 (i + 1)).2.1.1))) (by rw [e]; simp only [if_pos c_124]; rfl) ?_
                      refine z_goto (tgt := 98) C dX4_parseSource_170 (by decide) ?_
                      exact z_convG (ih98 (i + 1) (by omega) (by omega)) (And.intro (rfl) (And.intro (rfl) (And.intro (rfl) (And.intro (rfl) trivial)))) (Nat.le_of_ble_eq_true rfl) (Nat.le_of_ble_eq_true rfl)
      exact z_convG (lp98 17 0 (by omega) (by omega)) (And.intro (rfl) (And.intro (rfl) (And.intro (rfl) (And.intro (rfl) trivial)))) (Nat.le_of_ble_eq_true rfl) (Nat.le_of_ble_eq_true rfl)
    · have a4 := (zpN_e (c := (zpS4 te n st c).2) c_74).1
      have a3 := (zpN_e (c := (zpS3 te n st c).2) a4).1
      have a2 := (zpI_e (c := (zpS2 te n st c).2) a3).1
      have a1 := (zpN_e (c := zpS1 te n st c) a2).1
      have h9 : st 7 < 6 := zb_ne.mp (zrq_e (by decide) (zad_e a1)).2.1
      rw [h8] at h9
      have hlt : n8 < 6 := (nI_ltI (b := 6) (by omega) (by decide)).mp h9
      obtain ⟨k9, hk9⟩ : ∃ k9, k9 = n8 := ⟨_, rfl⟩
      obtain ⟨S0, hS0⟩ : ∃ S0, S0 = zaS st n8 (zpS2 te n st c).1 (zpS3 te n st c).1 (zpS4 te n st c).1 (zpS5 te n st c).1 := ⟨_, rfl⟩
      have h06 : k9 < 6 := by omega
      have h0c : (zpS5 te n st c).2.2.1 = 0 → S0 (28 + 21 * k9 + 4) = nI 0 := fun _ => by rw [hS0, hk9]; exact (if_neg (by omega)).trans (if_pos rfl)
      refine z_aload_n (i := 0) C dX4_parseSource_77 rfl rfl ?_
      refine z_iload_n (i := 1) C dX4_parseSource_78 rfl rfl ?_
      refine z_iload_n (i := 2) C dX4_parseSource_79 rfl rfl ?_
      refine z_iload_n (i := 3) C dX4_parseSource_80 rfl rfl ?_
      refine z_iload C dX4_parseSource_81 rfl ?_
      refine z_callVe C (tw_obj) rfl (ct_X4_appendSource D B _ _ _ _ n8 h8 hlt) q1985 q1987 qs29 q106 q1988 np_X4_appendSource (zr_ok rfl rfl) rfl rfl (Nat.le_of_ble_eq_true rfl) (⟨Nat.le_of_ble_eq_true rfl, Nat.le_of_ble_eq_true rfl⟩) dX4_parseSource_83 ?_
      refine z_goto (tgt := 90) C dX4_parseSource_86 (by decide) ?_
      refine z_seti (y := nI k9) (by rw [hk9]; first | done | rfl) ?_
      refine z_heap (G' := (tw b t (zpX te n k9 S0 (zpS5 te n st c).2 0).1 bk sv iz th di re si pa fo te (nI n) (nI (zed te n (zpX te n k9 S0 (zpS5 te n st c).2 0).2.1.1)) (nI (zpX te n k9 S0 (zpS5 te n st c).2 0).2.1.1) (nI (zkd te n (zpX te n k9 S0 (zpS5 te n st c).2 0).2.1.1)) (nI (zleN te n (zpX te n k9 S0 (zpS5 te n st c).2 0).2.1.1)) (znmN te n (zpX te n k9 S0 (zpS5 te n st c).2 0).2.1.1) (zpX te n k9 S0 (zpS5 te n st c).2 0).2.1.2.1 (zpX te n k9 S0 (zpS5 te n st c).2 0).2.1.2.2 (zwoN te n (zpX te n k9 S0 (zpS5 te n st c).2 0).2.1.1))) (by rw [hS0]; rfl) ?_
      refine z_istore C dX4_parseSource_90 (Nat.le_of_ble_eq_true rfl) rfl ?_
      refine z_iconst (v := 1) C dX4_parseSource_92 (by decide) ?_
      refine z_seti (y := zb ((zpX te n k9 S0 (zpS5 te n st c).2 0).2.2 = true)) (zb_t rfl).symm ?_
      refine z_istore C dX4_parseSource_93 (Nat.le_of_ble_eq_true rfl) rfl ?_
      refine z_iconst (v := 0) C dX4_parseSource_95 (by decide) ?_
      refine z_istore C dX4_parseSource_96 (Nat.le_of_ble_eq_true rfl) rfl ?_
      have lp98 : ∀ (μ : Nat) (i : Nat) (h1 : i ≤ 16), 16 - i < μ → Z X 98 [some (.ref (t.1 0)), none, none, none, none, some (.int (nI k9)), some (.int (zb ((zpX te n k9 S0 (zpS5 te n st c).2 i).2.2 = true))), some (.int (nI i)), none, none] [] (tw b t (zpX te n k9 S0 (zpS5 te n st c).2 i).1 bk sv iz th di re si pa fo te (nI n) (nI (zed te n (zpX te n k9 S0 (zpS5 te n st c).2 i).2.1.1)) (nI (zpX te n k9 S0 (zpS5 te n st c).2 i).2.1.1) (nI (zkd te n (zpX te n k9 S0 (zpS5 te n st c).2 i).2.1.1)) (nI (zleN te n (zpX te n k9 S0 (zpS5 te n st c).2 i).2.1.1)) (znmN te n (zpX te n k9 S0 (zpS5 te n st c).2 i).2.1.1) (zpX te n k9 S0 (zpS5 te n st c).2 i).2.1.2.1 (zpX te n k9 S0 (zpS5 te n st c).2 i).2.1.2.2 (zwoN te n (zpX te n k9 S0 (zpS5 te n st c).2 i).2.1.1)) 0 0 := by
        intro μ
        induction μ with
        | zero => intro i h1 hμ; exact absurd hμ (Nat.not_lt_zero _)
        | succ μ ih98 =>
          intro i h1 hμ
          refine z_iload C dX4_parseSource_98 rfl ?_
          refine z_bipush (v := 16) C dX4_parseSource_100 (by decide) ?_
          refine z_icmp_ge (tgt := 173) C dX4_parseSource_102 (by decide) (fun c_102 => ?_) (fun c_102 => ?_)
          · have hend_102 : i = 16 := by have := zge (b := 16) c_102 (by omega) (by omega); omega
            exact z_return C rfl dX4_parseSource_173 (⟨rfl, (congrArg (fun c9 : (Nat → Int32) × zC => (tw b t c9.1 bk sv iz th di re si pa fo te (nI n) (nI (zed te n c9.2.1)) (nI c9.2.1) (nI (zkd te n c9.2.1)) (nI (zleN te n c9.2.1)) (znmN te n c9.2.1) c9.2.2.1 c9.2.2.2 (zwoN te n c9.2.1))) (show zpS te n st c = ((zpX te n k9 S0 (zpS5 te n st c).2 i).1, (zpX te n k9 S0 (zpS5 te n st c).2 i).2.1) from by unfold zpS; rw [if_pos (show (zpS5 te n st c).2.2.1 = 0 from c_74), zct_of h8 (by omega), hk9, hS0]; rw [hend_102])).symm⟩) (Nat.le_of_ble_eq_true rfl) (Nat.le_of_ble_eq_true rfl)
          · have hlt_102 : i < 16 := znge (b := 16) c_102 (by omega) (by omega)
            refine z_iload C dX4_parseSource_105 rfl ?_
            refine z_if_eq (tgt := 173) C dX4_parseSource_107 (by decide) (fun c_107 => ?_) (fun c_107 => ?_)
            · have hdone : ¬ (zpX te n k9 S0 (zpS5 te n st c).2 i).2.2 = true := zb_eq.mp c_107
              exact z_return C rfl dX4_parseSource_173 (⟨rfl, (congrArg (fun c9 : (Nat → Int32) × zC => (tw b t c9.1 bk sv iz th di re si pa fo te (nI n) (nI (zed te n c9.2.1)) (nI c9.2.1) (nI (zkd te n c9.2.1)) (nI (zleN te n c9.2.1)) (znmN te n c9.2.1) c9.2.2.1 c9.2.2.2 (zwoN te n c9.2.1))) (show zpS te n st c = ((zpX te n k9 S0 (zpS5 te n st c).2 i).1, (zpX te n k9 S0 (zpS5 te n st c).2 i).2.1) from by rw [← zpX_end hdone (16 - i), show i + (16 - i) = 16 from by omega]; unfold zpS; rw [if_pos (show (zpS5 te n st c).2.2.1 = 0 from c_74), zct_of h8 (by omega), hk9, hS0])).symm⟩) (Nat.le_of_ble_eq_true rfl) (Nat.le_of_ble_eq_true rfl)
            · have hmore : (zpX te n k9 S0 (zpS5 te n st c).2 i).2.2 = true := zb_ne.mp c_107
              have e : (zpX te n k9 S0 (zpS5 te n st c).2 (i + 1)) = (if (zpI te n (-99) 99 (zpX te n k9 S0 (zpS5 te n st c).2 i).2.1).2.2.1 = 0 then zaX (zpX te n k9 S0 (zpS5 te n st c).2 i).1 k9 i (zpI te n (-99) 99 (zpX te n k9 S0 (zpS5 te n st c).2 i).2.1).1 else (zpX te n k9 S0 (zpS5 te n st c).2 i).1, (zpI te n (-99) 99 (zpX te n k9 S0 (zpS5 te n st c).2 i).2.1).2, decide ((zpI te n (-99) 99 (zpX te n k9 S0 (zpS5 te n st c).2 i).2.1).2.2.1 = 0 ∧ (nI (zkd te n (zpI te n (-99) 99 (zpX te n k9 S0 (zpS5 te n st c).2 i).2.1).2.1) = 3 ∨ nI (zkd te n (zpI te n (-99) 99 (zpX te n k9 S0 (zpS5 te n st c).2 i).2.1).2.1) = 5))) := if_pos hmore
              refine z_aload_n (i := 0) C dX4_parseSource_110 rfl rfl ?_
              refine z_bipush (v := (-99)) C dX4_parseSource_111 (by decide) ?_
              refine z_bipush (v := 99) C dX4_parseSource_113 (by decide) ?_
              refine z_callVe C (tw_obj) rfl (ct_X4_parseInteger D B (-99) 99 n hn5 hte (zpX te n k9 S0 (zpS5 te n st c).2 i).2.1 (zpX_le (zpN_le (c := (zpS4 te n st c).2) (zpN_le (c := (zpS3 te n st c).2) (zpI_le (c := (zpS2 te n st c).2) (zpN_le (c := (zpS1 te n st c)) (zad_le (c := zrq _ 3 c) hc))))) i)) q2374 q2376 qs78 q106 q2377 np_X4_parseInteger (zr_ok rfl rfl) rfl rfl (Nat.le_of_ble_eq_true rfl) (⟨Nat.le_of_ble_eq_true rfl, Nat.le_of_ble_eq_true rfl⟩) dX4_parseSource_115 ?_
              refine z_istore C dX4_parseSource_118 (Nat.le_of_ble_eq_true rfl) rfl ?_
              refine z_aload_n (i := 0) C dX4_parseSource_120 rfl rfl ?_
              refine tg_errorCode C q1881 dX4_parseSource_121 ?_
              refine z_if_ne (tgt := 137) C dX4_parseSource_124 (by decide) (fun c_124 => ?_) (fun c_124 => ?_)
              · refine z_aload_n (i := 0) C dX4_parseSource_137 rfl rfl ?_
                refine tg_errorCode C q1881 dX4_parseSource_138 ?_
                refine z_if_ne (tgt := 164) C dX4_parseSource_141 (by decide) (fun c_141 => ?_) (fun c_141 => ?_)
                · refine z_iconst (v := 0) C dX4_parseSource_164 (by decide) ?_
                  refine z_seti (y := zb ((zpX te n k9 S0 (zpS5 te n st c).2 (i + 1)).2.2 = true)) (zb_f (by rw [e]; exact fun g => absurd (of_decide_eq_true g) (fun q => c_141 q.1))).symm ?_
                  refine z_istore C dX4_parseSource_165 (Nat.le_of_ble_eq_true rfl) rfl ?_
                  refine z_iinc (v := nI (i + 1)) C dX4_parseSource_167 rfl (ziinc i) (Nat.le_of_ble_eq_true rfl) rfl ?_
                  refine z_heap (G' := (tw b t (zpX te n k9 S0 (zpS5 te n st c).2 (i + 1)).1 bk sv iz th di re si pa fo te (nI n) (nI (zed te n (zpX te n k9 S0 (zpS5 te n st c).2 (i + 1)).2.1.1)) (nI (zpX te n k9 S0 (zpS5 te n st c).2 (i + 1)).2.1.1) (nI (zkd te n (zpX te n k9 S0 (zpS5 te n st c).2 (i + 1)).2.1.1)) (nI (zleN te n (zpX te n k9 S0 (zpS5 te n st c).2 (i + 1)).2.1.1)) (znmN te n (zpX te n k9 S0 (zpS5 te n st c).2 (i + 1)).2.1.1) (zpX te n k9 S0 (zpS5 te n st c).2 (i + 1)).2.1.2.1 (zpX te n k9 S0 (zpS5 te n st c).2 (i + 1)).2.1.2.2 (zwoN te n (zpX te n k9 S0 (zpS5 te n st c).2 (i + 1)).2.1.1))) (by rw [e]; simp only [if_neg c_124]) ?_
                  refine z_goto (tgt := 98) C dX4_parseSource_170 (by decide) ?_
                  exact z_convG (ih98 (i + 1) (by omega) (by omega)) (And.intro (rfl) (And.intro (rfl) (And.intro (rfl) (And.intro (rfl) trivial)))) (Nat.le_of_ble_eq_true rfl) (Nat.le_of_ble_eq_true rfl)
                · exact absurd c_141 c_124
              · refine z_aload_n (i := 0) C dX4_parseSource_127 rfl rfl ?_
                refine z_iload C dX4_parseSource_128 rfl ?_
                refine z_iload C dX4_parseSource_130 rfl ?_
                refine z_callVe C (tw_obj) rfl (ct_X4_appendValue D B k9 _ h06 i (zpX_ct h0c i hmore (zpI_e c_124).1) (by omega)) q1989 q1991 qs30 q106 q1992 np_X4_appendValue (zr_ok rfl rfl) rfl rfl (Nat.le_of_ble_eq_true rfl) (⟨Nat.le_of_ble_eq_true rfl, Nat.le_of_ble_eq_true rfl⟩) dX4_parseSource_132 ?_
                refine z_istore C dX4_parseSource_135 (Nat.le_of_ble_eq_true rfl) rfl ?_
                refine z_aload_n (i := 0) C dX4_parseSource_137 rfl rfl ?_
                refine tg_errorCode C q1881 dX4_parseSource_138 ?_
                refine z_if_ne (tgt := 164) C dX4_parseSource_141 (by decide) (fun c_141 => ?_) (fun c_141 => ?_)
                · exact absurd c_124 c_141
                · refine z_aload_n (i := 0) C dX4_parseSource_144 rfl rfl ?_
                  refine tg_token C q1878 dX4_parseSource_145 ?_
                  refine z_iconst (v := 3) C dX4_parseSource_148 (by decide) ?_
                  refine z_icmp_eq (tgt := 160) C dX4_parseSource_149 (by decide) (fun c_149 => ?_) (fun c_149 => ?_)
                  · refine z_iconst (v := 1) C dX4_parseSource_160 (by decide) ?_
                    refine z_seti (y := zb ((zpX te n k9 S0 (zpS5 te n st c).2 (i + 1)).2.2 = true)) (zb_t (by rw [e]; exact decide_eq_true ⟨c_141, Or.inl c_149⟩)).symm ?_
                    refine z_goto (tgt := 165) C dX4_parseSource_161 (by decide) ?_
                    refine z_istore C dX4_parseSource_165 (Nat.le_of_ble_eq_true rfl) rfl ?_
                    refine z_iinc (v := nI (i + 1)) C dX4_parseSource_167 rfl (ziinc i) (Nat.le_of_ble_eq_true rfl) rfl ?_
                    refine z_heap (G' := (tw b t (zpX te n k9 S0 (zpS5 te n st c).2 (i + 1)).1 bk sv iz th di re si pa fo te (nI n) (nI (zed te n (zpX te n k9 S0 (zpS5 te n st c).2 (i + 1)).2.1.1)) (nI (zpX te n k9 S0 (zpS5 te n st c).2 (i + 1)).2.1.1) (nI (zkd te n (zpX te n k9 S0 (zpS5 te n st c).2 (i + 1)).2.1.1)) (nI (zleN te n (zpX te n k9 S0 (zpS5 te n st c).2 (i + 1)).2.1.1)) (znmN te n (zpX te n k9 S0 (zpS5 te n st c).2 (i + 1)).2.1.1) (zpX te n k9 S0 (zpS5 te n st c).2 (i + 1)).2.1.2.1 (zpX te n k9 S0 (zpS5 te n st c).2 (i + 1)).2.1.2.2 (zwoN te n (zpX te n k9 S0 (zpS5 te n st c).2 (i + 1)).2.1.1))) (by rw [e]; simp only [if_pos c_124]; rfl) ?_
                    refine z_goto (tgt := 98) C dX4_parseSource_170 (by decide) ?_
                    exact z_convG (ih98 (i + 1) (by omega) (by omega)) (And.intro (rfl) (And.intro (rfl) (And.intro (rfl) (And.intro (rfl) trivial)))) (Nat.le_of_ble_eq_true rfl) (Nat.le_of_ble_eq_true rfl)
                  · refine z_aload_n (i := 0) C dX4_parseSource_152 rfl rfl ?_
                    refine tg_token C q1878 dX4_parseSource_153 ?_
                    refine z_iconst (v := 5) C dX4_parseSource_156 (by decide) ?_
                    refine z_icmp_ne (tgt := 164) C dX4_parseSource_157 (by decide) (fun c_157 => ?_) (fun c_157 => ?_)
                    · refine z_iconst (v := 0) C dX4_parseSource_164 (by decide) ?_
                      refine z_seti (y := zb ((zpX te n k9 S0 (zpS5 te n st c).2 (i + 1)).2.2 = true)) (zb_f (by rw [e]; exact fun g => absurd (of_decide_eq_true g) (fun q => (q.2.elim c_149 c_157)))).symm ?_
                      refine z_istore C dX4_parseSource_165 (Nat.le_of_ble_eq_true rfl) rfl ?_
                      refine z_iinc (v := nI (i + 1)) C dX4_parseSource_167 rfl (ziinc i) (Nat.le_of_ble_eq_true rfl) rfl ?_
                      refine z_heap (G' := (tw b t (zpX te n k9 S0 (zpS5 te n st c).2 (i + 1)).1 bk sv iz th di re si pa fo te (nI n) (nI (zed te n (zpX te n k9 S0 (zpS5 te n st c).2 (i + 1)).2.1.1)) (nI (zpX te n k9 S0 (zpS5 te n st c).2 (i + 1)).2.1.1) (nI (zkd te n (zpX te n k9 S0 (zpS5 te n st c).2 (i + 1)).2.1.1)) (nI (zleN te n (zpX te n k9 S0 (zpS5 te n st c).2 (i + 1)).2.1.1)) (znmN te n (zpX te n k9 S0 (zpS5 te n st c).2 (i + 1)).2.1.1) (zpX te n k9 S0 (zpS5 te n st c).2 (i + 1)).2.1.2.1 (zpX te n k9 S0 (zpS5 te n st c).2 (i + 1)).2.1.2.2 (zwoN te n (zpX te n k9 S0 (zpS5 te n st c).2 (i + 1)).2.1.1))) (by rw [e]; simp only [if_pos c_124]; rfl) ?_
                      refine z_goto (tgt := 98) C dX4_parseSource_170 (by decide) ?_
                      exact z_convG (ih98 (i + 1) (by omega) (by omega)) (And.intro (rfl) (And.intro (rfl) (And.intro (rfl) (And.intro (rfl) trivial)))) (Nat.le_of_ble_eq_true rfl) (Nat.le_of_ble_eq_true rfl)
                    · refine z_iconst (v := 1) C dX4_parseSource_160 (by decide) ?_
                      refine z_seti (y := zb ((zpX te n k9 S0 (zpS5 te n st c).2 (i + 1)).2.2 = true)) (zb_t (by rw [e]; exact decide_eq_true ⟨c_141, Or.inr c_157⟩)).symm ?_
                      refine z_goto (tgt := 165) C dX4_parseSource_161 (by decide) ?_
                      refine z_istore C dX4_parseSource_165 (Nat.le_of_ble_eq_true rfl) rfl ?_
                      refine z_iinc (v := nI (i + 1)) C dX4_parseSource_167 rfl (ziinc i) (Nat.le_of_ble_eq_true rfl) rfl ?_
                      refine z_heap (G' := (tw b t (zpX te n k9 S0 (zpS5 te n st c).2 (i + 1)).1 bk sv iz th di re si pa fo te (nI n) (nI (zed te n (zpX te n k9 S0 (zpS5 te n st c).2 (i + 1)).2.1.1)) (nI (zpX te n k9 S0 (zpS5 te n st c).2 (i + 1)).2.1.1) (nI (zkd te n (zpX te n k9 S0 (zpS5 te n st c).2 (i + 1)).2.1.1)) (nI (zleN te n (zpX te n k9 S0 (zpS5 te n st c).2 (i + 1)).2.1.1)) (znmN te n (zpX te n k9 S0 (zpS5 te n st c).2 (i + 1)).2.1.1) (zpX te n k9 S0 (zpS5 te n st c).2 (i + 1)).2.1.2.1 (zpX te n k9 S0 (zpS5 te n st c).2 (i + 1)).2.1.2.2 (zwoN te n (zpX te n k9 S0 (zpS5 te n st c).2 (i + 1)).2.1.1))) (by rw [e]; simp only [if_pos c_124]; rfl) ?_
                      refine z_goto (tgt := 98) C dX4_parseSource_170 (by decide) ?_
                      exact z_convG (ih98 (i + 1) (by omega) (by omega)) (And.intro (rfl) (And.intro (rfl) (And.intro (rfl) (And.intro (rfl) trivial)))) (Nat.le_of_ble_eq_true rfl) (Nat.le_of_ble_eq_true rfl)
      exact z_convG (lp98 17 0 (by omega) (by omega)) (And.intro (rfl) (And.intro (rfl) (And.intro (rfl) (And.intro (rfl) trivial)))) (Nat.le_of_ble_eq_true rfl) (Nat.le_of_ble_eq_true rfl)
  · refine z_iconst (v := 1) C dX4_parseSource_13 (by decide) ?_
    refine z_seti (y := zb (st 7 < 6)) (zb_t (Int32.not_le.mp c_10)).symm ?_
    refine z_goto (tgt := 18) C dX4_parseSource_14 (by decide) ?_
    refine z_iconst (v := 3) C dX4_parseSource_18 (by decide) ?_
    refine z_callVe C (tw_obj) rfl (ct_X4_require D B _ _ n c) q2366 q2368 qs76 q106 q2369 np_X4_require (zr_ok rfl rfl) rfl rfl (Nat.le_of_ble_eq_true rfl) (⟨Nat.le_of_ble_eq_true rfl, Nat.le_of_ble_eq_true rfl⟩) dX4_parseSource_19 ?_
    refine z_aload_n (i := 0) C dX4_parseSource_22 rfl rfl ?_
    refine z_callVe C (tw_obj) rfl (ct_X4_advance D B n hn5 hte (zrq _ 3 c) (hc)) q2370 q2372 qs77 q106 q2373 np_X4_advance (zr_ok rfl rfl) rfl rfl (Nat.le_of_ble_eq_true rfl) (⟨Nat.le_of_ble_eq_true rfl, Nat.le_of_ble_eq_true rfl⟩) dX4_parseSource_23 ?_
    refine z_aload_n (i := 0) C dX4_parseSource_26 rfl rfl ?_
    refine z_iconst (v := 0) C dX4_parseSource_27 (by decide) ?_
    refine z_aload_n (i := 0) C dX4_parseSource_28 rfl rfl ?_
    refine tg_state C q1864 dX4_parseSource_29 ?_
    refine z_bipush (v := 6) C dX4_parseSource_32 (by decide) ?_
    refine tl_state C (⟨(rfl : (6 : Int32) = nI 6), by decide⟩) dX4_parseSource_34 ?_
    refine z_iconst (v := 1) C dX4_parseSource_35 (by decide) ?_
    refine z_isub C dX4_parseSource_36 ?_
    refine z_callVe C (tw_obj) rfl (ct_X4_parseNumber D B (0) (st 6 - 1) n hn5 hte (zpS1 te n st c) (zad_le (c := zrq _ 3 c) hc)) q2378 q2380 qs79 q106 q2381 np_X4_parseNumber (zr_ok rfl rfl) rfl rfl (Nat.le_of_ble_eq_true rfl) (⟨Nat.le_of_ble_eq_true rfl, Nat.le_of_ble_eq_true rfl⟩) dX4_parseSource_37 ?_
    refine z_istore_n (i := 1) C dX4_parseSource_40 rfl (Nat.le_of_ble_eq_true rfl) rfl ?_
    refine z_aload_n (i := 0) C dX4_parseSource_41 rfl rfl ?_
    refine z_sipush (v := (-1000)) C dX4_parseSource_42 (by decide) ?_
    refine z_sipush (v := 1000) C dX4_parseSource_45 (by decide) ?_
    refine z_callVe C (tw_obj) rfl (ct_X4_parseInteger D B (-1000) (1000) n hn5 hte (zpS2 te n st c).2 (zpN_le (c := (zpS1 te n st c)) (zad_le (c := zrq _ 3 c) hc))) q2374 q2376 qs78 q106 q2377 np_X4_parseInteger (zr_ok rfl rfl) rfl rfl (Nat.le_of_ble_eq_true rfl) (⟨Nat.le_of_ble_eq_true rfl, Nat.le_of_ble_eq_true rfl⟩) dX4_parseSource_48 ?_
    refine z_istore_n (i := 2) C dX4_parseSource_51 rfl (Nat.le_of_ble_eq_true rfl) rfl ?_
    refine z_aload_n (i := 0) C dX4_parseSource_52 rfl rfl ?_
    refine z_iconst (v := 0) C dX4_parseSource_53 (by decide) ?_
    refine z_sipush (v := 500) C dX4_parseSource_54 (by decide) ?_
    refine z_callVe C (tw_obj) rfl (ct_X4_parseNumber D B (0) (500) n hn5 hte (zpS3 te n st c).2 (zpI_le (c := (zpS2 te n st c).2) (zpN_le (c := (zpS1 te n st c)) (zad_le (c := zrq _ 3 c) hc)))) q2378 q2380 qs79 q106 q2381 np_X4_parseNumber (zr_ok rfl rfl) rfl rfl (Nat.le_of_ble_eq_true rfl) (⟨Nat.le_of_ble_eq_true rfl, Nat.le_of_ble_eq_true rfl⟩) dX4_parseSource_57 ?_
    refine z_istore_n (i := 3) C dX4_parseSource_60 rfl (Nat.le_of_ble_eq_true rfl) rfl ?_
    refine z_aload_n (i := 0) C dX4_parseSource_61 rfl rfl ?_
    refine z_iconst (v := 1) C dX4_parseSource_62 (by decide) ?_
    refine z_bipush (v := 10) C dX4_parseSource_63 (by decide) ?_
    refine z_callVe C (tw_obj) rfl (ct_X4_parseNumber D B (1) (10) n hn5 hte (zpS4 te n st c).2 (zpN_le (c := (zpS3 te n st c).2) (zpI_le (c := (zpS2 te n st c).2) (zpN_le (c := (zpS1 te n st c)) (zad_le (c := zrq _ 3 c) hc))))) q2378 q2380 qs79 q106 q2381 np_X4_parseNumber (zr_ok rfl rfl) rfl rfl (Nat.le_of_ble_eq_true rfl) (⟨Nat.le_of_ble_eq_true rfl, Nat.le_of_ble_eq_true rfl⟩) dX4_parseSource_65 ?_
    refine z_istore C dX4_parseSource_68 (Nat.le_of_ble_eq_true rfl) rfl ?_
    refine z_aload_n (i := 0) C dX4_parseSource_70 rfl rfl ?_
    refine tg_errorCode C q1881 dX4_parseSource_71 ?_
    refine z_if_ne (tgt := 89) C dX4_parseSource_74 (by decide) (fun c_74 => ?_) (fun c_74 => ?_)
    · obtain ⟨k9, hk9⟩ : ∃ k9, k9 = 0 := ⟨_, rfl⟩
      obtain ⟨S0, hS0⟩ : ∃ S0, S0 = st := ⟨_, rfl⟩
      have h06 : k9 < 6 := by omega
      have h0c : (zpS5 te n st c).2.2.1 = 0 → S0 (28 + 21 * k9 + 4) = nI 0 := fun e => absurd e c_74
      refine z_iconst (v := 0) C dX4_parseSource_89 (by decide) ?_
      refine z_seti (y := nI k9) (by rw [hk9]; first | done | rfl) ?_
      refine z_heap (G' := (tw b t (zpX te n k9 S0 (zpS5 te n st c).2 0).1 bk sv iz th di re si pa fo te (nI n) (nI (zed te n (zpX te n k9 S0 (zpS5 te n st c).2 0).2.1.1)) (nI (zpX te n k9 S0 (zpS5 te n st c).2 0).2.1.1) (nI (zkd te n (zpX te n k9 S0 (zpS5 te n st c).2 0).2.1.1)) (nI (zleN te n (zpX te n k9 S0 (zpS5 te n st c).2 0).2.1.1)) (znmN te n (zpX te n k9 S0 (zpS5 te n st c).2 0).2.1.1) (zpX te n k9 S0 (zpS5 te n st c).2 0).2.1.2.1 (zpX te n k9 S0 (zpS5 te n st c).2 0).2.1.2.2 (zwoN te n (zpX te n k9 S0 (zpS5 te n st c).2 0).2.1.1))) (by rw [hS0]; rfl) ?_
      refine z_istore C dX4_parseSource_90 (Nat.le_of_ble_eq_true rfl) rfl ?_
      refine z_iconst (v := 1) C dX4_parseSource_92 (by decide) ?_
      refine z_seti (y := zb ((zpX te n k9 S0 (zpS5 te n st c).2 0).2.2 = true)) (zb_t rfl).symm ?_
      refine z_istore C dX4_parseSource_93 (Nat.le_of_ble_eq_true rfl) rfl ?_
      refine z_iconst (v := 0) C dX4_parseSource_95 (by decide) ?_
      refine z_istore C dX4_parseSource_96 (Nat.le_of_ble_eq_true rfl) rfl ?_
      have lp98 : ∀ (μ : Nat) (i : Nat) (h1 : i ≤ 16), 16 - i < μ → Z X 98 [some (.ref (t.1 0)), none, none, none, none, some (.int (nI k9)), some (.int (zb ((zpX te n k9 S0 (zpS5 te n st c).2 i).2.2 = true))), some (.int (nI i)), none, none] [] (tw b t (zpX te n k9 S0 (zpS5 te n st c).2 i).1 bk sv iz th di re si pa fo te (nI n) (nI (zed te n (zpX te n k9 S0 (zpS5 te n st c).2 i).2.1.1)) (nI (zpX te n k9 S0 (zpS5 te n st c).2 i).2.1.1) (nI (zkd te n (zpX te n k9 S0 (zpS5 te n st c).2 i).2.1.1)) (nI (zleN te n (zpX te n k9 S0 (zpS5 te n st c).2 i).2.1.1)) (znmN te n (zpX te n k9 S0 (zpS5 te n st c).2 i).2.1.1) (zpX te n k9 S0 (zpS5 te n st c).2 i).2.1.2.1 (zpX te n k9 S0 (zpS5 te n st c).2 i).2.1.2.2 (zwoN te n (zpX te n k9 S0 (zpS5 te n st c).2 i).2.1.1)) 0 0 := by
        intro μ
        induction μ with
        | zero => intro i h1 hμ; exact absurd hμ (Nat.not_lt_zero _)
        | succ μ ih98 =>
          intro i h1 hμ
          refine z_iload C dX4_parseSource_98 rfl ?_
          refine z_bipush (v := 16) C dX4_parseSource_100 (by decide) ?_
          refine z_icmp_ge (tgt := 173) C dX4_parseSource_102 (by decide) (fun c_102 => ?_) (fun c_102 => ?_)
          · have hend_102 : i = 16 := by have := zge (b := 16) c_102 (by omega) (by omega); omega
            exact z_return C rfl dX4_parseSource_173 (⟨rfl, (congrArg (fun c9 : (Nat → Int32) × zC => (tw b t c9.1 bk sv iz th di re si pa fo te (nI n) (nI (zed te n c9.2.1)) (nI c9.2.1) (nI (zkd te n c9.2.1)) (nI (zleN te n c9.2.1)) (znmN te n c9.2.1) c9.2.2.1 c9.2.2.2 (zwoN te n c9.2.1))) (show zpS te n st c = ((zpX te n k9 S0 (zpS5 te n st c).2 i).1, (zpX te n k9 S0 (zpS5 te n st c).2 i).2.1) from by unfold zpS; rw [if_neg (show ¬ (zpS5 te n st c).2.2.1 = 0 from c_74), hk9, hS0]; rw [hend_102])).symm⟩) (Nat.le_of_ble_eq_true rfl) (Nat.le_of_ble_eq_true rfl)
          · have hlt_102 : i < 16 := znge (b := 16) c_102 (by omega) (by omega)
            refine z_iload C dX4_parseSource_105 rfl ?_
            refine z_if_eq (tgt := 173) C dX4_parseSource_107 (by decide) (fun c_107 => ?_) (fun c_107 => ?_)
            · have hdone : ¬ (zpX te n k9 S0 (zpS5 te n st c).2 i).2.2 = true := zb_eq.mp c_107
              exact z_return C rfl dX4_parseSource_173 (⟨rfl, (congrArg (fun c9 : (Nat → Int32) × zC => (tw b t c9.1 bk sv iz th di re si pa fo te (nI n) (nI (zed te n c9.2.1)) (nI c9.2.1) (nI (zkd te n c9.2.1)) (nI (zleN te n c9.2.1)) (znmN te n c9.2.1) c9.2.2.1 c9.2.2.2 (zwoN te n c9.2.1))) (show zpS te n st c = ((zpX te n k9 S0 (zpS5 te n st c).2 i).1, (zpX te n k9 S0 (zpS5 te n st c).2 i).2.1) from by rw [← zpX_end hdone (16 - i), show i + (16 - i) = 16 from by omega]; unfold zpS; rw [if_neg (show ¬ (zpS5 te n st c).2.2.1 = 0 from c_74), hk9, hS0])).symm⟩) (Nat.le_of_ble_eq_true rfl) (Nat.le_of_ble_eq_true rfl)
            · have hmore : (zpX te n k9 S0 (zpS5 te n st c).2 i).2.2 = true := zb_ne.mp c_107
              have e : (zpX te n k9 S0 (zpS5 te n st c).2 (i + 1)) = (if (zpI te n (-99) 99 (zpX te n k9 S0 (zpS5 te n st c).2 i).2.1).2.2.1 = 0 then zaX (zpX te n k9 S0 (zpS5 te n st c).2 i).1 k9 i (zpI te n (-99) 99 (zpX te n k9 S0 (zpS5 te n st c).2 i).2.1).1 else (zpX te n k9 S0 (zpS5 te n st c).2 i).1, (zpI te n (-99) 99 (zpX te n k9 S0 (zpS5 te n st c).2 i).2.1).2, decide ((zpI te n (-99) 99 (zpX te n k9 S0 (zpS5 te n st c).2 i).2.1).2.2.1 = 0 ∧ (nI (zkd te n (zpI te n (-99) 99 (zpX te n k9 S0 (zpS5 te n st c).2 i).2.1).2.1) = 3 ∨ nI (zkd te n (zpI te n (-99) 99 (zpX te n k9 S0 (zpS5 te n st c).2 i).2.1).2.1) = 5))) := if_pos hmore
              refine z_aload_n (i := 0) C dX4_parseSource_110 rfl rfl ?_
              refine z_bipush (v := (-99)) C dX4_parseSource_111 (by decide) ?_
              refine z_bipush (v := 99) C dX4_parseSource_113 (by decide) ?_
              refine z_callVe C (tw_obj) rfl (ct_X4_parseInteger D B (-99) 99 n hn5 hte (zpX te n k9 S0 (zpS5 te n st c).2 i).2.1 (zpX_le (zpN_le (c := (zpS4 te n st c).2) (zpN_le (c := (zpS3 te n st c).2) (zpI_le (c := (zpS2 te n st c).2) (zpN_le (c := (zpS1 te n st c)) (zad_le (c := zrq _ 3 c) hc))))) i)) q2374 q2376 qs78 q106 q2377 np_X4_parseInteger (zr_ok rfl rfl) rfl rfl (Nat.le_of_ble_eq_true rfl) (⟨Nat.le_of_ble_eq_true rfl, Nat.le_of_ble_eq_true rfl⟩) dX4_parseSource_115 ?_
              refine z_istore C dX4_parseSource_118 (Nat.le_of_ble_eq_true rfl) rfl ?_
              refine z_aload_n (i := 0) C dX4_parseSource_120 rfl rfl ?_
              refine tg_errorCode C q1881 dX4_parseSource_121 ?_
              refine z_if_ne (tgt := 137) C dX4_parseSource_124 (by decide) (fun c_124 => ?_) (fun c_124 => ?_)
              · refine z_aload_n (i := 0) C dX4_parseSource_137 rfl rfl ?_
                refine tg_errorCode C q1881 dX4_parseSource_138 ?_
                refine z_if_ne (tgt := 164) C dX4_parseSource_141 (by decide) (fun c_141 => ?_) (fun c_141 => ?_)
                · refine z_iconst (v := 0) C dX4_parseSource_164 (by decide) ?_
                  refine z_seti (y := zb ((zpX te n k9 S0 (zpS5 te n st c).2 (i + 1)).2.2 = true)) (zb_f (by rw [e]; exact fun g => absurd (of_decide_eq_true g) (fun q => c_141 q.1))).symm ?_
                  refine z_istore C dX4_parseSource_165 (Nat.le_of_ble_eq_true rfl) rfl ?_
                  refine z_iinc (v := nI (i + 1)) C dX4_parseSource_167 rfl (ziinc i) (Nat.le_of_ble_eq_true rfl) rfl ?_
                  refine z_heap (G' := (tw b t (zpX te n k9 S0 (zpS5 te n st c).2 (i + 1)).1 bk sv iz th di re si pa fo te (nI n) (nI (zed te n (zpX te n k9 S0 (zpS5 te n st c).2 (i + 1)).2.1.1)) (nI (zpX te n k9 S0 (zpS5 te n st c).2 (i + 1)).2.1.1) (nI (zkd te n (zpX te n k9 S0 (zpS5 te n st c).2 (i + 1)).2.1.1)) (nI (zleN te n (zpX te n k9 S0 (zpS5 te n st c).2 (i + 1)).2.1.1)) (znmN te n (zpX te n k9 S0 (zpS5 te n st c).2 (i + 1)).2.1.1) (zpX te n k9 S0 (zpS5 te n st c).2 (i + 1)).2.1.2.1 (zpX te n k9 S0 (zpS5 te n st c).2 (i + 1)).2.1.2.2 (zwoN te n (zpX te n k9 S0 (zpS5 te n st c).2 (i + 1)).2.1.1))) (by rw [e]; simp only [if_neg c_124]) ?_
                  refine z_goto (tgt := 98) C dX4_parseSource_170 (by decide) ?_
                  exact z_convG (ih98 (i + 1) (by omega) (by omega)) (And.intro (rfl) (And.intro (rfl) (And.intro (rfl) (And.intro (rfl) trivial)))) (Nat.le_of_ble_eq_true rfl) (Nat.le_of_ble_eq_true rfl)
                · exact absurd c_141 c_124
              · refine z_aload_n (i := 0) C dX4_parseSource_127 rfl rfl ?_
                refine z_iload C dX4_parseSource_128 rfl ?_
                refine z_iload C dX4_parseSource_130 rfl ?_
                refine z_callVe C (tw_obj) rfl (ct_X4_appendValue D B k9 _ h06 i (zpX_ct h0c i hmore (zpI_e c_124).1) (by omega)) q1989 q1991 qs30 q106 q1992 np_X4_appendValue (zr_ok rfl rfl) rfl rfl (Nat.le_of_ble_eq_true rfl) (⟨Nat.le_of_ble_eq_true rfl, Nat.le_of_ble_eq_true rfl⟩) dX4_parseSource_132 ?_
                refine z_istore C dX4_parseSource_135 (Nat.le_of_ble_eq_true rfl) rfl ?_
                refine z_aload_n (i := 0) C dX4_parseSource_137 rfl rfl ?_
                refine tg_errorCode C q1881 dX4_parseSource_138 ?_
                refine z_if_ne (tgt := 164) C dX4_parseSource_141 (by decide) (fun c_141 => ?_) (fun c_141 => ?_)
                · exact absurd c_124 c_141
                · refine z_aload_n (i := 0) C dX4_parseSource_144 rfl rfl ?_
                  refine tg_token C q1878 dX4_parseSource_145 ?_
                  refine z_iconst (v := 3) C dX4_parseSource_148 (by decide) ?_
                  refine z_icmp_eq (tgt := 160) C dX4_parseSource_149 (by decide) (fun c_149 => ?_) (fun c_149 => ?_)
                  · refine z_iconst (v := 1) C dX4_parseSource_160 (by decide) ?_
                    refine z_seti (y := zb ((zpX te n k9 S0 (zpS5 te n st c).2 (i + 1)).2.2 = true)) (zb_t (by rw [e]; exact decide_eq_true ⟨c_141, Or.inl c_149⟩)).symm ?_
                    refine z_goto (tgt := 165) C dX4_parseSource_161 (by decide) ?_
                    refine z_istore C dX4_parseSource_165 (Nat.le_of_ble_eq_true rfl) rfl ?_
                    refine z_iinc (v := nI (i + 1)) C dX4_parseSource_167 rfl (ziinc i) (Nat.le_of_ble_eq_true rfl) rfl ?_
                    refine z_heap (G' := (tw b t (zpX te n k9 S0 (zpS5 te n st c).2 (i + 1)).1 bk sv iz th di re si pa fo te (nI n) (nI (zed te n (zpX te n k9 S0 (zpS5 te n st c).2 (i + 1)).2.1.1)) (nI (zpX te n k9 S0 (zpS5 te n st c).2 (i + 1)).2.1.1) (nI (zkd te n (zpX te n k9 S0 (zpS5 te n st c).2 (i + 1)).2.1.1)) (nI (zleN te n (zpX te n k9 S0 (zpS5 te n st c).2 (i + 1)).2.1.1)) (znmN te n (zpX te n k9 S0 (zpS5 te n st c).2 (i + 1)).2.1.1) (zpX te n k9 S0 (zpS5 te n st c).2 (i + 1)).2.1.2.1 (zpX te n k9 S0 (zpS5 te n st c).2 (i + 1)).2.1.2.2 (zwoN te n (zpX te n k9 S0 (zpS5 te n st c).2 (i + 1)).2.1.1))) (by rw [e]; simp only [if_pos c_124]; rfl) ?_
                    refine z_goto (tgt := 98) C dX4_parseSource_170 (by decide) ?_
                    exact z_convG (ih98 (i + 1) (by omega) (by omega)) (And.intro (rfl) (And.intro (rfl) (And.intro (rfl) (And.intro (rfl) trivial)))) (Nat.le_of_ble_eq_true rfl) (Nat.le_of_ble_eq_true rfl)
                  · refine z_aload_n (i := 0) C dX4_parseSource_152 rfl rfl ?_
                    refine tg_token C q1878 dX4_parseSource_153 ?_
                    refine z_iconst (v := 5) C dX4_parseSource_156 (by decide) ?_
                    refine z_icmp_ne (tgt := 164) C dX4_parseSource_157 (by decide) (fun c_157 => ?_) (fun c_157 => ?_)
                    · refine z_iconst (v := 0) C dX4_parseSource_164 (by decide) ?_
                      refine z_seti (y := zb ((zpX te n k9 S0 (zpS5 te n st c).2 (i + 1)).2.2 = true)) (zb_f (by rw [e]; exact fun g => absurd (of_decide_eq_true g) (fun q => (q.2.elim c_149 c_157)))).symm ?_
                      refine z_istore C dX4_parseSource_165 (Nat.le_of_ble_eq_true rfl) rfl ?_
                      refine z_iinc (v := nI (i + 1)) C dX4_parseSource_167 rfl (ziinc i) (Nat.le_of_ble_eq_true rfl) rfl ?_
                      refine z_heap (G' := (tw b t (zpX te n k9 S0 (zpS5 te n st c).2 (i + 1)).1 bk sv iz th di re si pa fo te (nI n) (nI (zed te n (zpX te n k9 S0 (zpS5 te n st c).2 (i + 1)).2.1.1)) (nI (zpX te n k9 S0 (zpS5 te n st c).2 (i + 1)).2.1.1) (nI (zkd te n (zpX te n k9 S0 (zpS5 te n st c).2 (i + 1)).2.1.1)) (nI (zleN te n (zpX te n k9 S0 (zpS5 te n st c).2 (i + 1)).2.1.1)) (znmN te n (zpX te n k9 S0 (zpS5 te n st c).2 (i + 1)).2.1.1) (zpX te n k9 S0 (zpS5 te n st c).2 (i + 1)).2.1.2.1 (zpX te n k9 S0 (zpS5 te n st c).2 (i + 1)).2.1.2.2 (zwoN te n (zpX te n k9 S0 (zpS5 te n st c).2 (i + 1)).2.1.1))) (by rw [e]; simp only [if_pos c_124]; rfl) ?_
                      refine z_goto (tgt := 98) C dX4_parseSource_170 (by decide) ?_
                      exact z_convG (ih98 (i + 1) (by omega) (by omega)) (And.intro (rfl) (And.intro (rfl) (And.intro (rfl) (And.intro (rfl) trivial)))) (Nat.le_of_ble_eq_true rfl) (Nat.le_of_ble_eq_true rfl)
                    · refine z_iconst (v := 1) C dX4_parseSource_160 (by decide) ?_
                      refine z_seti (y := zb ((zpX te n k9 S0 (zpS5 te n st c).2 (i + 1)).2.2 = true)) (zb_t (by rw [e]; exact decide_eq_true ⟨c_141, Or.inr c_157⟩)).symm ?_
                      refine z_goto (tgt := 165) C dX4_parseSource_161 (by decide) ?_
                      refine z_istore C dX4_parseSource_165 (Nat.le_of_ble_eq_true rfl) rfl ?_
                      refine z_iinc (v := nI (i + 1)) C dX4_parseSource_167 rfl (ziinc i) (Nat.le_of_ble_eq_true rfl) rfl ?_
                      refine z_heap (G' := (tw b t (zpX te n k9 S0 (zpS5 te n st c).2 (i + 1)).1 bk sv iz th di re si pa fo te (nI n) (nI (zed te n (zpX te n k9 S0 (zpS5 te n st c).2 (i + 1)).2.1.1)) (nI (zpX te n k9 S0 (zpS5 te n st c).2 (i + 1)).2.1.1) (nI (zkd te n (zpX te n k9 S0 (zpS5 te n st c).2 (i + 1)).2.1.1)) (nI (zleN te n (zpX te n k9 S0 (zpS5 te n st c).2 (i + 1)).2.1.1)) (znmN te n (zpX te n k9 S0 (zpS5 te n st c).2 (i + 1)).2.1.1) (zpX te n k9 S0 (zpS5 te n st c).2 (i + 1)).2.1.2.1 (zpX te n k9 S0 (zpS5 te n st c).2 (i + 1)).2.1.2.2 (zwoN te n (zpX te n k9 S0 (zpS5 te n st c).2 (i + 1)).2.1.1))) (by rw [e]; simp only [if_pos c_124]; rfl) ?_
                      refine z_goto (tgt := 98) C dX4_parseSource_170 (by decide) ?_
                      exact z_convG (ih98 (i + 1) (by omega) (by omega)) (And.intro (rfl) (And.intro (rfl) (And.intro (rfl) (And.intro (rfl) trivial)))) (Nat.le_of_ble_eq_true rfl) (Nat.le_of_ble_eq_true rfl)
      exact z_convG (lp98 17 0 (by omega) (by omega)) (And.intro (rfl) (And.intro (rfl) (And.intro (rfl) (And.intro (rfl) trivial)))) (Nat.le_of_ble_eq_true rfl) (Nat.le_of_ble_eq_true rfl)
    · have a4 := (zpN_e (c := (zpS4 te n st c).2) c_74).1
      have a3 := (zpN_e (c := (zpS3 te n st c).2) a4).1
      have a2 := (zpI_e (c := (zpS2 te n st c).2) a3).1
      have a1 := (zpN_e (c := zpS1 te n st c) a2).1
      have h9 : st 7 < 6 := zb_ne.mp (zrq_e (by decide) (zad_e a1)).2.1
      rw [h8] at h9
      have hlt : n8 < 6 := (nI_ltI (b := 6) (by omega) (by decide)).mp h9
      obtain ⟨k9, hk9⟩ : ∃ k9, k9 = n8 := ⟨_, rfl⟩
      obtain ⟨S0, hS0⟩ : ∃ S0, S0 = zaS st n8 (zpS2 te n st c).1 (zpS3 te n st c).1 (zpS4 te n st c).1 (zpS5 te n st c).1 := ⟨_, rfl⟩
      have h06 : k9 < 6 := by omega
      have h0c : (zpS5 te n st c).2.2.1 = 0 → S0 (28 + 21 * k9 + 4) = nI 0 := fun _ => by rw [hS0, hk9]; exact (if_neg (by omega)).trans (if_pos rfl)
      refine z_aload_n (i := 0) C dX4_parseSource_77 rfl rfl ?_
      refine z_iload_n (i := 1) C dX4_parseSource_78 rfl rfl ?_
      refine z_iload_n (i := 2) C dX4_parseSource_79 rfl rfl ?_
      refine z_iload_n (i := 3) C dX4_parseSource_80 rfl rfl ?_
      refine z_iload C dX4_parseSource_81 rfl ?_
      refine z_callVe C (tw_obj) rfl (ct_X4_appendSource D B _ _ _ _ n8 h8 hlt) q1985 q1987 qs29 q106 q1988 np_X4_appendSource (zr_ok rfl rfl) rfl rfl (Nat.le_of_ble_eq_true rfl) (⟨Nat.le_of_ble_eq_true rfl, Nat.le_of_ble_eq_true rfl⟩) dX4_parseSource_83 ?_
      refine z_goto (tgt := 90) C dX4_parseSource_86 (by decide) ?_
      refine z_seti (y := nI k9) (by rw [hk9]; first | done | rfl) ?_
      refine z_heap (G' := (tw b t (zpX te n k9 S0 (zpS5 te n st c).2 0).1 bk sv iz th di re si pa fo te (nI n) (nI (zed te n (zpX te n k9 S0 (zpS5 te n st c).2 0).2.1.1)) (nI (zpX te n k9 S0 (zpS5 te n st c).2 0).2.1.1) (nI (zkd te n (zpX te n k9 S0 (zpS5 te n st c).2 0).2.1.1)) (nI (zleN te n (zpX te n k9 S0 (zpS5 te n st c).2 0).2.1.1)) (znmN te n (zpX te n k9 S0 (zpS5 te n st c).2 0).2.1.1) (zpX te n k9 S0 (zpS5 te n st c).2 0).2.1.2.1 (zpX te n k9 S0 (zpS5 te n st c).2 0).2.1.2.2 (zwoN te n (zpX te n k9 S0 (zpS5 te n st c).2 0).2.1.1))) (by rw [hS0]; rfl) ?_
      refine z_istore C dX4_parseSource_90 (Nat.le_of_ble_eq_true rfl) rfl ?_
      refine z_iconst (v := 1) C dX4_parseSource_92 (by decide) ?_
      refine z_seti (y := zb ((zpX te n k9 S0 (zpS5 te n st c).2 0).2.2 = true)) (zb_t rfl).symm ?_
      refine z_istore C dX4_parseSource_93 (Nat.le_of_ble_eq_true rfl) rfl ?_
      refine z_iconst (v := 0) C dX4_parseSource_95 (by decide) ?_
      refine z_istore C dX4_parseSource_96 (Nat.le_of_ble_eq_true rfl) rfl ?_
      have lp98 : ∀ (μ : Nat) (i : Nat) (h1 : i ≤ 16), 16 - i < μ → Z X 98 [some (.ref (t.1 0)), none, none, none, none, some (.int (nI k9)), some (.int (zb ((zpX te n k9 S0 (zpS5 te n st c).2 i).2.2 = true))), some (.int (nI i)), none, none] [] (tw b t (zpX te n k9 S0 (zpS5 te n st c).2 i).1 bk sv iz th di re si pa fo te (nI n) (nI (zed te n (zpX te n k9 S0 (zpS5 te n st c).2 i).2.1.1)) (nI (zpX te n k9 S0 (zpS5 te n st c).2 i).2.1.1) (nI (zkd te n (zpX te n k9 S0 (zpS5 te n st c).2 i).2.1.1)) (nI (zleN te n (zpX te n k9 S0 (zpS5 te n st c).2 i).2.1.1)) (znmN te n (zpX te n k9 S0 (zpS5 te n st c).2 i).2.1.1) (zpX te n k9 S0 (zpS5 te n st c).2 i).2.1.2.1 (zpX te n k9 S0 (zpS5 te n st c).2 i).2.1.2.2 (zwoN te n (zpX te n k9 S0 (zpS5 te n st c).2 i).2.1.1)) 0 0 := by
        intro μ
        induction μ with
        | zero => intro i h1 hμ; exact absurd hμ (Nat.not_lt_zero _)
        | succ μ ih98 =>
          intro i h1 hμ
          refine z_iload C dX4_parseSource_98 rfl ?_
          refine z_bipush (v := 16) C dX4_parseSource_100 (by decide) ?_
          refine z_icmp_ge (tgt := 173) C dX4_parseSource_102 (by decide) (fun c_102 => ?_) (fun c_102 => ?_)
          · have hend_102 : i = 16 := by have := zge (b := 16) c_102 (by omega) (by omega); omega
            exact z_return C rfl dX4_parseSource_173 (⟨rfl, (congrArg (fun c9 : (Nat → Int32) × zC => (tw b t c9.1 bk sv iz th di re si pa fo te (nI n) (nI (zed te n c9.2.1)) (nI c9.2.1) (nI (zkd te n c9.2.1)) (nI (zleN te n c9.2.1)) (znmN te n c9.2.1) c9.2.2.1 c9.2.2.2 (zwoN te n c9.2.1))) (show zpS te n st c = ((zpX te n k9 S0 (zpS5 te n st c).2 i).1, (zpX te n k9 S0 (zpS5 te n st c).2 i).2.1) from by unfold zpS; rw [if_pos (show (zpS5 te n st c).2.2.1 = 0 from c_74), zct_of h8 (by omega), hk9, hS0]; rw [hend_102])).symm⟩) (Nat.le_of_ble_eq_true rfl) (Nat.le_of_ble_eq_true rfl)
          · have hlt_102 : i < 16 := znge (b := 16) c_102 (by omega) (by omega)
            refine z_iload C dX4_parseSource_105 rfl ?_
            refine z_if_eq (tgt := 173) C dX4_parseSource_107 (by decide) (fun c_107 => ?_) (fun c_107 => ?_)
            · have hdone : ¬ (zpX te n k9 S0 (zpS5 te n st c).2 i).2.2 = true := zb_eq.mp c_107
              exact z_return C rfl dX4_parseSource_173 (⟨rfl, (congrArg (fun c9 : (Nat → Int32) × zC => (tw b t c9.1 bk sv iz th di re si pa fo te (nI n) (nI (zed te n c9.2.1)) (nI c9.2.1) (nI (zkd te n c9.2.1)) (nI (zleN te n c9.2.1)) (znmN te n c9.2.1) c9.2.2.1 c9.2.2.2 (zwoN te n c9.2.1))) (show zpS te n st c = ((zpX te n k9 S0 (zpS5 te n st c).2 i).1, (zpX te n k9 S0 (zpS5 te n st c).2 i).2.1) from by rw [← zpX_end hdone (16 - i), show i + (16 - i) = 16 from by omega]; unfold zpS; rw [if_pos (show (zpS5 te n st c).2.2.1 = 0 from c_74), zct_of h8 (by omega), hk9, hS0])).symm⟩) (Nat.le_of_ble_eq_true rfl) (Nat.le_of_ble_eq_true rfl)
            · have hmore : (zpX te n k9 S0 (zpS5 te n st c).2 i).2.2 = true := zb_ne.mp c_107
              have e : (zpX te n k9 S0 (zpS5 te n st c).2 (i + 1)) = (if (zpI te n (-99) 99 (zpX te n k9 S0 (zpS5 te n st c).2 i).2.1).2.2.1 = 0 then zaX (zpX te n k9 S0 (zpS5 te n st c).2 i).1 k9 i (zpI te n (-99) 99 (zpX te n k9 S0 (zpS5 te n st c).2 i).2.1).1 else (zpX te n k9 S0 (zpS5 te n st c).2 i).1, (zpI te n (-99) 99 (zpX te n k9 S0 (zpS5 te n st c).2 i).2.1).2, decide ((zpI te n (-99) 99 (zpX te n k9 S0 (zpS5 te n st c).2 i).2.1).2.2.1 = 0 ∧ (nI (zkd te n (zpI te n (-99) 99 (zpX te n k9 S0 (zpS5 te n st c).2 i).2.1).2.1) = 3 ∨ nI (zkd te n (zpI te n (-99) 99 (zpX te n k9 S0 (zpS5 te n st c).2 i).2.1).2.1) = 5))) := if_pos hmore
              refine z_aload_n (i := 0) C dX4_parseSource_110 rfl rfl ?_
              refine z_bipush (v := (-99)) C dX4_parseSource_111 (by decide) ?_
              refine z_bipush (v := 99) C dX4_parseSource_113 (by decide) ?_
              refine z_callVe C (tw_obj) rfl (ct_X4_parseInteger D B (-99) 99 n hn5 hte (zpX te n k9 S0 (zpS5 te n st c).2 i).2.1 (zpX_le (zpN_le (c := (zpS4 te n st c).2) (zpN_le (c := (zpS3 te n st c).2) (zpI_le (c := (zpS2 te n st c).2) (zpN_le (c := (zpS1 te n st c)) (zad_le (c := zrq _ 3 c) hc))))) i)) q2374 q2376 qs78 q106 q2377 np_X4_parseInteger (zr_ok rfl rfl) rfl rfl (Nat.le_of_ble_eq_true rfl) (⟨Nat.le_of_ble_eq_true rfl, Nat.le_of_ble_eq_true rfl⟩) dX4_parseSource_115 ?_
              refine z_istore C dX4_parseSource_118 (Nat.le_of_ble_eq_true rfl) rfl ?_
              refine z_aload_n (i := 0) C dX4_parseSource_120 rfl rfl ?_
              refine tg_errorCode C q1881 dX4_parseSource_121 ?_
              refine z_if_ne (tgt := 137) C dX4_parseSource_124 (by decide) (fun c_124 => ?_) (fun c_124 => ?_)
              · refine z_aload_n (i := 0) C dX4_parseSource_137 rfl rfl ?_
                refine tg_errorCode C q1881 dX4_parseSource_138 ?_
                refine z_if_ne (tgt := 164) C dX4_parseSource_141 (by decide) (fun c_141 => ?_) (fun c_141 => ?_)
                · refine z_iconst (v := 0) C dX4_parseSource_164 (by decide) ?_
                  refine z_seti (y := zb ((zpX te n k9 S0 (zpS5 te n st c).2 (i + 1)).2.2 = true)) (zb_f (by rw [e]; exact fun g => absurd (of_decide_eq_true g) (fun q => c_141 q.1))).symm ?_
                  refine z_istore C dX4_parseSource_165 (Nat.le_of_ble_eq_true rfl) rfl ?_
                  refine z_iinc (v := nI (i + 1)) C dX4_parseSource_167 rfl (ziinc i) (Nat.le_of_ble_eq_true rfl) rfl ?_
                  refine z_heap (G' := (tw b t (zpX te n k9 S0 (zpS5 te n st c).2 (i + 1)).1 bk sv iz th di re si pa fo te (nI n) (nI (zed te n (zpX te n k9 S0 (zpS5 te n st c).2 (i + 1)).2.1.1)) (nI (zpX te n k9 S0 (zpS5 te n st c).2 (i + 1)).2.1.1) (nI (zkd te n (zpX te n k9 S0 (zpS5 te n st c).2 (i + 1)).2.1.1)) (nI (zleN te n (zpX te n k9 S0 (zpS5 te n st c).2 (i + 1)).2.1.1)) (znmN te n (zpX te n k9 S0 (zpS5 te n st c).2 (i + 1)).2.1.1) (zpX te n k9 S0 (zpS5 te n st c).2 (i + 1)).2.1.2.1 (zpX te n k9 S0 (zpS5 te n st c).2 (i + 1)).2.1.2.2 (zwoN te n (zpX te n k9 S0 (zpS5 te n st c).2 (i + 1)).2.1.1))) (by rw [e]; simp only [if_neg c_124]) ?_
                  refine z_goto (tgt := 98) C dX4_parseSource_170 (by decide) ?_
                  exact z_convG (ih98 (i + 1) (by omega) (by omega)) (And.intro (rfl) (And.intro (rfl) (And.intro (rfl) (And.intro (rfl) trivial)))) (Nat.le_of_ble_eq_true rfl) (Nat.le_of_ble_eq_true rfl)
                · exact absurd c_141 c_124
              · refine z_aload_n (i := 0) C dX4_parseSource_127 rfl rfl ?_
                refine z_iload C dX4_parseSource_128 rfl ?_
                refine z_iload C dX4_parseSource_130 rfl ?_
                refine z_callVe C (tw_obj) rfl (ct_X4_appendValue D B k9 _ h06 i (zpX_ct h0c i hmore (zpI_e c_124).1) (by omega)) q1989 q1991 qs30 q106 q1992 np_X4_appendValue (zr_ok rfl rfl) rfl rfl (Nat.le_of_ble_eq_true rfl) (⟨Nat.le_of_ble_eq_true rfl, Nat.le_of_ble_eq_true rfl⟩) dX4_parseSource_132 ?_
                refine z_istore C dX4_parseSource_135 (Nat.le_of_ble_eq_true rfl) rfl ?_
                refine z_aload_n (i := 0) C dX4_parseSource_137 rfl rfl ?_
                refine tg_errorCode C q1881 dX4_parseSource_138 ?_
                refine z_if_ne (tgt := 164) C dX4_parseSource_141 (by decide) (fun c_141 => ?_) (fun c_141 => ?_)
                · exact absurd c_124 c_141
                · refine z_aload_n (i := 0) C dX4_parseSource_144 rfl rfl ?_
                  refine tg_token C q1878 dX4_parseSource_145 ?_
                  refine z_iconst (v := 3) C dX4_parseSource_148 (by decide) ?_
                  refine z_icmp_eq (tgt := 160) C dX4_parseSource_149 (by decide) (fun c_149 => ?_) (fun c_149 => ?_)
                  · refine z_iconst (v := 1) C dX4_parseSource_160 (by decide) ?_
                    refine z_seti (y := zb ((zpX te n k9 S0 (zpS5 te n st c).2 (i + 1)).2.2 = true)) (zb_t (by rw [e]; exact decide_eq_true ⟨c_141, Or.inl c_149⟩)).symm ?_
                    refine z_goto (tgt := 165) C dX4_parseSource_161 (by decide) ?_
                    refine z_istore C dX4_parseSource_165 (Nat.le_of_ble_eq_true rfl) rfl ?_
                    refine z_iinc (v := nI (i + 1)) C dX4_parseSource_167 rfl (ziinc i) (Nat.le_of_ble_eq_true rfl) rfl ?_
                    refine z_heap (G' := (tw b t (zpX te n k9 S0 (zpS5 te n st c).2 (i + 1)).1 bk sv iz th di re si pa fo te (nI n) (nI (zed te n (zpX te n k9 S0 (zpS5 te n st c).2 (i + 1)).2.1.1)) (nI (zpX te n k9 S0 (zpS5 te n st c).2 (i + 1)).2.1.1) (nI (zkd te n (zpX te n k9 S0 (zpS5 te n st c).2 (i + 1)).2.1.1)) (nI (zleN te n (zpX te n k9 S0 (zpS5 te n st c).2 (i + 1)).2.1.1)) (znmN te n (zpX te n k9 S0 (zpS5 te n st c).2 (i + 1)).2.1.1) (zpX te n k9 S0 (zpS5 te n st c).2 (i + 1)).2.1.2.1 (zpX te n k9 S0 (zpS5 te n st c).2 (i + 1)).2.1.2.2 (zwoN te n (zpX te n k9 S0 (zpS5 te n st c).2 (i + 1)).2.1.1))) (by rw [e]; simp only [if_pos c_124]; rfl) ?_
                    refine z_goto (tgt := 98) C dX4_parseSource_170 (by decide) ?_
                    exact z_convG (ih98 (i + 1) (by omega) (by omega)) (And.intro (rfl) (And.intro (rfl) (And.intro (rfl) (And.intro (rfl) trivial)))) (Nat.le_of_ble_eq_true rfl) (Nat.le_of_ble_eq_true rfl)
                  · refine z_aload_n (i := 0) C dX4_parseSource_152 rfl rfl ?_
                    refine tg_token C q1878 dX4_parseSource_153 ?_
                    refine z_iconst (v := 5) C dX4_parseSource_156 (by decide) ?_
                    refine z_icmp_ne (tgt := 164) C dX4_parseSource_157 (by decide) (fun c_157 => ?_) (fun c_157 => ?_)
                    · refine z_iconst (v := 0) C dX4_parseSource_164 (by decide) ?_
                      refine z_seti (y := zb ((zpX te n k9 S0 (zpS5 te n st c).2 (i + 1)).2.2 = true)) (zb_f (by rw [e]; exact fun g => absurd (of_decide_eq_true g) (fun q => (q.2.elim c_149 c_157)))).symm ?_
                      refine z_istore C dX4_parseSource_165 (Nat.le_of_ble_eq_true rfl) rfl ?_
                      refine z_iinc (v := nI (i + 1)) C dX4_parseSource_167 rfl (ziinc i) (Nat.le_of_ble_eq_true rfl) rfl ?_
                      refine z_heap (G' := (tw b t (zpX te n k9 S0 (zpS5 te n st c).2 (i + 1)).1 bk sv iz th di re si pa fo te (nI n) (nI (zed te n (zpX te n k9 S0 (zpS5 te n st c).2 (i + 1)).2.1.1)) (nI (zpX te n k9 S0 (zpS5 te n st c).2 (i + 1)).2.1.1) (nI (zkd te n (zpX te n k9 S0 (zpS5 te n st c).2 (i + 1)).2.1.1)) (nI (zleN te n (zpX te n k9 S0 (zpS5 te n st c).2 (i + 1)).2.1.1)) (znmN te n (zpX te n k9 S0 (zpS5 te n st c).2 (i + 1)).2.1.1) (zpX te n k9 S0 (zpS5 te n st c).2 (i + 1)).2.1.2.1 (zpX te n k9 S0 (zpS5 te n st c).2 (i + 1)).2.1.2.2 (zwoN te n (zpX te n k9 S0 (zpS5 te n st c).2 (i + 1)).2.1.1))) (by rw [e]; simp only [if_pos c_124]; rfl) ?_
                      refine z_goto (tgt := 98) C dX4_parseSource_170 (by decide) ?_
                      exact z_convG (ih98 (i + 1) (by omega) (by omega)) (And.intro (rfl) (And.intro (rfl) (And.intro (rfl) (And.intro (rfl) trivial)))) (Nat.le_of_ble_eq_true rfl) (Nat.le_of_ble_eq_true rfl)
                    · refine z_iconst (v := 1) C dX4_parseSource_160 (by decide) ?_
                      refine z_seti (y := zb ((zpX te n k9 S0 (zpS5 te n st c).2 (i + 1)).2.2 = true)) (zb_t (by rw [e]; exact decide_eq_true ⟨c_141, Or.inr c_157⟩)).symm ?_
                      refine z_goto (tgt := 165) C dX4_parseSource_161 (by decide) ?_
                      refine z_istore C dX4_parseSource_165 (Nat.le_of_ble_eq_true rfl) rfl ?_
                      refine z_iinc (v := nI (i + 1)) C dX4_parseSource_167 rfl (ziinc i) (Nat.le_of_ble_eq_true rfl) rfl ?_
                      refine z_heap (G' := (tw b t (zpX te n k9 S0 (zpS5 te n st c).2 (i + 1)).1 bk sv iz th di re si pa fo te (nI n) (nI (zed te n (zpX te n k9 S0 (zpS5 te n st c).2 (i + 1)).2.1.1)) (nI (zpX te n k9 S0 (zpS5 te n st c).2 (i + 1)).2.1.1) (nI (zkd te n (zpX te n k9 S0 (zpS5 te n st c).2 (i + 1)).2.1.1)) (nI (zleN te n (zpX te n k9 S0 (zpS5 te n st c).2 (i + 1)).2.1.1)) (znmN te n (zpX te n k9 S0 (zpS5 te n st c).2 (i + 1)).2.1.1) (zpX te n k9 S0 (zpS5 te n st c).2 (i + 1)).2.1.2.1 (zpX te n k9 S0 (zpS5 te n st c).2 (i + 1)).2.1.2.2 (zwoN te n (zpX te n k9 S0 (zpS5 te n st c).2 (i + 1)).2.1.1))) (by rw [e]; simp only [if_pos c_124]; rfl) ?_
                      refine z_goto (tgt := 98) C dX4_parseSource_170 (by decide) ?_
                      exact z_convG (ih98 (i + 1) (by omega) (by omega)) (And.intro (rfl) (And.intro (rfl) (And.intro (rfl) (And.intro (rfl) trivial)))) (Nat.le_of_ble_eq_true rfl) (Nat.le_of_ble_eq_true rfl)
      exact z_convG (lp98 17 0 (by omega) (by omega)) (And.intro (rfl) (And.intro (rfl) (And.intro (rfl) (And.intro (rfl) trivial)))) (Nat.le_of_ble_eq_true rfl) (Nat.le_of_ble_eq_true rfl)
