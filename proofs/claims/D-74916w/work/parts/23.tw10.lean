/-! the twin: parsing -/
set_option maxHeartbeats 4000000 in
set_option maxRecDepth 100000 in
theorem ct_X4_require (D : zG) (B : Nat) {b : zH} {t : tA} {st : Nat → Int32} {bk : Nat → Int32} {sv : Nat → Int32} {iz : Nat → Int32} {th : Int32} {di : Nat → Int32} {re : Nat → Int32} {si : Nat → Int32} {pa : Nat → Int32} {fo : Nat → Int64} {te : Nat → Int32} (g k : Int32) (n : Nat) (c : zC)  : Ct D B yX4_require (ws_ yX4_require cX4_require 3 none) (zr 0) [.ref (t.1 0), .int g, .int k] (tw b t st bk sv iz th di re si pa fo te (nI n) (nI (zed te n c.1)) (nI c.1) (nI (zkd te n c.1)) (nI (zleN te n c.1)) (znmN te n c.1) c.2.1 c.2.2 (zwoN te n c.1)) (zpe none (tw b t st bk sv iz th di re si pa fo te (nI n) (nI (zed te n (zrq g k c).1)) (nI (zrq g k c).1) (nI (zkd te n (zrq g k c).1)) (nI (zleN te n (zrq g k c).1)) (znmN te n (zrq g k c).1) (zrq g k c).2.1 (zrq g k c).2.2 (zwoN te n (zrq g k c).1))) zno := by
  refine ct_intro (by decide +kernel) (Nat.le_of_ble_eq_true rfl) ?_
  intro X C
  refine z_iload_n (i := 1) C dX4_require_0 rfl rfl ?_
  refine z_if_ne (tgt := 24) C dX4_require_1 (by decide) (fun c_1 => ?_) (fun c_1 => ?_)
  · exact z_return C rfl dX4_require_24 (⟨rfl, by unfold zrq; simp only [if_neg (fun q : g = 0 ∧ c.2.1 = 0 => c_1 q.1)]⟩) (Nat.le_of_ble_eq_true rfl) (Nat.le_of_ble_eq_true rfl)
  · refine z_aload_n (i := 0) C dX4_require_4 rfl rfl ?_
    refine tg_errorCode C q1881 dX4_require_5 ?_
    refine z_if_ne (tgt := 24) C dX4_require_8 (by decide) (fun c_8 => ?_) (fun c_8 => ?_)
    · exact z_return C rfl dX4_require_24 (⟨rfl, by unfold zrq; simp only [if_neg (fun q : g = 0 ∧ c.2.1 = 0 => c_8 q.2)]⟩) (Nat.le_of_ble_eq_true rfl) (Nat.le_of_ble_eq_true rfl)
    · refine z_aload_n (i := 0) C dX4_require_11 rfl rfl ?_
      refine z_iload_n (i := 2) C dX4_require_12 rfl rfl ?_
      refine tp_errorCode C q1881 dX4_require_13 ?_
      refine z_aload_n (i := 0) C dX4_require_16 rfl rfl ?_
      refine z_aload_n (i := 0) C dX4_require_17 rfl rfl ?_
      refine tg_tokenStart C q1877 dX4_require_18 ?_
      refine tp_errorPosition C q1882 dX4_require_21 ?_
      exact z_return C rfl dX4_require_24 (⟨rfl, by unfold zrq; simp only [if_pos (And.intro c_1 c_8)]⟩) (Nat.le_of_ble_eq_true rfl) (Nat.le_of_ble_eq_true rfl)
theorem np_X4_nextToken : znp yX4_nextToken 0 := ⟨by decide +kernel, by decide +kernel, by decide +kernel⟩
set_option maxHeartbeats 4000000 in
set_option maxRecDepth 100000 in
theorem ct_X4_advance (D : zG) (B : Nat) {b : zH} {t : tA} {st : Nat → Int32} {bk : Nat → Int32} {sv : Nat → Int32} {iz : Nat → Int32} {th : Int32} {di : Nat → Int32} {re : Nat → Int32} {si : Nat → Int32} {pa : Nat → Int32} {fo : Nat → Int64} {te : Nat → Int32}  (n : Nat) (hn5 : n ≤ 500) (hte : ∀ j, j < n → ¬ te j = -1) (c : zC) (hc : c.1 ≤ n) : Ct D B yX4_advance (ws_ yX4_advance cX4_advance 1 none) (zr 3) [.ref (t.1 0)] (tw b t st bk sv iz th di re si pa fo te (nI n) (nI (zed te n c.1)) (nI c.1) (nI (zkd te n c.1)) (nI (zleN te n c.1)) (znmN te n c.1) c.2.1 c.2.2 (zwoN te n c.1)) (zpe none (tw b t st bk sv iz th di re si pa fo te (nI n) (nI (zed te n (zad te n c).1)) (nI (zad te n c).1) (nI (zkd te n (zad te n c).1)) (nI (zleN te n (zad te n c).1)) (znmN te n (zad te n c).1) (zad te n c).2.1 (zad te n c).2.2 (zwoN te n (zad te n c).1))) zno := by
  refine ct_intro (by decide +kernel) (Nat.le_of_ble_eq_true rfl) ?_
  intro X C
  refine z_aload_n (i := 0) C dX4_advance_0 rfl rfl ?_
  refine tg_errorCode C q1881 dX4_advance_1 ?_
  refine z_if_ne (tgt := 11) C dX4_advance_4 (by decide) (fun c_4 => ?_) (fun c_4 => ?_)
  · exact z_return C rfl dX4_advance_11 (⟨rfl, (congrArg (fun c9 : zC => (tw b t st bk sv iz th di re si pa fo te (nI n) (nI (zed te n c9.1)) (nI c9.1) (nI (zkd te n c9.1)) (nI (zleN te n c9.1)) (znmN te n c9.1) c9.2.1 c9.2.2 (zwoN te n c9.1))) (show zad te n c = _ from if_neg c_4)).symm⟩) (Nat.le_of_ble_eq_true rfl) (Nat.le_of_ble_eq_true rfl)
  · refine z_aload_n (i := 0) C dX4_advance_7 rfl rfl ?_
    refine z_callVe C (tw_obj) rfl (ct_X4_nextToken D B (zed te n c.1) n hn5 hte rfl (zed_le hc) rfl) q2325 q2327 qs71 q106 q2328 np_X4_nextToken (zr_ok rfl rfl) rfl rfl (Nat.le_of_ble_eq_true rfl) (⟨Nat.le_of_ble_eq_true rfl, Nat.le_of_ble_eq_true rfl⟩) dX4_advance_8 ?_
    exact z_return C rfl dX4_advance_11 (⟨rfl, (congrArg (fun c9 : zC => (tw b t st bk sv iz th di re si pa fo te (nI n) (nI (zed te n c9.1)) (nI c9.1) (nI (zkd te n c9.1)) (nI (zleN te n c9.1)) (znmN te n c9.1) c9.2.1 c9.2.2 (zwoN te n c9.1))) (show zad te n c = _ from if_pos c_4)).symm⟩) (Nat.le_of_ble_eq_true rfl) (Nat.le_of_ble_eq_true rfl)
theorem np_X4_require : znp yX4_require 2 := ⟨by decide +kernel, by decide +kernel, by decide +kernel⟩
theorem np_X4_advance : znp yX4_advance 0 := ⟨by decide +kernel, by decide +kernel, by decide +kernel⟩
set_option maxHeartbeats 4000000 in
set_option maxRecDepth 100000 in
theorem ct_X4_parseNumber (D : zG) (B : Nat) {b : zH} {t : tA} {st : Nat → Int32} {bk : Nat → Int32} {sv : Nat → Int32} {iz : Nat → Int32} {th : Int32} {di : Nat → Int32} {re : Nat → Int32} {si : Nat → Int32} {pa : Nat → Int32} {fo : Nat → Int64} {te : Nat → Int32} (lo hi : Int32) (n : Nat) (hn5 : n ≤ 500) (hte : ∀ j, j < n → ¬ te j = -1) (c : zC) (hc : c.1 ≤ n) : Ct D B yX4_parseNumber (ws_ yX4_parseNumber cX4_parseNumber 4 (some .int)) (zr 4) [.ref (t.1 0), .int lo, .int hi] (tw b t st bk sv iz th di re si pa fo te (nI n) (nI (zed te n c.1)) (nI c.1) (nI (zkd te n c.1)) (nI (zleN te n c.1)) (znmN te n c.1) c.2.1 c.2.2 (zwoN te n c.1)) (zpe (some (.int (zpN te n lo hi c).1)) (tw b t st bk sv iz th di re si pa fo te (nI n) (nI (zed te n (zpN te n lo hi c).2.1)) (nI (zpN te n lo hi c).2.1) (nI (zkd te n (zpN te n lo hi c).2.1)) (nI (zleN te n (zpN te n lo hi c).2.1)) (znmN te n (zpN te n lo hi c).2.1) (zpN te n lo hi c).2.2.1 (zpN te n lo hi c).2.2.2 (zwoN te n (zpN te n lo hi c).2.1))) zno := by
  refine ct_intro (by decide +kernel) (Nat.le_of_ble_eq_true rfl) ?_
  intro X C
  refine z_aload_n (i := 0) C dX4_parseNumber_0 rfl rfl ?_
  refine z_aload_n (i := 0) C dX4_parseNumber_1 rfl rfl ?_
  refine tg_token C q1878 dX4_parseNumber_2 ?_
  refine z_iconst (v := 3) C dX4_parseNumber_5 (by decide) ?_
  refine z_icmp_ne (tgt := 13) C dX4_parseNumber_6 (by decide) (fun c_6 => ?_) (fun c_6 => ?_)
  · refine z_iconst (v := 0) C dX4_parseNumber_13 (by decide) ?_
    refine z_seti (y := zb (nI (zkd te n c.1) = 3)) (zb_f c_6).symm ?_
    refine z_iconst (v := 1) C dX4_parseNumber_14 (by decide) ?_
    refine z_callVe C (tw_obj) rfl (ct_X4_require D B _ _ n c) q2366 q2368 qs76 q106 q2369 np_X4_require (zr_ok rfl rfl) rfl rfl (Nat.le_of_ble_eq_true rfl) (⟨Nat.le_of_ble_eq_true rfl, Nat.le_of_ble_eq_true rfl⟩) dX4_parseNumber_15 ?_
    refine z_aload_n (i := 0) C dX4_parseNumber_18 rfl rfl ?_
    refine z_aload_n (i := 0) C dX4_parseNumber_19 rfl rfl ?_
    refine tg_number C q1880 dX4_parseNumber_20 ?_
    refine z_iload_n (i := 1) C dX4_parseNumber_23 rfl rfl ?_
    refine z_iload_n (i := 2) C dX4_parseNumber_24 rfl rfl ?_
    refine z_callSe C (ct_X4_isBetween D B _ _ _) q1934 q1935 q106 q1936 np_X4_isBetween (zr_ok rfl rfl) rfl rfl (Nat.le_of_ble_eq_true rfl) (⟨Nat.le_of_ble_eq_true rfl, Nat.le_of_ble_eq_true rfl⟩) dX4_parseNumber_25 ?_
    refine z_iconst (v := 2) C dX4_parseNumber_28 (by decide) ?_
    refine z_callVe C (tw_obj) rfl (ct_X4_require D B _ _ n (zrq (zb (nI (zkd te n c.1) = 3)) 1 c)) q2366 q2368 qs76 q106 q2369 np_X4_require (zr_ok rfl rfl) rfl rfl (Nat.le_of_ble_eq_true rfl) (⟨Nat.le_of_ble_eq_true rfl, Nat.le_of_ble_eq_true rfl⟩) dX4_parseNumber_29 ?_
    refine z_aload_n (i := 0) C dX4_parseNumber_32 rfl rfl ?_
    refine tg_number C q1880 dX4_parseNumber_33 ?_
    refine z_istore_n (i := 3) C dX4_parseNumber_36 rfl (Nat.le_of_ble_eq_true rfl) rfl ?_
    refine z_aload_n (i := 0) C dX4_parseNumber_37 rfl rfl ?_
    refine z_callVe C (tw_obj) rfl (ct_X4_advance D B n hn5 hte (zrq _ 2 (zrq _ 1 c)) (hc)) q2370 q2372 qs77 q106 q2373 np_X4_advance (zr_ok rfl rfl) rfl rfl (Nat.le_of_ble_eq_true rfl) (⟨Nat.le_of_ble_eq_true rfl, Nat.le_of_ble_eq_true rfl⟩) dX4_parseNumber_38 ?_
    refine z_iload_n (i := 3) C dX4_parseNumber_41 rfl rfl ?_
    exact z_ireturn C rfl (rfl) dX4_parseNumber_42 (⟨rfl, rfl⟩) (Nat.le_of_ble_eq_true rfl) (Nat.le_of_ble_eq_true rfl)
  · refine z_iconst (v := 1) C dX4_parseNumber_9 (by decide) ?_
    refine z_seti (y := zb (nI (zkd te n c.1) = 3)) (zb_t c_6).symm ?_
    refine z_goto (tgt := 14) C dX4_parseNumber_10 (by decide) ?_
    refine z_iconst (v := 1) C dX4_parseNumber_14 (by decide) ?_
    refine z_callVe C (tw_obj) rfl (ct_X4_require D B _ _ n c) q2366 q2368 qs76 q106 q2369 np_X4_require (zr_ok rfl rfl) rfl rfl (Nat.le_of_ble_eq_true rfl) (⟨Nat.le_of_ble_eq_true rfl, Nat.le_of_ble_eq_true rfl⟩) dX4_parseNumber_15 ?_
    refine z_aload_n (i := 0) C dX4_parseNumber_18 rfl rfl ?_
    refine z_aload_n (i := 0) C dX4_parseNumber_19 rfl rfl ?_
    refine tg_number C q1880 dX4_parseNumber_20 ?_
    refine z_iload_n (i := 1) C dX4_parseNumber_23 rfl rfl ?_
    refine z_iload_n (i := 2) C dX4_parseNumber_24 rfl rfl ?_
    refine z_callSe C (ct_X4_isBetween D B _ _ _) q1934 q1935 q106 q1936 np_X4_isBetween (zr_ok rfl rfl) rfl rfl (Nat.le_of_ble_eq_true rfl) (⟨Nat.le_of_ble_eq_true rfl, Nat.le_of_ble_eq_true rfl⟩) dX4_parseNumber_25 ?_
    refine z_iconst (v := 2) C dX4_parseNumber_28 (by decide) ?_
    refine z_callVe C (tw_obj) rfl (ct_X4_require D B _ _ n (zrq (zb (nI (zkd te n c.1) = 3)) 1 c)) q2366 q2368 qs76 q106 q2369 np_X4_require (zr_ok rfl rfl) rfl rfl (Nat.le_of_ble_eq_true rfl) (⟨Nat.le_of_ble_eq_true rfl, Nat.le_of_ble_eq_true rfl⟩) dX4_parseNumber_29 ?_
    refine z_aload_n (i := 0) C dX4_parseNumber_32 rfl rfl ?_
    refine tg_number C q1880 dX4_parseNumber_33 ?_
    refine z_istore_n (i := 3) C dX4_parseNumber_36 rfl (Nat.le_of_ble_eq_true rfl) rfl ?_
    refine z_aload_n (i := 0) C dX4_parseNumber_37 rfl rfl ?_
    refine z_callVe C (tw_obj) rfl (ct_X4_advance D B n hn5 hte (zrq _ 2 (zrq _ 1 c)) (hc)) q2370 q2372 qs77 q106 q2373 np_X4_advance (zr_ok rfl rfl) rfl rfl (Nat.le_of_ble_eq_true rfl) (⟨Nat.le_of_ble_eq_true rfl, Nat.le_of_ble_eq_true rfl⟩) dX4_parseNumber_38 ?_
    refine z_iload_n (i := 3) C dX4_parseNumber_41 rfl rfl ?_
    exact z_ireturn C rfl (rfl) dX4_parseNumber_42 (⟨rfl, rfl⟩) (Nat.le_of_ble_eq_true rfl) (Nat.le_of_ble_eq_true rfl)
theorem np_X4_parseNumber : znp yX4_parseNumber 2 := ⟨by decide +kernel, by decide +kernel, by decide +kernel⟩
set_option maxHeartbeats 4000000 in
set_option maxRecDepth 100000 in
theorem ct_X4_parseInteger (D : zG) (B : Nat) {b : zH} {t : tA} {st : Nat → Int32} {bk : Nat → Int32} {sv : Nat → Int32} {iz : Nat → Int32} {th : Int32} {di : Nat → Int32} {re : Nat → Int32} {si : Nat → Int32} {pa : Nat → Int32} {fo : Nat → Int64} {te : Nat → Int32} (lo hi : Int32) (n : Nat) (hn5 : n ≤ 500) (hte : ∀ j, j < n → ¬ te j = -1) (c : zC) (hc : c.1 ≤ n) : Ct D B yX4_parseInteger (ws_ yX4_parseInteger cX4_parseInteger 4 (some .int)) (zr 5) [.ref (t.1 0), .int lo, .int hi] (tw b t st bk sv iz th di re si pa fo te (nI n) (nI (zed te n c.1)) (nI c.1) (nI (zkd te n c.1)) (nI (zleN te n c.1)) (znmN te n c.1) c.2.1 c.2.2 (zwoN te n c.1)) (zpe (some (.int (zpI te n lo hi c).1)) (tw b t st bk sv iz th di re si pa fo te (nI n) (nI (zed te n (zpI te n lo hi c).2.1)) (nI (zpI te n lo hi c).2.1) (nI (zkd te n (zpI te n lo hi c).2.1)) (nI (zleN te n (zpI te n lo hi c).2.1)) (znmN te n (zpI te n lo hi c).2.1) (zpI te n lo hi c).2.2.1 (zpI te n lo hi c).2.2.2 (zwoN te n (zpI te n lo hi c).2.1))) zno := by
  refine ct_intro (by decide +kernel) (Nat.le_of_ble_eq_true rfl) ?_
  intro X C
  refine z_aload_n (i := 0) C dX4_parseInteger_0 rfl rfl ?_
  refine tg_token C q1878 dX4_parseInteger_1 ?_
  refine z_iconst (v := 5) C dX4_parseInteger_4 (by decide) ?_
  refine z_icmp_eq (tgt := 15) C dX4_parseInteger_5 (by decide) (fun c_5 => ?_) (fun c_5 => ?_)
  · refine z_aload_n (i := 0) C dX4_parseInteger_15 rfl rfl ?_
    refine z_callVe C (tw_obj) rfl (ct_X4_advance D B n hn5 hte c (hc)) q2370 q2372 qs77 q106 q2373 np_X4_advance (zr_ok rfl rfl) rfl rfl (Nat.le_of_ble_eq_true rfl) (⟨Nat.le_of_ble_eq_true rfl, Nat.le_of_ble_eq_true rfl⟩) dX4_parseInteger_16 ?_
    refine z_aload_n (i := 0) C dX4_parseInteger_19 rfl rfl ?_
    refine z_aload_n (i := 0) C dX4_parseInteger_20 rfl rfl ?_
    refine tg_token C q1878 dX4_parseInteger_21 ?_
    refine z_iconst (v := 3) C dX4_parseInteger_24 (by decide) ?_
    refine z_icmp_ne (tgt := 32) C dX4_parseInteger_25 (by decide) (fun c_25 => ?_) (fun c_25 => ?_)
    · refine z_iconst (v := 0) C dX4_parseInteger_32 (by decide) ?_
      refine z_seti (y := zb (nI (zkd te n (zad te n c).1) = 3)) (zb_f c_25).symm ?_
      refine z_iconst (v := 1) C dX4_parseInteger_33 (by decide) ?_
      refine z_callVe C (tw_obj) rfl (ct_X4_require D B _ _ n (zad te n c)) q2366 q2368 qs76 q106 q2369 np_X4_require (zr_ok rfl rfl) rfl rfl (Nat.le_of_ble_eq_true rfl) (⟨Nat.le_of_ble_eq_true rfl, Nat.le_of_ble_eq_true rfl⟩) dX4_parseInteger_34 ?_
      refine z_aload_n (i := 0) C dX4_parseInteger_37 rfl rfl ?_
      refine z_aload_n (i := 0) C dX4_parseInteger_38 rfl rfl ?_
      refine tg_number C q1880 dX4_parseInteger_39 ?_
      refine z_ineg C dX4_parseInteger_42 ?_
      refine z_iload_n (i := 1) C dX4_parseInteger_43 rfl rfl ?_
      refine z_iload_n (i := 2) C dX4_parseInteger_44 rfl rfl ?_
      refine z_callSe C (ct_X4_isBetween D B _ _ _) q1934 q1935 q106 q1936 np_X4_isBetween (zr_ok rfl rfl) rfl rfl (Nat.le_of_ble_eq_true rfl) (⟨Nat.le_of_ble_eq_true rfl, Nat.le_of_ble_eq_true rfl⟩) dX4_parseInteger_45 ?_
      refine z_iconst (v := 2) C dX4_parseInteger_48 (by decide) ?_
      refine z_callVe C (tw_obj) rfl (ct_X4_require D B _ _ n (zrq (zb (nI (zkd te n (zad te n c).1) = 3)) 1 (zad te n c))) q2366 q2368 qs76 q106 q2369 np_X4_require (zr_ok rfl rfl) rfl rfl (Nat.le_of_ble_eq_true rfl) (⟨Nat.le_of_ble_eq_true rfl, Nat.le_of_ble_eq_true rfl⟩) dX4_parseInteger_49 ?_
      refine z_aload_n (i := 0) C dX4_parseInteger_52 rfl rfl ?_
      refine tg_number C q1880 dX4_parseInteger_53 ?_
      refine z_ineg C dX4_parseInteger_56 ?_
      refine z_istore_n (i := 3) C dX4_parseInteger_57 rfl (Nat.le_of_ble_eq_true rfl) rfl ?_
      refine z_aload_n (i := 0) C dX4_parseInteger_58 rfl rfl ?_
      refine z_callVe C (tw_obj) rfl (ct_X4_advance D B n hn5 hte (zrq _ 2 (zrq _ 1 (zad te n c))) (zad_le hc)) q2370 q2372 qs77 q106 q2373 np_X4_advance (zr_ok rfl rfl) rfl rfl (Nat.le_of_ble_eq_true rfl) (⟨Nat.le_of_ble_eq_true rfl, Nat.le_of_ble_eq_true rfl⟩) dX4_parseInteger_59 ?_
      refine z_iload_n (i := 3) C dX4_parseInteger_62 rfl rfl ?_
      exact z_ireturn C rfl (rfl) dX4_parseInteger_63 (⟨zvs (congrArg Prod.fst (show zpI te n lo hi c = zpJ te n lo hi (zad te n c) from if_pos c_5)).symm, (congrArg (fun c9 : Int32 × zC => (tw b t st bk sv iz th di re si pa fo te (nI n) (nI (zed te n c9.2.1)) (nI c9.2.1) (nI (zkd te n c9.2.1)) (nI (zleN te n c9.2.1)) (znmN te n c9.2.1) c9.2.2.1 c9.2.2.2 (zwoN te n c9.2.1))) (show zpI te n lo hi c = zpJ te n lo hi (zad te n c) from if_pos c_5)).symm⟩) (Nat.le_of_ble_eq_true rfl) (Nat.le_of_ble_eq_true rfl)
    · refine z_iconst (v := 1) C dX4_parseInteger_28 (by decide) ?_
      refine z_seti (y := zb (nI (zkd te n (zad te n c).1) = 3)) (zb_t c_25).symm ?_
      refine z_goto (tgt := 33) C dX4_parseInteger_29 (by decide) ?_
      refine z_iconst (v := 1) C dX4_parseInteger_33 (by decide) ?_
      refine z_callVe C (tw_obj) rfl (ct_X4_require D B _ _ n (zad te n c)) q2366 q2368 qs76 q106 q2369 np_X4_require (zr_ok rfl rfl) rfl rfl (Nat.le_of_ble_eq_true rfl) (⟨Nat.le_of_ble_eq_true rfl, Nat.le_of_ble_eq_true rfl⟩) dX4_parseInteger_34 ?_
      refine z_aload_n (i := 0) C dX4_parseInteger_37 rfl rfl ?_
      refine z_aload_n (i := 0) C dX4_parseInteger_38 rfl rfl ?_
      refine tg_number C q1880 dX4_parseInteger_39 ?_
      refine z_ineg C dX4_parseInteger_42 ?_
      refine z_iload_n (i := 1) C dX4_parseInteger_43 rfl rfl ?_
      refine z_iload_n (i := 2) C dX4_parseInteger_44 rfl rfl ?_
      refine z_callSe C (ct_X4_isBetween D B _ _ _) q1934 q1935 q106 q1936 np_X4_isBetween (zr_ok rfl rfl) rfl rfl (Nat.le_of_ble_eq_true rfl) (⟨Nat.le_of_ble_eq_true rfl, Nat.le_of_ble_eq_true rfl⟩) dX4_parseInteger_45 ?_
      refine z_iconst (v := 2) C dX4_parseInteger_48 (by decide) ?_
      refine z_callVe C (tw_obj) rfl (ct_X4_require D B _ _ n (zrq (zb (nI (zkd te n (zad te n c).1) = 3)) 1 (zad te n c))) q2366 q2368 qs76 q106 q2369 np_X4_require (zr_ok rfl rfl) rfl rfl (Nat.le_of_ble_eq_true rfl) (⟨Nat.le_of_ble_eq_true rfl, Nat.le_of_ble_eq_true rfl⟩) dX4_parseInteger_49 ?_
      refine z_aload_n (i := 0) C dX4_parseInteger_52 rfl rfl ?_
      refine tg_number C q1880 dX4_parseInteger_53 ?_
      refine z_ineg C dX4_parseInteger_56 ?_
      refine z_istore_n (i := 3) C dX4_parseInteger_57 rfl (Nat.le_of_ble_eq_true rfl) rfl ?_
      refine z_aload_n (i := 0) C dX4_parseInteger_58 rfl rfl ?_
      refine z_callVe C (tw_obj) rfl (ct_X4_advance D B n hn5 hte (zrq _ 2 (zrq _ 1 (zad te n c))) (zad_le hc)) q2370 q2372 qs77 q106 q2373 np_X4_advance (zr_ok rfl rfl) rfl rfl (Nat.le_of_ble_eq_true rfl) (⟨Nat.le_of_ble_eq_true rfl, Nat.le_of_ble_eq_true rfl⟩) dX4_parseInteger_59 ?_
      refine z_iload_n (i := 3) C dX4_parseInteger_62 rfl rfl ?_
      exact z_ireturn C rfl (rfl) dX4_parseInteger_63 (⟨zvs (congrArg Prod.fst (show zpI te n lo hi c = zpJ te n lo hi (zad te n c) from if_pos c_5)).symm, (congrArg (fun c9 : Int32 × zC => (tw b t st bk sv iz th di re si pa fo te (nI n) (nI (zed te n c9.2.1)) (nI c9.2.1) (nI (zkd te n c9.2.1)) (nI (zleN te n c9.2.1)) (znmN te n c9.2.1) c9.2.2.1 c9.2.2.2 (zwoN te n c9.2.1))) (show zpI te n lo hi c = zpJ te n lo hi (zad te n c) from if_pos c_5)).symm⟩) (Nat.le_of_ble_eq_true rfl) (Nat.le_of_ble_eq_true rfl)
  · refine z_aload_n (i := 0) C dX4_parseInteger_8 rfl rfl ?_
    refine z_iload_n (i := 1) C dX4_parseInteger_9 rfl rfl ?_
    refine z_iload_n (i := 2) C dX4_parseInteger_10 rfl rfl ?_
    refine z_callVe C (tw_obj) rfl (ct_X4_parseNumber D B lo hi n hn5 hte c hc) q2378 q2380 qs79 q106 q2381 np_X4_parseNumber (zr_ok rfl rfl) rfl rfl (Nat.le_of_ble_eq_true rfl) (⟨Nat.le_of_ble_eq_true rfl, Nat.le_of_ble_eq_true rfl⟩) dX4_parseInteger_11 ?_
    exact z_ireturn C rfl (rfl) dX4_parseInteger_14 (⟨zvs (congrArg Prod.fst (show zpI te n lo hi c = zpN te n lo hi c from if_neg c_5)).symm, (congrArg (fun c9 : Int32 × zC => (tw b t st bk sv iz th di re si pa fo te (nI n) (nI (zed te n c9.2.1)) (nI c9.2.1) (nI (zkd te n c9.2.1)) (nI (zleN te n c9.2.1)) (znmN te n c9.2.1) c9.2.2.1 c9.2.2.2 (zwoN te n c9.2.1))) (show zpI te n lo hi c = zpN te n lo hi c from if_neg c_5)).symm⟩) (Nat.le_of_ble_eq_true rfl) (Nat.le_of_ble_eq_true rfl)
