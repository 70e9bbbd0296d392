/-! the twin: statements -/
theorem zpM_le {te : Nat → Int32} {n : Nat} {S : Nat → Int32} {c : zC} (h : c.1 ≤ n) : (zpM te n S c).2.1 ≤ n := zpN_le (c := (zpM4 te n S c).2) (zpN_le (c := (zpM3 te n S c).2) (zpI_le (c := (zpM2 te n S c).2) (zpI_le (c := zpM1 te n S c) (zad_le (c := zrq _ 3 c) h))))
theorem zpV_le {te : Nat → Int32} {n : Nat} {S : Nat → Int32} {c : zC} (h : c.1 ≤ n) : (zpV te n S c).2.1 ≤ n := zpI_le (c := (zpV3 te n S c).2) (zpI_le (c := (zpV2 te n S c).2) (zpI_le (c := zpV1 te n S c) (zad_le (c := zrq _ 3 c) h)))
theorem zpS5_le {te : Nat → Int32} {n : Nat} {S : Nat → Int32} {c : zC} (h : c.1 ≤ n) : (zpS5 te n S c).2.1 ≤ n := zpN_le (c := (zpS4 te n S c).2) (zpN_le (c := (zpS3 te n S c).2) (zpI_le (c := (zpS2 te n S c).2) (zpN_le (c := zpS1 te n S c) (zad_le (c := zrq _ 3 c) h))))
theorem zpS_le {te : Nat → Int32} {n : Nat} {S : Nat → Int32} {c : zC} (h : c.1 ≤ n) : (zpS te n S c).2.1 ≤ n := by
  unfold zpS
  split
  · exact zpX_le (zpS5_le h) 16
  · exact zpX_le (zpS5_le h) 16
theorem zpU_le {te : Nat → Int32} {n : Nat} {S : Nat → Int32} {c : zC} (h : c.1 ≤ n) : (zpU te n S c).2.1 ≤ n := by
  unfold zpU
  split
  · exact zpM_le h
  split
  · exact zpV_le h
  split
  · exact zpS_le h
  split
  · exact zpN_le (zad_le h)
  split
  · exact zpI_le (zad_le h)
  split
  · exact zpN_le (zad_le h)
  · exact zad_le (c := zrq _ 1 c) h
theorem np_X4_isWord : znp yX4_isWord 1 := ⟨by decide +kernel, by decide +kernel, by decide +kernel⟩
theorem np_X4_parseMicrophone : znp yX4_parseMicrophone 0 := ⟨by decide +kernel, by decide +kernel, by decide +kernel⟩
theorem np_X4_parseVehicle : znp yX4_parseVehicle 0 := ⟨by decide +kernel, by decide +kernel, by decide +kernel⟩
theorem np_X4_parseSource : znp yX4_parseSource 0 := ⟨by decide +kernel, by decide +kernel, by decide +kernel⟩
set_option maxHeartbeats 4000000 in
set_option maxRecDepth 100000 in
theorem ct_X4_parseStatement (D : zG) (B : Nat) {b : zH} {t : tA} {st : Nat → Int32} {bk : Nat → Int32} {sv : Nat → Int32} {iz : Nat → Int32} {th : Int32} {di : Nat → Int32} {re : Nat → Int32} {si : Nat → Int32} {pa : Nat → Int32} {fo : Nat → Int64} {te : Nat → Int32}  (n : Nat) (hn5 : n ≤ 500) (hte : ∀ j, j < n → ¬ te j = -1) (c : zC) (hc : c.1 ≤ n) (k6 k7 k8 : Nat) (h6 : st 6 = nI k6) (h66 : k6 ≤ 4) (h7 : st 7 = nI k7) (h77 : k7 ≤ 6) (h8 : st 8 = nI k8) (h88 : k8 ≤ 8) : Ct D B yX4_parseStatement (ws_ yX4_parseStatement cX4_parseStatement 1 none) (zr 7) [.ref (t.1 0)] (tw b t st bk sv iz th di re si pa fo te (nI n) (nI (zed te n c.1)) (nI c.1) (nI (zkd te n c.1)) (nI (zleN te n c.1)) (znmN te n c.1) c.2.1 c.2.2 (zwoN te n c.1)) (zpe none (tw b t (zpT te n st c).1 bk sv iz th di re si pa fo te (nI n) (nI (zed te n (zpT te n st c).2.1)) (nI (zpT te n st c).2.1) (nI (zkd te n (zpT te n st c).2.1)) (nI (zleN te n (zpT te n st c).2.1)) (znmN te n (zpT te n st c).2.1) (zpT te n st c).2.2.1 (zpT te n st c).2.2.2 (zwoN te n (zpT te n st c).2.1))) zno := by
  refine ct_intro (by decide +kernel) (Nat.le_of_ble_eq_true rfl) ?_
  intro X C
  refine z_aload_n (i := 0) C dX4_parseStatement_0 rfl rfl ?_
  refine z_ldcSw (i := 1) (tx := "mic") C (by decide) dX4_parseStatement_1 ?_
  refine z_callVe C (tw_obj) rfl (ct_X4_isWord D B 1 (by decide)) q2346 q2348 qs74 q106 q2349 np_X4_isWord (zr_ok rfl rfl) rfl rfl (Nat.le_of_ble_eq_true rfl) (⟨Nat.le_of_ble_eq_true rfl, Nat.le_of_ble_eq_true rfl⟩) dX4_parseStatement_4 ?_
  refine z_seti (y := zb (zwd te n c 1)) rfl ?_
  refine z_if_eq (tgt := 17) C dX4_parseStatement_7 (by decide) (fun c_7 => ?_) (fun c_7 => ?_)
  · refine z_aload_n (i := 0) C dX4_parseStatement_17 rfl rfl ?_
    refine z_ldcSw (i := 2) (tx := "vehicle") C (by decide) dX4_parseStatement_18 ?_
    refine z_callVe C (tw_obj) rfl (ct_X4_isWord D B 2 (by decide)) q2346 q2348 qs74 q106 q2349 np_X4_isWord (zr_ok rfl rfl) rfl rfl (Nat.le_of_ble_eq_true rfl) (⟨Nat.le_of_ble_eq_true rfl, Nat.le_of_ble_eq_true rfl⟩) dX4_parseStatement_21 ?_
    refine z_seti (y := zb (zwd te n c 2)) rfl ?_
    refine z_if_eq (tgt := 34) C dX4_parseStatement_24 (by decide) (fun c_24 => ?_) (fun c_24 => ?_)
    · refine z_aload_n (i := 0) C dX4_parseStatement_34 rfl rfl ?_
      refine z_ldcSw (i := 3) (tx := "source") C (by decide) dX4_parseStatement_35 ?_
      refine z_callVe C (tw_obj) rfl (ct_X4_isWord D B 3 (by decide)) q2346 q2348 qs74 q106 q2349 np_X4_isWord (zr_ok rfl rfl) rfl rfl (Nat.le_of_ble_eq_true rfl) (⟨Nat.le_of_ble_eq_true rfl, Nat.le_of_ble_eq_true rfl⟩) dX4_parseStatement_38 ?_
      refine z_seti (y := zb (zwd te n c 3)) rfl ?_
      refine z_if_eq (tgt := 51) C dX4_parseStatement_41 (by decide) (fun c_41 => ?_) (fun c_41 => ?_)
      · refine z_aload_n (i := 0) C dX4_parseStatement_51 rfl rfl ?_
        refine z_ldcSw (i := 4) (tx := "sound") C (by decide) dX4_parseStatement_52 ?_
        refine z_callVe C (tw_obj) rfl (ct_X4_isWord D B 4 (by decide)) q2346 q2348 qs74 q106 q2349 np_X4_isWord (zr_ok rfl rfl) rfl rfl (Nat.le_of_ble_eq_true rfl) (⟨Nat.le_of_ble_eq_true rfl, Nat.le_of_ble_eq_true rfl⟩) dX4_parseStatement_55 ?_
        refine z_seti (y := zb (zwd te n c 4)) rfl ?_
        refine z_if_eq (tgt := 83) C dX4_parseStatement_58 (by decide) (fun c_58 => ?_) (fun c_58 => ?_)
        · refine z_aload_n (i := 0) C dX4_parseStatement_83 rfl rfl ?_
          refine z_ldcSw (i := 5) (tx := "ground") C (by decide) dX4_parseStatement_84 ?_
          refine z_callVe C (tw_obj) rfl (ct_X4_isWord D B 5 (by decide)) q2346 q2348 qs74 q106 q2349 np_X4_isWord (zr_ok rfl rfl) rfl rfl (Nat.le_of_ble_eq_true rfl) (⟨Nat.le_of_ble_eq_true rfl, Nat.le_of_ble_eq_true rfl⟩) dX4_parseStatement_87 ?_
          refine z_seti (y := zb (zwd te n c 5)) rfl ?_
          refine z_if_eq (tgt := 114) C dX4_parseStatement_90 (by decide) (fun c_90 => ?_) (fun c_90 => ?_)
          · refine z_aload_n (i := 0) C dX4_parseStatement_114 rfl rfl ?_
            refine z_ldcSw (i := 6) (tx := "noise") C (by decide) dX4_parseStatement_115 ?_
            refine z_callVe C (tw_obj) rfl (ct_X4_isWord D B 6 (by decide)) q2346 q2348 qs74 q106 q2349 np_X4_isWord (zr_ok rfl rfl) rfl rfl (Nat.le_of_ble_eq_true rfl) (⟨Nat.le_of_ble_eq_true rfl, Nat.le_of_ble_eq_true rfl⟩) dX4_parseStatement_118 ?_
            refine z_seti (y := zb (zwd te n c 6)) rfl ?_
            refine z_if_eq (tgt := 144) C dX4_parseStatement_121 (by decide) (fun c_121 => ?_) (fun c_121 => ?_)
            · refine z_aload_n (i := 0) C dX4_parseStatement_144 rfl rfl ?_
              refine z_aload_n (i := 0) C dX4_parseStatement_145 rfl rfl ?_
              refine z_ldcSw (i := 7) (tx := "spreading") C (by decide) dX4_parseStatement_146 ?_
              refine z_callVe C (tw_obj) rfl (ct_X4_isWord D B 7 (by decide)) q2346 q2348 qs74 q106 q2349 np_X4_isWord (zr_ok rfl rfl) rfl rfl (Nat.le_of_ble_eq_true rfl) (⟨Nat.le_of_ble_eq_true rfl, Nat.le_of_ble_eq_true rfl⟩) dX4_parseStatement_149 ?_
              refine z_seti (y := zb (zwd te n c 7)) rfl ?_
              refine z_iconst (v := 1) C dX4_parseStatement_152 (by decide) ?_
              refine z_callVe C (tw_obj) rfl (ct_X4_require D B _ _ n c) q2366 q2368 qs76 q106 q2369 np_X4_require (zr_ok rfl rfl) rfl rfl (Nat.le_of_ble_eq_true rfl) (⟨Nat.le_of_ble_eq_true rfl, Nat.le_of_ble_eq_true rfl⟩) dX4_parseStatement_153 ?_
              refine z_aload_n (i := 0) C dX4_parseStatement_156 rfl rfl ?_
              refine z_callVe C (tw_obj) rfl (ct_X4_advance D B n hn5 hte (zrq _ 1 c) (hc)) q2370 q2372 qs77 q106 q2373 np_X4_advance (zr_ok rfl rfl) rfl rfl (Nat.le_of_ble_eq_true rfl) (⟨Nat.le_of_ble_eq_true rfl, Nat.le_of_ble_eq_true rfl⟩) dX4_parseStatement_157 ?_
              refine z_aload_n (i := 0) C dX4_parseStatement_160 rfl rfl ?_
              refine tg_state C q1864 dX4_parseStatement_161 ?_
              refine z_iconst (v := 2) C dX4_parseStatement_164 (by decide) ?_
              refine z_iconst (v := 1) C dX4_parseStatement_165 (by decide) ?_
              refine ts_state (j := 2) C ⟨rfl, by decide⟩ dX4_parseStatement_166 ?_
              refine z_heap (G' := (tw b t (zpU te n st c).1 bk sv iz th di re si pa fo te (nI n) (nI (zed te n (zpU te n st c).2.1)) (nI (zpU te n st c).2.1) (nI (zkd te n (zpU te n st c).2.1)) (nI (zleN te n (zpU te n st c).2.1)) (znmN te n (zpU te n st c).2.1) (zpU te n st c).2.2.1 (zpU te n st c).2.2.2 (zwoN te n (zpU te n st c).2.1))) (congrArg (fun c9 : (Nat → Int32) × zC => (tw b t c9.1 bk sv iz th di re si pa fo te (nI n) (nI (zed te n c9.2.1)) (nI c9.2.1) (nI (zkd te n c9.2.1)) (nI (zleN te n c9.2.1)) (znmN te n c9.2.1) c9.2.2.1 c9.2.2.2 (zwoN te n c9.2.1))) (show zpU te n st c = (upd st 2 1, zad te n (zrq (zb (zwd te n c 7)) 1 c)) from by unfold zpU; rw [if_neg (zb_eq.mp c_7), if_neg (zb_eq.mp c_24), if_neg (zb_eq.mp c_41), if_neg (zb_eq.mp c_58), if_neg (zb_eq.mp c_90), if_neg (zb_eq.mp c_121)])).symm ?_
              refine z_aload_n (i := 0) C dX4_parseStatement_167 rfl rfl ?_
              refine z_aload_n (i := 0) C dX4_parseStatement_168 rfl rfl ?_
              refine tg_token C q1878 dX4_parseStatement_169 ?_
              refine z_iconst (v := 4) C dX4_parseStatement_172 (by decide) ?_
              refine z_icmp_ne (tgt := 180) C dX4_parseStatement_173 (by decide) (fun c_173 => ?_) (fun c_173 => ?_)
              · refine z_iconst (v := 0) C dX4_parseStatement_180 (by decide) ?_
                refine z_seti (y := zb (nI (zkd te n (zpU te n st c).2.1) = 4)) (zb_f c_173).symm ?_
                refine z_iconst (v := 1) C dX4_parseStatement_181 (by decide) ?_
                refine z_callVe C (tw_obj) rfl (ct_X4_require D B _ _ n (zpU te n st c).2) q2366 q2368 qs76 q106 q2369 np_X4_require (zr_ok rfl rfl) rfl rfl (Nat.le_of_ble_eq_true rfl) (⟨Nat.le_of_ble_eq_true rfl, Nat.le_of_ble_eq_true rfl⟩) dX4_parseStatement_182 ?_
                refine z_aload_n (i := 0) C dX4_parseStatement_185 rfl rfl ?_
                refine z_callVe C (tw_obj) rfl (ct_X4_advance D B n hn5 hte (zrq _ 1 (zpU te n st c).2) (zpU_le hc)) q2370 q2372 qs77 q106 q2373 np_X4_advance (zr_ok rfl rfl) rfl rfl (Nat.le_of_ble_eq_true rfl) (⟨Nat.le_of_ble_eq_true rfl, Nat.le_of_ble_eq_true rfl⟩) dX4_parseStatement_186 ?_
                exact z_return C rfl dX4_parseStatement_189 (⟨rfl, rfl⟩) (Nat.le_of_ble_eq_true rfl) (Nat.le_of_ble_eq_true rfl)
              · refine z_iconst (v := 1) C dX4_parseStatement_176 (by decide) ?_
                refine z_seti (y := zb (nI (zkd te n (zpU te n st c).2.1) = 4)) (zb_t c_173).symm ?_
                refine z_goto (tgt := 181) C dX4_parseStatement_177 (by decide) ?_
                refine z_iconst (v := 1) C dX4_parseStatement_181 (by decide) ?_
                refine z_callVe C (tw_obj) rfl (ct_X4_require D B _ _ n (zpU te n st c).2) q2366 q2368 qs76 q106 q2369 np_X4_require (zr_ok rfl rfl) rfl rfl (Nat.le_of_ble_eq_true rfl) (⟨Nat.le_of_ble_eq_true rfl, Nat.le_of_ble_eq_true rfl⟩) dX4_parseStatement_182 ?_
                refine z_aload_n (i := 0) C dX4_parseStatement_185 rfl rfl ?_
                refine z_callVe C (tw_obj) rfl (ct_X4_advance D B n hn5 hte (zrq _ 1 (zpU te n st c).2) (zpU_le hc)) q2370 q2372 qs77 q106 q2373 np_X4_advance (zr_ok rfl rfl) rfl rfl (Nat.le_of_ble_eq_true rfl) (⟨Nat.le_of_ble_eq_true rfl, Nat.le_of_ble_eq_true rfl⟩) dX4_parseStatement_186 ?_
                exact z_return C rfl dX4_parseStatement_189 (⟨rfl, rfl⟩) (Nat.le_of_ble_eq_true rfl) (Nat.le_of_ble_eq_true rfl)
            · refine z_aload_n (i := 0) C dX4_parseStatement_124 rfl rfl ?_
              refine z_callVe C (tw_obj) rfl (ct_X4_advance D B n hn5 hte c (hc)) q2370 q2372 qs77 q106 q2373 np_X4_advance (zr_ok rfl rfl) rfl rfl (Nat.le_of_ble_eq_true rfl) (⟨Nat.le_of_ble_eq_true rfl, Nat.le_of_ble_eq_true rfl⟩) dX4_parseStatement_125 ?_
              refine z_aload_n (i := 0) C dX4_parseStatement_128 rfl rfl ?_
              refine tg_state C q1864 dX4_parseStatement_129 ?_
              refine z_iconst (v := 4) C dX4_parseStatement_132 (by decide) ?_
              refine z_aload_n (i := 0) C dX4_parseStatement_133 rfl rfl ?_
              refine z_iconst (v := 0) C dX4_parseStatement_134 (by decide) ?_
              refine z_bipush (v := 99) C dX4_parseStatement_135 (by decide) ?_
              refine z_callVe C (tw_obj) rfl (ct_X4_parseNumber D B 0 99 n hn5 hte (zad te n c) (zad_le hc)) q2378 q2380 qs79 q106 q2381 np_X4_parseNumber (zr_ok rfl rfl) rfl rfl (Nat.le_of_ble_eq_true rfl) (⟨Nat.le_of_ble_eq_true rfl, Nat.le_of_ble_eq_true rfl⟩) dX4_parseStatement_137 ?_
              refine ts_state (j := 4) C ⟨rfl, by decide⟩ dX4_parseStatement_140 ?_
              refine z_goto (tgt := 167) C dX4_parseStatement_141 (by decide) ?_
              refine z_heap (G' := (tw b t (zpU te n st c).1 bk sv iz th di re si pa fo te (nI n) (nI (zed te n (zpU te n st c).2.1)) (nI (zpU te n st c).2.1) (nI (zkd te n (zpU te n st c).2.1)) (nI (zleN te n (zpU te n st c).2.1)) (znmN te n (zpU te n st c).2.1) (zpU te n st c).2.2.1 (zpU te n st c).2.2.2 (zwoN te n (zpU te n st c).2.1))) (congrArg (fun c9 : (Nat → Int32) × zC => (tw b t c9.1 bk sv iz th di re si pa fo te (nI n) (nI (zed te n c9.2.1)) (nI c9.2.1) (nI (zkd te n c9.2.1)) (nI (zleN te n c9.2.1)) (znmN te n c9.2.1) c9.2.2.1 c9.2.2.2 (zwoN te n c9.2.1))) (show zpU te n st c = (upd st 4 (zpN te n 0 99 (zad te n c)).1, (zpN te n 0 99 (zad te n c)).2) from by unfold zpU; rw [if_neg (zb_eq.mp c_7), if_neg (zb_eq.mp c_24), if_neg (zb_eq.mp c_41), if_neg (zb_eq.mp c_58), if_neg (zb_eq.mp c_90), if_pos (zb_ne.mp c_121)])).symm ?_
              refine z_aload_n (i := 0) C dX4_parseStatement_167 rfl rfl ?_
              refine z_aload_n (i := 0) C dX4_parseStatement_168 rfl rfl ?_
              refine tg_token C q1878 dX4_parseStatement_169 ?_
              refine z_iconst (v := 4) C dX4_parseStatement_172 (by decide) ?_
              refine z_icmp_ne (tgt := 180) C dX4_parseStatement_173 (by decide) (fun c_173 => ?_) (fun c_173 => ?_)
              · refine z_iconst (v := 0) C dX4_parseStatement_180 (by decide) ?_
                refine z_seti (y := zb (nI (zkd te n (zpU te n st c).2.1) = 4)) (zb_f c_173).symm ?_
                refine z_iconst (v := 1) C dX4_parseStatement_181 (by decide) ?_
                refine z_callVe C (tw_obj) rfl (ct_X4_require D B _ _ n (zpU te n st c).2) q2366 q2368 qs76 q106 q2369 np_X4_require (zr_ok rfl rfl) rfl rfl (Nat.le_of_ble_eq_true rfl) (⟨Nat.le_of_ble_eq_true rfl, Nat.le_of_ble_eq_true rfl⟩) dX4_parseStatement_182 ?_
                refine z_aload_n (i := 0) C dX4_parseStatement_185 rfl rfl ?_
                refine z_callVe C (tw_obj) rfl (ct_X4_advance D B n hn5 hte (zrq _ 1 (zpU te n st c).2) (zpU_le hc)) q2370 q2372 qs77 q106 q2373 np_X4_advance (zr_ok rfl rfl) rfl rfl (Nat.le_of_ble_eq_true rfl) (⟨Nat.le_of_ble_eq_true rfl, Nat.le_of_ble_eq_true rfl⟩) dX4_parseStatement_186 ?_
                exact z_return C rfl dX4_parseStatement_189 (⟨rfl, rfl⟩) (Nat.le_of_ble_eq_true rfl) (Nat.le_of_ble_eq_true rfl)
              · refine z_iconst (v := 1) C dX4_parseStatement_176 (by decide) ?_
                refine z_seti (y := zb (nI (zkd te n (zpU te n st c).2.1) = 4)) (zb_t c_173).symm ?_
                refine z_goto (tgt := 181) C dX4_parseStatement_177 (by decide) ?_
                refine z_iconst (v := 1) C dX4_parseStatement_181 (by decide) ?_
                refine z_callVe C (tw_obj) rfl (ct_X4_require D B _ _ n (zpU te n st c).2) q2366 q2368 qs76 q106 q2369 np_X4_require (zr_ok rfl rfl) rfl rfl (Nat.le_of_ble_eq_true rfl) (⟨Nat.le_of_ble_eq_true rfl, Nat.le_of_ble_eq_true rfl⟩) dX4_parseStatement_182 ?_
                refine z_aload_n (i := 0) C dX4_parseStatement_185 rfl rfl ?_
                refine z_callVe C (tw_obj) rfl (ct_X4_advance D B n hn5 hte (zrq _ 1 (zpU te n st c).2) (zpU_le hc)) q2370 q2372 qs77 q106 q2373 np_X4_advance (zr_ok rfl rfl) rfl rfl (Nat.le_of_ble_eq_true rfl) (⟨Nat.le_of_ble_eq_true rfl, Nat.le_of_ble_eq_true rfl⟩) dX4_parseStatement_186 ?_
                exact z_return C rfl dX4_parseStatement_189 (⟨rfl, rfl⟩) (Nat.le_of_ble_eq_true rfl) (Nat.le_of_ble_eq_true rfl)
          · refine z_aload_n (i := 0) C dX4_parseStatement_93 rfl rfl ?_
            refine z_callVe C (tw_obj) rfl (ct_X4_advance D B n hn5 hte c (hc)) q2370 q2372 qs77 q106 q2373 np_X4_advance (zr_ok rfl rfl) rfl rfl (Nat.le_of_ble_eq_true rfl) (⟨Nat.le_of_ble_eq_true rfl, Nat.le_of_ble_eq_true rfl⟩) dX4_parseStatement_94 ?_
            refine z_aload_n (i := 0) C dX4_parseStatement_97 rfl rfl ?_
            refine tg_state C q1864 dX4_parseStatement_98 ?_
            refine z_iconst (v := 1) C dX4_parseStatement_101 (by decide) ?_
            refine z_aload_n (i := 0) C dX4_parseStatement_102 rfl rfl ?_
            refine z_bipush (v := (-90)) C dX4_parseStatement_103 (by decide) ?_
            refine z_bipush (v := 90) C dX4_parseStatement_105 (by decide) ?_
            refine z_callVe C (tw_obj) rfl (ct_X4_parseInteger D B (-90) 90 n hn5 hte (zad te n c) (zad_le hc)) q2374 q2376 qs78 q106 q2377 np_X4_parseInteger (zr_ok rfl rfl) rfl rfl (Nat.le_of_ble_eq_true rfl) (⟨Nat.le_of_ble_eq_true rfl, Nat.le_of_ble_eq_true rfl⟩) dX4_parseStatement_107 ?_
            refine ts_state (j := 1) C ⟨rfl, by decide⟩ dX4_parseStatement_110 ?_
            refine z_goto (tgt := 167) C dX4_parseStatement_111 (by decide) ?_
            refine z_heap (G' := (tw b t (zpU te n st c).1 bk sv iz th di re si pa fo te (nI n) (nI (zed te n (zpU te n st c).2.1)) (nI (zpU te n st c).2.1) (nI (zkd te n (zpU te n st c).2.1)) (nI (zleN te n (zpU te n st c).2.1)) (znmN te n (zpU te n st c).2.1) (zpU te n st c).2.2.1 (zpU te n st c).2.2.2 (zwoN te n (zpU te n st c).2.1))) (congrArg (fun c9 : (Nat → Int32) × zC => (tw b t c9.1 bk sv iz th di re si pa fo te (nI n) (nI (zed te n c9.2.1)) (nI c9.2.1) (nI (zkd te n c9.2.1)) (nI (zleN te n c9.2.1)) (znmN te n c9.2.1) c9.2.2.1 c9.2.2.2 (zwoN te n c9.2.1))) (show zpU te n st c = (upd st 1 (zpI te n (-90) 90 (zad te n c)).1, (zpI te n (-90) 90 (zad te n c)).2) from by unfold zpU; rw [if_neg (zb_eq.mp c_7), if_neg (zb_eq.mp c_24), if_neg (zb_eq.mp c_41), if_neg (zb_eq.mp c_58), if_pos (zb_ne.mp c_90)])).symm ?_
            refine z_aload_n (i := 0) C dX4_parseStatement_167 rfl rfl ?_
            refine z_aload_n (i := 0) C dX4_parseStatement_168 rfl rfl ?_
            refine tg_token C q1878 dX4_parseStatement_169 ?_
            refine z_iconst (v := 4) C dX4_parseStatement_172 (by decide) ?_
            refine z_icmp_ne (tgt := 180) C dX4_parseStatement_173 (by decide) (fun c_173 => ?_) (fun c_173 => ?_)
            · refine z_iconst (v := 0) C dX4_parseStatement_180 (by decide) ?_
              refine z_seti (y := zb (nI (zkd te n (zpU te n st c).2.1) = 4)) (zb_f c_173).symm ?_
              refine z_iconst (v := 1) C dX4_parseStatement_181 (by decide) ?_
              refine z_callVe C (tw_obj) rfl (ct_X4_require D B _ _ n (zpU te n st c).2) q2366 q2368 qs76 q106 q2369 np_X4_require (zr_ok rfl rfl) rfl rfl (Nat.le_of_ble_eq_true rfl) (⟨Nat.le_of_ble_eq_true rfl, Nat.le_of_ble_eq_true rfl⟩) dX4_parseStatement_182 ?_
              refine z_aload_n (i := 0) C dX4_parseStatement_185 rfl rfl ?_
              refine z_callVe C (tw_obj) rfl (ct_X4_advance D B n hn5 hte (zrq _ 1 (zpU te n st c).2) (zpU_le hc)) q2370 q2372 qs77 q106 q2373 np_X4_advance (zr_ok rfl rfl) rfl rfl (Nat.le_of_ble_eq_true rfl) (⟨Nat.le_of_ble_eq_true rfl, Nat.le_of_ble_eq_true rfl⟩) dX4_parseStatement_186 ?_
              exact z_return C rfl dX4_parseStatement_189 (⟨rfl, rfl⟩) (Nat.le_of_ble_eq_true rfl) (Nat.le_of_ble_eq_true rfl)
            · refine z_iconst (v := 1) C dX4_parseStatement_176 (by decide) ?_
              refine z_seti (y := zb (nI (zkd te n (zpU te n st c).2.1) = 4)) (zb_t c_173).symm ?_
              refine z_goto (tgt := 181) C dX4_parseStatement_177 (by decide) ?_
              refine z_iconst (v := 1) C dX4_parseStatement_181 (by decide) ?_
              refine z_callVe C (tw_obj) rfl (ct_X4_require D B _ _ n (zpU te n st c).2) q2366 q2368 qs76 q106 q2369 np_X4_require (zr_ok rfl rfl) rfl rfl (Nat.le_of_ble_eq_true rfl) (⟨Nat.le_of_ble_eq_true rfl, Nat.le_of_ble_eq_true rfl⟩) dX4_parseStatement_182 ?_
              refine z_aload_n (i := 0) C dX4_parseStatement_185 rfl rfl ?_
              refine z_callVe C (tw_obj) rfl (ct_X4_advance D B n hn5 hte (zrq _ 1 (zpU te n st c).2) (zpU_le hc)) q2370 q2372 qs77 q106 q2373 np_X4_advance (zr_ok rfl rfl) rfl rfl (Nat.le_of_ble_eq_true rfl) (⟨Nat.le_of_ble_eq_true rfl, Nat.le_of_ble_eq_true rfl⟩) dX4_parseStatement_186 ?_
              exact z_return C rfl dX4_parseStatement_189 (⟨rfl, rfl⟩) (Nat.le_of_ble_eq_true rfl) (Nat.le_of_ble_eq_true rfl)
        · refine z_aload_n (i := 0) C dX4_parseStatement_61 rfl rfl ?_
          refine z_callVe C (tw_obj) rfl (ct_X4_advance D B n hn5 hte c (hc)) q2370 q2372 qs77 q106 q2373 np_X4_advance (zr_ok rfl rfl) rfl rfl (Nat.le_of_ble_eq_true rfl) (⟨Nat.le_of_ble_eq_true rfl, Nat.le_of_ble_eq_true rfl⟩) dX4_parseStatement_62 ?_
          refine z_aload_n (i := 0) C dX4_parseStatement_65 rfl rfl ?_
          refine tg_state C q1864 dX4_parseStatement_66 ?_
          refine z_iconst (v := 0) C dX4_parseStatement_69 (by decide) ?_
          refine z_aload_n (i := 0) C dX4_parseStatement_70 rfl rfl ?_
          refine z_bipush (v := 100) C dX4_parseStatement_71 (by decide) ?_
          refine z_sipush (v := 1000) C dX4_parseStatement_73 (by decide) ?_
          refine z_callVe C (tw_obj) rfl (ct_X4_parseNumber D B 100 1000 n hn5 hte (zad te n c) (zad_le hc)) q2378 q2380 qs79 q106 q2381 np_X4_parseNumber (zr_ok rfl rfl) rfl rfl (Nat.le_of_ble_eq_true rfl) (⟨Nat.le_of_ble_eq_true rfl, Nat.le_of_ble_eq_true rfl⟩) dX4_parseStatement_76 ?_
          refine ts_state (j := 0) C ⟨rfl, by decide⟩ dX4_parseStatement_79 ?_
          refine z_goto (tgt := 167) C dX4_parseStatement_80 (by decide) ?_
          refine z_heap (G' := (tw b t (zpU te n st c).1 bk sv iz th di re si pa fo te (nI n) (nI (zed te n (zpU te n st c).2.1)) (nI (zpU te n st c).2.1) (nI (zkd te n (zpU te n st c).2.1)) (nI (zleN te n (zpU te n st c).2.1)) (znmN te n (zpU te n st c).2.1) (zpU te n st c).2.2.1 (zpU te n st c).2.2.2 (zwoN te n (zpU te n st c).2.1))) (congrArg (fun c9 : (Nat → Int32) × zC => (tw b t c9.1 bk sv iz th di re si pa fo te (nI n) (nI (zed te n c9.2.1)) (nI c9.2.1) (nI (zkd te n c9.2.1)) (nI (zleN te n c9.2.1)) (znmN te n c9.2.1) c9.2.2.1 c9.2.2.2 (zwoN te n c9.2.1))) (show zpU te n st c = (upd st 0 (zpN te n 100 1000 (zad te n c)).1, (zpN te n 100 1000 (zad te n c)).2) from by unfold zpU; rw [if_neg (zb_eq.mp c_7), if_neg (zb_eq.mp c_24), if_neg (zb_eq.mp c_41), if_pos (zb_ne.mp c_58)])).symm ?_
          refine z_aload_n (i := 0) C dX4_parseStatement_167 rfl rfl ?_
          refine z_aload_n (i := 0) C dX4_parseStatement_168 rfl rfl ?_
          refine tg_token C q1878 dX4_parseStatement_169 ?_
          refine z_iconst (v := 4) C dX4_parseStatement_172 (by decide) ?_
          refine z_icmp_ne (tgt := 180) C dX4_parseStatement_173 (by decide) (fun c_173 => ?_) (fun c_173 => ?_)
          · refine z_iconst (v := 0) C dX4_parseStatement_180 (by decide) ?_
            refine z_seti (y := zb (nI (zkd te n (zpU te n st c).2.1) = 4)) (zb_f c_173).symm ?_
            refine z_iconst (v := 1) C dX4_parseStatement_181 (by decide) ?_
            refine z_callVe C (tw_obj) rfl (ct_X4_require D B _ _ n (zpU te n st c).2) q2366 q2368 qs76 q106 q2369 np_X4_require (zr_ok rfl rfl) rfl rfl (Nat.le_of_ble_eq_true rfl) (⟨Nat.le_of_ble_eq_true rfl, Nat.le_of_ble_eq_true rfl⟩) dX4_parseStatement_182 ?_
            refine z_aload_n (i := 0) C dX4_parseStatement_185 rfl rfl ?_
            refine z_callVe C (tw_obj) rfl (ct_X4_advance D B n hn5 hte (zrq _ 1 (zpU te n st c).2) (zpU_le hc)) q2370 q2372 qs77 q106 q2373 np_X4_advance (zr_ok rfl rfl) rfl rfl (Nat.le_of_ble_eq_true rfl) (⟨Nat.le_of_ble_eq_true rfl, Nat.le_of_ble_eq_true rfl⟩) dX4_parseStatement_186 ?_
            exact z_return C rfl dX4_parseStatement_189 (⟨rfl, rfl⟩) (Nat.le_of_ble_eq_true rfl) (Nat.le_of_ble_eq_true rfl)
          · refine z_iconst (v := 1) C dX4_parseStatement_176 (by decide) ?_
            refine z_seti (y := zb (nI (zkd te n (zpU te n st c).2.1) = 4)) (zb_t c_173).symm ?_
            refine z_goto (tgt := 181) C dX4_parseStatement_177 (by decide) ?_
            refine z_iconst (v := 1) C dX4_parseStatement_181 (by decide) ?_
            refine z_callVe C (tw_obj) rfl (ct_X4_require D B _ _ n (zpU te n st c).2) q2366 q2368 qs76 q106 q2369 np_X4_require (zr_ok rfl rfl) rfl rfl (Nat.le_of_ble_eq_true rfl) (⟨Nat.le_of_ble_eq_true rfl, Nat.le_of_ble_eq_true rfl⟩) dX4_parseStatement_182 ?_
            refine z_aload_n (i := 0) C dX4_parseStatement_185 rfl rfl ?_
            refine z_callVe C (tw_obj) rfl (ct_X4_advance D B n hn5 hte (zrq _ 1 (zpU te n st c).2) (zpU_le hc)) q2370 q2372 qs77 q106 q2373 np_X4_advance (zr_ok rfl rfl) rfl rfl (Nat.le_of_ble_eq_true rfl) (⟨Nat.le_of_ble_eq_true rfl, Nat.le_of_ble_eq_true rfl⟩) dX4_parseStatement_186 ?_
            exact z_return C rfl dX4_parseStatement_189 (⟨rfl, rfl⟩) (Nat.le_of_ble_eq_true rfl) (Nat.le_of_ble_eq_true rfl)
      · refine z_aload_n (i := 0) C dX4_parseStatement_44 rfl rfl ?_
        refine z_callVe C (tw_obj) rfl (ct_X4_parseSource D B n hn5 hte c hc k7 h7 h77) q2388 q2390 qs81 q106 q2391 np_X4_parseSource (zr_ok rfl rfl) rfl rfl (Nat.le_of_ble_eq_true rfl) (⟨Nat.le_of_ble_eq_true rfl, Nat.le_of_ble_eq_true rfl⟩) dX4_parseStatement_45 ?_
        refine z_goto (tgt := 167) C dX4_parseStatement_48 (by decide) ?_
        refine z_heap (G' := (tw b t (zpU te n st c).1 bk sv iz th di re si pa fo te (nI n) (nI (zed te n (zpU te n st c).2.1)) (nI (zpU te n st c).2.1) (nI (zkd te n (zpU te n st c).2.1)) (nI (zleN te n (zpU te n st c).2.1)) (znmN te n (zpU te n st c).2.1) (zpU te n st c).2.2.1 (zpU te n st c).2.2.2 (zwoN te n (zpU te n st c).2.1))) (congrArg (fun c9 : (Nat → Int32) × zC => (tw b t c9.1 bk sv iz th di re si pa fo te (nI n) (nI (zed te n c9.2.1)) (nI c9.2.1) (nI (zkd te n c9.2.1)) (nI (zleN te n c9.2.1)) (znmN te n c9.2.1) c9.2.2.1 c9.2.2.2 (zwoN te n c9.2.1))) (show zpU te n st c = zpS te n st c from by unfold zpU; rw [if_neg (zb_eq.mp c_7), if_neg (zb_eq.mp c_24), if_pos (zb_ne.mp c_41)])).symm ?_
        refine z_aload_n (i := 0) C dX4_parseStatement_167 rfl rfl ?_
        refine z_aload_n (i := 0) C dX4_parseStatement_168 rfl rfl ?_
        refine tg_token C q1878 dX4_parseStatement_169 ?_
        refine z_iconst (v := 4) C dX4_parseStatement_172 (by decide) ?_
        refine z_icmp_ne (tgt := 180) C dX4_parseStatement_173 (by decide) (fun c_173 => ?_) (fun c_173 => ?_)
        · refine z_iconst (v := 0) C dX4_parseStatement_180 (by decide) ?_
          refine z_seti (y := zb (nI (zkd te n (zpU te n st c).2.1) = 4)) (zb_f c_173).symm ?_
          refine z_iconst (v := 1) C dX4_parseStatement_181 (by decide) ?_
          refine z_callVe C (tw_obj) rfl (ct_X4_require D B _ _ n (zpU te n st c).2) q2366 q2368 qs76 q106 q2369 np_X4_require (zr_ok rfl rfl) rfl rfl (Nat.le_of_ble_eq_true rfl) (⟨Nat.le_of_ble_eq_true rfl, Nat.le_of_ble_eq_true rfl⟩) dX4_parseStatement_182 ?_
          refine z_aload_n (i := 0) C dX4_parseStatement_185 rfl rfl ?_
          refine z_callVe C (tw_obj) rfl (ct_X4_advance D B n hn5 hte (zrq _ 1 (zpU te n st c).2) (zpU_le hc)) q2370 q2372 qs77 q106 q2373 np_X4_advance (zr_ok rfl rfl) rfl rfl (Nat.le_of_ble_eq_true rfl) (⟨Nat.le_of_ble_eq_true rfl, Nat.le_of_ble_eq_true rfl⟩) dX4_parseStatement_186 ?_
          exact z_return C rfl dX4_parseStatement_189 (⟨rfl, rfl⟩) (Nat.le_of_ble_eq_true rfl) (Nat.le_of_ble_eq_true rfl)
        · refine z_iconst (v := 1) C dX4_parseStatement_176 (by decide) ?_
          refine z_seti (y := zb (nI (zkd te n (zpU te n st c).2.1) = 4)) (zb_t c_173).symm ?_
          refine z_goto (tgt := 181) C dX4_parseStatement_177 (by decide) ?_
          refine z_iconst (v := 1) C dX4_parseStatement_181 (by decide) ?_
          refine z_callVe C (tw_obj) rfl (ct_X4_require D B _ _ n (zpU te n st c).2) q2366 q2368 qs76 q106 q2369 np_X4_require (zr_ok rfl rfl) rfl rfl (Nat.le_of_ble_eq_true rfl) (⟨Nat.le_of_ble_eq_true rfl, Nat.le_of_ble_eq_true rfl⟩) dX4_parseStatement_182 ?_
          refine z_aload_n (i := 0) C dX4_parseStatement_185 rfl rfl ?_
          refine z_callVe C (tw_obj) rfl (ct_X4_advance D B n hn5 hte (zrq _ 1 (zpU te n st c).2) (zpU_le hc)) q2370 q2372 qs77 q106 q2373 np_X4_advance (zr_ok rfl rfl) rfl rfl (Nat.le_of_ble_eq_true rfl) (⟨Nat.le_of_ble_eq_true rfl, Nat.le_of_ble_eq_true rfl⟩) dX4_parseStatement_186 ?_
          exact z_return C rfl dX4_parseStatement_189 (⟨rfl, rfl⟩) (Nat.le_of_ble_eq_true rfl) (Nat.le_of_ble_eq_true rfl)
    · refine z_aload_n (i := 0) C dX4_parseStatement_27 rfl rfl ?_
      refine z_callVe C (tw_obj) rfl (ct_X4_parseVehicle D B n hn5 hte c hc k6 h6 h66) q2383 q2385 qs80 q106 q2386 np_X4_parseVehicle (zr_ok rfl rfl) rfl rfl (Nat.le_of_ble_eq_true rfl) (⟨Nat.le_of_ble_eq_true rfl, Nat.le_of_ble_eq_true rfl⟩) dX4_parseStatement_28 ?_
      refine z_goto (tgt := 167) C dX4_parseStatement_31 (by decide) ?_
      refine z_heap (G' := (tw b t (zpU te n st c).1 bk sv iz th di re si pa fo te (nI n) (nI (zed te n (zpU te n st c).2.1)) (nI (zpU te n st c).2.1) (nI (zkd te n (zpU te n st c).2.1)) (nI (zleN te n (zpU te n st c).2.1)) (znmN te n (zpU te n st c).2.1) (zpU te n st c).2.2.1 (zpU te n st c).2.2.2 (zwoN te n (zpU te n st c).2.1))) (congrArg (fun c9 : (Nat → Int32) × zC => (tw b t c9.1 bk sv iz th di re si pa fo te (nI n) (nI (zed te n c9.2.1)) (nI c9.2.1) (nI (zkd te n c9.2.1)) (nI (zleN te n c9.2.1)) (znmN te n c9.2.1) c9.2.2.1 c9.2.2.2 (zwoN te n c9.2.1))) (show zpU te n st c = zpV te n st c from by unfold zpU; rw [if_neg (zb_eq.mp c_7), if_pos (zb_ne.mp c_24)])).symm ?_
      refine z_aload_n (i := 0) C dX4_parseStatement_167 rfl rfl ?_
      refine z_aload_n (i := 0) C dX4_parseStatement_168 rfl rfl ?_
      refine tg_token C q1878 dX4_parseStatement_169 ?_
      refine z_iconst (v := 4) C dX4_parseStatement_172 (by decide) ?_
      refine z_icmp_ne (tgt := 180) C dX4_parseStatement_173 (by decide) (fun c_173 => ?_) (fun c_173 => ?_)
      · refine z_iconst (v := 0) C dX4_parseStatement_180 (by decide) ?_
        refine z_seti (y := zb (nI (zkd te n (zpU te n st c).2.1) = 4)) (zb_f c_173).symm ?_
        refine z_iconst (v := 1) C dX4_parseStatement_181 (by decide) ?_
        refine z_callVe C (tw_obj) rfl (ct_X4_require D B _ _ n (zpU te n st c).2) q2366 q2368 qs76 q106 q2369 np_X4_require (zr_ok rfl rfl) rfl rfl (Nat.le_of_ble_eq_true rfl) (⟨Nat.le_of_ble_eq_true rfl, Nat.le_of_ble_eq_true rfl⟩) dX4_parseStatement_182 ?_
        refine z_aload_n (i := 0) C dX4_parseStatement_185 rfl rfl ?_
        refine z_callVe C (tw_obj) rfl (ct_X4_advance D B n hn5 hte (zrq _ 1 (zpU te n st c).2) (zpU_le hc)) q2370 q2372 qs77 q106 q2373 np_X4_advance (zr_ok rfl rfl) rfl rfl (Nat.le_of_ble_eq_true rfl) (⟨Nat.le_of_ble_eq_true rfl, Nat.le_of_ble_eq_true rfl⟩) dX4_parseStatement_186 ?_
        exact z_return C rfl dX4_parseStatement_189 (⟨rfl, rfl⟩) (Nat.le_of_ble_eq_true rfl) (Nat.le_of_ble_eq_true rfl)
      · refine z_iconst (v := 1) C dX4_parseStatement_176 (by decide) ?_
        refine z_seti (y := zb (nI (zkd te n (zpU te n st c).2.1) = 4)) (zb_t c_173).symm ?_
        refine z_goto (tgt := 181) C dX4_parseStatement_177 (by decide) ?_
        refine z_iconst (v := 1) C dX4_parseStatement_181 (by decide) ?_
        refine z_callVe C (tw_obj) rfl (ct_X4_require D B _ _ n (zpU te n st c).2) q2366 q2368 qs76 q106 q2369 np_X4_require (zr_ok rfl rfl) rfl rfl (Nat.le_of_ble_eq_true rfl) (⟨Nat.le_of_ble_eq_true rfl, Nat.le_of_ble_eq_true rfl⟩) dX4_parseStatement_182 ?_
        refine z_aload_n (i := 0) C dX4_parseStatement_185 rfl rfl ?_
        refine z_callVe C (tw_obj) rfl (ct_X4_advance D B n hn5 hte (zrq _ 1 (zpU te n st c).2) (zpU_le hc)) q2370 q2372 qs77 q106 q2373 np_X4_advance (zr_ok rfl rfl) rfl rfl (Nat.le_of_ble_eq_true rfl) (⟨Nat.le_of_ble_eq_true rfl, Nat.le_of_ble_eq_true rfl⟩) dX4_parseStatement_186 ?_
        exact z_return C rfl dX4_parseStatement_189 (⟨rfl, rfl⟩) (Nat.le_of_ble_eq_true rfl) (Nat.le_of_ble_eq_true rfl)
  · refine z_aload_n (i := 0) C dX4_parseStatement_10 rfl rfl ?_
    refine z_callVe C (tw_obj) rfl (ct_X4_parseMicrophone D B n hn5 hte c hc k8 h8 h88) q2362 q2364 qs75 q106 q2365 np_X4_parseMicrophone (zr_ok rfl rfl) rfl rfl (Nat.le_of_ble_eq_true rfl) (⟨Nat.le_of_ble_eq_true rfl, Nat.le_of_ble_eq_true rfl⟩) dX4_parseStatement_11 ?_
    refine z_goto (tgt := 167) C dX4_parseStatement_14 (by decide) ?_
    refine z_heap (G' := (tw b t (zpU te n st c).1 bk sv iz th di re si pa fo te (nI n) (nI (zed te n (zpU te n st c).2.1)) (nI (zpU te n st c).2.1) (nI (zkd te n (zpU te n st c).2.1)) (nI (zleN te n (zpU te n st c).2.1)) (znmN te n (zpU te n st c).2.1) (zpU te n st c).2.2.1 (zpU te n st c).2.2.2 (zwoN te n (zpU te n st c).2.1))) (congrArg (fun c9 : (Nat → Int32) × zC => (tw b t c9.1 bk sv iz th di re si pa fo te (nI n) (nI (zed te n c9.2.1)) (nI c9.2.1) (nI (zkd te n c9.2.1)) (nI (zleN te n c9.2.1)) (znmN te n c9.2.1) c9.2.2.1 c9.2.2.2 (zwoN te n c9.2.1))) (show zpU te n st c = zpM te n st c from by unfold zpU; rw [if_pos (zb_ne.mp c_7)])).symm ?_
    refine z_aload_n (i := 0) C dX4_parseStatement_167 rfl rfl ?_
    refine z_aload_n (i := 0) C dX4_parseStatement_168 rfl rfl ?_
    refine tg_token C q1878 dX4_parseStatement_169 ?_
    refine z_iconst (v := 4) C dX4_parseStatement_172 (by decide) ?_
    refine z_icmp_ne (tgt := 180) C dX4_parseStatement_173 (by decide) (fun c_173 => ?_) (fun c_173 => ?_)
    · refine z_iconst (v := 0) C dX4_parseStatement_180 (by decide) ?_
      refine z_seti (y := zb (nI (zkd te n (zpU te n st c).2.1) = 4)) (zb_f c_173).symm ?_
      refine z_iconst (v := 1) C dX4_parseStatement_181 (by decide) ?_
      refine z_callVe C (tw_obj) rfl (ct_X4_require D B _ _ n (zpU te n st c).2) q2366 q2368 qs76 q106 q2369 np_X4_require (zr_ok rfl rfl) rfl rfl (Nat.le_of_ble_eq_true rfl) (⟨Nat.le_of_ble_eq_true rfl, Nat.le_of_ble_eq_true rfl⟩) dX4_parseStatement_182 ?_
      refine z_aload_n (i := 0) C dX4_parseStatement_185 rfl rfl ?_
      refine z_callVe C (tw_obj) rfl (ct_X4_advance D B n hn5 hte (zrq _ 1 (zpU te n st c).2) (zpU_le hc)) q2370 q2372 qs77 q106 q2373 np_X4_advance (zr_ok rfl rfl) rfl rfl (Nat.le_of_ble_eq_true rfl) (⟨Nat.le_of_ble_eq_true rfl, Nat.le_of_ble_eq_true rfl⟩) dX4_parseStatement_186 ?_
      exact z_return C rfl dX4_parseStatement_189 (⟨rfl, rfl⟩) (Nat.le_of_ble_eq_true rfl) (Nat.le_of_ble_eq_true rfl)
    · refine z_iconst (v := 1) C dX4_parseStatement_176 (by decide) ?_
      refine z_seti (y := zb (nI (zkd te n (zpU te n st c).2.1) = 4)) (zb_t c_173).symm ?_
      refine z_goto (tgt := 181) C dX4_parseStatement_177 (by decide) ?_
      refine z_iconst (v := 1) C dX4_parseStatement_181 (by decide) ?_
      refine z_callVe C (tw_obj) rfl (ct_X4_require D B _ _ n (zpU te n st c).2) q2366 q2368 qs76 q106 q2369 np_X4_require (zr_ok rfl rfl) rfl rfl (Nat.le_of_ble_eq_true rfl) (⟨Nat.le_of_ble_eq_true rfl, Nat.le_of_ble_eq_true rfl⟩) dX4_parseStatement_182 ?_
      refine z_aload_n (i := 0) C dX4_parseStatement_185 rfl rfl ?_
      refine z_callVe C (tw_obj) rfl (ct_X4_advance D B n hn5 hte (zrq _ 1 (zpU te n st c).2) (zpU_le hc)) q2370 q2372 qs77 q106 q2373 np_X4_advance (zr_ok rfl rfl) rfl rfl (Nat.le_of_ble_eq_true rfl) (⟨Nat.le_of_ble_eq_true rfl, Nat.le_of_ble_eq_true rfl⟩) dX4_parseStatement_186 ?_
      exact z_return C rfl dX4_parseStatement_189 (⟨rfl, rfl⟩) (Nat.le_of_ble_eq_true rfl) (Nat.le_of_ble_eq_true rfl)
