/-! the twin: parts and beams -/
set_option maxHeartbeats 4000000 in
set_option maxRecDepth 100000 in
theorem ct_X4_layFocus (D : zG) (B : Nat) {b : zH} {t : tA} {st : Nat → Int32} {bk : Nat → Int32} {sv : Nat → Int32} {iz : Nat → Int32} {th : Int32} {di : Nat → Int32} {re : Nat → Int32} {si : Nat → Int32} {pa : Nat → Int32} {fo : Nat → Int64} {te : Nat → Int32} {tl : Int32} {po : Int32} {ts : Int32} {to : Int32} {le : Int32} {nu : Int32} {ec : Int32} {ep : Int32} {wo : Int64} (m : Nat) (d : Int32) (ge : zGe st) (hm : m < 8) (hb : zin d (-2000) 2000) : Ct D B yX4_layFocus (ws_ yX4_layFocus cX4_layFocus 6 none) (zr 3) [.ref (t.1 0), .int (nI m), .int d] (tw b t st bk sv iz th di re si pa fo te tl po ts to le nu ec ep wo) (fun w G9 => w = none ∧ ∃ dx rx : Nat → Int32, G9 = (tw b t st bk sv iz th dx rx si pa fo te tl po ts to le nu ec ep wo) ∧ ∀ j, j < 256 → dx j = zfdd st m d 0 j ∧ rx j = zfdd st m d 1 j) zno := by
  refine ct_intro (by decide +kernel) (Nat.le_of_ble_eq_true rfl) ?_
  intro X C
  refine z_aload_n (i := 0) C dX4_layFocus_0 rfl rfl ?_
  refine tg_state C q1864 dX4_layFocus_1 ?_
  refine z_bipush (v := 10) C dX4_layFocus_4 (by decide) ?_
  refine tl_state C (⟨(rfl : (10 : Int32) = nI 10), by decide⟩) dX4_layFocus_6 ?_
  refine z_if_ne (tgt := 14) C dX4_layFocus_7 (by decide) (fun c_7 => ?_) (fun c_7 => ?_)
  · refine z_iconst (v := 0) C dX4_layFocus_14 (by decide) ?_
    refine z_istore_n (i := 3) C dX4_layFocus_15 rfl (Nat.le_of_ble_eq_true rfl) rfl ?_
    refine z_iload_n (i := 3) C dX4_layFocus_16 rfl rfl ?_
    refine z_if_eq (tgt := 30) C dX4_layFocus_17 (by decide) (fun c_17 => ?_) (fun c_17 => ?_)
    · refine z_iconst (v := (-1)) C dX4_layFocus_30 (by decide) ?_
      refine z_seti (y := zvi (zfv st)) (by unfold zfv; rw [if_neg c_7]; rfl) ?_
      refine z_istore C dX4_layFocus_31 (Nat.le_of_ble_eq_true rfl) rfl ?_
      refine z_iload_n (i := 3) C dX4_layFocus_33 rfl rfl ?_
      refine z_if_eq (tgt := 47) C dX4_layFocus_34 (by decide) (fun c_34 => ?_) (fun c_34 => ?_)
      · refine z_aload_n (i := 0) C dX4_layFocus_47 rfl rfl ?_
        refine tg_state C q1864 dX4_layFocus_48 ?_
        refine z_bipush (v := 13) C dX4_layFocus_51 (by decide) ?_
        refine tl_state C (⟨(rfl : (13 : Int32) = nI 13), by decide⟩) dX4_layFocus_53 ?_
        refine z_seti (y := zfy st) (by unfold zfy; rw [if_neg c_7]) ?_
        refine z_istore C dX4_layFocus_54 (Nat.le_of_ble_eq_true rfl) rfl ?_
        refine z_aload_n (i := 0) C dX4_layFocus_56 rfl rfl ?_
        refine z_iload_n (i := 1) C dX4_layFocus_57 rfl rfl ?_
        refine z_iload C dX4_layFocus_58 rfl ?_
        refine z_aload_n (i := 0) C dX4_layFocus_60 rfl rfl ?_
        refine tg_state C q1864 dX4_layFocus_61 ?_
        refine z_bipush (v := 12) C dX4_layFocus_64 (by decide) ?_
        refine tl_state C (⟨(rfl : (12 : Int32) = nI 12), by decide⟩) dX4_layFocus_66 ?_
        refine z_iload_n (i := 2) C dX4_layFocus_67 rfl rfl ?_
        refine z_iadd C dX4_layFocus_68 ?_
        refine z_iload C dX4_layFocus_69 rfl ?_
        refine z_aload_n (i := 0) C dX4_layFocus_71 rfl rfl ?_
        refine tg_state C q1864 dX4_layFocus_72 ?_
        refine z_bipush (v := 14) C dX4_layFocus_75 (by decide) ?_
        refine tl_state C (⟨(rfl : (14 : Int32) = nI 14), by decide⟩) dX4_layFocus_77 ?_
        refine z_callVn C (tw_obj) rfl (ct_X4_layDistances D B m (zfv st) _ _ _ hm (zfv_lt ge) (fun j hj => zfo_ok ge hm hj hb)) q2051 q2053 qs38 q106 q2054 np_X4_layDistances (zr_ok rfl rfl) rfl rfl (Nat.le_of_ble_eq_true rfl) (⟨Nat.le_of_ble_eq_true rfl, Nat.le_of_ble_eq_true rfl⟩) dX4_layFocus_78 ?_
        intro v9 G9 h9
        obtain ⟨rfl, dx, rx, rfl, h2⟩ := h9
        exact z_return C rfl dX4_layFocus_81 (⟨rfl, dx, rx, rfl, h2⟩) (Nat.le_of_ble_eq_true rfl) (Nat.le_of_ble_eq_true rfl)
      · exact absurd rfl c_34
    · exact absurd rfl c_17
  · obtain ⟨v, hv, e11, -⟩ := ge.fv c_7
    have e12 : zvi (zfv st) = nI v := (zvi_zfv ge c_7).1.trans e11
    have e13 : zfy st = st (16 + 3 * v + 2) := by unfold zfy; rw [if_pos c_7, e11, nI_clamp (by omega)]
    refine z_iconst (v := 1) C dX4_layFocus_10 (by decide) ?_
    refine z_goto (tgt := 15) C dX4_layFocus_11 (by decide) ?_
    refine z_istore_n (i := 3) C dX4_layFocus_15 rfl (Nat.le_of_ble_eq_true rfl) rfl ?_
    refine z_iload_n (i := 3) C dX4_layFocus_16 rfl rfl ?_
    refine z_if_eq (tgt := 30) C dX4_layFocus_17 (by decide) (fun c_17 => ?_) (fun c_17 => ?_)
    · exact absurd c_17 (by decide)
    · refine z_aload_n (i := 0) C dX4_layFocus_20 rfl rfl ?_
      refine tg_state C q1864 dX4_layFocus_21 ?_
      refine z_bipush (v := 11) C dX4_layFocus_24 (by decide) ?_
      refine tl_state C (⟨(rfl : (11 : Int32) = nI 11), by decide⟩) dX4_layFocus_26 ?_
      refine z_seti (e11.trans e12.symm) ?_
      refine z_goto (tgt := 31) C dX4_layFocus_27 (by decide) ?_
      refine z_istore C dX4_layFocus_31 (Nat.le_of_ble_eq_true rfl) rfl ?_
      refine z_iload_n (i := 3) C dX4_layFocus_33 rfl rfl ?_
      refine z_if_eq (tgt := 47) C dX4_layFocus_34 (by decide) (fun c_34 => ?_) (fun c_34 => ?_)
      · exact absurd c_34 (by decide)
      · refine z_aload_n (i := 0) C dX4_layFocus_37 rfl rfl ?_
        refine z_iload C dX4_layFocus_38 rfl ?_
        refine z_seti e12 ?_
        refine z_iconst (v := 2) C dX4_layFocus_40 (by decide) ?_
        refine z_callVe C (tw_obj) rfl (ct_X4_vehicle D B v 2 (by omega)) q2047 q2049 qs37 q106 q2050 np_X4_vehicle (zr_ok rfl rfl) rfl rfl (Nat.le_of_ble_eq_true rfl) (⟨Nat.le_of_ble_eq_true rfl, Nat.le_of_ble_eq_true rfl⟩) dX4_layFocus_41 ?_
        refine z_seti e13.symm ?_
        refine z_goto (tgt := 54) C dX4_layFocus_44 (by decide) ?_
        refine z_istore C dX4_layFocus_54 (Nat.le_of_ble_eq_true rfl) rfl ?_
        refine z_aload_n (i := 0) C dX4_layFocus_56 rfl rfl ?_
        refine z_iload_n (i := 1) C dX4_layFocus_57 rfl rfl ?_
        refine z_iload C dX4_layFocus_58 rfl ?_
        refine z_aload_n (i := 0) C dX4_layFocus_60 rfl rfl ?_
        refine tg_state C q1864 dX4_layFocus_61 ?_
        refine z_bipush (v := 12) C dX4_layFocus_64 (by decide) ?_
        refine tl_state C (⟨(rfl : (12 : Int32) = nI 12), by decide⟩) dX4_layFocus_66 ?_
        refine z_iload_n (i := 2) C dX4_layFocus_67 rfl rfl ?_
        refine z_iadd C dX4_layFocus_68 ?_
        refine z_iload C dX4_layFocus_69 rfl ?_
        refine z_aload_n (i := 0) C dX4_layFocus_71 rfl rfl ?_
        refine tg_state C q1864 dX4_layFocus_72 ?_
        refine z_bipush (v := 14) C dX4_layFocus_75 (by decide) ?_
        refine tl_state C (⟨(rfl : (14 : Int32) = nI 14), by decide⟩) dX4_layFocus_77 ?_
        refine z_callVn C (tw_obj) rfl (ct_X4_layDistances D B m (zfv st) _ _ _ hm (zfv_lt ge) (fun j hj => zfo_ok ge hm hj hb)) q2051 q2053 qs38 q106 q2054 np_X4_layDistances (zr_ok rfl rfl) rfl rfl (Nat.le_of_ble_eq_true rfl) (⟨Nat.le_of_ble_eq_true rfl, Nat.le_of_ble_eq_true rfl⟩) dX4_layFocus_78 ?_
        intro v9 G9 h9
        obtain ⟨rfl, dx, rx, rfl, h2⟩ := h9
        exact z_return C rfl dX4_layFocus_81 (⟨rfl, dx, rx, rfl, h2⟩) (Nat.le_of_ble_eq_true rfl) (Nat.le_of_ble_eq_true rfl)
set_option maxHeartbeats 4000000 in
set_option maxRecDepth 100000 in
theorem ct_X4_reflectedPart (D : zG) (B : Nat) {b : zH} {t : tA} {st : Nat → Int32} {bk : Nat → Int32} {sv : Nat → Int32} {iz : Nat → Int32} {th : Int32} {di : Nat → Int32} {re : Nat → Int32} {si : Nat → Int32} {pa : Nat → Int32} {fo : Nat → Int64} {te : Nat → Int32} {tl : Int32} {po : Int32} {ts : Int32} {to : Int32} {le : Int32} {nu : Int32} {ec : Int32} {ep : Int32} {wo : Int64} (u : Nat) (x : Int32) (hu : u < 256) (hr : ∀ j, j < 256 → ∃ e : Nat, e ≤ 70000 ∧ re j = nI e) : Ct D B yX4_reflectedPart (ws_ yX4_reflectedPart cX4_reflectedPart 6 (some .int)) (zr 2) [.ref (t.1 0), .int (nI u), .int x] (tw b t st bk sv iz th di re si pa fo te tl po ts to le nu ec ep wo) (zpe (some (.int (zrp st pa di re u x))) (tw b t st bk sv iz th di re si pa fo te tl po ts to le nu ec ep wo)) zno := by
  refine ct_intro (by decide +kernel) (Nat.le_of_ble_eq_true rfl) ?_
  intro X C
  have hlc : zlat (fun j => nI j * st 0 + (if (1 : Int32) = 0 then di j else re j)) (x * st 0) 256 = ztm (zlc (fun j => nI j * st 0 + re j) (x * st 0) 256) := (zlat_congr (fun i _ => by rw [if_neg (by decide)])).trans (zlat_zlc (fun j => nI j * st 0 + re j) (x * st 0) 256)
  have hle := zlc_le (fun j => nI j * st 0 + re j) (x * st 0) 256
  obtain ⟨k, hk⟩ : ∃ k, k = zlc (fun j => nI j * st 0 + re j) (x * st 0) 256 := ⟨_, rfl⟩
  rw [← hk] at hlc hle
  refine z_aload_n (i := 0) C dX4_reflectedPart_0 rfl rfl ?_
  refine z_iload_n (i := 2) C dX4_reflectedPart_1 rfl rfl ?_
  refine z_iconst (v := 1) C dX4_reflectedPart_2 (by decide) ?_
  refine z_callVe C (tw_obj) rfl (ct_X4_latest D B _ _) q2076 q2078 qs42 q106 q2079 np_X4_latest (zr_ok rfl rfl) rfl rfl (Nat.le_of_ble_eq_true rfl) (⟨Nat.le_of_ble_eq_true rfl, Nat.le_of_ble_eq_true rfl⟩) dX4_reflectedPart_3 ?_
  refine z_seti (y := ztm k) hlc ?_
  refine z_istore_n (i := 3) C dX4_reflectedPart_6 rfl (Nat.le_of_ble_eq_true rfl) rfl ?_
  refine z_iload_n (i := 3) C dX4_reflectedPart_7 rfl rfl ?_
  refine z_iconst (v := (-1)) C dX4_reflectedPart_8 (by decide) ?_
  refine z_icmp_eq (tgt := 17) C dX4_reflectedPart_9 (by decide) (fun c_9 => ?_) (fun c_9 => ?_)
  · have hk0 : k = 0 := (ztm_m1 (by omega)).mp c_9
    refine z_iconst (v := 0) C dX4_reflectedPart_17 (by decide) ?_
    exact z_ireturn C rfl (rfl) dX4_reflectedPart_18 (⟨zvs (by unfold zrp; rw [← hk]; first | (rw [hk0]; done) | (show (0 : Int32) = if u ≤ q then 0 else _; rw [if_pos (by omega)])), rfl⟩) (Nat.le_of_ble_eq_true rfl) (Nat.le_of_ble_eq_true rfl)
  · obtain ⟨q, rfl⟩ : ∃ q, k = q + 1 := by
      cases k with
      | zero => exact absurd rfl c_9
      | succ q => exact ⟨q, rfl⟩
    obtain ⟨e, he, hre⟩ := hr q (by omega)
    refine z_iload_n (i := 3) C dX4_reflectedPart_12 rfl rfl ?_
    refine z_iload_n (i := 1) C dX4_reflectedPart_13 rfl rfl ?_
    refine z_icmp_lt (tgt := 19) C dX4_reflectedPart_14 (by decide) (fun c_14 => ?_) (fun c_14 => ?_)
    · have hqu : q < u := (nI_ltI (by omega) (by omega)).mp c_14
      refine z_aload_n (i := 0) C dX4_reflectedPart_19 rfl rfl ?_
      refine tg_parts C q1872 dX4_reflectedPart_20 ?_
      refine z_iload_n (i := 3) C dX4_reflectedPart_23 rfl rfl ?_
      refine tl_parts C (⟨rfl, by omega⟩) dX4_reflectedPart_24 ?_
      refine z_i2l C dX4_reflectedPart_25 rfl ?_
      refine z_lstore C dX4_reflectedPart_26 (Nat.le_of_ble_eq_true rfl) rfl ?_
      refine z_aload_n (i := 0) C dX4_reflectedPart_28 rfl rfl ?_
      refine tg_state C q1864 dX4_reflectedPart_29 ?_
      refine z_iconst (v := 2) C dX4_reflectedPart_32 (by decide) ?_
      refine tl_state C (⟨(rfl : (2 : Int32) = nI 2), by decide⟩) dX4_reflectedPart_33 ?_
      refine z_iconst (v := 1) C dX4_reflectedPart_34 (by decide) ?_
      refine z_icmp_ne (tgt := 66) C dX4_reflectedPart_35 (by decide) (fun c_35 => ?_) (fun c_35 => ?_)
      · refine z_lload C dX4_reflectedPart_66 rfl ?_
        refine z_aload_n (i := 0) C dX4_reflectedPart_68 rfl rfl ?_
        refine tg_state C q1864 dX4_reflectedPart_69 ?_
        refine z_iconst (v := 1) C dX4_reflectedPart_72 (by decide) ?_
        refine tl_state C (⟨(rfl : (1 : Int32) = nI 1), by decide⟩) dX4_reflectedPart_73 ?_
        refine z_i2l C dX4_reflectedPart_74 rfl ?_
        refine z_lmul C dX4_reflectedPart_75 ?_
        refine z_ldc2 C q2234 dX4_reflectedPart_76 ?_
        refine z_ldiv C dX4_reflectedPart_79 (by decide) ?_
        refine z_l2i C dX4_reflectedPart_80 rfl ?_
        exact z_ireturn C rfl (rfl) dX4_reflectedPart_81 (⟨zvs (by unfold zrp; rw [← hk]; show _ = if u ≤ q then 0 else _; rw [if_neg (by omega)]; first | rw [if_pos c_35] | rw [if_neg c_35]), rfl⟩) (Nat.le_of_ble_eq_true rfl) (Nat.le_of_ble_eq_true rfl)
      · refine z_lload C dX4_reflectedPart_38 rfl ?_
        refine z_ldc2 C q2233 dX4_reflectedPart_40 ?_
        refine z_aload_n (i := 0) C dX4_reflectedPart_43 rfl rfl ?_
        refine tg_distances C q1869 dX4_reflectedPart_44 ?_
        refine z_iload_n (i := 3) C dX4_reflectedPart_47 rfl rfl ?_
        refine tl_distances C (⟨rfl, by omega⟩) dX4_reflectedPart_48 ?_
        refine z_i2l C dX4_reflectedPart_49 rfl ?_
        refine z_ladd C dX4_reflectedPart_50 ?_
        refine z_lmul C dX4_reflectedPart_51 ?_
        refine z_ldc2 C q2233 dX4_reflectedPart_52 ?_
        refine z_aload_n (i := 0) C dX4_reflectedPart_55 rfl rfl ?_
        refine tg_reflections C q1870 dX4_reflectedPart_56 ?_
        refine z_iload_n (i := 3) C dX4_reflectedPart_59 rfl rfl ?_
        refine tl_reflections C (⟨rfl, by omega⟩) dX4_reflectedPart_60 ?_
        refine z_i2l C dX4_reflectedPart_61 rfl ?_
        refine z_ladd C dX4_reflectedPart_62 ?_
        refine z_ldiv C dX4_reflectedPart_63 (by rw [hre, nI_l (by omega), show (1000 : Int64) + lN e = lN (1000 + e) from lN_add 1000 e]; exact fun g => absurd ((lN_eq (b := 0) (by omega) (by decide)).mp g) (by omega)) ?_
        refine z_lstore C dX4_reflectedPart_64 (Nat.le_of_ble_eq_true rfl) rfl ?_
        refine z_lload C dX4_reflectedPart_66 rfl ?_
        refine z_aload_n (i := 0) C dX4_reflectedPart_68 rfl rfl ?_
        refine tg_state C q1864 dX4_reflectedPart_69 ?_
        refine z_iconst (v := 1) C dX4_reflectedPart_72 (by decide) ?_
        refine tl_state C (⟨(rfl : (1 : Int32) = nI 1), by decide⟩) dX4_reflectedPart_73 ?_
        refine z_i2l C dX4_reflectedPart_74 rfl ?_
        refine z_lmul C dX4_reflectedPart_75 ?_
        refine z_ldc2 C q2234 dX4_reflectedPart_76 ?_
        refine z_ldiv C dX4_reflectedPart_79 (by decide) ?_
        refine z_l2i C dX4_reflectedPart_80 rfl ?_
        exact z_ireturn C rfl (rfl) dX4_reflectedPart_81 (⟨zvs (by unfold zrp; rw [← hk]; show _ = if u ≤ q then 0 else _; rw [if_neg (by omega)]; first | rw [if_pos c_35] | rw [if_neg c_35]), rfl⟩) (Nat.le_of_ble_eq_true rfl) (Nat.le_of_ble_eq_true rfl)
    · have hqu : ¬ q < u := fun g => c_14 (nI_lt g (by omega))
      refine z_iconst (v := 0) C dX4_reflectedPart_17 (by decide) ?_
      exact z_ireturn C rfl (rfl) dX4_reflectedPart_18 (⟨zvs (by unfold zrp; rw [← hk]; first | (rw [hk0]; done) | (show (0 : Int32) = if u ≤ q then 0 else _; rw [if_pos (by omega)])), rfl⟩) (Nat.le_of_ble_eq_true rfl) (Nat.le_of_ble_eq_true rfl)
theorem np_X4_shiftOf : znp yX4_shiftOf 2 := ⟨by decide +kernel, by decide +kernel, by decide +kernel⟩
set_option maxHeartbeats 4000000 in
set_option maxRecDepth 100000 in
theorem ct_X4_layDirectedParts (D : zG) (B : Nat) {b : zH} {t : tA} {st : Nat → Int32} {bk : Nat → Int32} {sv : Nat → Int32} {iz : Nat → Int32} {th : Int32} {di : Nat → Int32} {re : Nat → Int32} {si : Nat → Int32} {pa : Nat → Int32} {fo : Nat → Int64} {te : Nat → Int32} {tl : Int32} {po : Int32} {ts : Int32} {to : Int32} {le : Int32} {nu : Int32} {ec : Int32} {ep : Int32} {wo : Int64} (m : Nat) (d : Int32) (ge : zGe st) (hm : m < 8) : Ct D B yX4_layDirectedParts (ws_ yX4_layDirectedParts cX4_layDirectedParts 5 none) (zr 3) [.ref (t.1 0), .int (nI m), .int d] (tw b t st bk sv iz th di re si pa fo te tl po ts to le nu ec ep wo) (fun w G9 => w = none ∧ ∃ sx : Nat → Int32, G9 = (tw b t st bk sv iz th di re si sx fo te tl po ts to le nu ec ep wo) ∧ ∀ j, j < 256 → sx j = zrec st m (nI j + zsh st m d)) zno := by
  refine ct_intro (by decide +kernel) (Nat.le_of_ble_eq_true rfl) ?_
  intro X C
  obtain ⟨n0, hn1, hn2, h0⟩ := ge.snd
  have h0ne : ¬ st 0 = 0 := by rw [h0]; exact nI_ne0 (by omega) (by omega)
  refine z_aload_n (i := 0) C dX4_layDirectedParts_0 rfl rfl ?_
  refine z_iload_n (i := 1) C dX4_layDirectedParts_1 rfl rfl ?_
  refine z_iload_n (i := 2) C dX4_layDirectedParts_2 rfl rfl ?_
  refine z_callVe C (tw_obj) rfl (ct_X4_shiftOf D B m d hm n0 h0 hn1 hn2) q2204 q2206 qs57 q106 q2207 np_X4_shiftOf (zr_ok rfl rfl) rfl rfl (Nat.le_of_ble_eq_true rfl) (⟨Nat.le_of_ble_eq_true rfl, Nat.le_of_ble_eq_true rfl⟩) dX4_layDirectedParts_3 ?_
  refine z_istore_n (i := 3) C dX4_layDirectedParts_6 rfl (Nat.le_of_ble_eq_true rfl) rfl ?_
  refine z_iconst (v := 0) C dX4_layDirectedParts_7 (by decide) ?_
  refine z_istore C dX4_layDirectedParts_8 (Nat.le_of_ble_eq_true rfl) rfl ?_
  have lp10 : ∀ (μ : Nat) (i : Nat) (sx : Nat → Int32) (h1 : i ≤ 256) (h2 : ∀ j, j < i → sx j = zrec st m (nI j + zsh st m d)), 256 - i < μ → Z X 10 [some (.ref (t.1 0)), some (.int (nI m)), some (.int d), some (.int (zsh st m d)), some (.int (nI i))] [] (tw b t st bk sv iz th di re si sx fo te tl po ts to le nu ec ep wo) 0 0 := by
    intro μ
    induction μ with
    | zero => intro i sx h1 h2 hμ; exact absurd hμ (Nat.not_lt_zero _)
    | succ μ ih10 =>
      intro i sx h1 h2 hμ
      refine z_iload C dX4_layDirectedParts_10 rfl ?_
      refine z_sipush (v := 256) C dX4_layDirectedParts_12 (by decide) ?_
      refine z_icmp_ge (tgt := 40) C dX4_layDirectedParts_15 (by decide) (fun c_15 => ?_) (fun c_15 => ?_)
      · have hend : i = 256 := by have := zge (b := 256) c_15 (by omega) (by decide); omega
        subst hend
        exact z_return C rfl dX4_layDirectedParts_40 (⟨rfl, sx, rfl, h2⟩) (Nat.le_of_ble_eq_true rfl) (Nat.le_of_ble_eq_true rfl)
      · have hlt := znge (b := 256) c_15 (by omega) (by decide)
        refine z_aload_n (i := 0) C dX4_layDirectedParts_18 rfl rfl ?_
        refine tg_parts C q1872 dX4_layDirectedParts_19 ?_
        refine z_iload C dX4_layDirectedParts_22 rfl ?_
        refine z_aload_n (i := 0) C dX4_layDirectedParts_24 rfl rfl ?_
        refine z_iload_n (i := 1) C dX4_layDirectedParts_25 rfl rfl ?_
        refine z_iload C dX4_layDirectedParts_26 rfl ?_
        refine z_iload_n (i := 3) C dX4_layDirectedParts_28 rfl rfl ?_
        refine z_iadd C dX4_layDirectedParts_29 ?_
        refine z_callVe C (tw_obj) rfl (ct_X4_recorded D B m _ hm) q2117 q2119 qs48 q106 q2120 np_X4_recorded (zr_ok rfl rfl) rfl rfl (Nat.le_of_ble_eq_true rfl) (⟨Nat.le_of_ble_eq_true rfl, Nat.le_of_ble_eq_true rfl⟩) dX4_layDirectedParts_30 ?_
        refine ts_parts C (⟨rfl, hlt⟩) dX4_layDirectedParts_33 ?_
        refine z_iinc (v := nI (i + 1)) C dX4_layDirectedParts_34 rfl (ziinc i) (Nat.le_of_ble_eq_true rfl) rfl ?_
        refine z_goto (tgt := 10) C dX4_layDirectedParts_37 (by decide) ?_
        exact z_convG (ih10 (i + 1) _ (by omega) (fun j hj => by unfold upd; by_cases e : j = i; (· subst e; exact if_pos rfl); (· exact (if_neg e).trans (h2 j (by omega)))) (by omega)) (And.intro (rfl) (And.intro (rfl) (And.intro (rfl) (And.intro (rfl) (And.intro (rfl) trivial))))) (Nat.le_of_ble_eq_true rfl) (Nat.le_of_ble_eq_true rfl)
  exact z_convG (lp10 257 0 pa (by omega) (fun j hj => by omega) (by omega)) (And.intro (rfl) (And.intro (rfl) (And.intro (rfl) (And.intro (rfl) (And.intro (rfl) trivial))))) (Nat.le_of_ble_eq_true rfl) (Nat.le_of_ble_eq_true rfl)
theorem np_X4_layDirectedParts : znp yX4_layDirectedParts 2 := ⟨by decide +kernel, by decide +kernel, by decide +kernel⟩
theorem np_X4_layFocus : znp yX4_layFocus 2 := ⟨by decide +kernel, by decide +kernel, by decide +kernel⟩
theorem np_X4_firstSample : znp yX4_firstSample 1 := ⟨by decide +kernel, by decide +kernel, by decide +kernel⟩
theorem np_X4_reflectedPart : znp yX4_reflectedPart 2 := ⟨by decide +kernel, by decide +kernel, by decide +kernel⟩
set_option maxHeartbeats 4000000 in
set_option maxRecDepth 100000 in
theorem ct_X4_layParts (D : zG) (B : Nat) {b : zH} {t : tA} {st : Nat → Int32} {bk : Nat → Int32} {sv : Nat → Int32} {iz : Nat → Int32} {th : Int32} {di : Nat → Int32} {re : Nat → Int32} {si : Nat → Int32} {pa : Nat → Int32} {fo : Nat → Int64} {te : Nat → Int32} {tl : Int32} {po : Int32} {ts : Int32} {to : Int32} {le : Int32} {nu : Int32} {ec : Int32} {ep : Int32} {wo : Int64} (m : Nat) (d : Int32) (ge : zGe st) (hm : m < 8) (hb : zin d (-2000) 2000) : Ct D B yX4_layParts (ws_ yX4_layParts cX4_layParts 5 none) (zr 4) [.ref (t.1 0), .int (nI m), .int d] (tw b t st bk sv iz th di re si pa fo te tl po ts to le nu ec ep wo) (fun w G9 => w = none ∧ ∃ sx dx rx : Nat → Int32, G9 = (tw b t st bk sv iz th dx rx si sx fo te tl po ts to le nu ec ep wo) ∧ ∀ j, j < 256 → sx j = zpa st m d j) zno := by
  refine ct_intro (by decide +kernel) (Nat.le_of_ble_eq_true rfl) ?_
  intro X C
  obtain ⟨n0, hn1, hn2, h0⟩ := ge.snd
  have h0ne : ¬ st 0 = 0 := by rw [h0]; exact nI_ne0 (by omega) (by omega)
  refine z_aload_n (i := 0) C dX4_layParts_0 rfl rfl ?_
  refine tg_state C q1864 dX4_layParts_1 ?_
  refine z_bipush (v := 10) C dX4_layParts_4 (by decide) ?_
  refine tl_state C (⟨(rfl : (10 : Int32) = nI 10), by decide⟩) dX4_layParts_6 ?_
  refine z_iconst (v := 2) C dX4_layParts_7 (by decide) ?_
  refine z_icmp_ne (tgt := 26) C dX4_layParts_8 (by decide) (fun c_8 => ?_) (fun c_8 => ?_)
  · refine z_aload_n (i := 0) C dX4_layParts_26 rfl rfl ?_
    refine z_iload_n (i := 1) C dX4_layParts_27 rfl rfl ?_
    refine z_iload_n (i := 2) C dX4_layParts_28 rfl rfl ?_
    refine z_callVn C (tw_obj) rfl (ct_X4_layFocus D B m d ge hm hb) q2209 q2211 qs58 q106 q2212 np_X4_layFocus (zr_ok rfl rfl) rfl rfl (Nat.le_of_ble_eq_true rfl) (⟨Nat.le_of_ble_eq_true rfl, Nat.le_of_ble_eq_true rfl⟩) dX4_layParts_29 ?_
    intro v9 G9 h9
    obtain ⟨rfl, dx, rx, rfl, hd⟩ := h9
    have hrn : ∀ j, j < 256 → ∃ e : Nat, e ≤ 70000 ∧ rx j = nI e := fun j hj => by rw [(hd j hj).2]; exact zfdd_nat _ _ _ _ _
    refine z_iconst (v := 0) C dX4_layParts_32 (by decide) ?_
    refine z_istore_n (i := 3) C dX4_layParts_33 rfl (Nat.le_of_ble_eq_true rfl) rfl ?_
    have lp34 : ∀ (μ : Nat) (i : Nat) (sx : Nat → Int32) (h1 : i ≤ 256) (h2 : ∀ j, j < i → sx j = zpff st dx rx m i j), 256 - i < μ → Z X 34 [some (.ref (t.1 0)), some (.int (nI m)), some (.int d), some (.int (nI i)), none] [] (tw b t st bk sv iz th dx rx si sx fo te tl po ts to le nu ec ep wo) 0 0 := by
      intro μ
      induction μ with
      | zero => intro i sx h1 h2 hμ; exact absurd hμ (Nat.not_lt_zero _)
      | succ μ ih34 =>
        intro i sx h1 h2 hμ
        refine z_iload_n (i := 3) C dX4_layParts_34 rfl rfl ?_
        refine z_sipush (v := 256) C dX4_layParts_35 (by decide) ?_
        refine z_icmp_ge (tgt := 106) C dX4_layParts_38 (by decide) (fun c_38 => ?_) (fun c_38 => ?_)
        · have hend : i = 256 := by have := zge (b := 256) c_38 (by omega) (by decide); omega
          subst hend
          exact z_return C rfl dX4_layParts_106 (⟨rfl, sx, dx, rx, rfl, fun j hj => by unfold zpa; rw [if_neg c_8, h2 j hj, zpff_congr (fun k hk => (hd k hk).1) (fun k hk => (hd k hk).2) 256 (by decide)]⟩) (Nat.le_of_ble_eq_true rfl) (Nat.le_of_ble_eq_true rfl)
        · have hlt := znge (b := 256) c_38 (by omega) (by decide)
          refine z_aload_n (i := 0) C dX4_layParts_41 rfl rfl ?_
          refine z_aload_n (i := 0) C dX4_layParts_42 rfl rfl ?_
          refine z_iload_n (i := 3) C dX4_layParts_43 rfl rfl ?_
          refine z_iconst (v := 0) C dX4_layParts_44 (by decide) ?_
          refine z_callVe C (tw_obj) rfl (ct_X4_markOf D B i 0 hlt) q2080 q2082 qs43 q106 q2083 np_X4_markOf (zr_ok rfl rfl) rfl rfl (Nat.le_of_ble_eq_true rfl) (⟨Nat.le_of_ble_eq_true rfl, Nat.le_of_ble_eq_true rfl⟩) dX4_layParts_45 ?_
          refine z_seti (y := nI i * st 0 + dx i) (by rw [if_pos rfl]) ?_
          refine z_callVe C (tw_obj) rfl (ct_X4_firstSample D B _ h0ne) q2213 q2215 qs59 q106 q2216 np_X4_firstSample (zr_ok rfl rfl) rfl rfl (Nat.le_of_ble_eq_true rfl) (⟨Nat.le_of_ble_eq_true rfl, Nat.le_of_ble_eq_true rfl⟩) dX4_layParts_48 ?_
          refine z_istore C dX4_layParts_51 (Nat.le_of_ble_eq_true rfl) rfl ?_
          refine z_aload_n (i := 0) C dX4_layParts_53 rfl rfl ?_
          refine tg_parts C q1872 dX4_layParts_54 ?_
          refine z_iload_n (i := 3) C dX4_layParts_57 rfl rfl ?_
          refine z_aload_n (i := 0) C dX4_layParts_58 rfl rfl ?_
          refine z_iload_n (i := 1) C dX4_layParts_59 rfl rfl ?_
          refine z_iload C dX4_layParts_60 rfl ?_
          refine z_callVe C (tw_obj) rfl (ct_X4_recorded D B m _ hm) q2117 q2119 qs48 q106 q2120 np_X4_recorded (zr_ok rfl rfl) rfl rfl (Nat.le_of_ble_eq_true rfl) (⟨Nat.le_of_ble_eq_true rfl, Nat.le_of_ble_eq_true rfl⟩) dX4_layParts_62 ?_
          refine ts_parts C (⟨rfl, hlt⟩) dX4_layParts_65 ?_
          refine z_aload_n (i := 0) C dX4_layParts_66 rfl rfl ?_
          refine tg_state C q1864 dX4_layParts_67 ?_
          refine z_iconst (v := 5) C dX4_layParts_70 (by decide) ?_
          refine tl_state C (⟨(rfl : (5 : Int32) = nI 5), by decide⟩) dX4_layParts_71 ?_
          refine z_iconst (v := 1) C dX4_layParts_72 (by decide) ?_
          refine z_icmp_ne (tgt := 100) C dX4_layParts_73 (by decide) (fun c_73 => ?_) (fun c_73 => ?_)
          · refine z_iinc (v := nI (i + 1)) C dX4_layParts_100 rfl (ziinc i) (Nat.le_of_ble_eq_true rfl) rfl ?_
            refine z_goto (tgt := 34) C dX4_layParts_103 (by decide) ?_
            exact z_convG (ih34 (i + 1) _ (by omega) (zpff_step hlt h2 (fun j hj => by unfold upd; first | (rw [if_neg hj, if_neg hj]; done) | rw [if_neg hj]) (by unfold upd zp1; first | (rw [if_pos rfl, if_neg (fun q => c_73 q.1)]; done) | (rw [if_pos rfl, if_neg (fun q => Int32.not_le.mpr c_81 q.2)]; done) | (rw [if_pos rfl, if_pos ⟨c_73, Int32.not_lt.mp c_81⟩, zrp_congr (P := sx) (fun k hk => if_neg (by omega)) (fun _ _ => rfl) (fun _ _ => rfl)]; done))) (by omega)) (And.intro (rfl) (And.intro (rfl) (And.intro (rfl) (And.intro (rfl) trivial)))) (Nat.le_of_ble_eq_true rfl) (Nat.le_of_ble_eq_true rfl)
          · refine z_iload C dX4_layParts_76 rfl ?_
            refine z_sipush (v := 255) C dX4_layParts_78 (by decide) ?_
            refine z_icmp_gt (tgt := 100) C dX4_layParts_81 (by decide) (fun c_81 => ?_) (fun c_81 => ?_)
            · refine z_iinc (v := nI (i + 1)) C dX4_layParts_100 rfl (ziinc i) (Nat.le_of_ble_eq_true rfl) rfl ?_
              refine z_goto (tgt := 34) C dX4_layParts_103 (by decide) ?_
              exact z_convG (ih34 (i + 1) _ (by omega) (zpff_step hlt h2 (fun j hj => by unfold upd; first | (rw [if_neg hj, if_neg hj]; done) | rw [if_neg hj]) (by unfold upd zp1; first | (rw [if_pos rfl, if_neg (fun q => c_73 q.1)]; done) | (rw [if_pos rfl, if_neg (fun q => Int32.not_le.mpr c_81 q.2)]; done) | (rw [if_pos rfl, if_pos ⟨c_73, Int32.not_lt.mp c_81⟩, zrp_congr (P := sx) (fun k hk => if_neg (by omega)) (fun _ _ => rfl) (fun _ _ => rfl)]; done))) (by omega)) (And.intro (rfl) (And.intro (rfl) (And.intro (rfl) (And.intro (rfl) trivial)))) (Nat.le_of_ble_eq_true rfl) (Nat.le_of_ble_eq_true rfl)
            · refine z_aload_n (i := 0) C dX4_layParts_84 rfl rfl ?_
              refine tg_parts C q1872 dX4_layParts_85 ?_
              refine z_iload_n (i := 3) C dX4_layParts_88 rfl rfl ?_
              refine z_dup2_11 C dX4_layParts_89 rfl rfl ?_
              refine tl_parts C ⟨rfl, hlt⟩ dX4_layParts_90 ?_
              refine z_seti (if_pos rfl) ?_
              refine z_aload_n (i := 0) C dX4_layParts_91 rfl rfl ?_
              refine z_iload_n (i := 3) C dX4_layParts_92 rfl rfl ?_
              refine z_iload C dX4_layParts_93 rfl ?_
              refine z_callVe C (tw_obj) rfl (ct_X4_reflectedPart D B i _ hlt hrn) q2229 q2231 qs62 q106 q2232 np_X4_reflectedPart (zr_ok rfl rfl) rfl rfl (Nat.le_of_ble_eq_true rfl) (⟨Nat.le_of_ble_eq_true rfl, Nat.le_of_ble_eq_true rfl⟩) dX4_layParts_95 ?_
              refine z_isub C dX4_layParts_98 ?_
              refine ts_parts C ⟨rfl, hlt⟩ dX4_layParts_99 ?_
              refine z_iinc (v := nI (i + 1)) C dX4_layParts_100 rfl (ziinc i) (Nat.le_of_ble_eq_true rfl) rfl ?_
              refine z_goto (tgt := 34) C dX4_layParts_103 (by decide) ?_
              exact z_convG (ih34 (i + 1) _ (by omega) (zpff_step hlt h2 (fun j hj => by unfold upd; first | (rw [if_neg hj, if_neg hj]; done) | rw [if_neg hj]) (by unfold upd zp1; first | (rw [if_pos rfl, if_neg (fun q => c_73 q.1)]; done) | (rw [if_pos rfl, if_neg (fun q => Int32.not_le.mpr c_81 q.2)]; done) | (rw [if_pos rfl, if_pos ⟨c_73, Int32.not_lt.mp c_81⟩, zrp_congr (P := sx) (fun k hk => if_neg (by omega)) (fun _ _ => rfl) (fun _ _ => rfl)]; done))) (by omega)) (And.intro (rfl) (And.intro (rfl) (And.intro (rfl) (And.intro (rfl) trivial)))) (Nat.le_of_ble_eq_true rfl) (Nat.le_of_ble_eq_true rfl)
    exact z_convG (lp34 257 0 pa (by omega) (fun j hj => by omega) (by omega)) (And.intro (rfl) (And.intro (rfl) (And.intro (rfl) (And.intro (rfl) trivial)))) (Nat.le_of_ble_eq_true rfl) (Nat.le_of_ble_eq_true rfl)
  · refine z_aload_n (i := 0) C dX4_layParts_11 rfl rfl ?_
    refine z_iload_n (i := 1) C dX4_layParts_12 rfl rfl ?_
    refine z_aload_n (i := 0) C dX4_layParts_13 rfl rfl ?_
    refine tg_state C q1864 dX4_layParts_14 ?_
    refine z_bipush (v := 12) C dX4_layParts_17 (by decide) ?_
    refine tl_state C (⟨(rfl : (12 : Int32) = nI 12), by decide⟩) dX4_layParts_19 ?_
    refine z_iload_n (i := 2) C dX4_layParts_20 rfl rfl ?_
    refine z_iadd C dX4_layParts_21 ?_
    refine z_callVn C (tw_obj) rfl (ct_X4_layDirectedParts D B m _ ge hm) q2225 q2227 qs61 q106 q2228 np_X4_layDirectedParts (zr_ok rfl rfl) rfl rfl (Nat.le_of_ble_eq_true rfl) (⟨Nat.le_of_ble_eq_true rfl, Nat.le_of_ble_eq_true rfl⟩) dX4_layParts_22 ?_
    intro v9 G9 h9
    obtain ⟨rfl, sx, rfl, h2⟩ := h9
    exact z_return C rfl dX4_layParts_25 (⟨rfl, sx, di, re, rfl, fun j hj => by unfold zpa; rw [if_pos c_8]; exact h2 j hj⟩) (Nat.le_of_ble_eq_true rfl) (Nat.le_of_ble_eq_true rfl)
set_option maxHeartbeats 4000000 in
set_option maxRecDepth 100000 in
theorem ct_X4_sampleNumber_ok (D : zG) (B : Nat) {b : zH} {t : tA} {st : Nat → Int32} {bk : Nat → Int32} {sv : Nat → Int32} {iz : Nat → Int32} {th : Int32} {di : Nat → Int32} {re : Nat → Int32} {si : Nat → Int32} {pa : Nat → Int32} {fo : Nat → Int64} {te : Nat → Int32} {tl : Int32} {po : Int32} {ts : Int32} {to : Int32} {le : Int32} {nu : Int32} {ec : Int32} {ep : Int32} {wo : Int64} (m j : Nat) (ge : zGe st) (hm0 : 0 ≤ nI m ∧ nI m ≤ st 8 - 1) (hm : m < 8) (ht0 : 0 ≤ nI j ∧ nI j ≤ 255) (hj : j < 256) : Ct D B yX4_sampleNumber (ws_ yX4_sampleNumber cX4_sampleNumber 3 (some .int)) (zr 4) [.ref (t.1 0), .int (nI m), .int (nI j)] (tw b t st bk sv iz th di re si pa fo te tl po ts to le nu ec ep wo) (fun w G9 => w = some (.int (if st 10 = 2 then nI j + zsh st m (st 12) else zfs st (nI j * st 0 + zfdd st m 0 0 j))) ∧ ∃ dx rx : Nat → Int32, G9 = (tw b t st bk sv iz 0 dx rx si pa fo te tl po ts to le nu ec ep wo)) zno := by
  refine ct_intro (by decide +kernel) (Nat.le_of_ble_eq_true rfl) ?_
  intro X C
  obtain ⟨n0, hn1, hn2, h0⟩ := ge.snd
  have h0ne : ¬ st 0 = 0 := by rw [h0]; exact nI_ne0 (by omega) (by omega)
  refine z_aload_n (i := 0) C dX4_sampleNumber_0 rfl rfl ?_
  refine z_iconst (v := 0) C dX4_sampleNumber_1 (by decide) ?_
  refine tp_thrown C q1868 dX4_sampleNumber_2 ?_
  refine z_aload_n (i := 0) C dX4_sampleNumber_5 rfl rfl ?_
  refine z_iload_n (i := 1) C dX4_sampleNumber_6 rfl rfl ?_
  refine z_callVe C (tw_obj) rfl (ct_X4_isMicrophone D B _) q2020 q2022 qs34 q106 q2023 np_X4_isMicrophone (zr_ok rfl rfl) rfl rfl (Nat.le_of_ble_eq_true rfl) (⟨Nat.le_of_ble_eq_true rfl, Nat.le_of_ble_eq_true rfl⟩) dX4_sampleNumber_7 ?_
  refine z_seti (zb_t (hm0)) ?_
  refine z_if_ne (tgt := 19) C dX4_sampleNumber_10 (by decide) (fun c_10 => ?_) (fun c_10 => ?_)
  · refine z_iload_n (i := 2) C dX4_sampleNumber_19 rfl rfl ?_
    refine z_callSe C (ct_X4_isTime D B _) q2032 q2033 q106 q2034 np_X4_isTime (zr_ok rfl rfl) rfl rfl (Nat.le_of_ble_eq_true rfl) (⟨Nat.le_of_ble_eq_true rfl, Nat.le_of_ble_eq_true rfl⟩) dX4_sampleNumber_20 ?_
    refine z_seti (zb_t (ht0)) ?_
    refine z_if_ne (tgt := 32) C dX4_sampleNumber_23 (by decide) (fun c_23 => ?_) (fun c_23 => ?_)
    · refine z_aload_n (i := 0) C dX4_sampleNumber_32 rfl rfl ?_
      refine tg_state C q1864 dX4_sampleNumber_33 ?_
      refine z_bipush (v := 10) C dX4_sampleNumber_36 (by decide) ?_
      refine tl_state C (⟨(rfl : (10 : Int32) = nI 10), by decide⟩) dX4_sampleNumber_38 ?_
      refine z_iconst (v := 2) C dX4_sampleNumber_39 (by decide) ?_
      refine z_icmp_ne (tgt := 58) C dX4_sampleNumber_40 (by decide) (fun c_40 => ?_) (fun c_40 => ?_)
      · refine z_aload_n (i := 0) C dX4_sampleNumber_58 rfl rfl ?_
        refine z_iload_n (i := 1) C dX4_sampleNumber_59 rfl rfl ?_
        refine z_iconst (v := 0) C dX4_sampleNumber_60 (by decide) ?_
        refine z_callVn C (tw_obj) rfl (ct_X4_layFocus D B m 0 ge hm (by unfold zin; decide)) q2209 q2211 qs58 q106 q2212 np_X4_layFocus (zr_ok rfl rfl) rfl rfl (Nat.le_of_ble_eq_true rfl) (⟨Nat.le_of_ble_eq_true rfl, Nat.le_of_ble_eq_true rfl⟩) dX4_sampleNumber_61 ?_
        intro v9 G9 h9
        obtain ⟨rfl, dx, rx, rfl, hd⟩ := h9
        refine z_aload_n (i := 0) C dX4_sampleNumber_64 rfl rfl ?_
        refine z_aload_n (i := 0) C dX4_sampleNumber_65 rfl rfl ?_
        refine z_iload_n (i := 2) C dX4_sampleNumber_66 rfl rfl ?_
        refine z_iconst (v := 0) C dX4_sampleNumber_67 (by decide) ?_
        refine z_callVe C (tw_obj) rfl (ct_X4_markOf D B j 0 hj) q2080 q2082 qs43 q106 q2083 np_X4_markOf (zr_ok rfl rfl) rfl rfl (Nat.le_of_ble_eq_true rfl) (⟨Nat.le_of_ble_eq_true rfl, Nat.le_of_ble_eq_true rfl⟩) dX4_sampleNumber_68 ?_
        refine z_seti (y := nI j * st 0 + zfdd st m 0 0 j) (by rw [if_pos rfl, (hd j hj).1]) ?_
        refine z_callVe C (tw_obj) rfl (ct_X4_firstSample D B _ h0ne) q2213 q2215 qs59 q106 q2216 np_X4_firstSample (zr_ok rfl rfl) rfl rfl (Nat.le_of_ble_eq_true rfl) (⟨Nat.le_of_ble_eq_true rfl, Nat.le_of_ble_eq_true rfl⟩) dX4_sampleNumber_71 ?_
        exact z_ireturn C rfl (rfl) dX4_sampleNumber_74 (⟨zvs (by rw [if_neg c_40]), dx, rx, rfl⟩) (Nat.le_of_ble_eq_true rfl) (Nat.le_of_ble_eq_true rfl)
      · refine z_iload_n (i := 2) C dX4_sampleNumber_43 rfl rfl ?_
        refine z_aload_n (i := 0) C dX4_sampleNumber_44 rfl rfl ?_
        refine z_iload_n (i := 1) C dX4_sampleNumber_45 rfl rfl ?_
        refine z_aload_n (i := 0) C dX4_sampleNumber_46 rfl rfl ?_
        refine tg_state C q1864 dX4_sampleNumber_47 ?_
        refine z_bipush (v := 12) C dX4_sampleNumber_50 (by decide) ?_
        refine tl_state C (⟨(rfl : (12 : Int32) = nI 12), by decide⟩) dX4_sampleNumber_52 ?_
        refine z_callVe C (tw_obj) rfl (ct_X4_shiftOf D B m _ hm n0 h0 hn1 hn2) q2204 q2206 qs57 q106 q2207 np_X4_shiftOf (zr_ok rfl rfl) rfl rfl (Nat.le_of_ble_eq_true rfl) (⟨Nat.le_of_ble_eq_true rfl, Nat.le_of_ble_eq_true rfl⟩) dX4_sampleNumber_53 ?_
        refine z_iadd C dX4_sampleNumber_56 ?_
        exact z_ireturn C rfl (rfl) dX4_sampleNumber_57 (⟨zvs (by rw [if_pos c_40]), di, re, rfl⟩) (Nat.le_of_ble_eq_true rfl) (Nat.le_of_ble_eq_true rfl)
    · exact absurd c_23 (by decide)
  · exact absurd c_10 (by decide)
theorem np_X4_layParts : znp yX4_layParts 2 := ⟨by decide +kernel, by decide +kernel, by decide +kernel⟩
set_option maxHeartbeats 4000000 in
set_option maxRecDepth 100000 in
theorem ct_X4_part_ok (D : zG) (B : Nat) {b : zH} {t : tA} {st : Nat → Int32} {bk : Nat → Int32} {sv : Nat → Int32} {iz : Nat → Int32} {th : Int32} {di : Nat → Int32} {re : Nat → Int32} {si : Nat → Int32} {pa : Nat → Int32} {fo : Nat → Int64} {te : Nat → Int32} {tl : Int32} {po : Int32} {ts : Int32} {to : Int32} {le : Int32} {nu : Int32} {ec : Int32} {ep : Int32} {wo : Int64} (m j : Nat) (ge : zGe st) (hm0 : 0 ≤ nI m ∧ nI m ≤ st 8 - 1) (hm : m < 8) (ht0 : 0 ≤ nI j ∧ nI j ≤ 255) (hj : j < 256) : Ct D B yX4_part (ws_ yX4_part cX4_part 3 (some .int)) (zr 5) [.ref (t.1 0), .int (nI m), .int (nI j)] (tw b t st bk sv iz th di re si pa fo te tl po ts to le nu ec ep wo) (fun w G9 => w = some (.int (zpa st m 0 j)) ∧ ∃ sx dx rx : Nat → Int32, G9 = (tw b t st bk sv iz 0 dx rx si sx fo te tl po ts to le nu ec ep wo)) zno := by
  refine ct_intro (by decide +kernel) (Nat.le_of_ble_eq_true rfl) ?_
  intro X C
  refine z_aload_n (i := 0) C dX4_part_0 rfl rfl ?_
  refine z_iconst (v := 0) C dX4_part_1 (by decide) ?_
  refine tp_thrown C q1868 dX4_part_2 ?_
  refine z_aload_n (i := 0) C dX4_part_5 rfl rfl ?_
  refine z_iload_n (i := 1) C dX4_part_6 rfl rfl ?_
  refine z_callVe C (tw_obj) rfl (ct_X4_isMicrophone D B _) q2020 q2022 qs34 q106 q2023 np_X4_isMicrophone (zr_ok rfl rfl) rfl rfl (Nat.le_of_ble_eq_true rfl) (⟨Nat.le_of_ble_eq_true rfl, Nat.le_of_ble_eq_true rfl⟩) dX4_part_7 ?_
  refine z_seti (zb_t (hm0)) ?_
  refine z_if_ne (tgt := 19) C dX4_part_10 (by decide) (fun c_10 => ?_) (fun c_10 => ?_)
  · refine z_iload_n (i := 2) C dX4_part_19 rfl rfl ?_
    refine z_callSe C (ct_X4_isTime D B _) q2032 q2033 q106 q2034 np_X4_isTime (zr_ok rfl rfl) rfl rfl (Nat.le_of_ble_eq_true rfl) (⟨Nat.le_of_ble_eq_true rfl, Nat.le_of_ble_eq_true rfl⟩) dX4_part_20 ?_
    refine z_seti (zb_t (ht0)) ?_
    refine z_if_ne (tgt := 32) C dX4_part_23 (by decide) (fun c_23 => ?_) (fun c_23 => ?_)
    · refine z_aload_n (i := 0) C dX4_part_32 rfl rfl ?_
      refine z_iload_n (i := 1) C dX4_part_33 rfl rfl ?_
      refine z_iconst (v := 0) C dX4_part_34 (by decide) ?_
      refine z_callVn C (tw_obj) rfl (ct_X4_layParts D B m 0 ge hm (by unfold zin; decide)) q2221 q2223 qs60 q106 q2224 np_X4_layParts (zr_ok rfl rfl) rfl rfl (Nat.le_of_ble_eq_true rfl) (⟨Nat.le_of_ble_eq_true rfl, Nat.le_of_ble_eq_true rfl⟩) dX4_part_35 ?_
      intro v9 G9 h9
      obtain ⟨rfl, sx, dx, rx, rfl, h2⟩ := h9
      refine z_aload_n (i := 0) C dX4_part_38 rfl rfl ?_
      refine tg_parts C q1872 dX4_part_39 ?_
      refine z_iload_n (i := 2) C dX4_part_42 rfl rfl ?_
      refine tl_parts C (⟨rfl, hj⟩) dX4_part_43 ?_
      exact z_ireturn C rfl (rfl) dX4_part_44 (⟨zvs (h2 j hj), sx, dx, rx, rfl⟩) (Nat.le_of_ble_eq_true rfl) (Nat.le_of_ble_eq_true rfl)
    · exact absurd c_23 (by decide)
  · exact absurd c_10 (by decide)
set_option maxHeartbeats 4000000 in
set_option maxRecDepth 100000 in
theorem ct_X4_sampleNumber_1 (D : zG) (B : Nat) {b : zH} {t : tA} {st : Nat → Int32} {bk : Nat → Int32} {sv : Nat → Int32} {iz : Nat → Int32} {th : Int32} {di : Nat → Int32} {re : Nat → Int32} {si : Nat → Int32} {pa : Nat → Int32} {fo : Nat → Int64} {te : Nat → Int32} {tl : Int32} {po : Int32} {ts : Int32} {to : Int32} {le : Int32} {nu : Int32} {ec : Int32} {ep : Int32} {wo : Int64} (m j : Int32) (h1 : ¬ (0 ≤ m ∧ m ≤ st 8 - 1)) : Ct D B yX4_sampleNumber (ws_ yX4_sampleNumber cX4_sampleNumber 3 (some .int)) (zr 4) [.ref (t.1 0), .int m, .int j] (tw b t st bk sv iz th di re si pa fo te tl po ts to le nu ec ep wo) (zpe (some (.int (0))) (tw b t st bk sv iz 1 di re si pa fo te tl po ts to le nu ec ep wo)) zno := by
  refine ct_intro (by decide +kernel) (Nat.le_of_ble_eq_true rfl) ?_
  intro X C
  refine z_aload_n (i := 0) C dX4_sampleNumber_0 rfl rfl ?_
  refine z_iconst (v := 0) C dX4_sampleNumber_1 (by decide) ?_
  refine tp_thrown C q1868 dX4_sampleNumber_2 ?_
  refine z_aload_n (i := 0) C dX4_sampleNumber_5 rfl rfl ?_
  refine z_iload_n (i := 1) C dX4_sampleNumber_6 rfl rfl ?_
  refine z_callVe C (tw_obj) rfl (ct_X4_isMicrophone D B _) q2020 q2022 qs34 q106 q2023 np_X4_isMicrophone (zr_ok rfl rfl) rfl rfl (Nat.le_of_ble_eq_true rfl) (⟨Nat.le_of_ble_eq_true rfl, Nat.le_of_ble_eq_true rfl⟩) dX4_sampleNumber_7 ?_
  refine z_seti (zb_f (h1)) ?_
  refine z_if_ne (tgt := 19) C dX4_sampleNumber_10 (by decide) (fun c_10 => ?_) (fun c_10 => ?_)
  · exact absurd rfl c_10
  · refine z_aload_n (i := 0) C dX4_sampleNumber_13 rfl rfl ?_
    refine z_iconst (v := 1) C dX4_sampleNumber_14 (by decide) ?_
    refine z_callVe C (tw_obj) rfl (ct_X4_fail D B _) q1941 q1943 qs26 q106 q1944 np_X4_fail (zr_ok rfl rfl) rfl rfl (Nat.le_of_ble_eq_true rfl) (⟨Nat.le_of_ble_eq_true rfl, Nat.le_of_ble_eq_true rfl⟩) dX4_sampleNumber_15 ?_
    exact z_ireturn C rfl (rfl) dX4_sampleNumber_18 (⟨rfl, rfl⟩) (Nat.le_of_ble_eq_true rfl) (Nat.le_of_ble_eq_true rfl)
set_option maxHeartbeats 4000000 in
set_option maxRecDepth 100000 in
theorem ct_X4_sampleNumber_2 (D : zG) (B : Nat) {b : zH} {t : tA} {st : Nat → Int32} {bk : Nat → Int32} {sv : Nat → Int32} {iz : Nat → Int32} {th : Int32} {di : Nat → Int32} {re : Nat → Int32} {si : Nat → Int32} {pa : Nat → Int32} {fo : Nat → Int64} {te : Nat → Int32} {tl : Int32} {po : Int32} {ts : Int32} {to : Int32} {le : Int32} {nu : Int32} {ec : Int32} {ep : Int32} {wo : Int64} (m j : Int32) (h1 : 0 ≤ m ∧ m ≤ st 8 - 1) (h2 : ¬ (0 ≤ j ∧ j ≤ 255)) : Ct D B yX4_sampleNumber (ws_ yX4_sampleNumber cX4_sampleNumber 3 (some .int)) (zr 4) [.ref (t.1 0), .int m, .int j] (tw b t st bk sv iz th di re si pa fo te tl po ts to le nu ec ep wo) (zpe (some (.int (0))) (tw b t st bk sv iz 2 di re si pa fo te tl po ts to le nu ec ep wo)) zno := by
  refine ct_intro (by decide +kernel) (Nat.le_of_ble_eq_true rfl) ?_
  intro X C
  refine z_aload_n (i := 0) C dX4_sampleNumber_0 rfl rfl ?_
  refine z_iconst (v := 0) C dX4_sampleNumber_1 (by decide) ?_
  refine tp_thrown C q1868 dX4_sampleNumber_2 ?_
  refine z_aload_n (i := 0) C dX4_sampleNumber_5 rfl rfl ?_
  refine z_iload_n (i := 1) C dX4_sampleNumber_6 rfl rfl ?_
  refine z_callVe C (tw_obj) rfl (ct_X4_isMicrophone D B _) q2020 q2022 qs34 q106 q2023 np_X4_isMicrophone (zr_ok rfl rfl) rfl rfl (Nat.le_of_ble_eq_true rfl) (⟨Nat.le_of_ble_eq_true rfl, Nat.le_of_ble_eq_true rfl⟩) dX4_sampleNumber_7 ?_
  refine z_seti (zb_t (h1)) ?_
  refine z_if_ne (tgt := 19) C dX4_sampleNumber_10 (by decide) (fun c_10 => ?_) (fun c_10 => ?_)
  · refine z_iload_n (i := 2) C dX4_sampleNumber_19 rfl rfl ?_
    refine z_callSe C (ct_X4_isTime D B _) q2032 q2033 q106 q2034 np_X4_isTime (zr_ok rfl rfl) rfl rfl (Nat.le_of_ble_eq_true rfl) (⟨Nat.le_of_ble_eq_true rfl, Nat.le_of_ble_eq_true rfl⟩) dX4_sampleNumber_20 ?_
    refine z_seti (zb_f (h2)) ?_
    refine z_if_ne (tgt := 32) C dX4_sampleNumber_23 (by decide) (fun c_23 => ?_) (fun c_23 => ?_)
    · exact absurd rfl c_23
    · refine z_aload_n (i := 0) C dX4_sampleNumber_26 rfl rfl ?_
      refine z_iconst (v := 2) C dX4_sampleNumber_27 (by decide) ?_
      refine z_callVe C (tw_obj) rfl (ct_X4_fail D B _) q1941 q1943 qs26 q106 q1944 np_X4_fail (zr_ok rfl rfl) rfl rfl (Nat.le_of_ble_eq_true rfl) (⟨Nat.le_of_ble_eq_true rfl, Nat.le_of_ble_eq_true rfl⟩) dX4_sampleNumber_28 ?_
      exact z_ireturn C rfl (rfl) dX4_sampleNumber_31 (⟨rfl, rfl⟩) (Nat.le_of_ble_eq_true rfl) (Nat.le_of_ble_eq_true rfl)
  · exact absurd c_10 (by decide)
set_option maxHeartbeats 4000000 in
set_option maxRecDepth 100000 in
theorem ct_X4_part_1 (D : zG) (B : Nat) {b : zH} {t : tA} {st : Nat → Int32} {bk : Nat → Int32} {sv : Nat → Int32} {iz : Nat → Int32} {th : Int32} {di : Nat → Int32} {re : Nat → Int32} {si : Nat → Int32} {pa : Nat → Int32} {fo : Nat → Int64} {te : Nat → Int32} {tl : Int32} {po : Int32} {ts : Int32} {to : Int32} {le : Int32} {nu : Int32} {ec : Int32} {ep : Int32} {wo : Int64} (m j : Int32) (h1 : ¬ (0 ≤ m ∧ m ≤ st 8 - 1)) : Ct D B yX4_part (ws_ yX4_part cX4_part 3 (some .int)) (zr 5) [.ref (t.1 0), .int m, .int j] (tw b t st bk sv iz th di re si pa fo te tl po ts to le nu ec ep wo) (zpe (some (.int (0))) (tw b t st bk sv iz 1 di re si pa fo te tl po ts to le nu ec ep wo)) zno := by
  refine ct_intro (by decide +kernel) (Nat.le_of_ble_eq_true rfl) ?_
  intro X C
  refine z_aload_n (i := 0) C dX4_part_0 rfl rfl ?_
  refine z_iconst (v := 0) C dX4_part_1 (by decide) ?_
  refine tp_thrown C q1868 dX4_part_2 ?_
  refine z_aload_n (i := 0) C dX4_part_5 rfl rfl ?_
  refine z_iload_n (i := 1) C dX4_part_6 rfl rfl ?_
  refine z_callVe C (tw_obj) rfl (ct_X4_isMicrophone D B _) q2020 q2022 qs34 q106 q2023 np_X4_isMicrophone (zr_ok rfl rfl) rfl rfl (Nat.le_of_ble_eq_true rfl) (⟨Nat.le_of_ble_eq_true rfl, Nat.le_of_ble_eq_true rfl⟩) dX4_part_7 ?_
  refine z_seti (zb_f (h1)) ?_
  refine z_if_ne (tgt := 19) C dX4_part_10 (by decide) (fun c_10 => ?_) (fun c_10 => ?_)
  · exact absurd rfl c_10
  · refine z_aload_n (i := 0) C dX4_part_13 rfl rfl ?_
    refine z_iconst (v := 1) C dX4_part_14 (by decide) ?_
    refine z_callVe C (tw_obj) rfl (ct_X4_fail D B _) q1941 q1943 qs26 q106 q1944 np_X4_fail (zr_ok rfl rfl) rfl rfl (Nat.le_of_ble_eq_true rfl) (⟨Nat.le_of_ble_eq_true rfl, Nat.le_of_ble_eq_true rfl⟩) dX4_part_15 ?_
    exact z_ireturn C rfl (rfl) dX4_part_18 (⟨rfl, rfl⟩) (Nat.le_of_ble_eq_true rfl) (Nat.le_of_ble_eq_true rfl)
set_option maxHeartbeats 4000000 in
set_option maxRecDepth 100000 in
theorem ct_X4_part_2 (D : zG) (B : Nat) {b : zH} {t : tA} {st : Nat → Int32} {bk : Nat → Int32} {sv : Nat → Int32} {iz : Nat → Int32} {th : Int32} {di : Nat → Int32} {re : Nat → Int32} {si : Nat → Int32} {pa : Nat → Int32} {fo : Nat → Int64} {te : Nat → Int32} {tl : Int32} {po : Int32} {ts : Int32} {to : Int32} {le : Int32} {nu : Int32} {ec : Int32} {ep : Int32} {wo : Int64} (m j : Int32) (h1 : 0 ≤ m ∧ m ≤ st 8 - 1) (h2 : ¬ (0 ≤ j ∧ j ≤ 255)) : Ct D B yX4_part (ws_ yX4_part cX4_part 3 (some .int)) (zr 5) [.ref (t.1 0), .int m, .int j] (tw b t st bk sv iz th di re si pa fo te tl po ts to le nu ec ep wo) (zpe (some (.int (0))) (tw b t st bk sv iz 2 di re si pa fo te tl po ts to le nu ec ep wo)) zno := by
  refine ct_intro (by decide +kernel) (Nat.le_of_ble_eq_true rfl) ?_
  intro X C
  refine z_aload_n (i := 0) C dX4_part_0 rfl rfl ?_
  refine z_iconst (v := 0) C dX4_part_1 (by decide) ?_
  refine tp_thrown C q1868 dX4_part_2 ?_
  refine z_aload_n (i := 0) C dX4_part_5 rfl rfl ?_
  refine z_iload_n (i := 1) C dX4_part_6 rfl rfl ?_
  refine z_callVe C (tw_obj) rfl (ct_X4_isMicrophone D B _) q2020 q2022 qs34 q106 q2023 np_X4_isMicrophone (zr_ok rfl rfl) rfl rfl (Nat.le_of_ble_eq_true rfl) (⟨Nat.le_of_ble_eq_true rfl, Nat.le_of_ble_eq_true rfl⟩) dX4_part_7 ?_
  refine z_seti (zb_t (h1)) ?_
  refine z_if_ne (tgt := 19) C dX4_part_10 (by decide) (fun c_10 => ?_) (fun c_10 => ?_)
  · refine z_iload_n (i := 2) C dX4_part_19 rfl rfl ?_
    refine z_callSe C (ct_X4_isTime D B _) q2032 q2033 q106 q2034 np_X4_isTime (zr_ok rfl rfl) rfl rfl (Nat.le_of_ble_eq_true rfl) (⟨Nat.le_of_ble_eq_true rfl, Nat.le_of_ble_eq_true rfl⟩) dX4_part_20 ?_
    refine z_seti (zb_f (h2)) ?_
    refine z_if_ne (tgt := 32) C dX4_part_23 (by decide) (fun c_23 => ?_) (fun c_23 => ?_)
    · exact absurd rfl c_23
    · refine z_aload_n (i := 0) C dX4_part_26 rfl rfl ?_
      refine z_iconst (v := 2) C dX4_part_27 (by decide) ?_
      refine z_callVe C (tw_obj) rfl (ct_X4_fail D B _) q1941 q1943 qs26 q106 q1944 np_X4_fail (zr_ok rfl rfl) rfl rfl (Nat.le_of_ble_eq_true rfl) (⟨Nat.le_of_ble_eq_true rfl, Nat.le_of_ble_eq_true rfl⟩) dX4_part_28 ?_
      exact z_ireturn C rfl (rfl) dX4_part_31 (⟨rfl, rfl⟩) (Nat.le_of_ble_eq_true rfl) (Nat.le_of_ble_eq_true rfl)
  · exact absurd c_10 (by decide)
set_option maxHeartbeats 4000000 in
set_option maxRecDepth 100000 in
theorem ct_X4_addParts (D : zG) (B : Nat) {b : zH} {t : tA} {st : Nat → Int32} {bk : Nat → Int32} {sv : Nat → Int32} {iz : Nat → Int32} {th : Int32} {di : Nat → Int32} {re : Nat → Int32} {si : Nat → Int32} {pa : Nat → Int32} {fo : Nat → Int64} {te : Nat → Int32} {tl : Int32} {po : Int32} {ts : Int32} {to : Int32} {le : Int32} {nu : Int32} {ec : Int32} {ep : Int32} {wo : Int64} (m : Nat) (hm : m < 8) : Ct D B yX4_addParts (ws_ yX4_addParts cX4_addParts 3 none) (zr 1) [.ref (t.1 0), .int (nI m)] (tw b t st bk sv iz th di re si pa fo te tl po ts to le nu ec ep wo) (fun w G9 => w = none ∧ ∃ sx : Nat → Int32, G9 = (tw b t st bk sv iz th di re sx pa fo te tl po ts to le nu ec ep wo) ∧ ∀ j, j < 256 → sx j = si j + st (154 + 4 * m + 3) * pa j) zno := by
  refine ct_intro (by decide +kernel) (Nat.le_of_ble_eq_true rfl) ?_
  intro X C
  refine z_iconst (v := 0) C dX4_addParts_0 (by decide) ?_
  refine z_istore_n (i := 2) C dX4_addParts_1 rfl (Nat.le_of_ble_eq_true rfl) rfl ?_
  have lp2 : ∀ (μ : Nat) (i : Nat) (sx : Nat → Int32) (h1 : i ≤ 256) (h2 : ∀ j, j < i → sx j = si j + st (154 + 4 * m + 3) * pa j) (h3 : ∀ j, i ≤ j → sx j = si j), 256 - i < μ → Z X 2 [some (.ref (t.1 0)), some (.int (nI m)), some (.int (nI i))] [] (tw b t st bk sv iz th di re sx pa fo te tl po ts to le nu ec ep wo) 0 0 := by
    intro μ
    induction μ with
    | zero => intro i sx h1 h2 h3 hμ; exact absurd hμ (Nat.not_lt_zero _)
    | succ μ ih2 =>
      intro i sx h1 h2 h3 hμ
      refine z_iload_n (i := 2) C dX4_addParts_2 rfl rfl ?_
      refine z_sipush (v := 256) C dX4_addParts_3 (by decide) ?_
      refine z_icmp_ge (tgt := 37) C dX4_addParts_6 (by decide) (fun c_6 => ?_) (fun c_6 => ?_)
      · have hend : i = 256 := by have := zge (b := 256) c_6 (by omega) (by decide); omega
        subst hend
        exact z_return C rfl dX4_addParts_37 (⟨rfl, sx, rfl, h2⟩) (Nat.le_of_ble_eq_true rfl) (Nat.le_of_ble_eq_true rfl)
      · have hlt := znge (b := 256) c_6 (by omega) (by decide)
        refine z_aload_n (i := 0) C dX4_addParts_9 rfl rfl ?_
        refine tg_signal C q1871 dX4_addParts_10 ?_
        refine z_iload_n (i := 2) C dX4_addParts_13 rfl rfl ?_
        refine z_dup2_11 C dX4_addParts_14 rfl rfl ?_
        refine tl_signal C ⟨rfl, hlt⟩ dX4_addParts_15 ?_
        refine z_aload_n (i := 0) C dX4_addParts_16 rfl rfl ?_
        refine z_iload_n (i := 1) C dX4_addParts_17 rfl rfl ?_
        refine z_iconst (v := 3) C dX4_addParts_18 (by decide) ?_
        refine z_callVe C (tw_obj) rfl (ct_X4_microphone D B m 3 (by omega)) q2063 q2065 qs41 q106 q2066 np_X4_microphone (zr_ok rfl rfl) rfl rfl (Nat.le_of_ble_eq_true rfl) (⟨Nat.le_of_ble_eq_true rfl, Nat.le_of_ble_eq_true rfl⟩) dX4_addParts_19 ?_
        refine z_aload_n (i := 0) C dX4_addParts_22 rfl rfl ?_
        refine tg_parts C q1872 dX4_addParts_23 ?_
        refine z_iload_n (i := 2) C dX4_addParts_26 rfl rfl ?_
        refine tl_parts C (⟨rfl, hlt⟩) dX4_addParts_27 ?_
        refine z_imul C dX4_addParts_28 ?_
        refine z_iadd C dX4_addParts_29 ?_
        refine ts_signal C ⟨rfl, hlt⟩ dX4_addParts_30 ?_
        refine z_iinc (v := nI (i + 1)) C dX4_addParts_31 rfl (ziinc i) (Nat.le_of_ble_eq_true rfl) rfl ?_
        refine z_goto (tgt := 2) C dX4_addParts_34 (by decide) ?_
        exact z_convG (ih2 (i + 1) _ (by omega) (fun j hj => by unfold upd; by_cases e : j = i; (· subst e; rw [if_pos rfl, h3 j (Nat.le_refl _)]); (· exact (if_neg e).trans (h2 j (by omega)))) (fun j hj => (if_neg (by omega)).trans (h3 j (by omega))) (by omega)) (And.intro (rfl) (And.intro (rfl) (And.intro (rfl) trivial))) (Nat.le_of_ble_eq_true rfl) (Nat.le_of_ble_eq_true rfl)
  exact z_convG (lp2 257 0 si (by omega) (fun j hj => by omega) (fun _ _ => rfl) (by omega)) (And.intro (rfl) (And.intro (rfl) (And.intro (rfl) trivial))) (Nat.le_of_ble_eq_true rfl) (Nat.le_of_ble_eq_true rfl)
set_option maxHeartbeats 4000000 in
set_option maxRecDepth 100000 in
theorem ct_X4_clearSignal (D : zG) (B : Nat) {b : zH} {t : tA} {st : Nat → Int32} {bk : Nat → Int32} {sv : Nat → Int32} {iz : Nat → Int32} {th : Int32} {di : Nat → Int32} {re : Nat → Int32} {si : Nat → Int32} {pa : Nat → Int32} {fo : Nat → Int64} {te : Nat → Int32} {tl : Int32} {po : Int32} {ts : Int32} {to : Int32} {le : Int32} {nu : Int32} {ec : Int32} {ep : Int32} {wo : Int64}   : Ct D B yX4_clearSignal (ws_ yX4_clearSignal cX4_clearSignal 2 none) (zr 0) [.ref (t.1 0)] (tw b t st bk sv iz th di re si pa fo te tl po ts to le nu ec ep wo) (fun w G9 => w = none ∧ ∃ sx : Nat → Int32, G9 = (tw b t st bk sv iz th di re sx pa fo te tl po ts to le nu ec ep wo) ∧ ∀ j, j < 256 → sx j = 0) zno := by
  refine ct_intro (by decide +kernel) (Nat.le_of_ble_eq_true rfl) ?_
  intro X C
  refine z_iconst (v := 0) C dX4_clearSignal_0 (by decide) ?_
  refine z_istore_n (i := 1) C dX4_clearSignal_1 rfl (Nat.le_of_ble_eq_true rfl) rfl ?_
  have lp2 : ∀ (μ : Nat) (i : Nat) (sx : Nat → Int32) (h1 : i ≤ 256) (h2 : ∀ j, j < i → sx j = 0), 256 - i < μ → Z X 2 [some (.ref (t.1 0)), some (.int (nI i))] [] (tw b t st bk sv iz th di re sx pa fo te tl po ts to le nu ec ep wo) 0 0 := by
    intro μ
    induction μ with
    | zero => intro i sx h1 h2 hμ; exact absurd hμ (Nat.not_lt_zero _)
    | succ μ ih2 =>
      intro i sx h1 h2 hμ
      refine z_iload_n (i := 1) C dX4_clearSignal_2 rfl rfl ?_
      refine z_sipush (v := 256) C dX4_clearSignal_3 (by decide) ?_
      refine z_icmp_ge (tgt := 22) C dX4_clearSignal_6 (by decide) (fun c_6 => ?_) (fun c_6 => ?_)
      · have hend : i = 256 := by have := zge (b := 256) c_6 (by omega) (by decide); omega
        subst hend
        exact z_return C rfl dX4_clearSignal_22 (⟨rfl, sx, rfl, h2⟩) (Nat.le_of_ble_eq_true rfl) (Nat.le_of_ble_eq_true rfl)
      · have hlt := znge (b := 256) c_6 (by omega) (by decide)
        refine z_aload_n (i := 0) C dX4_clearSignal_9 rfl rfl ?_
        refine tg_signal C q1871 dX4_clearSignal_10 ?_
        refine z_iload_n (i := 1) C dX4_clearSignal_13 rfl rfl ?_
        refine z_iconst (v := 0) C dX4_clearSignal_14 (by decide) ?_
        refine ts_signal C (⟨rfl, hlt⟩) dX4_clearSignal_15 ?_
        refine z_iinc (v := nI (i + 1)) C dX4_clearSignal_16 rfl (ziinc i) (Nat.le_of_ble_eq_true rfl) rfl ?_
        refine z_goto (tgt := 2) C dX4_clearSignal_19 (by decide) ?_
        exact z_convG (ih2 (i + 1) _ (by omega) (fun j hj => by unfold upd; by_cases e : j = i; (· subst e; rw [if_pos rfl]); (· exact (if_neg e).trans (h2 j (by omega)))) (by omega)) (And.intro (rfl) (And.intro (rfl) trivial)) (Nat.le_of_ble_eq_true rfl) (Nat.le_of_ble_eq_true rfl)
  exact z_convG (lp2 257 0 si (by omega) (fun j hj => by omega) (by omega)) (And.intro (rfl) (And.intro (rfl) trivial)) (Nat.le_of_ble_eq_true rfl) (Nat.le_of_ble_eq_true rfl)
theorem np_X4_clearSignal : znp yX4_clearSignal 0 := ⟨by decide +kernel, by decide +kernel, by decide +kernel⟩
theorem np_X4_addParts : znp yX4_addParts 1 := ⟨by decide +kernel, by decide +kernel, by decide +kernel⟩
set_option maxHeartbeats 4000000 in
set_option maxRecDepth 100000 in
theorem ct_X4_layBeam (D : zG) (B : Nat) {b : zH} {t : tA} {st : Nat → Int32} {bk : Nat → Int32} {sv : Nat → Int32} {iz : Nat → Int32} {th : Int32} {di : Nat → Int32} {re : Nat → Int32} {si : Nat → Int32} {pa : Nat → Int32} {fo : Nat → Int64} {te : Nat → Int32} {tl : Int32} {po : Int32} {ts : Int32} {to : Int32} {le : Int32} {nu : Int32} {ec : Int32} {ep : Int32} {wo : Int64} (d : Int32) (ge : zGe st) (nm : Nat) (h8 : st 8 = nI nm) (hnm : nm ≤ 8) (hb : zin d (-2000) 2000) : Ct D B yX4_layBeam (ws_ yX4_layBeam cX4_layBeam 3 none) (zr 5) [.ref (t.1 0), .int d] (tw b t st bk sv iz th di re si pa fo te tl po ts to le nu ec ep wo) (fun w G9 => w = none ∧ ∃ sx px dx rx : Nat → Int32, G9 = (tw b t st bk sv iz th dx rx sx px fo te tl po ts to le nu ec ep wo) ∧ ∀ j, j < 256 → sx j = zbs st nm d j) zno := by
  refine ct_intro (by decide +kernel) (Nat.le_of_ble_eq_true rfl) ?_
  intro X C
  refine z_aload_n (i := 0) C dX4_layBeam_0 rfl rfl ?_
  refine z_callVn C (tw_obj) rfl (ct_X4_clearSignal D B) q2243 q2245 qs64 q106 q2246 np_X4_clearSignal (zr_ok rfl rfl) rfl rfl (Nat.le_of_ble_eq_true rfl) (⟨Nat.le_of_ble_eq_true rfl, Nat.le_of_ble_eq_true rfl⟩) dX4_layBeam_1 ?_
  intro v9 G9 h9
  obtain ⟨rfl, sx, rfl, h2⟩ := h9
  refine z_iconst (v := 0) C dX4_layBeam_4 (by decide) ?_
  refine z_istore_n (i := 2) C dX4_layBeam_5 rfl (Nat.le_of_ble_eq_true rfl) rfl ?_
  have lp6 : ∀ (μ : Nat) (i : Nat) (sx px dx rx : Nat → Int32) (h1 : i ≤ nm) (h2 : ∀ j, j < 256 → sx j = zbs st i d j), nm - i < μ → Z X 6 [some (.ref (t.1 0)), some (.int d), some (.int (nI i))] [] (tw b t st bk sv iz th dx rx sx px fo te tl po ts to le nu ec ep wo) 0 0 := by
    intro μ
    induction μ with
    | zero => intro i sx px dx rx h1 h2 hμ; exact absurd hμ (Nat.not_lt_zero _)
    | succ μ ih6 =>
      intro i sx px dx rx h1 h2 hμ
      refine z_iload_n (i := 2) C dX4_layBeam_6 rfl rfl ?_
      refine z_aload_n (i := 0) C dX4_layBeam_7 rfl rfl ?_
      refine tg_state C q1864 dX4_layBeam_8 ?_
      refine z_bipush (v := 8) C dX4_layBeam_11 (by decide) ?_
      refine tl_state C (⟨(rfl : (8 : Int32) = nI 8), by decide⟩) dX4_layBeam_13 ?_
      refine z_seti h8 ?_
      refine z_icmp_ge (tgt := 34) C dX4_layBeam_14 (by decide) (fun c_14 => ?_) (fun c_14 => ?_)
      · have hend_14 : i = nm := by have := zge (b := nm) c_14 (by omega) (by omega); omega
        exact z_return C rfl dX4_layBeam_34 (⟨rfl, sx, px, dx, rx, rfl, by rw [← hend_14]; exact h2⟩) (Nat.le_of_ble_eq_true rfl) (Nat.le_of_ble_eq_true rfl)
      · have hlt_14 : i < nm := znge (b := nm) c_14 (by omega) (by omega)
        refine z_aload_n (i := 0) C dX4_layBeam_17 rfl rfl ?_
        refine z_iload_n (i := 2) C dX4_layBeam_18 rfl rfl ?_
        refine z_iload_n (i := 1) C dX4_layBeam_19 rfl rfl ?_
        refine z_callVn C (tw_obj) rfl (ct_X4_layParts D B i d ge (by omega) hb) q2221 q2223 qs60 q106 q2224 np_X4_layParts (zr_ok rfl rfl) rfl rfl (Nat.le_of_ble_eq_true rfl) (⟨Nat.le_of_ble_eq_true rfl, Nat.le_of_ble_eq_true rfl⟩) dX4_layBeam_20 ?_
        intro v9 G9 h9
        obtain ⟨rfl, py, dy, ry, rfl, h3⟩ := h9
        refine z_aload_n (i := 0) C dX4_layBeam_23 rfl rfl ?_
        refine z_iload_n (i := 2) C dX4_layBeam_24 rfl rfl ?_
        refine z_callVn C (tw_obj) rfl (ct_X4_addParts D B i (by omega)) q2247 q2249 qs65 q106 q2250 np_X4_addParts (zr_ok rfl rfl) rfl rfl (Nat.le_of_ble_eq_true rfl) (⟨Nat.le_of_ble_eq_true rfl, Nat.le_of_ble_eq_true rfl⟩) dX4_layBeam_25 ?_
        intro v9 G9 h9
        obtain ⟨rfl, sy, rfl, h4⟩ := h9
        refine z_iinc (v := nI (i + 1)) C dX4_layBeam_28 rfl (ziinc i) (Nat.le_of_ble_eq_true rfl) rfl ?_
        refine z_goto (tgt := 6) C dX4_layBeam_31 (by decide) ?_
        exact z_convG (ih6 (i + 1) sy py dy ry (by omega) (fun j hj => by rw [h4 j hj, h2 j hj, h3 j hj]; rfl) (by omega)) (And.intro (rfl) (And.intro (rfl) (And.intro (rfl) trivial))) (Nat.le_of_ble_eq_true rfl) (Nat.le_of_ble_eq_true rfl)
  exact z_convG (lp6 9 0 sx pa di re (by omega) (fun j hj => (h2 j hj).trans rfl) (by omega)) (And.intro (rfl) (And.intro (rfl) (And.intro (rfl) trivial))) (Nat.le_of_ble_eq_true rfl) (Nat.le_of_ble_eq_true rfl)
set_option maxHeartbeats 4000000 in
set_option maxRecDepth 100000 in
theorem ct_X4_layDirectedBeam (D : zG) (B : Nat) {b : zH} {t : tA} {st : Nat → Int32} {bk : Nat → Int32} {sv : Nat → Int32} {iz : Nat → Int32} {th : Int32} {di : Nat → Int32} {re : Nat → Int32} {si : Nat → Int32} {pa : Nat → Int32} {fo : Nat → Int64} {te : Nat → Int32} {tl : Int32} {po : Int32} {ts : Int32} {to : Int32} {le : Int32} {nu : Int32} {ec : Int32} {ep : Int32} {wo : Int64} (d : Int32) (ge : zGe st) (nm : Nat) (h8 : st 8 = nI nm) (hnm : nm ≤ 8) : Ct D B yX4_layDirectedBeam (ws_ yX4_layDirectedBeam cX4_layDirectedBeam 3 none) (zr 4) [.ref (t.1 0), .int d] (tw b t st bk sv iz th di re si pa fo te tl po ts to le nu ec ep wo) (fun w G9 => w = none ∧ ∃ sx px dx rx : Nat → Int32, G9 = (tw b t st bk sv iz th dx rx sx px fo te tl po ts to le nu ec ep wo) ∧ ∀ j, j < 256 → sx j = zbd st nm d j) zno := by
  refine ct_intro (by decide +kernel) (Nat.le_of_ble_eq_true rfl) ?_
  intro X C
  refine z_aload_n (i := 0) C dX4_layDirectedBeam_0 rfl rfl ?_
  refine z_callVn C (tw_obj) rfl (ct_X4_clearSignal D B) q2243 q2245 qs64 q106 q2246 np_X4_clearSignal (zr_ok rfl rfl) rfl rfl (Nat.le_of_ble_eq_true rfl) (⟨Nat.le_of_ble_eq_true rfl, Nat.le_of_ble_eq_true rfl⟩) dX4_layDirectedBeam_1 ?_
  intro v9 G9 h9
  obtain ⟨rfl, sx, rfl, h2⟩ := h9
  refine z_iconst (v := 0) C dX4_layDirectedBeam_4 (by decide) ?_
  refine z_istore_n (i := 2) C dX4_layDirectedBeam_5 rfl (Nat.le_of_ble_eq_true rfl) rfl ?_
  have lp6 : ∀ (μ : Nat) (i : Nat) (sx px dx rx : Nat → Int32) (h1 : i ≤ nm) (h2 : ∀ j, j < 256 → sx j = zbd st i d j), nm - i < μ → Z X 6 [some (.ref (t.1 0)), some (.int d), some (.int (nI i))] [] (tw b t st bk sv iz th dx rx sx px fo te tl po ts to le nu ec ep wo) 0 0 := by
    intro μ
    induction μ with
    | zero => intro i sx px dx rx h1 h2 hμ; exact absurd hμ (Nat.not_lt_zero _)
    | succ μ ih6 =>
      intro i sx px dx rx h1 h2 hμ
      refine z_iload_n (i := 2) C dX4_layDirectedBeam_6 rfl rfl ?_
      refine z_aload_n (i := 0) C dX4_layDirectedBeam_7 rfl rfl ?_
      refine tg_state C q1864 dX4_layDirectedBeam_8 ?_
      refine z_bipush (v := 8) C dX4_layDirectedBeam_11 (by decide) ?_
      refine tl_state C (⟨(rfl : (8 : Int32) = nI 8), by decide⟩) dX4_layDirectedBeam_13 ?_
      refine z_seti h8 ?_
      refine z_icmp_ge (tgt := 34) C dX4_layDirectedBeam_14 (by decide) (fun c_14 => ?_) (fun c_14 => ?_)
      · have hend_14 : i = nm := by have := zge (b := nm) c_14 (by omega) (by omega); omega
        exact z_return C rfl dX4_layDirectedBeam_34 (⟨rfl, sx, px, dx, rx, rfl, by rw [← hend_14]; exact h2⟩) (Nat.le_of_ble_eq_true rfl) (Nat.le_of_ble_eq_true rfl)
      · have hlt_14 : i < nm := znge (b := nm) c_14 (by omega) (by omega)
        refine z_aload_n (i := 0) C dX4_layDirectedBeam_17 rfl rfl ?_
        refine z_iload_n (i := 2) C dX4_layDirectedBeam_18 rfl rfl ?_
        refine z_iload_n (i := 1) C dX4_layDirectedBeam_19 rfl rfl ?_
        refine z_callVn C (tw_obj) rfl (ct_X4_layDirectedParts D B i d ge (by omega)) q2225 q2227 qs61 q106 q2228 np_X4_layDirectedParts (zr_ok rfl rfl) rfl rfl (Nat.le_of_ble_eq_true rfl) (⟨Nat.le_of_ble_eq_true rfl, Nat.le_of_ble_eq_true rfl⟩) dX4_layDirectedBeam_20 ?_
        intro v9 G9 h9
        obtain ⟨rfl, py, rfl, h3⟩ := h9
        obtain ⟨dy, hdy⟩ : ∃ dy, dy = dx := ⟨_, rfl⟩
        obtain ⟨ry, hry⟩ : ∃ ry, ry = rx := ⟨_, rfl⟩
        subst hdy hry
        refine z_aload_n (i := 0) C dX4_layDirectedBeam_23 rfl rfl ?_
        refine z_iload_n (i := 2) C dX4_layDirectedBeam_24 rfl rfl ?_
        refine z_callVn C (tw_obj) rfl (ct_X4_addParts D B i (by omega)) q2247 q2249 qs65 q106 q2250 np_X4_addParts (zr_ok rfl rfl) rfl rfl (Nat.le_of_ble_eq_true rfl) (⟨Nat.le_of_ble_eq_true rfl, Nat.le_of_ble_eq_true rfl⟩) dX4_layDirectedBeam_25 ?_
        intro v9 G9 h9
        obtain ⟨rfl, sy, rfl, h4⟩ := h9
        refine z_iinc (v := nI (i + 1)) C dX4_layDirectedBeam_28 rfl (ziinc i) (Nat.le_of_ble_eq_true rfl) rfl ?_
        refine z_goto (tgt := 6) C dX4_layDirectedBeam_31 (by decide) ?_
        exact z_convG (ih6 (i + 1) sy py dy ry (by omega) (fun j hj => by rw [h4 j hj, h2 j hj, h3 j hj]; rfl) (by omega)) (And.intro (rfl) (And.intro (rfl) (And.intro (rfl) trivial))) (Nat.le_of_ble_eq_true rfl) (Nat.le_of_ble_eq_true rfl)
  exact z_convG (lp6 9 0 sx pa di re (by omega) (fun j hj => (h2 j hj).trans rfl) (by omega)) (And.intro (rfl) (And.intro (rfl) (And.intro (rfl) trivial))) (Nat.le_of_ble_eq_true rfl) (Nat.le_of_ble_eq_true rfl)
