/-! the twin: texts, saved states -/
set_option maxHeartbeats 4000000 in
set_option maxRecDepth 100000 in
theorem ct_X4_appendText_ok (D : zG) (B : Nat) {b : zH} {t : tA} {st : Nat → Int32} {bk : Nat → Int32} {sv : Nat → Int32} {iz : Nat → Int32} {th : Int32} {di : Nat → Int32} {re : Nat → Int32} {si : Nat → Int32} {pa : Nat → Int32} {fo : Nat → Int64} {te : Nat → Int32} {tl : Int32} {po : Int32} {ts : Int32} {to : Int32} {le : Int32} {nu : Int32} {ec : Int32} {ep : Int32} {wo : Int64} (x : Int32) (n : Nat) (hn : tl = nI n) (hn4 : n + 4 ≤ 500) : Ct D B yX4_appendText (ws_ yX4_appendText cX4_appendText 3 (some .int)) (zr 1) [.ref (t.1 0), .int x] (tw b t st bk sv iz th di re si pa fo te tl po ts to le nu ec ep wo) (zpe (some (.int (nI (n + 4)))) (tw b t st bk sv iz 0 di re si pa fo (zap te n x 4) (nI (n + 4)) po ts to le nu ec ep wo)) zno := by
  refine ct_intro (by decide +kernel) (Nat.le_of_ble_eq_true rfl) ?_
  intro X C
  subst hn
  refine z_aload_n (i := 0) C dX4_appendText_0 rfl rfl ?_
  refine z_iconst (v := 0) C dX4_appendText_1 (by decide) ?_
  refine tp_thrown C q1868 dX4_appendText_2 ?_
  refine z_aload_n (i := 0) C dX4_appendText_5 rfl rfl ?_
  refine tg_textLength C q1875 dX4_appendText_6 ?_
  refine z_iconst (v := 4) C dX4_appendText_9 (by decide) ?_
  refine z_iadd C dX4_appendText_10 ?_
  refine z_seti (nI_add n 4) ?_
  refine z_sipush (v := 500) C dX4_appendText_11 (by decide) ?_
  refine z_icmp_le (tgt := 23) C dX4_appendText_14 (by decide) (fun c_14 => ?_) (fun c_14 => ?_)
  · refine z_bipush (v := 24) C dX4_appendText_23 (by decide) ?_
    refine z_istore_n (i := 2) C dX4_appendText_25 rfl (Nat.le_of_ble_eq_true rfl) rfl ?_
    have lp26 : ∀ (μ : Nat) (k : Nat) (h1 : k ≤ 4), 4 - k < μ → Z X 26 [some (.ref (t.1 0)), some (.int x), some (.int (24 - 8 * nI k))] [] (tw b t st bk sv iz 0 di re si pa fo (zap te n x k) (nI (n + k)) po ts to le nu ec ep wo) 0 0 := by
      intro μ
      induction μ with
      | zero => intro k h1 hμ; exact absurd hμ (Nat.not_lt_zero _)
      | succ μ ih26 =>
        intro k h1 hμ
        refine z_iload_n (i := 2) C dX4_appendText_26 rfl rfl ?_
        refine z_if_lt (tgt := 62) C dX4_appendText_27 (by decide) (fun c_27 => ?_) (fun c_27 => ?_)
        · have hk : k = 4 := (zap_sh k (by omega)).mp c_27
          subst hk
          refine z_aload_n (i := 0) C dX4_appendText_62 rfl rfl ?_
          refine tg_textLength C q1875 dX4_appendText_63 ?_
          exact z_ireturn C rfl (rfl) dX4_appendText_66 (⟨rfl, rfl⟩) (Nat.le_of_ble_eq_true rfl) (Nat.le_of_ble_eq_true rfl)
        · have hk : k < 4 := by
            rcases Nat.lt_or_ge k 4 with q | q
            · exact q
            · exact absurd ((zap_sh k (by omega)).mpr (by omega)) c_27
          refine z_aload_n (i := 0) C dX4_appendText_30 rfl rfl ?_
          refine tg_text C q1874 dX4_appendText_31 ?_
          refine z_aload_n (i := 0) C dX4_appendText_34 rfl rfl ?_
          refine tg_textLength C q1875 dX4_appendText_35 ?_
          refine z_iload_n (i := 1) C dX4_appendText_38 rfl rfl ?_
          refine z_iload_n (i := 2) C dX4_appendText_39 rfl rfl ?_
          refine z_ishr C dX4_appendText_40 ?_
          refine z_sipush (v := 255) C dX4_appendText_41 (by decide) ?_
          refine z_iand C dX4_appendText_44 ?_
          refine ts_text C ⟨rfl, by omega⟩ dX4_appendText_45 ?_
          refine z_aload_n (i := 0) C dX4_appendText_46 rfl rfl ?_
          refine z_dup C dX4_appendText_47 rfl ?_
          refine tg_textLength C q1875 dX4_appendText_48 ?_
          refine z_iconst (v := 1) C dX4_appendText_51 (by decide) ?_
          refine z_iadd C dX4_appendText_52 ?_
          refine z_seti (nI_1 (n + k)) ?_
          refine tp_textLength C q1875 dX4_appendText_53 ?_
          refine z_iinc (v := 24 - 8 * nI (k + 1)) C dX4_appendText_56 rfl (zap_st k) (Nat.le_of_ble_eq_true rfl) rfl ?_
          refine z_goto (tgt := 26) C dX4_appendText_59 (by decide) ?_
          exact z_convG (ih26 (k + 1) (by omega) (by omega)) (And.intro (rfl) (And.intro (rfl) (And.intro (rfl) trivial))) (Nat.le_of_ble_eq_true rfl) (Nat.le_of_ble_eq_true rfl)
    exact z_convG (lp26 5 0 (by omega) (by omega)) (And.intro (rfl) (And.intro (rfl) (And.intro (rfl) trivial))) (Nat.le_of_ble_eq_true rfl) (Nat.le_of_ble_eq_true rfl)
  · exact absurd (nI_le hn4 (by decide)) c_14
set_option maxHeartbeats 4000000 in
set_option maxRecDepth 100000 in
theorem ct_X4_appendText_1 (D : zG) (B : Nat) {b : zH} {t : tA} {st : Nat → Int32} {bk : Nat → Int32} {sv : Nat → Int32} {iz : Nat → Int32} {th : Int32} {di : Nat → Int32} {re : Nat → Int32} {si : Nat → Int32} {pa : Nat → Int32} {fo : Nat → Int64} {te : Nat → Int32} {tl : Int32} {po : Int32} {ts : Int32} {to : Int32} {le : Int32} {nu : Int32} {ec : Int32} {ep : Int32} {wo : Int64} (x : Int32) (h : ¬ tl + 4 ≤ 500) : Ct D B yX4_appendText (ws_ yX4_appendText cX4_appendText 3 (some .int)) (zr 1) [.ref (t.1 0), .int x] (tw b t st bk sv iz th di re si pa fo te tl po ts to le nu ec ep wo) (zpe (some (.int (0))) (tw b t st bk sv iz 1 di re si pa fo te tl po ts to le nu ec ep wo)) zno := by
  refine ct_intro (by decide +kernel) (Nat.le_of_ble_eq_true rfl) ?_
  intro X C
  refine z_aload_n (i := 0) C dX4_appendText_0 rfl rfl ?_
  refine z_iconst (v := 0) C dX4_appendText_1 (by decide) ?_
  refine tp_thrown C q1868 dX4_appendText_2 ?_
  refine z_aload_n (i := 0) C dX4_appendText_5 rfl rfl ?_
  refine tg_textLength C q1875 dX4_appendText_6 ?_
  refine z_iconst (v := 4) C dX4_appendText_9 (by decide) ?_
  refine z_iadd C dX4_appendText_10 ?_
  refine z_sipush (v := 500) C dX4_appendText_11 (by decide) ?_
  refine z_icmp_le (tgt := 23) C dX4_appendText_14 (by decide) (fun c_14 => ?_) (fun c_14 => ?_)
  · exact absurd c_14 h
  · refine z_aload_n (i := 0) C dX4_appendText_17 rfl rfl ?_
    refine z_iconst (v := 1) C dX4_appendText_18 (by decide) ?_
    refine z_callVe C (tw_obj) rfl (ct_X4_fail D B _) q1941 q1943 qs26 q106 q1944 np_X4_fail (zr_ok rfl rfl) rfl rfl (Nat.le_of_ble_eq_true rfl) (⟨Nat.le_of_ble_eq_true rfl, Nat.le_of_ble_eq_true rfl⟩) dX4_appendText_19 ?_
    exact z_ireturn C rfl (rfl) dX4_appendText_22 (⟨rfl, rfl⟩) (Nat.le_of_ble_eq_true rfl) (Nat.le_of_ble_eq_true rfl)
set_option maxHeartbeats 4000000 in
set_option maxRecDepth 100000 in
theorem ct_X4_truncateText_ok (D : zG) (B : Nat) {b : zH} {t : tA} {st : Nat → Int32} {bk : Nat → Int32} {sv : Nat → Int32} {iz : Nat → Int32} {th : Int32} {di : Nat → Int32} {re : Nat → Int32} {si : Nat → Int32} {pa : Nat → Int32} {fo : Nat → Int64} {te : Nat → Int32} {tl : Int32} {po : Int32} {ts : Int32} {to : Int32} {le : Int32} {nu : Int32} {ec : Int32} {ep : Int32} {wo : Int64} (x : Int32) (h : 0 ≤ x ∧ x ≤ tl) : Ct D B yX4_truncateText (ws_ yX4_truncateText cX4_truncateText 2 (some .int)) (zr 1) [.ref (t.1 0), .int x] (tw b t st bk sv iz th di re si pa fo te tl po ts to le nu ec ep wo) (zpe (some (.int (x))) (tw b t st bk sv iz 0 di re si pa fo te x po ts to le nu ec ep wo)) zno := by
  refine ct_intro (by decide +kernel) (Nat.le_of_ble_eq_true rfl) ?_
  intro X C
  refine z_aload_n (i := 0) C dX4_truncateText_0 rfl rfl ?_
  refine z_iconst (v := 0) C dX4_truncateText_1 (by decide) ?_
  refine tp_thrown C q1868 dX4_truncateText_2 ?_
  refine z_iload_n (i := 1) C dX4_truncateText_5 rfl rfl ?_
  refine z_iconst (v := 0) C dX4_truncateText_6 (by decide) ?_
  refine z_aload_n (i := 0) C dX4_truncateText_7 rfl rfl ?_
  refine tg_textLength C q1875 dX4_truncateText_8 ?_
  refine z_callSe C (ct_X4_isBetween D B _ _ _) q1934 q1935 q106 q1936 np_X4_isBetween (zr_ok rfl rfl) rfl rfl (Nat.le_of_ble_eq_true rfl) (⟨Nat.le_of_ble_eq_true rfl, Nat.le_of_ble_eq_true rfl⟩) dX4_truncateText_11 ?_
  refine z_seti (zb_t (h)) ?_
  refine z_if_ne (tgt := 23) C dX4_truncateText_14 (by decide) (fun c_14 => ?_) (fun c_14 => ?_)
  · refine z_aload_n (i := 0) C dX4_truncateText_23 rfl rfl ?_
    refine z_iload_n (i := 1) C dX4_truncateText_24 rfl rfl ?_
    refine tp_textLength C q1875 dX4_truncateText_25 ?_
    refine z_aload_n (i := 0) C dX4_truncateText_28 rfl rfl ?_
    refine tg_textLength C q1875 dX4_truncateText_29 ?_
    exact z_ireturn C rfl (rfl) dX4_truncateText_32 (⟨rfl, rfl⟩) (Nat.le_of_ble_eq_true rfl) (Nat.le_of_ble_eq_true rfl)
  · exact absurd c_14 (by decide)
set_option maxHeartbeats 4000000 in
set_option maxRecDepth 100000 in
theorem ct_X4_truncateText_1 (D : zG) (B : Nat) {b : zH} {t : tA} {st : Nat → Int32} {bk : Nat → Int32} {sv : Nat → Int32} {iz : Nat → Int32} {th : Int32} {di : Nat → Int32} {re : Nat → Int32} {si : Nat → Int32} {pa : Nat → Int32} {fo : Nat → Int64} {te : Nat → Int32} {tl : Int32} {po : Int32} {ts : Int32} {to : Int32} {le : Int32} {nu : Int32} {ec : Int32} {ep : Int32} {wo : Int64} (x : Int32) (h : ¬ (0 ≤ x ∧ x ≤ tl)) : Ct D B yX4_truncateText (ws_ yX4_truncateText cX4_truncateText 2 (some .int)) (zr 1) [.ref (t.1 0), .int x] (tw b t st bk sv iz th di re si pa fo te tl po ts to le nu ec ep wo) (zpe (some (.int (0))) (tw b t st bk sv iz 1 di re si pa fo te tl po ts to le nu ec ep wo)) zno := by
  refine ct_intro (by decide +kernel) (Nat.le_of_ble_eq_true rfl) ?_
  intro X C
  refine z_aload_n (i := 0) C dX4_truncateText_0 rfl rfl ?_
  refine z_iconst (v := 0) C dX4_truncateText_1 (by decide) ?_
  refine tp_thrown C q1868 dX4_truncateText_2 ?_
  refine z_iload_n (i := 1) C dX4_truncateText_5 rfl rfl ?_
  refine z_iconst (v := 0) C dX4_truncateText_6 (by decide) ?_
  refine z_aload_n (i := 0) C dX4_truncateText_7 rfl rfl ?_
  refine tg_textLength C q1875 dX4_truncateText_8 ?_
  refine z_callSe C (ct_X4_isBetween D B _ _ _) q1934 q1935 q106 q1936 np_X4_isBetween (zr_ok rfl rfl) rfl rfl (Nat.le_of_ble_eq_true rfl) (⟨Nat.le_of_ble_eq_true rfl, Nat.le_of_ble_eq_true rfl⟩) dX4_truncateText_11 ?_
  refine z_seti (zb_f (h)) ?_
  refine z_if_ne (tgt := 23) C dX4_truncateText_14 (by decide) (fun c_14 => ?_) (fun c_14 => ?_)
  · exact absurd rfl c_14
  · refine z_aload_n (i := 0) C dX4_truncateText_17 rfl rfl ?_
    refine z_iconst (v := 1) C dX4_truncateText_18 (by decide) ?_
    refine z_callVe C (tw_obj) rfl (ct_X4_fail D B _) q1941 q1943 qs26 q106 q1944 np_X4_fail (zr_ok rfl rfl) rfl rfl (Nat.le_of_ble_eq_true rfl) (⟨Nat.le_of_ble_eq_true rfl, Nat.le_of_ble_eq_true rfl⟩) dX4_truncateText_19 ?_
    exact z_ireturn C rfl (rfl) dX4_truncateText_22 (⟨rfl, rfl⟩) (Nat.le_of_ble_eq_true rfl) (Nat.le_of_ble_eq_true rfl)
set_option maxHeartbeats 4000000 in
set_option maxRecDepth 100000 in
theorem ct_X4_byteAt (D : zG) (B : Nat) {b : zH} {t : tA} {st : Nat → Int32} {bk : Nat → Int32} {sv : Nat → Int32} {iz : Nat → Int32} {th : Int32} {di : Nat → Int32} {re : Nat → Int32} {si : Nat → Int32} {pa : Nat → Int32} {fo : Nat → Int64} {te : Nat → Int32} {tl : Int32} {po : Int32} {ts : Int32} {to : Int32} {le : Int32} {nu : Int32} {ec : Int32} {ep : Int32} {wo : Int64} (p : Nat) (n : Nat) (hn : tl = nI n) (hn5 : n ≤ 500) (hp : p < 2 ^ 31) : Ct D B yX4_byteAt (ws_ yX4_byteAt cX4_byteAt 2 (some .int)) (zr 0) [.ref (t.1 0), .int (nI p)] (tw b t st bk sv iz th di re si pa fo te tl po ts to le nu ec ep wo) (zpe (some (.int (zby te n p))) (tw b t st bk sv iz th di re si pa fo te tl po ts to le nu ec ep wo)) zno := by
  refine ct_intro (by decide +kernel) (Nat.le_of_ble_eq_true rfl) ?_
  intro X C
  subst hn
  refine z_iload_n (i := 1) C dX4_byteAt_0 rfl rfl ?_
  refine z_aload_n (i := 0) C dX4_byteAt_1 rfl rfl ?_
  refine tg_textLength C q1875 dX4_byteAt_2 ?_
  refine z_icmp_ge (tgt := 17) C dX4_byteAt_5 (by decide) (fun c_5 => ?_) (fun c_5 => ?_)
  · have hlt : ¬ p < n := by have := zge (b := n) c_5 (by omega) (by omega); omega
    refine z_iconst (v := (-1)) C dX4_byteAt_17 (by decide) ?_
    exact z_ireturn C rfl (rfl) dX4_byteAt_18 (⟨zvs (by unfold zby; first | rw [if_pos hlt] | rw [if_neg hlt]), rfl⟩) (Nat.le_of_ble_eq_true rfl) (Nat.le_of_ble_eq_true rfl)
  · have hlt : p < n := znge (b := n) c_5 (by omega) (by omega)
    refine z_aload_n (i := 0) C dX4_byteAt_8 rfl rfl ?_
    refine tg_text C q1874 dX4_byteAt_9 ?_
    refine z_iload_n (i := 1) C dX4_byteAt_12 rfl rfl ?_
    refine tl_text C (⟨rfl, by omega⟩) dX4_byteAt_13 ?_
    refine z_goto (tgt := 18) C dX4_byteAt_14 (by decide) ?_
    exact z_ireturn C rfl (rfl) dX4_byteAt_18 (⟨zvs (by unfold zby; first | rw [if_pos hlt] | rw [if_neg hlt]), rfl⟩) (Nat.le_of_ble_eq_true rfl) (Nat.le_of_ble_eq_true rfl)
set_option maxHeartbeats 4000000 in
set_option maxRecDepth 100000 in
theorem ct_X4_errorCode (D : zG) (B : Nat) {b : zH} {t : tA} {st : Nat → Int32} {bk : Nat → Int32} {sv : Nat → Int32} {iz : Nat → Int32} {th : Int32} {di : Nat → Int32} {re : Nat → Int32} {si : Nat → Int32} {pa : Nat → Int32} {fo : Nat → Int64} {te : Nat → Int32} {tl : Int32} {po : Int32} {ts : Int32} {to : Int32} {le : Int32} {nu : Int32} {ec : Int32} {ep : Int32} {wo : Int64}   : Ct D B yX4_errorCode (ws_ yX4_errorCode cX4_errorCode 1 (some .int)) (zr 0) [.ref (t.1 0)] (tw b t st bk sv iz th di re si pa fo te tl po ts to le nu ec ep wo) (zpe (some (.int (ec))) (tw b t st bk sv iz 0 di re si pa fo te tl po ts to le nu ec ep wo)) zno := by
  refine ct_intro (by decide +kernel) (Nat.le_of_ble_eq_true rfl) ?_
  intro X C
  refine z_aload_n (i := 0) C dX4_errorCode_0 rfl rfl ?_
  refine z_iconst (v := 0) C dX4_errorCode_1 (by decide) ?_
  refine tp_thrown C q1868 dX4_errorCode_2 ?_
  refine z_aload_n (i := 0) C dX4_errorCode_5 rfl rfl ?_
  refine tg_errorCode C q1881 dX4_errorCode_6 ?_
  exact z_ireturn C rfl (rfl) dX4_errorCode_9 (⟨rfl, rfl⟩) (Nat.le_of_ble_eq_true rfl) (Nat.le_of_ble_eq_true rfl)
set_option maxHeartbeats 4000000 in
set_option maxRecDepth 100000 in
theorem ct_X4_errorPosition (D : zG) (B : Nat) {b : zH} {t : tA} {st : Nat → Int32} {bk : Nat → Int32} {sv : Nat → Int32} {iz : Nat → Int32} {th : Int32} {di : Nat → Int32} {re : Nat → Int32} {si : Nat → Int32} {pa : Nat → Int32} {fo : Nat → Int64} {te : Nat → Int32} {tl : Int32} {po : Int32} {ts : Int32} {to : Int32} {le : Int32} {nu : Int32} {ec : Int32} {ep : Int32} {wo : Int64}   : Ct D B yX4_errorPosition (ws_ yX4_errorPosition cX4_errorPosition 1 (some .int)) (zr 0) [.ref (t.1 0)] (tw b t st bk sv iz th di re si pa fo te tl po ts to le nu ec ep wo) (zpe (some (.int (ep))) (tw b t st bk sv iz 0 di re si pa fo te tl po ts to le nu ec ep wo)) zno := by
  refine ct_intro (by decide +kernel) (Nat.le_of_ble_eq_true rfl) ?_
  intro X C
  refine z_aload_n (i := 0) C dX4_errorPosition_0 rfl rfl ?_
  refine z_iconst (v := 0) C dX4_errorPosition_1 (by decide) ?_
  refine tp_thrown C q1868 dX4_errorPosition_2 ?_
  refine z_aload_n (i := 0) C dX4_errorPosition_5 rfl rfl ?_
  refine tg_errorPosition C q1882 dX4_errorPosition_6 ?_
  exact z_ireturn C rfl (rfl) dX4_errorPosition_9 (⟨rfl, rfl⟩) (Nat.le_of_ble_eq_true rfl) (Nat.le_of_ble_eq_true rfl)
theorem np_X4_copy : znp yX4_copy 4 := ⟨by decide +kernel, by decide +kernel, by decide +kernel⟩
set_option maxHeartbeats 4000000 in
set_option maxRecDepth 100000 in
theorem ct_X4_save_ok (D : zG) (B : Nat) {b : zH} {t : tA} {st : Nat → Int32} {bk : Nat → Int32} {sv : Nat → Int32} {iz : Nat → Int32} {th : Int32} {di : Nat → Int32} {re : Nat → Int32} {si : Nat → Int32} {pa : Nat → Int32} {fo : Nat → Int64} {te : Nat → Int32} {tl : Int32} {po : Int32} {ts : Int32} {to : Int32} {le : Int32} {nu : Int32} {ec : Int32} {ep : Int32} {wo : Int64} (k : Nat) (h : 0 ≤ nI k ∧ nI k ≤ 1) (hk : k < 2) : Ct D B yX4_save (ws_ yX4_save cX4_save 2 none) (zr 1) [.ref (t.1 0), .int (nI k)] (tw b t st bk sv iz th di re si pa fo te tl po ts to le nu ec ep wo) (fun w G9 => w = none ∧ ∃ vx : Nat → Int32, G9 = (tw b t st bk vx (upd iz k 1) 0 di re si pa fo te tl po ts to le nu ec ep wo) ∧ (∀ j, j < 2234 → vx (2234 * k + j) = st j) ∧ ∀ j, (j < 2234 * k ∨ 2234 * k + 2234 ≤ j) → vx j = sv j) zno := by
  refine ct_intro (by decide +kernel) (Nat.le_of_ble_eq_true rfl) ?_
  intro X C
  refine z_aload_n (i := 0) C dX4_save_0 rfl rfl ?_
  refine z_iload_n (i := 1) C dX4_save_1 rfl rfl ?_
  refine z_iconst (v := 0) C dX4_save_2 (by decide) ?_
  refine z_iconst (v := 1) C dX4_save_3 (by decide) ?_
  refine z_callSe C (ct_X4_isBetween D B _ _ _) q1934 q1935 q106 q1936 np_X4_isBetween (zr_ok rfl rfl) rfl rfl (Nat.le_of_ble_eq_true rfl) (⟨Nat.le_of_ble_eq_true rfl, Nat.le_of_ble_eq_true rfl⟩) dX4_save_4 ?_
  refine z_seti (zb_t (h)) ?_
  refine z_if_eq (tgt := 14) C dX4_save_7 (by decide) (fun c_7 => ?_) (fun c_7 => ?_)
  · exact absurd c_7 (by decide)
  · refine z_iconst (v := 0) C dX4_save_10 (by decide) ?_
    refine z_goto (tgt := 15) C dX4_save_11 (by decide) ?_
    refine tp_thrown C q1868 dX4_save_15 ?_
    refine z_aload_n (i := 0) C dX4_save_18 rfl rfl ?_
    refine tg_thrown C q1868 dX4_save_19 ?_
    refine z_if_ne (tgt := 49) C dX4_save_22 (by decide) (fun c_22 => ?_) (fun c_22 => ?_)
    · exact absurd rfl c_22
    · refine z_aload_n (i := 0) C dX4_save_25 rfl rfl ?_
      refine tg_state C q1864 dX4_save_26 ?_
      refine z_iconst (v := 0) C dX4_save_29 (by decide) ?_
      refine z_aload_n (i := 0) C dX4_save_30 rfl rfl ?_
      refine tg_saved C q1866 dX4_save_31 ?_
      refine z_sipush (v := 2234) C dX4_save_34 (by decide) ?_
      refine z_iload_n (i := 1) C dX4_save_37 rfl rfl ?_
      refine z_imul C dX4_save_38 ?_
      refine z_seti (y := nI (2234 * k)) (pk_mul 2234 k) ?_
      refine z_callSn C (ct_X4_copy D B (t.1 1) (t.1 3) 2234 4468 0 (2234 * k) st sv (tne t (by decide) (by decide) (by decide)) tw_state tw_saved (by omega) (by omega) (by decide) (by decide)) q2322 q2323 q106 q2324 np_X4_copy (zr_ok rfl rfl) rfl rfl (Nat.le_of_ble_eq_true rfl) (⟨Nat.le_of_ble_eq_true rfl, Nat.le_of_ble_eq_true rfl⟩) dX4_save_39 ?_
      intro v9 G9 h9
      obtain ⟨rfl, vx, rfl, v1, v2⟩ := h9
      refine z_heap (tu_saved vx) ?_
      refine z_aload_n (i := 0) C dX4_save_42 rfl rfl ?_
      refine tg_isSaved C q1867 dX4_save_43 ?_
      refine z_iload_n (i := 1) C dX4_save_46 rfl rfl ?_
      refine z_iconst (v := 1) C dX4_save_47 (by decide) ?_
      refine ts_isSaved (y := 1) C ⟨rfl, hk⟩ rfl dX4_save_48 ?_
      exact z_return C rfl dX4_save_49 (⟨rfl, vx, rfl, fun j hj => (v1 j hj).trans (by rw [Nat.zero_add]), v2⟩) (Nat.le_of_ble_eq_true rfl) (Nat.le_of_ble_eq_true rfl)
set_option maxHeartbeats 4000000 in
set_option maxRecDepth 100000 in
theorem ct_X4_save_1 (D : zG) (B : Nat) {b : zH} {t : tA} {st : Nat → Int32} {bk : Nat → Int32} {sv : Nat → Int32} {iz : Nat → Int32} {th : Int32} {di : Nat → Int32} {re : Nat → Int32} {si : Nat → Int32} {pa : Nat → Int32} {fo : Nat → Int64} {te : Nat → Int32} {tl : Int32} {po : Int32} {ts : Int32} {to : Int32} {le : Int32} {nu : Int32} {ec : Int32} {ep : Int32} {wo : Int64} (x : Int32) (h : ¬ (0 ≤ x ∧ x ≤ 1)) : Ct D B yX4_save (ws_ yX4_save cX4_save 2 none) (zr 1) [.ref (t.1 0), .int x] (tw b t st bk sv iz th di re si pa fo te tl po ts to le nu ec ep wo) (zpe none (tw b t st bk sv iz 1 di re si pa fo te tl po ts to le nu ec ep wo)) zno := by
  refine ct_intro (by decide +kernel) (Nat.le_of_ble_eq_true rfl) ?_
  intro X C
  refine z_aload_n (i := 0) C dX4_save_0 rfl rfl ?_
  refine z_iload_n (i := 1) C dX4_save_1 rfl rfl ?_
  refine z_iconst (v := 0) C dX4_save_2 (by decide) ?_
  refine z_iconst (v := 1) C dX4_save_3 (by decide) ?_
  refine z_callSe C (ct_X4_isBetween D B _ _ _) q1934 q1935 q106 q1936 np_X4_isBetween (zr_ok rfl rfl) rfl rfl (Nat.le_of_ble_eq_true rfl) (⟨Nat.le_of_ble_eq_true rfl, Nat.le_of_ble_eq_true rfl⟩) dX4_save_4 ?_
  refine z_seti (zb_f (h)) ?_
  refine z_if_eq (tgt := 14) C dX4_save_7 (by decide) (fun c_7 => ?_) (fun c_7 => ?_)
  · refine z_iconst (v := 1) C dX4_save_14 (by decide) ?_
    refine tp_thrown C q1868 dX4_save_15 ?_
    refine z_aload_n (i := 0) C dX4_save_18 rfl rfl ?_
    refine tg_thrown C q1868 dX4_save_19 ?_
    refine z_if_ne (tgt := 49) C dX4_save_22 (by decide) (fun c_22 => ?_) (fun c_22 => ?_)
    · exact z_return C rfl dX4_save_49 (⟨rfl, rfl⟩) (Nat.le_of_ble_eq_true rfl) (Nat.le_of_ble_eq_true rfl)
    · exact absurd c_22 (by decide)
  · exact absurd rfl c_7
set_option maxHeartbeats 4000000 in
set_option maxRecDepth 100000 in
theorem ct_X4_restore_ok (D : zG) (B : Nat) {b : zH} {t : tA} {st : Nat → Int32} {bk : Nat → Int32} {sv : Nat → Int32} {iz : Nat → Int32} {th : Int32} {di : Nat → Int32} {re : Nat → Int32} {si : Nat → Int32} {pa : Nat → Int32} {fo : Nat → Int64} {te : Nat → Int32} {tl : Int32} {po : Int32} {ts : Int32} {to : Int32} {le : Int32} {nu : Int32} {ec : Int32} {ep : Int32} {wo : Int64} (k : Nat) (h : 0 ≤ nI k ∧ nI k ≤ 1) (hk : k < 2) (hz : ¬ iz k = 0) : Ct D B yX4_restore (ws_ yX4_restore cX4_restore 2 none) (zr 1) [.ref (t.1 0), .int (nI k)] (tw b t st bk sv iz th di re si pa fo te tl po ts to le nu ec ep wo) (fun w G9 => w = none ∧ ∃ vx : Nat → Int32, G9 = (tw b t vx bk sv iz 0 di re si pa fo te tl po ts to le nu ec ep wo) ∧ ∀ j, j < 2234 → vx j = sv (2234 * k + j)) zno := by
  refine ct_intro (by decide +kernel) (Nat.le_of_ble_eq_true rfl) ?_
  intro X C
  refine z_aload_n (i := 0) C dX4_restore_0 rfl rfl ?_
  refine z_iload_n (i := 1) C dX4_restore_1 rfl rfl ?_
  refine z_iconst (v := 0) C dX4_restore_2 (by decide) ?_
  refine z_iconst (v := 1) C dX4_restore_3 (by decide) ?_
  refine z_callSe C (ct_X4_isBetween D B _ _ _) q1934 q1935 q106 q1936 np_X4_isBetween (zr_ok rfl rfl) rfl rfl (Nat.le_of_ble_eq_true rfl) (⟨Nat.le_of_ble_eq_true rfl, Nat.le_of_ble_eq_true rfl⟩) dX4_restore_4 ?_
  refine z_seti (zb_t (h)) ?_
  refine z_if_ne (tgt := 14) C dX4_restore_7 (by decide) (fun c_7 => ?_) (fun c_7 => ?_)
  · refine z_aload_n (i := 0) C dX4_restore_14 rfl rfl ?_
    refine tg_isSaved C q1867 dX4_restore_15 ?_
    refine z_iload_n (i := 1) C dX4_restore_18 rfl rfl ?_
    refine tl_isSaved C ⟨rfl, hk⟩ dX4_restore_19 ?_
    refine z_if_ne (tgt := 27) C dX4_restore_20 (by decide) (fun c_20 => ?_) (fun c_20 => ?_)
    · refine z_iconst (v := 0) C dX4_restore_27 (by decide) ?_
      refine tp_thrown C q1868 dX4_restore_28 ?_
      refine z_aload_n (i := 0) C dX4_restore_31 rfl rfl ?_
      refine tg_thrown C q1868 dX4_restore_32 ?_
      refine z_if_ne (tgt := 55) C dX4_restore_35 (by decide) (fun c_35 => ?_) (fun c_35 => ?_)
      · exact absurd rfl c_35
      · refine z_aload_n (i := 0) C dX4_restore_38 rfl rfl ?_
        refine tg_saved C q1866 dX4_restore_39 ?_
        refine z_sipush (v := 2234) C dX4_restore_42 (by decide) ?_
        refine z_iload_n (i := 1) C dX4_restore_45 rfl rfl ?_
        refine z_imul C dX4_restore_46 ?_
        refine z_seti (y := nI (2234 * k)) (pk_mul 2234 k) ?_
        refine z_aload_n (i := 0) C dX4_restore_47 rfl rfl ?_
        refine tg_state C q1864 dX4_restore_48 ?_
        refine z_iconst (v := 0) C dX4_restore_51 (by decide) ?_
        refine z_callSn C (ct_X4_copy D B (t.1 3) (t.1 1) 4468 2234 (2234 * k) 0 sv st (tne t (by decide) (by decide) (by decide)) tw_saved tw_state (by omega) (by omega) (by decide) (by decide)) q2322 q2323 q106 q2324 np_X4_copy (zr_ok rfl rfl) rfl rfl (Nat.le_of_ble_eq_true rfl) (⟨Nat.le_of_ble_eq_true rfl, Nat.le_of_ble_eq_true rfl⟩) dX4_restore_52 ?_
        intro v9 G9 h9
        obtain ⟨rfl, vx, rfl, v1, v2⟩ := h9
        refine z_heap (tu_state vx) ?_
        exact z_return C rfl dX4_restore_55 (⟨rfl, vx, rfl, fun j hj => by have := v1 j hj; rw [Nat.zero_add] at this; exact this⟩) (Nat.le_of_ble_eq_true rfl) (Nat.le_of_ble_eq_true rfl)
    · exact absurd c_20 hz
  · exact absurd c_7 (by decide)
set_option maxHeartbeats 4000000 in
set_option maxRecDepth 100000 in
theorem ct_X4_restore_1 (D : zG) (B : Nat) {b : zH} {t : tA} {st : Nat → Int32} {bk : Nat → Int32} {sv : Nat → Int32} {iz : Nat → Int32} {th : Int32} {di : Nat → Int32} {re : Nat → Int32} {si : Nat → Int32} {pa : Nat → Int32} {fo : Nat → Int64} {te : Nat → Int32} {tl : Int32} {po : Int32} {ts : Int32} {to : Int32} {le : Int32} {nu : Int32} {ec : Int32} {ep : Int32} {wo : Int64} (x : Int32) (h : ¬ (0 ≤ x ∧ x ≤ 1)) : Ct D B yX4_restore (ws_ yX4_restore cX4_restore 2 none) (zr 1) [.ref (t.1 0), .int x] (tw b t st bk sv iz th di re si pa fo te tl po ts to le nu ec ep wo) (zpe none (tw b t st bk sv iz 1 di re si pa fo te tl po ts to le nu ec ep wo)) zno := by
  refine ct_intro (by decide +kernel) (Nat.le_of_ble_eq_true rfl) ?_
  intro X C
  refine z_aload_n (i := 0) C dX4_restore_0 rfl rfl ?_
  refine z_iload_n (i := 1) C dX4_restore_1 rfl rfl ?_
  refine z_iconst (v := 0) C dX4_restore_2 (by decide) ?_
  refine z_iconst (v := 1) C dX4_restore_3 (by decide) ?_
  refine z_callSe C (ct_X4_isBetween D B _ _ _) q1934 q1935 q106 q1936 np_X4_isBetween (zr_ok rfl rfl) rfl rfl (Nat.le_of_ble_eq_true rfl) (⟨Nat.le_of_ble_eq_true rfl, Nat.le_of_ble_eq_true rfl⟩) dX4_restore_4 ?_
  refine z_seti (zb_f (h)) ?_
  refine z_if_ne (tgt := 14) C dX4_restore_7 (by decide) (fun c_7 => ?_) (fun c_7 => ?_)
  · exact absurd rfl c_7
  · refine z_iconst (v := 1) C dX4_restore_10 (by decide) ?_
    refine z_goto (tgt := 28) C dX4_restore_11 (by decide) ?_
    refine tp_thrown C q1868 dX4_restore_28 ?_
    refine z_aload_n (i := 0) C dX4_restore_31 rfl rfl ?_
    refine tg_thrown C q1868 dX4_restore_32 ?_
    refine z_if_ne (tgt := 55) C dX4_restore_35 (by decide) (fun c_35 => ?_) (fun c_35 => ?_)
    · exact z_return C rfl dX4_restore_55 (⟨rfl, rfl⟩) (Nat.le_of_ble_eq_true rfl) (Nat.le_of_ble_eq_true rfl)
    · exact absurd c_35 (by decide)
set_option maxHeartbeats 4000000 in
set_option maxRecDepth 100000 in
theorem ct_X4_restore_2 (D : zG) (B : Nat) {b : zH} {t : tA} {st : Nat → Int32} {bk : Nat → Int32} {sv : Nat → Int32} {iz : Nat → Int32} {th : Int32} {di : Nat → Int32} {re : Nat → Int32} {si : Nat → Int32} {pa : Nat → Int32} {fo : Nat → Int64} {te : Nat → Int32} {tl : Int32} {po : Int32} {ts : Int32} {to : Int32} {le : Int32} {nu : Int32} {ec : Int32} {ep : Int32} {wo : Int64} (k : Nat) (h : 0 ≤ nI k ∧ nI k ≤ 1) (hk : k < 2) (hz : iz k = 0) : Ct D B yX4_restore (ws_ yX4_restore cX4_restore 2 none) (zr 1) [.ref (t.1 0), .int (nI k)] (tw b t st bk sv iz th di re si pa fo te tl po ts to le nu ec ep wo) (zpe none (tw b t st bk sv iz 2 di re si pa fo te tl po ts to le nu ec ep wo)) zno := by
  refine ct_intro (by decide +kernel) (Nat.le_of_ble_eq_true rfl) ?_
  intro X C
  refine z_aload_n (i := 0) C dX4_restore_0 rfl rfl ?_
  refine z_iload_n (i := 1) C dX4_restore_1 rfl rfl ?_
  refine z_iconst (v := 0) C dX4_restore_2 (by decide) ?_
  refine z_iconst (v := 1) C dX4_restore_3 (by decide) ?_
  refine z_callSe C (ct_X4_isBetween D B _ _ _) q1934 q1935 q106 q1936 np_X4_isBetween (zr_ok rfl rfl) rfl rfl (Nat.le_of_ble_eq_true rfl) (⟨Nat.le_of_ble_eq_true rfl, Nat.le_of_ble_eq_true rfl⟩) dX4_restore_4 ?_
  refine z_seti (zb_t (h)) ?_
  refine z_if_ne (tgt := 14) C dX4_restore_7 (by decide) (fun c_7 => ?_) (fun c_7 => ?_)
  · refine z_aload_n (i := 0) C dX4_restore_14 rfl rfl ?_
    refine tg_isSaved C q1867 dX4_restore_15 ?_
    refine z_iload_n (i := 1) C dX4_restore_18 rfl rfl ?_
    refine tl_isSaved C ⟨rfl, hk⟩ dX4_restore_19 ?_
    refine z_if_ne (tgt := 27) C dX4_restore_20 (by decide) (fun c_20 => ?_) (fun c_20 => ?_)
    · exact absurd hz c_20
    · refine z_iconst (v := 2) C dX4_restore_23 (by decide) ?_
      refine z_goto (tgt := 28) C dX4_restore_24 (by decide) ?_
      refine tp_thrown C q1868 dX4_restore_28 ?_
      refine z_aload_n (i := 0) C dX4_restore_31 rfl rfl ?_
      refine tg_thrown C q1868 dX4_restore_32 ?_
      refine z_if_ne (tgt := 55) C dX4_restore_35 (by decide) (fun c_35 => ?_) (fun c_35 => ?_)
      · exact z_return C rfl dX4_restore_55 (⟨rfl, rfl⟩) (Nat.le_of_ble_eq_true rfl) (Nat.le_of_ble_eq_true rfl)
      · exact absurd c_35 (by decide)
  · exact absurd c_7 (by decide)
set_option maxHeartbeats 4000000 in
set_option maxRecDepth 100000 in
theorem ct_X4_meanOf (D : zG) (B : Nat) {b : zH} {t : tA} {st : Nat → Int32} {bk : Nat → Int32} {sv : Nat → Int32} {iz : Nat → Int32} {th : Int32} {di : Nat → Int32} {re : Nat → Int32} {si : Nat → Int32} {pa : Nat → Int32} {fo : Nat → Int64} {te : Nat → Int32} {tl : Int32} {po : Int32} {ts : Int32} {to : Int32} {le : Int32} {nu : Int32} {ec : Int32} {ep : Int32} {wo : Int64} (f l : Nat) (hf : f ≤ l) (hl : l < 256) (hF : vf_n64 (FP.ddiv (FP.l2d (zen si f l)) (FP.i2d (nI (l + 1 - f))))) : Ct D B yX4_meanOf (ws_ yX4_meanOf cX4_meanOf 3 (some .double)) (zr 1) [.ref (t.1 0), .int (nI f), .int (nI l)] (tw b t st bk sv iz th di re si pa fo te tl po ts to le nu ec ep wo) (zpe (some (.double (FP.ddiv (FP.l2d (zen si f l)) (FP.i2d (nI (l + 1 - f)))))) (tw b t st bk sv iz th di re si pa fo te tl po ts to le nu ec ep wo)) zno := by
  refine ct_intro (by decide +kernel) (Nat.le_of_ble_eq_true rfl) ?_
  intro X C
  refine z_aload_n (i := 0) C dX4_meanOf_0 rfl rfl ?_
  refine z_iload_n (i := 1) C dX4_meanOf_1 rfl rfl ?_
  refine z_iload_n (i := 2) C dX4_meanOf_2 rfl rfl ?_
  refine z_callVe C (tw_obj) rfl (ct_X4_energyOf D B f l (by omega) hl) q2136 q2138 qs51 q106 q2139 np_X4_energyOf (zr_ok rfl rfl) rfl rfl (Nat.le_of_ble_eq_true rfl) (⟨Nat.le_of_ble_eq_true rfl, Nat.le_of_ble_eq_true rfl⟩) dX4_meanOf_3 ?_
  refine z_l2d C dX4_meanOf_6 ?_
  refine z_iload_n (i := 2) C dX4_meanOf_7 rfl rfl ?_
  refine z_iload_n (i := 1) C dX4_meanOf_8 rfl rfl ?_
  refine z_isub C dX4_meanOf_9 ?_
  refine z_seti (y := nI (l - f)) (pk_sub (by omega)) ?_
  refine z_iconst (v := 1) C dX4_meanOf_10 (by decide) ?_
  refine z_iadd C dX4_meanOf_11 ?_
  refine z_seti (y := nI (l + 1 - f)) ((nI_1 _).trans (by congr 1; omega)) ?_
  refine z_i2d C dX4_meanOf_12 ?_
  refine z_ddiv C dX4_meanOf_13 (hF) ?_
  exact z_dreturn C rfl dX4_meanOf_14 (⟨rfl, rfl⟩) (Nat.le_of_ble_eq_true rfl) (Nat.le_of_ble_eq_true rfl)
theorem np_X4_meanOf : znp yX4_meanOf 2 := ⟨by decide +kernel, by decide +kernel, by decide +kernel⟩
set_option maxHeartbeats 4000000 in
set_option maxRecDepth 100000 in
theorem ct_X4_meanPower_ok (D : zG) (B : Nat) {b : zH} {t : tA} {st : Nat → Int32} {bk : Nat → Int32} {sv : Nat → Int32} {iz : Nat → Int32} {th : Int32} {di : Nat → Int32} {re : Nat → Int32} {si : Nat → Int32} {pa : Nat → Int32} {fo : Nat → Int64} {te : Nat → Int32} {tl : Int32} {po : Int32} {ts : Int32} {to : Int32} {le : Int32} {nu : Int32} {ec : Int32} {ep : Int32} {wo : Int64} (f l : Nat) (ge : zGe st) (nm : Nat) (h8 : st 8 = nI nm) (hnm : nm ≤ 8) (hw : (0 ≤ nI f ∧ nI f ≤ 255) ∧ nI f ≤ nI l ∧ nI l ≤ 255) (hf : f ≤ l) (hl : l < 256) (hF : vf_n64 (FP.ddiv (FP.l2d (zen (zbs st nm 0) f l)) (FP.i2d (nI (l + 1 - f))))) : Ct D B yX4_meanPower (ws_ yX4_meanPower cX4_meanPower 3 (some .double)) (zr 6) [.ref (t.1 0), .int (nI f), .int (nI l)] (tw b t st bk sv iz th di re si pa fo te tl po ts to le nu ec ep wo) (fun w G9 => w = some (.double (FP.ddiv (FP.l2d (zen (zbs st nm 0) f l)) (FP.i2d (nI (l + 1 - f))))) ∧ ∃ sx px dx rx : Nat → Int32, G9 = (tw b t st bk sv iz 0 dx rx sx px fo te tl po ts to le nu ec ep wo)) zno := by
  refine ct_intro (by decide +kernel) (Nat.le_of_ble_eq_true rfl) ?_
  intro X C
  refine z_aload_n (i := 0) C dX4_meanPower_0 rfl rfl ?_
  refine z_iconst (v := 0) C dX4_meanPower_1 (by decide) ?_
  refine tp_thrown C q1868 dX4_meanPower_2 ?_
  refine z_iload_n (i := 1) C dX4_meanPower_5 rfl rfl ?_
  refine z_iload_n (i := 2) C dX4_meanPower_6 rfl rfl ?_
  refine z_callSe C (ct_X4_isWindow D B _ _) q2125 q2126 q106 q2127 np_X4_isWindow (zr_ok rfl rfl) rfl rfl (Nat.le_of_ble_eq_true rfl) (⟨Nat.le_of_ble_eq_true rfl, Nat.le_of_ble_eq_true rfl⟩) dX4_meanPower_7 ?_
  refine z_seti (zb_t (hw)) ?_
  refine z_if_ne (tgt := 20) C dX4_meanPower_10 (by decide) (fun c_10 => ?_) (fun c_10 => ?_)
  · refine z_aload_n (i := 0) C dX4_meanPower_20 rfl rfl ?_
    refine z_iconst (v := 0) C dX4_meanPower_21 (by decide) ?_
    refine z_callVn C (tw_obj) rfl (ct_X4_layBeam D B 0 ge nm h8 hnm (by unfold zin; decide)) q2239 q2241 qs63 q106 q2242 np_X4_layBeam (zr_ok rfl rfl) rfl rfl (Nat.le_of_ble_eq_true rfl) (⟨Nat.le_of_ble_eq_true rfl, Nat.le_of_ble_eq_true rfl⟩) dX4_meanPower_22 ?_
    intro v9 G9 h9
    obtain ⟨rfl, sx, px, dx, rx, rfl, hs⟩ := h9
    have hz : zen sx f l = zen (zbs st nm 0) f l := zen_congr (fun j hj => hs j (by omega))
    rw [← hz] at hF
    refine z_aload_n (i := 0) C dX4_meanPower_25 rfl rfl ?_
    refine z_iload_n (i := 1) C dX4_meanPower_26 rfl rfl ?_
    refine z_iload_n (i := 2) C dX4_meanPower_27 rfl rfl ?_
    refine z_callVe C (tw_obj) rfl (ct_X4_meanOf D B f l hf hl hF) q2302 q2304 qs70 q106 q2305 np_X4_meanOf (zr_ok rfl rfl) rfl rfl (Nat.le_of_ble_eq_true rfl) (⟨Nat.le_of_ble_eq_true rfl, Nat.le_of_ble_eq_true rfl⟩) dX4_meanPower_28 ?_
    exact z_dreturn C rfl dX4_meanPower_31 (⟨by rw [← hz], sx, px, dx, rx, rfl⟩) (Nat.le_of_ble_eq_true rfl) (Nat.le_of_ble_eq_true rfl)
  · exact absurd c_10 (by decide)
set_option maxHeartbeats 4000000 in
set_option maxRecDepth 100000 in
theorem ct_X4_meanPower_1 (D : zG) (B : Nat) {b : zH} {t : tA} {st : Nat → Int32} {bk : Nat → Int32} {sv : Nat → Int32} {iz : Nat → Int32} {th : Int32} {di : Nat → Int32} {re : Nat → Int32} {si : Nat → Int32} {pa : Nat → Int32} {fo : Nat → Int64} {te : Nat → Int32} {tl : Int32} {po : Int32} {ts : Int32} {to : Int32} {le : Int32} {nu : Int32} {ec : Int32} {ep : Int32} {wo : Int64} (f l : Int32) (h : ¬ ((0 ≤ f ∧ f ≤ 255) ∧ f ≤ l ∧ l ≤ 255)) : Ct D B yX4_meanPower (ws_ yX4_meanPower cX4_meanPower 3 (some .double)) (zr 6) [.ref (t.1 0), .int f, .int l] (tw b t st bk sv iz th di re si pa fo te tl po ts to le nu ec ep wo) (zpe (some (.double FP.dconst0)) (tw b t st bk sv iz 1 di re si pa fo te tl po ts to le nu ec ep wo)) zno := by
  refine ct_intro (by decide +kernel) (Nat.le_of_ble_eq_true rfl) ?_
  intro X C
  refine z_aload_n (i := 0) C dX4_meanPower_0 rfl rfl ?_
  refine z_iconst (v := 0) C dX4_meanPower_1 (by decide) ?_
  refine tp_thrown C q1868 dX4_meanPower_2 ?_
  refine z_iload_n (i := 1) C dX4_meanPower_5 rfl rfl ?_
  refine z_iload_n (i := 2) C dX4_meanPower_6 rfl rfl ?_
  refine z_callSe C (ct_X4_isWindow D B _ _) q2125 q2126 q106 q2127 np_X4_isWindow (zr_ok rfl rfl) rfl rfl (Nat.le_of_ble_eq_true rfl) (⟨Nat.le_of_ble_eq_true rfl, Nat.le_of_ble_eq_true rfl⟩) dX4_meanPower_7 ?_
  refine z_seti (zb_f (h)) ?_
  refine z_if_ne (tgt := 20) C dX4_meanPower_10 (by decide) (fun c_10 => ?_) (fun c_10 => ?_)
  · exact absurd rfl c_10
  · refine z_aload_n (i := 0) C dX4_meanPower_13 rfl rfl ?_
    refine z_iconst (v := 1) C dX4_meanPower_14 (by decide) ?_
    refine tp_thrown C q1868 dX4_meanPower_15 ?_
    refine z_dconst0 C dX4_meanPower_18 ?_
    exact z_dreturn C rfl dX4_meanPower_19 (⟨rfl, rfl⟩) (Nat.le_of_ble_eq_true rfl) (Nat.le_of_ble_eq_true rfl)
set_option maxHeartbeats 4000000 in
set_option maxRecDepth 100000 in
theorem ct_X4_crest_ok (D : zG) (B : Nat) {b : zH} {t : tA} {st : Nat → Int32} {bk : Nat → Int32} {sv : Nat → Int32} {iz : Nat → Int32} {th : Int32} {di : Nat → Int32} {re : Nat → Int32} {si : Nat → Int32} {pa : Nat → Int32} {fo : Nat → Int64} {te : Nat → Int32} {tl : Int32} {po : Int32} {ts : Int32} {to : Int32} {le : Int32} {nu : Int32} {ec : Int32} {ep : Int32} {wo : Int64} (f l : Nat) (ge : zGe st) (nm : Nat) (h8 : st 8 = nI nm) (hnm : nm ≤ 8) (hw : (0 ≤ nI f ∧ nI f ≤ 255) ∧ nI f ≤ nI l ∧ nI l ≤ 255) (hf : f ≤ l) (hl : l < 256) (hF : vf_n64 (FP.ddiv (FP.l2d (zen (zbs st nm 0) f l)) (FP.i2d (nI (l + 1 - f))))) (hP : vf_n64 (FP.dmul (FP.i2d (zpk (zbs st nm 0) f (l + 1 - f))) (FP.i2d (zpk (zbs st nm 0) f (l + 1 - f))))) (hQ : ¬ zen (zbs st nm 0) f l = 0 → vf_n64 (FP.ddiv (FP.dmul (FP.i2d (zpk (zbs st nm 0) f (l + 1 - f))) (FP.i2d (zpk (zbs st nm 0) f (l + 1 - f)))) (FP.ddiv (FP.l2d (zen (zbs st nm 0) f l)) (FP.i2d (nI (l + 1 - f)))))) (hR : ¬ zen (zbs st nm 0) f l = 0 → vf_n32 (FP.d2f (FP.ddiv (FP.dmul (FP.i2d (zpk (zbs st nm 0) f (l + 1 - f))) (FP.i2d (zpk (zbs st nm 0) f (l + 1 - f)))) (FP.ddiv (FP.l2d (zen (zbs st nm 0) f l)) (FP.i2d (nI (l + 1 - f))))))) : Ct D B yX4_crest (ws_ yX4_crest cX4_crest 5 (some .float)) (zr 6) [.ref (t.1 0), .int (nI f), .int (nI l)] (tw b t st bk sv iz th di re si pa fo te tl po ts to le nu ec ep wo) (fun w G9 => w = some (.float (if zen (zbs st nm 0) f l = 0 then FP.fconst0 else FP.d2f (FP.ddiv (FP.dmul (FP.i2d (zpk (zbs st nm 0) f (l + 1 - f))) (FP.i2d (zpk (zbs st nm 0) f (l + 1 - f)))) (FP.ddiv (FP.l2d (zen (zbs st nm 0) f l)) (FP.i2d (nI (l + 1 - f))))))) ∧ ∃ sx px dx rx : Nat → Int32, G9 = (tw b t st bk sv iz 0 dx rx sx px fo te tl po ts to le nu ec ep wo)) zno := by
  refine ct_intro (by decide +kernel) (Nat.le_of_ble_eq_true rfl) ?_
  intro X C
  refine z_aload_n (i := 0) C dX4_crest_0 rfl rfl ?_
  refine z_iconst (v := 0) C dX4_crest_1 (by decide) ?_
  refine tp_thrown C q1868 dX4_crest_2 ?_
  refine z_iload_n (i := 1) C dX4_crest_5 rfl rfl ?_
  refine z_iload_n (i := 2) C dX4_crest_6 rfl rfl ?_
  refine z_callSe C (ct_X4_isWindow D B _ _) q2125 q2126 q106 q2127 np_X4_isWindow (zr_ok rfl rfl) rfl rfl (Nat.le_of_ble_eq_true rfl) (⟨Nat.le_of_ble_eq_true rfl, Nat.le_of_ble_eq_true rfl⟩) dX4_crest_7 ?_
  refine z_seti (zb_t (hw)) ?_
  refine z_if_ne (tgt := 20) C dX4_crest_10 (by decide) (fun c_10 => ?_) (fun c_10 => ?_)
  · refine z_aload_n (i := 0) C dX4_crest_20 rfl rfl ?_
    refine z_iconst (v := 0) C dX4_crest_21 (by decide) ?_
    refine z_callVn C (tw_obj) rfl (ct_X4_layBeam D B 0 ge nm h8 hnm (by unfold zin; decide)) q2239 q2241 qs63 q106 q2242 np_X4_layBeam (zr_ok rfl rfl) rfl rfl (Nat.le_of_ble_eq_true rfl) (⟨Nat.le_of_ble_eq_true rfl, Nat.le_of_ble_eq_true rfl⟩) dX4_crest_22 ?_
    intro v9 G9 h9
    obtain ⟨rfl, sx, px, dx, rx, rfl, hs⟩ := h9
    have hz : zen sx f l = zen (zbs st nm 0) f l := zen_congr (fun j hj => hs j (by omega))
    have hk : zpk sx f (l + 1 - f) = zpk (zbs st nm 0) f (l + 1 - f) := zpk_congr _ (fun j hj => hs j (by omega))
    rw [← hz] at hF hQ hR
    rw [← hk] at hP hQ hR
    refine z_aload_n (i := 0) C dX4_crest_25 rfl rfl ?_
    refine z_iload_n (i := 1) C dX4_crest_26 rfl rfl ?_
    refine z_iload_n (i := 2) C dX4_crest_27 rfl rfl ?_
    refine z_callVe C (tw_obj) rfl (ct_X4_peakOf D B f l (by omega) hl) q2140 q2142 qs52 q106 q2143 np_X4_peakOf (zr_ok rfl rfl) rfl rfl (Nat.le_of_ble_eq_true rfl) (⟨Nat.le_of_ble_eq_true rfl, Nat.le_of_ble_eq_true rfl⟩) dX4_crest_28 ?_
    refine z_i2d C dX4_crest_31 ?_
    refine z_dstore_n (i := 3) C dX4_crest_32 rfl (Nat.le_of_ble_eq_true rfl) rfl ?_
    refine z_aload_n (i := 0) C dX4_crest_33 rfl rfl ?_
    refine z_iload_n (i := 1) C dX4_crest_34 rfl rfl ?_
    refine z_iload_n (i := 2) C dX4_crest_35 rfl rfl ?_
    refine z_callVe C (tw_obj) rfl (ct_X4_energyOf D B f l (by omega) hl) q2136 q2138 qs51 q106 q2139 np_X4_energyOf (zr_ok rfl rfl) rfl rfl (Nat.le_of_ble_eq_true rfl) (⟨Nat.le_of_ble_eq_true rfl, Nat.le_of_ble_eq_true rfl⟩) dX4_crest_36 ?_
    refine z_lconst (v := 0) C dX4_crest_39 (by decide) ?_
    refine z_lc_ne (tgt := 48) C dX4_crest_40 dX4_crest_41 (by decide) (fun c_41 => ?_) (fun c_41 => ?_)
    · refine z_dload_n (i := 3) C dX4_crest_48 rfl rfl ?_
      refine z_dload_n (i := 3) C dX4_crest_49 rfl rfl ?_
      refine z_dmul C dX4_crest_50 (hP) ?_
      refine z_aload_n (i := 0) C dX4_crest_51 rfl rfl ?_
      refine z_iload_n (i := 1) C dX4_crest_52 rfl rfl ?_
      refine z_iload_n (i := 2) C dX4_crest_53 rfl rfl ?_
      refine z_callVe C (tw_obj) rfl (ct_X4_meanOf D B f l hf hl hF) q2302 q2304 qs70 q106 q2305 np_X4_meanOf (zr_ok rfl rfl) rfl rfl (Nat.le_of_ble_eq_true rfl) (⟨Nat.le_of_ble_eq_true rfl, Nat.le_of_ble_eq_true rfl⟩) dX4_crest_54 ?_
      refine z_ddiv C dX4_crest_57 (hQ c_41) ?_
      refine z_d2f C dX4_crest_58 (hR c_41) ?_
      exact z_freturn C rfl dX4_crest_59 (⟨by first | rw [← hz, if_pos c_41] | rw [← hz, ← hk, if_neg c_41], sx, px, dx, rx, rfl⟩) (Nat.le_of_ble_eq_true rfl) (Nat.le_of_ble_eq_true rfl)
    · refine z_fconst0 C dX4_crest_44 ?_
      refine z_goto (tgt := 59) C dX4_crest_45 (by decide) ?_
      exact z_freturn C rfl dX4_crest_59 (⟨by first | rw [← hz, if_pos c_41] | rw [← hz, ← hk, if_neg c_41], sx, px, dx, rx, rfl⟩) (Nat.le_of_ble_eq_true rfl) (Nat.le_of_ble_eq_true rfl)
  · exact absurd c_10 (by decide)
set_option maxHeartbeats 4000000 in
set_option maxRecDepth 100000 in
theorem ct_X4_crest_1 (D : zG) (B : Nat) {b : zH} {t : tA} {st : Nat → Int32} {bk : Nat → Int32} {sv : Nat → Int32} {iz : Nat → Int32} {th : Int32} {di : Nat → Int32} {re : Nat → Int32} {si : Nat → Int32} {pa : Nat → Int32} {fo : Nat → Int64} {te : Nat → Int32} {tl : Int32} {po : Int32} {ts : Int32} {to : Int32} {le : Int32} {nu : Int32} {ec : Int32} {ep : Int32} {wo : Int64} (f l : Int32) (h : ¬ ((0 ≤ f ∧ f ≤ 255) ∧ f ≤ l ∧ l ≤ 255)) : Ct D B yX4_crest (ws_ yX4_crest cX4_crest 5 (some .float)) (zr 6) [.ref (t.1 0), .int f, .int l] (tw b t st bk sv iz th di re si pa fo te tl po ts to le nu ec ep wo) (zpe (some (.float FP.fconst0)) (tw b t st bk sv iz 1 di re si pa fo te tl po ts to le nu ec ep wo)) zno := by
  refine ct_intro (by decide +kernel) (Nat.le_of_ble_eq_true rfl) ?_
  intro X C
  refine z_aload_n (i := 0) C dX4_crest_0 rfl rfl ?_
  refine z_iconst (v := 0) C dX4_crest_1 (by decide) ?_
  refine tp_thrown C q1868 dX4_crest_2 ?_
  refine z_iload_n (i := 1) C dX4_crest_5 rfl rfl ?_
  refine z_iload_n (i := 2) C dX4_crest_6 rfl rfl ?_
  refine z_callSe C (ct_X4_isWindow D B _ _) q2125 q2126 q106 q2127 np_X4_isWindow (zr_ok rfl rfl) rfl rfl (Nat.le_of_ble_eq_true rfl) (⟨Nat.le_of_ble_eq_true rfl, Nat.le_of_ble_eq_true rfl⟩) dX4_crest_7 ?_
  refine z_seti (zb_f (h)) ?_
  refine z_if_ne (tgt := 20) C dX4_crest_10 (by decide) (fun c_10 => ?_) (fun c_10 => ?_)
  · exact absurd rfl c_10
  · refine z_aload_n (i := 0) C dX4_crest_13 rfl rfl ?_
    refine z_iconst (v := 1) C dX4_crest_14 (by decide) ?_
    refine tp_thrown C q1868 dX4_crest_15 ?_
    refine z_fconst0 C dX4_crest_18 ?_
    exact z_freturn C rfl dX4_crest_19 (⟨rfl, rfl⟩) (Nat.le_of_ble_eq_true rfl) (Nat.le_of_ble_eq_true rfl)
