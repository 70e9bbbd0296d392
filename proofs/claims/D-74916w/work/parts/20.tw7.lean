/-! the twin: beams, powers, scans -/
theorem np_X4_layBeam : znp yX4_layBeam 1 := ⟨by decide +kernel, by decide +kernel, by decide +kernel⟩
set_option maxHeartbeats 4000000 in
set_option maxRecDepth 100000 in
theorem ct_X4_beam_ok (D : zG) (B : Nat) {b : zH} {t : tA} {st : Nat → Int32} {bk : Nat → Int32} {sv : Nat → Int32} {iz : Nat → Int32} {th : Int32} {di : Nat → Int32} {re : Nat → Int32} {si : Nat → Int32} {pa : Nat → Int32} {fo : Nat → Int64} {te : Nat → Int32} {tl : Int32} {po : Int32} {ts : Int32} {to : Int32} {le : Int32} {nu : Int32} {ec : Int32} {ep : Int32} {wo : Int64} (j : Nat) (ge : zGe st) (nm : Nat) (h8 : st 8 = nI nm) (hnm : nm ≤ 8) (ht : 0 ≤ nI j ∧ nI j ≤ 255) (hj : j < 256) : Ct D B yX4_beam (ws_ yX4_beam cX4_beam 2 (some .int)) (zr 6) [.ref (t.1 0), .int (nI j)] (tw b t st bk sv iz th di re si pa fo te tl po ts to le nu ec ep wo) (fun w G9 => w = some (.int (zbs st nm 0 j)) ∧ ∃ sx px dx rx : Nat → Int32, G9 = (tw b t st bk sv iz 0 dx rx sx px fo te tl po ts to le nu ec ep wo)) zno := by
  refine ct_intro (by decide +kernel) (Nat.le_of_ble_eq_true rfl) ?_
  intro X C
  refine z_aload_n (i := 0) C dX4_beam_0 rfl rfl ?_
  refine z_iconst (v := 0) C dX4_beam_1 (by decide) ?_
  refine tp_thrown C q1868 dX4_beam_2 ?_
  refine z_iload_n (i := 1) C dX4_beam_5 rfl rfl ?_
  refine z_callSe C (ct_X4_isTime D B _) q2032 q2033 q106 q2034 np_X4_isTime (zr_ok rfl rfl) rfl rfl (Nat.le_of_ble_eq_true rfl) (⟨Nat.le_of_ble_eq_true rfl, Nat.le_of_ble_eq_true rfl⟩) dX4_beam_6 ?_
  refine z_seti (zb_t (ht)) ?_
  refine z_if_ne (tgt := 18) C dX4_beam_9 (by decide) (fun c_9 => ?_) (fun c_9 => ?_)
  · refine z_aload_n (i := 0) C dX4_beam_18 rfl rfl ?_
    refine z_iconst (v := 0) C dX4_beam_19 (by decide) ?_
    refine z_callVn C (tw_obj) rfl (ct_X4_layBeam D B 0 ge nm h8 hnm (by unfold zin; decide)) q2239 q2241 qs63 q106 q2242 np_X4_layBeam (zr_ok rfl rfl) rfl rfl (Nat.le_of_ble_eq_true rfl) (⟨Nat.le_of_ble_eq_true rfl, Nat.le_of_ble_eq_true rfl⟩) dX4_beam_20 ?_
    intro v9 G9 h9
    obtain ⟨rfl, sx, px, dx, rx, rfl, hs⟩ := h9
    refine z_aload_n (i := 0) C dX4_beam_23 rfl rfl ?_
    refine tg_signal C q1871 dX4_beam_24 ?_
    refine z_iload_n (i := 1) C dX4_beam_27 rfl rfl ?_
    refine tl_signal C (⟨rfl, hj⟩) dX4_beam_28 ?_
    exact z_ireturn C rfl (rfl) dX4_beam_29 (⟨zvs (hs j hj), sx, px, dx, rx, rfl⟩) (Nat.le_of_ble_eq_true rfl) (Nat.le_of_ble_eq_true rfl)
  · exact absurd c_9 (by decide)
set_option maxHeartbeats 4000000 in
set_option maxRecDepth 100000 in
theorem ct_X4_beam_1 (D : zG) (B : Nat) {b : zH} {t : tA} {st : Nat → Int32} {bk : Nat → Int32} {sv : Nat → Int32} {iz : Nat → Int32} {th : Int32} {di : Nat → Int32} {re : Nat → Int32} {si : Nat → Int32} {pa : Nat → Int32} {fo : Nat → Int64} {te : Nat → Int32} {tl : Int32} {po : Int32} {ts : Int32} {to : Int32} {le : Int32} {nu : Int32} {ec : Int32} {ep : Int32} {wo : Int64} (x : Int32) (ht : ¬ (0 ≤ x ∧ x ≤ 255)) : Ct D B yX4_beam (ws_ yX4_beam cX4_beam 2 (some .int)) (zr 6) [.ref (t.1 0), .int x] (tw b t st bk sv iz th di re si pa fo te tl po ts to le nu ec ep wo) (zpe (some (.int (0))) (tw b t st bk sv iz 1 di re si pa fo te tl po ts to le nu ec ep wo)) zno := by
  refine ct_intro (by decide +kernel) (Nat.le_of_ble_eq_true rfl) ?_
  intro X C
  refine z_aload_n (i := 0) C dX4_beam_0 rfl rfl ?_
  refine z_iconst (v := 0) C dX4_beam_1 (by decide) ?_
  refine tp_thrown C q1868 dX4_beam_2 ?_
  refine z_iload_n (i := 1) C dX4_beam_5 rfl rfl ?_
  refine z_callSe C (ct_X4_isTime D B _) q2032 q2033 q106 q2034 np_X4_isTime (zr_ok rfl rfl) rfl rfl (Nat.le_of_ble_eq_true rfl) (⟨Nat.le_of_ble_eq_true rfl, Nat.le_of_ble_eq_true rfl⟩) dX4_beam_6 ?_
  refine z_seti (zb_f (ht)) ?_
  refine z_if_ne (tgt := 18) C dX4_beam_9 (by decide) (fun c_9 => ?_) (fun c_9 => ?_)
  · exact absurd rfl c_9
  · refine z_aload_n (i := 0) C dX4_beam_12 rfl rfl ?_
    refine z_iconst (v := 1) C dX4_beam_13 (by decide) ?_
    refine z_callVe C (tw_obj) rfl (ct_X4_fail D B _) q1941 q1943 qs26 q106 q1944 np_X4_fail (zr_ok rfl rfl) rfl rfl (Nat.le_of_ble_eq_true rfl) (⟨Nat.le_of_ble_eq_true rfl, Nat.le_of_ble_eq_true rfl⟩) dX4_beam_14 ?_
    exact z_ireturn C rfl (rfl) dX4_beam_17 (⟨rfl, rfl⟩) (Nat.le_of_ble_eq_true rfl) (Nat.le_of_ble_eq_true rfl)
set_option maxHeartbeats 4000000 in
set_option maxRecDepth 100000 in
theorem ct_X4_measureBeam_0 (D : zG) (B : Nat) {b : zH} {t : tA} {st : Nat → Int32} {bk : Nat → Int32} {sv : Nat → Int32} {iz : Nat → Int32} {th : Int32} {di : Nat → Int32} {re : Nat → Int32} {si : Nat → Int32} {pa : Nat → Int32} {fo : Nat → Int64} {te : Nat → Int32} {tl : Int32} {po : Int32} {ts : Int32} {to : Int32} {le : Int32} {nu : Int32} {ec : Int32} {ep : Int32} {wo : Int64} (f l : Nat) (ge : zGe st) (nm : Nat) (h8 : st 8 = nI nm) (hnm : nm ≤ 8) (hw : (0 ≤ nI f ∧ nI f ≤ 255) ∧ nI f ≤ nI l ∧ nI l ≤ 255) (hf : f ≤ l) (hl : l < 256) : Ct D B yX4_measureBeam (ws_ yX4_measureBeam cX4_measureBeam 4 (some .long)) (zr 6) [.ref (t.1 0), .int 0, .int (nI f), .int (nI l)] (tw b t st bk sv iz th di re si pa fo te tl po ts to le nu ec ep wo) (fun w G9 => w = some (.long (zen (zbs st nm 0) f l)) ∧ ∃ sx px dx rx : Nat → Int32, G9 = (tw b t st bk sv iz 0 dx rx sx px fo te tl po ts to le nu ec ep wo)) zno := by
  refine ct_intro (by decide +kernel) (Nat.le_of_ble_eq_true rfl) ?_
  intro X C
  refine z_aload_n (i := 0) C dX4_measureBeam_0 rfl rfl ?_
  refine z_iconst (v := 0) C dX4_measureBeam_1 (by decide) ?_
  refine tp_thrown C q1868 dX4_measureBeam_2 ?_
  refine z_iload_n (i := 1) C dX4_measureBeam_5 rfl rfl ?_
  refine z_iconst (v := 0) C dX4_measureBeam_6 (by decide) ?_
  refine z_iconst (v := 4) C dX4_measureBeam_7 (by decide) ?_
  refine z_callSe C (ct_X4_isBetween D B _ _ _) q1934 q1935 q106 q1936 np_X4_isBetween (zr_ok rfl rfl) rfl rfl (Nat.le_of_ble_eq_true rfl) (⟨Nat.le_of_ble_eq_true rfl, Nat.le_of_ble_eq_true rfl⟩) dX4_measureBeam_8 ?_
  refine z_seti (zb_t (by decide)) ?_
  refine z_if_eq (tgt := 22) C dX4_measureBeam_11 (by decide) (fun c_11 => ?_) (fun c_11 => ?_)
  · exact absurd c_11 (by decide)
  · refine z_iload_n (i := 2) C dX4_measureBeam_14 rfl rfl ?_
    refine z_iload_n (i := 3) C dX4_measureBeam_15 rfl rfl ?_
    refine z_callSe C (ct_X4_isWindow D B _ _) q2125 q2126 q106 q2127 np_X4_isWindow (zr_ok rfl rfl) rfl rfl (Nat.le_of_ble_eq_true rfl) (⟨Nat.le_of_ble_eq_true rfl, Nat.le_of_ble_eq_true rfl⟩) dX4_measureBeam_16 ?_
    refine z_seti (zb_t (hw)) ?_
    refine z_if_ne (tgt := 29) C dX4_measureBeam_19 (by decide) (fun c_19 => ?_) (fun c_19 => ?_)
    · refine z_aload_n (i := 0) C dX4_measureBeam_29 rfl rfl ?_
      refine z_iconst (v := 0) C dX4_measureBeam_30 (by decide) ?_
      refine z_callVn C (tw_obj) rfl (ct_X4_layBeam D B 0 ge nm h8 hnm (by unfold zin; decide)) q2239 q2241 qs63 q106 q2242 np_X4_layBeam (zr_ok rfl rfl) rfl rfl (Nat.le_of_ble_eq_true rfl) (⟨Nat.le_of_ble_eq_true rfl, Nat.le_of_ble_eq_true rfl⟩) dX4_measureBeam_31 ?_
      intro v9 G9 h9
      obtain ⟨rfl, sx, px, dx, rx, rfl, hs⟩ := h9
      refine z_aload_n (i := 0) C dX4_measureBeam_34 rfl rfl ?_
      refine z_iload_n (i := 1) C dX4_measureBeam_35 rfl rfl ?_
      refine z_iload_n (i := 2) C dX4_measureBeam_36 rfl rfl ?_
      refine z_iload_n (i := 3) C dX4_measureBeam_37 rfl rfl ?_
      refine z_callVe C (tw_obj) rfl (ct_X4_measureOf_0 D B f l hf hl) q2132 q2134 qs50 q106 q2135 np_X4_measureOf (zr_ok rfl rfl) rfl rfl (Nat.le_of_ble_eq_true rfl) (⟨Nat.le_of_ble_eq_true rfl, Nat.le_of_ble_eq_true rfl⟩) dX4_measureBeam_38 ?_
      exact z_lreturn C rfl dX4_measureBeam_41 (⟨zvl (zen_congr (fun j hj => hs j (by omega))), sx, px, dx, rx, rfl⟩) (Nat.le_of_ble_eq_true rfl) (Nat.le_of_ble_eq_true rfl)
    · exact absurd c_19 (by decide)
set_option maxHeartbeats 4000000 in
set_option maxRecDepth 100000 in
theorem ct_X4_measureBeam_1 (D : zG) (B : Nat) {b : zH} {t : tA} {st : Nat → Int32} {bk : Nat → Int32} {sv : Nat → Int32} {iz : Nat → Int32} {th : Int32} {di : Nat → Int32} {re : Nat → Int32} {si : Nat → Int32} {pa : Nat → Int32} {fo : Nat → Int64} {te : Nat → Int32} {tl : Int32} {po : Int32} {ts : Int32} {to : Int32} {le : Int32} {nu : Int32} {ec : Int32} {ep : Int32} {wo : Int64} (f l : Nat) (ge : zGe st) (nm : Nat) (h8 : st 8 = nI nm) (hnm : nm ≤ 8) (hw : (0 ≤ nI f ∧ nI f ≤ 255) ∧ nI f ≤ nI l ∧ nI l ≤ 255) (hf : f ≤ l) (hl : l < 256) : Ct D B yX4_measureBeam (ws_ yX4_measureBeam cX4_measureBeam 4 (some .long)) (zr 6) [.ref (t.1 0), .int 1, .int (nI f), .int (nI l)] (tw b t st bk sv iz th di re si pa fo te tl po ts to le nu ec ep wo) (fun w G9 => w = some (.long ((zpk (zbs st nm 0) f (l + 1 - f)).toInt64)) ∧ ∃ sx px dx rx : Nat → Int32, G9 = (tw b t st bk sv iz 0 dx rx sx px fo te tl po ts to le nu ec ep wo)) zno := by
  refine ct_intro (by decide +kernel) (Nat.le_of_ble_eq_true rfl) ?_
  intro X C
  refine z_aload_n (i := 0) C dX4_measureBeam_0 rfl rfl ?_
  refine z_iconst (v := 0) C dX4_measureBeam_1 (by decide) ?_
  refine tp_thrown C q1868 dX4_measureBeam_2 ?_
  refine z_iload_n (i := 1) C dX4_measureBeam_5 rfl rfl ?_
  refine z_iconst (v := 0) C dX4_measureBeam_6 (by decide) ?_
  refine z_iconst (v := 4) C dX4_measureBeam_7 (by decide) ?_
  refine z_callSe C (ct_X4_isBetween D B _ _ _) q1934 q1935 q106 q1936 np_X4_isBetween (zr_ok rfl rfl) rfl rfl (Nat.le_of_ble_eq_true rfl) (⟨Nat.le_of_ble_eq_true rfl, Nat.le_of_ble_eq_true rfl⟩) dX4_measureBeam_8 ?_
  refine z_seti (zb_t (by decide)) ?_
  refine z_if_eq (tgt := 22) C dX4_measureBeam_11 (by decide) (fun c_11 => ?_) (fun c_11 => ?_)
  · exact absurd c_11 (by decide)
  · refine z_iload_n (i := 2) C dX4_measureBeam_14 rfl rfl ?_
    refine z_iload_n (i := 3) C dX4_measureBeam_15 rfl rfl ?_
    refine z_callSe C (ct_X4_isWindow D B _ _) q2125 q2126 q106 q2127 np_X4_isWindow (zr_ok rfl rfl) rfl rfl (Nat.le_of_ble_eq_true rfl) (⟨Nat.le_of_ble_eq_true rfl, Nat.le_of_ble_eq_true rfl⟩) dX4_measureBeam_16 ?_
    refine z_seti (zb_t (hw)) ?_
    refine z_if_ne (tgt := 29) C dX4_measureBeam_19 (by decide) (fun c_19 => ?_) (fun c_19 => ?_)
    · refine z_aload_n (i := 0) C dX4_measureBeam_29 rfl rfl ?_
      refine z_iconst (v := 0) C dX4_measureBeam_30 (by decide) ?_
      refine z_callVn C (tw_obj) rfl (ct_X4_layBeam D B 0 ge nm h8 hnm (by unfold zin; decide)) q2239 q2241 qs63 q106 q2242 np_X4_layBeam (zr_ok rfl rfl) rfl rfl (Nat.le_of_ble_eq_true rfl) (⟨Nat.le_of_ble_eq_true rfl, Nat.le_of_ble_eq_true rfl⟩) dX4_measureBeam_31 ?_
      intro v9 G9 h9
      obtain ⟨rfl, sx, px, dx, rx, rfl, hs⟩ := h9
      refine z_aload_n (i := 0) C dX4_measureBeam_34 rfl rfl ?_
      refine z_iload_n (i := 1) C dX4_measureBeam_35 rfl rfl ?_
      refine z_iload_n (i := 2) C dX4_measureBeam_36 rfl rfl ?_
      refine z_iload_n (i := 3) C dX4_measureBeam_37 rfl rfl ?_
      refine z_callVe C (tw_obj) rfl (ct_X4_measureOf_1 D B f l hf hl) q2132 q2134 qs50 q106 q2135 np_X4_measureOf (zr_ok rfl rfl) rfl rfl (Nat.le_of_ble_eq_true rfl) (⟨Nat.le_of_ble_eq_true rfl, Nat.le_of_ble_eq_true rfl⟩) dX4_measureBeam_38 ?_
      exact z_lreturn C rfl dX4_measureBeam_41 (⟨zvl (by rw [zpk_congr _ (fun j hj => hs j (by omega))]), sx, px, dx, rx, rfl⟩) (Nat.le_of_ble_eq_true rfl) (Nat.le_of_ble_eq_true rfl)
    · exact absurd c_19 (by decide)
set_option maxHeartbeats 4000000 in
set_option maxRecDepth 100000 in
theorem ct_X4_measureBeam_2 (D : zG) (B : Nat) {b : zH} {t : tA} {st : Nat → Int32} {bk : Nat → Int32} {sv : Nat → Int32} {iz : Nat → Int32} {th : Int32} {di : Nat → Int32} {re : Nat → Int32} {si : Nat → Int32} {pa : Nat → Int32} {fo : Nat → Int64} {te : Nat → Int32} {tl : Int32} {po : Int32} {ts : Int32} {to : Int32} {le : Int32} {nu : Int32} {ec : Int32} {ep : Int32} {wo : Int64} (f l : Nat) (ge : zGe st) (nm : Nat) (h8 : st 8 = nI nm) (hnm : nm ≤ 8) (hw : (0 ≤ nI f ∧ nI f ≤ 255) ∧ nI f ≤ nI l ∧ nI l ≤ 255) (hf : f ≤ l) (hl : l < 256) (ne : Nat) (hE : zen (zbs st nm 0) f l = lN ne) (hne : ne < 2 ^ 63) : Ct D B yX4_measureBeam (ws_ yX4_measureBeam cX4_measureBeam 4 (some .long)) (zr 6) [.ref (t.1 0), .int 2, .int (nI f), .int (nI l)] (tw b t st bk sv iz th di re si pa fo te tl po ts to le nu ec ep wo) (fun w G9 => w = some (.long ((nI (zdg ne)).toInt64)) ∧ ∃ sx px dx rx : Nat → Int32, G9 = (tw b t st bk sv iz 0 dx rx sx px fo te tl po ts to le nu ec ep wo)) zno := by
  refine ct_intro (by decide +kernel) (Nat.le_of_ble_eq_true rfl) ?_
  intro X C
  refine z_aload_n (i := 0) C dX4_measureBeam_0 rfl rfl ?_
  refine z_iconst (v := 0) C dX4_measureBeam_1 (by decide) ?_
  refine tp_thrown C q1868 dX4_measureBeam_2 ?_
  refine z_iload_n (i := 1) C dX4_measureBeam_5 rfl rfl ?_
  refine z_iconst (v := 0) C dX4_measureBeam_6 (by decide) ?_
  refine z_iconst (v := 4) C dX4_measureBeam_7 (by decide) ?_
  refine z_callSe C (ct_X4_isBetween D B _ _ _) q1934 q1935 q106 q1936 np_X4_isBetween (zr_ok rfl rfl) rfl rfl (Nat.le_of_ble_eq_true rfl) (⟨Nat.le_of_ble_eq_true rfl, Nat.le_of_ble_eq_true rfl⟩) dX4_measureBeam_8 ?_
  refine z_seti (zb_t (by decide)) ?_
  refine z_if_eq (tgt := 22) C dX4_measureBeam_11 (by decide) (fun c_11 => ?_) (fun c_11 => ?_)
  · exact absurd c_11 (by decide)
  · refine z_iload_n (i := 2) C dX4_measureBeam_14 rfl rfl ?_
    refine z_iload_n (i := 3) C dX4_measureBeam_15 rfl rfl ?_
    refine z_callSe C (ct_X4_isWindow D B _ _) q2125 q2126 q106 q2127 np_X4_isWindow (zr_ok rfl rfl) rfl rfl (Nat.le_of_ble_eq_true rfl) (⟨Nat.le_of_ble_eq_true rfl, Nat.le_of_ble_eq_true rfl⟩) dX4_measureBeam_16 ?_
    refine z_seti (zb_t (hw)) ?_
    refine z_if_ne (tgt := 29) C dX4_measureBeam_19 (by decide) (fun c_19 => ?_) (fun c_19 => ?_)
    · refine z_aload_n (i := 0) C dX4_measureBeam_29 rfl rfl ?_
      refine z_iconst (v := 0) C dX4_measureBeam_30 (by decide) ?_
      refine z_callVn C (tw_obj) rfl (ct_X4_layBeam D B 0 ge nm h8 hnm (by unfold zin; decide)) q2239 q2241 qs63 q106 q2242 np_X4_layBeam (zr_ok rfl rfl) rfl rfl (Nat.le_of_ble_eq_true rfl) (⟨Nat.le_of_ble_eq_true rfl, Nat.le_of_ble_eq_true rfl⟩) dX4_measureBeam_31 ?_
      intro v9 G9 h9
      obtain ⟨rfl, sx, px, dx, rx, rfl, hs⟩ := h9
      refine z_aload_n (i := 0) C dX4_measureBeam_34 rfl rfl ?_
      refine z_iload_n (i := 1) C dX4_measureBeam_35 rfl rfl ?_
      refine z_iload_n (i := 2) C dX4_measureBeam_36 rfl rfl ?_
      refine z_iload_n (i := 3) C dX4_measureBeam_37 rfl rfl ?_
      refine z_callVe C (tw_obj) rfl (ct_X4_measureOf_2 D B f l hf hl ne ((zen_congr (fun j hj => hs j (by omega))).trans hE) hne) q2132 q2134 qs50 q106 q2135 np_X4_measureOf (zr_ok rfl rfl) rfl rfl (Nat.le_of_ble_eq_true rfl) (⟨Nat.le_of_ble_eq_true rfl, Nat.le_of_ble_eq_true rfl⟩) dX4_measureBeam_38 ?_
      exact z_lreturn C rfl dX4_measureBeam_41 (⟨zvl (rfl), sx, px, dx, rx, rfl⟩) (Nat.le_of_ble_eq_true rfl) (Nat.le_of_ble_eq_true rfl)
    · exact absurd c_19 (by decide)
set_option maxHeartbeats 4000000 in
set_option maxRecDepth 100000 in
theorem ct_X4_measureBeam_3 (D : zG) (B : Nat) {b : zH} {t : tA} {st : Nat → Int32} {bk : Nat → Int32} {sv : Nat → Int32} {iz : Nat → Int32} {th : Int32} {di : Nat → Int32} {re : Nat → Int32} {si : Nat → Int32} {pa : Nat → Int32} {fo : Nat → Int64} {te : Nat → Int32} {tl : Int32} {po : Int32} {ts : Int32} {to : Int32} {le : Int32} {nu : Int32} {ec : Int32} {ep : Int32} {wo : Int64} (f l : Nat) (ge : zGe st) (nm : Nat) (h8 : st 8 = nI nm) (hnm : nm ≤ 8) (hw : (0 ≤ nI f ∧ nI f ≤ 255) ∧ nI f ≤ nI l ∧ nI l ≤ 255) (hf : f ≤ l) (hl : l < 256) : Ct D B yX4_measureBeam (ws_ yX4_measureBeam cX4_measureBeam 4 (some .long)) (zr 6) [.ref (t.1 0), .int 3, .int (nI f), .int (nI l)] (tw b t st bk sv iz th di re si pa fo te tl po ts to le nu ec ep wo) (fun w G9 => w = some (.long (zsm (zbs st nm 0) f l)) ∧ ∃ sx px dx rx : Nat → Int32, G9 = (tw b t st bk sv iz 0 dx rx sx px fo te tl po ts to le nu ec ep wo)) zno := by
  refine ct_intro (by decide +kernel) (Nat.le_of_ble_eq_true rfl) ?_
  intro X C
  refine z_aload_n (i := 0) C dX4_measureBeam_0 rfl rfl ?_
  refine z_iconst (v := 0) C dX4_measureBeam_1 (by decide) ?_
  refine tp_thrown C q1868 dX4_measureBeam_2 ?_
  refine z_iload_n (i := 1) C dX4_measureBeam_5 rfl rfl ?_
  refine z_iconst (v := 0) C dX4_measureBeam_6 (by decide) ?_
  refine z_iconst (v := 4) C dX4_measureBeam_7 (by decide) ?_
  refine z_callSe C (ct_X4_isBetween D B _ _ _) q1934 q1935 q106 q1936 np_X4_isBetween (zr_ok rfl rfl) rfl rfl (Nat.le_of_ble_eq_true rfl) (⟨Nat.le_of_ble_eq_true rfl, Nat.le_of_ble_eq_true rfl⟩) dX4_measureBeam_8 ?_
  refine z_seti (zb_t (by decide)) ?_
  refine z_if_eq (tgt := 22) C dX4_measureBeam_11 (by decide) (fun c_11 => ?_) (fun c_11 => ?_)
  · exact absurd c_11 (by decide)
  · refine z_iload_n (i := 2) C dX4_measureBeam_14 rfl rfl ?_
    refine z_iload_n (i := 3) C dX4_measureBeam_15 rfl rfl ?_
    refine z_callSe C (ct_X4_isWindow D B _ _) q2125 q2126 q106 q2127 np_X4_isWindow (zr_ok rfl rfl) rfl rfl (Nat.le_of_ble_eq_true rfl) (⟨Nat.le_of_ble_eq_true rfl, Nat.le_of_ble_eq_true rfl⟩) dX4_measureBeam_16 ?_
    refine z_seti (zb_t (hw)) ?_
    refine z_if_ne (tgt := 29) C dX4_measureBeam_19 (by decide) (fun c_19 => ?_) (fun c_19 => ?_)
    · refine z_aload_n (i := 0) C dX4_measureBeam_29 rfl rfl ?_
      refine z_iconst (v := 0) C dX4_measureBeam_30 (by decide) ?_
      refine z_callVn C (tw_obj) rfl (ct_X4_layBeam D B 0 ge nm h8 hnm (by unfold zin; decide)) q2239 q2241 qs63 q106 q2242 np_X4_layBeam (zr_ok rfl rfl) rfl rfl (Nat.le_of_ble_eq_true rfl) (⟨Nat.le_of_ble_eq_true rfl, Nat.le_of_ble_eq_true rfl⟩) dX4_measureBeam_31 ?_
      intro v9 G9 h9
      obtain ⟨rfl, sx, px, dx, rx, rfl, hs⟩ := h9
      refine z_aload_n (i := 0) C dX4_measureBeam_34 rfl rfl ?_
      refine z_iload_n (i := 1) C dX4_measureBeam_35 rfl rfl ?_
      refine z_iload_n (i := 2) C dX4_measureBeam_36 rfl rfl ?_
      refine z_iload_n (i := 3) C dX4_measureBeam_37 rfl rfl ?_
      refine z_callVe C (tw_obj) rfl (ct_X4_measureOf_3 D B f l hf hl) q2132 q2134 qs50 q106 q2135 np_X4_measureOf (zr_ok rfl rfl) rfl rfl (Nat.le_of_ble_eq_true rfl) (⟨Nat.le_of_ble_eq_true rfl, Nat.le_of_ble_eq_true rfl⟩) dX4_measureBeam_38 ?_
      exact z_lreturn C rfl dX4_measureBeam_41 (⟨zvl (zsm_congr (fun j hj => hs j (by omega))), sx, px, dx, rx, rfl⟩) (Nat.le_of_ble_eq_true rfl) (Nat.le_of_ble_eq_true rfl)
    · exact absurd c_19 (by decide)
set_option maxHeartbeats 4000000 in
set_option maxRecDepth 100000 in
theorem ct_X4_measureBeam_4 (D : zG) (B : Nat) {b : zH} {t : tA} {st : Nat → Int32} {bk : Nat → Int32} {sv : Nat → Int32} {iz : Nat → Int32} {th : Int32} {di : Nat → Int32} {re : Nat → Int32} {si : Nat → Int32} {pa : Nat → Int32} {fo : Nat → Int64} {te : Nat → Int32} {tl : Int32} {po : Int32} {ts : Int32} {to : Int32} {le : Int32} {nu : Int32} {ec : Int32} {ep : Int32} {wo : Int64} (f l : Nat) (ge : zGe st) (nm : Nat) (h8 : st 8 = nI nm) (hnm : nm ≤ 8) (hw : (0 ≤ nI f ∧ nI f ≤ 255) ∧ nI f ≤ nI l ∧ nI l ≤ 255) (hf : f ≤ l) (hl : l < 256) : Ct D B yX4_measureBeam (ws_ yX4_measureBeam cX4_measureBeam 4 (some .long)) (zr 6) [.ref (t.1 0), .int 4, .int (nI f), .int (nI l)] (tw b t st bk sv iz th di re si pa fo te tl po ts to le nu ec ep wo) (fun w G9 => w = some (.long ((zcr (zbs st nm 0) f (l - f)).toInt64)) ∧ ∃ sx px dx rx : Nat → Int32, G9 = (tw b t st bk sv iz 0 dx rx sx px fo te tl po ts to le nu ec ep wo)) zno := by
  refine ct_intro (by decide +kernel) (Nat.le_of_ble_eq_true rfl) ?_
  intro X C
  refine z_aload_n (i := 0) C dX4_measureBeam_0 rfl rfl ?_
  refine z_iconst (v := 0) C dX4_measureBeam_1 (by decide) ?_
  refine tp_thrown C q1868 dX4_measureBeam_2 ?_
  refine z_iload_n (i := 1) C dX4_measureBeam_5 rfl rfl ?_
  refine z_iconst (v := 0) C dX4_measureBeam_6 (by decide) ?_
  refine z_iconst (v := 4) C dX4_measureBeam_7 (by decide) ?_
  refine z_callSe C (ct_X4_isBetween D B _ _ _) q1934 q1935 q106 q1936 np_X4_isBetween (zr_ok rfl rfl) rfl rfl (Nat.le_of_ble_eq_true rfl) (⟨Nat.le_of_ble_eq_true rfl, Nat.le_of_ble_eq_true rfl⟩) dX4_measureBeam_8 ?_
  refine z_seti (zb_t (by decide)) ?_
  refine z_if_eq (tgt := 22) C dX4_measureBeam_11 (by decide) (fun c_11 => ?_) (fun c_11 => ?_)
  · exact absurd c_11 (by decide)
  · refine z_iload_n (i := 2) C dX4_measureBeam_14 rfl rfl ?_
    refine z_iload_n (i := 3) C dX4_measureBeam_15 rfl rfl ?_
    refine z_callSe C (ct_X4_isWindow D B _ _) q2125 q2126 q106 q2127 np_X4_isWindow (zr_ok rfl rfl) rfl rfl (Nat.le_of_ble_eq_true rfl) (⟨Nat.le_of_ble_eq_true rfl, Nat.le_of_ble_eq_true rfl⟩) dX4_measureBeam_16 ?_
    refine z_seti (zb_t (hw)) ?_
    refine z_if_ne (tgt := 29) C dX4_measureBeam_19 (by decide) (fun c_19 => ?_) (fun c_19 => ?_)
    · refine z_aload_n (i := 0) C dX4_measureBeam_29 rfl rfl ?_
      refine z_iconst (v := 0) C dX4_measureBeam_30 (by decide) ?_
      refine z_callVn C (tw_obj) rfl (ct_X4_layBeam D B 0 ge nm h8 hnm (by unfold zin; decide)) q2239 q2241 qs63 q106 q2242 np_X4_layBeam (zr_ok rfl rfl) rfl rfl (Nat.le_of_ble_eq_true rfl) (⟨Nat.le_of_ble_eq_true rfl, Nat.le_of_ble_eq_true rfl⟩) dX4_measureBeam_31 ?_
      intro v9 G9 h9
      obtain ⟨rfl, sx, px, dx, rx, rfl, hs⟩ := h9
      refine z_aload_n (i := 0) C dX4_measureBeam_34 rfl rfl ?_
      refine z_iload_n (i := 1) C dX4_measureBeam_35 rfl rfl ?_
      refine z_iload_n (i := 2) C dX4_measureBeam_36 rfl rfl ?_
      refine z_iload_n (i := 3) C dX4_measureBeam_37 rfl rfl ?_
      refine z_callVe C (tw_obj) rfl (ct_X4_measureOf_4 D B f l hf hl) q2132 q2134 qs50 q106 q2135 np_X4_measureOf (zr_ok rfl rfl) rfl rfl (Nat.le_of_ble_eq_true rfl) (⟨Nat.le_of_ble_eq_true rfl, Nat.le_of_ble_eq_true rfl⟩) dX4_measureBeam_38 ?_
      exact z_lreturn C rfl dX4_measureBeam_41 (⟨zvl (by rw [zcr_congr _ (fun j hj => hs j (by omega))]), sx, px, dx, rx, rfl⟩) (Nat.le_of_ble_eq_true rfl) (Nat.le_of_ble_eq_true rfl)
    · exact absurd c_19 (by decide)
set_option maxHeartbeats 4000000 in
set_option maxRecDepth 100000 in
theorem ct_X4_measureBeam_e1a (D : zG) (B : Nat) {b : zH} {t : tA} {st : Nat → Int32} {bk : Nat → Int32} {sv : Nat → Int32} {iz : Nat → Int32} {th : Int32} {di : Nat → Int32} {re : Nat → Int32} {si : Nat → Int32} {pa : Nat → Int32} {fo : Nat → Int64} {te : Nat → Int32} {tl : Int32} {po : Int32} {ts : Int32} {to : Int32} {le : Int32} {nu : Int32} {ec : Int32} {ep : Int32} {wo : Int64} (k f l : Int32) (h2 : ¬ (0 ≤ k ∧ k ≤ 4)) : Ct D B yX4_measureBeam (ws_ yX4_measureBeam cX4_measureBeam 4 (some .long)) (zr 6) [.ref (t.1 0), .int k, .int f, .int l] (tw b t st bk sv iz th di re si pa fo te tl po ts to le nu ec ep wo) (zpe (some (.long 0)) (tw b t st bk sv iz 1 di re si pa fo te tl po ts to le nu ec ep wo)) zno := by
  refine ct_intro (by decide +kernel) (Nat.le_of_ble_eq_true rfl) ?_
  intro X C
  refine z_aload_n (i := 0) C dX4_measureBeam_0 rfl rfl ?_
  refine z_iconst (v := 0) C dX4_measureBeam_1 (by decide) ?_
  refine tp_thrown C q1868 dX4_measureBeam_2 ?_
  refine z_iload_n (i := 1) C dX4_measureBeam_5 rfl rfl ?_
  refine z_iconst (v := 0) C dX4_measureBeam_6 (by decide) ?_
  refine z_iconst (v := 4) C dX4_measureBeam_7 (by decide) ?_
  refine z_callSe C (ct_X4_isBetween D B _ _ _) q1934 q1935 q106 q1936 np_X4_isBetween (zr_ok rfl rfl) rfl rfl (Nat.le_of_ble_eq_true rfl) (⟨Nat.le_of_ble_eq_true rfl, Nat.le_of_ble_eq_true rfl⟩) dX4_measureBeam_8 ?_
  refine z_seti (zb_f (h2)) ?_
  refine z_if_eq (tgt := 22) C dX4_measureBeam_11 (by decide) (fun c_11 => ?_) (fun c_11 => ?_)
  · refine z_aload_n (i := 0) C dX4_measureBeam_22 rfl rfl ?_
    refine z_iconst (v := 1) C dX4_measureBeam_23 (by decide) ?_
    refine z_callVe C (tw_obj) rfl (ct_X4_fail D B _) q1941 q1943 qs26 q106 q1944 np_X4_fail (zr_ok rfl rfl) rfl rfl (Nat.le_of_ble_eq_true rfl) (⟨Nat.le_of_ble_eq_true rfl, Nat.le_of_ble_eq_true rfl⟩) dX4_measureBeam_24 ?_
    refine z_i2l C dX4_measureBeam_27 rfl ?_
    exact z_lreturn C rfl dX4_measureBeam_28 (⟨rfl, rfl⟩) (Nat.le_of_ble_eq_true rfl) (Nat.le_of_ble_eq_true rfl)
  · exact absurd rfl c_11
set_option maxHeartbeats 4000000 in
set_option maxRecDepth 100000 in
theorem ct_X4_measureBeam_e1b (D : zG) (B : Nat) {b : zH} {t : tA} {st : Nat → Int32} {bk : Nat → Int32} {sv : Nat → Int32} {iz : Nat → Int32} {th : Int32} {di : Nat → Int32} {re : Nat → Int32} {si : Nat → Int32} {pa : Nat → Int32} {fo : Nat → Int64} {te : Nat → Int32} {tl : Int32} {po : Int32} {ts : Int32} {to : Int32} {le : Int32} {nu : Int32} {ec : Int32} {ep : Int32} {wo : Int64} (k f l : Int32) (h2 : 0 ≤ k ∧ k ≤ 4) (h3 : ¬ ((0 ≤ f ∧ f ≤ 255) ∧ f ≤ l ∧ l ≤ 255)) : Ct D B yX4_measureBeam (ws_ yX4_measureBeam cX4_measureBeam 4 (some .long)) (zr 6) [.ref (t.1 0), .int k, .int f, .int l] (tw b t st bk sv iz th di re si pa fo te tl po ts to le nu ec ep wo) (zpe (some (.long 0)) (tw b t st bk sv iz 1 di re si pa fo te tl po ts to le nu ec ep wo)) zno := by
  refine ct_intro (by decide +kernel) (Nat.le_of_ble_eq_true rfl) ?_
  intro X C
  refine z_aload_n (i := 0) C dX4_measureBeam_0 rfl rfl ?_
  refine z_iconst (v := 0) C dX4_measureBeam_1 (by decide) ?_
  refine tp_thrown C q1868 dX4_measureBeam_2 ?_
  refine z_iload_n (i := 1) C dX4_measureBeam_5 rfl rfl ?_
  refine z_iconst (v := 0) C dX4_measureBeam_6 (by decide) ?_
  refine z_iconst (v := 4) C dX4_measureBeam_7 (by decide) ?_
  refine z_callSe C (ct_X4_isBetween D B _ _ _) q1934 q1935 q106 q1936 np_X4_isBetween (zr_ok rfl rfl) rfl rfl (Nat.le_of_ble_eq_true rfl) (⟨Nat.le_of_ble_eq_true rfl, Nat.le_of_ble_eq_true rfl⟩) dX4_measureBeam_8 ?_
  refine z_seti (zb_t (h2)) ?_
  refine z_if_eq (tgt := 22) C dX4_measureBeam_11 (by decide) (fun c_11 => ?_) (fun c_11 => ?_)
  · exact absurd c_11 (by decide)
  · refine z_iload_n (i := 2) C dX4_measureBeam_14 rfl rfl ?_
    refine z_iload_n (i := 3) C dX4_measureBeam_15 rfl rfl ?_
    refine z_callSe C (ct_X4_isWindow D B _ _) q2125 q2126 q106 q2127 np_X4_isWindow (zr_ok rfl rfl) rfl rfl (Nat.le_of_ble_eq_true rfl) (⟨Nat.le_of_ble_eq_true rfl, Nat.le_of_ble_eq_true rfl⟩) dX4_measureBeam_16 ?_
    refine z_seti (zb_f (h3)) ?_
    refine z_if_ne (tgt := 29) C dX4_measureBeam_19 (by decide) (fun c_19 => ?_) (fun c_19 => ?_)
    · exact absurd rfl c_19
    · refine z_aload_n (i := 0) C dX4_measureBeam_22 rfl rfl ?_
      refine z_iconst (v := 1) C dX4_measureBeam_23 (by decide) ?_
      refine z_callVe C (tw_obj) rfl (ct_X4_fail D B _) q1941 q1943 qs26 q106 q1944 np_X4_fail (zr_ok rfl rfl) rfl rfl (Nat.le_of_ble_eq_true rfl) (⟨Nat.le_of_ble_eq_true rfl, Nat.le_of_ble_eq_true rfl⟩) dX4_measureBeam_24 ?_
      refine z_i2l C dX4_measureBeam_27 rfl ?_
      exact z_lreturn C rfl dX4_measureBeam_28 (⟨rfl, rfl⟩) (Nat.le_of_ble_eq_true rfl) (Nat.le_of_ble_eq_true rfl)
set_option maxHeartbeats 4000000 in
set_option maxRecDepth 100000 in
theorem ct_X4_energyWith (D : zG) (B : Nat) {b : zH} {t : tA} {st : Nat → Int32} {bk : Nat → Int32} {sv : Nat → Int32} {iz : Nat → Int32} {th : Int32} {di : Nat → Int32} {re : Nat → Int32} {si : Nat → Int32} {pa : Nat → Int32} {fo : Nat → Int64} {te : Nat → Int32} {tl : Int32} {po : Int32} {ts : Int32} {to : Int32} {le : Int32} {nu : Int32} {ec : Int32} {ep : Int32} {wo : Int64} (d : Int32) (f l : Nat) (ge : zGe st) (nm : Nat) (h8 : st 8 = nI nm) (hnm : nm ≤ 8) (hb : zin d (-2000) 2000) (hf : f ≤ l) (hl : l < 256) : Ct D B yX4_energyWith (ws_ yX4_energyWith cX4_energyWith 4 (some .long)) (zr 6) [.ref (t.1 0), .int d, .int (nI f), .int (nI l)] (tw b t st bk sv iz th di re si pa fo te tl po ts to le nu ec ep wo) (fun w G9 => w = some (.long (zen (zbs st nm d) f l)) ∧ ∃ sx px dx rx : Nat → Int32, G9 = (tw b t st bk sv iz th dx rx sx px fo te tl po ts to le nu ec ep wo)) zno := by
  refine ct_intro (by decide +kernel) (Nat.le_of_ble_eq_true rfl) ?_
  intro X C
  refine z_aload_n (i := 0) C dX4_energyWith_0 rfl rfl ?_
  refine z_iload_n (i := 1) C dX4_energyWith_1 rfl rfl ?_
  refine z_callVn C (tw_obj) rfl (ct_X4_layBeam D B d ge nm h8 hnm hb) q2239 q2241 qs63 q106 q2242 np_X4_layBeam (zr_ok rfl rfl) rfl rfl (Nat.le_of_ble_eq_true rfl) (⟨Nat.le_of_ble_eq_true rfl, Nat.le_of_ble_eq_true rfl⟩) dX4_energyWith_2 ?_
  intro v9 G9 h9
  obtain ⟨rfl, sx, px, dx, rx, rfl, hs⟩ := h9
  refine z_aload_n (i := 0) C dX4_energyWith_5 rfl rfl ?_
  refine z_iload_n (i := 2) C dX4_energyWith_6 rfl rfl ?_
  refine z_iload_n (i := 3) C dX4_energyWith_7 rfl rfl ?_
  refine z_callVe C (tw_obj) rfl (ct_X4_energyOf D B f l (by omega) hl) q2136 q2138 qs51 q106 q2139 np_X4_energyOf (zr_ok rfl rfl) rfl rfl (Nat.le_of_ble_eq_true rfl) (⟨Nat.le_of_ble_eq_true rfl, Nat.le_of_ble_eq_true rfl⟩) dX4_energyWith_8 ?_
  exact z_lreturn C rfl dX4_energyWith_11 (⟨zvl (zen_congr (fun j hj => hs j (by omega))), sx, px, dx, rx, rfl⟩) (Nat.le_of_ble_eq_true rfl) (Nat.le_of_ble_eq_true rfl)
theorem np_X4_energyWith : znp yX4_energyWith 3 := ⟨by decide +kernel, by decide +kernel, by decide +kernel⟩
set_option maxHeartbeats 4000000 in
set_option maxRecDepth 100000 in
theorem ct_X4_energyBeside_ok (D : zG) (B : Nat) {b : zH} {t : tA} {st : Nat → Int32} {bk : Nat → Int32} {sv : Nat → Int32} {iz : Nat → Int32} {th : Int32} {di : Nat → Int32} {re : Nat → Int32} {si : Nat → Int32} {pa : Nat → Int32} {fo : Nat → Int64} {te : Nat → Int32} {tl : Int32} {po : Int32} {ts : Int32} {to : Int32} {le : Int32} {nu : Int32} {ec : Int32} {ep : Int32} {wo : Int64} (d : Int32) (f l : Nat) (ge : zGe st) (nm : Nat) (h8 : st 8 = nI nm) (hnm : nm ≤ 8) (hb0 : -2000 ≤ d ∧ d ≤ 2000) (hb : zin d (-2000) 2000) (hw : (0 ≤ nI f ∧ nI f ≤ 255) ∧ nI f ≤ nI l ∧ nI l ≤ 255) (hf : f ≤ l) (hl : l < 256) : Ct D B yX4_energyBeside (ws_ yX4_energyBeside cX4_energyBeside 4 (some .long)) (zr 7) [.ref (t.1 0), .int d, .int (nI f), .int (nI l)] (tw b t st bk sv iz th di re si pa fo te tl po ts to le nu ec ep wo) (fun w G9 => w = some (.long (zen (zbs st nm d) f l)) ∧ ∃ sx px dx rx : Nat → Int32, G9 = (tw b t st bk sv iz 0 dx rx sx px fo te tl po ts to le nu ec ep wo)) zno := by
  refine ct_intro (by decide +kernel) (Nat.le_of_ble_eq_true rfl) ?_
  intro X C
  refine z_aload_n (i := 0) C dX4_energyBeside_0 rfl rfl ?_
  refine z_iconst (v := 0) C dX4_energyBeside_1 (by decide) ?_
  refine tp_thrown C q1868 dX4_energyBeside_2 ?_
  refine z_iload_n (i := 1) C dX4_energyBeside_5 rfl rfl ?_
  refine z_sipush (v := (-2000)) C dX4_energyBeside_6 (by decide) ?_
  refine z_sipush (v := 2000) C dX4_energyBeside_9 (by decide) ?_
  refine z_callSe C (ct_X4_isBetween D B _ _ _) q1934 q1935 q106 q1936 np_X4_isBetween (zr_ok rfl rfl) rfl rfl (Nat.le_of_ble_eq_true rfl) (⟨Nat.le_of_ble_eq_true rfl, Nat.le_of_ble_eq_true rfl⟩) dX4_energyBeside_12 ?_
  refine z_seti (zb_t (hb0)) ?_
  refine z_if_eq (tgt := 26) C dX4_energyBeside_15 (by decide) (fun c_15 => ?_) (fun c_15 => ?_)
  · exact absurd c_15 (by decide)
  · refine z_iload_n (i := 2) C dX4_energyBeside_18 rfl rfl ?_
    refine z_iload_n (i := 3) C dX4_energyBeside_19 rfl rfl ?_
    refine z_callSe C (ct_X4_isWindow D B _ _) q2125 q2126 q106 q2127 np_X4_isWindow (zr_ok rfl rfl) rfl rfl (Nat.le_of_ble_eq_true rfl) (⟨Nat.le_of_ble_eq_true rfl, Nat.le_of_ble_eq_true rfl⟩) dX4_energyBeside_20 ?_
    refine z_seti (zb_t (hw)) ?_
    refine z_if_ne (tgt := 33) C dX4_energyBeside_23 (by decide) (fun c_23 => ?_) (fun c_23 => ?_)
    · refine z_aload_n (i := 0) C dX4_energyBeside_33 rfl rfl ?_
      refine z_iload_n (i := 1) C dX4_energyBeside_34 rfl rfl ?_
      refine z_iload_n (i := 2) C dX4_energyBeside_35 rfl rfl ?_
      refine z_iload_n (i := 3) C dX4_energyBeside_36 rfl rfl ?_
      refine z_callVn C (tw_obj) rfl (ct_X4_energyWith D B d f l ge nm h8 hnm hb hf hl) q2278 q2280 qs68 q106 q2281 np_X4_energyWith (zr_ok rfl rfl) rfl rfl (Nat.le_of_ble_eq_true rfl) (⟨Nat.le_of_ble_eq_true rfl, Nat.le_of_ble_eq_true rfl⟩) dX4_energyBeside_37 ?_
      intro v9 G9 h9
      obtain ⟨rfl, sx, px, dx, rx, rfl⟩ := h9
      exact z_lreturn C rfl dX4_energyBeside_40 (⟨rfl, sx, px, dx, rx, rfl⟩) (Nat.le_of_ble_eq_true rfl) (Nat.le_of_ble_eq_true rfl)
    · exact absurd c_23 (by decide)
set_option maxHeartbeats 4000000 in
set_option maxRecDepth 100000 in
theorem ct_X4_energyBeside_1a (D : zG) (B : Nat) {b : zH} {t : tA} {st : Nat → Int32} {bk : Nat → Int32} {sv : Nat → Int32} {iz : Nat → Int32} {th : Int32} {di : Nat → Int32} {re : Nat → Int32} {si : Nat → Int32} {pa : Nat → Int32} {fo : Nat → Int64} {te : Nat → Int32} {tl : Int32} {po : Int32} {ts : Int32} {to : Int32} {le : Int32} {nu : Int32} {ec : Int32} {ep : Int32} {wo : Int64} (d f l : Int32) (h2 : ¬ (-2000 ≤ d ∧ d ≤ 2000)) : Ct D B yX4_energyBeside (ws_ yX4_energyBeside cX4_energyBeside 4 (some .long)) (zr 7) [.ref (t.1 0), .int d, .int f, .int l] (tw b t st bk sv iz th di re si pa fo te tl po ts to le nu ec ep wo) (zpe (some (.long 0)) (tw b t st bk sv iz 1 di re si pa fo te tl po ts to le nu ec ep wo)) zno := by
  refine ct_intro (by decide +kernel) (Nat.le_of_ble_eq_true rfl) ?_
  intro X C
  refine z_aload_n (i := 0) C dX4_energyBeside_0 rfl rfl ?_
  refine z_iconst (v := 0) C dX4_energyBeside_1 (by decide) ?_
  refine tp_thrown C q1868 dX4_energyBeside_2 ?_
  refine z_iload_n (i := 1) C dX4_energyBeside_5 rfl rfl ?_
  refine z_sipush (v := (-2000)) C dX4_energyBeside_6 (by decide) ?_
  refine z_sipush (v := 2000) C dX4_energyBeside_9 (by decide) ?_
  refine z_callSe C (ct_X4_isBetween D B _ _ _) q1934 q1935 q106 q1936 np_X4_isBetween (zr_ok rfl rfl) rfl rfl (Nat.le_of_ble_eq_true rfl) (⟨Nat.le_of_ble_eq_true rfl, Nat.le_of_ble_eq_true rfl⟩) dX4_energyBeside_12 ?_
  refine z_seti (zb_f (h2)) ?_
  refine z_if_eq (tgt := 26) C dX4_energyBeside_15 (by decide) (fun c_15 => ?_) (fun c_15 => ?_)
  · refine z_aload_n (i := 0) C dX4_energyBeside_26 rfl rfl ?_
    refine z_iconst (v := 1) C dX4_energyBeside_27 (by decide) ?_
    refine z_callVe C (tw_obj) rfl (ct_X4_fail D B _) q1941 q1943 qs26 q106 q1944 np_X4_fail (zr_ok rfl rfl) rfl rfl (Nat.le_of_ble_eq_true rfl) (⟨Nat.le_of_ble_eq_true rfl, Nat.le_of_ble_eq_true rfl⟩) dX4_energyBeside_28 ?_
    refine z_i2l C dX4_energyBeside_31 rfl ?_
    exact z_lreturn C rfl dX4_energyBeside_32 (⟨rfl, rfl⟩) (Nat.le_of_ble_eq_true rfl) (Nat.le_of_ble_eq_true rfl)
  · exact absurd rfl c_15
set_option maxHeartbeats 4000000 in
set_option maxRecDepth 100000 in
theorem ct_X4_energyBeside_1b (D : zG) (B : Nat) {b : zH} {t : tA} {st : Nat → Int32} {bk : Nat → Int32} {sv : Nat → Int32} {iz : Nat → Int32} {th : Int32} {di : Nat → Int32} {re : Nat → Int32} {si : Nat → Int32} {pa : Nat → Int32} {fo : Nat → Int64} {te : Nat → Int32} {tl : Int32} {po : Int32} {ts : Int32} {to : Int32} {le : Int32} {nu : Int32} {ec : Int32} {ep : Int32} {wo : Int64} (d f l : Int32) (h2 : -2000 ≤ d ∧ d ≤ 2000) (h3 : ¬ ((0 ≤ f ∧ f ≤ 255) ∧ f ≤ l ∧ l ≤ 255)) : Ct D B yX4_energyBeside (ws_ yX4_energyBeside cX4_energyBeside 4 (some .long)) (zr 7) [.ref (t.1 0), .int d, .int f, .int l] (tw b t st bk sv iz th di re si pa fo te tl po ts to le nu ec ep wo) (zpe (some (.long 0)) (tw b t st bk sv iz 1 di re si pa fo te tl po ts to le nu ec ep wo)) zno := by
  refine ct_intro (by decide +kernel) (Nat.le_of_ble_eq_true rfl) ?_
  intro X C
  refine z_aload_n (i := 0) C dX4_energyBeside_0 rfl rfl ?_
  refine z_iconst (v := 0) C dX4_energyBeside_1 (by decide) ?_
  refine tp_thrown C q1868 dX4_energyBeside_2 ?_
  refine z_iload_n (i := 1) C dX4_energyBeside_5 rfl rfl ?_
  refine z_sipush (v := (-2000)) C dX4_energyBeside_6 (by decide) ?_
  refine z_sipush (v := 2000) C dX4_energyBeside_9 (by decide) ?_
  refine z_callSe C (ct_X4_isBetween D B _ _ _) q1934 q1935 q106 q1936 np_X4_isBetween (zr_ok rfl rfl) rfl rfl (Nat.le_of_ble_eq_true rfl) (⟨Nat.le_of_ble_eq_true rfl, Nat.le_of_ble_eq_true rfl⟩) dX4_energyBeside_12 ?_
  refine z_seti (zb_t (h2)) ?_
  refine z_if_eq (tgt := 26) C dX4_energyBeside_15 (by decide) (fun c_15 => ?_) (fun c_15 => ?_)
  · exact absurd c_15 (by decide)
  · refine z_iload_n (i := 2) C dX4_energyBeside_18 rfl rfl ?_
    refine z_iload_n (i := 3) C dX4_energyBeside_19 rfl rfl ?_
    refine z_callSe C (ct_X4_isWindow D B _ _) q2125 q2126 q106 q2127 np_X4_isWindow (zr_ok rfl rfl) rfl rfl (Nat.le_of_ble_eq_true rfl) (⟨Nat.le_of_ble_eq_true rfl, Nat.le_of_ble_eq_true rfl⟩) dX4_energyBeside_20 ?_
    refine z_seti (zb_f (h3)) ?_
    refine z_if_ne (tgt := 33) C dX4_energyBeside_23 (by decide) (fun c_23 => ?_) (fun c_23 => ?_)
    · exact absurd rfl c_23
    · refine z_aload_n (i := 0) C dX4_energyBeside_26 rfl rfl ?_
      refine z_iconst (v := 1) C dX4_energyBeside_27 (by decide) ?_
      refine z_callVe C (tw_obj) rfl (ct_X4_fail D B _) q1941 q1943 qs26 q106 q1944 np_X4_fail (zr_ok rfl rfl) rfl rfl (Nat.le_of_ble_eq_true rfl) (⟨Nat.le_of_ble_eq_true rfl, Nat.le_of_ble_eq_true rfl⟩) dX4_energyBeside_28 ?_
      refine z_i2l C dX4_energyBeside_31 rfl ?_
      exact z_lreturn C rfl dX4_energyBeside_32 (⟨rfl, rfl⟩) (Nat.le_of_ble_eq_true rfl) (Nat.le_of_ble_eq_true rfl)
set_option maxHeartbeats 4000000 in
set_option maxRecDepth 100000 in
theorem ct_X4_scan_ok (D : zG) (B : Nat) {b : zH} {t : tA} {st : Nat → Int32} {bk : Nat → Int32} {sv : Nat → Int32} {iz : Nat → Int32} {th : Int32} {di : Nat → Int32} {re : Nat → Int32} {si : Nat → Int32} {pa : Nat → Int32} {fo : Nat → Int64} {te : Nat → Int32} {tl : Int32} {po : Int32} {ts : Int32} {to : Int32} {le : Int32} {nu : Int32} {ec : Int32} {ep : Int32} {wo : Int64} (sp g f l : Nat) (ge : zGe st) (nm : Nat) (h8 : st 8 = nI nm) (hnm : nm ≤ 8) (hp0 : 1 ≤ nI sp ∧ nI sp ≤ 100) (hp : sp ≤ 100) (hg0 : 0 ≤ nI g ∧ nI g ≤ 20) (hg : g ≤ 20) (hw : (0 ≤ nI f ∧ nI f ≤ 255) ∧ nI f ≤ nI l ∧ nI l ≤ 255) (hf : f ≤ l) (hl : l < 256) : Ct D B yX4_scan (ws_ yX4_scan cX4_scan 12 (some .int)) (zr 7) [.ref (t.1 0), .int (nI sp), .int (nI g), .int (nI f), .int (nI l)] (tw b t st bk sv iz th di re si pa fo te tl po ts to le nu ec ep wo) (fun w G9 => w = some (.int (zba (fun x => zen (zbs st nm (x * nI sp)) f l) g)) ∧ ∃ sx px dx rx : Nat → Int32, G9 = (tw b t st bk sv iz 0 dx rx sx px fo te tl po ts to le nu ec ep wo)) zno := by
  refine ct_intro (by decide +kernel) (Nat.le_of_ble_eq_true rfl) ?_
  intro X C
  obtain ⟨W9, hW⟩ : ∃ W9 : Int32 → Int64, W9 = (fun x => zen (zbs st nm (x * nI sp)) f l) := ⟨_, rfl⟩
  rw [← hW] at C
  have hW0 : ∀ x, zen (zbs st nm (x * nI sp)) f l = W9 x := fun x => by rw [hW]
  refine z_aload_n (i := 0) C dX4_scan_0 rfl rfl ?_
  refine z_iconst (v := 0) C dX4_scan_1 (by decide) ?_
  refine tp_thrown C q1868 dX4_scan_2 ?_
  refine z_iload_n (i := 1) C dX4_scan_5 rfl rfl ?_
  refine z_iconst (v := 1) C dX4_scan_6 (by decide) ?_
  refine z_bipush (v := 100) C dX4_scan_7 (by decide) ?_
  refine z_callSe C (ct_X4_isBetween D B _ _ _) q1934 q1935 q106 q1936 np_X4_isBetween (zr_ok rfl rfl) rfl rfl (Nat.le_of_ble_eq_true rfl) (⟨Nat.le_of_ble_eq_true rfl, Nat.le_of_ble_eq_true rfl⟩) dX4_scan_9 ?_
  refine z_seti (zb_t (hp0)) ?_
  refine z_if_eq (tgt := 34) C dX4_scan_12 (by decide) (fun c_12 => ?_) (fun c_12 => ?_)
  · exact absurd c_12 (by decide)
  · refine z_iload_n (i := 2) C dX4_scan_15 rfl rfl ?_
    refine z_iconst (v := 0) C dX4_scan_16 (by decide) ?_
    refine z_bipush (v := 20) C dX4_scan_17 (by decide) ?_
    refine z_callSe C (ct_X4_isBetween D B _ _ _) q1934 q1935 q106 q1936 np_X4_isBetween (zr_ok rfl rfl) rfl rfl (Nat.le_of_ble_eq_true rfl) (⟨Nat.le_of_ble_eq_true rfl, Nat.le_of_ble_eq_true rfl⟩) dX4_scan_19 ?_
    refine z_seti (zb_t (hg0)) ?_
    refine z_if_eq (tgt := 34) C dX4_scan_22 (by decide) (fun c_22 => ?_) (fun c_22 => ?_)
    · exact absurd c_22 (by decide)
    · refine z_iload_n (i := 3) C dX4_scan_25 rfl rfl ?_
      refine z_iload C dX4_scan_26 rfl ?_
      refine z_callSe C (ct_X4_isWindow D B _ _) q2125 q2126 q106 q2127 np_X4_isWindow (zr_ok rfl rfl) rfl rfl (Nat.le_of_ble_eq_true rfl) (⟨Nat.le_of_ble_eq_true rfl, Nat.le_of_ble_eq_true rfl⟩) dX4_scan_28 ?_
      refine z_seti (zb_t (hw)) ?_
      refine z_if_ne (tgt := 40) C dX4_scan_31 (by decide) (fun c_31 => ?_) (fun c_31 => ?_)
      · refine z_iconst (v := 0) C dX4_scan_40 (by decide) ?_
        refine z_istore C dX4_scan_41 (Nat.le_of_ble_eq_true rfl) rfl ?_
        refine z_aload_n (i := 0) C dX4_scan_43 rfl rfl ?_
        refine z_iconst (v := 0) C dX4_scan_44 (by decide) ?_
        refine z_iload_n (i := 3) C dX4_scan_45 rfl rfl ?_
        refine z_iload C dX4_scan_46 rfl ?_
        refine z_callVn C (tw_obj) rfl (ct_X4_energyWith D B 0 f l ge nm h8 hnm (by unfold zin; decide) hf hl) q2278 q2280 qs68 q106 q2281 np_X4_energyWith (zr_ok rfl rfl) rfl rfl (Nat.le_of_ble_eq_true rfl) (⟨Nat.le_of_ble_eq_true rfl, Nat.le_of_ble_eq_true rfl⟩) dX4_scan_48 ?_
        intro v9 G9 h9
        obtain ⟨rfl, sx, px, dx, rx, rfl⟩ := h9
        refine z_setl (y := W9 (zba W9 0)) (by rw [← hW0, show zba W9 0 = 0 from rfl, Int32.zero_mul]) ?_
        refine z_lstore C dX4_scan_51 (Nat.le_of_ble_eq_true rfl) rfl ?_
        refine z_iconst (v := 1) C dX4_scan_53 (by decide) ?_
        refine z_istore C dX4_scan_54 (Nat.le_of_ble_eq_true rfl) rfl ?_
        have lp56 : ∀ (μ : Nat) (i : Nat) (sx px dx rx : Nat → Int32) (h1 : i ≤ g), g - i < μ → Z X 56 [some (.ref (t.1 0)), some (.int (nI sp)), some (.int (nI g)), some (.int (nI f)), some (.int (nI l)), some (.int (zba W9 i)), some (.long (W9 (zba W9 i))), none, some (.int (nI (i + 1))), none, none, none] [] (tw b t st bk sv iz 0 dx rx sx px fo te tl po ts to le nu ec ep wo) 0 0 := by
          intro μ
          induction μ with
          | zero => intro i sx px dx rx h1 hμ; exact absurd hμ (Nat.not_lt_zero _)
          | succ μ ih56 =>
            intro i sx px dx rx h1 hμ
            refine z_iload C dX4_scan_56 rfl ?_
            refine z_iload_n (i := 2) C dX4_scan_58 rfl rfl ?_
            refine z_icmp_gt (tgt := 121) C dX4_scan_59 (by decide) (fun c_59 => ?_) (fun c_59 => ?_)
            · have hend : i = g := by have := zgt c_59 (by omega) (by omega); omega
              subst hend
              refine z_iload C dX4_scan_121 rfl ?_
              exact z_ireturn C rfl (rfl) dX4_scan_123 (⟨rfl, sx, px, dx, rx, rfl⟩) (Nat.le_of_ble_eq_true rfl) (Nat.le_of_ble_eq_true rfl)
            · have hle := zngt c_59 (by omega) (by omega)
              refine z_iload C dX4_scan_62 rfl ?_
              refine z_ineg C dX4_scan_64 ?_
              refine z_istore C dX4_scan_65 (Nat.le_of_ble_eq_true rfl) rfl ?_
              have lp67 : ∀ (μ : Nat) (q : Nat) (sx px dx rx : Nat → Int32) (lg b9 : Int32) (hq : (q = 0 ∧ lg = -nI (i + 1) ∧ b9 = zba W9 i) ∨ (q = 1 ∧ lg = nI (i + 1) ∧ b9 = zbh W9 i) ∨ (q = 2 ∧ lg = nI (3 * (i + 1)) ∧ b9 = zba W9 (i + 1))), 2 - q < μ → Z X 67 [some (.ref (t.1 0)), some (.int (nI sp)), some (.int (nI g)), some (.int (nI f)), some (.int (nI l)), some (.int b9), some (.long (W9 b9)), none, some (.int (nI (i + 1))), some (.int lg), none, none] [] (tw b t st bk sv iz 0 dx rx sx px fo te tl po ts to le nu ec ep wo) 0 0 := by
                intro μ
                induction μ with
                | zero => intro q sx px dx rx lg b9 hq hμ; exact absurd hμ (Nat.not_lt_zero _)
                | succ μ ih67 =>
                  intro q sx px dx rx lg b9 hq hμ
                  refine z_iload C dX4_scan_67 rfl ?_
                  refine z_iload C dX4_scan_69 rfl ?_
                  refine z_icmp_gt (tgt := 115) C dX4_scan_71 (by decide) (fun c_71 => ?_) (fun c_71 => ?_)
                  · have hb2 : b9 = zba W9 (i + 1) := by
                      rcases hq with ⟨_, e, _⟩ | ⟨_, e, _⟩ | ⟨_, _, e⟩
                      · exact absurd (e ▸ c_71) (zng (by omega))
                      · rw [e] at c_71; exact absurd c_71 Int32.lt_irrefl
                      · exact e
                    refine z_iinc (v := nI (i + 1 + 1)) C dX4_scan_115 rfl (ziinc (i + 1)) (Nat.le_of_ble_eq_true rfl) rfl ?_
                    refine z_goto (tgt := 56) C dX4_scan_118 (by decide) ?_
                    exact z_convG (ih56 (i + 1) sx px dx rx (by omega) (by omega)) (And.intro (rfl) (And.intro (rfl) (And.intro (rfl) (And.intro (rfl) (And.intro (rfl) (And.intro (by rw [hb2]) (And.intro (by rw [hb2]) (And.intro (rfl) trivial)))))))) (Nat.le_of_ble_eq_true rfl) (Nat.le_of_ble_eq_true rfl)
                  · have hq2 : q < 2 := by
                      rcases hq with ⟨e, _⟩ | ⟨e, _⟩ | ⟨_, e, _⟩
                      · omega
                      · omega
                      · exact absurd (e ▸ nI_lt (by omega) (by omega)) c_71
                    have hlg : zin lg (-20) 20 := by
                      rcases hq with ⟨_, e, _⟩ | ⟨_, e, _⟩ | ⟨e, _⟩
                      · rw [e]; exact zin_w (zin_neg (zin_n (k := i + 1) (by omega)) (by omega) (by omega)) (by omega) (by omega)
                      · rw [e]; exact zin_w (zin_n (k := i + 1) (by omega)) (by omega) (by omega)
                      · omega
                    refine z_aload_n (i := 0) C dX4_scan_74 rfl rfl ?_
                    refine z_iload C dX4_scan_75 rfl ?_
                    refine z_iload_n (i := 1) C dX4_scan_77 rfl rfl ?_
                    refine z_imul C dX4_scan_78 ?_
                    refine z_iload_n (i := 3) C dX4_scan_79 rfl rfl ?_
                    refine z_iload C dX4_scan_80 rfl ?_
                    refine z_callVn C (tw_obj) rfl (ct_X4_energyWith D B _ f l ge nm h8 hnm (zin_mul (c := 20) (d := 100) hlg (zin_w (zin_n (k := sp) (by omega)) (by omega) (by omega)) (by decide)) hf hl) q2278 q2280 qs68 q106 q2281 np_X4_energyWith (zr_ok rfl rfl) rfl rfl (Nat.le_of_ble_eq_true rfl) (⟨Nat.le_of_ble_eq_true rfl, Nat.le_of_ble_eq_true rfl⟩) dX4_scan_82 ?_
                    intro v9 G9 h9
                    obtain ⟨rfl, sx1, px1, dx1, rx1, rfl⟩ := h9
                    refine z_setl (hW0 lg) ?_
                    refine z_lstore C dX4_scan_85 (Nat.le_of_ble_eq_true rfl) rfl ?_
                    refine z_lload C dX4_scan_87 rfl ?_
                    refine z_lload C dX4_scan_89 rfl ?_
                    refine z_lc_le (tgt := 103) C dX4_scan_91 dX4_scan_92 (by decide) (fun c_92 => ?_) (fun c_92 => ?_)
                    · refine z_iload C dX4_scan_103 rfl ?_
                      refine z_iconst (v := 2) C dX4_scan_105 (by decide) ?_
                      refine z_iload C dX4_scan_106 rfl ?_
                      refine z_imul C dX4_scan_108 ?_
                      refine z_iadd C dX4_scan_109 ?_
                      refine z_istore C dX4_scan_110 (Nat.le_of_ble_eq_true rfl) rfl ?_
                      refine z_goto (tgt := 67) C dX4_scan_112 (by decide) ?_
                      first
                        | exact z_convG (ih67 (q + 1) _ _ _ _ _ _ (zbq hq hq2 (Or.inl ⟨Int64.not_le.mp c_92, rfl⟩)) (by omega)) (And.intro rfl (And.intro rfl (And.intro rfl (And.intro rfl (And.intro rfl (And.intro rfl (And.intro rfl (And.intro rfl (And.intro rfl trivial))))))))) (Nat.le_of_ble_eq_true rfl) (Nat.le_of_ble_eq_true rfl)
                        | exact z_convG (ih67 (q + 1) _ _ _ _ _ _ (zbq hq hq2 (Or.inr ⟨Int64.not_lt.mpr c_92, rfl⟩)) (by omega)) (And.intro rfl (And.intro rfl (And.intro rfl (And.intro rfl (And.intro rfl (And.intro rfl (And.intro rfl (And.intro rfl (And.intro rfl trivial))))))))) (Nat.le_of_ble_eq_true rfl) (Nat.le_of_ble_eq_true rfl)
                    · refine z_iload C dX4_scan_95 rfl ?_
                      refine z_istore C dX4_scan_97 (Nat.le_of_ble_eq_true rfl) rfl ?_
                      refine z_lload C dX4_scan_99 rfl ?_
                      refine z_lstore C dX4_scan_101 (Nat.le_of_ble_eq_true rfl) rfl ?_
                      refine z_iload C dX4_scan_103 rfl ?_
                      refine z_iconst (v := 2) C dX4_scan_105 (by decide) ?_
                      refine z_iload C dX4_scan_106 rfl ?_
                      refine z_imul C dX4_scan_108 ?_
                      refine z_iadd C dX4_scan_109 ?_
                      refine z_istore C dX4_scan_110 (Nat.le_of_ble_eq_true rfl) rfl ?_
                      refine z_goto (tgt := 67) C dX4_scan_112 (by decide) ?_
                      first
                        | exact z_convG (ih67 (q + 1) _ _ _ _ _ _ (zbq hq hq2 (Or.inl ⟨Int64.not_le.mp c_92, rfl⟩)) (by omega)) (And.intro rfl (And.intro rfl (And.intro rfl (And.intro rfl (And.intro rfl (And.intro rfl (And.intro rfl (And.intro rfl (And.intro rfl trivial))))))))) (Nat.le_of_ble_eq_true rfl) (Nat.le_of_ble_eq_true rfl)
                        | exact z_convG (ih67 (q + 1) _ _ _ _ _ _ (zbq hq hq2 (Or.inr ⟨Int64.not_lt.mpr c_92, rfl⟩)) (by omega)) (And.intro rfl (And.intro rfl (And.intro rfl (And.intro rfl (And.intro rfl (And.intro rfl (And.intro rfl (And.intro rfl (And.intro rfl trivial))))))))) (Nat.le_of_ble_eq_true rfl) (Nat.le_of_ble_eq_true rfl)
              exact z_convG (lp67 3 0 sx px dx rx _ _ (Or.inl ⟨rfl, rfl, rfl⟩) (by omega)) (And.intro (rfl) (And.intro (rfl) (And.intro (rfl) (And.intro (rfl) (And.intro (rfl) (And.intro (rfl) (And.intro (rfl) (And.intro (rfl) (And.intro (rfl) trivial))))))))) (Nat.le_of_ble_eq_true rfl) (Nat.le_of_ble_eq_true rfl)
        exact z_convG (lp56 256 0 sx px dx rx (by omega) (by omega)) (And.intro (rfl) (And.intro (rfl) (And.intro (rfl) (And.intro (rfl) (And.intro (rfl) (And.intro (rfl) (And.intro (rfl) (And.intro (rfl) trivial)))))))) (Nat.le_of_ble_eq_true rfl) (Nat.le_of_ble_eq_true rfl)
      · exact absurd c_31 (by decide)
set_option maxHeartbeats 4000000 in
set_option maxRecDepth 100000 in
theorem ct_X4_scan_1a (D : zG) (B : Nat) {b : zH} {t : tA} {st : Nat → Int32} {bk : Nat → Int32} {sv : Nat → Int32} {iz : Nat → Int32} {th : Int32} {di : Nat → Int32} {re : Nat → Int32} {si : Nat → Int32} {pa : Nat → Int32} {fo : Nat → Int64} {te : Nat → Int32} {tl : Int32} {po : Int32} {ts : Int32} {to : Int32} {le : Int32} {nu : Int32} {ec : Int32} {ep : Int32} {wo : Int64} (p g f l : Int32) (h0 : ¬ (1 ≤ p ∧ p ≤ 100)) : Ct D B yX4_scan (ws_ yX4_scan cX4_scan 12 (some .int)) (zr 7) [.ref (t.1 0), .int p, .int g, .int f, .int l] (tw b t st bk sv iz th di re si pa fo te tl po ts to le nu ec ep wo) (zpe (some (.int (0))) (tw b t st bk sv iz 1 di re si pa fo te tl po ts to le nu ec ep wo)) zno := by
  refine ct_intro (by decide +kernel) (Nat.le_of_ble_eq_true rfl) ?_
  intro X C
  refine z_aload_n (i := 0) C dX4_scan_0 rfl rfl ?_
  refine z_iconst (v := 0) C dX4_scan_1 (by decide) ?_
  refine tp_thrown C q1868 dX4_scan_2 ?_
  refine z_iload_n (i := 1) C dX4_scan_5 rfl rfl ?_
  refine z_iconst (v := 1) C dX4_scan_6 (by decide) ?_
  refine z_bipush (v := 100) C dX4_scan_7 (by decide) ?_
  refine z_callSe C (ct_X4_isBetween D B _ _ _) q1934 q1935 q106 q1936 np_X4_isBetween (zr_ok rfl rfl) rfl rfl (Nat.le_of_ble_eq_true rfl) (⟨Nat.le_of_ble_eq_true rfl, Nat.le_of_ble_eq_true rfl⟩) dX4_scan_9 ?_
  refine z_seti (zb_f (h0)) ?_
  refine z_if_eq (tgt := 34) C dX4_scan_12 (by decide) (fun c_12 => ?_) (fun c_12 => ?_)
  · refine z_aload_n (i := 0) C dX4_scan_34 rfl rfl ?_
    refine z_iconst (v := 1) C dX4_scan_35 (by decide) ?_
    refine z_callVe C (tw_obj) rfl (ct_X4_fail D B _) q1941 q1943 qs26 q106 q1944 np_X4_fail (zr_ok rfl rfl) rfl rfl (Nat.le_of_ble_eq_true rfl) (⟨Nat.le_of_ble_eq_true rfl, Nat.le_of_ble_eq_true rfl⟩) dX4_scan_36 ?_
    exact z_ireturn C rfl (rfl) dX4_scan_39 (⟨rfl, rfl⟩) (Nat.le_of_ble_eq_true rfl) (Nat.le_of_ble_eq_true rfl)
  · exact absurd rfl c_12
set_option maxHeartbeats 4000000 in
set_option maxRecDepth 100000 in
theorem ct_X4_scan_1b (D : zG) (B : Nat) {b : zH} {t : tA} {st : Nat → Int32} {bk : Nat → Int32} {sv : Nat → Int32} {iz : Nat → Int32} {th : Int32} {di : Nat → Int32} {re : Nat → Int32} {si : Nat → Int32} {pa : Nat → Int32} {fo : Nat → Int64} {te : Nat → Int32} {tl : Int32} {po : Int32} {ts : Int32} {to : Int32} {le : Int32} {nu : Int32} {ec : Int32} {ep : Int32} {wo : Int64} (p g f l : Int32) (h0 : 1 ≤ p ∧ p ≤ 100) (h1 : ¬ (0 ≤ g ∧ g ≤ 20)) : Ct D B yX4_scan (ws_ yX4_scan cX4_scan 12 (some .int)) (zr 7) [.ref (t.1 0), .int p, .int g, .int f, .int l] (tw b t st bk sv iz th di re si pa fo te tl po ts to le nu ec ep wo) (zpe (some (.int (0))) (tw b t st bk sv iz 1 di re si pa fo te tl po ts to le nu ec ep wo)) zno := by
  refine ct_intro (by decide +kernel) (Nat.le_of_ble_eq_true rfl) ?_
  intro X C
  refine z_aload_n (i := 0) C dX4_scan_0 rfl rfl ?_
  refine z_iconst (v := 0) C dX4_scan_1 (by decide) ?_
  refine tp_thrown C q1868 dX4_scan_2 ?_
  refine z_iload_n (i := 1) C dX4_scan_5 rfl rfl ?_
  refine z_iconst (v := 1) C dX4_scan_6 (by decide) ?_
  refine z_bipush (v := 100) C dX4_scan_7 (by decide) ?_
  refine z_callSe C (ct_X4_isBetween D B _ _ _) q1934 q1935 q106 q1936 np_X4_isBetween (zr_ok rfl rfl) rfl rfl (Nat.le_of_ble_eq_true rfl) (⟨Nat.le_of_ble_eq_true rfl, Nat.le_of_ble_eq_true rfl⟩) dX4_scan_9 ?_
  refine z_seti (zb_t (h0)) ?_
  refine z_if_eq (tgt := 34) C dX4_scan_12 (by decide) (fun c_12 => ?_) (fun c_12 => ?_)
  · exact absurd c_12 (by decide)
  · refine z_iload_n (i := 2) C dX4_scan_15 rfl rfl ?_
    refine z_iconst (v := 0) C dX4_scan_16 (by decide) ?_
    refine z_bipush (v := 20) C dX4_scan_17 (by decide) ?_
    refine z_callSe C (ct_X4_isBetween D B _ _ _) q1934 q1935 q106 q1936 np_X4_isBetween (zr_ok rfl rfl) rfl rfl (Nat.le_of_ble_eq_true rfl) (⟨Nat.le_of_ble_eq_true rfl, Nat.le_of_ble_eq_true rfl⟩) dX4_scan_19 ?_
    refine z_seti (zb_f (h1)) ?_
    refine z_if_eq (tgt := 34) C dX4_scan_22 (by decide) (fun c_22 => ?_) (fun c_22 => ?_)
    · refine z_aload_n (i := 0) C dX4_scan_34 rfl rfl ?_
      refine z_iconst (v := 1) C dX4_scan_35 (by decide) ?_
      refine z_callVe C (tw_obj) rfl (ct_X4_fail D B _) q1941 q1943 qs26 q106 q1944 np_X4_fail (zr_ok rfl rfl) rfl rfl (Nat.le_of_ble_eq_true rfl) (⟨Nat.le_of_ble_eq_true rfl, Nat.le_of_ble_eq_true rfl⟩) dX4_scan_36 ?_
      exact z_ireturn C rfl (rfl) dX4_scan_39 (⟨rfl, rfl⟩) (Nat.le_of_ble_eq_true rfl) (Nat.le_of_ble_eq_true rfl)
    · exact absurd rfl c_22
set_option maxHeartbeats 4000000 in
set_option maxRecDepth 100000 in
theorem ct_X4_scan_1c (D : zG) (B : Nat) {b : zH} {t : tA} {st : Nat → Int32} {bk : Nat → Int32} {sv : Nat → Int32} {iz : Nat → Int32} {th : Int32} {di : Nat → Int32} {re : Nat → Int32} {si : Nat → Int32} {pa : Nat → Int32} {fo : Nat → Int64} {te : Nat → Int32} {tl : Int32} {po : Int32} {ts : Int32} {to : Int32} {le : Int32} {nu : Int32} {ec : Int32} {ep : Int32} {wo : Int64} (p g f l : Int32) (h0 : 1 ≤ p ∧ p ≤ 100) (h1 : 0 ≤ g ∧ g ≤ 20) (h2 : ¬ ((0 ≤ f ∧ f ≤ 255) ∧ f ≤ l ∧ l ≤ 255)) : Ct D B yX4_scan (ws_ yX4_scan cX4_scan 12 (some .int)) (zr 7) [.ref (t.1 0), .int p, .int g, .int f, .int l] (tw b t st bk sv iz th di re si pa fo te tl po ts to le nu ec ep wo) (zpe (some (.int (0))) (tw b t st bk sv iz 1 di re si pa fo te tl po ts to le nu ec ep wo)) zno := by
  refine ct_intro (by decide +kernel) (Nat.le_of_ble_eq_true rfl) ?_
  intro X C
  refine z_aload_n (i := 0) C dX4_scan_0 rfl rfl ?_
  refine z_iconst (v := 0) C dX4_scan_1 (by decide) ?_
  refine tp_thrown C q1868 dX4_scan_2 ?_
  refine z_iload_n (i := 1) C dX4_scan_5 rfl rfl ?_
  refine z_iconst (v := 1) C dX4_scan_6 (by decide) ?_
  refine z_bipush (v := 100) C dX4_scan_7 (by decide) ?_
  refine z_callSe C (ct_X4_isBetween D B _ _ _) q1934 q1935 q106 q1936 np_X4_isBetween (zr_ok rfl rfl) rfl rfl (Nat.le_of_ble_eq_true rfl) (⟨Nat.le_of_ble_eq_true rfl, Nat.le_of_ble_eq_true rfl⟩) dX4_scan_9 ?_
  refine z_seti (zb_t (h0)) ?_
  refine z_if_eq (tgt := 34) C dX4_scan_12 (by decide) (fun c_12 => ?_) (fun c_12 => ?_)
  · exact absurd c_12 (by decide)
  · refine z_iload_n (i := 2) C dX4_scan_15 rfl rfl ?_
    refine z_iconst (v := 0) C dX4_scan_16 (by decide) ?_
    refine z_bipush (v := 20) C dX4_scan_17 (by decide) ?_
    refine z_callSe C (ct_X4_isBetween D B _ _ _) q1934 q1935 q106 q1936 np_X4_isBetween (zr_ok rfl rfl) rfl rfl (Nat.le_of_ble_eq_true rfl) (⟨Nat.le_of_ble_eq_true rfl, Nat.le_of_ble_eq_true rfl⟩) dX4_scan_19 ?_
    refine z_seti (zb_t (h1)) ?_
    refine z_if_eq (tgt := 34) C dX4_scan_22 (by decide) (fun c_22 => ?_) (fun c_22 => ?_)
    · exact absurd c_22 (by decide)
    · refine z_iload_n (i := 3) C dX4_scan_25 rfl rfl ?_
      refine z_iload C dX4_scan_26 rfl ?_
      refine z_callSe C (ct_X4_isWindow D B _ _) q2125 q2126 q106 q2127 np_X4_isWindow (zr_ok rfl rfl) rfl rfl (Nat.le_of_ble_eq_true rfl) (⟨Nat.le_of_ble_eq_true rfl, Nat.le_of_ble_eq_true rfl⟩) dX4_scan_28 ?_
      refine z_seti (zb_f (h2)) ?_
      refine z_if_ne (tgt := 40) C dX4_scan_31 (by decide) (fun c_31 => ?_) (fun c_31 => ?_)
      · exact absurd rfl c_31
      · refine z_aload_n (i := 0) C dX4_scan_34 rfl rfl ?_
        refine z_iconst (v := 1) C dX4_scan_35 (by decide) ?_
        refine z_callVe C (tw_obj) rfl (ct_X4_fail D B _) q1941 q1943 qs26 q106 q1944 np_X4_fail (zr_ok rfl rfl) rfl rfl (Nat.le_of_ble_eq_true rfl) (⟨Nat.le_of_ble_eq_true rfl, Nat.le_of_ble_eq_true rfl⟩) dX4_scan_36 ?_
        exact z_ireturn C rfl (rfl) dX4_scan_39 (⟨rfl, rfl⟩) (Nat.le_of_ble_eq_true rfl) (Nat.le_of_ble_eq_true rfl)
theorem np_X4_layDirectedBeam : znp yX4_layDirectedBeam 1 := ⟨by decide +kernel, by decide +kernel, by decide +kernel⟩
set_option maxHeartbeats 4000000 in
set_option maxRecDepth 100000 in
theorem ct_X4_bestDirection_ok (D : zG) (B : Nat) {b : zH} {t : tA} {st : Nat → Int32} {bk : Nat → Int32} {sv : Nat → Int32} {iz : Nat → Int32} {th : Int32} {di : Nat → Int32} {re : Nat → Int32} {si : Nat → Int32} {pa : Nat → Int32} {fo : Nat → Int64} {te : Nat → Int32} {tl : Int32} {po : Int32} {ts : Int32} {to : Int32} {le : Int32} {nu : Int32} {ec : Int32} {ep : Int32} {wo : Int64} (sp f l : Nat) (ge : zGe st) (nm : Nat) (h8 : st 8 = nI nm) (hnm : nm ≤ 8) (hp0 : 1 ≤ nI sp ∧ nI sp ≤ 100) (hp1 : 1 ≤ sp) (hp : sp ≤ 100) (hw : (0 ≤ nI f ∧ nI f ≤ 255) ∧ nI f ≤ nI l ∧ nI l ≤ 255) (hf : f ≤ l) (hl : l < 256) : Ct D B yX4_bestDirection (ws_ yX4_bestDirection cX4_bestDirection 10 (some .int)) (zr 5) [.ref (t.1 0), .int (nI sp), .int (nI f), .int (nI l)] (tw b t st bk sv iz th di re si pa fo te tl po ts to le nu ec ep wo) (fun w G9 => w = some (.int (zbD (fun d => zen (zbd st nm d) f l) sp (200 / sp + 1)).1) ∧ ∃ sx px dx rx : Nat → Int32, G9 = (tw b t st bk sv iz 0 dx rx sx px fo te tl po ts to le nu ec ep wo)) zno := by
  refine ct_intro (by decide +kernel) (Nat.le_of_ble_eq_true rfl) ?_
  intro X C
  refine z_aload_n (i := 0) C dX4_bestDirection_0 rfl rfl ?_
  refine z_iconst (v := 0) C dX4_bestDirection_1 (by decide) ?_
  refine tp_thrown C q1868 dX4_bestDirection_2 ?_
  refine z_iload_n (i := 1) C dX4_bestDirection_5 rfl rfl ?_
  refine z_iconst (v := 1) C dX4_bestDirection_6 (by decide) ?_
  refine z_bipush (v := 100) C dX4_bestDirection_7 (by decide) ?_
  refine z_callSe C (ct_X4_isBetween D B _ _ _) q1934 q1935 q106 q1936 np_X4_isBetween (zr_ok rfl rfl) rfl rfl (Nat.le_of_ble_eq_true rfl) (⟨Nat.le_of_ble_eq_true rfl, Nat.le_of_ble_eq_true rfl⟩) dX4_bestDirection_9 ?_
  refine z_seti (zb_t (hp0)) ?_
  refine z_if_eq (tgt := 23) C dX4_bestDirection_12 (by decide) (fun c_12 => ?_) (fun c_12 => ?_)
  · exact absurd c_12 (by decide)
  · refine z_iload_n (i := 2) C dX4_bestDirection_15 rfl rfl ?_
    refine z_iload_n (i := 3) C dX4_bestDirection_16 rfl rfl ?_
    refine z_callSe C (ct_X4_isWindow D B _ _) q2125 q2126 q106 q2127 np_X4_isWindow (zr_ok rfl rfl) rfl rfl (Nat.le_of_ble_eq_true rfl) (⟨Nat.le_of_ble_eq_true rfl, Nat.le_of_ble_eq_true rfl⟩) dX4_bestDirection_17 ?_
    refine z_seti (zb_t (hw)) ?_
    refine z_if_ne (tgt := 29) C dX4_bestDirection_20 (by decide) (fun c_20 => ?_) (fun c_20 => ?_)
    · refine z_iconst (v := 0) C dX4_bestDirection_29 (by decide) ?_
      refine z_istore C dX4_bestDirection_30 (Nat.le_of_ble_eq_true rfl) rfl ?_
      refine z_ldc2 C q2167 dX4_bestDirection_32 ?_
      refine z_lstore C dX4_bestDirection_35 (Nat.le_of_ble_eq_true rfl) rfl ?_
      refine z_bipush (v := (-100)) C dX4_bestDirection_37 (by decide) ?_
      refine z_istore C dX4_bestDirection_39 (Nat.le_of_ble_eq_true rfl) rfl ?_
      have lp41 : ∀ (μ : Nat) (k : Nat) (sx px dx rx : Nat → Int32) (h1 : k ≤ 200 / sp + 1), 200 / sp + 1 - k < μ → Z X 41 [some (.ref (t.1 0)), some (.int (nI sp)), some (.int (nI f)), some (.int (nI l)), some (.int (zbD (fun d => zen (zbd st nm d) f l) sp k).1), some (.long (zbD (fun d => zen (zbd st nm d) f l) sp k).2), none, some (.int (nI (k * sp) - 100)), none, none] [] (tw b t st bk sv iz 0 dx rx sx px fo te tl po ts to le nu ec ep wo) 0 0 := by
        intro μ
        induction μ with
        | zero => intro k sx px dx rx h1 hμ; exact absurd hμ (Nat.not_lt_zero _)
        | succ μ ih41 =>
          intro k sx px dx rx h1 hμ
          have hks : k * sp ≤ 200 + sp := by
            have a1 := Nat.mul_le_mul_right sp h1
            rw [Nat.succ_mul] at a1
            have a2 := Nat.div_mul_le_self 200 sp
            omega
          refine z_iload C dX4_bestDirection_41 rfl ?_
          refine z_bipush (v := 100) C dX4_bestDirection_43 (by decide) ?_
          refine z_icmp_gt (tgt := 87) C dX4_bestDirection_45 (by decide) (fun c_45 => ?_) (fun c_45 => ?_)
          · have hend : k = 200 / sp + 1 := by
              have a1 := (zdr_le (by omega)).mp c_45
              have := Nat.div_lt_iff_lt_mul (k := sp) (x := 200) (y := k) (by omega)
              omega
            refine z_iload C dX4_bestDirection_87 rfl ?_
            exact z_ireturn C rfl (rfl) dX4_bestDirection_89 (⟨zvs (by rw [hend]), sx, px, dx, rx, rfl⟩) (Nat.le_of_ble_eq_true rfl) (Nat.le_of_ble_eq_true rfl)
          · have hle : k * sp ≤ 200 := Nat.le_of_not_lt fun q => c_45 ((zdr_le (by omega)).mpr q)
            refine z_aload_n (i := 0) C dX4_bestDirection_48 rfl rfl ?_
            refine z_iload C dX4_bestDirection_49 rfl ?_
            refine z_callVn C (tw_obj) rfl (ct_X4_layDirectedBeam D B _ ge nm h8 hnm) q2290 q2292 qs69 q106 q2293 np_X4_layDirectedBeam (zr_ok rfl rfl) rfl rfl (Nat.le_of_ble_eq_true rfl) (⟨Nat.le_of_ble_eq_true rfl, Nat.le_of_ble_eq_true rfl⟩) dX4_bestDirection_51 ?_
            intro v9 G9 h9
            obtain ⟨rfl, sx1, px1, dx1, rx1, rfl, hs⟩ := h9
            refine z_aload_n (i := 0) C dX4_bestDirection_54 rfl rfl ?_
            refine z_iload_n (i := 2) C dX4_bestDirection_55 rfl rfl ?_
            refine z_iload_n (i := 3) C dX4_bestDirection_56 rfl rfl ?_
            refine z_callVe C (tw_obj) rfl (ct_X4_energyOf D B f l (by omega) hl) q2136 q2138 qs51 q106 q2139 np_X4_energyOf (zr_ok rfl rfl) rfl rfl (Nat.le_of_ble_eq_true rfl) (⟨Nat.le_of_ble_eq_true rfl, Nat.le_of_ble_eq_true rfl⟩) dX4_bestDirection_57 ?_
            refine z_setl (y := (fun d => zen (zbd st nm d) f l) (nI (k * sp) - 100)) (zen_congr (fun j hj => hs j (by omega))) ?_
            refine z_lstore C dX4_bestDirection_60 (Nat.le_of_ble_eq_true rfl) rfl ?_
            refine z_lload C dX4_bestDirection_62 rfl ?_
            refine z_lload C dX4_bestDirection_64 rfl ?_
            refine z_lc_le (tgt := 78) C dX4_bestDirection_66 dX4_bestDirection_67 (by decide) (fun c_67 => ?_) (fun c_67 => ?_)
            · refine z_iload C dX4_bestDirection_78 rfl ?_
              refine z_iload_n (i := 1) C dX4_bestDirection_80 rfl rfl ?_
              refine z_iadd C dX4_bestDirection_81 ?_
              refine z_istore C dX4_bestDirection_82 (Nat.le_of_ble_eq_true rfl) rfl ?_
              refine z_goto (tgt := 41) C dX4_bestDirection_84 (by decide) ?_
              exact z_convG (ih41 (k + 1) _ _ _ _ (by have := Nat.le_div_iff_mul_le (k := sp) (x := k) (y := 200) (by omega); omega) (by have := Nat.le_div_iff_mul_le (k := sp) (x := k) (y := 200) (by omega); omega)) (And.intro (rfl) (And.intro (rfl) (And.intro (rfl) (And.intro (rfl) (And.intro (by simp only [zbD]; first | rw [if_pos (Int64.not_le.mp c_67)] | rw [if_neg (Int64.not_lt.mpr c_67)]) (And.intro (by simp only [zbD]; first | rw [if_pos (Int64.not_le.mp c_67)] | rw [if_neg (Int64.not_lt.mpr c_67)]) (And.intro (by rw [zdr_1]) trivial))))))) (Nat.le_of_ble_eq_true rfl) (Nat.le_of_ble_eq_true rfl)
            · refine z_iload C dX4_bestDirection_70 rfl ?_
              refine z_istore C dX4_bestDirection_72 (Nat.le_of_ble_eq_true rfl) rfl ?_
              refine z_lload C dX4_bestDirection_74 rfl ?_
              refine z_lstore C dX4_bestDirection_76 (Nat.le_of_ble_eq_true rfl) rfl ?_
              refine z_iload C dX4_bestDirection_78 rfl ?_
              refine z_iload_n (i := 1) C dX4_bestDirection_80 rfl rfl ?_
              refine z_iadd C dX4_bestDirection_81 ?_
              refine z_istore C dX4_bestDirection_82 (Nat.le_of_ble_eq_true rfl) rfl ?_
              refine z_goto (tgt := 41) C dX4_bestDirection_84 (by decide) ?_
              exact z_convG (ih41 (k + 1) _ _ _ _ (by have := Nat.le_div_iff_mul_le (k := sp) (x := k) (y := 200) (by omega); omega) (by have := Nat.le_div_iff_mul_le (k := sp) (x := k) (y := 200) (by omega); omega)) (And.intro (rfl) (And.intro (rfl) (And.intro (rfl) (And.intro (rfl) (And.intro (by simp only [zbD]; first | rw [if_pos (Int64.not_le.mp c_67)] | rw [if_neg (Int64.not_lt.mpr c_67)]) (And.intro (by simp only [zbD]; first | rw [if_pos (Int64.not_le.mp c_67)] | rw [if_neg (Int64.not_lt.mpr c_67)]) (And.intro (by rw [zdr_1]) trivial))))))) (Nat.le_of_ble_eq_true rfl) (Nat.le_of_ble_eq_true rfl)
      exact z_convG (lp41 (200 / sp + 2) 0 si pa di re (Nat.zero_le _) (Nat.lt_succ_self _)) (And.intro (rfl) (And.intro (rfl) (And.intro (rfl) (And.intro (rfl) (And.intro (rfl) (And.intro (rfl) (And.intro (by rw [Nat.zero_mul]; rfl) trivial))))))) (Nat.le_of_ble_eq_true rfl) (Nat.le_of_ble_eq_true rfl)
    · exact absurd c_20 (by decide)
set_option maxHeartbeats 4000000 in
set_option maxRecDepth 100000 in
theorem ct_X4_bestDirection_1a (D : zG) (B : Nat) {b : zH} {t : tA} {st : Nat → Int32} {bk : Nat → Int32} {sv : Nat → Int32} {iz : Nat → Int32} {th : Int32} {di : Nat → Int32} {re : Nat → Int32} {si : Nat → Int32} {pa : Nat → Int32} {fo : Nat → Int64} {te : Nat → Int32} {tl : Int32} {po : Int32} {ts : Int32} {to : Int32} {le : Int32} {nu : Int32} {ec : Int32} {ep : Int32} {wo : Int64} (p f l : Int32) (h0 : ¬ (1 ≤ p ∧ p ≤ 100)) : Ct D B yX4_bestDirection (ws_ yX4_bestDirection cX4_bestDirection 10 (some .int)) (zr 5) [.ref (t.1 0), .int p, .int f, .int l] (tw b t st bk sv iz th di re si pa fo te tl po ts to le nu ec ep wo) (zpe (some (.int (0))) (tw b t st bk sv iz 1 di re si pa fo te tl po ts to le nu ec ep wo)) zno := by
  refine ct_intro (by decide +kernel) (Nat.le_of_ble_eq_true rfl) ?_
  intro X C
  refine z_aload_n (i := 0) C dX4_bestDirection_0 rfl rfl ?_
  refine z_iconst (v := 0) C dX4_bestDirection_1 (by decide) ?_
  refine tp_thrown C q1868 dX4_bestDirection_2 ?_
  refine z_iload_n (i := 1) C dX4_bestDirection_5 rfl rfl ?_
  refine z_iconst (v := 1) C dX4_bestDirection_6 (by decide) ?_
  refine z_bipush (v := 100) C dX4_bestDirection_7 (by decide) ?_
  refine z_callSe C (ct_X4_isBetween D B _ _ _) q1934 q1935 q106 q1936 np_X4_isBetween (zr_ok rfl rfl) rfl rfl (Nat.le_of_ble_eq_true rfl) (⟨Nat.le_of_ble_eq_true rfl, Nat.le_of_ble_eq_true rfl⟩) dX4_bestDirection_9 ?_
  refine z_seti (zb_f (h0)) ?_
  refine z_if_eq (tgt := 23) C dX4_bestDirection_12 (by decide) (fun c_12 => ?_) (fun c_12 => ?_)
  · refine z_aload_n (i := 0) C dX4_bestDirection_23 rfl rfl ?_
    refine z_iconst (v := 1) C dX4_bestDirection_24 (by decide) ?_
    refine z_callVe C (tw_obj) rfl (ct_X4_fail D B _) q1941 q1943 qs26 q106 q1944 np_X4_fail (zr_ok rfl rfl) rfl rfl (Nat.le_of_ble_eq_true rfl) (⟨Nat.le_of_ble_eq_true rfl, Nat.le_of_ble_eq_true rfl⟩) dX4_bestDirection_25 ?_
    exact z_ireturn C rfl (rfl) dX4_bestDirection_28 (⟨rfl, rfl⟩) (Nat.le_of_ble_eq_true rfl) (Nat.le_of_ble_eq_true rfl)
  · exact absurd rfl c_12
set_option maxHeartbeats 4000000 in
set_option maxRecDepth 100000 in
theorem ct_X4_bestDirection_1b (D : zG) (B : Nat) {b : zH} {t : tA} {st : Nat → Int32} {bk : Nat → Int32} {sv : Nat → Int32} {iz : Nat → Int32} {th : Int32} {di : Nat → Int32} {re : Nat → Int32} {si : Nat → Int32} {pa : Nat → Int32} {fo : Nat → Int64} {te : Nat → Int32} {tl : Int32} {po : Int32} {ts : Int32} {to : Int32} {le : Int32} {nu : Int32} {ec : Int32} {ep : Int32} {wo : Int64} (p f l : Int32) (h0 : 1 ≤ p ∧ p ≤ 100) (h1 : ¬ ((0 ≤ f ∧ f ≤ 255) ∧ f ≤ l ∧ l ≤ 255)) : Ct D B yX4_bestDirection (ws_ yX4_bestDirection cX4_bestDirection 10 (some .int)) (zr 5) [.ref (t.1 0), .int p, .int f, .int l] (tw b t st bk sv iz th di re si pa fo te tl po ts to le nu ec ep wo) (zpe (some (.int (0))) (tw b t st bk sv iz 1 di re si pa fo te tl po ts to le nu ec ep wo)) zno := by
  refine ct_intro (by decide +kernel) (Nat.le_of_ble_eq_true rfl) ?_
  intro X C
  refine z_aload_n (i := 0) C dX4_bestDirection_0 rfl rfl ?_
  refine z_iconst (v := 0) C dX4_bestDirection_1 (by decide) ?_
  refine tp_thrown C q1868 dX4_bestDirection_2 ?_
  refine z_iload_n (i := 1) C dX4_bestDirection_5 rfl rfl ?_
  refine z_iconst (v := 1) C dX4_bestDirection_6 (by decide) ?_
  refine z_bipush (v := 100) C dX4_bestDirection_7 (by decide) ?_
  refine z_callSe C (ct_X4_isBetween D B _ _ _) q1934 q1935 q106 q1936 np_X4_isBetween (zr_ok rfl rfl) rfl rfl (Nat.le_of_ble_eq_true rfl) (⟨Nat.le_of_ble_eq_true rfl, Nat.le_of_ble_eq_true rfl⟩) dX4_bestDirection_9 ?_
  refine z_seti (zb_t (h0)) ?_
  refine z_if_eq (tgt := 23) C dX4_bestDirection_12 (by decide) (fun c_12 => ?_) (fun c_12 => ?_)
  · exact absurd c_12 (by decide)
  · refine z_iload_n (i := 2) C dX4_bestDirection_15 rfl rfl ?_
    refine z_iload_n (i := 3) C dX4_bestDirection_16 rfl rfl ?_
    refine z_callSe C (ct_X4_isWindow D B _ _) q2125 q2126 q106 q2127 np_X4_isWindow (zr_ok rfl rfl) rfl rfl (Nat.le_of_ble_eq_true rfl) (⟨Nat.le_of_ble_eq_true rfl, Nat.le_of_ble_eq_true rfl⟩) dX4_bestDirection_17 ?_
    refine z_seti (zb_f (h1)) ?_
    refine z_if_ne (tgt := 29) C dX4_bestDirection_20 (by decide) (fun c_20 => ?_) (fun c_20 => ?_)
    · exact absurd rfl c_20
    · refine z_aload_n (i := 0) C dX4_bestDirection_23 rfl rfl ?_
      refine z_iconst (v := 1) C dX4_bestDirection_24 (by decide) ?_
      refine z_callVe C (tw_obj) rfl (ct_X4_fail D B _) q1941 q1943 qs26 q106 q1944 np_X4_fail (zr_ok rfl rfl) rfl rfl (Nat.le_of_ble_eq_true rfl) (⟨Nat.le_of_ble_eq_true rfl, Nat.le_of_ble_eq_true rfl⟩) dX4_bestDirection_25 ?_
      exact z_ireturn C rfl (rfl) dX4_bestDirection_28 (⟨rfl, rfl⟩) (Nat.le_of_ble_eq_true rfl) (Nat.le_of_ble_eq_true rfl)
set_option maxHeartbeats 4000000 in
set_option maxRecDepth 100000 in
theorem ct_X4_powerOf (D : zG) (B : Nat) {b : zH} {t : tA} {st : Nat → Int32} {bk : Nat → Int32} {sv : Nat → Int32} {iz : Nat → Int32} {th : Int32} {di : Nat → Int32} {re : Nat → Int32} {si : Nat → Int32} {pa : Nat → Int32} {fo : Nat → Int64} {te : Nat → Int32} {tl : Int32} {po : Int32} {ts : Int32} {to : Int32} {le : Int32} {nu : Int32} {ec : Int32} {ep : Int32} {wo : Int64} (p f l : Nat) (hp1 : 1 ≤ p) (hp : p ≤ 64) (hf : f ≤ l) (hl : l < 256) : Ct D B yX4_powerOf (ws_ yX4_powerOf cX4_powerOf 7 (some .long)) (zr 0) [.ref (t.1 0), .int (nI p), .int (nI f), .int (nI l)] (tw b t st bk sv iz th di re si pa fo te tl po ts to le nu ec ep wo) (fun w G9 => w = some (.long (zpw si p f l)) ∧ ∃ fx : Nat → Int64, G9 = (tw b t st bk sv iz th di re si pa fx te tl po ts to le nu ec ep wo)) zno := by
  refine ct_intro (by decide +kernel) (Nat.le_of_ble_eq_true rfl) ?_
  intro X C
  refine z_iconst (v := 0) C dX4_powerOf_0 (by decide) ?_
  refine z_istore C dX4_powerOf_1 (Nat.le_of_ble_eq_true rfl) rfl ?_
  have lp3 : ∀ (μ : Nat) (i : Nat) (fx : Nat → Int64) (h1 : i ≤ p) (h2 : ∀ k, k < i → fx k = 0), p - i < μ → Z X 3 [some (.ref (t.1 0)), some (.int (nI p)), some (.int (nI f)), some (.int (nI l)), some (.int (nI i)), none, none] [] (tw b t st bk sv iz th di re si pa fx te tl po ts to le nu ec ep wo) 0 0 := by
    intro μ
    induction μ with
    | zero => intro i fx h1 h2 hμ; exact absurd hμ (Nat.not_lt_zero _)
    | succ μ ih3 =>
      intro i fx h1 h2 hμ
      refine z_iload C dX4_powerOf_3 rfl ?_
      refine z_iload_n (i := 1) C dX4_powerOf_5 rfl rfl ?_
      refine z_icmp_ge (tgt := 23) C dX4_powerOf_6 (by decide) (fun c_6 => ?_) (fun c_6 => ?_)
      · have hend_6 : i = p := by have := zge (b := p) c_6 (by omega) (by omega); omega
        refine z_iload_n (i := 2) C dX4_powerOf_23 rfl rfl ?_
        refine z_istore C dX4_powerOf_24 (Nat.le_of_ble_eq_true rfl) rfl ?_
        have lp26 : ∀ (μ : Nat) (i : Nat) (fx : Nat → Int64) (h1 : f ≤ i) (h2 : i ≤ l + 1) (h3 : ∀ k, k < p → fx k = zfold si p f (i - f) k), l + 1 - i < μ → Z X 26 [some (.ref (t.1 0)), some (.int (nI p)), some (.int (nI f)), some (.int (nI l)), some (.int (nI i)), none, none] [] (tw b t st bk sv iz th di re si pa fx te tl po ts to le nu ec ep wo) 0 0 := by
          intro μ
          induction μ with
          | zero => intro i fx h1 h2 h3 hμ; exact absurd hμ (Nat.not_lt_zero _)
          | succ μ ih26 =>
            intro i fx h1 h2 h3 hμ
            refine z_iload C dX4_powerOf_26 rfl ?_
            refine z_iload_n (i := 3) C dX4_powerOf_28 rfl rfl ?_
            refine z_icmp_gt (tgt := 60) C dX4_powerOf_29 (by decide) (fun c_29 => ?_) (fun c_29 => ?_)
            · have hend : i = l + 1 := by have := zgt c_29 (by omega) (by omega); omega
              refine z_lconst (v := 0) C dX4_powerOf_60 (by decide) ?_
              refine z_lstore C dX4_powerOf_61 (Nat.le_of_ble_eq_true rfl) rfl ?_
              refine z_iconst (v := 0) C dX4_powerOf_63 (by decide) ?_
              refine z_istore C dX4_powerOf_64 (Nat.le_of_ble_eq_true rfl) rfl ?_
              have lp66 : ∀ (μ : Nat) (k : Nat) (h4 : k ≤ p), p - k < μ → Z X 66 [some (.ref (t.1 0)), some (.int (nI p)), some (.int (nI f)), some (.int (nI l)), some (.long (zsumL (fun k => zfold si p f (l + 1 - f) k * zfold si p f (l + 1 - f) k) 0 k)), none, some (.int (nI k))] [] (tw b t st bk sv iz th di re si pa fx te tl po ts to le nu ec ep wo) 0 0 := by
                intro μ
                induction μ with
                | zero => intro k h4 hμ; exact absurd hμ (Nat.not_lt_zero _)
                | succ μ ih66 =>
                  intro k h4 hμ
                  refine z_iload C dX4_powerOf_66 rfl ?_
                  refine z_iload_n (i := 1) C dX4_powerOf_68 rfl rfl ?_
                  refine z_icmp_ge (tgt := 98) C dX4_powerOf_69 (by decide) (fun c_69 => ?_) (fun c_69 => ?_)
                  · have hend9 : k = p := by have := zge (b := p) c_69 (by omega) (by omega); omega
                    refine z_lload C dX4_powerOf_98 rfl ?_
                    exact z_lreturn C rfl dX4_powerOf_100 (⟨zvl (by rw [hend9]; rfl), fx, rfl⟩) (Nat.le_of_ble_eq_true rfl) (Nat.le_of_ble_eq_true rfl)
                  · have hlt9 : k < p := znge (b := p) c_69 (by omega) (by omega)
                    refine z_lload C dX4_powerOf_72 rfl ?_
                    refine z_aload_n (i := 0) C dX4_powerOf_74 rfl rfl ?_
                    refine tg_folded C q1873 dX4_powerOf_75 ?_
                    refine z_iload C dX4_powerOf_78 rfl ?_
                    refine tl_folded C ⟨rfl, by omega⟩ dX4_powerOf_80 ?_
                    refine z_aload_n (i := 0) C dX4_powerOf_81 rfl rfl ?_
                    refine tg_folded C q1873 dX4_powerOf_82 ?_
                    refine z_iload C dX4_powerOf_85 rfl ?_
                    refine tl_folded C ⟨rfl, by omega⟩ dX4_powerOf_87 ?_
                    refine z_lmul C dX4_powerOf_88 ?_
                    refine z_ladd C dX4_powerOf_89 ?_
                    refine z_lstore C dX4_powerOf_90 (Nat.le_of_ble_eq_true rfl) rfl ?_
                    refine z_iinc (v := nI (k + 1)) C dX4_powerOf_92 rfl (ziinc k) (Nat.le_of_ble_eq_true rfl) rfl ?_
                    refine z_goto (tgt := 66) C dX4_powerOf_95 (by decide) ?_
                    exact z_convG (ih66 (k + 1) (by omega) (by omega)) (And.intro (rfl) (And.intro (rfl) (And.intro (rfl) (And.intro (rfl) (And.intro (by have e : zsumL (fun k => zfold si p f (l + 1 - f) k * zfold si p f (l + 1 - f) k) 0 (k + 1) = zsumL (fun k => zfold si p f (l + 1 - f) k * zfold si p f (l + 1 - f) k) 0 k + fx k * fx k := (by show _ + zfold si p f (l + 1 - f) (0 + k) * zfold si p f (l + 1 - f) (0 + k) = _; rw [Nat.zero_add, h3 k (by omega), hend]); rw [e]) (And.intro (rfl) trivial)))))) (Nat.le_of_ble_eq_true rfl) (Nat.le_of_ble_eq_true rfl)
              exact z_convG (lp66 65 0 (by omega) (by omega)) (And.intro (rfl) (And.intro (rfl) (And.intro (rfl) (And.intro (rfl) (And.intro (rfl) (And.intro (rfl) trivial)))))) (Nat.le_of_ble_eq_true rfl) (Nat.le_of_ble_eq_true rfl)
            · have hle : i ≤ l := zngt c_29 (by omega) (by omega)
              have hmod := Nat.mod_lt (i - f) hp1
              refine z_aload_n (i := 0) C dX4_powerOf_32 rfl rfl ?_
              refine tg_folded C q1873 dX4_powerOf_33 ?_
              refine z_iload C dX4_powerOf_36 rfl ?_
              refine z_iload_n (i := 2) C dX4_powerOf_38 rfl rfl ?_
              refine z_isub C dX4_powerOf_39 ?_
              refine z_seti (y := nI (i - f)) (pk_sub (by omega)) ?_
              refine z_iload_n (i := 1) C dX4_powerOf_40 rfl rfl ?_
              refine z_irem C dX4_powerOf_41 (nI_ne0 hp1 (by omega)) ?_
              refine z_seti (y := nI ((i - f) % p)) (pk_rem (by omega) hp1 (by omega)) ?_
              refine z_dup2_11 C dX4_powerOf_42 rfl rfl ?_
              refine tl_folded C ⟨rfl, by omega⟩ dX4_powerOf_43 ?_
              refine z_aload_n (i := 0) C dX4_powerOf_44 rfl rfl ?_
              refine tg_signal C q1871 dX4_powerOf_45 ?_
              refine z_iload C dX4_powerOf_48 rfl ?_
              refine tl_signal C ⟨rfl, by omega⟩ dX4_powerOf_50 ?_
              refine z_i2l C dX4_powerOf_51 rfl ?_
              refine z_ladd C dX4_powerOf_52 ?_
              refine ts_folded C ⟨rfl, by omega⟩ dX4_powerOf_53 ?_
              refine z_iinc (v := nI (i + 1)) C dX4_powerOf_54 rfl (ziinc i) (Nat.le_of_ble_eq_true rfl) rfl ?_
              refine z_goto (tgt := 26) C dX4_powerOf_57 (by decide) ?_
              exact z_convG (ih26 (i + 1) _ (by omega) (by omega) (fun k hk => by rw [zfold_1 _ _ h1]; unfold vp_updL; by_cases e : k = (i - f) % p; (· subst e; rw [if_pos rfl, if_pos rfl, h3 _ hk]); (· rw [if_neg e, if_neg (fun q => e q.symm), h3 k hk, Int64.add_zero])) (by omega)) (And.intro (rfl) (And.intro (rfl) (And.intro (rfl) (And.intro (rfl) (And.intro (rfl) trivial))))) (Nat.le_of_ble_eq_true rfl) (Nat.le_of_ble_eq_true rfl)
        exact z_convG (lp26 (l + 2) f fx (by omega) (by omega) (fun k hk => by rw [h2 k (by omega), Nat.sub_self]; rfl) (by omega)) (And.intro (rfl) (And.intro (rfl) (And.intro (rfl) (And.intro (rfl) (And.intro (rfl) trivial))))) (Nat.le_of_ble_eq_true rfl) (Nat.le_of_ble_eq_true rfl)
      · have hlt_6 : i < p := znge (b := p) c_6 (by omega) (by omega)
        refine z_aload_n (i := 0) C dX4_powerOf_9 rfl rfl ?_
        refine tg_folded C q1873 dX4_powerOf_10 ?_
        refine z_iload C dX4_powerOf_13 rfl ?_
        refine z_lconst (v := 0) C dX4_powerOf_15 (by decide) ?_
        refine ts_folded C ⟨rfl, by omega⟩ dX4_powerOf_16 ?_
        refine z_iinc (v := nI (i + 1)) C dX4_powerOf_17 rfl (ziinc i) (Nat.le_of_ble_eq_true rfl) rfl ?_
        refine z_goto (tgt := 3) C dX4_powerOf_20 (by decide) ?_
        exact z_convG (ih3 (i + 1) _ (by omega) (fun k hk => by unfold vp_updL; by_cases e : k = i; (· subst e; rw [if_pos rfl]); (· exact (if_neg e).trans (h2 k (by omega)))) (by omega)) (And.intro (rfl) (And.intro (rfl) (And.intro (rfl) (And.intro (rfl) (And.intro (rfl) trivial))))) (Nat.le_of_ble_eq_true rfl) (Nat.le_of_ble_eq_true rfl)
  exact z_convG (lp3 65 0 fo (by omega) (fun k hk => by omega) (by omega)) (And.intro (rfl) (And.intro (rfl) (And.intro (rfl) (And.intro (rfl) (And.intro (rfl) trivial))))) (Nat.le_of_ble_eq_true rfl) (Nat.le_of_ble_eq_true rfl)
theorem np_X4_powerOf : znp yX4_powerOf 3 := ⟨by decide +kernel, by decide +kernel, by decide +kernel⟩
set_option maxHeartbeats 4000000 in
set_option maxRecDepth 100000 in
theorem ct_X4_strengthOf (D : zG) (B : Nat) {b : zH} {t : tA} {st : Nat → Int32} {bk : Nat → Int32} {sv : Nat → Int32} {iz : Nat → Int32} {th : Int32} {di : Nat → Int32} {re : Nat → Int32} {si : Nat → Int32} {pa : Nat → Int32} {fo : Nat → Int64} {te : Nat → Int32} {tl : Int32} {po : Int32} {ts : Int32} {to : Int32} {le : Int32} {nu : Int32} {ec : Int32} {ep : Int32} {wo : Int64} (p f l : Nat) (hp1 : 1 ≤ p) (hp : p ≤ 64) (hf : f ≤ l) (hl : l < 256) : Ct D B yX4_strengthOf (ws_ yX4_strengthOf cX4_strengthOf 4 (some .long)) (zr 1) [.ref (t.1 0), .int (nI p), .int (nI f), .int (nI l)] (tw b t st bk sv iz th di re si pa fo te tl po ts to le nu ec ep wo) (fun w G9 => w = some (.long (zst si p f l)) ∧ ∃ fx : Nat → Int64, G9 = (tw b t st bk sv iz th di re si pa fx te tl po ts to le nu ec ep wo)) zno := by
  refine ct_intro (by decide +kernel) (Nat.le_of_ble_eq_true rfl) ?_
  intro X C
  refine z_aload_n (i := 0) C dX4_strengthOf_0 rfl rfl ?_
  refine z_iload_n (i := 1) C dX4_strengthOf_1 rfl rfl ?_
  refine z_iload_n (i := 2) C dX4_strengthOf_2 rfl rfl ?_
  refine z_iload_n (i := 3) C dX4_strengthOf_3 rfl rfl ?_
  refine z_callVn C (tw_obj) rfl (ct_X4_powerOf D B p f l hp1 hp hf hl) q2262 q2264 qs66 q106 q2265 np_X4_powerOf (zr_ok rfl rfl) rfl rfl (Nat.le_of_ble_eq_true rfl) (⟨Nat.le_of_ble_eq_true rfl, Nat.le_of_ble_eq_true rfl⟩) dX4_strengthOf_4 ?_
  intro v9 G9 h9
  obtain ⟨rfl, fx, rfl⟩ := h9
  refine z_iload_n (i := 1) C dX4_strengthOf_7 rfl rfl ?_
  refine z_i2l C dX4_strengthOf_8 (nI_l (by omega)) ?_
  refine z_lmul C dX4_strengthOf_9 ?_
  refine z_iload_n (i := 3) C dX4_strengthOf_10 rfl rfl ?_
  refine z_iload_n (i := 2) C dX4_strengthOf_11 rfl rfl ?_
  refine z_isub C dX4_strengthOf_12 ?_
  refine z_seti (y := nI (l - f)) (pk_sub (by omega)) ?_
  refine z_iconst (v := 1) C dX4_strengthOf_13 (by decide) ?_
  refine z_iadd C dX4_strengthOf_14 ?_
  refine z_seti (y := nI (l + 1 - f)) ((nI_1 _).trans (by congr 1; omega)) ?_
  refine z_i2l C dX4_strengthOf_15 (nI_l (by omega)) ?_
  refine z_ldiv C dX4_strengthOf_16 (fun e => absurd ((lN_eq (b := 0) (by omega) (by decide)).mp e) (by omega)) ?_
  exact z_lreturn C rfl dX4_strengthOf_17 (⟨rfl, fx, rfl⟩) (Nat.le_of_ble_eq_true rfl) (Nat.le_of_ble_eq_true rfl)
theorem np_X4_isPeriod : znp yX4_isPeriod 1 := ⟨by decide +kernel, by decide +kernel, by decide +kernel⟩
set_option maxHeartbeats 4000000 in
set_option maxRecDepth 100000 in
theorem ct_X4_periodPower_ok (D : zG) (B : Nat) {b : zH} {t : tA} {st : Nat → Int32} {bk : Nat → Int32} {sv : Nat → Int32} {iz : Nat → Int32} {th : Int32} {di : Nat → Int32} {re : Nat → Int32} {si : Nat → Int32} {pa : Nat → Int32} {fo : Nat → Int64} {te : Nat → Int32} {tl : Int32} {po : Int32} {ts : Int32} {to : Int32} {le : Int32} {nu : Int32} {ec : Int32} {ep : Int32} {wo : Int64} (p f l : Nat) (ge : zGe st) (nm : Nat) (h8 : st 8 = nI nm) (hnm : nm ≤ 8) (hp0 : 1 ≤ nI p ∧ nI p ≤ 64) (hp1 : 1 ≤ p) (hp : p ≤ 64) (hw : (0 ≤ nI f ∧ nI f ≤ 255) ∧ nI f ≤ nI l ∧ nI l ≤ 255) (hf : f ≤ l) (hl : l < 256) : Ct D B yX4_periodPower (ws_ yX4_periodPower cX4_periodPower 4 (some .long)) (zr 6) [.ref (t.1 0), .int (nI p), .int (nI f), .int (nI l)] (tw b t st bk sv iz th di re si pa fo te tl po ts to le nu ec ep wo) (fun w G9 => w = some (.long (zpw (zbs st nm 0) p f l)) ∧ ∃ (sx px dx rx : Nat → Int32) (fx : Nat → Int64), G9 = (tw b t st bk sv iz 0 dx rx sx px fx te tl po ts to le nu ec ep wo)) zno := by
  refine ct_intro (by decide +kernel) (Nat.le_of_ble_eq_true rfl) ?_
  intro X C
  refine z_aload_n (i := 0) C dX4_periodPower_0 rfl rfl ?_
  refine z_iconst (v := 0) C dX4_periodPower_1 (by decide) ?_
  refine tp_thrown C q1868 dX4_periodPower_2 ?_
  refine z_iload_n (i := 1) C dX4_periodPower_5 rfl rfl ?_
  refine z_callSe C (ct_X4_isPeriod D B _) q2259 q2260 q106 q2261 np_X4_isPeriod (zr_ok rfl rfl) rfl rfl (Nat.le_of_ble_eq_true rfl) (⟨Nat.le_of_ble_eq_true rfl, Nat.le_of_ble_eq_true rfl⟩) dX4_periodPower_6 ?_
  refine z_seti (zb_t (hp0)) ?_
  refine z_if_eq (tgt := 20) C dX4_periodPower_9 (by decide) (fun c_9 => ?_) (fun c_9 => ?_)
  · exact absurd c_9 (by decide)
  · refine z_iload_n (i := 2) C dX4_periodPower_12 rfl rfl ?_
    refine z_iload_n (i := 3) C dX4_periodPower_13 rfl rfl ?_
    refine z_callSe C (ct_X4_isWindow D B _ _) q2125 q2126 q106 q2127 np_X4_isWindow (zr_ok rfl rfl) rfl rfl (Nat.le_of_ble_eq_true rfl) (⟨Nat.le_of_ble_eq_true rfl, Nat.le_of_ble_eq_true rfl⟩) dX4_periodPower_14 ?_
    refine z_seti (zb_t (hw)) ?_
    refine z_if_ne (tgt := 27) C dX4_periodPower_17 (by decide) (fun c_17 => ?_) (fun c_17 => ?_)
    · refine z_aload_n (i := 0) C dX4_periodPower_27 rfl rfl ?_
      refine z_iconst (v := 0) C dX4_periodPower_28 (by decide) ?_
      refine z_callVn C (tw_obj) rfl (ct_X4_layBeam D B 0 ge nm h8 hnm (by unfold zin; decide)) q2239 q2241 qs63 q106 q2242 np_X4_layBeam (zr_ok rfl rfl) rfl rfl (Nat.le_of_ble_eq_true rfl) (⟨Nat.le_of_ble_eq_true rfl, Nat.le_of_ble_eq_true rfl⟩) dX4_periodPower_29 ?_
      intro v9 G9 h9
      obtain ⟨rfl, sx, px, dx, rx, rfl, hs⟩ := h9
      refine z_aload_n (i := 0) C dX4_periodPower_32 rfl rfl ?_
      refine z_iload_n (i := 1) C dX4_periodPower_33 rfl rfl ?_
      refine z_iload_n (i := 2) C dX4_periodPower_34 rfl rfl ?_
      refine z_iload_n (i := 3) C dX4_periodPower_35 rfl rfl ?_
      refine z_callVn C (tw_obj) rfl (ct_X4_powerOf D B p f l hp1 hp hf hl) q2262 q2264 qs66 q106 q2265 np_X4_powerOf (zr_ok rfl rfl) rfl rfl (Nat.le_of_ble_eq_true rfl) (⟨Nat.le_of_ble_eq_true rfl, Nat.le_of_ble_eq_true rfl⟩) dX4_periodPower_36 ?_
      intro v9 G9 h9
      obtain ⟨rfl, fx, rfl⟩ := h9
      exact z_lreturn C rfl dX4_periodPower_39 (⟨zvl (zpw_congr (by omega) (fun j hj => hs j (by omega))), sx, px, dx, rx, fx, rfl⟩) (Nat.le_of_ble_eq_true rfl) (Nat.le_of_ble_eq_true rfl)
    · exact absurd c_17 (by decide)
set_option maxHeartbeats 4000000 in
set_option maxRecDepth 100000 in
theorem ct_X4_periodPower_1a (D : zG) (B : Nat) {b : zH} {t : tA} {st : Nat → Int32} {bk : Nat → Int32} {sv : Nat → Int32} {iz : Nat → Int32} {th : Int32} {di : Nat → Int32} {re : Nat → Int32} {si : Nat → Int32} {pa : Nat → Int32} {fo : Nat → Int64} {te : Nat → Int32} {tl : Int32} {po : Int32} {ts : Int32} {to : Int32} {le : Int32} {nu : Int32} {ec : Int32} {ep : Int32} {wo : Int64} (p f l : Int32) (h0 : ¬ (1 ≤ p ∧ p ≤ 64)) : Ct D B yX4_periodPower (ws_ yX4_periodPower cX4_periodPower 4 (some .long)) (zr 6) [.ref (t.1 0), .int p, .int f, .int l] (tw b t st bk sv iz th di re si pa fo te tl po ts to le nu ec ep wo) (zpe (some (.long 0)) (tw b t st bk sv iz 1 di re si pa fo te tl po ts to le nu ec ep wo)) zno := by
  refine ct_intro (by decide +kernel) (Nat.le_of_ble_eq_true rfl) ?_
  intro X C
  refine z_aload_n (i := 0) C dX4_periodPower_0 rfl rfl ?_
  refine z_iconst (v := 0) C dX4_periodPower_1 (by decide) ?_
  refine tp_thrown C q1868 dX4_periodPower_2 ?_
  refine z_iload_n (i := 1) C dX4_periodPower_5 rfl rfl ?_
  refine z_callSe C (ct_X4_isPeriod D B _) q2259 q2260 q106 q2261 np_X4_isPeriod (zr_ok rfl rfl) rfl rfl (Nat.le_of_ble_eq_true rfl) (⟨Nat.le_of_ble_eq_true rfl, Nat.le_of_ble_eq_true rfl⟩) dX4_periodPower_6 ?_
  refine z_seti (zb_f (h0)) ?_
  refine z_if_eq (tgt := 20) C dX4_periodPower_9 (by decide) (fun c_9 => ?_) (fun c_9 => ?_)
  · refine z_aload_n (i := 0) C dX4_periodPower_20 rfl rfl ?_
    refine z_iconst (v := 1) C dX4_periodPower_21 (by decide) ?_
    refine z_callVe C (tw_obj) rfl (ct_X4_fail D B _) q1941 q1943 qs26 q106 q1944 np_X4_fail (zr_ok rfl rfl) rfl rfl (Nat.le_of_ble_eq_true rfl) (⟨Nat.le_of_ble_eq_true rfl, Nat.le_of_ble_eq_true rfl⟩) dX4_periodPower_22 ?_
    refine z_i2l C dX4_periodPower_25 rfl ?_
    exact z_lreturn C rfl dX4_periodPower_26 (⟨rfl, rfl⟩) (Nat.le_of_ble_eq_true rfl) (Nat.le_of_ble_eq_true rfl)
  · exact absurd rfl c_9
set_option maxHeartbeats 4000000 in
set_option maxRecDepth 100000 in
theorem ct_X4_periodPower_1b (D : zG) (B : Nat) {b : zH} {t : tA} {st : Nat → Int32} {bk : Nat → Int32} {sv : Nat → Int32} {iz : Nat → Int32} {th : Int32} {di : Nat → Int32} {re : Nat → Int32} {si : Nat → Int32} {pa : Nat → Int32} {fo : Nat → Int64} {te : Nat → Int32} {tl : Int32} {po : Int32} {ts : Int32} {to : Int32} {le : Int32} {nu : Int32} {ec : Int32} {ep : Int32} {wo : Int64} (p f l : Int32) (h0 : 1 ≤ p ∧ p ≤ 64) (h1 : ¬ ((0 ≤ f ∧ f ≤ 255) ∧ f ≤ l ∧ l ≤ 255)) : Ct D B yX4_periodPower (ws_ yX4_periodPower cX4_periodPower 4 (some .long)) (zr 6) [.ref (t.1 0), .int p, .int f, .int l] (tw b t st bk sv iz th di re si pa fo te tl po ts to le nu ec ep wo) (zpe (some (.long 0)) (tw b t st bk sv iz 1 di re si pa fo te tl po ts to le nu ec ep wo)) zno := by
  refine ct_intro (by decide +kernel) (Nat.le_of_ble_eq_true rfl) ?_
  intro X C
  refine z_aload_n (i := 0) C dX4_periodPower_0 rfl rfl ?_
  refine z_iconst (v := 0) C dX4_periodPower_1 (by decide) ?_
  refine tp_thrown C q1868 dX4_periodPower_2 ?_
  refine z_iload_n (i := 1) C dX4_periodPower_5 rfl rfl ?_
  refine z_callSe C (ct_X4_isPeriod D B _) q2259 q2260 q106 q2261 np_X4_isPeriod (zr_ok rfl rfl) rfl rfl (Nat.le_of_ble_eq_true rfl) (⟨Nat.le_of_ble_eq_true rfl, Nat.le_of_ble_eq_true rfl⟩) dX4_periodPower_6 ?_
  refine z_seti (zb_t (h0)) ?_
  refine z_if_eq (tgt := 20) C dX4_periodPower_9 (by decide) (fun c_9 => ?_) (fun c_9 => ?_)
  · exact absurd c_9 (by decide)
  · refine z_iload_n (i := 2) C dX4_periodPower_12 rfl rfl ?_
    refine z_iload_n (i := 3) C dX4_periodPower_13 rfl rfl ?_
    refine z_callSe C (ct_X4_isWindow D B _ _) q2125 q2126 q106 q2127 np_X4_isWindow (zr_ok rfl rfl) rfl rfl (Nat.le_of_ble_eq_true rfl) (⟨Nat.le_of_ble_eq_true rfl, Nat.le_of_ble_eq_true rfl⟩) dX4_periodPower_14 ?_
    refine z_seti (zb_f (h1)) ?_
    refine z_if_ne (tgt := 27) C dX4_periodPower_17 (by decide) (fun c_17 => ?_) (fun c_17 => ?_)
    · exact absurd rfl c_17
    · refine z_aload_n (i := 0) C dX4_periodPower_20 rfl rfl ?_
      refine z_iconst (v := 1) C dX4_periodPower_21 (by decide) ?_
      refine z_callVe C (tw_obj) rfl (ct_X4_fail D B _) q1941 q1943 qs26 q106 q1944 np_X4_fail (zr_ok rfl rfl) rfl rfl (Nat.le_of_ble_eq_true rfl) (⟨Nat.le_of_ble_eq_true rfl, Nat.le_of_ble_eq_true rfl⟩) dX4_periodPower_22 ?_
      refine z_i2l C dX4_periodPower_25 rfl ?_
      exact z_lreturn C rfl dX4_periodPower_26 (⟨rfl, rfl⟩) (Nat.le_of_ble_eq_true rfl) (Nat.le_of_ble_eq_true rfl)
theorem np_X4_strengthOf : znp yX4_strengthOf 3 := ⟨by decide +kernel, by decide +kernel, by decide +kernel⟩
set_option maxHeartbeats 4000000 in
set_option maxRecDepth 100000 in
theorem ct_X4_bestPeriod_1a (D : zG) (B : Nat) {b : zH} {t : tA} {st : Nat → Int32} {bk : Nat → Int32} {sv : Nat → Int32} {iz : Nat → Int32} {th : Int32} {di : Nat → Int32} {re : Nat → Int32} {si : Nat → Int32} {pa : Nat → Int32} {fo : Nat → Int64} {te : Nat → Int32} {tl : Int32} {po : Int32} {ts : Int32} {to : Int32} {le : Int32} {nu : Int32} {ec : Int32} {ep : Int32} {wo : Int64} (p f l : Int32) (h0 : ¬ (1 ≤ p ∧ p ≤ 64)) : Ct D B yX4_bestPeriod (ws_ yX4_bestPeriod cX4_bestPeriod 6 (some .int)) (zr 6) [.ref (t.1 0), .int p, .int f, .int l] (tw b t st bk sv iz th di re si pa fo te tl po ts to le nu ec ep wo) (zpe (some (.int (0))) (tw b t st bk sv iz 1 di re si pa fo te tl po ts to le nu ec ep wo)) zno := by
  refine ct_intro (by decide +kernel) (Nat.le_of_ble_eq_true rfl) ?_
  intro X C
  refine z_aload_n (i := 0) C dX4_bestPeriod_0 rfl rfl ?_
  refine z_iconst (v := 0) C dX4_bestPeriod_1 (by decide) ?_
  refine tp_thrown C q1868 dX4_bestPeriod_2 ?_
  refine z_iload_n (i := 1) C dX4_bestPeriod_5 rfl rfl ?_
  refine z_callSe C (ct_X4_isPeriod D B _) q2259 q2260 q106 q2261 np_X4_isPeriod (zr_ok rfl rfl) rfl rfl (Nat.le_of_ble_eq_true rfl) (⟨Nat.le_of_ble_eq_true rfl, Nat.le_of_ble_eq_true rfl⟩) dX4_bestPeriod_6 ?_
  refine z_seti (zb_f (h0)) ?_
  refine z_if_eq (tgt := 20) C dX4_bestPeriod_9 (by decide) (fun c_9 => ?_) (fun c_9 => ?_)
  · refine z_aload_n (i := 0) C dX4_bestPeriod_20 rfl rfl ?_
    refine z_iconst (v := 1) C dX4_bestPeriod_21 (by decide) ?_
    refine z_callVe C (tw_obj) rfl (ct_X4_fail D B _) q1941 q1943 qs26 q106 q1944 np_X4_fail (zr_ok rfl rfl) rfl rfl (Nat.le_of_ble_eq_true rfl) (⟨Nat.le_of_ble_eq_true rfl, Nat.le_of_ble_eq_true rfl⟩) dX4_bestPeriod_22 ?_
    exact z_ireturn C rfl (rfl) dX4_bestPeriod_25 (⟨rfl, rfl⟩) (Nat.le_of_ble_eq_true rfl) (Nat.le_of_ble_eq_true rfl)
  · exact absurd rfl c_9
set_option maxHeartbeats 4000000 in
set_option maxRecDepth 100000 in
theorem ct_X4_bestPeriod_1b (D : zG) (B : Nat) {b : zH} {t : tA} {st : Nat → Int32} {bk : Nat → Int32} {sv : Nat → Int32} {iz : Nat → Int32} {th : Int32} {di : Nat → Int32} {re : Nat → Int32} {si : Nat → Int32} {pa : Nat → Int32} {fo : Nat → Int64} {te : Nat → Int32} {tl : Int32} {po : Int32} {ts : Int32} {to : Int32} {le : Int32} {nu : Int32} {ec : Int32} {ep : Int32} {wo : Int64} (p f l : Int32) (h0 : 1 ≤ p ∧ p ≤ 64) (h1 : ¬ ((0 ≤ f ∧ f ≤ 255) ∧ f ≤ l ∧ l ≤ 255)) : Ct D B yX4_bestPeriod (ws_ yX4_bestPeriod cX4_bestPeriod 6 (some .int)) (zr 6) [.ref (t.1 0), .int p, .int f, .int l] (tw b t st bk sv iz th di re si pa fo te tl po ts to le nu ec ep wo) (zpe (some (.int (0))) (tw b t st bk sv iz 1 di re si pa fo te tl po ts to le nu ec ep wo)) zno := by
  refine ct_intro (by decide +kernel) (Nat.le_of_ble_eq_true rfl) ?_
  intro X C
  refine z_aload_n (i := 0) C dX4_bestPeriod_0 rfl rfl ?_
  refine z_iconst (v := 0) C dX4_bestPeriod_1 (by decide) ?_
  refine tp_thrown C q1868 dX4_bestPeriod_2 ?_
  refine z_iload_n (i := 1) C dX4_bestPeriod_5 rfl rfl ?_
  refine z_callSe C (ct_X4_isPeriod D B _) q2259 q2260 q106 q2261 np_X4_isPeriod (zr_ok rfl rfl) rfl rfl (Nat.le_of_ble_eq_true rfl) (⟨Nat.le_of_ble_eq_true rfl, Nat.le_of_ble_eq_true rfl⟩) dX4_bestPeriod_6 ?_
  refine z_seti (zb_t (h0)) ?_
  refine z_if_eq (tgt := 20) C dX4_bestPeriod_9 (by decide) (fun c_9 => ?_) (fun c_9 => ?_)
  · exact absurd c_9 (by decide)
  · refine z_iload_n (i := 2) C dX4_bestPeriod_12 rfl rfl ?_
    refine z_iload_n (i := 3) C dX4_bestPeriod_13 rfl rfl ?_
    refine z_callSe C (ct_X4_isWindow D B _ _) q2125 q2126 q106 q2127 np_X4_isWindow (zr_ok rfl rfl) rfl rfl (Nat.le_of_ble_eq_true rfl) (⟨Nat.le_of_ble_eq_true rfl, Nat.le_of_ble_eq_true rfl⟩) dX4_bestPeriod_14 ?_
    refine z_seti (zb_f (h1)) ?_
    refine z_if_ne (tgt := 26) C dX4_bestPeriod_17 (by decide) (fun c_17 => ?_) (fun c_17 => ?_)
    · exact absurd rfl c_17
    · refine z_aload_n (i := 0) C dX4_bestPeriod_20 rfl rfl ?_
      refine z_iconst (v := 1) C dX4_bestPeriod_21 (by decide) ?_
      refine z_callVe C (tw_obj) rfl (ct_X4_fail D B _) q1941 q1943 qs26 q106 q1944 np_X4_fail (zr_ok rfl rfl) rfl rfl (Nat.le_of_ble_eq_true rfl) (⟨Nat.le_of_ble_eq_true rfl, Nat.le_of_ble_eq_true rfl⟩) dX4_bestPeriod_22 ?_
      exact z_ireturn C rfl (rfl) dX4_bestPeriod_25 (⟨rfl, rfl⟩) (Nat.le_of_ble_eq_true rfl) (Nat.le_of_ble_eq_true rfl)
set_option maxHeartbeats 4000000 in
set_option maxRecDepth 100000 in
theorem ct_X4_bestPeriod_ok (D : zG) (B : Nat) {b : zH} {t : tA} {st : Nat → Int32} {bk : Nat → Int32} {sv : Nat → Int32} {iz : Nat → Int32} {th : Int32} {di : Nat → Int32} {re : Nat → Int32} {si : Nat → Int32} {pa : Nat → Int32} {fo : Nat → Int64} {te : Nat → Int32} {tl : Int32} {po : Int32} {ts : Int32} {to : Int32} {le : Int32} {nu : Int32} {ec : Int32} {ep : Int32} {wo : Int64} (p f l : Nat) (ge : zGe st) (nm : Nat) (h8 : st 8 = nI nm) (hnm : nm ≤ 8) (hp0 : 1 ≤ nI p ∧ nI p ≤ 64) (hp1 : 1 ≤ p) (hp : p ≤ 64) (hw : (0 ≤ nI f ∧ nI f ≤ 255) ∧ nI f ≤ nI l ∧ nI l ≤ 255) (hf : f ≤ l) (hl : l < 256) : Ct D B yX4_bestPeriod (ws_ yX4_bestPeriod cX4_bestPeriod 6 (some .int)) (zr 6) [.ref (t.1 0), .int (nI p), .int (nI f), .int (nI l)] (tw b t st bk sv iz th di re si pa fo te tl po ts to le nu ec ep wo) (fun w G9 => w = some (.int (nI (zbP (fun p => zst (zbs st nm 0) p f l) (p - 1)))) ∧ ∃ (sx px dx rx : Nat → Int32) (fx : Nat → Int64), G9 = (tw b t st bk sv iz 0 dx rx sx px fx te tl po ts to le nu ec ep wo)) zno := by
  refine ct_intro (by decide +kernel) (Nat.le_of_ble_eq_true rfl) ?_
  intro X C
  refine z_aload_n (i := 0) C dX4_bestPeriod_0 rfl rfl ?_
  refine z_iconst (v := 0) C dX4_bestPeriod_1 (by decide) ?_
  refine tp_thrown C q1868 dX4_bestPeriod_2 ?_
  refine z_iload_n (i := 1) C dX4_bestPeriod_5 rfl rfl ?_
  refine z_callSe C (ct_X4_isPeriod D B _) q2259 q2260 q106 q2261 np_X4_isPeriod (zr_ok rfl rfl) rfl rfl (Nat.le_of_ble_eq_true rfl) (⟨Nat.le_of_ble_eq_true rfl, Nat.le_of_ble_eq_true rfl⟩) dX4_bestPeriod_6 ?_
  refine z_seti (zb_t (hp0)) ?_
  refine z_if_eq (tgt := 20) C dX4_bestPeriod_9 (by decide) (fun c_9 => ?_) (fun c_9 => ?_)
  · exact absurd c_9 (by decide)
  · refine z_iload_n (i := 2) C dX4_bestPeriod_12 rfl rfl ?_
    refine z_iload_n (i := 3) C dX4_bestPeriod_13 rfl rfl ?_
    refine z_callSe C (ct_X4_isWindow D B _ _) q2125 q2126 q106 q2127 np_X4_isWindow (zr_ok rfl rfl) rfl rfl (Nat.le_of_ble_eq_true rfl) (⟨Nat.le_of_ble_eq_true rfl, Nat.le_of_ble_eq_true rfl⟩) dX4_bestPeriod_14 ?_
    refine z_seti (zb_t (hw)) ?_
    refine z_if_ne (tgt := 26) C dX4_bestPeriod_17 (by decide) (fun c_17 => ?_) (fun c_17 => ?_)
    · refine z_aload_n (i := 0) C dX4_bestPeriod_26 rfl rfl ?_
      refine z_iconst (v := 0) C dX4_bestPeriod_27 (by decide) ?_
      refine z_callVn C (tw_obj) rfl (ct_X4_layBeam D B 0 ge nm h8 hnm (by unfold zin; decide)) q2239 q2241 qs63 q106 q2242 np_X4_layBeam (zr_ok rfl rfl) rfl rfl (Nat.le_of_ble_eq_true rfl) (⟨Nat.le_of_ble_eq_true rfl, Nat.le_of_ble_eq_true rfl⟩) dX4_bestPeriod_28 ?_
      intro v9 G9 h9
      obtain ⟨rfl, sx, px, dx, rx, rfl, hs⟩ := h9
      refine z_iconst (v := 1) C dX4_bestPeriod_31 (by decide) ?_
      refine z_istore C dX4_bestPeriod_32 (Nat.le_of_ble_eq_true rfl) rfl ?_
      refine z_iconst (v := 2) C dX4_bestPeriod_34 (by decide) ?_
      refine z_istore C dX4_bestPeriod_35 (Nat.le_of_ble_eq_true rfl) rfl ?_
      have lp37 : ∀ (μ : Nat) (i : Nat) (fx : Nat → Int64) (h1 : i ≤ p - 1), p - 1 - i < μ → Z X 37 [some (.ref (t.1 0)), some (.int (nI p)), some (.int (nI f)), some (.int (nI l)), some (.int (nI (zbP (fun p => zst (zbs st nm 0) p f l) i))), some (.int (nI (i + 2)))] [] (tw b t st bk sv iz 0 dx rx sx px fx te tl po ts to le nu ec ep wo) 0 0 := by
        intro μ
        induction μ with
        | zero => intro i fx h1 hμ; exact absurd hμ (Nat.not_lt_zero _)
        | succ μ ih37 =>
          intro i fx h1 hμ
          obtain ⟨z1, z2⟩ := zbP_in (fun p => zst (zbs st nm 0) p f l) i
          refine z_iload C dX4_bestPeriod_37 rfl ?_
          refine z_iload_n (i := 1) C dX4_bestPeriod_39 rfl rfl ?_
          refine z_icmp_gt (tgt := 78) C dX4_bestPeriod_40 (by decide) (fun c_40 => ?_) (fun c_40 => ?_)
          · have hend : i = p - 1 := by have := zgt c_40 (by omega) (by omega); omega
            refine z_iload C dX4_bestPeriod_78 rfl ?_
            exact z_ireturn C rfl (rfl) dX4_bestPeriod_80 (⟨zvs (by rw [hend]), sx, px, dx, rx, fx, rfl⟩) (Nat.le_of_ble_eq_true rfl) (Nat.le_of_ble_eq_true rfl)
          · have hle := zngt c_40 (by omega) (by omega)
            refine z_aload_n (i := 0) C dX4_bestPeriod_43 rfl rfl ?_
            refine z_iload C dX4_bestPeriod_44 rfl ?_
            refine z_iload_n (i := 2) C dX4_bestPeriod_46 rfl rfl ?_
            refine z_iload_n (i := 3) C dX4_bestPeriod_47 rfl rfl ?_
            refine z_callVn C (tw_obj) rfl (ct_X4_strengthOf D B (i + 2) f l (by omega) (by omega) hf hl) q2270 q2272 qs67 q106 q2273 np_X4_strengthOf (zr_ok rfl rfl) rfl rfl (Nat.le_of_ble_eq_true rfl) (⟨Nat.le_of_ble_eq_true rfl, Nat.le_of_ble_eq_true rfl⟩) dX4_bestPeriod_48 ?_
            intro v9 G9 h9
            obtain ⟨rfl, fx1, rfl⟩ := h9
            refine z_setl (y := (fun p => zst (zbs st nm 0) p f l) (i + 2)) (zst_congr (by omega) (fun j hj => hs j (by omega))) ?_
            refine z_aload_n (i := 0) C dX4_bestPeriod_51 rfl rfl ?_
            refine z_iload C dX4_bestPeriod_52 rfl ?_
            refine z_iload_n (i := 2) C dX4_bestPeriod_54 rfl rfl ?_
            refine z_iload_n (i := 3) C dX4_bestPeriod_55 rfl rfl ?_
            refine z_callVn C (tw_obj) rfl (ct_X4_strengthOf D B (zbP (fun p => zst (zbs st nm 0) p f l) i) f l (by omega) (by omega) hf hl) q2270 q2272 qs67 q106 q2273 np_X4_strengthOf (zr_ok rfl rfl) rfl rfl (Nat.le_of_ble_eq_true rfl) (⟨Nat.le_of_ble_eq_true rfl, Nat.le_of_ble_eq_true rfl⟩) dX4_bestPeriod_56 ?_
            intro v9 G9 h9
            obtain ⟨rfl, fx2, rfl⟩ := h9
            refine z_setl (y := (fun p => zst (zbs st nm 0) p f l) (zbP (fun p => zst (zbs st nm 0) p f l) i)) (zst_congr (by omega) (fun j hj => hs j (by omega))) ?_
            refine z_lc_le (tgt := 68) C dX4_bestPeriod_59 dX4_bestPeriod_60 (by decide) (fun c_60 => ?_) (fun c_60 => ?_)
            · refine z_iload C dX4_bestPeriod_68 rfl ?_
              refine z_istore C dX4_bestPeriod_70 (Nat.le_of_ble_eq_true rfl) rfl ?_
              refine z_iinc (v := nI (i + 1 + 2)) C dX4_bestPeriod_72 rfl (ziinc (i + 2)) (Nat.le_of_ble_eq_true rfl) rfl ?_
              refine z_goto (tgt := 37) C dX4_bestPeriod_75 (by decide) ?_
              exact z_convG (ih37 (i + 1) _ (by omega) (by omega)) (And.intro (rfl) (And.intro (rfl) (And.intro (rfl) (And.intro (rfl) (And.intro (by simp only [zbP]; first | rw [if_pos (Int64.not_le.mp c_60)] | rw [if_neg (Int64.not_lt.mpr c_60)]) (And.intro (rfl) trivial)))))) (Nat.le_of_ble_eq_true rfl) (Nat.le_of_ble_eq_true rfl)
            · refine z_iload C dX4_bestPeriod_63 rfl ?_
              refine z_goto (tgt := 70) C dX4_bestPeriod_65 (by decide) ?_
              refine z_istore C dX4_bestPeriod_70 (Nat.le_of_ble_eq_true rfl) rfl ?_
              refine z_iinc (v := nI (i + 1 + 2)) C dX4_bestPeriod_72 rfl (ziinc (i + 2)) (Nat.le_of_ble_eq_true rfl) rfl ?_
              refine z_goto (tgt := 37) C dX4_bestPeriod_75 (by decide) ?_
              exact z_convG (ih37 (i + 1) _ (by omega) (by omega)) (And.intro (rfl) (And.intro (rfl) (And.intro (rfl) (And.intro (rfl) (And.intro (by simp only [zbP]; first | rw [if_pos (Int64.not_le.mp c_60)] | rw [if_neg (Int64.not_lt.mpr c_60)]) (And.intro (rfl) trivial)))))) (Nat.le_of_ble_eq_true rfl) (Nat.le_of_ble_eq_true rfl)
      exact z_convG (lp37 65 0 fo (by omega) (by omega)) (And.intro (rfl) (And.intro (rfl) (And.intro (rfl) (And.intro (rfl) (And.intro (rfl) (And.intro (rfl) trivial)))))) (Nat.le_of_ble_eq_true rfl) (Nat.le_of_ble_eq_true rfl)
    · exact absurd c_17 (by decide)
set_option maxHeartbeats 4000000 in
set_option maxRecDepth 100000 in
theorem ct_X4_spectrum_ok (D : zG) (B : Nat) {b : zH} {t : tA} {st : Nat → Int32} {bk : Nat → Int32} {sv : Nat → Int32} {iz : Nat → Int32} {th : Int32} {di : Nat → Int32} {re : Nat → Int32} {si : Nat → Int32} {pa : Nat → Int32} {fo : Nat → Int64} {te : Nat → Int32} {tl : Int32} {po : Int32} {ts : Int32} {to : Int32} {le : Int32} {nu : Int32} {ec : Int32} {ep : Int32} {wo : Int64} (d : Int32) (p f l : Nat) (ge : zGe st) (nm : Nat) (h8 : st 8 = nI nm) (hnm : nm ≤ 8) (hd0 : -100 ≤ d ∧ d ≤ 100) (hp0 : 1 ≤ nI p ∧ nI p ≤ 64) (hp1 : 1 ≤ p) (hp : p ≤ 64) (hw : (0 ≤ nI f ∧ nI f ≤ 255) ∧ nI f ≤ nI l ∧ nI l ≤ 255) (hf : f ≤ l) (hl : l < 256) : Ct D B yX4_spectrum (ws_ yX4_spectrum cX4_spectrum 5 (some .long)) (zr 5) [.ref (t.1 0), .int d, .int (nI p), .int (nI f), .int (nI l)] (tw b t st bk sv iz th di re si pa fo te tl po ts to le nu ec ep wo) (fun w G9 => w = some (.long (zst (zbd st nm d) p f l)) ∧ ∃ (sx px dx rx : Nat → Int32) (fx : Nat → Int64), G9 = (tw b t st bk sv iz 0 dx rx sx px fx te tl po ts to le nu ec ep wo)) zno := by
  refine ct_intro (by decide +kernel) (Nat.le_of_ble_eq_true rfl) ?_
  intro X C
  refine z_aload_n (i := 0) C dX4_spectrum_0 rfl rfl ?_
  refine z_iconst (v := 0) C dX4_spectrum_1 (by decide) ?_
  refine tp_thrown C q1868 dX4_spectrum_2 ?_
  refine z_iload_n (i := 1) C dX4_spectrum_5 rfl rfl ?_
  refine z_bipush (v := (-100)) C dX4_spectrum_6 (by decide) ?_
  refine z_bipush (v := 100) C dX4_spectrum_8 (by decide) ?_
  refine z_callSe C (ct_X4_isBetween D B _ _ _) q1934 q1935 q106 q1936 np_X4_isBetween (zr_ok rfl rfl) rfl rfl (Nat.le_of_ble_eq_true rfl) (⟨Nat.le_of_ble_eq_true rfl, Nat.le_of_ble_eq_true rfl⟩) dX4_spectrum_10 ?_
  refine z_seti (zb_t (hd0)) ?_
  refine z_if_eq (tgt := 32) C dX4_spectrum_13 (by decide) (fun c_13 => ?_) (fun c_13 => ?_)
  · exact absurd c_13 (by decide)
  · refine z_iload_n (i := 2) C dX4_spectrum_16 rfl rfl ?_
    refine z_callSe C (ct_X4_isPeriod D B _) q2259 q2260 q106 q2261 np_X4_isPeriod (zr_ok rfl rfl) rfl rfl (Nat.le_of_ble_eq_true rfl) (⟨Nat.le_of_ble_eq_true rfl, Nat.le_of_ble_eq_true rfl⟩) dX4_spectrum_17 ?_
    refine z_seti (zb_t (hp0)) ?_
    refine z_if_eq (tgt := 32) C dX4_spectrum_20 (by decide) (fun c_20 => ?_) (fun c_20 => ?_)
    · exact absurd c_20 (by decide)
    · refine z_iload_n (i := 3) C dX4_spectrum_23 rfl rfl ?_
      refine z_iload C dX4_spectrum_24 rfl ?_
      refine z_callSe C (ct_X4_isWindow D B _ _) q2125 q2126 q106 q2127 np_X4_isWindow (zr_ok rfl rfl) rfl rfl (Nat.le_of_ble_eq_true rfl) (⟨Nat.le_of_ble_eq_true rfl, Nat.le_of_ble_eq_true rfl⟩) dX4_spectrum_26 ?_
      refine z_seti (zb_t (hw)) ?_
      refine z_if_ne (tgt := 39) C dX4_spectrum_29 (by decide) (fun c_29 => ?_) (fun c_29 => ?_)
      · refine z_aload_n (i := 0) C dX4_spectrum_39 rfl rfl ?_
        refine z_iload_n (i := 1) C dX4_spectrum_40 rfl rfl ?_
        refine z_callVn C (tw_obj) rfl (ct_X4_layDirectedBeam D B d ge nm h8 hnm) q2290 q2292 qs69 q106 q2293 np_X4_layDirectedBeam (zr_ok rfl rfl) rfl rfl (Nat.le_of_ble_eq_true rfl) (⟨Nat.le_of_ble_eq_true rfl, Nat.le_of_ble_eq_true rfl⟩) dX4_spectrum_41 ?_
        intro v9 G9 h9
        obtain ⟨rfl, sx, px, dx, rx, rfl, hs⟩ := h9
        refine z_aload_n (i := 0) C dX4_spectrum_44 rfl rfl ?_
        refine z_iload_n (i := 2) C dX4_spectrum_45 rfl rfl ?_
        refine z_iload_n (i := 3) C dX4_spectrum_46 rfl rfl ?_
        refine z_iload C dX4_spectrum_47 rfl ?_
        refine z_callVn C (tw_obj) rfl (ct_X4_strengthOf D B p f l hp1 hp hf hl) q2270 q2272 qs67 q106 q2273 np_X4_strengthOf (zr_ok rfl rfl) rfl rfl (Nat.le_of_ble_eq_true rfl) (⟨Nat.le_of_ble_eq_true rfl, Nat.le_of_ble_eq_true rfl⟩) dX4_spectrum_49 ?_
        intro v9 G9 h9
        obtain ⟨rfl, fx, rfl⟩ := h9
        exact z_lreturn C rfl dX4_spectrum_52 (⟨zvl (zst_congr (by omega) (fun j hj => hs j (by omega))), sx, px, dx, rx, fx, rfl⟩) (Nat.le_of_ble_eq_true rfl) (Nat.le_of_ble_eq_true rfl)
      · exact absurd c_29 (by decide)
set_option maxHeartbeats 4000000 in
set_option maxRecDepth 100000 in
theorem ct_X4_spectrum_1a (D : zG) (B : Nat) {b : zH} {t : tA} {st : Nat → Int32} {bk : Nat → Int32} {sv : Nat → Int32} {iz : Nat → Int32} {th : Int32} {di : Nat → Int32} {re : Nat → Int32} {si : Nat → Int32} {pa : Nat → Int32} {fo : Nat → Int64} {te : Nat → Int32} {tl : Int32} {po : Int32} {ts : Int32} {to : Int32} {le : Int32} {nu : Int32} {ec : Int32} {ep : Int32} {wo : Int64} (d p f l : Int32) (h0 : ¬ (-100 ≤ d ∧ d ≤ 100)) : Ct D B yX4_spectrum (ws_ yX4_spectrum cX4_spectrum 5 (some .long)) (zr 5) [.ref (t.1 0), .int d, .int p, .int f, .int l] (tw b t st bk sv iz th di re si pa fo te tl po ts to le nu ec ep wo) (zpe (some (.long 0)) (tw b t st bk sv iz 1 di re si pa fo te tl po ts to le nu ec ep wo)) zno := by
  refine ct_intro (by decide +kernel) (Nat.le_of_ble_eq_true rfl) ?_
  intro X C
  refine z_aload_n (i := 0) C dX4_spectrum_0 rfl rfl ?_
  refine z_iconst (v := 0) C dX4_spectrum_1 (by decide) ?_
  refine tp_thrown C q1868 dX4_spectrum_2 ?_
  refine z_iload_n (i := 1) C dX4_spectrum_5 rfl rfl ?_
  refine z_bipush (v := (-100)) C dX4_spectrum_6 (by decide) ?_
  refine z_bipush (v := 100) C dX4_spectrum_8 (by decide) ?_
  refine z_callSe C (ct_X4_isBetween D B _ _ _) q1934 q1935 q106 q1936 np_X4_isBetween (zr_ok rfl rfl) rfl rfl (Nat.le_of_ble_eq_true rfl) (⟨Nat.le_of_ble_eq_true rfl, Nat.le_of_ble_eq_true rfl⟩) dX4_spectrum_10 ?_
  refine z_seti (zb_f (h0)) ?_
  refine z_if_eq (tgt := 32) C dX4_spectrum_13 (by decide) (fun c_13 => ?_) (fun c_13 => ?_)
  · refine z_aload_n (i := 0) C dX4_spectrum_32 rfl rfl ?_
    refine z_iconst (v := 1) C dX4_spectrum_33 (by decide) ?_
    refine z_callVe C (tw_obj) rfl (ct_X4_fail D B _) q1941 q1943 qs26 q106 q1944 np_X4_fail (zr_ok rfl rfl) rfl rfl (Nat.le_of_ble_eq_true rfl) (⟨Nat.le_of_ble_eq_true rfl, Nat.le_of_ble_eq_true rfl⟩) dX4_spectrum_34 ?_
    refine z_i2l C dX4_spectrum_37 rfl ?_
    exact z_lreturn C rfl dX4_spectrum_38 (⟨rfl, rfl⟩) (Nat.le_of_ble_eq_true rfl) (Nat.le_of_ble_eq_true rfl)
  · exact absurd rfl c_13
set_option maxHeartbeats 4000000 in
set_option maxRecDepth 100000 in
theorem ct_X4_spectrum_1b (D : zG) (B : Nat) {b : zH} {t : tA} {st : Nat → Int32} {bk : Nat → Int32} {sv : Nat → Int32} {iz : Nat → Int32} {th : Int32} {di : Nat → Int32} {re : Nat → Int32} {si : Nat → Int32} {pa : Nat → Int32} {fo : Nat → Int64} {te : Nat → Int32} {tl : Int32} {po : Int32} {ts : Int32} {to : Int32} {le : Int32} {nu : Int32} {ec : Int32} {ep : Int32} {wo : Int64} (d p f l : Int32) (h0 : -100 ≤ d ∧ d ≤ 100) (h1 : ¬ (1 ≤ p ∧ p ≤ 64)) : Ct D B yX4_spectrum (ws_ yX4_spectrum cX4_spectrum 5 (some .long)) (zr 5) [.ref (t.1 0), .int d, .int p, .int f, .int l] (tw b t st bk sv iz th di re si pa fo te tl po ts to le nu ec ep wo) (zpe (some (.long 0)) (tw b t st bk sv iz 1 di re si pa fo te tl po ts to le nu ec ep wo)) zno := by
  refine ct_intro (by decide +kernel) (Nat.le_of_ble_eq_true rfl) ?_
  intro X C
  refine z_aload_n (i := 0) C dX4_spectrum_0 rfl rfl ?_
  refine z_iconst (v := 0) C dX4_spectrum_1 (by decide) ?_
  refine tp_thrown C q1868 dX4_spectrum_2 ?_
  refine z_iload_n (i := 1) C dX4_spectrum_5 rfl rfl ?_
  refine z_bipush (v := (-100)) C dX4_spectrum_6 (by decide) ?_
  refine z_bipush (v := 100) C dX4_spectrum_8 (by decide) ?_
  refine z_callSe C (ct_X4_isBetween D B _ _ _) q1934 q1935 q106 q1936 np_X4_isBetween (zr_ok rfl rfl) rfl rfl (Nat.le_of_ble_eq_true rfl) (⟨Nat.le_of_ble_eq_true rfl, Nat.le_of_ble_eq_true rfl⟩) dX4_spectrum_10 ?_
  refine z_seti (zb_t (h0)) ?_
  refine z_if_eq (tgt := 32) C dX4_spectrum_13 (by decide) (fun c_13 => ?_) (fun c_13 => ?_)
  · exact absurd c_13 (by decide)
  · refine z_iload_n (i := 2) C dX4_spectrum_16 rfl rfl ?_
    refine z_callSe C (ct_X4_isPeriod D B _) q2259 q2260 q106 q2261 np_X4_isPeriod (zr_ok rfl rfl) rfl rfl (Nat.le_of_ble_eq_true rfl) (⟨Nat.le_of_ble_eq_true rfl, Nat.le_of_ble_eq_true rfl⟩) dX4_spectrum_17 ?_
    refine z_seti (zb_f (h1)) ?_
    refine z_if_eq (tgt := 32) C dX4_spectrum_20 (by decide) (fun c_20 => ?_) (fun c_20 => ?_)
    · refine z_aload_n (i := 0) C dX4_spectrum_32 rfl rfl ?_
      refine z_iconst (v := 1) C dX4_spectrum_33 (by decide) ?_
      refine z_callVe C (tw_obj) rfl (ct_X4_fail D B _) q1941 q1943 qs26 q106 q1944 np_X4_fail (zr_ok rfl rfl) rfl rfl (Nat.le_of_ble_eq_true rfl) (⟨Nat.le_of_ble_eq_true rfl, Nat.le_of_ble_eq_true rfl⟩) dX4_spectrum_34 ?_
      refine z_i2l C dX4_spectrum_37 rfl ?_
      exact z_lreturn C rfl dX4_spectrum_38 (⟨rfl, rfl⟩) (Nat.le_of_ble_eq_true rfl) (Nat.le_of_ble_eq_true rfl)
    · exact absurd rfl c_20
set_option maxHeartbeats 4000000 in
set_option maxRecDepth 100000 in
theorem ct_X4_spectrum_1c (D : zG) (B : Nat) {b : zH} {t : tA} {st : Nat → Int32} {bk : Nat → Int32} {sv : Nat → Int32} {iz : Nat → Int32} {th : Int32} {di : Nat → Int32} {re : Nat → Int32} {si : Nat → Int32} {pa : Nat → Int32} {fo : Nat → Int64} {te : Nat → Int32} {tl : Int32} {po : Int32} {ts : Int32} {to : Int32} {le : Int32} {nu : Int32} {ec : Int32} {ep : Int32} {wo : Int64} (d p f l : Int32) (h0 : -100 ≤ d ∧ d ≤ 100) (h1 : 1 ≤ p ∧ p ≤ 64) (h2 : ¬ ((0 ≤ f ∧ f ≤ 255) ∧ f ≤ l ∧ l ≤ 255)) : Ct D B yX4_spectrum (ws_ yX4_spectrum cX4_spectrum 5 (some .long)) (zr 5) [.ref (t.1 0), .int d, .int p, .int f, .int l] (tw b t st bk sv iz th di re si pa fo te tl po ts to le nu ec ep wo) (zpe (some (.long 0)) (tw b t st bk sv iz 1 di re si pa fo te tl po ts to le nu ec ep wo)) zno := by
  refine ct_intro (by decide +kernel) (Nat.le_of_ble_eq_true rfl) ?_
  intro X C
  refine z_aload_n (i := 0) C dX4_spectrum_0 rfl rfl ?_
  refine z_iconst (v := 0) C dX4_spectrum_1 (by decide) ?_
  refine tp_thrown C q1868 dX4_spectrum_2 ?_
  refine z_iload_n (i := 1) C dX4_spectrum_5 rfl rfl ?_
  refine z_bipush (v := (-100)) C dX4_spectrum_6 (by decide) ?_
  refine z_bipush (v := 100) C dX4_spectrum_8 (by decide) ?_
  refine z_callSe C (ct_X4_isBetween D B _ _ _) q1934 q1935 q106 q1936 np_X4_isBetween (zr_ok rfl rfl) rfl rfl (Nat.le_of_ble_eq_true rfl) (⟨Nat.le_of_ble_eq_true rfl, Nat.le_of_ble_eq_true rfl⟩) dX4_spectrum_10 ?_
  refine z_seti (zb_t (h0)) ?_
  refine z_if_eq (tgt := 32) C dX4_spectrum_13 (by decide) (fun c_13 => ?_) (fun c_13 => ?_)
  · exact absurd c_13 (by decide)
  · refine z_iload_n (i := 2) C dX4_spectrum_16 rfl rfl ?_
    refine z_callSe C (ct_X4_isPeriod D B _) q2259 q2260 q106 q2261 np_X4_isPeriod (zr_ok rfl rfl) rfl rfl (Nat.le_of_ble_eq_true rfl) (⟨Nat.le_of_ble_eq_true rfl, Nat.le_of_ble_eq_true rfl⟩) dX4_spectrum_17 ?_
    refine z_seti (zb_t (h1)) ?_
    refine z_if_eq (tgt := 32) C dX4_spectrum_20 (by decide) (fun c_20 => ?_) (fun c_20 => ?_)
    · exact absurd c_20 (by decide)
    · refine z_iload_n (i := 3) C dX4_spectrum_23 rfl rfl ?_
      refine z_iload C dX4_spectrum_24 rfl ?_
      refine z_callSe C (ct_X4_isWindow D B _ _) q2125 q2126 q106 q2127 np_X4_isWindow (zr_ok rfl rfl) rfl rfl (Nat.le_of_ble_eq_true rfl) (⟨Nat.le_of_ble_eq_true rfl, Nat.le_of_ble_eq_true rfl⟩) dX4_spectrum_26 ?_
      refine z_seti (zb_f (h2)) ?_
      refine z_if_ne (tgt := 39) C dX4_spectrum_29 (by decide) (fun c_29 => ?_) (fun c_29 => ?_)
      · exact absurd rfl c_29
      · refine z_aload_n (i := 0) C dX4_spectrum_32 rfl rfl ?_
        refine z_iconst (v := 1) C dX4_spectrum_33 (by decide) ?_
        refine z_callVe C (tw_obj) rfl (ct_X4_fail D B _) q1941 q1943 qs26 q106 q1944 np_X4_fail (zr_ok rfl rfl) rfl rfl (Nat.le_of_ble_eq_true rfl) (⟨Nat.le_of_ble_eq_true rfl, Nat.le_of_ble_eq_true rfl⟩) dX4_spectrum_34 ?_
        refine z_i2l C dX4_spectrum_37 rfl ?_
        exact z_lreturn C rfl dX4_spectrum_38 (⟨rfl, rfl⟩) (Nat.le_of_ble_eq_true rfl) (Nat.le_of_ble_eq_true rfl)
