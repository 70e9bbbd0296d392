/-! the twin: making a recording, the focus, parts, beams -/
theorem np_X4_hear : znp yX4_hear 3 := ⟨by decide +kernel, by decide +kernel, by decide +kernel⟩
theorem np_X4_addNoise : znp yX4_addNoise 1 := ⟨by decide +kernel, by decide +kernel, by decide +kernel⟩
set_option maxHeartbeats 4000000 in
set_option maxRecDepth 100000 in
theorem ct_X4_makeRecording (D : zG) (B : Nat) {b : zH} {t : tA} {st : Nat → Int32} {bk : Nat → Int32} {sv : Nat → Int32} {iz : Nat → Int32} {th : Int32} {di : Nat → Int32} {re : Nat → Int32} {si : Nat → Int32} {pa : Nat → Int32} {fo : Nat → Int64} {te : Nat → Int32} {tl : Int32} {po : Int32} {ts : Int32} {to : Int32} {le : Int32} {nu : Int32} {ec : Int32} {ep : Int32} {wo : Int64}  (ge : zGe st) (nm ns lv q : Nat) (h8 : st 8 = nI nm) (hnm : nm ≤ 8) (h7 : st 7 = nI ns) (hns : ns ≤ 6) (hlv : st 4 = nI lv) (hlv2 : lv ≤ 99) (hq : st 3 = nI q) (hql : q < 2147483648) : Ct D B yX4_makeRecording (ws_ yX4_makeRecording cX4_makeRecording 3 (some .int)) (zr 4) [.ref (t.1 0)] (tw b t st bk sv iz th di re si pa fo te tl po ts to le nu ec ep wo) (fun w G9 => w = some (.int (st 9 + 1)) ∧ ∃ sx dx rx : Nat → Int32, G9 = (tw b t sx bk sv iz 0 dx rx si pa fo te tl po ts to le nu ec ep wo) ∧ zAR st sx nm ns lv q) zno := by
  refine ct_intro (by decide +kernel) (Nat.le_of_ble_eq_true rfl) ?_
  intro X C
  refine z_aload_n (i := 0) C dX4_makeRecording_0 rfl rfl ?_
  refine z_iconst (v := 0) C dX4_makeRecording_1 (by decide) ?_
  refine tp_thrown C q1868 dX4_makeRecording_2 ?_
  refine z_iconst (v := 0) C dX4_makeRecording_5 (by decide) ?_
  refine z_istore_n (i := 1) C dX4_makeRecording_6 rfl (Nat.le_of_ble_eq_true rfl) rfl ?_
  have lp7 : ∀ (μ : Nat) (i : Nat) (sx dx rx : Nat → Int32) (o1 : i ≤ nm) (o2 : ∀ j, j < 186 → j ≠ 3 → sx j = st j) (o3 : ∀ j, 186 + 256 * i ≤ j → sx j = st j) (o4 : sx 3 = nI (zqs lv q i)) (o5 : ∀ m, m < i → ∀ n, n < 256 → sx (186 + 256 * m + n) = zmr st ns lv q m n), nm - i < μ → Z X 7 [some (.ref (t.1 0)), some (.int (nI i)), none] [] (tw b t sx bk sv iz 0 dx rx si pa fo te tl po ts to le nu ec ep wo) 0 0 := by
    intro μ
    induction μ with
    | zero => intro i sx dx rx o1 o2 o3 o4 o5 hμ; exact absurd hμ (Nat.not_lt_zero _)
    | succ μ ih7 =>
      intro i sx dx rx o1 o2 o3 o4 o5 hμ
      refine z_iload_n (i := 1) C dX4_makeRecording_7 rfl rfl ?_
      refine z_aload_n (i := 0) C dX4_makeRecording_8 rfl rfl ?_
      refine tg_state C q1864 dX4_makeRecording_9 ?_
      refine z_bipush (v := 8) C dX4_makeRecording_12 (by decide) ?_
      refine tl_state C (⟨(rfl : (8 : Int32) = nI 8), by decide⟩) dX4_makeRecording_14 ?_
      refine z_seti (y := nI nm) ((o2 8 (by decide) (by decide)).trans h8) ?_
      refine z_icmp_ge (tgt := 100) C dX4_makeRecording_15 (by decide) (fun c_15 => ?_) (fun c_15 => ?_)
      · have hend_15 : i = nm := by have := zge (b := nm) c_15 (by omega) (by omega); omega
        refine z_aload_n (i := 0) C dX4_makeRecording_100 rfl rfl ?_
        refine tg_state C q1864 dX4_makeRecording_101 ?_
        refine z_bipush (v := 9) C dX4_makeRecording_104 (by decide) ?_
        refine z_dup2_11 C dX4_makeRecording_106 rfl rfl ?_
        refine tl_state C (⟨(rfl : (9 : Int32) = nI 9), by decide⟩) dX4_makeRecording_107 ?_
        refine z_iconst (v := 1) C dX4_makeRecording_108 (by decide) ?_
        refine z_iadd C dX4_makeRecording_109 ?_
        refine ts_state C (⟨(rfl : (9 : Int32) = nI 9), by decide⟩) dX4_makeRecording_110 ?_
        refine z_aload_n (i := 0) C dX4_makeRecording_111 rfl rfl ?_
        refine tg_state C q1864 dX4_makeRecording_112 ?_
        refine z_bipush (v := 9) C dX4_makeRecording_115 (by decide) ?_
        refine tl_state C (⟨(rfl : (9 : Int32) = nI 9), by decide⟩) dX4_makeRecording_117 ?_
        exact z_ireturn C rfl (rfl) dX4_makeRecording_118 (⟨zvs (by have := o2 9 (by decide) (by decide); unfold upd; rw [if_pos rfl, this]), _, dx, rx, rfl, fun j j1 j2 j3 => (if_neg j3).trans (o2 j j1 j2), fun j hj => (if_neg (show ¬ j = 9 by omega)).trans (o3 j (by omega)), by unfold upd; rw [if_pos rfl, o2 9 (by decide) (by decide)], (if_neg (by decide)).trans (by rw [← hend_15]; exact o4), fun m hm n hn => (if_neg (show ¬ 186 + 256 * m + n = 9 by omega)).trans (o5 m (by omega) n hn)⟩) (Nat.le_of_ble_eq_true rfl) (Nat.le_of_ble_eq_true rfl)
      · have hlt_15 : i < nm := znge (b := nm) c_15 (by omega) (by omega)
        refine z_iconst (v := 0) C dX4_makeRecording_18 (by decide) ?_
        refine z_istore_n (i := 2) C dX4_makeRecording_19 rfl (Nat.le_of_ble_eq_true rfl) rfl ?_
        have lp20 : ∀ (μ : Nat) (k : Nat) (sy : Nat → Int32) (k1 : k ≤ 256) (k2 : ∀ j, (j < 186 + 256 * i ∨ 186 + 256 * i + k ≤ j) → sy j = sx j) (k3 : ∀ n, n < k → sy (186 + 256 * i + n) = 0), 256 - k < μ → Z X 20 [some (.ref (t.1 0)), some (.int (nI i)), some (.int (nI k))] [] (tw b t sy bk sv iz 0 dx rx si pa fo te tl po ts to le nu ec ep wo) 0 0 := by
          intro μ
          induction μ with
          | zero => intro k sy k1 k2 k3 hμ; exact absurd hμ (Nat.not_lt_zero _)
          | succ μ ih20 =>
            intro k sy k1 k2 k3 hμ
            refine z_iload_n (i := 2) C dX4_makeRecording_20 rfl rfl ?_
            refine z_sipush (v := 256) C dX4_makeRecording_21 (by decide) ?_
            refine z_icmp_ge (tgt := 50) C dX4_makeRecording_24 (by decide) (fun c_24 => ?_) (fun c_24 => ?_)
            · have hend_24 : k = 256 := by have := zge (b := 256) c_24 (by omega) (by omega); omega
              refine z_iconst (v := 0) C dX4_makeRecording_50 (by decide) ?_
              refine z_istore_n (i := 2) C dX4_makeRecording_51 rfl (Nat.le_of_ble_eq_true rfl) rfl ?_
              have lp52 : ∀ (μ : Nat) (s : Nat) (sz dy ry : Nat → Int32) (g1 : s ≤ ns) (g2 : ∀ j, (j < 186 + 256 * i ∨ 186 + 256 * i + 256 ≤ j) → sz j = sx j) (g3 : ∀ n, n < 256 → sz (186 + 256 * i + n) = zrw st i s n), ns - s < μ → Z X 52 [some (.ref (t.1 0)), some (.int (nI i)), some (.int (nI s))] [] (tw b t sz bk sv iz 0 dy ry si pa fo te tl po ts to le nu ec ep wo) 0 0 := by
                intro μ
                induction μ with
                | zero => intro s sz dy ry g1 g2 g3 hμ; exact absurd hμ (Nat.not_lt_zero _)
                | succ μ ih52 =>
                  intro s sz dy ry g1 g2 g3 hμ
                  have hsz : zsame st sz := fun j j1 j2 j3 => (g2 j (by omega)).trans (o2 j j1 j2)
                  have gz : zGe sz := zsame_ge hsz ge
                  refine z_iload_n (i := 2) C dX4_makeRecording_52 rfl rfl ?_
                  refine z_aload_n (i := 0) C dX4_makeRecording_53 rfl rfl ?_
                  refine tg_state C q1864 dX4_makeRecording_54 ?_
                  refine z_bipush (v := 7) C dX4_makeRecording_57 (by decide) ?_
                  refine tl_state C (⟨(rfl : (7 : Int32) = nI 7), by decide⟩) dX4_makeRecording_59 ?_
                  refine z_seti (y := nI ns) ((hsz 7 (by decide) (by decide) (by decide)).trans h7) ?_
                  refine z_icmp_ge (tgt := 89) C dX4_makeRecording_60 (by decide) (fun c_60 => ?_) (fun c_60 => ?_)
                  · have hend_60 : s = ns := by have := zge (b := ns) c_60 (by omega) (by omega); omega
                    refine z_aload_n (i := 0) C dX4_makeRecording_89 rfl rfl ?_
                    refine z_iload_n (i := 1) C dX4_makeRecording_90 rfl rfl ?_
                    refine z_callVn C (tw_obj) rfl (ct_X4_addNoise D B i (by omega) lv (zqs lv q i) ((hsz 4 (by decide) (by decide) (by decide)).trans hlv) hlv2 ((g2 3 (by omega)).trans o4) (zqs_lt hql i)) q2101 q2103 qs46 q106 q2104 np_X4_addNoise (zr_ok rfl rfl) rfl rfl (Nat.le_of_ble_eq_true rfl) (⟨Nat.le_of_ble_eq_true rfl, Nat.le_of_ble_eq_true rfl⟩) dX4_makeRecording_91 ?_
                    intro v9 G9 h9
                    obtain ⟨rfl, sn, rfl, d2, d3, d4⟩ := h9
                    refine z_iinc (v := nI (i + 1)) C dX4_makeRecording_94 rfl (ziinc i) (Nat.le_of_ble_eq_true rfl) rfl ?_
                    refine z_goto (tgt := 7) C dX4_makeRecording_97 (by decide) ?_
                    subst hend_60
                    exact z_convG (ih7 (i + 1) sn dy ry (by omega) (fun j j1 j2 => (d2 j (by omega) j2).trans ((g2 j (by omega)).trans (o2 j j1 j2))) (fun j hj => (d2 j (by omega) (by omega)).trans ((g2 j (by omega)).trans (o3 j (by omega)))) (d4.trans rfl) (fun m hm n hn => by
                          by_cases e : m = i
                          · subst e
                            rw [d3 n hn, g3 n hn, zmr]
                          · rw [d2 _ (by omega) (by omega), g2 _ (by omega)]
                            exact o5 m (by omega) n hn) (by omega)) (And.intro rfl (And.intro rfl trivial)) (Nat.le_of_ble_eq_true rfl) (Nat.le_of_ble_eq_true rfl)
                  · have hlt_60 : s < ns := znge (b := ns) c_60 (by omega) (by omega)
                    refine z_aload_n (i := 0) C dX4_makeRecording_63 rfl rfl ?_
                    refine z_iload_n (i := 1) C dX4_makeRecording_64 rfl rfl ?_
                    refine z_iload_n (i := 2) C dX4_makeRecording_65 rfl rfl ?_
                    have hi8 : i < 8 := by omega
                    have hs6 : s < 6 := by omega
                    obtain ⟨n4, n41, n42, n43⟩ := (gz.sn s hs6 (by rw [(hsz 7 (by decide) (by decide) (by decide)).trans h7]; exact nI_lt hlt_60 (by omega))).2
                    obtain ⟨n0, n01, n02, n03⟩ := gz.snd
                    refine z_callVn C (tw_obj) rfl (ct_X4_laySource D B i s hi8 hs6 (zsv_lt gz hs6).1 (zsv_lt gz hs6).2 (fun j hj => zsd_ok gz hi8 hs6 hj)) q2043 q2045 qs36 q106 q2046 np_X4_laySource (zr_ok rfl rfl) rfl rfl (Nat.le_of_ble_eq_true rfl) (⟨Nat.le_of_ble_eq_true rfl, Nat.le_of_ble_eq_true rfl⟩) dX4_makeRecording_66 ?_
                    intro v9 G9 h9
                    obtain ⟨rfl, dy1, ry1, rfl, hd⟩ := h9
                    refine z_aload_n (i := 0) C dX4_makeRecording_69 rfl rfl ?_
                    refine z_iload_n (i := 1) C dX4_makeRecording_70 rfl rfl ?_
                    refine z_iload_n (i := 2) C dX4_makeRecording_71 rfl rfl ?_
                    refine z_iconst (v := 0) C dX4_makeRecording_72 (by decide) ?_
                    refine z_callVn C (tw_obj) rfl (ct_X4_hear D B i s 0 hi8 hs6 n4 n43 n41 n42 (zmono_congr (fun j hj => by rw [zlay hd 0 j hj]) (zsd_mono gz hi8 hs6 0)) (zsn_of n03 n02) (zlayN hd)) q2093 q2095 qs44 q106 q2096 np_X4_hear (zr_ok rfl rfl) rfl rfl (Nat.le_of_ble_eq_true rfl) (⟨Nat.le_of_ble_eq_true rfl, Nat.le_of_ble_eq_true rfl⟩) dX4_makeRecording_73 ?_
                    intro v9 G9 h9
                    obtain ⟨rfl, sa, rfl, a2, a3⟩ := h9
                    have hsa : zsame sz sa := fun j j1 j2 j3 => a2 j (by omega)
                    have ga : zGe sa := zsame_ge hsa gz
                    have hda : ∀ j, j < 256 → dy1 j = zdd sa i (some (zsv sa s)) (sa (28 + 21 * s + 1)) (sa (16 + 3 * zsv sa s + 2)) (sa (28 + 21 * s + 2)) j ∧ ry1 j = zdd sa i (some (zsv sa s)) (sa (28 + 21 * s + 1)) (sa (16 + 3 * zsv sa s + 2)) (-sa (28 + 21 * s + 2)) j := fun j hj => by
                      have h4 := (zsv_lt gz hs6).2
                      rw [zsame_sv hsa hs6, zsame_dd hsa hi8 (fun k hk => by cases hk; exact h4), zsame_dd hsa hi8 (fun k hk => by cases hk; exact h4), a2 _ (by omega), a2 _ (by omega), a2 _ (by omega)]
                      exact hd j hj
                    refine z_aload_n (i := 0) C dX4_makeRecording_76 rfl rfl ?_
                    refine z_iload_n (i := 1) C dX4_makeRecording_77 rfl rfl ?_
                    refine z_iload_n (i := 2) C dX4_makeRecording_78 rfl rfl ?_
                    refine z_iconst (v := 1) C dX4_makeRecording_79 (by decide) ?_
                    refine z_callVn C (tw_obj) rfl (ct_X4_hear D B i s 1 hi8 hs6 n4 ((a2 _ (by omega)).trans n43) n41 n42 (zmono_congr (fun j hj => by rw [zlay hda 1 j hj]) (zsd_mono ga hi8 hs6 1)) (zsn_of ((a2 0 (by omega)).trans n03) n02) (zlayN hda)) q2093 q2095 qs44 q106 q2096 np_X4_hear (zr_ok rfl rfl) rfl rfl (Nat.le_of_ble_eq_true rfl) (⟨Nat.le_of_ble_eq_true rfl, Nat.le_of_ble_eq_true rfl⟩) dX4_makeRecording_80 ?_
                    intro v9 G9 h9
                    obtain ⟨rfl, sc, rfl, c2, c3⟩ := h9
                    refine z_iinc (v := nI (s + 1)) C dX4_makeRecording_83 rfl (ziinc s) (Nat.le_of_ble_eq_true rfl) rfl ?_
                    refine z_goto (tgt := 52) C dX4_makeRecording_86 (by decide) ?_
                    have hsta : zsame st sa := fun j j1 j2 j3 => (a2 j (by omega)).trans (hsz j j1 j2 j3)
                    have n44 : st (28 + 21 * s + 4) = nI n4 := (hsz _ (by omega) (by omega) (by omega)).symm.trans n43
                    exact z_convG (ih52 (s + 1) sc dy1 ry1 (by omega) (fun j hj => (c2 j (by omega)).trans ((a2 j (by omega)).trans (g2 j hj))) (fun n hn => by
                          rw [c3 n hn, a3 n hn, g3 n hn, zhr_congr hsz (d := zsd st i s 0) (fun j hj => (zlay hd 0 j hj).trans (zsame_sd ge hsz hi8 hs6 0 j)) hs6 n44 n41 n42, zhr_congr hsta (d := zsd st i s 1) (fun j hj => (zlay hda 1 j hj).trans (zsame_sd ge hsta hi8 hs6 1 j)) hs6 n44 n41 n42]
                          rfl) (by omega)) (And.intro rfl (And.intro rfl (And.intro rfl trivial))) (Nat.le_of_ble_eq_true rfl) (Nat.le_of_ble_eq_true rfl)
              exact z_convG (lp52 7 0 sy dx rx (by omega) (fun j hj => k2 j (by omega)) (fun n hn => (k3 n (by omega)).trans rfl) (by omega)) (And.intro (rfl) (And.intro (rfl) (And.intro (rfl) trivial))) (Nat.le_of_ble_eq_true rfl) (Nat.le_of_ble_eq_true rfl)
            · have hlt_24 : k < 256 := znge (b := 256) c_24 (by omega) (by omega)
              refine z_aload_n (i := 0) C dX4_makeRecording_27 rfl rfl ?_
              refine tg_state C q1864 dX4_makeRecording_28 ?_
              refine z_sipush (v := 186) C dX4_makeRecording_31 (by decide) ?_
              refine z_sipush (v := 256) C dX4_makeRecording_34 (by decide) ?_
              refine z_iload_n (i := 1) C dX4_makeRecording_37 rfl rfl ?_
              refine z_imul C dX4_makeRecording_38 ?_
              refine z_iadd C dX4_makeRecording_39 ?_
              refine z_seti (y := nI (186 + 256 * i)) (zlin0 186 256 i) ?_
              refine z_iload_n (i := 2) C dX4_makeRecording_40 rfl rfl ?_
              refine z_iadd C dX4_makeRecording_41 ?_
              refine z_seti (y := nI (186 + 256 * i + k)) (nI_add _ _) ?_
              refine z_iconst (v := 0) C dX4_makeRecording_42 (by decide) ?_
              refine ts_state C ⟨rfl, by omega⟩ dX4_makeRecording_43 ?_
              refine z_iinc (v := nI (k + 1)) C dX4_makeRecording_44 rfl (ziinc k) (Nat.le_of_ble_eq_true rfl) rfl ?_
              refine z_goto (tgt := 20) C dX4_makeRecording_47 (by decide) ?_
              exact z_convG (ih20 (k + 1) _ (by omega) (fun j hj => (if_neg (by omega)).trans (k2 j (by omega))) (fun n hn => by unfold upd; by_cases e : n = k; (· subst e; exact if_pos rfl); (· exact (if_neg (by omega)).trans (k3 n (by omega)))) (by omega)) (And.intro (rfl) (And.intro (rfl) (And.intro (rfl) trivial))) (Nat.le_of_ble_eq_true rfl) (Nat.le_of_ble_eq_true rfl)
        exact z_convG (lp20 257 0 sx (by omega) (fun _ _ => rfl) (fun n hn => absurd hn (Nat.not_lt_zero _)) (by omega)) (And.intro (rfl) (And.intro (rfl) (And.intro (rfl) trivial))) (Nat.le_of_ble_eq_true rfl) (Nat.le_of_ble_eq_true rfl)
  exact z_convG (lp7 9 0 st di re (by omega) (fun _ _ _ => rfl) (fun _ _ => rfl) hq (fun m hm => absurd hm (Nat.not_lt_zero _)) (by omega)) (And.intro (rfl) (And.intro (rfl) trivial)) (Nat.le_of_ble_eq_true rfl) (Nat.le_of_ble_eq_true rfl)
set_option maxHeartbeats 4000000 in
set_option maxRecDepth 100000 in
theorem ct_X4_setFocus (D : zG) (B : Nat) {b : zH} {t : tA} {st : Nat → Int32} {bk : Nat → Int32} {sv : Nat → Int32} {iz : Nat → Int32} {th : Int32} {di : Nat → Int32} {re : Nat → Int32} {si : Nat → Int32} {pa : Nat → Int32} {fo : Nat → Int64} {te : Nat → Int32} {tl : Int32} {po : Int32} {ts : Int32} {to : Int32} {le : Int32} {nu : Int32} {ec : Int32} {ep : Int32} {wo : Int64} (k v x y z : Int32)  : Ct D B yX4_setFocus (ws_ yX4_setFocus cX4_setFocus 6 none) (zr 0) [.ref (t.1 0), .int k, .int v, .int x, .int y, .int z] (tw b t st bk sv iz th di re si pa fo te tl po ts to le nu ec ep wo) (zpe none (tw b t (upd (upd (upd (upd (upd st 10 k) 11 v) 12 x) 13 y) 14 z) bk sv iz th di re si pa fo te tl po ts to le nu ec ep wo)) zno := by
  refine ct_intro (by decide +kernel) (Nat.le_of_ble_eq_true rfl) ?_
  intro X C
  refine z_aload_n (i := 0) C dX4_setFocus_0 rfl rfl ?_
  refine tg_state C q1864 dX4_setFocus_1 ?_
  refine z_bipush (v := 10) C dX4_setFocus_4 (by decide) ?_
  refine z_iload_n (i := 1) C dX4_setFocus_6 rfl rfl ?_
  refine ts_state C (⟨(rfl : (10 : Int32) = nI 10), by decide⟩) dX4_setFocus_7 ?_
  refine z_aload_n (i := 0) C dX4_setFocus_8 rfl rfl ?_
  refine tg_state C q1864 dX4_setFocus_9 ?_
  refine z_bipush (v := 11) C dX4_setFocus_12 (by decide) ?_
  refine z_iload_n (i := 2) C dX4_setFocus_14 rfl rfl ?_
  refine ts_state C (⟨(rfl : (11 : Int32) = nI 11), by decide⟩) dX4_setFocus_15 ?_
  refine z_aload_n (i := 0) C dX4_setFocus_16 rfl rfl ?_
  refine tg_state C q1864 dX4_setFocus_17 ?_
  refine z_bipush (v := 12) C dX4_setFocus_20 (by decide) ?_
  refine z_iload_n (i := 3) C dX4_setFocus_22 rfl rfl ?_
  refine ts_state C (⟨(rfl : (12 : Int32) = nI 12), by decide⟩) dX4_setFocus_23 ?_
  refine z_aload_n (i := 0) C dX4_setFocus_24 rfl rfl ?_
  refine tg_state C q1864 dX4_setFocus_25 ?_
  refine z_bipush (v := 13) C dX4_setFocus_28 (by decide) ?_
  refine z_iload C dX4_setFocus_30 rfl ?_
  refine ts_state C (⟨(rfl : (13 : Int32) = nI 13), by decide⟩) dX4_setFocus_32 ?_
  refine z_aload_n (i := 0) C dX4_setFocus_33 rfl rfl ?_
  refine tg_state C q1864 dX4_setFocus_34 ?_
  refine z_bipush (v := 14) C dX4_setFocus_37 (by decide) ?_
  refine z_iload C dX4_setFocus_39 rfl ?_
  refine ts_state C (⟨(rfl : (14 : Int32) = nI 14), by decide⟩) dX4_setFocus_41 ?_
  exact z_return C rfl dX4_setFocus_42 (⟨rfl, rfl⟩) (Nat.le_of_ble_eq_true rfl) (Nat.le_of_ble_eq_true rfl)
theorem np_X4_setFocus : znp yX4_setFocus 5 := ⟨by decide +kernel, by decide +kernel, by decide +kernel⟩
set_option maxHeartbeats 4000000 in
set_option maxRecDepth 100000 in
theorem ct_X4_focusOnVehicle_ok (D : zG) (B : Nat) {b : zH} {t : tA} {st : Nat → Int32} {bk : Nat → Int32} {sv : Nat → Int32} {iz : Nat → Int32} {th : Int32} {di : Nat → Int32} {re : Nat → Int32} {si : Nat → Int32} {pa : Nat → Int32} {fo : Nat → Int64} {te : Nat → Int32} {tl : Int32} {po : Int32} {ts : Int32} {to : Int32} {le : Int32} {nu : Int32} {ec : Int32} {ep : Int32} {wo : Int64} (v x z : Int32) (h1 : 0 ≤ v ∧ v ≤ st 6 - 1) (h2 : -1000 ≤ x ∧ x ≤ 1000) (h3 : 0 ≤ z ∧ z ≤ 500) : Ct D B yX4_focusOnVehicle (ws_ yX4_focusOnVehicle cX4_focusOnVehicle 4 none) (zr 2) [.ref (t.1 0), .int v, .int x, .int z] (tw b t st bk sv iz th di re si pa fo te tl po ts to le nu ec ep wo) (zpe none (tw b t (upd (upd (upd (upd (upd st 10 0) 11 v) 12 x) 13 0) 14 z) bk sv iz 0 di re si pa fo te tl po ts to le nu ec ep wo)) zno := by
  refine ct_intro (by decide +kernel) (Nat.le_of_ble_eq_true rfl) ?_
  intro X C
  refine z_aload_n (i := 0) C dX4_focusOnVehicle_0 rfl rfl ?_
  refine z_aload_n (i := 0) C dX4_focusOnVehicle_1 rfl rfl ?_
  refine z_iload_n (i := 1) C dX4_focusOnVehicle_2 rfl rfl ?_
  refine z_callVe C (tw_obj) rfl (ct_X4_isVehicle D B _) q1972 q1974 qs28 q106 q1975 np_X4_isVehicle (zr_ok rfl rfl) rfl rfl (Nat.le_of_ble_eq_true rfl) (⟨Nat.le_of_ble_eq_true rfl, Nat.le_of_ble_eq_true rfl⟩) dX4_focusOnVehicle_3 ?_
  refine z_seti (zb_t (h1)) ?_
  refine z_if_ne (tgt := 13) C dX4_focusOnVehicle_6 (by decide) (fun c_6 => ?_) (fun c_6 => ?_)
  · refine z_iload_n (i := 2) C dX4_focusOnVehicle_13 rfl rfl ?_
    refine z_callSe C (ct_X4_isOffset D B _) q1976 q1977 q106 q1978 np_X4_isOffset (zr_ok rfl rfl) rfl rfl (Nat.le_of_ble_eq_true rfl) (⟨Nat.le_of_ble_eq_true rfl, Nat.le_of_ble_eq_true rfl⟩) dX4_focusOnVehicle_14 ?_
    refine z_seti (zb_t (h2)) ?_
    refine z_if_eq (tgt := 27) C dX4_focusOnVehicle_17 (by decide) (fun c_17 => ?_) (fun c_17 => ?_)
    · exact absurd c_17 (by decide)
    · refine z_iload_n (i := 3) C dX4_focusOnVehicle_20 rfl rfl ?_
      refine z_callSe C (ct_X4_isHeight D B _) q1979 q1980 q106 q1981 np_X4_isHeight (zr_ok rfl rfl) rfl rfl (Nat.le_of_ble_eq_true rfl) (⟨Nat.le_of_ble_eq_true rfl, Nat.le_of_ble_eq_true rfl⟩) dX4_focusOnVehicle_21 ?_
      refine z_seti (zb_t (h3)) ?_
      refine z_if_ne (tgt := 31) C dX4_focusOnVehicle_24 (by decide) (fun c_24 => ?_) (fun c_24 => ?_)
      · refine z_iconst (v := 0) C dX4_focusOnVehicle_31 (by decide) ?_
        refine tp_thrown C q1868 dX4_focusOnVehicle_32 ?_
        refine z_aload_n (i := 0) C dX4_focusOnVehicle_35 rfl rfl ?_
        refine tg_thrown C q1868 dX4_focusOnVehicle_36 ?_
        refine z_if_ne (tgt := 51) C dX4_focusOnVehicle_39 (by decide) (fun c_39 => ?_) (fun c_39 => ?_)
        · exact absurd rfl c_39
        · refine z_aload_n (i := 0) C dX4_focusOnVehicle_42 rfl rfl ?_
          refine z_iconst (v := 0) C dX4_focusOnVehicle_43 (by decide) ?_
          refine z_iload_n (i := 1) C dX4_focusOnVehicle_44 rfl rfl ?_
          refine z_iload_n (i := 2) C dX4_focusOnVehicle_45 rfl rfl ?_
          refine z_iconst (v := 0) C dX4_focusOnVehicle_46 (by decide) ?_
          refine z_iload_n (i := 3) C dX4_focusOnVehicle_47 rfl rfl ?_
          refine z_callVe C (tw_obj) rfl (ct_X4_setFocus D B _ _ _ _ _) q2184 q2186 qs56 q106 q2187 np_X4_setFocus (zr_ok rfl rfl) rfl rfl (Nat.le_of_ble_eq_true rfl) (⟨Nat.le_of_ble_eq_true rfl, Nat.le_of_ble_eq_true rfl⟩) dX4_focusOnVehicle_48 ?_
          exact z_return C rfl dX4_focusOnVehicle_51 (⟨rfl, rfl⟩) (Nat.le_of_ble_eq_true rfl) (Nat.le_of_ble_eq_true rfl)
      · exact absurd c_24 (by decide)
  · exact absurd c_6 (by decide)
set_option maxHeartbeats 4000000 in
set_option maxRecDepth 100000 in
theorem ct_X4_focusOnVehicle_1 (D : zG) (B : Nat) {b : zH} {t : tA} {st : Nat → Int32} {bk : Nat → Int32} {sv : Nat → Int32} {iz : Nat → Int32} {th : Int32} {di : Nat → Int32} {re : Nat → Int32} {si : Nat → Int32} {pa : Nat → Int32} {fo : Nat → Int64} {te : Nat → Int32} {tl : Int32} {po : Int32} {ts : Int32} {to : Int32} {le : Int32} {nu : Int32} {ec : Int32} {ep : Int32} {wo : Int64} (v x z : Int32) (h1 : ¬ (0 ≤ v ∧ v ≤ st 6 - 1)) : Ct D B yX4_focusOnVehicle (ws_ yX4_focusOnVehicle cX4_focusOnVehicle 4 none) (zr 2) [.ref (t.1 0), .int v, .int x, .int z] (tw b t st bk sv iz th di re si pa fo te tl po ts to le nu ec ep wo) (zpe none (tw b t st bk sv iz 1 di re si pa fo te tl po ts to le nu ec ep wo)) zno := by
  refine ct_intro (by decide +kernel) (Nat.le_of_ble_eq_true rfl) ?_
  intro X C
  refine z_aload_n (i := 0) C dX4_focusOnVehicle_0 rfl rfl ?_
  refine z_aload_n (i := 0) C dX4_focusOnVehicle_1 rfl rfl ?_
  refine z_iload_n (i := 1) C dX4_focusOnVehicle_2 rfl rfl ?_
  refine z_callVe C (tw_obj) rfl (ct_X4_isVehicle D B _) q1972 q1974 qs28 q106 q1975 np_X4_isVehicle (zr_ok rfl rfl) rfl rfl (Nat.le_of_ble_eq_true rfl) (⟨Nat.le_of_ble_eq_true rfl, Nat.le_of_ble_eq_true rfl⟩) dX4_focusOnVehicle_3 ?_
  refine z_seti (zb_f (h1)) ?_
  refine z_if_ne (tgt := 13) C dX4_focusOnVehicle_6 (by decide) (fun c_6 => ?_) (fun c_6 => ?_)
  · exact absurd rfl c_6
  · refine z_iconst (v := 1) C dX4_focusOnVehicle_9 (by decide) ?_
    refine z_goto (tgt := 32) C dX4_focusOnVehicle_10 (by decide) ?_
    refine tp_thrown C q1868 dX4_focusOnVehicle_32 ?_
    refine z_aload_n (i := 0) C dX4_focusOnVehicle_35 rfl rfl ?_
    refine tg_thrown C q1868 dX4_focusOnVehicle_36 ?_
    refine z_if_ne (tgt := 51) C dX4_focusOnVehicle_39 (by decide) (fun c_39 => ?_) (fun c_39 => ?_)
    · exact z_return C rfl dX4_focusOnVehicle_51 (⟨rfl, rfl⟩) (Nat.le_of_ble_eq_true rfl) (Nat.le_of_ble_eq_true rfl)
    · exact absurd c_39 (by decide)
set_option maxHeartbeats 4000000 in
set_option maxRecDepth 100000 in
theorem ct_X4_focusOnVehicle_2a (D : zG) (B : Nat) {b : zH} {t : tA} {st : Nat → Int32} {bk : Nat → Int32} {sv : Nat → Int32} {iz : Nat → Int32} {th : Int32} {di : Nat → Int32} {re : Nat → Int32} {si : Nat → Int32} {pa : Nat → Int32} {fo : Nat → Int64} {te : Nat → Int32} {tl : Int32} {po : Int32} {ts : Int32} {to : Int32} {le : Int32} {nu : Int32} {ec : Int32} {ep : Int32} {wo : Int64} (v x z : Int32) (h1 : 0 ≤ v ∧ v ≤ st 6 - 1) (h2 : ¬ (-1000 ≤ x ∧ x ≤ 1000)) : Ct D B yX4_focusOnVehicle (ws_ yX4_focusOnVehicle cX4_focusOnVehicle 4 none) (zr 2) [.ref (t.1 0), .int v, .int x, .int z] (tw b t st bk sv iz th di re si pa fo te tl po ts to le nu ec ep wo) (zpe none (tw b t st bk sv iz 2 di re si pa fo te tl po ts to le nu ec ep wo)) zno := by
  refine ct_intro (by decide +kernel) (Nat.le_of_ble_eq_true rfl) ?_
  intro X C
  refine z_aload_n (i := 0) C dX4_focusOnVehicle_0 rfl rfl ?_
  refine z_aload_n (i := 0) C dX4_focusOnVehicle_1 rfl rfl ?_
  refine z_iload_n (i := 1) C dX4_focusOnVehicle_2 rfl rfl ?_
  refine z_callVe C (tw_obj) rfl (ct_X4_isVehicle D B _) q1972 q1974 qs28 q106 q1975 np_X4_isVehicle (zr_ok rfl rfl) rfl rfl (Nat.le_of_ble_eq_true rfl) (⟨Nat.le_of_ble_eq_true rfl, Nat.le_of_ble_eq_true rfl⟩) dX4_focusOnVehicle_3 ?_
  refine z_seti (zb_t (h1)) ?_
  refine z_if_ne (tgt := 13) C dX4_focusOnVehicle_6 (by decide) (fun c_6 => ?_) (fun c_6 => ?_)
  · refine z_iload_n (i := 2) C dX4_focusOnVehicle_13 rfl rfl ?_
    refine z_callSe C (ct_X4_isOffset D B _) q1976 q1977 q106 q1978 np_X4_isOffset (zr_ok rfl rfl) rfl rfl (Nat.le_of_ble_eq_true rfl) (⟨Nat.le_of_ble_eq_true rfl, Nat.le_of_ble_eq_true rfl⟩) dX4_focusOnVehicle_14 ?_
    refine z_seti (zb_f (h2)) ?_
    refine z_if_eq (tgt := 27) C dX4_focusOnVehicle_17 (by decide) (fun c_17 => ?_) (fun c_17 => ?_)
    · refine z_iconst (v := 2) C dX4_focusOnVehicle_27 (by decide) ?_
      refine z_goto (tgt := 32) C dX4_focusOnVehicle_28 (by decide) ?_
      refine tp_thrown C q1868 dX4_focusOnVehicle_32 ?_
      refine z_aload_n (i := 0) C dX4_focusOnVehicle_35 rfl rfl ?_
      refine tg_thrown C q1868 dX4_focusOnVehicle_36 ?_
      refine z_if_ne (tgt := 51) C dX4_focusOnVehicle_39 (by decide) (fun c_39 => ?_) (fun c_39 => ?_)
      · exact z_return C rfl dX4_focusOnVehicle_51 (⟨rfl, rfl⟩) (Nat.le_of_ble_eq_true rfl) (Nat.le_of_ble_eq_true rfl)
      · exact absurd c_39 (by decide)
    · exact absurd rfl c_17
  · exact absurd c_6 (by decide)
set_option maxHeartbeats 4000000 in
set_option maxRecDepth 100000 in
theorem ct_X4_focusOnVehicle_2b (D : zG) (B : Nat) {b : zH} {t : tA} {st : Nat → Int32} {bk : Nat → Int32} {sv : Nat → Int32} {iz : Nat → Int32} {th : Int32} {di : Nat → Int32} {re : Nat → Int32} {si : Nat → Int32} {pa : Nat → Int32} {fo : Nat → Int64} {te : Nat → Int32} {tl : Int32} {po : Int32} {ts : Int32} {to : Int32} {le : Int32} {nu : Int32} {ec : Int32} {ep : Int32} {wo : Int64} (v x z : Int32) (h1 : 0 ≤ v ∧ v ≤ st 6 - 1) (h2 : -1000 ≤ x ∧ x ≤ 1000) (h3 : ¬ (0 ≤ z ∧ z ≤ 500)) : Ct D B yX4_focusOnVehicle (ws_ yX4_focusOnVehicle cX4_focusOnVehicle 4 none) (zr 2) [.ref (t.1 0), .int v, .int x, .int z] (tw b t st bk sv iz th di re si pa fo te tl po ts to le nu ec ep wo) (zpe none (tw b t st bk sv iz 2 di re si pa fo te tl po ts to le nu ec ep wo)) zno := by
  refine ct_intro (by decide +kernel) (Nat.le_of_ble_eq_true rfl) ?_
  intro X C
  refine z_aload_n (i := 0) C dX4_focusOnVehicle_0 rfl rfl ?_
  refine z_aload_n (i := 0) C dX4_focusOnVehicle_1 rfl rfl ?_
  refine z_iload_n (i := 1) C dX4_focusOnVehicle_2 rfl rfl ?_
  refine z_callVe C (tw_obj) rfl (ct_X4_isVehicle D B _) q1972 q1974 qs28 q106 q1975 np_X4_isVehicle (zr_ok rfl rfl) rfl rfl (Nat.le_of_ble_eq_true rfl) (⟨Nat.le_of_ble_eq_true rfl, Nat.le_of_ble_eq_true rfl⟩) dX4_focusOnVehicle_3 ?_
  refine z_seti (zb_t (h1)) ?_
  refine z_if_ne (tgt := 13) C dX4_focusOnVehicle_6 (by decide) (fun c_6 => ?_) (fun c_6 => ?_)
  · refine z_iload_n (i := 2) C dX4_focusOnVehicle_13 rfl rfl ?_
    refine z_callSe C (ct_X4_isOffset D B _) q1976 q1977 q106 q1978 np_X4_isOffset (zr_ok rfl rfl) rfl rfl (Nat.le_of_ble_eq_true rfl) (⟨Nat.le_of_ble_eq_true rfl, Nat.le_of_ble_eq_true rfl⟩) dX4_focusOnVehicle_14 ?_
    refine z_seti (zb_t (h2)) ?_
    refine z_if_eq (tgt := 27) C dX4_focusOnVehicle_17 (by decide) (fun c_17 => ?_) (fun c_17 => ?_)
    · exact absurd c_17 (by decide)
    · refine z_iload_n (i := 3) C dX4_focusOnVehicle_20 rfl rfl ?_
      refine z_callSe C (ct_X4_isHeight D B _) q1979 q1980 q106 q1981 np_X4_isHeight (zr_ok rfl rfl) rfl rfl (Nat.le_of_ble_eq_true rfl) (⟨Nat.le_of_ble_eq_true rfl, Nat.le_of_ble_eq_true rfl⟩) dX4_focusOnVehicle_21 ?_
      refine z_seti (zb_f (h3)) ?_
      refine z_if_ne (tgt := 31) C dX4_focusOnVehicle_24 (by decide) (fun c_24 => ?_) (fun c_24 => ?_)
      · exact absurd rfl c_24
      · refine z_iconst (v := 2) C dX4_focusOnVehicle_27 (by decide) ?_
        refine z_goto (tgt := 32) C dX4_focusOnVehicle_28 (by decide) ?_
        refine tp_thrown C q1868 dX4_focusOnVehicle_32 ?_
        refine z_aload_n (i := 0) C dX4_focusOnVehicle_35 rfl rfl ?_
        refine tg_thrown C q1868 dX4_focusOnVehicle_36 ?_
        refine z_if_ne (tgt := 51) C dX4_focusOnVehicle_39 (by decide) (fun c_39 => ?_) (fun c_39 => ?_)
        · exact z_return C rfl dX4_focusOnVehicle_51 (⟨rfl, rfl⟩) (Nat.le_of_ble_eq_true rfl) (Nat.le_of_ble_eq_true rfl)
        · exact absurd c_39 (by decide)
  · exact absurd c_6 (by decide)
set_option maxHeartbeats 4000000 in
set_option maxRecDepth 100000 in
theorem ct_X4_focusOnPlace_ok (D : zG) (B : Nat) {b : zH} {t : tA} {st : Nat → Int32} {bk : Nat → Int32} {sv : Nat → Int32} {iz : Nat → Int32} {th : Int32} {di : Nat → Int32} {re : Nat → Int32} {si : Nat → Int32} {pa : Nat → Int32} {fo : Nat → Int64} {te : Nat → Int32} {tl : Int32} {po : Int32} {ts : Int32} {to : Int32} {le : Int32} {nu : Int32} {ec : Int32} {ep : Int32} {wo : Int64} (x y z : Int32) (h1 : (-20000 ≤ x ∧ x ≤ 20000) ∧ (-50 ≤ (0 : Int32) ∧ (0 : Int32) ≤ 50) ∧ 100 ≤ y ∧ y ≤ 5000) (h2 : 0 ≤ z ∧ z ≤ 500) : Ct D B yX4_focusOnPlace (ws_ yX4_focusOnPlace cX4_focusOnPlace 4 none) (zr 2) [.ref (t.1 0), .int x, .int y, .int z] (tw b t st bk sv iz th di re si pa fo te tl po ts to le nu ec ep wo) (zpe none (tw b t (upd (upd (upd (upd (upd st 10 1) 11 0) 12 x) 13 y) 14 z) bk sv iz 0 di re si pa fo te tl po ts to le nu ec ep wo)) zno := by
  refine ct_intro (by decide +kernel) (Nat.le_of_ble_eq_true rfl) ?_
  intro X C
  refine z_aload_n (i := 0) C dX4_focusOnPlace_0 rfl rfl ?_
  refine z_iload_n (i := 1) C dX4_focusOnPlace_1 rfl rfl ?_
  refine z_iconst (v := 0) C dX4_focusOnPlace_2 (by decide) ?_
  refine z_iload_n (i := 2) C dX4_focusOnPlace_3 rfl rfl ?_
  refine z_callSe C (ct_X4_isVehiclePlace D B _ _ _) q1961 q1962 q106 q1963 np_X4_isVehiclePlace (zr_ok rfl rfl) rfl rfl (Nat.le_of_ble_eq_true rfl) (⟨Nat.le_of_ble_eq_true rfl, Nat.le_of_ble_eq_true rfl⟩) dX4_focusOnPlace_4 ?_
  refine z_seti (zb_t (h1)) ?_
  refine z_if_eq (tgt := 21) C dX4_focusOnPlace_7 (by decide) (fun c_7 => ?_) (fun c_7 => ?_)
  · exact absurd c_7 (by decide)
  · refine z_iload_n (i := 3) C dX4_focusOnPlace_10 rfl rfl ?_
    refine z_callSe C (ct_X4_isHeight D B _) q1979 q1980 q106 q1981 np_X4_isHeight (zr_ok rfl rfl) rfl rfl (Nat.le_of_ble_eq_true rfl) (⟨Nat.le_of_ble_eq_true rfl, Nat.le_of_ble_eq_true rfl⟩) dX4_focusOnPlace_11 ?_
    refine z_seti (zb_t (h2)) ?_
    refine z_if_eq (tgt := 21) C dX4_focusOnPlace_14 (by decide) (fun c_14 => ?_) (fun c_14 => ?_)
    · exact absurd c_14 (by decide)
    · refine z_iconst (v := 0) C dX4_focusOnPlace_17 (by decide) ?_
      refine z_goto (tgt := 22) C dX4_focusOnPlace_18 (by decide) ?_
      refine tp_thrown C q1868 dX4_focusOnPlace_22 ?_
      refine z_aload_n (i := 0) C dX4_focusOnPlace_25 rfl rfl ?_
      refine tg_thrown C q1868 dX4_focusOnPlace_26 ?_
      refine z_if_ne (tgt := 41) C dX4_focusOnPlace_29 (by decide) (fun c_29 => ?_) (fun c_29 => ?_)
      · exact absurd rfl c_29
      · refine z_aload_n (i := 0) C dX4_focusOnPlace_32 rfl rfl ?_
        refine z_iconst (v := 1) C dX4_focusOnPlace_33 (by decide) ?_
        refine z_iconst (v := 0) C dX4_focusOnPlace_34 (by decide) ?_
        refine z_iload_n (i := 1) C dX4_focusOnPlace_35 rfl rfl ?_
        refine z_iload_n (i := 2) C dX4_focusOnPlace_36 rfl rfl ?_
        refine z_iload_n (i := 3) C dX4_focusOnPlace_37 rfl rfl ?_
        refine z_callVe C (tw_obj) rfl (ct_X4_setFocus D B _ _ _ _ _) q2184 q2186 qs56 q106 q2187 np_X4_setFocus (zr_ok rfl rfl) rfl rfl (Nat.le_of_ble_eq_true rfl) (⟨Nat.le_of_ble_eq_true rfl, Nat.le_of_ble_eq_true rfl⟩) dX4_focusOnPlace_38 ?_
        exact z_return C rfl dX4_focusOnPlace_41 (⟨rfl, rfl⟩) (Nat.le_of_ble_eq_true rfl) (Nat.le_of_ble_eq_true rfl)
set_option maxHeartbeats 4000000 in
set_option maxRecDepth 100000 in
theorem ct_X4_focusOnPlace_1a (D : zG) (B : Nat) {b : zH} {t : tA} {st : Nat → Int32} {bk : Nat → Int32} {sv : Nat → Int32} {iz : Nat → Int32} {th : Int32} {di : Nat → Int32} {re : Nat → Int32} {si : Nat → Int32} {pa : Nat → Int32} {fo : Nat → Int64} {te : Nat → Int32} {tl : Int32} {po : Int32} {ts : Int32} {to : Int32} {le : Int32} {nu : Int32} {ec : Int32} {ep : Int32} {wo : Int64} (x y z : Int32) (h1 : ¬ ((-20000 ≤ x ∧ x ≤ 20000) ∧ (-50 ≤ (0 : Int32) ∧ (0 : Int32) ≤ 50) ∧ 100 ≤ y ∧ y ≤ 5000)) : Ct D B yX4_focusOnPlace (ws_ yX4_focusOnPlace cX4_focusOnPlace 4 none) (zr 2) [.ref (t.1 0), .int x, .int y, .int z] (tw b t st bk sv iz th di re si pa fo te tl po ts to le nu ec ep wo) (zpe none (tw b t st bk sv iz 1 di re si pa fo te tl po ts to le nu ec ep wo)) zno := by
  refine ct_intro (by decide +kernel) (Nat.le_of_ble_eq_true rfl) ?_
  intro X C
  refine z_aload_n (i := 0) C dX4_focusOnPlace_0 rfl rfl ?_
  refine z_iload_n (i := 1) C dX4_focusOnPlace_1 rfl rfl ?_
  refine z_iconst (v := 0) C dX4_focusOnPlace_2 (by decide) ?_
  refine z_iload_n (i := 2) C dX4_focusOnPlace_3 rfl rfl ?_
  refine z_callSe C (ct_X4_isVehiclePlace D B _ _ _) q1961 q1962 q106 q1963 np_X4_isVehiclePlace (zr_ok rfl rfl) rfl rfl (Nat.le_of_ble_eq_true rfl) (⟨Nat.le_of_ble_eq_true rfl, Nat.le_of_ble_eq_true rfl⟩) dX4_focusOnPlace_4 ?_
  refine z_seti (zb_f (h1)) ?_
  refine z_if_eq (tgt := 21) C dX4_focusOnPlace_7 (by decide) (fun c_7 => ?_) (fun c_7 => ?_)
  · refine z_iconst (v := 1) C dX4_focusOnPlace_21 (by decide) ?_
    refine tp_thrown C q1868 dX4_focusOnPlace_22 ?_
    refine z_aload_n (i := 0) C dX4_focusOnPlace_25 rfl rfl ?_
    refine tg_thrown C q1868 dX4_focusOnPlace_26 ?_
    refine z_if_ne (tgt := 41) C dX4_focusOnPlace_29 (by decide) (fun c_29 => ?_) (fun c_29 => ?_)
    · exact z_return C rfl dX4_focusOnPlace_41 (⟨rfl, rfl⟩) (Nat.le_of_ble_eq_true rfl) (Nat.le_of_ble_eq_true rfl)
    · exact absurd c_29 (by decide)
  · exact absurd rfl c_7
set_option maxHeartbeats 4000000 in
set_option maxRecDepth 100000 in
theorem ct_X4_focusOnPlace_1b (D : zG) (B : Nat) {b : zH} {t : tA} {st : Nat → Int32} {bk : Nat → Int32} {sv : Nat → Int32} {iz : Nat → Int32} {th : Int32} {di : Nat → Int32} {re : Nat → Int32} {si : Nat → Int32} {pa : Nat → Int32} {fo : Nat → Int64} {te : Nat → Int32} {tl : Int32} {po : Int32} {ts : Int32} {to : Int32} {le : Int32} {nu : Int32} {ec : Int32} {ep : Int32} {wo : Int64} (x y z : Int32) (h1 : (-20000 ≤ x ∧ x ≤ 20000) ∧ (-50 ≤ (0 : Int32) ∧ (0 : Int32) ≤ 50) ∧ 100 ≤ y ∧ y ≤ 5000) (h2 : ¬ (0 ≤ z ∧ z ≤ 500)) : Ct D B yX4_focusOnPlace (ws_ yX4_focusOnPlace cX4_focusOnPlace 4 none) (zr 2) [.ref (t.1 0), .int x, .int y, .int z] (tw b t st bk sv iz th di re si pa fo te tl po ts to le nu ec ep wo) (zpe none (tw b t st bk sv iz 1 di re si pa fo te tl po ts to le nu ec ep wo)) zno := by
  refine ct_intro (by decide +kernel) (Nat.le_of_ble_eq_true rfl) ?_
  intro X C
  refine z_aload_n (i := 0) C dX4_focusOnPlace_0 rfl rfl ?_
  refine z_iload_n (i := 1) C dX4_focusOnPlace_1 rfl rfl ?_
  refine z_iconst (v := 0) C dX4_focusOnPlace_2 (by decide) ?_
  refine z_iload_n (i := 2) C dX4_focusOnPlace_3 rfl rfl ?_
  refine z_callSe C (ct_X4_isVehiclePlace D B _ _ _) q1961 q1962 q106 q1963 np_X4_isVehiclePlace (zr_ok rfl rfl) rfl rfl (Nat.le_of_ble_eq_true rfl) (⟨Nat.le_of_ble_eq_true rfl, Nat.le_of_ble_eq_true rfl⟩) dX4_focusOnPlace_4 ?_
  refine z_seti (zb_t (h1)) ?_
  refine z_if_eq (tgt := 21) C dX4_focusOnPlace_7 (by decide) (fun c_7 => ?_) (fun c_7 => ?_)
  · exact absurd c_7 (by decide)
  · refine z_iload_n (i := 3) C dX4_focusOnPlace_10 rfl rfl ?_
    refine z_callSe C (ct_X4_isHeight D B _) q1979 q1980 q106 q1981 np_X4_isHeight (zr_ok rfl rfl) rfl rfl (Nat.le_of_ble_eq_true rfl) (⟨Nat.le_of_ble_eq_true rfl, Nat.le_of_ble_eq_true rfl⟩) dX4_focusOnPlace_11 ?_
    refine z_seti (zb_f (h2)) ?_
    refine z_if_eq (tgt := 21) C dX4_focusOnPlace_14 (by decide) (fun c_14 => ?_) (fun c_14 => ?_)
    · refine z_iconst (v := 1) C dX4_focusOnPlace_21 (by decide) ?_
      refine tp_thrown C q1868 dX4_focusOnPlace_22 ?_
      refine z_aload_n (i := 0) C dX4_focusOnPlace_25 rfl rfl ?_
      refine tg_thrown C q1868 dX4_focusOnPlace_26 ?_
      refine z_if_ne (tgt := 41) C dX4_focusOnPlace_29 (by decide) (fun c_29 => ?_) (fun c_29 => ?_)
      · exact z_return C rfl dX4_focusOnPlace_41 (⟨rfl, rfl⟩) (Nat.le_of_ble_eq_true rfl) (Nat.le_of_ble_eq_true rfl)
      · exact absurd c_29 (by decide)
    · exact absurd rfl c_14
set_option maxHeartbeats 4000000 in
set_option maxRecDepth 100000 in
theorem ct_X4_focusOnDirection_ok (D : zG) (B : Nat) {b : zH} {t : tA} {st : Nat → Int32} {bk : Nat → Int32} {sv : Nat → Int32} {iz : Nat → Int32} {th : Int32} {di : Nat → Int32} {re : Nat → Int32} {si : Nat → Int32} {pa : Nat → Int32} {fo : Nat → Int64} {te : Nat → Int32} {tl : Int32} {po : Int32} {ts : Int32} {to : Int32} {le : Int32} {nu : Int32} {ec : Int32} {ep : Int32} {wo : Int64} (x : Int32) (h1 : -100 ≤ x ∧ x ≤ 100) : Ct D B yX4_focusOnDirection (ws_ yX4_focusOnDirection cX4_focusOnDirection 2 none) (zr 1) [.ref (t.1 0), .int x] (tw b t st bk sv iz th di re si pa fo te tl po ts to le nu ec ep wo) (zpe none (tw b t (upd (upd (upd (upd (upd st 10 2) 11 0) 12 x) 13 0) 14 0) bk sv iz 0 di re si pa fo te tl po ts to le nu ec ep wo)) zno := by
  refine ct_intro (by decide +kernel) (Nat.le_of_ble_eq_true rfl) ?_
  intro X C
  refine z_aload_n (i := 0) C dX4_focusOnDirection_0 rfl rfl ?_
  refine z_iload_n (i := 1) C dX4_focusOnDirection_1 rfl rfl ?_
  refine z_bipush (v := (-100)) C dX4_focusOnDirection_2 (by decide) ?_
  refine z_bipush (v := 100) C dX4_focusOnDirection_4 (by decide) ?_
  refine z_callSe C (ct_X4_isBetween D B _ _ _) q1934 q1935 q106 q1936 np_X4_isBetween (zr_ok rfl rfl) rfl rfl (Nat.le_of_ble_eq_true rfl) (⟨Nat.le_of_ble_eq_true rfl, Nat.le_of_ble_eq_true rfl⟩) dX4_focusOnDirection_6 ?_
  refine z_seti (zb_t (h1)) ?_
  refine z_if_eq (tgt := 16) C dX4_focusOnDirection_9 (by decide) (fun c_9 => ?_) (fun c_9 => ?_)
  · exact absurd c_9 (by decide)
  · refine z_iconst (v := 0) C dX4_focusOnDirection_12 (by decide) ?_
    refine z_goto (tgt := 17) C dX4_focusOnDirection_13 (by decide) ?_
    refine tp_thrown C q1868 dX4_focusOnDirection_17 ?_
    refine z_aload_n (i := 0) C dX4_focusOnDirection_20 rfl rfl ?_
    refine tg_thrown C q1868 dX4_focusOnDirection_21 ?_
    refine z_if_ne (tgt := 36) C dX4_focusOnDirection_24 (by decide) (fun c_24 => ?_) (fun c_24 => ?_)
    · exact absurd rfl c_24
    · refine z_aload_n (i := 0) C dX4_focusOnDirection_27 rfl rfl ?_
      refine z_iconst (v := 2) C dX4_focusOnDirection_28 (by decide) ?_
      refine z_iconst (v := 0) C dX4_focusOnDirection_29 (by decide) ?_
      refine z_iload_n (i := 1) C dX4_focusOnDirection_30 rfl rfl ?_
      refine z_iconst (v := 0) C dX4_focusOnDirection_31 (by decide) ?_
      refine z_iconst (v := 0) C dX4_focusOnDirection_32 (by decide) ?_
      refine z_callVe C (tw_obj) rfl (ct_X4_setFocus D B _ _ _ _ _) q2184 q2186 qs56 q106 q2187 np_X4_setFocus (zr_ok rfl rfl) rfl rfl (Nat.le_of_ble_eq_true rfl) (⟨Nat.le_of_ble_eq_true rfl, Nat.le_of_ble_eq_true rfl⟩) dX4_focusOnDirection_33 ?_
      exact z_return C rfl dX4_focusOnDirection_36 (⟨rfl, rfl⟩) (Nat.le_of_ble_eq_true rfl) (Nat.le_of_ble_eq_true rfl)
set_option maxHeartbeats 4000000 in
set_option maxRecDepth 100000 in
theorem ct_X4_focusOnDirection_1 (D : zG) (B : Nat) {b : zH} {t : tA} {st : Nat → Int32} {bk : Nat → Int32} {sv : Nat → Int32} {iz : Nat → Int32} {th : Int32} {di : Nat → Int32} {re : Nat → Int32} {si : Nat → Int32} {pa : Nat → Int32} {fo : Nat → Int64} {te : Nat → Int32} {tl : Int32} {po : Int32} {ts : Int32} {to : Int32} {le : Int32} {nu : Int32} {ec : Int32} {ep : Int32} {wo : Int64} (x : Int32) (h1 : ¬ (-100 ≤ x ∧ x ≤ 100)) : Ct D B yX4_focusOnDirection (ws_ yX4_focusOnDirection cX4_focusOnDirection 2 none) (zr 1) [.ref (t.1 0), .int x] (tw b t st bk sv iz th di re si pa fo te tl po ts to le nu ec ep wo) (zpe none (tw b t st bk sv iz 1 di re si pa fo te tl po ts to le nu ec ep wo)) zno := by
  refine ct_intro (by decide +kernel) (Nat.le_of_ble_eq_true rfl) ?_
  intro X C
  refine z_aload_n (i := 0) C dX4_focusOnDirection_0 rfl rfl ?_
  refine z_iload_n (i := 1) C dX4_focusOnDirection_1 rfl rfl ?_
  refine z_bipush (v := (-100)) C dX4_focusOnDirection_2 (by decide) ?_
  refine z_bipush (v := 100) C dX4_focusOnDirection_4 (by decide) ?_
  refine z_callSe C (ct_X4_isBetween D B _ _ _) q1934 q1935 q106 q1936 np_X4_isBetween (zr_ok rfl rfl) rfl rfl (Nat.le_of_ble_eq_true rfl) (⟨Nat.le_of_ble_eq_true rfl, Nat.le_of_ble_eq_true rfl⟩) dX4_focusOnDirection_6 ?_
  refine z_seti (zb_f (h1)) ?_
  refine z_if_eq (tgt := 16) C dX4_focusOnDirection_9 (by decide) (fun c_9 => ?_) (fun c_9 => ?_)
  · refine z_iconst (v := 1) C dX4_focusOnDirection_16 (by decide) ?_
    refine tp_thrown C q1868 dX4_focusOnDirection_17 ?_
    refine z_aload_n (i := 0) C dX4_focusOnDirection_20 rfl rfl ?_
    refine tg_thrown C q1868 dX4_focusOnDirection_21 ?_
    refine z_if_ne (tgt := 36) C dX4_focusOnDirection_24 (by decide) (fun c_24 => ?_) (fun c_24 => ?_)
    · exact z_return C rfl dX4_focusOnDirection_36 (⟨rfl, rfl⟩) (Nat.le_of_ble_eq_true rfl) (Nat.le_of_ble_eq_true rfl)
    · exact absurd c_24 (by decide)
  · exact absurd rfl c_9
set_option maxHeartbeats 4000000 in
set_option maxRecDepth 100000 in
theorem ct_J12_floorDiv (D : zG) (B : Nat) {G : zH} (x y : Int32) (hy : ¬ y = 0) : Ct D B yJ12_floorDiv (ws_ yJ12_floorDiv cJ12_floorDiv 3 (some .int)) (zr 0) [.int x, .int y] G (zpe (some (.int (zfl x y))) G) zno := by
  refine ct_introF (by decide +kernel) (Nat.le_of_ble_eq_true rfl) ?_
  intro X C
  refine z_iload_n (i := 0) C dJ12_floorDiv_0 rfl rfl ?_
  refine z_iload_n (i := 1) C dJ12_floorDiv_1 rfl rfl ?_
  refine z_idiv C dJ12_floorDiv_2 (hy) ?_
  refine z_istore_n (i := 2) C dJ12_floorDiv_3 rfl (Nat.le_of_ble_eq_true rfl) rfl ?_
  refine z_iload_n (i := 0) C dJ12_floorDiv_4 rfl rfl ?_
  refine z_iload_n (i := 1) C dJ12_floorDiv_5 rfl rfl ?_
  refine z_ixor C dJ12_floorDiv_6 ?_
  refine z_if_ge (tgt := 21) C dJ12_floorDiv_7 (by decide) (fun c_7 => ?_) (fun c_7 => ?_)
  · refine z_iload_n (i := 2) C dJ12_floorDiv_21 rfl rfl ?_
    exact z_ireturn C rfl (rfl) dJ12_floorDiv_22 (⟨zvs (by unfold zfl; first | rw [if_pos c_7] | rw [if_neg c_7, if_pos c_14] | rw [if_neg c_7, if_neg c_14] | simp [c_7, c_14]), rfl⟩) (Nat.le_of_ble_eq_true rfl) (Nat.le_of_ble_eq_true rfl)
  · refine z_iload_n (i := 2) C dJ12_floorDiv_10 rfl rfl ?_
    refine z_iload_n (i := 1) C dJ12_floorDiv_11 rfl rfl ?_
    refine z_imul C dJ12_floorDiv_12 ?_
    refine z_iload_n (i := 0) C dJ12_floorDiv_13 rfl rfl ?_
    refine z_icmp_eq (tgt := 21) C dJ12_floorDiv_14 (by decide) (fun c_14 => ?_) (fun c_14 => ?_)
    · refine z_iload_n (i := 2) C dJ12_floorDiv_21 rfl rfl ?_
      exact z_ireturn C rfl (rfl) dJ12_floorDiv_22 (⟨zvs (by unfold zfl; first | rw [if_pos c_7] | rw [if_neg c_7, if_pos c_14] | rw [if_neg c_7, if_neg c_14] | simp [c_7, c_14]), rfl⟩) (Nat.le_of_ble_eq_true rfl) (Nat.le_of_ble_eq_true rfl)
    · refine z_iload_n (i := 2) C dJ12_floorDiv_17 rfl rfl ?_
      refine z_iconst (v := 1) C dJ12_floorDiv_18 (by decide) ?_
      refine z_isub C dJ12_floorDiv_19 ?_
      exact z_ireturn C rfl (rfl) dJ12_floorDiv_20 (⟨zvs (by unfold zfl; first | rw [if_pos c_7] | rw [if_neg c_7, if_pos c_14] | rw [if_neg c_7, if_neg c_14] | simp [c_7, c_14]), rfl⟩) (Nat.le_of_ble_eq_true rfl) (Nat.le_of_ble_eq_true rfl)
theorem np_J12_floorDiv : znp yJ12_floorDiv 2 := ⟨by decide +kernel, by decide +kernel, by decide +kernel⟩
set_option maxHeartbeats 4000000 in
set_option maxRecDepth 100000 in
theorem ct_X4_shiftOf (D : zG) (B : Nat) {b : zH} {t : tA} {st : Nat → Int32} {bk : Nat → Int32} {sv : Nat → Int32} {iz : Nat → Int32} {th : Int32} {di : Nat → Int32} {re : Nat → Int32} {si : Nat → Int32} {pa : Nat → Int32} {fo : Nat → Int64} {te : Nat → Int32} {tl : Int32} {po : Int32} {ts : Int32} {to : Int32} {le : Int32} {nu : Int32} {ec : Int32} {ep : Int32} {wo : Int64} (m : Nat) (d : Int32) (hm : m < 8) (n0 : Nat) (h0 : st 0 = nI n0) (hn1 : 100 ≤ n0) (hn2 : n0 ≤ 1000) : Ct D B yX4_shiftOf (ws_ yX4_shiftOf cX4_shiftOf 3 (some .int)) (zr 1) [.ref (t.1 0), .int (nI m), .int d] (tw b t st bk sv iz th di re si pa fo te tl po ts to le nu ec ep wo) (zpe (some (.int (zsh st m d))) (tw b t st bk sv iz th di re si pa fo te tl po ts to le nu ec ep wo)) zno := by
  refine ct_intro (by decide +kernel) (Nat.le_of_ble_eq_true rfl) ?_
  intro X C
  refine z_aload_n (i := 0) C dX4_shiftOf_0 rfl rfl ?_
  refine z_iload_n (i := 1) C dX4_shiftOf_1 rfl rfl ?_
  refine z_iconst (v := 0) C dX4_shiftOf_2 (by decide) ?_
  refine z_callVe C (tw_obj) rfl (ct_X4_microphone D B m 0 (by omega)) q2063 q2065 qs41 q106 q2066 np_X4_microphone (zr_ok rfl rfl) rfl rfl (Nat.le_of_ble_eq_true rfl) (⟨Nat.le_of_ble_eq_true rfl, Nat.le_of_ble_eq_true rfl⟩) dX4_shiftOf_3 ?_
  refine z_iload_n (i := 2) C dX4_shiftOf_6 rfl rfl ?_
  refine z_imul C dX4_shiftOf_7 ?_
  refine z_bipush (v := 100) C dX4_shiftOf_8 (by decide) ?_
  refine z_aload_n (i := 0) C dX4_shiftOf_10 rfl rfl ?_
  refine tg_state C q1864 dX4_shiftOf_11 ?_
  refine z_iconst (v := 0) C dX4_shiftOf_14 (by decide) ?_
  refine tl_state C (⟨(rfl : (0 : Int32) = nI 0), by decide⟩) dX4_shiftOf_15 ?_
  refine z_imul C dX4_shiftOf_16 ?_
  refine z_callSe C (ct_J12_floorDiv D B _ _ (by rw [h0, show (100 : Int32) * nI n0 = nI (100 * n0) from pk_mul 100 n0]; exact nI_ne0 (by omega) (by omega))) q2208 q1629 q97 q1630 np_J12_floorDiv (zr_ok rfl rfl) rfl rfl (Nat.le_of_ble_eq_true rfl) (⟨Nat.le_of_ble_eq_true rfl, Nat.le_of_ble_eq_true rfl⟩) dX4_shiftOf_17 ?_
  exact z_ireturn C rfl (rfl) dX4_shiftOf_20 (⟨rfl, rfl⟩) (Nat.le_of_ble_eq_true rfl) (Nat.le_of_ble_eq_true rfl)
set_option maxHeartbeats 4000000 in
set_option maxRecDepth 100000 in
theorem ct_X4_firstSample (D : zG) (B : Nat) {b : zH} {t : tA} {st : Nat → Int32} {bk : Nat → Int32} {sv : Nat → Int32} {iz : Nat → Int32} {th : Int32} {di : Nat → Int32} {re : Nat → Int32} {si : Nat → Int32} {pa : Nat → Int32} {fo : Nat → Int64} {te : Nat → Int32} {tl : Int32} {po : Int32} {ts : Int32} {to : Int32} {le : Int32} {nu : Int32} {ec : Int32} {ep : Int32} {wo : Int64} (k : Int32) (h0 : ¬ st 0 = 0) : Ct D B yX4_firstSample (ws_ yX4_firstSample cX4_firstSample 2 (some .int)) (zr 0) [.ref (t.1 0), .int k] (tw b t st bk sv iz th di re si pa fo te tl po ts to le nu ec ep wo) (zpe (some (.int (zfs st k))) (tw b t st bk sv iz th di re si pa fo te tl po ts to le nu ec ep wo)) zno := by
  refine ct_intro (by decide +kernel) (Nat.le_of_ble_eq_true rfl) ?_
  intro X C
  refine z_iload_n (i := 1) C dX4_firstSample_0 rfl rfl ?_
  refine z_aload_n (i := 0) C dX4_firstSample_1 rfl rfl ?_
  refine tg_state C q1864 dX4_firstSample_2 ?_
  refine z_iconst (v := 0) C dX4_firstSample_5 (by decide) ?_
  refine tl_state C (⟨(rfl : (0 : Int32) = nI 0), by decide⟩) dX4_firstSample_6 ?_
  refine z_iadd C dX4_firstSample_7 ?_
  refine z_iconst (v := 1) C dX4_firstSample_8 (by decide) ?_
  refine z_isub C dX4_firstSample_9 ?_
  refine z_aload_n (i := 0) C dX4_firstSample_10 rfl rfl ?_
  refine tg_state C q1864 dX4_firstSample_11 ?_
  refine z_iconst (v := 0) C dX4_firstSample_14 (by decide) ?_
  refine tl_state C (⟨(rfl : (0 : Int32) = nI 0), by decide⟩) dX4_firstSample_15 ?_
  refine z_idiv C dX4_firstSample_16 (h0) ?_
  exact z_ireturn C rfl (rfl) dX4_firstSample_17 (⟨rfl, rfl⟩) (Nat.le_of_ble_eq_true rfl) (Nat.le_of_ble_eq_true rfl)
