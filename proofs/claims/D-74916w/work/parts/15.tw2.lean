/-! the twin: states, places, distances -/
set_option maxHeartbeats 4000000 in
set_option maxRecDepth 100000 in
theorem ct_X4_vehicle (D : zG) (B : Nat) {b : zH} {t : tA} {st : Nat → Int32} {bk : Nat → Int32} {sv : Nat → Int32} {iz : Nat → Int32} {th : Int32} {di : Nat → Int32} {re : Nat → Int32} {si : Nat → Int32} {pa : Nat → Int32} {fo : Nat → Int64} {te : Nat → Int32} {tl : Int32} {po : Int32} {ts : Int32} {to : Int32} {le : Int32} {nu : Int32} {ec : Int32} {ep : Int32} {wo : Int64} (k f : Nat) (h : 16 + 3 * k + f < 2234) : Ct D B yX4_vehicle (ws_ yX4_vehicle cX4_vehicle 3 (some .int)) (zr 0) [.ref (t.1 0), .int (nI k), .int (nI f)] (tw b t st bk sv iz th di re si pa fo te tl po ts to le nu ec ep wo) (zpe (some (.int (st (16 + 3 * k + f)))) (tw b t st bk sv iz th di re si pa fo te tl po ts to le nu ec ep wo)) zno := by
  refine ct_intro (by decide +kernel) (Nat.le_of_ble_eq_true rfl) ?_
  intro X C
  refine z_aload_n (i := 0) C dX4_vehicle_0 rfl rfl ?_
  refine tg_state C q1864 dX4_vehicle_1 ?_
  refine z_bipush (v := 16) C dX4_vehicle_4 (by decide) ?_
  refine z_iconst (v := 3) C dX4_vehicle_6 (by decide) ?_
  refine z_iload_n (i := 1) C dX4_vehicle_7 rfl rfl ?_
  refine z_imul C dX4_vehicle_8 ?_
  refine z_iadd C dX4_vehicle_9 ?_
  refine z_iload_n (i := 2) C dX4_vehicle_10 rfl rfl ?_
  refine z_iadd C dX4_vehicle_11 ?_
  refine tl_state C (⟨zlin 16 3 k f, h⟩) dX4_vehicle_12 ?_
  exact z_ireturn C rfl (rfl) dX4_vehicle_13 (⟨rfl, rfl⟩) (Nat.le_of_ble_eq_true rfl) (Nat.le_of_ble_eq_true rfl)
set_option maxHeartbeats 4000000 in
set_option maxRecDepth 100000 in
theorem ct_X4_source (D : zG) (B : Nat) {b : zH} {t : tA} {st : Nat → Int32} {bk : Nat → Int32} {sv : Nat → Int32} {iz : Nat → Int32} {th : Int32} {di : Nat → Int32} {re : Nat → Int32} {si : Nat → Int32} {pa : Nat → Int32} {fo : Nat → Int64} {te : Nat → Int32} {tl : Int32} {po : Int32} {ts : Int32} {to : Int32} {le : Int32} {nu : Int32} {ec : Int32} {ep : Int32} {wo : Int64} (k f : Nat) (h : 28 + 21 * k + f < 2234) : Ct D B yX4_source (ws_ yX4_source cX4_source 3 (some .int)) (zr 0) [.ref (t.1 0), .int (nI k), .int (nI f)] (tw b t st bk sv iz th di re si pa fo te tl po ts to le nu ec ep wo) (zpe (some (.int (st (28 + 21 * k + f)))) (tw b t st bk sv iz th di re si pa fo te tl po ts to le nu ec ep wo)) zno := by
  refine ct_intro (by decide +kernel) (Nat.le_of_ble_eq_true rfl) ?_
  intro X C
  refine z_aload_n (i := 0) C dX4_source_0 rfl rfl ?_
  refine tg_state C q1864 dX4_source_1 ?_
  refine z_bipush (v := 28) C dX4_source_4 (by decide) ?_
  refine z_bipush (v := 21) C dX4_source_6 (by decide) ?_
  refine z_iload_n (i := 1) C dX4_source_8 rfl rfl ?_
  refine z_imul C dX4_source_9 ?_
  refine z_iadd C dX4_source_10 ?_
  refine z_iload_n (i := 2) C dX4_source_11 rfl rfl ?_
  refine z_iadd C dX4_source_12 ?_
  refine tl_state C (⟨zlin 28 21 k f, h⟩) dX4_source_13 ?_
  exact z_ireturn C rfl (rfl) dX4_source_14 (⟨rfl, rfl⟩) (Nat.le_of_ble_eq_true rfl) (Nat.le_of_ble_eq_true rfl)
set_option maxHeartbeats 4000000 in
set_option maxRecDepth 100000 in
theorem ct_X4_microphone (D : zG) (B : Nat) {b : zH} {t : tA} {st : Nat → Int32} {bk : Nat → Int32} {sv : Nat → Int32} {iz : Nat → Int32} {th : Int32} {di : Nat → Int32} {re : Nat → Int32} {si : Nat → Int32} {pa : Nat → Int32} {fo : Nat → Int64} {te : Nat → Int32} {tl : Int32} {po : Int32} {ts : Int32} {to : Int32} {le : Int32} {nu : Int32} {ec : Int32} {ep : Int32} {wo : Int64} (k f : Nat) (h : 154 + 4 * k + f < 2234) : Ct D B yX4_microphone (ws_ yX4_microphone cX4_microphone 3 (some .int)) (zr 0) [.ref (t.1 0), .int (nI k), .int (nI f)] (tw b t st bk sv iz th di re si pa fo te tl po ts to le nu ec ep wo) (zpe (some (.int (st (154 + 4 * k + f)))) (tw b t st bk sv iz th di re si pa fo te tl po ts to le nu ec ep wo)) zno := by
  refine ct_intro (by decide +kernel) (Nat.le_of_ble_eq_true rfl) ?_
  intro X C
  refine z_aload_n (i := 0) C dX4_microphone_0 rfl rfl ?_
  refine tg_state C q1864 dX4_microphone_1 ?_
  refine z_sipush (v := 154) C dX4_microphone_4 (by decide) ?_
  refine z_iconst (v := 4) C dX4_microphone_7 (by decide) ?_
  refine z_iload_n (i := 1) C dX4_microphone_8 rfl rfl ?_
  refine z_imul C dX4_microphone_9 ?_
  refine z_iadd C dX4_microphone_10 ?_
  refine z_iload_n (i := 2) C dX4_microphone_11 rfl rfl ?_
  refine z_iadd C dX4_microphone_12 ?_
  refine tl_state C (⟨zlin 154 4 k f, h⟩) dX4_microphone_13 ?_
  exact z_ireturn C rfl (rfl) dX4_microphone_14 (⟨rfl, rfl⟩) (Nat.le_of_ble_eq_true rfl) (Nat.le_of_ble_eq_true rfl)
set_option maxHeartbeats 4000000 in
set_option maxRecDepth 100000 in
theorem ct_X4_clear (D : zG) (B : Nat) {b : zH} {t : tA} {st : Nat → Int32} {bk : Nat → Int32} {sv : Nat → Int32} {iz : Nat → Int32} {th : Int32} {di : Nat → Int32} {re : Nat → Int32} {si : Nat → Int32} {pa : Nat → Int32} {fo : Nat → Int64} {te : Nat → Int32} {tl : Int32} {po : Int32} {ts : Int32} {to : Int32} {le : Int32} {nu : Int32} {ec : Int32} {ep : Int32} {wo : Int64}   : Ct D B yX4_clear (ws_ yX4_clear cX4_clear 2 none) (zr 0) [.ref (t.1 0)] (tw b t st bk sv iz th di re si pa fo te tl po ts to le nu ec ep wo) (fun v G9 => v = none ∧ ∃ sx : Nat → Int32, G9 = (tw b t sx bk sv iz th di re si pa fo te tl po ts to le nu ec ep wo) ∧ ∀ j, j < 2234 → sx j = if j = 0 then 340 else if j = 3 ∨ j = 10 then 1 else if j = 13 then 100 else 0) zno := by
  refine ct_intro (by decide +kernel) (Nat.le_of_ble_eq_true rfl) ?_
  intro X C
  refine z_iconst (v := 0) C dX4_clear_0 (by decide) ?_
  refine z_istore_n (i := 1) C dX4_clear_1 rfl (Nat.le_of_ble_eq_true rfl) rfl ?_
  have lp2 : ∀ (μ : Nat) (i : Nat) (sx : Nat → Int32) (h1 : i ≤ 2234) (h2 : ∀ j, j < i → sx j = 0), 2234 - i < μ → Z X 2 [some (.ref (t.1 0)), some (.int (nI i))] [] (tw b t sx bk sv iz th di re si pa fo te tl po ts to le nu ec ep wo) 0 0 := by
    intro μ
    induction μ with
    | zero => intro i sx h1 h2 hμ; exact absurd hμ (Nat.not_lt_zero _)
    | succ μ ih2 =>
      intro i sx h1 h2 hμ
      refine z_iload_n (i := 1) C dX4_clear_2 rfl rfl ?_
      refine z_sipush (v := 2234) C dX4_clear_3 (by decide) ?_
      refine z_icmp_ge (tgt := 22) C dX4_clear_6 (by decide) (fun c_6 => ?_) (fun c_6 => ?_)
      · have h3 : i = 2234 := by have := zge (b := 2234) c_6 (by omega) (by decide); omega
        subst h3
        refine z_aload_n (i := 0) C dX4_clear_22 rfl rfl ?_
        refine tg_state C q1864 dX4_clear_23 ?_
        refine z_iconst (v := 0) C dX4_clear_26 (by decide) ?_
        refine z_sipush (v := 340) C dX4_clear_27 (by decide) ?_
        refine ts_state C (⟨(rfl : (0 : Int32) = nI 0), by decide⟩) dX4_clear_30 ?_
        refine z_aload_n (i := 0) C dX4_clear_31 rfl rfl ?_
        refine tg_state C q1864 dX4_clear_32 ?_
        refine z_iconst (v := 3) C dX4_clear_35 (by decide) ?_
        refine z_iconst (v := 1) C dX4_clear_36 (by decide) ?_
        refine ts_state C (⟨(rfl : (3 : Int32) = nI 3), by decide⟩) dX4_clear_37 ?_
        refine z_aload_n (i := 0) C dX4_clear_38 rfl rfl ?_
        refine tg_state C q1864 dX4_clear_39 ?_
        refine z_bipush (v := 10) C dX4_clear_42 (by decide) ?_
        refine z_iconst (v := 1) C dX4_clear_44 (by decide) ?_
        refine ts_state C (⟨(rfl : (10 : Int32) = nI 10), by decide⟩) dX4_clear_45 ?_
        refine z_aload_n (i := 0) C dX4_clear_46 rfl rfl ?_
        refine tg_state C q1864 dX4_clear_47 ?_
        refine z_bipush (v := 13) C dX4_clear_50 (by decide) ?_
        refine z_bipush (v := 100) C dX4_clear_52 (by decide) ?_
        refine ts_state C (⟨(rfl : (13 : Int32) = nI 13), by decide⟩) dX4_clear_54 ?_
        exact z_return C rfl dX4_clear_55 (⟨rfl, _, rfl, fun j hj => by simp only [upd, h2 j hj]; split <;> (try split) <;> (try split) <;> (try split) <;> simp_all <;> omega⟩) (Nat.le_of_ble_eq_true rfl) (Nat.le_of_ble_eq_true rfl)
      · have h3 := znge (b := 2234) c_6 (by omega) (by decide)
        refine z_aload_n (i := 0) C dX4_clear_9 rfl rfl ?_
        refine tg_state C q1864 dX4_clear_10 ?_
        refine z_iload_n (i := 1) C dX4_clear_13 rfl rfl ?_
        refine z_iconst (v := 0) C dX4_clear_14 (by decide) ?_
        refine ts_state C (⟨rfl, h3⟩) dX4_clear_15 ?_
        refine z_iinc (v := nI (i + 1)) C dX4_clear_16 rfl (ziinc i) (Nat.le_of_ble_eq_true rfl) rfl ?_
        refine z_goto (tgt := 2) C dX4_clear_19 (by decide) ?_
        exact z_convG (ih2 (i + 1) _ (by omega) (fun j hj => by unfold upd; split <;> first | rfl | exact h2 j (by omega)) (by omega)) (And.intro (rfl) (And.intro (rfl) trivial)) (Nat.le_of_ble_eq_true rfl) (Nat.le_of_ble_eq_true rfl)
  exact z_convG (lp2 2235 0 st (by omega) (fun j hj => by omega) (by omega)) (And.intro (rfl) (And.intro (rfl) trivial)) (Nat.le_of_ble_eq_true rfl) (Nat.le_of_ble_eq_true rfl)
set_option maxHeartbeats 4000000 in
set_option maxRecDepth 100000 in
theorem ct_X4_copy (D : zG) (B : Nat) {G : zH} (a1 a2 n1 n2 s1 s2 : Nat) (f g : Nat → Int32) (hne : a1 ≠ a2) (hg1 : G a1 = some (.inl (0, n1, .inl f))) (hg2 : G a2 = some (.inl (0, n2, .inl g))) (hs1 : s1 + 2234 ≤ n1) (hs2 : s2 + 2234 ≤ n2) (hn1 : n1 < 10000) (hn2 : n2 < 10000) : Ct D B yX4_copy (ws_ yX4_copy cX4_copy 5 none) (zr 0) [.ref a1, .int (nI s1), .ref a2, .int (nI s2)] G (fun v G9 => v = none ∧ ∃ gx : Nat → Int32, G9 = zup G a2 (.inl (0, n2, .inl gx)) ∧ (∀ j, j < 2234 → gx (s2 + j) = f (s1 + j)) ∧ ∀ j, (j < s2 ∨ s2 + 2234 ≤ j) → gx j = g j) zno := by
  refine ct_intro (by decide +kernel) (Nat.le_of_ble_eq_true rfl) ?_
  intro X C
  refine z_iconst (v := 0) C dX4_copy_0 (by decide) ?_
  refine z_istore C dX4_copy_1 (Nat.le_of_ble_eq_true rfl) rfl ?_
  have lp3 : ∀ (μ : Nat) (i : Nat) (G1 : zH) (gx : Nat → Int32) (h1 : i ≤ 2234) (h2 : ∀ j, j < i → gx (s2 + j) = f (s1 + j)) (h3 : ∀ j, (j < s2 ∨ s2 + i ≤ j) → gx j = g j) (h4 : G1 a1 = some (.inl (0, n1, .inl f))) (h5 : G1 a2 = some (.inl (0, n2, .inl gx))) (h6 : zup G1 a2 (.inl (0, n2, .inl gx)) = zup G a2 (.inl (0, n2, .inl gx))) (h7 : G1 = zup G a2 (.inl (0, n2, .inl gx))), 2234 - i < μ → Z X 3 [some (.ref a1), some (.int (nI s1)), some (.ref a2), some (.int (nI s2)), some (.int (nI i))] [] G1 0 0 := by
    intro μ
    induction μ with
    | zero => intro i G1 gx h1 h2 h3 h4 h5 h6 h7 hμ; exact absurd hμ (Nat.not_lt_zero _)
    | succ μ ih3 =>
      intro i G1 gx h1 h2 h3 h4 h5 h6 h7 hμ
      refine z_iload C dX4_copy_3 rfl ?_
      refine z_sipush (v := 2234) C dX4_copy_5 (by decide) ?_
      refine z_icmp_ge (tgt := 29) C dX4_copy_8 (by decide) (fun c_8 => ?_) (fun c_8 => ?_)
      · have h8 : i = 2234 := by have := zge (b := 2234) c_8 (by omega) (by decide); omega
        subst h8
        exact z_return C rfl dX4_copy_29 (⟨rfl, gx, h7, h2, fun j hj => h3 j hj⟩) (Nat.le_of_ble_eq_true rfl) (Nat.le_of_ble_eq_true rfl)
      · have h8 := znge (b := 2234) c_8 (by omega) (by decide)
        refine z_aload_n (i := 2) C dX4_copy_11 rfl rfl ?_
        refine z_iload_n (i := 3) C dX4_copy_12 rfl rfl ?_
        refine z_iload C dX4_copy_13 rfl ?_
        refine z_iadd C dX4_copy_15 ?_
        refine z_aload_n (i := 0) C dX4_copy_16 rfl rfl ?_
        refine z_iload_n (i := 1) C dX4_copy_17 rfl rfl ?_
        refine z_iload C dX4_copy_18 rfl ?_
        refine z_iadd C dX4_copy_20 ?_
        refine zj_iald C h4 (zixI (nI_add s1 i) (by omega)) (by omega) dX4_copy_21 ?_
        refine zj_iast C h5 (zixI (nI_add s2 i) (by omega)) (by omega) dX4_copy_22 ?_
        refine z_iinc (v := nI (i + 1)) C dX4_copy_23 rfl (ziinc i) (Nat.le_of_ble_eq_true rfl) rfl ?_
        refine z_goto (tgt := 3) C dX4_copy_26 (by decide) ?_
        refine z_convG (ih3 (i + 1) _ _ (by omega) (fun j hj => ?_) (fun j hj => ?_) ((zup_n hne).trans h4) zup_s (by rw [h7, zup_zup, zup_zup]) (by rw [h7, zup_zup]) (by omega)) (And.intro rfl (And.intro rfl (And.intro rfl (And.intro rfl (And.intro rfl trivial))))) (Nat.le_refl _) (Nat.le_refl _)
        · by_cases e : j = i
          · subst e; exact if_pos rfl
          · exact (if_neg (by omega)).trans (h2 j (by omega))
        · exact (if_neg (by omega)).trans (h3 j (by omega))
  exact z_convG (lp3 2235 0 G g (by omega) (fun j hj => by omega) (fun j hj => rfl) hg1 hg2 rfl (by funext q; unfold zup; split <;> simp_all) (by omega)) (And.intro (rfl) (And.intro (rfl) (And.intro (rfl) (And.intro (rfl) (And.intro (rfl) trivial))))) (Nat.le_of_ble_eq_true rfl) (Nat.le_of_ble_eq_true rfl)
set_option maxHeartbeats 4000000 in
set_option maxRecDepth 100000 in
theorem ct_X4_root (D : zG) (B : Nat) {G : zH} (n : Nat) (hn : n < 4900000000) : Ct D B yX4_root (ws_ yX4_root cX4_root 8 (some .int)) (zr 0) [.long (lN n)] G (zpe (some (.int (nI (zis n)))) G) zno := by
  refine ct_intro (by decide +kernel) (Nat.le_of_ble_eq_true rfl) ?_
  intro X C
  refine z_lconst (v := 0) C dX4_root_0 (by decide) ?_
  refine z_lstore_n (i := 2) C dX4_root_1 rfl (Nat.le_of_ble_eq_true rfl) rfl ?_
  refine z_ldc2 C q2070 dX4_root_2 ?_
  refine z_lstore C dX4_root_5 (Nat.le_of_ble_eq_true rfl) rfl ?_
  have lp7 : ∀ (μ : Nat) (a b : Nat) (h1 : a ≤ b) (h2 : b ≤ 70000) (h3 : a * a ≤ n) (h4 : n < (b + 1) * (b + 1)), b - a < μ → Z X 7 [some (.long (lN n)), none, some (.long (lN a)), none, some (.long (lN b)), none, none, none] [] G 0 0 := by
    intro μ
    induction μ with
    | zero => intro a b h1 h2 h3 h4 hμ; exact absurd hμ (Nat.not_lt_zero _)
    | succ μ ih7 =>
      intro a b h1 h2 h3 h4 hμ
      refine z_lload_n (i := 2) C dX4_root_7 rfl rfl ?_
      refine z_lload C dX4_root_8 rfl ?_
      refine z_lc_ge (tgt := 51) C dX4_root_10 dX4_root_11 (by decide) (fun c_11 => ?_) (fun c_11 => ?_)
      · have h5 : a = b := by have := (lN_le (by omega) (by omega)).mp c_11; omega
        subst h5
        refine z_lload_n (i := 2) C dX4_root_51 rfl rfl ?_
        refine z_l2i C dX4_root_52 rfl ?_
        refine z_seti (lN_i a) ?_
        exact z_ireturn C rfl (rfl) dX4_root_53 (⟨zvs (by rw [zis_uniq h2 h3 h4]), rfl⟩) (Nat.le_of_ble_eq_true rfl) (Nat.le_of_ble_eq_true rfl)
      · have h5 : a < b := Nat.lt_of_not_le fun q => c_11 ((lN_le (by omega) (by omega)).mpr q)
        obtain ⟨m, hm⟩ : ∃ m, m = (a + b + 1) / 2 := ⟨_, rfl⟩
        have hm1 : a < m := by omega
        have hm2 : m ≤ b := by omega
        have hm3 : m * m ≤ 4900000000 := Nat.le_trans (Nat.mul_le_mul (Nat.le_trans hm2 h2) (Nat.le_trans hm2 h2)) (Nat.le_of_ble_eq_true rfl)
        refine z_lload_n (i := 2) C dX4_root_14 rfl rfl ?_
        refine z_lload C dX4_root_15 rfl ?_
        refine z_ladd C dX4_root_17 ?_
        refine z_lconst (v := 1) C dX4_root_18 (by decide) ?_
        refine z_ladd C dX4_root_19 ?_
        refine z_ldc2 C q2071 dX4_root_20 ?_
        refine z_ldiv C dX4_root_23 (by decide) ?_
        refine z_setl (y := lN m) (by rw [lN_add, lN_1, hm]; exact pk_lDiv (b := 2) (by omega) (by decide) (by decide)) ?_
        refine z_lstore C dX4_root_24 (Nat.le_of_ble_eq_true rfl) rfl ?_
        refine z_lload C dX4_root_26 rfl ?_
        refine z_lload C dX4_root_28 rfl ?_
        refine z_lmul C dX4_root_30 ?_
        refine z_setl (lN_mul m m) ?_
        refine z_lload_n (i := 0) C dX4_root_31 rfl rfl ?_
        refine z_lc_gt (tgt := 42) C dX4_root_32 dX4_root_33 (by decide) (fun c_33 => ?_) (fun c_33 => ?_)
        · have h6 : n < m * m := (pk_lLT (by omega) (by omega)).mp c_33
          refine z_lload C dX4_root_42 rfl ?_
          refine z_lconst (v := 1) C dX4_root_44 (by decide) ?_
          refine z_lsub C dX4_root_45 ?_
          refine z_setl (y := lN (m - 1)) (lN_sub (b := 1) (by omega)) ?_
          refine z_lstore C dX4_root_46 (Nat.le_of_ble_eq_true rfl) rfl ?_
          refine z_goto (tgt := 7) C dX4_root_48 (by decide) ?_
          first
            | exact z_convG (ih7 m b hm2 h2 h6 h4 (by omega)) (And.intro rfl (And.intro rfl (And.intro rfl trivial))) (Nat.le_refl _) (Nat.le_refl _)
            | exact z_convG (ih7 a (m - 1) (by omega) (by omega) h3 (by rw [Nat.sub_add_cancel (by omega)]; exact h6) (by omega)) (And.intro rfl (And.intro rfl (And.intro rfl trivial))) (Nat.le_refl _) (Nat.le_refl _)
        · have h6 : m * m ≤ n := Nat.le_of_not_lt fun q => c_33 ((pk_lLT (by omega) (by omega)).mpr q)
          refine z_lload C dX4_root_36 rfl ?_
          refine z_lstore_n (i := 2) C dX4_root_38 rfl (Nat.le_of_ble_eq_true rfl) rfl ?_
          refine z_goto (tgt := 48) C dX4_root_39 (by decide) ?_
          refine z_goto (tgt := 7) C dX4_root_48 (by decide) ?_
          first
            | exact z_convG (ih7 m b hm2 h2 h6 h4 (by omega)) (And.intro rfl (And.intro rfl (And.intro rfl trivial))) (Nat.le_refl _) (Nat.le_refl _)
            | exact z_convG (ih7 a (m - 1) (by omega) (by omega) h3 (by rw [Nat.sub_add_cancel (by omega)]; exact h6) (by omega)) (And.intro rfl (And.intro rfl (And.intro rfl trivial))) (Nat.le_refl _) (Nat.le_refl _)
  exact z_convG (lp7 70001 0 70000 (by omega) (by omega) (by omega) (by omega) (by omega)) (And.intro (rfl) (And.intro (rfl) (And.intro (rfl) trivial))) (Nat.le_of_ble_eq_true rfl) (Nat.le_of_ble_eq_true rfl)
theorem np_X4_vehicle : znp yX4_vehicle 2 := ⟨by decide +kernel, by decide +kernel, by decide +kernel⟩
set_option maxHeartbeats 4000000 in
set_option maxRecDepth 100000 in
theorem ct_X4_placeX (D : zG) (B : Nat) {b : zH} {t : tA} {st : Nat → Int32} {bk : Nat → Int32} {sv : Nat → Int32} {iz : Nat → Int32} {th : Int32} {di : Nat → Int32} {re : Nat → Int32} {si : Nat → Int32} {pa : Nat → Int32} {fo : Nat → Int64} {te : Nat → Int32} {tl : Int32} {po : Int32} {ts : Int32} {to : Int32} {le : Int32} {nu : Int32} {ec : Int32} {ep : Int32} {wo : Int64} (v : Option Nat) (x u : Int32) (hv : ∀ k, v = some k → k < 4) : Ct D B yX4_placeX (ws_ yX4_placeX cX4_placeX 4 (some .int)) (zr 1) [.ref (t.1 0), .int (zvi v), .int x, .int u] (tw b t st bk sv iz th di re si pa fo te tl po ts to le nu ec ep wo) (zpe (some (.int (zpx st v x u))) (tw b t st bk sv iz th di re si pa fo te tl po ts to le nu ec ep wo)) zno := by
  refine ct_intro (by decide +kernel) (Nat.le_of_ble_eq_true rfl) ?_
  intro X C
  refine z_iload_n (i := 1) C dX4_placeX_0 rfl rfl ?_
  refine z_iconst (v := (-1)) C dX4_placeX_1 (by decide) ?_
  refine z_icmp_ne (tgt := 9) C dX4_placeX_2 (by decide) (fun c_2 => ?_) (fun c_2 => ?_)
  · obtain ⟨k, rfl⟩ : ∃ k, v = some k := by
      cases v with
      | none => exact absurd rfl c_2
      | some k => exact ⟨k, rfl⟩
    have hk := hv k rfl
    refine z_aload_n (i := 0) C dX4_placeX_9 rfl rfl ?_
    refine z_iload_n (i := 1) C dX4_placeX_10 rfl rfl ?_
    refine z_iconst (v := 0) C dX4_placeX_11 (by decide) ?_
    refine z_callVe C (tw_obj) rfl (ct_X4_vehicle D B k 0 (by omega)) q2047 q2049 qs37 q106 q2050 np_X4_vehicle (zr_ok rfl rfl) rfl rfl (Nat.le_of_ble_eq_true rfl) (⟨Nat.le_of_ble_eq_true rfl, Nat.le_of_ble_eq_true rfl⟩) dX4_placeX_12 ?_
    refine z_aload_n (i := 0) C dX4_placeX_15 rfl rfl ?_
    refine z_iload_n (i := 1) C dX4_placeX_16 rfl rfl ?_
    refine z_iconst (v := 1) C dX4_placeX_17 (by decide) ?_
    refine z_callVe C (tw_obj) rfl (ct_X4_vehicle D B k 1 (by omega)) q2047 q2049 qs37 q106 q2050 np_X4_vehicle (zr_ok rfl rfl) rfl rfl (Nat.le_of_ble_eq_true rfl) (⟨Nat.le_of_ble_eq_true rfl, Nat.le_of_ble_eq_true rfl⟩) dX4_placeX_18 ?_
    refine z_iload_n (i := 3) C dX4_placeX_21 rfl rfl ?_
    refine z_imul C dX4_placeX_22 ?_
    refine z_iadd C dX4_placeX_23 ?_
    refine z_iload_n (i := 2) C dX4_placeX_24 rfl rfl ?_
    refine z_iadd C dX4_placeX_25 ?_
    exact z_ireturn C rfl (rfl) dX4_placeX_26 (⟨rfl, rfl⟩) (Nat.le_of_ble_eq_true rfl) (Nat.le_of_ble_eq_true rfl)
  · have hv0 : v = none := by
      cases v with
      | none => rfl
      | some k => exact absurd c_2 (nI_nm1 (by have := hv k rfl; omega))
    subst hv0
    refine z_iload_n (i := 2) C dX4_placeX_5 rfl rfl ?_
    refine z_goto (tgt := 26) C dX4_placeX_6 (by decide) ?_
    exact z_ireturn C rfl (rfl) dX4_placeX_26 (⟨rfl, rfl⟩) (Nat.le_of_ble_eq_true rfl) (Nat.le_of_ble_eq_true rfl)
theorem np_X4_microphone : znp yX4_microphone 2 := ⟨by decide +kernel, by decide +kernel, by decide +kernel⟩
theorem np_X4_root : znp yX4_root 1 := ⟨by decide +kernel, by decide +kernel, by decide +kernel⟩
set_option maxHeartbeats 4000000 in
set_option maxRecDepth 100000 in
theorem ct_X4_distanceTo (D : zG) (B : Nat) {b : zH} {t : tA} {st : Nat → Int32} {bk : Nat → Int32} {sv : Nat → Int32} {iz : Nat → Int32} {th : Int32} {di : Nat → Int32} {re : Nat → Int32} {si : Nat → Int32} {pa : Nat → Int32} {fo : Nat → Int64} {te : Nat → Int32} {tl : Int32} {po : Int32} {ts : Int32} {to : Int32} {le : Int32} {nu : Int32} {ec : Int32} {ep : Int32} {wo : Int64} (m : Nat) (x y z : Int32) (hm : m < 8) (hok : zdok (x - st (154 + 4 * m + 0)) (y - st (154 + 4 * m + 1)) (z - st (154 + 4 * m + 2))) : Ct D B yX4_distanceTo (ws_ yX4_distanceTo cX4_distanceTo 11 (some .int)) (zr 1) [.ref (t.1 0), .int (nI m), .int x, .int y, .int z] (tw b t st bk sv iz th di re si pa fo te tl po ts to le nu ec ep wo) (zpe (some (.int (zd (x - st (154 + 4 * m + 0)) (y - st (154 + 4 * m + 1)) (z - st (154 + 4 * m + 2))))) (tw b t st bk sv iz th di re si pa fo te tl po ts to le nu ec ep wo)) zno := by
  refine ct_intro (by decide +kernel) (Nat.le_of_ble_eq_true rfl) ?_
  intro X C
  refine z_iload_n (i := 2) C dX4_distanceTo_0 rfl rfl ?_
  refine z_aload_n (i := 0) C dX4_distanceTo_1 rfl rfl ?_
  refine z_iload_n (i := 1) C dX4_distanceTo_2 rfl rfl ?_
  refine z_iconst (v := 0) C dX4_distanceTo_3 (by decide) ?_
  refine z_callVe C (tw_obj) rfl (ct_X4_microphone D B m 0 (by omega)) q2063 q2065 qs41 q106 q2066 np_X4_microphone (zr_ok rfl rfl) rfl rfl (Nat.le_of_ble_eq_true rfl) (⟨Nat.le_of_ble_eq_true rfl, Nat.le_of_ble_eq_true rfl⟩) dX4_distanceTo_4 ?_
  refine z_isub C dX4_distanceTo_7 ?_
  refine z_i2l C dX4_distanceTo_8 rfl ?_
  refine z_lstore C dX4_distanceTo_9 (Nat.le_of_ble_eq_true rfl) rfl ?_
  refine z_iload_n (i := 3) C dX4_distanceTo_11 rfl rfl ?_
  refine z_aload_n (i := 0) C dX4_distanceTo_12 rfl rfl ?_
  refine z_iload_n (i := 1) C dX4_distanceTo_13 rfl rfl ?_
  refine z_iconst (v := 1) C dX4_distanceTo_14 (by decide) ?_
  refine z_callVe C (tw_obj) rfl (ct_X4_microphone D B m 1 (by omega)) q2063 q2065 qs41 q106 q2066 np_X4_microphone (zr_ok rfl rfl) rfl rfl (Nat.le_of_ble_eq_true rfl) (⟨Nat.le_of_ble_eq_true rfl, Nat.le_of_ble_eq_true rfl⟩) dX4_distanceTo_15 ?_
  refine z_isub C dX4_distanceTo_18 ?_
  refine z_i2l C dX4_distanceTo_19 rfl ?_
  refine z_lstore C dX4_distanceTo_20 (Nat.le_of_ble_eq_true rfl) rfl ?_
  refine z_iload C dX4_distanceTo_22 rfl ?_
  refine z_aload_n (i := 0) C dX4_distanceTo_24 rfl rfl ?_
  refine z_iload_n (i := 1) C dX4_distanceTo_25 rfl rfl ?_
  refine z_iconst (v := 2) C dX4_distanceTo_26 (by decide) ?_
  refine z_callVe C (tw_obj) rfl (ct_X4_microphone D B m 2 (by omega)) q2063 q2065 qs41 q106 q2066 np_X4_microphone (zr_ok rfl rfl) rfl rfl (Nat.le_of_ble_eq_true rfl) (⟨Nat.le_of_ble_eq_true rfl, Nat.le_of_ble_eq_true rfl⟩) dX4_distanceTo_27 ?_
  refine z_isub C dX4_distanceTo_30 ?_
  refine z_i2l C dX4_distanceTo_31 rfl ?_
  refine z_lstore C dX4_distanceTo_32 (Nat.le_of_ble_eq_true rfl) rfl ?_
  refine z_lload C dX4_distanceTo_34 rfl ?_
  refine z_lload C dX4_distanceTo_36 rfl ?_
  refine z_lmul C dX4_distanceTo_38 ?_
  refine z_lload C dX4_distanceTo_39 rfl ?_
  refine z_lload C dX4_distanceTo_41 rfl ?_
  refine z_lmul C dX4_distanceTo_43 ?_
  refine z_ladd C dX4_distanceTo_44 ?_
  refine z_lload C dX4_distanceTo_45 rfl ?_
  refine z_lload C dX4_distanceTo_47 rfl ?_
  refine z_lmul C dX4_distanceTo_49 ?_
  refine z_ladd C dX4_distanceTo_50 ?_
  obtain ⟨n, hn, hq⟩ := hok
  refine z_setl hq ?_
  refine z_callSe C (ct_X4_root D B n hn) q2067 q2068 q106 q2069 np_X4_root (zr_ok rfl rfl) rfl rfl (Nat.le_of_ble_eq_true rfl) (⟨Nat.le_of_ble_eq_true rfl, Nat.le_of_ble_eq_true rfl⟩) dX4_distanceTo_51 ?_
  exact z_ireturn C rfl (rfl) dX4_distanceTo_54 (⟨zvs (zd_of hn hq).symm, rfl⟩) (Nat.le_of_ble_eq_true rfl) (Nat.le_of_ble_eq_true rfl)
theorem np_X4_placeX : znp yX4_placeX 3 := ⟨by decide +kernel, by decide +kernel, by decide +kernel⟩
theorem np_X4_distanceTo : znp yX4_distanceTo 4 := ⟨by decide +kernel, by decide +kernel, by decide +kernel⟩
set_option maxHeartbeats 4000000 in
set_option maxRecDepth 100000 in
theorem ct_X4_layDistances (D : zG) (B : Nat) {b : zH} {t : tA} {st : Nat → Int32} {bk : Nat → Int32} {sv : Nat → Int32} {iz : Nat → Int32} {th : Int32} {di : Nat → Int32} {re : Nat → Int32} {si : Nat → Int32} {pa : Nat → Int32} {fo : Nat → Int64} {te : Nat → Int32} {tl : Int32} {po : Int32} {ts : Int32} {to : Int32} {le : Int32} {nu : Int32} {ec : Int32} {ep : Int32} {wo : Int64} (m : Nat) (v : Option Nat) (x y z : Int32) (hm : m < 8) (hv : ∀ k, v = some k → k < 4) (hok : ∀ j, j < 256 → zddok st m v x y z j ∧ zddok st m v x y (-z) j) : Ct D B yX4_layDistances (ws_ yX4_layDistances cX4_layDistances 8 none) (zr 2) [.ref (t.1 0), .int (nI m), .int (zvi v), .int x, .int y, .int z] (tw b t st bk sv iz th di re si pa fo te tl po ts to le nu ec ep wo) (fun w G9 => w = none ∧ ∃ dx rx : Nat → Int32, G9 = (tw b t st bk sv iz th dx rx si pa fo te tl po ts to le nu ec ep wo) ∧ ∀ j, j < 256 → dx j = zdd st m v x y z j ∧ rx j = zdd st m v x y (-z) j) zno := by
  refine ct_intro (by decide +kernel) (Nat.le_of_ble_eq_true rfl) ?_
  intro X C
  refine z_iconst (v := 0) C dX4_layDistances_0 (by decide) ?_
  refine z_istore C dX4_layDistances_1 (Nat.le_of_ble_eq_true rfl) rfl ?_
  have lp3 : ∀ (μ : Nat) (i : Nat) (dx rx : Nat → Int32) (h1 : i ≤ 256) (h2 : ∀ j, j < i → dx j = zdd st m v x y z j ∧ rx j = zdd st m v x y (-z) j), 256 - i < μ → Z X 3 [some (.ref (t.1 0)), some (.int (nI m)), some (.int (zvi v)), some (.int x), some (.int y), some (.int z), some (.int (nI i)), none] [] (tw b t st bk sv iz th dx rx si pa fo te tl po ts to le nu ec ep wo) 0 0 := by
    intro μ
    induction μ with
    | zero => intro i dx rx h1 h2 hμ; exact absurd hμ (Nat.not_lt_zero _)
    | succ μ ih3 =>
      intro i dx rx h1 h2 hμ
      refine z_iload C dX4_layDistances_3 rfl ?_
      refine z_sipush (v := 256) C dX4_layDistances_5 (by decide) ?_
      refine z_icmp_ge (tgt := 64) C dX4_layDistances_8 (by decide) (fun c_8 => ?_) (fun c_8 => ?_)
      · have h3 : i = 256 := by have := zge (b := 256) c_8 (by omega) (by decide); omega
        subst h3
        exact z_return C rfl dX4_layDistances_64 (⟨rfl, dx, rx, rfl, h2⟩) (Nat.le_of_ble_eq_true rfl) (Nat.le_of_ble_eq_true rfl)
      · have h3 := znge (b := 256) c_8 (by omega) (by decide)
        refine z_aload_n (i := 0) C dX4_layDistances_11 rfl rfl ?_
        refine z_iload_n (i := 2) C dX4_layDistances_12 rfl rfl ?_
        refine z_iload_n (i := 3) C dX4_layDistances_13 rfl rfl ?_
        refine z_iload C dX4_layDistances_14 rfl ?_
        refine z_callVe C (tw_obj) rfl (ct_X4_placeX D B v x (nI i) hv) q2055 q2057 qs39 q106 q2058 np_X4_placeX (zr_ok rfl rfl) rfl rfl (Nat.le_of_ble_eq_true rfl) (⟨Nat.le_of_ble_eq_true rfl, Nat.le_of_ble_eq_true rfl⟩) dX4_layDistances_16 ?_
        refine z_istore C dX4_layDistances_19 (Nat.le_of_ble_eq_true rfl) rfl ?_
        refine z_aload_n (i := 0) C dX4_layDistances_21 rfl rfl ?_
        refine tg_distances C q1869 dX4_layDistances_22 ?_
        refine z_iload C dX4_layDistances_25 rfl ?_
        refine z_aload_n (i := 0) C dX4_layDistances_27 rfl rfl ?_
        refine z_iload_n (i := 1) C dX4_layDistances_28 rfl rfl ?_
        refine z_iload C dX4_layDistances_29 rfl ?_
        refine z_iload C dX4_layDistances_31 rfl ?_
        refine z_iload C dX4_layDistances_33 rfl ?_
        refine z_callVe C (tw_obj) rfl (ct_X4_distanceTo D B m _ _ _ hm (hok i h3).1) q2059 q2061 qs40 q106 q2062 np_X4_distanceTo (zr_ok rfl rfl) rfl rfl (Nat.le_of_ble_eq_true rfl) (⟨Nat.le_of_ble_eq_true rfl, Nat.le_of_ble_eq_true rfl⟩) dX4_layDistances_35 ?_
        refine ts_distances C (⟨rfl, h3⟩) dX4_layDistances_38 ?_
        refine z_aload_n (i := 0) C dX4_layDistances_39 rfl rfl ?_
        refine tg_reflections C q1870 dX4_layDistances_40 ?_
        refine z_iload C dX4_layDistances_43 rfl ?_
        refine z_aload_n (i := 0) C dX4_layDistances_45 rfl rfl ?_
        refine z_iload_n (i := 1) C dX4_layDistances_46 rfl rfl ?_
        refine z_iload C dX4_layDistances_47 rfl ?_
        refine z_iload C dX4_layDistances_49 rfl ?_
        refine z_iload C dX4_layDistances_51 rfl ?_
        refine z_ineg C dX4_layDistances_53 ?_
        refine z_callVe C (tw_obj) rfl (ct_X4_distanceTo D B m _ _ _ hm (hok i h3).2) q2059 q2061 qs40 q106 q2062 np_X4_distanceTo (zr_ok rfl rfl) rfl rfl (Nat.le_of_ble_eq_true rfl) (⟨Nat.le_of_ble_eq_true rfl, Nat.le_of_ble_eq_true rfl⟩) dX4_layDistances_54 ?_
        refine ts_reflections C (⟨rfl, h3⟩) dX4_layDistances_57 ?_
        refine z_iinc (v := nI (i + 1)) C dX4_layDistances_58 rfl (ziinc i) (Nat.le_of_ble_eq_true rfl) rfl ?_
        refine z_goto (tgt := 3) C dX4_layDistances_61 (by decide) ?_
        exact z_convG (ih3 (i + 1) _ _ (by omega) (fun j hj => by unfold upd; by_cases e : j = i; (· subst e; exact ⟨if_pos rfl, if_pos rfl⟩); (· rw [if_neg e, if_neg e]; exact h2 j (by omega))) (by omega)) (And.intro (rfl) (And.intro (rfl) (And.intro (rfl) (And.intro (rfl) (And.intro (rfl) (And.intro (rfl) (And.intro (rfl) trivial))))))) (Nat.le_of_ble_eq_true rfl) (Nat.le_of_ble_eq_true rfl)
  exact z_convG (lp3 257 0 di re (by omega) (fun j hj => by omega) (by omega)) (And.intro (rfl) (And.intro (rfl) (And.intro (rfl) (And.intro (rfl) (And.intro (rfl) (And.intro (rfl) (And.intro (rfl) trivial))))))) (Nat.le_of_ble_eq_true rfl) (Nat.le_of_ble_eq_true rfl)
theorem np_X4_source : znp yX4_source 2 := ⟨by decide +kernel, by decide +kernel, by decide +kernel⟩
theorem np_X4_layDistances : znp yX4_layDistances 5 := ⟨by decide +kernel, by decide +kernel, by decide +kernel⟩
set_option maxHeartbeats 4000000 in
set_option maxRecDepth 100000 in
theorem ct_X4_laySource (D : zG) (B : Nat) {b : zH} {t : tA} {st : Nat → Int32} {bk : Nat → Int32} {sv : Nat → Int32} {iz : Nat → Int32} {th : Int32} {di : Nat → Int32} {re : Nat → Int32} {si : Nat → Int32} {pa : Nat → Int32} {fo : Nat → Int64} {te : Nat → Int32} {tl : Int32} {po : Int32} {ts : Int32} {to : Int32} {le : Int32} {nu : Int32} {ec : Int32} {ep : Int32} {wo : Int64} (m s : Nat) (hm : m < 8) (hs : s < 6) (hv : st (28 + 21 * s + 0) = nI (zsv st s)) (hv4 : zsv st s < 4) (hok : ∀ j, j < 256 → zddok st m (some (zsv st s)) (st (28 + 21 * s + 1)) (st (16 + 3 * zsv st s + 2)) (st (28 + 21 * s + 2)) j ∧ zddok st m (some (zsv st s)) (st (28 + 21 * s + 1)) (st (16 + 3 * zsv st s + 2)) (-st (28 + 21 * s + 2)) j) : Ct D B yX4_laySource (ws_ yX4_laySource cX4_laySource 4 none) (zr 3) [.ref (t.1 0), .int (nI m), .int (nI s)] (tw b t st bk sv iz th di re si pa fo te tl po ts to le nu ec ep wo) (fun w G9 => w = none ∧ ∃ dx rx : Nat → Int32, G9 = (tw b t st bk sv iz th dx rx si pa fo te tl po ts to le nu ec ep wo) ∧ ∀ j, j < 256 → dx j = zdd st m (some (zsv st s)) (st (28 + 21 * s + 1)) (st (16 + 3 * zsv st s + 2)) (st (28 + 21 * s + 2)) j ∧ rx j = zdd st m (some (zsv st s)) (st (28 + 21 * s + 1)) (st (16 + 3 * zsv st s + 2)) (-st (28 + 21 * s + 2)) j) zno := by
  refine ct_intro (by decide +kernel) (Nat.le_of_ble_eq_true rfl) ?_
  intro X C
  refine z_aload_n (i := 0) C dX4_laySource_0 rfl rfl ?_
  refine z_iload_n (i := 2) C dX4_laySource_1 rfl rfl ?_
  refine z_iconst (v := 0) C dX4_laySource_2 (by decide) ?_
  refine z_callVe C (tw_obj) rfl (ct_X4_source D B s 0 (by omega)) q2001 q2003 qs32 q106 q2004 np_X4_source (zr_ok rfl rfl) rfl rfl (Nat.le_of_ble_eq_true rfl) (⟨Nat.le_of_ble_eq_true rfl, Nat.le_of_ble_eq_true rfl⟩) dX4_laySource_3 ?_
  refine z_seti hv ?_
  refine z_istore_n (i := 3) C dX4_laySource_6 rfl (Nat.le_of_ble_eq_true rfl) rfl ?_
  refine z_aload_n (i := 0) C dX4_laySource_7 rfl rfl ?_
  refine z_iload_n (i := 1) C dX4_laySource_8 rfl rfl ?_
  refine z_iload_n (i := 3) C dX4_laySource_9 rfl rfl ?_
  refine z_aload_n (i := 0) C dX4_laySource_10 rfl rfl ?_
  refine z_iload_n (i := 2) C dX4_laySource_11 rfl rfl ?_
  refine z_iconst (v := 1) C dX4_laySource_12 (by decide) ?_
  refine z_callVe C (tw_obj) rfl (ct_X4_source D B s 1 (by omega)) q2001 q2003 qs32 q106 q2004 np_X4_source (zr_ok rfl rfl) rfl rfl (Nat.le_of_ble_eq_true rfl) (⟨Nat.le_of_ble_eq_true rfl, Nat.le_of_ble_eq_true rfl⟩) dX4_laySource_13 ?_
  refine z_aload_n (i := 0) C dX4_laySource_16 rfl rfl ?_
  refine z_iload_n (i := 3) C dX4_laySource_17 rfl rfl ?_
  refine z_iconst (v := 2) C dX4_laySource_18 (by decide) ?_
  refine z_callVe C (tw_obj) rfl (ct_X4_vehicle D B (zsv st s) 2 (by omega)) q2047 q2049 qs37 q106 q2050 np_X4_vehicle (zr_ok rfl rfl) rfl rfl (Nat.le_of_ble_eq_true rfl) (⟨Nat.le_of_ble_eq_true rfl, Nat.le_of_ble_eq_true rfl⟩) dX4_laySource_19 ?_
  refine z_aload_n (i := 0) C dX4_laySource_22 rfl rfl ?_
  refine z_iload_n (i := 2) C dX4_laySource_23 rfl rfl ?_
  refine z_iconst (v := 2) C dX4_laySource_24 (by decide) ?_
  refine z_callVe C (tw_obj) rfl (ct_X4_source D B s 2 (by omega)) q2001 q2003 qs32 q106 q2004 np_X4_source (zr_ok rfl rfl) rfl rfl (Nat.le_of_ble_eq_true rfl) (⟨Nat.le_of_ble_eq_true rfl, Nat.le_of_ble_eq_true rfl⟩) dX4_laySource_25 ?_
  refine z_callVn C (tw_obj) rfl (ct_X4_layDistances D B m (some (zsv st s)) _ _ _ hm (fun k hk => by cases hk; exact hv4) hok) q2051 q2053 qs38 q106 q2054 np_X4_layDistances (zr_ok rfl rfl) rfl rfl (Nat.le_of_ble_eq_true rfl) (⟨Nat.le_of_ble_eq_true rfl, Nat.le_of_ble_eq_true rfl⟩) dX4_laySource_28 ?_
  intro v9 G9 h9
  obtain ⟨rfl, dx, rx, rfl, h2⟩ := h9
  exact z_return C rfl dX4_laySource_31 (⟨rfl, dx, rx, rfl, h2⟩) (Nat.le_of_ble_eq_true rfl) (Nat.le_of_ble_eq_true rfl)
set_option maxHeartbeats 4000000 in
set_option maxRecDepth 100000 in
theorem ct_X4_markOf (D : zG) (B : Nat) {b : zH} {t : tA} {st : Nat → Int32} {bk : Nat → Int32} {sv : Nat → Int32} {iz : Nat → Int32} {th : Int32} {di : Nat → Int32} {re : Nat → Int32} {si : Nat → Int32} {pa : Nat → Int32} {fo : Nat → Int64} {te : Nat → Int32} {tl : Int32} {po : Int32} {ts : Int32} {to : Int32} {le : Int32} {nu : Int32} {ec : Int32} {ep : Int32} {wo : Int64} (j : Nat) (r : Int32) (hj : j < 256) : Ct D B yX4_markOf (ws_ yX4_markOf cX4_markOf 3 (some .int)) (zr 0) [.ref (t.1 0), .int (nI j), .int r] (tw b t st bk sv iz th di re si pa fo te tl po ts to le nu ec ep wo) (zpe (some (.int (nI j * st 0 + (if r = 0 then di j else re j)))) (tw b t st bk sv iz th di re si pa fo te tl po ts to le nu ec ep wo)) zno := by
  refine ct_intro (by decide +kernel) (Nat.le_of_ble_eq_true rfl) ?_
  intro X C
  refine z_iload_n (i := 1) C dX4_markOf_0 rfl rfl ?_
  refine z_aload_n (i := 0) C dX4_markOf_1 rfl rfl ?_
  refine tg_state C q1864 dX4_markOf_2 ?_
  refine z_iconst (v := 0) C dX4_markOf_5 (by decide) ?_
  refine tl_state C (⟨(rfl : (0 : Int32) = nI 0), by decide⟩) dX4_markOf_6 ?_
  refine z_imul C dX4_markOf_7 ?_
  refine z_iload_n (i := 2) C dX4_markOf_8 rfl rfl ?_
  refine z_if_eq (tgt := 21) C dX4_markOf_9 (by decide) (fun c_9 => ?_) (fun c_9 => ?_)
  · refine z_aload_n (i := 0) C dX4_markOf_21 rfl rfl ?_
    refine tg_distances C q1869 dX4_markOf_22 ?_
    refine z_iload_n (i := 1) C dX4_markOf_25 rfl rfl ?_
    refine tl_distances C (⟨rfl, hj⟩) dX4_markOf_26 ?_
    refine z_iadd C dX4_markOf_27 ?_
    exact z_ireturn C rfl (rfl) dX4_markOf_28 (⟨zvs (by simp [c_9]), rfl⟩) (Nat.le_of_ble_eq_true rfl) (Nat.le_of_ble_eq_true rfl)
  · refine z_aload_n (i := 0) C dX4_markOf_12 rfl rfl ?_
    refine tg_reflections C q1870 dX4_markOf_13 ?_
    refine z_iload_n (i := 1) C dX4_markOf_16 rfl rfl ?_
    refine tl_reflections C (⟨rfl, hj⟩) dX4_markOf_17 ?_
    refine z_goto (tgt := 27) C dX4_markOf_18 (by decide) ?_
    refine z_iadd C dX4_markOf_27 ?_
    exact z_ireturn C rfl (rfl) dX4_markOf_28 (⟨zvs (by simp [c_9]), rfl⟩) (Nat.le_of_ble_eq_true rfl) (Nat.le_of_ble_eq_true rfl)
theorem np_X4_markOf : znp yX4_markOf 2 := ⟨by decide +kernel, by decide +kernel, by decide +kernel⟩
set_option maxHeartbeats 4000000 in
set_option maxRecDepth 100000 in
theorem ct_X4_latest (D : zG) (B : Nat) {b : zH} {t : tA} {st : Nat → Int32} {bk : Nat → Int32} {sv : Nat → Int32} {iz : Nat → Int32} {th : Int32} {di : Nat → Int32} {re : Nat → Int32} {si : Nat → Int32} {pa : Nat → Int32} {fo : Nat → Int64} {te : Nat → Int32} {tl : Int32} {po : Int32} {ts : Int32} {to : Int32} {le : Int32} {nu : Int32} {ec : Int32} {ep : Int32} {wo : Int64} (x r : Int32)  : Ct D B yX4_latest (ws_ yX4_latest cX4_latest 5 (some .int)) (zr 1) [.ref (t.1 0), .int x, .int r] (tw b t st bk sv iz th di re si pa fo te tl po ts to le nu ec ep wo) (zpe (some (.int (zlat (fun j => nI j * st 0 + (if r = 0 then di j else re j)) (x * st 0) 256))) (tw b t st bk sv iz th di re si pa fo te tl po ts to le nu ec ep wo)) zno := by
  refine ct_intro (by decide +kernel) (Nat.le_of_ble_eq_true rfl) ?_
  intro X C
  refine z_iconst (v := (-1)) C dX4_latest_0 (by decide) ?_
  refine z_istore_n (i := 3) C dX4_latest_1 rfl (Nat.le_of_ble_eq_true rfl) rfl ?_
  refine z_iconst (v := 0) C dX4_latest_2 (by decide) ?_
  refine z_istore C dX4_latest_3 (Nat.le_of_ble_eq_true rfl) rfl ?_
  have lp5 : ∀ (μ : Nat) (i : Nat) (h1 : i ≤ 256), 256 - i < μ → Z X 5 [some (.ref (t.1 0)), some (.int x), some (.int r), some (.int (zlat (fun j => nI j * st 0 + (if r = 0 then di j else re j)) (x * st 0) i)), some (.int (nI i))] [] (tw b t st bk sv iz th di re si pa fo te tl po ts to le nu ec ep wo) 0 0 := by
    intro μ
    induction μ with
    | zero => intro i h1 hμ; exact absurd hμ (Nat.not_lt_zero _)
    | succ μ ih5 =>
      intro i h1 hμ
      refine z_iload C dX4_latest_5 rfl ?_
      refine z_sipush (v := 256) C dX4_latest_7 (by decide) ?_
      refine z_icmp_ge (tgt := 44) C dX4_latest_10 (by decide) (fun c_10 => ?_) (fun c_10 => ?_)
      · have h3 : i = 256 := by have := zge (b := 256) c_10 (by omega) (by decide); omega
        subst h3
        refine z_iload_n (i := 3) C dX4_latest_44 rfl rfl ?_
        exact z_ireturn C rfl (rfl) dX4_latest_45 (⟨rfl, rfl⟩) (Nat.le_of_ble_eq_true rfl) (Nat.le_of_ble_eq_true rfl)
      · have h3 := znge (b := 256) c_10 (by omega) (by decide)
        refine z_aload_n (i := 0) C dX4_latest_13 rfl rfl ?_
        refine z_iload C dX4_latest_14 rfl ?_
        refine z_iload_n (i := 2) C dX4_latest_16 rfl rfl ?_
        refine z_callVe C (tw_obj) rfl (ct_X4_markOf D B i r h3) q2080 q2082 qs43 q106 q2083 np_X4_markOf (zr_ok rfl rfl) rfl rfl (Nat.le_of_ble_eq_true rfl) (⟨Nat.le_of_ble_eq_true rfl, Nat.le_of_ble_eq_true rfl⟩) dX4_latest_17 ?_
        refine z_iload_n (i := 1) C dX4_latest_20 rfl rfl ?_
        refine z_aload_n (i := 0) C dX4_latest_21 rfl rfl ?_
        refine tg_state C q1864 dX4_latest_22 ?_
        refine z_iconst (v := 0) C dX4_latest_25 (by decide) ?_
        refine tl_state C (⟨(rfl : (0 : Int32) = nI 0), by decide⟩) dX4_latest_26 ?_
        refine z_imul C dX4_latest_27 ?_
        refine z_icmp_gt (tgt := 36) C dX4_latest_28 (by decide) (fun c_28 => ?_) (fun c_28 => ?_)
        · refine z_iload_n (i := 3) C dX4_latest_36 rfl rfl ?_
          refine z_istore_n (i := 3) C dX4_latest_37 rfl (Nat.le_of_ble_eq_true rfl) rfl ?_
          refine z_iinc (v := nI (i + 1)) C dX4_latest_38 rfl (ziinc i) (Nat.le_of_ble_eq_true rfl) rfl ?_
          refine z_goto (tgt := 5) C dX4_latest_41 (by decide) ?_
          exact z_convG (ih5 (i + 1) (by omega) (by omega)) (And.intro (rfl) (And.intro (rfl) (And.intro (rfl) (And.intro (by simp only [zlat]; first | rw [if_pos (Int32.not_lt.mp c_28)] | rw [if_neg (Int32.not_le.mpr c_28)]) (And.intro (rfl) trivial))))) (Nat.le_of_ble_eq_true rfl) (Nat.le_of_ble_eq_true rfl)
        · refine z_iload C dX4_latest_31 rfl ?_
          refine z_goto (tgt := 37) C dX4_latest_33 (by decide) ?_
          refine z_istore_n (i := 3) C dX4_latest_37 rfl (Nat.le_of_ble_eq_true rfl) rfl ?_
          refine z_iinc (v := nI (i + 1)) C dX4_latest_38 rfl (ziinc i) (Nat.le_of_ble_eq_true rfl) rfl ?_
          refine z_goto (tgt := 5) C dX4_latest_41 (by decide) ?_
          exact z_convG (ih5 (i + 1) (by omega) (by omega)) (And.intro (rfl) (And.intro (rfl) (And.intro (rfl) (And.intro (by simp only [zlat]; first | rw [if_pos (Int32.not_lt.mp c_28)] | rw [if_neg (Int32.not_le.mpr c_28)]) (And.intro (rfl) trivial))))) (Nat.le_of_ble_eq_true rfl) (Nat.le_of_ble_eq_true rfl)
  exact z_convG (lp5 257 0 (by omega) (by omega)) (And.intro (rfl) (And.intro (rfl) (And.intro (rfl) (And.intro (rfl) (And.intro (rfl) trivial))))) (Nat.le_of_ble_eq_true rfl) (Nat.le_of_ble_eq_true rfl)
set_option maxHeartbeats 4000000 in
set_option maxRecDepth 100000 in
theorem ct_X4_emittedBy (D : zG) (B : Nat) {b : zH} {t : tA} {st : Nat → Int32} {bk : Nat → Int32} {sv : Nat → Int32} {iz : Nat → Int32} {th : Int32} {di : Nat → Int32} {re : Nat → Int32} {si : Nat → Int32} {pa : Nat → Int32} {fo : Nat → Int64} {te : Nat → Int32} {tl : Int32} {po : Int32} {ts : Int32} {to : Int32} {le : Int32} {nu : Int32} {ec : Int32} {ep : Int32} {wo : Int64} (s j : Nat) (hs : s < 6) (hj : j < 256) (n : Nat) (hn : st (28 + 21 * s + 4) = nI n) (hn1 : 0 < n) (hn2 : n ≤ 16) : Ct D B yX4_emittedBy (ws_ yX4_emittedBy cX4_emittedBy 3 (some .int)) (zr 1) [.ref (t.1 0), .int (nI s), .int (nI j)] (tw b t st bk sv iz th di re si pa fo te tl po ts to le nu ec ep wo) (zpe (some (.int (zem st s j))) (tw b t st bk sv iz th di re si pa fo te tl po ts to le nu ec ep wo)) zno := by
  refine ct_intro (by decide +kernel) (Nat.le_of_ble_eq_true rfl) ?_
  intro X C
  refine z_aload_n (i := 0) C dX4_emittedBy_0 rfl rfl ?_
  refine z_iload_n (i := 1) C dX4_emittedBy_1 rfl rfl ?_
  refine z_iconst (v := 5) C dX4_emittedBy_2 (by decide) ?_
  refine z_iload_n (i := 2) C dX4_emittedBy_3 rfl rfl ?_
  refine z_aload_n (i := 0) C dX4_emittedBy_4 rfl rfl ?_
  refine z_iload_n (i := 1) C dX4_emittedBy_5 rfl rfl ?_
  refine z_iconst (v := 4) C dX4_emittedBy_6 (by decide) ?_
  refine z_callVe C (tw_obj) rfl (ct_X4_source D B s 4 (by omega)) q2001 q2003 qs32 q106 q2004 np_X4_source (zr_ok rfl rfl) rfl rfl (Nat.le_of_ble_eq_true rfl) (⟨Nat.le_of_ble_eq_true rfl, Nat.le_of_ble_eq_true rfl⟩) dX4_emittedBy_7 ?_
  refine z_seti hn ?_
  refine z_irem C dX4_emittedBy_10 (nI_ne0 hn1 (by omega)) ?_
  have hmod := Nat.mod_lt j hn1
  refine z_seti (y := nI (j % n)) (pk_rem (by omega) hn1 (by omega)) ?_
  refine z_iadd C dX4_emittedBy_11 ?_
  refine z_seti (y := nI (5 + j % n)) (nI_add 5 _) ?_
  refine z_callVe C (tw_obj) rfl (ct_X4_source D B s (5 + j % n) (by omega)) q2001 q2003 qs32 q106 q2004 np_X4_source (zr_ok rfl rfl) rfl rfl (Nat.le_of_ble_eq_true rfl) (⟨Nat.le_of_ble_eq_true rfl, Nat.le_of_ble_eq_true rfl⟩) dX4_emittedBy_12 ?_
  refine z_aload_n (i := 0) C dX4_emittedBy_15 rfl rfl ?_
  refine z_iload_n (i := 1) C dX4_emittedBy_16 rfl rfl ?_
  refine z_iconst (v := 3) C dX4_emittedBy_17 (by decide) ?_
  refine z_callVe C (tw_obj) rfl (ct_X4_source D B s 3 (by omega)) q2001 q2003 qs32 q106 q2004 np_X4_source (zr_ok rfl rfl) rfl rfl (Nat.le_of_ble_eq_true rfl) (⟨Nat.le_of_ble_eq_true rfl, Nat.le_of_ble_eq_true rfl⟩) dX4_emittedBy_18 ?_
  refine z_imul C dX4_emittedBy_21 ?_
  exact z_ireturn C rfl (rfl) dX4_emittedBy_22 (⟨zvs (by unfold zem; rw [hn, nI_clamp (by omega)]), rfl⟩) (Nat.le_of_ble_eq_true rfl) (Nat.le_of_ble_eq_true rfl)
