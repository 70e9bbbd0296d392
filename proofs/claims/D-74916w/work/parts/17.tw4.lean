/-! the twin: the recording -/
theorem np_J12_abs : znp yJ12_abs 1 := ⟨by decide +kernel, by decide +kernel, by decide +kernel⟩
set_option maxHeartbeats 4000000 in
set_option maxRecDepth 100000 in
theorem ct_X4_passTime_ok (D : zG) (B : Nat) {b : zH} {t : tA} {st : Nat → Int32} {bk : Nat → Int32} {sv : Nat → Int32} {iz : Nat → Int32} {th : Int32} {di : Nat → Int32} {re : Nat → Int32} {si : Nat → Int32} {pa : Nat → Int32} {fo : Nat → Int64} {te : Nat → Int32} {tl : Int32} {po : Int32} {ts : Int32} {to : Int32} {le : Int32} {nu : Int32} {ec : Int32} {ep : Int32} {wo : Int64} (v m : Nat) (hv0 : 0 ≤ nI v ∧ nI v ≤ st 6 - 1) (hv : v < 4) (hm0 : 0 ≤ nI m ∧ nI m ≤ st 8 - 1) (hm : m < 8) : Ct D B yX4_passTime (ws_ yX4_passTime cX4_passTime 7 (some .int)) (zr 2) [.ref (t.1 0), .int (nI v), .int (nI m)] (tw b t st bk sv iz th di re si pa fo te tl po ts to le nu ec ep wo) (zpe (some (.int ((zptA st v m 256).1))) (tw b t st bk sv iz 0 di re si pa fo te tl po ts to le nu ec ep wo)) zno := by
  refine ct_intro (by decide +kernel) (Nat.le_of_ble_eq_true rfl) ?_
  intro X C
  refine z_aload_n (i := 0) C dX4_passTime_0 rfl rfl ?_
  refine z_iconst (v := 0) C dX4_passTime_1 (by decide) ?_
  refine tp_thrown C q1868 dX4_passTime_2 ?_
  refine z_aload_n (i := 0) C dX4_passTime_5 rfl rfl ?_
  refine z_iload_n (i := 1) C dX4_passTime_6 rfl rfl ?_
  refine z_callVe C (tw_obj) rfl (ct_X4_isVehicle D B _) q1972 q1974 qs28 q106 q1975 np_X4_isVehicle (zr_ok rfl rfl) rfl rfl (Nat.le_of_ble_eq_true rfl) (⟨Nat.le_of_ble_eq_true rfl, Nat.le_of_ble_eq_true rfl⟩) dX4_passTime_7 ?_
  refine z_seti (zb_t (hv0)) ?_
  refine z_if_eq (tgt := 21) C dX4_passTime_10 (by decide) (fun c_10 => ?_) (fun c_10 => ?_)
  · exact absurd c_10 (by decide)
  · refine z_aload_n (i := 0) C dX4_passTime_13 rfl rfl ?_
    refine z_iload_n (i := 2) C dX4_passTime_14 rfl rfl ?_
    refine z_callVe C (tw_obj) rfl (ct_X4_isMicrophone D B _) q2020 q2022 qs34 q106 q2023 np_X4_isMicrophone (zr_ok rfl rfl) rfl rfl (Nat.le_of_ble_eq_true rfl) (⟨Nat.le_of_ble_eq_true rfl, Nat.le_of_ble_eq_true rfl⟩) dX4_passTime_15 ?_
    refine z_seti (zb_t (hm0)) ?_
    refine z_if_ne (tgt := 27) C dX4_passTime_18 (by decide) (fun c_18 => ?_) (fun c_18 => ?_)
    · refine z_iconst (v := 0) C dX4_passTime_27 (by decide) ?_
      refine z_istore_n (i := 3) C dX4_passTime_28 rfl (Nat.le_of_ble_eq_true rfl) rfl ?_
      refine z_iconst (v := 0) C dX4_passTime_29 (by decide) ?_
      refine z_istore C dX4_passTime_30 (Nat.le_of_ble_eq_true rfl) rfl ?_
      refine z_iconst (v := 0) C dX4_passTime_32 (by decide) ?_
      refine z_istore C dX4_passTime_33 (Nat.le_of_ble_eq_true rfl) rfl ?_
      have lp35 : ∀ (μ : Nat) (i : Nat) (h1 : i ≤ 256), 256 - i < μ → Z X 35 [some (.ref (t.1 0)), some (.int (nI v)), some (.int (nI m)), some (.int (zptA st v m i).1), some (.int (zptA st v m i).2), some (.int (nI i)), none] [] (tw b t st bk sv iz 0 di re si pa fo te tl po ts to le nu ec ep wo) 0 0 := by
        intro μ
        induction μ with
        | zero => intro i h1 hμ; exact absurd hμ (Nat.not_lt_zero _)
        | succ μ ih35 =>
          intro i h1 hμ
          refine z_iload C dX4_passTime_35 rfl ?_
          refine z_sipush (v := 256) C dX4_passTime_37 (by decide) ?_
          refine z_icmp_ge (tgt := 88) C dX4_passTime_40 (by decide) (fun c_40 => ?_) (fun c_40 => ?_)
          · have hend : i = 256 := by have := zge (b := 256) c_40 (by omega) (by decide); omega
            subst hend
            refine z_iload_n (i := 3) C dX4_passTime_88 rfl rfl ?_
            exact z_ireturn C rfl (rfl) dX4_passTime_89 (⟨rfl, rfl⟩) (Nat.le_of_ble_eq_true rfl) (Nat.le_of_ble_eq_true rfl)
          · have hlt := znge (b := 256) c_40 (by omega) (by decide)
            refine z_aload_n (i := 0) C dX4_passTime_43 rfl rfl ?_
            refine z_iload_n (i := 1) C dX4_passTime_44 rfl rfl ?_
            refine z_iconst (v := 0) C dX4_passTime_45 (by decide) ?_
            refine z_iload C dX4_passTime_46 rfl ?_
            refine z_callVe C (tw_obj) rfl (ct_X4_placeX D B (some v) 0 (nI i) (fun k hk => by cases hk; exact hv)) q2055 q2057 qs39 q106 q2058 np_X4_placeX (zr_ok rfl rfl) rfl rfl (Nat.le_of_ble_eq_true rfl) (⟨Nat.le_of_ble_eq_true rfl, Nat.le_of_ble_eq_true rfl⟩) dX4_passTime_48 ?_
            refine z_aload_n (i := 0) C dX4_passTime_51 rfl rfl ?_
            refine z_iload_n (i := 2) C dX4_passTime_52 rfl rfl ?_
            refine z_iconst (v := 0) C dX4_passTime_53 (by decide) ?_
            refine z_callVe C (tw_obj) rfl (ct_X4_microphone D B m 0 (by omega)) q2063 q2065 qs41 q106 q2066 np_X4_microphone (zr_ok rfl rfl) rfl rfl (Nat.le_of_ble_eq_true rfl) (⟨Nat.le_of_ble_eq_true rfl, Nat.le_of_ble_eq_true rfl⟩) dX4_passTime_54 ?_
            refine z_isub C dX4_passTime_57 ?_
            refine z_mabs C q2088 q1431 q97 q1432 (Nat.le_of_ble_eq_true rfl) (Nat.le_of_ble_eq_true rfl) (Nat.le_of_ble_eq_true rfl) (Nat.le_of_ble_eq_true rfl) dX4_passTime_58 ?_
            refine z_seti (zabI_eq _) ?_
            refine z_istore C dX4_passTime_61 (Nat.le_of_ble_eq_true rfl) rfl ?_
            refine z_iload C dX4_passTime_63 rfl ?_
            refine z_if_eq (tgt := 75) C dX4_passTime_65 (by decide) (fun c_65 => ?_) (fun c_65 => ?_)
            · refine z_iload C dX4_passTime_75 rfl ?_
              refine z_istore_n (i := 3) C dX4_passTime_77 rfl (Nat.le_of_ble_eq_true rfl) rfl ?_
              refine z_iload C dX4_passTime_78 rfl ?_
              refine z_istore C dX4_passTime_80 (Nat.le_of_ble_eq_true rfl) rfl ?_
              refine z_iinc (v := nI (i + 1)) C dX4_passTime_82 rfl (ziinc i) (Nat.le_of_ble_eq_true rfl) rfl ?_
              refine z_goto (tgt := 35) C dX4_passTime_85 (by decide) ?_
              exact z_convG (ih35 (i + 1) (by omega) (by omega)) (And.intro (rfl) (And.intro (rfl) (And.intro (rfl) (And.intro (by simp only [zptA]; first | rw [if_pos (Or.inl (by have := (nI_eq (b := 0) (by omega) (by decide)).mp c_65; omega))] | rw [if_pos (Or.inr (Int32.not_le.mp c_72))] | rw [if_neg (by rintro (q | q); (· exact c_65 (by rw [q]; rfl)); (· exact Int32.not_le.mpr q c_72))]) (And.intro (by simp only [zptA]; first | rw [if_pos (Or.inl (by have := (nI_eq (b := 0) (by omega) (by decide)).mp c_65; omega))] | rw [if_pos (Or.inr (Int32.not_le.mp c_72))] | rw [if_neg (by rintro (q | q); (· exact c_65 (by rw [q]; rfl)); (· exact Int32.not_le.mpr q c_72))]) (And.intro (rfl) trivial)))))) (Nat.le_of_ble_eq_true rfl) (Nat.le_of_ble_eq_true rfl)
            · refine z_iload C dX4_passTime_68 rfl ?_
              refine z_iload C dX4_passTime_70 rfl ?_
              refine z_icmp_ge (tgt := 82) C dX4_passTime_72 (by decide) (fun c_72 => ?_) (fun c_72 => ?_)
              · refine z_iinc (v := nI (i + 1)) C dX4_passTime_82 rfl (ziinc i) (Nat.le_of_ble_eq_true rfl) rfl ?_
                refine z_goto (tgt := 35) C dX4_passTime_85 (by decide) ?_
                exact z_convG (ih35 (i + 1) (by omega) (by omega)) (And.intro (rfl) (And.intro (rfl) (And.intro (rfl) (And.intro (by simp only [zptA]; first | rw [if_pos (Or.inl (by have := (nI_eq (b := 0) (by omega) (by decide)).mp c_65; omega))] | rw [if_pos (Or.inr (Int32.not_le.mp c_72))] | rw [if_neg (by rintro (q | q); (· exact c_65 (by rw [q]; rfl)); (· exact Int32.not_le.mpr q c_72))]) (And.intro (by simp only [zptA]; first | rw [if_pos (Or.inl (by have := (nI_eq (b := 0) (by omega) (by decide)).mp c_65; omega))] | rw [if_pos (Or.inr (Int32.not_le.mp c_72))] | rw [if_neg (by rintro (q | q); (· exact c_65 (by rw [q]; rfl)); (· exact Int32.not_le.mpr q c_72))]) (And.intro (rfl) trivial)))))) (Nat.le_of_ble_eq_true rfl) (Nat.le_of_ble_eq_true rfl)
              · refine z_iload C dX4_passTime_75 rfl ?_
                refine z_istore_n (i := 3) C dX4_passTime_77 rfl (Nat.le_of_ble_eq_true rfl) rfl ?_
                refine z_iload C dX4_passTime_78 rfl ?_
                refine z_istore C dX4_passTime_80 (Nat.le_of_ble_eq_true rfl) rfl ?_
                refine z_iinc (v := nI (i + 1)) C dX4_passTime_82 rfl (ziinc i) (Nat.le_of_ble_eq_true rfl) rfl ?_
                refine z_goto (tgt := 35) C dX4_passTime_85 (by decide) ?_
                exact z_convG (ih35 (i + 1) (by omega) (by omega)) (And.intro (rfl) (And.intro (rfl) (And.intro (rfl) (And.intro (by simp only [zptA]; first | rw [if_pos (Or.inl (by have := (nI_eq (b := 0) (by omega) (by decide)).mp c_65; omega))] | rw [if_pos (Or.inr (Int32.not_le.mp c_72))] | rw [if_neg (by rintro (q | q); (· exact c_65 (by rw [q]; rfl)); (· exact Int32.not_le.mpr q c_72))]) (And.intro (by simp only [zptA]; first | rw [if_pos (Or.inl (by have := (nI_eq (b := 0) (by omega) (by decide)).mp c_65; omega))] | rw [if_pos (Or.inr (Int32.not_le.mp c_72))] | rw [if_neg (by rintro (q | q); (· exact c_65 (by rw [q]; rfl)); (· exact Int32.not_le.mpr q c_72))]) (And.intro (rfl) trivial)))))) (Nat.le_of_ble_eq_true rfl) (Nat.le_of_ble_eq_true rfl)
      exact z_convG (lp35 257 0 (by omega) (by omega)) (And.intro (rfl) (And.intro (rfl) (And.intro (rfl) (And.intro (rfl) (And.intro (rfl) (And.intro (rfl) trivial)))))) (Nat.le_of_ble_eq_true rfl) (Nat.le_of_ble_eq_true rfl)
    · exact absurd c_18 (by decide)
set_option maxHeartbeats 4000000 in
set_option maxRecDepth 100000 in
theorem ct_X4_passTime_1a (D : zG) (B : Nat) {b : zH} {t : tA} {st : Nat → Int32} {bk : Nat → Int32} {sv : Nat → Int32} {iz : Nat → Int32} {th : Int32} {di : Nat → Int32} {re : Nat → Int32} {si : Nat → Int32} {pa : Nat → Int32} {fo : Nat → Int64} {te : Nat → Int32} {tl : Int32} {po : Int32} {ts : Int32} {to : Int32} {le : Int32} {nu : Int32} {ec : Int32} {ep : Int32} {wo : Int64} (v m : Int32) (h1 : ¬ (0 ≤ v ∧ v ≤ st 6 - 1)) : Ct D B yX4_passTime (ws_ yX4_passTime cX4_passTime 7 (some .int)) (zr 2) [.ref (t.1 0), .int v, .int m] (tw b t st bk sv iz th di re si pa fo te tl po ts to le nu ec ep wo) (zpe (some (.int (0))) (tw b t st bk sv iz 1 di re si pa fo te tl po ts to le nu ec ep wo)) zno := by
  refine ct_intro (by decide +kernel) (Nat.le_of_ble_eq_true rfl) ?_
  intro X C
  refine z_aload_n (i := 0) C dX4_passTime_0 rfl rfl ?_
  refine z_iconst (v := 0) C dX4_passTime_1 (by decide) ?_
  refine tp_thrown C q1868 dX4_passTime_2 ?_
  refine z_aload_n (i := 0) C dX4_passTime_5 rfl rfl ?_
  refine z_iload_n (i := 1) C dX4_passTime_6 rfl rfl ?_
  refine z_callVe C (tw_obj) rfl (ct_X4_isVehicle D B _) q1972 q1974 qs28 q106 q1975 np_X4_isVehicle (zr_ok rfl rfl) rfl rfl (Nat.le_of_ble_eq_true rfl) (⟨Nat.le_of_ble_eq_true rfl, Nat.le_of_ble_eq_true rfl⟩) dX4_passTime_7 ?_
  refine z_seti (zb_f (h1)) ?_
  refine z_if_eq (tgt := 21) C dX4_passTime_10 (by decide) (fun c_10 => ?_) (fun c_10 => ?_)
  · refine z_aload_n (i := 0) C dX4_passTime_21 rfl rfl ?_
    refine z_iconst (v := 1) C dX4_passTime_22 (by decide) ?_
    refine z_callVe C (tw_obj) rfl (ct_X4_fail D B _) q1941 q1943 qs26 q106 q1944 np_X4_fail (zr_ok rfl rfl) rfl rfl (Nat.le_of_ble_eq_true rfl) (⟨Nat.le_of_ble_eq_true rfl, Nat.le_of_ble_eq_true rfl⟩) dX4_passTime_23 ?_
    exact z_ireturn C rfl (rfl) dX4_passTime_26 (⟨rfl, rfl⟩) (Nat.le_of_ble_eq_true rfl) (Nat.le_of_ble_eq_true rfl)
  · exact absurd rfl c_10
set_option maxHeartbeats 4000000 in
set_option maxRecDepth 100000 in
theorem ct_X4_passTime_1b (D : zG) (B : Nat) {b : zH} {t : tA} {st : Nat → Int32} {bk : Nat → Int32} {sv : Nat → Int32} {iz : Nat → Int32} {th : Int32} {di : Nat → Int32} {re : Nat → Int32} {si : Nat → Int32} {pa : Nat → Int32} {fo : Nat → Int64} {te : Nat → Int32} {tl : Int32} {po : Int32} {ts : Int32} {to : Int32} {le : Int32} {nu : Int32} {ec : Int32} {ep : Int32} {wo : Int64} (v m : Int32) (h1 : 0 ≤ v ∧ v ≤ st 6 - 1) (h2 : ¬ (0 ≤ m ∧ m ≤ st 8 - 1)) : Ct D B yX4_passTime (ws_ yX4_passTime cX4_passTime 7 (some .int)) (zr 2) [.ref (t.1 0), .int v, .int m] (tw b t st bk sv iz th di re si pa fo te tl po ts to le nu ec ep wo) (zpe (some (.int (0))) (tw b t st bk sv iz 1 di re si pa fo te tl po ts to le nu ec ep wo)) zno := by
  refine ct_intro (by decide +kernel) (Nat.le_of_ble_eq_true rfl) ?_
  intro X C
  refine z_aload_n (i := 0) C dX4_passTime_0 rfl rfl ?_
  refine z_iconst (v := 0) C dX4_passTime_1 (by decide) ?_
  refine tp_thrown C q1868 dX4_passTime_2 ?_
  refine z_aload_n (i := 0) C dX4_passTime_5 rfl rfl ?_
  refine z_iload_n (i := 1) C dX4_passTime_6 rfl rfl ?_
  refine z_callVe C (tw_obj) rfl (ct_X4_isVehicle D B _) q1972 q1974 qs28 q106 q1975 np_X4_isVehicle (zr_ok rfl rfl) rfl rfl (Nat.le_of_ble_eq_true rfl) (⟨Nat.le_of_ble_eq_true rfl, Nat.le_of_ble_eq_true rfl⟩) dX4_passTime_7 ?_
  refine z_seti (zb_t (h1)) ?_
  refine z_if_eq (tgt := 21) C dX4_passTime_10 (by decide) (fun c_10 => ?_) (fun c_10 => ?_)
  · exact absurd c_10 (by decide)
  · refine z_aload_n (i := 0) C dX4_passTime_13 rfl rfl ?_
    refine z_iload_n (i := 2) C dX4_passTime_14 rfl rfl ?_
    refine z_callVe C (tw_obj) rfl (ct_X4_isMicrophone D B _) q2020 q2022 qs34 q106 q2023 np_X4_isMicrophone (zr_ok rfl rfl) rfl rfl (Nat.le_of_ble_eq_true rfl) (⟨Nat.le_of_ble_eq_true rfl, Nat.le_of_ble_eq_true rfl⟩) dX4_passTime_15 ?_
    refine z_seti (zb_f (h2)) ?_
    refine z_if_ne (tgt := 27) C dX4_passTime_18 (by decide) (fun c_18 => ?_) (fun c_18 => ?_)
    · exact absurd rfl c_18
    · refine z_aload_n (i := 0) C dX4_passTime_21 rfl rfl ?_
      refine z_iconst (v := 1) C dX4_passTime_22 (by decide) ?_
      refine z_callVe C (tw_obj) rfl (ct_X4_fail D B _) q1941 q1943 qs26 q106 q1944 np_X4_fail (zr_ok rfl rfl) rfl rfl (Nat.le_of_ble_eq_true rfl) (⟨Nat.le_of_ble_eq_true rfl, Nat.le_of_ble_eq_true rfl⟩) dX4_passTime_23 ?_
      exact z_ireturn C rfl (rfl) dX4_passTime_26 (⟨rfl, rfl⟩) (Nat.le_of_ble_eq_true rfl) (Nat.le_of_ble_eq_true rfl)
set_option maxHeartbeats 4000000 in
set_option maxRecDepth 100000 in
theorem ct_X4_amountOf (D : zG) (B : Nat) {b : zH} {t : tA} {st : Nat → Int32} {bk : Nat → Int32} {sv : Nat → Int32} {iz : Nat → Int32} {th : Int32} {di : Nat → Int32} {re : Nat → Int32} {si : Nat → Int32} {pa : Nat → Int32} {fo : Nat → Int64} {te : Nat → Int32} {tl : Int32} {po : Int32} {ts : Int32} {to : Int32} {le : Int32} {nu : Int32} {ec : Int32} {ep : Int32} {wo : Int64} (v d r : Int32) (hd : ∃ e : Nat, e ≤ 70000 ∧ d = nI e) : Ct D B yX4_amountOf (ws_ yX4_amountOf cX4_amountOf 5 (some .int)) (zr 0) [.ref (t.1 0), .int v, .int d, .int r] (tw b t st bk sv iz th di re si pa fo te tl po ts to le nu ec ep wo) (zpe (some (.int (zam st v d r))) (tw b t st bk sv iz th di re si pa fo te tl po ts to le nu ec ep wo)) zno := by
  refine ct_intro (by decide +kernel) (Nat.le_of_ble_eq_true rfl) ?_
  intro X C
  refine z_aload_n (i := 0) C dX4_amountOf_0 rfl rfl ?_
  refine tg_state C q1864 dX4_amountOf_1 ?_
  refine z_iconst (v := 2) C dX4_amountOf_4 (by decide) ?_
  refine tl_state C (⟨(rfl : (2 : Int32) = nI 2), by decide⟩) dX4_amountOf_5 ?_
  refine z_iconst (v := 1) C dX4_amountOf_6 (by decide) ?_
  refine z_icmp_ne (tgt := 24) C dX4_amountOf_7 (by decide) (fun c_7 => ?_) (fun c_7 => ?_)
  · refine z_iload_n (i := 1) C dX4_amountOf_24 rfl rfl ?_
    refine z_istore C dX4_amountOf_25 (Nat.le_of_ble_eq_true rfl) rfl ?_
    refine z_iload_n (i := 3) C dX4_amountOf_27 rfl rfl ?_
    refine z_if_eq (tgt := 46) C dX4_amountOf_28 (by decide) (fun c_28 => ?_) (fun c_28 => ?_)
    · refine z_iload C dX4_amountOf_46 rfl ?_
      exact z_ireturn C rfl (rfl) dX4_amountOf_48 (⟨zvs (by unfold zam; simp [c_7, c_28]), rfl⟩) (Nat.le_of_ble_eq_true rfl) (Nat.le_of_ble_eq_true rfl)
    · refine z_iload C dX4_amountOf_31 rfl ?_
      refine z_aload_n (i := 0) C dX4_amountOf_33 rfl rfl ?_
      refine tg_state C q1864 dX4_amountOf_34 ?_
      refine z_iconst (v := 1) C dX4_amountOf_37 (by decide) ?_
      refine tl_state C (⟨(rfl : (1 : Int32) = nI 1), by decide⟩) dX4_amountOf_38 ?_
      refine z_imul C dX4_amountOf_39 ?_
      refine z_bipush (v := 100) C dX4_amountOf_40 (by decide) ?_
      refine z_idiv C dX4_amountOf_42 (by decide) ?_
      refine z_goto (tgt := 48) C dX4_amountOf_43 (by decide) ?_
      exact z_ireturn C rfl (rfl) dX4_amountOf_48 (⟨zvs (by unfold zam; simp [c_7, c_28]), rfl⟩) (Nat.le_of_ble_eq_true rfl) (Nat.le_of_ble_eq_true rfl)
  · refine z_iload_n (i := 1) C dX4_amountOf_10 rfl rfl ?_
    refine z_sipush (v := 1000) C dX4_amountOf_11 (by decide) ?_
    refine z_imul C dX4_amountOf_14 ?_
    refine z_sipush (v := 1000) C dX4_amountOf_15 (by decide) ?_
    refine z_iload_n (i := 2) C dX4_amountOf_18 rfl rfl ?_
    refine z_iadd C dX4_amountOf_19 ?_
    refine z_idiv C dX4_amountOf_20 (by obtain ⟨e, he, hq⟩ := hd; rw [hq, show (1000 : Int32) + nI e = nI (1000 + e) from nI_add 1000 e]; exact nI_ne0 (by omega) (by omega)) ?_
    refine z_goto (tgt := 25) C dX4_amountOf_21 (by decide) ?_
    refine z_istore C dX4_amountOf_25 (Nat.le_of_ble_eq_true rfl) rfl ?_
    refine z_iload_n (i := 3) C dX4_amountOf_27 rfl rfl ?_
    refine z_if_eq (tgt := 46) C dX4_amountOf_28 (by decide) (fun c_28 => ?_) (fun c_28 => ?_)
    · refine z_iload C dX4_amountOf_46 rfl ?_
      exact z_ireturn C rfl (rfl) dX4_amountOf_48 (⟨zvs (by unfold zam; simp [c_7, c_28]), rfl⟩) (Nat.le_of_ble_eq_true rfl) (Nat.le_of_ble_eq_true rfl)
    · refine z_iload C dX4_amountOf_31 rfl ?_
      refine z_aload_n (i := 0) C dX4_amountOf_33 rfl rfl ?_
      refine tg_state C q1864 dX4_amountOf_34 ?_
      refine z_iconst (v := 1) C dX4_amountOf_37 (by decide) ?_
      refine tl_state C (⟨(rfl : (1 : Int32) = nI 1), by decide⟩) dX4_amountOf_38 ?_
      refine z_imul C dX4_amountOf_39 ?_
      refine z_bipush (v := 100) C dX4_amountOf_40 (by decide) ?_
      refine z_idiv C dX4_amountOf_42 (by decide) ?_
      refine z_goto (tgt := 48) C dX4_amountOf_43 (by decide) ?_
      exact z_ireturn C rfl (rfl) dX4_amountOf_48 (⟨zvs (by unfold zam; simp [c_7, c_28]), rfl⟩) (Nat.le_of_ble_eq_true rfl) (Nat.le_of_ble_eq_true rfl)
theorem np_X4_amountOf : znp yX4_amountOf 3 := ⟨by decide +kernel, by decide +kernel, by decide +kernel⟩
set_option maxHeartbeats 4000000 in
set_option maxRecDepth 100000 in
theorem ct_X4_hear (D : zG) (B : Nat) {b : zH} {t : tA} {st : Nat → Int32} {bk : Nat → Int32} {sv : Nat → Int32} {iz : Nat → Int32} {th : Int32} {di : Nat → Int32} {re : Nat → Int32} {si : Nat → Int32} {pa : Nat → Int32} {fo : Nat → Int64} {te : Nat → Int32} {tl : Int32} {po : Int32} {ts : Int32} {to : Int32} {le : Int32} {nu : Int32} {ec : Int32} {ep : Int32} {wo : Int64} (m s : Nat) (r : Int32) (hm : m < 8) (hs : s < 6) (n4 : Nat) (hn4 : st (28 + 21 * s + 4) = nI n4) (hn1 : 0 < n4) (hn2 : n4 ≤ 16) (hmo : zmono (fun j => nI j * st 0 + (if r = 0 then di j else re j))) (hsn : ∀ i j : Nat, i ≤ j → j < 256 → nI i * st 0 ≤ nI j * st 0) (hd : ∀ j, j < 256 → (∃ e : Nat, e ≤ 70000 ∧ di j = nI e) ∧ ∃ e : Nat, e ≤ 70000 ∧ re j = nI e) : Ct D B yX4_hear (ws_ yX4_hear cX4_hear 7 none) (zr 2) [.ref (t.1 0), .int (nI m), .int (nI s), .int r] (tw b t st bk sv iz th di re si pa fo te tl po ts to le nu ec ep wo) (fun w G9 => w = none ∧ ∃ sx : Nat → Int32, G9 = (tw b t sx bk sv iz th di re si pa fo te tl po ts to le nu ec ep wo) ∧ (∀ j, (j < 186 + 256 * m ∨ 186 + 256 * m + 256 ≤ j) → sx j = st j) ∧ ∀ n, n < 256 → sx (186 + 256 * m + n) = st (186 + 256 * m + n) + zhr st (fun j => if r = 0 then di j else re j) s r n) zno := by
  refine ct_intro (by decide +kernel) (Nat.le_of_ble_eq_true rfl) ?_
  intro X C
  refine z_iconst (v := (-1)) C dX4_hear_0 (by decide) ?_
  refine z_istore C dX4_hear_1 (Nat.le_of_ble_eq_true rfl) rfl ?_
  refine z_iconst (v := 0) C dX4_hear_3 (by decide) ?_
  refine z_istore C dX4_hear_4 (Nat.le_of_ble_eq_true rfl) rfl ?_
  have lp6 : ∀ (μ : Nat) (i k : Nat) (sx : Nat → Int32) (h1 : i ≤ 256) (hk : k ≤ 256) (hk2 : k = 0 ∨ ∀ i9, i ≤ i9 → i9 < 256 → nI (k - 1) * st 0 + (if r = 0 then di (k - 1) else re (k - 1)) ≤ nI i9 * st 0) (h2 : ∀ j, (j < 186 + 256 * m ∨ 186 + 256 * m + i ≤ j) → sx j = st j) (h3 : ∀ n, n < i → sx (186 + 256 * m + n) = st (186 + 256 * m + n) + zhr st (fun j => if r = 0 then di j else re j) s r n), 256 - i < μ → Z X 6 [some (.ref (t.1 0)), some (.int (nI m)), some (.int (nI s)), some (.int r), some (.int (ztm k)), some (.int (nI i)), none] [] (tw b t sx bk sv iz th di re si pa fo te tl po ts to le nu ec ep wo) 0 0 := by
    intro μ
    induction μ with
    | zero => intro i k sx h1 hk hk2 h2 h3 hμ; exact absurd hμ (Nat.not_lt_zero _)
    | succ μ ih6 =>
      intro i k sx h1 hk hk2 h2 h3 hμ
      have h0 : sx 0 = st 0 := h2 0 (by omega)
      have h186 : ∀ j, j < 186 → sx j = st j := fun j hj => h2 j (by omega)
      refine z_iload C dX4_hear_6 rfl ?_
      refine z_sipush (v := 256) C dX4_hear_8 (by decide) ?_
      refine z_icmp_ge (tgt := 118) C dX4_hear_11 (by decide) (fun c_11 => ?_) (fun c_11 => ?_)
      · have hend : i = 256 := by have := zge (b := 256) c_11 (by omega) (by decide); omega
        subst hend
        exact z_return C rfl dX4_hear_118 (⟨rfl, sx, rfl, h2, h3⟩) (Nat.le_of_ble_eq_true rfl) (Nat.le_of_ble_eq_true rfl)
      · have hlt := znge (b := 256) c_11 (by omega) (by decide)
        have lp14 : ∀ (μ : Nat) (k : Nat) (hk : k ≤ 256) (hk2 : k = 0 ∨ ∀ i9, i ≤ i9 → i9 < 256 → nI (k - 1) * st 0 + (if r = 0 then di (k - 1) else re (k - 1)) ≤ nI i9 * st 0), 256 - k < μ → Z X 14 [some (.ref (t.1 0)), some (.int (nI m)), some (.int (nI s)), some (.int r), some (.int (ztm k)), some (.int (nI i)), none] [] (tw b t sx bk sv iz th di re si pa fo te tl po ts to le nu ec ep wo) 0 0 := by
          intro μ
          induction μ with
          | zero => intro k hk hk2 hμ; exact absurd hμ (Nat.not_lt_zero _)
          | succ μ ih14 =>
            intro k hk hk2 hμ
            refine z_iload C dX4_hear_14 rfl ?_
            refine z_sipush (v := 255) C dX4_hear_16 (by decide) ?_
            refine z_icmp_ge (tgt := 49) C dX4_hear_19 (by decide) (fun c_19 => ?_) (fun c_19 => ?_)
            · have hk9 : k = 256 := by
                by_cases e : k = 256
                · exact e
                · exfalso
                  cases k with
                  | zero => exact absurd c_19 (by decide)
                  | succ q => exact absurd (zge (b := 255) c_19 (by omega) (by decide)) (by omega)
              refine z_iload C dX4_hear_49 rfl ?_
              refine z_iconst (v := (-1)) C dX4_hear_51 (by decide) ?_
              refine z_icmp_eq (tgt := 112) C dX4_hear_52 (by decide) (fun c_52 => ?_) (fun c_52 => ?_)
              · have hk0 : k = 0 := (ztm_m1 (by omega)).mp c_52
                have hz : zlc (fun j => nI j * st 0 + (if r = 0 then di j else re j)) (nI i * st 0) 256 = k := zlc_stop hmo hk (hk2.imp id (fun q => q i (Nat.le_refl _) hlt)) (by first | exact Or.inl hk9 | exact Or.inr (fun q => Int32.not_le.mpr c_40 q))
                refine z_iinc (v := nI (i + 1)) C dX4_hear_112 rfl (ziinc i) (Nat.le_of_ble_eq_true rfl) rfl ?_
                refine z_goto (tgt := 6) C dX4_hear_115 (by decide) ?_
                first
                  | exact z_convG (ih6 (i + 1) k sx (by omega) hk (Or.inl hk0) (fun j hj => h2 j (by omega)) (fun n hn => by
                      by_cases e : n = i
                      · subst e
                        rw [h2 _ (by omega)]
                        unfold zhr
                        rw [hz, hk0]
                        exact (Int32.add_zero _).symm
                      · exact h3 n (by omega)) (by omega)) (And.intro rfl (And.intro rfl (And.intro rfl (And.intro rfl (And.intro rfl (And.intro rfl trivial)))))) (Nat.le_of_ble_eq_true rfl) (Nat.le_of_ble_eq_true rfl)
                  | exact z_convG (ih6 (i + 1) (q + 1) _ (by omega) hk (hk2.imp id (fun g i9 g1 g2 => g i9 (by omega) g2)) (fun j hj => (if_neg (by omega)).trans (h2 j (by omega))) (fun n hn => by
                      by_cases e : n = i
                      · subst e
                        refine (if_pos rfl).trans ?_
                        rw [h2 (186 + 256 * m + n) (by omega), zem_congr h186 hs hn4 hn1 hn2, zam_congr h186]
                        unfold zhr
                        rw [hz]
                        simp [c_56]
                      · exact (if_neg (by omega)).trans (h3 n (by omega))) (by omega)) (And.intro rfl (And.intro rfl (And.intro rfl (And.intro rfl (And.intro rfl (And.intro rfl trivial)))))) (Nat.le_of_ble_eq_true rfl) (Nat.le_of_ble_eq_true rfl)
              · obtain ⟨q, rfl⟩ : ∃ q, k = q + 1 := by
                  cases k with
                  | zero => exact absurd rfl c_52
                  | succ q => exact ⟨q, rfl⟩
                have hz : zlc (fun j => nI j * st 0 + (if r = 0 then di j else re j)) (nI i * st 0) 256 = q + 1 := zlc_stop hmo hk (hk2.imp id (fun q => q i (Nat.le_refl _) hlt)) (by first | exact Or.inl hk9 | exact Or.inr (fun q => Int32.not_le.mpr c_40 q))
                refine z_iload_n (i := 3) C dX4_hear_55 rfl rfl ?_
                refine z_if_eq (tgt := 69) C dX4_hear_56 (by decide) (fun c_56 => ?_) (fun c_56 => ?_)
                · refine z_aload_n (i := 0) C dX4_hear_69 rfl rfl ?_
                  refine tg_distances C q1869 dX4_hear_70 ?_
                  refine z_iload C dX4_hear_73 rfl ?_
                  refine tl_distances C (⟨rfl, by omega⟩) dX4_hear_75 ?_
                  refine z_istore C dX4_hear_76 (Nat.le_of_ble_eq_true rfl) rfl ?_
                  refine z_aload_n (i := 0) C dX4_hear_78 rfl rfl ?_
                  refine tg_state C q1864 dX4_hear_79 ?_
                  refine z_sipush (v := 186) C dX4_hear_82 (by decide) ?_
                  refine z_sipush (v := 256) C dX4_hear_85 (by decide) ?_
                  refine z_iload_n (i := 1) C dX4_hear_88 rfl rfl ?_
                  refine z_imul C dX4_hear_89 ?_
                  refine z_iadd C dX4_hear_90 ?_
                  refine z_seti (y := nI (186 + 256 * m)) (zlin0 186 256 m) ?_
                  refine z_iload C dX4_hear_91 rfl ?_
                  refine z_iadd C dX4_hear_93 ?_
                  refine z_seti (y := nI (186 + 256 * m + i)) (nI_add _ _) ?_
                  refine z_dup2_11 C dX4_hear_94 rfl rfl ?_
                  refine tl_state C ⟨rfl, by omega⟩ dX4_hear_95 ?_
                  refine z_aload_n (i := 0) C dX4_hear_96 rfl rfl ?_
                  refine z_aload_n (i := 0) C dX4_hear_97 rfl rfl ?_
                  refine z_iload_n (i := 2) C dX4_hear_98 rfl rfl ?_
                  refine z_iload C dX4_hear_99 rfl ?_
                  refine z_callVe C (tw_obj) rfl (ct_X4_emittedBy D B s q hs (by omega) n4 (by rw [h186 _ (by omega)]; exact hn4) hn1 hn2) q2035 q2037 qs35 q106 q2038 np_X4_emittedBy (zr_ok rfl rfl) rfl rfl (Nat.le_of_ble_eq_true rfl) (⟨Nat.le_of_ble_eq_true rfl, Nat.le_of_ble_eq_true rfl⟩) dX4_hear_101 ?_
                  refine z_iload C dX4_hear_104 rfl ?_
                  refine z_iload_n (i := 3) C dX4_hear_106 rfl rfl ?_
                  refine z_callVe C (tw_obj) rfl (ct_X4_amountOf D B _ _ r (by first | exact (hd q (by omega)).1 | exact (hd q (by omega)).2)) q2097 q2099 qs45 q106 q2100 np_X4_amountOf (zr_ok rfl rfl) rfl rfl (Nat.le_of_ble_eq_true rfl) (⟨Nat.le_of_ble_eq_true rfl, Nat.le_of_ble_eq_true rfl⟩) dX4_hear_107 ?_
                  refine z_iadd C dX4_hear_110 ?_
                  refine ts_state C ⟨rfl, by omega⟩ dX4_hear_111 ?_
                  refine z_iinc (v := nI (i + 1)) C dX4_hear_112 rfl (ziinc i) (Nat.le_of_ble_eq_true rfl) rfl ?_
                  refine z_goto (tgt := 6) C dX4_hear_115 (by decide) ?_
                  first
                    | exact z_convG (ih6 (i + 1) k sx (by omega) hk (Or.inl hk0) (fun j hj => h2 j (by omega)) (fun n hn => by
                        by_cases e : n = i
                        · subst e
                          rw [h2 _ (by omega)]
                          unfold zhr
                          rw [hz, hk0]
                          exact (Int32.add_zero _).symm
                        · exact h3 n (by omega)) (by omega)) (And.intro rfl (And.intro rfl (And.intro rfl (And.intro rfl (And.intro rfl (And.intro rfl trivial)))))) (Nat.le_of_ble_eq_true rfl) (Nat.le_of_ble_eq_true rfl)
                    | exact z_convG (ih6 (i + 1) (q + 1) _ (by omega) hk (hk2.imp id (fun g i9 g1 g2 => g i9 (by omega) g2)) (fun j hj => (if_neg (by omega)).trans (h2 j (by omega))) (fun n hn => by
                        by_cases e : n = i
                        · subst e
                          refine (if_pos rfl).trans ?_
                          rw [h2 (186 + 256 * m + n) (by omega), zem_congr h186 hs hn4 hn1 hn2, zam_congr h186]
                          unfold zhr
                          rw [hz]
                          simp [c_56]
                        · exact (if_neg (by omega)).trans (h3 n (by omega))) (by omega)) (And.intro rfl (And.intro rfl (And.intro rfl (And.intro rfl (And.intro rfl (And.intro rfl trivial)))))) (Nat.le_of_ble_eq_true rfl) (Nat.le_of_ble_eq_true rfl)
                · refine z_aload_n (i := 0) C dX4_hear_59 rfl rfl ?_
                  refine tg_reflections C q1870 dX4_hear_60 ?_
                  refine z_iload C dX4_hear_63 rfl ?_
                  refine tl_reflections C (⟨rfl, by omega⟩) dX4_hear_65 ?_
                  refine z_goto (tgt := 76) C dX4_hear_66 (by decide) ?_
                  refine z_istore C dX4_hear_76 (Nat.le_of_ble_eq_true rfl) rfl ?_
                  refine z_aload_n (i := 0) C dX4_hear_78 rfl rfl ?_
                  refine tg_state C q1864 dX4_hear_79 ?_
                  refine z_sipush (v := 186) C dX4_hear_82 (by decide) ?_
                  refine z_sipush (v := 256) C dX4_hear_85 (by decide) ?_
                  refine z_iload_n (i := 1) C dX4_hear_88 rfl rfl ?_
                  refine z_imul C dX4_hear_89 ?_
                  refine z_iadd C dX4_hear_90 ?_
                  refine z_seti (y := nI (186 + 256 * m)) (zlin0 186 256 m) ?_
                  refine z_iload C dX4_hear_91 rfl ?_
                  refine z_iadd C dX4_hear_93 ?_
                  refine z_seti (y := nI (186 + 256 * m + i)) (nI_add _ _) ?_
                  refine z_dup2_11 C dX4_hear_94 rfl rfl ?_
                  refine tl_state C ⟨rfl, by omega⟩ dX4_hear_95 ?_
                  refine z_aload_n (i := 0) C dX4_hear_96 rfl rfl ?_
                  refine z_aload_n (i := 0) C dX4_hear_97 rfl rfl ?_
                  refine z_iload_n (i := 2) C dX4_hear_98 rfl rfl ?_
                  refine z_iload C dX4_hear_99 rfl ?_
                  refine z_callVe C (tw_obj) rfl (ct_X4_emittedBy D B s q hs (by omega) n4 (by rw [h186 _ (by omega)]; exact hn4) hn1 hn2) q2035 q2037 qs35 q106 q2038 np_X4_emittedBy (zr_ok rfl rfl) rfl rfl (Nat.le_of_ble_eq_true rfl) (⟨Nat.le_of_ble_eq_true rfl, Nat.le_of_ble_eq_true rfl⟩) dX4_hear_101 ?_
                  refine z_iload C dX4_hear_104 rfl ?_
                  refine z_iload_n (i := 3) C dX4_hear_106 rfl rfl ?_
                  refine z_callVe C (tw_obj) rfl (ct_X4_amountOf D B _ _ r (by first | exact (hd q (by omega)).1 | exact (hd q (by omega)).2)) q2097 q2099 qs45 q106 q2100 np_X4_amountOf (zr_ok rfl rfl) rfl rfl (Nat.le_of_ble_eq_true rfl) (⟨Nat.le_of_ble_eq_true rfl, Nat.le_of_ble_eq_true rfl⟩) dX4_hear_107 ?_
                  refine z_iadd C dX4_hear_110 ?_
                  refine ts_state C ⟨rfl, by omega⟩ dX4_hear_111 ?_
                  refine z_iinc (v := nI (i + 1)) C dX4_hear_112 rfl (ziinc i) (Nat.le_of_ble_eq_true rfl) rfl ?_
                  refine z_goto (tgt := 6) C dX4_hear_115 (by decide) ?_
                  first
                    | exact z_convG (ih6 (i + 1) k sx (by omega) hk (Or.inl hk0) (fun j hj => h2 j (by omega)) (fun n hn => by
                        by_cases e : n = i
                        · subst e
                          rw [h2 _ (by omega)]
                          unfold zhr
                          rw [hz, hk0]
                          exact (Int32.add_zero _).symm
                        · exact h3 n (by omega)) (by omega)) (And.intro rfl (And.intro rfl (And.intro rfl (And.intro rfl (And.intro rfl (And.intro rfl trivial)))))) (Nat.le_of_ble_eq_true rfl) (Nat.le_of_ble_eq_true rfl)
                    | exact z_convG (ih6 (i + 1) (q + 1) _ (by omega) hk (hk2.imp id (fun g i9 g1 g2 => g i9 (by omega) g2)) (fun j hj => (if_neg (by omega)).trans (h2 j (by omega))) (fun n hn => by
                        by_cases e : n = i
                        · subst e
                          refine (if_pos rfl).trans ?_
                          rw [h2 (186 + 256 * m + n) (by omega), zem_congr h186 hs hn4 hn1 hn2, zam_congr h186]
                          unfold zhr
                          rw [hz]
                          simp [c_56]
                        · exact (if_neg (by omega)).trans (h3 n (by omega))) (by omega)) (And.intro rfl (And.intro rfl (And.intro rfl (And.intro rfl (And.intro rfl (And.intro rfl trivial)))))) (Nat.le_of_ble_eq_true rfl) (Nat.le_of_ble_eq_true rfl)
            · have hk9 : k < 256 := by
                by_cases e : k = 256
                · subst e; exact absurd (by decide) c_19
                · omega
              refine z_aload_n (i := 0) C dX4_hear_22 rfl rfl ?_
              refine z_iload C dX4_hear_23 rfl ?_
              refine z_iconst (v := 1) C dX4_hear_25 (by decide) ?_
              refine z_iadd C dX4_hear_26 ?_
              refine z_seti (ztm_1 k) ?_
              refine z_iload_n (i := 3) C dX4_hear_27 rfl rfl ?_
              refine z_callVe C (tw_obj) rfl (ct_X4_markOf D B k r hk9) q2080 q2082 qs43 q106 q2083 np_X4_markOf (zr_ok rfl rfl) rfl rfl (Nat.le_of_ble_eq_true rfl) (⟨Nat.le_of_ble_eq_true rfl, Nat.le_of_ble_eq_true rfl⟩) dX4_hear_28 ?_
              refine z_iload C dX4_hear_31 rfl ?_
              refine z_aload_n (i := 0) C dX4_hear_33 rfl rfl ?_
              refine tg_state C q1864 dX4_hear_34 ?_
              refine z_iconst (v := 0) C dX4_hear_37 (by decide) ?_
              refine tl_state C (⟨(rfl : (0 : Int32) = nI 0), by decide⟩) dX4_hear_38 ?_
              refine z_imul C dX4_hear_39 ?_
              rw [h0]
              refine z_icmp_gt (tgt := 49) C dX4_hear_40 (by decide) (fun c_40 => ?_) (fun c_40 => ?_)
              · refine z_iload C dX4_hear_49 rfl ?_
                refine z_iconst (v := (-1)) C dX4_hear_51 (by decide) ?_
                refine z_icmp_eq (tgt := 112) C dX4_hear_52 (by decide) (fun c_52 => ?_) (fun c_52 => ?_)
                · have hk0 : k = 0 := (ztm_m1 (by omega)).mp c_52
                  have hz : zlc (fun j => nI j * st 0 + (if r = 0 then di j else re j)) (nI i * st 0) 256 = k := zlc_stop hmo hk (hk2.imp id (fun q => q i (Nat.le_refl _) hlt)) (by first | exact Or.inl hk9 | exact Or.inr (fun q => Int32.not_le.mpr c_40 q))
                  refine z_iinc (v := nI (i + 1)) C dX4_hear_112 rfl (ziinc i) (Nat.le_of_ble_eq_true rfl) rfl ?_
                  refine z_goto (tgt := 6) C dX4_hear_115 (by decide) ?_
                  first
                    | exact z_convG (ih6 (i + 1) k sx (by omega) hk (Or.inl hk0) (fun j hj => h2 j (by omega)) (fun n hn => by
                        by_cases e : n = i
                        · subst e
                          rw [h2 _ (by omega)]
                          unfold zhr
                          rw [hz, hk0]
                          exact (Int32.add_zero _).symm
                        · exact h3 n (by omega)) (by omega)) (And.intro rfl (And.intro rfl (And.intro rfl (And.intro rfl (And.intro rfl (And.intro rfl trivial)))))) (Nat.le_of_ble_eq_true rfl) (Nat.le_of_ble_eq_true rfl)
                    | exact z_convG (ih6 (i + 1) (q + 1) _ (by omega) hk (hk2.imp id (fun g i9 g1 g2 => g i9 (by omega) g2)) (fun j hj => (if_neg (by omega)).trans (h2 j (by omega))) (fun n hn => by
                        by_cases e : n = i
                        · subst e
                          refine (if_pos rfl).trans ?_
                          rw [h2 (186 + 256 * m + n) (by omega), zem_congr h186 hs hn4 hn1 hn2, zam_congr h186]
                          unfold zhr
                          rw [hz]
                          simp [c_56]
                        · exact (if_neg (by omega)).trans (h3 n (by omega))) (by omega)) (And.intro rfl (And.intro rfl (And.intro rfl (And.intro rfl (And.intro rfl (And.intro rfl trivial)))))) (Nat.le_of_ble_eq_true rfl) (Nat.le_of_ble_eq_true rfl)
                · obtain ⟨q, rfl⟩ : ∃ q, k = q + 1 := by
                    cases k with
                    | zero => exact absurd rfl c_52
                    | succ q => exact ⟨q, rfl⟩
                  have hz : zlc (fun j => nI j * st 0 + (if r = 0 then di j else re j)) (nI i * st 0) 256 = q + 1 := zlc_stop hmo hk (hk2.imp id (fun q => q i (Nat.le_refl _) hlt)) (by first | exact Or.inl hk9 | exact Or.inr (fun q => Int32.not_le.mpr c_40 q))
                  refine z_iload_n (i := 3) C dX4_hear_55 rfl rfl ?_
                  refine z_if_eq (tgt := 69) C dX4_hear_56 (by decide) (fun c_56 => ?_) (fun c_56 => ?_)
                  · refine z_aload_n (i := 0) C dX4_hear_69 rfl rfl ?_
                    refine tg_distances C q1869 dX4_hear_70 ?_
                    refine z_iload C dX4_hear_73 rfl ?_
                    refine tl_distances C (⟨rfl, by omega⟩) dX4_hear_75 ?_
                    refine z_istore C dX4_hear_76 (Nat.le_of_ble_eq_true rfl) rfl ?_
                    refine z_aload_n (i := 0) C dX4_hear_78 rfl rfl ?_
                    refine tg_state C q1864 dX4_hear_79 ?_
                    refine z_sipush (v := 186) C dX4_hear_82 (by decide) ?_
                    refine z_sipush (v := 256) C dX4_hear_85 (by decide) ?_
                    refine z_iload_n (i := 1) C dX4_hear_88 rfl rfl ?_
                    refine z_imul C dX4_hear_89 ?_
                    refine z_iadd C dX4_hear_90 ?_
                    refine z_seti (y := nI (186 + 256 * m)) (zlin0 186 256 m) ?_
                    refine z_iload C dX4_hear_91 rfl ?_
                    refine z_iadd C dX4_hear_93 ?_
                    refine z_seti (y := nI (186 + 256 * m + i)) (nI_add _ _) ?_
                    refine z_dup2_11 C dX4_hear_94 rfl rfl ?_
                    refine tl_state C ⟨rfl, by omega⟩ dX4_hear_95 ?_
                    refine z_aload_n (i := 0) C dX4_hear_96 rfl rfl ?_
                    refine z_aload_n (i := 0) C dX4_hear_97 rfl rfl ?_
                    refine z_iload_n (i := 2) C dX4_hear_98 rfl rfl ?_
                    refine z_iload C dX4_hear_99 rfl ?_
                    refine z_callVe C (tw_obj) rfl (ct_X4_emittedBy D B s q hs (by omega) n4 (by rw [h186 _ (by omega)]; exact hn4) hn1 hn2) q2035 q2037 qs35 q106 q2038 np_X4_emittedBy (zr_ok rfl rfl) rfl rfl (Nat.le_of_ble_eq_true rfl) (⟨Nat.le_of_ble_eq_true rfl, Nat.le_of_ble_eq_true rfl⟩) dX4_hear_101 ?_
                    refine z_iload C dX4_hear_104 rfl ?_
                    refine z_iload_n (i := 3) C dX4_hear_106 rfl rfl ?_
                    refine z_callVe C (tw_obj) rfl (ct_X4_amountOf D B _ _ r (by first | exact (hd q (by omega)).1 | exact (hd q (by omega)).2)) q2097 q2099 qs45 q106 q2100 np_X4_amountOf (zr_ok rfl rfl) rfl rfl (Nat.le_of_ble_eq_true rfl) (⟨Nat.le_of_ble_eq_true rfl, Nat.le_of_ble_eq_true rfl⟩) dX4_hear_107 ?_
                    refine z_iadd C dX4_hear_110 ?_
                    refine ts_state C ⟨rfl, by omega⟩ dX4_hear_111 ?_
                    refine z_iinc (v := nI (i + 1)) C dX4_hear_112 rfl (ziinc i) (Nat.le_of_ble_eq_true rfl) rfl ?_
                    refine z_goto (tgt := 6) C dX4_hear_115 (by decide) ?_
                    first
                      | exact z_convG (ih6 (i + 1) k sx (by omega) hk (Or.inl hk0) (fun j hj => h2 j (by omega)) (fun n hn => by
                          by_cases e : n = i
                          · subst e
                            rw [h2 _ (by omega)]
                            unfold zhr
                            rw [hz, hk0]
                            exact (Int32.add_zero _).symm
                          · exact h3 n (by omega)) (by omega)) (And.intro rfl (And.intro rfl (And.intro rfl (And.intro rfl (And.intro rfl (And.intro rfl trivial)))))) (Nat.le_of_ble_eq_true rfl) (Nat.le_of_ble_eq_true rfl)
                      | exact z_convG (ih6 (i + 1) (q + 1) _ (by omega) hk (hk2.imp id (fun g i9 g1 g2 => g i9 (by omega) g2)) (fun j hj => (if_neg (by omega)).trans (h2 j (by omega))) (fun n hn => by
                          by_cases e : n = i
                          · subst e
                            refine (if_pos rfl).trans ?_
                            rw [h2 (186 + 256 * m + n) (by omega), zem_congr h186 hs hn4 hn1 hn2, zam_congr h186]
                            unfold zhr
                            rw [hz]
                            simp [c_56]
                          · exact (if_neg (by omega)).trans (h3 n (by omega))) (by omega)) (And.intro rfl (And.intro rfl (And.intro rfl (And.intro rfl (And.intro rfl (And.intro rfl trivial)))))) (Nat.le_of_ble_eq_true rfl) (Nat.le_of_ble_eq_true rfl)
                  · refine z_aload_n (i := 0) C dX4_hear_59 rfl rfl ?_
                    refine tg_reflections C q1870 dX4_hear_60 ?_
                    refine z_iload C dX4_hear_63 rfl ?_
                    refine tl_reflections C (⟨rfl, by omega⟩) dX4_hear_65 ?_
                    refine z_goto (tgt := 76) C dX4_hear_66 (by decide) ?_
                    refine z_istore C dX4_hear_76 (Nat.le_of_ble_eq_true rfl) rfl ?_
                    refine z_aload_n (i := 0) C dX4_hear_78 rfl rfl ?_
                    refine tg_state C q1864 dX4_hear_79 ?_
                    refine z_sipush (v := 186) C dX4_hear_82 (by decide) ?_
                    refine z_sipush (v := 256) C dX4_hear_85 (by decide) ?_
                    refine z_iload_n (i := 1) C dX4_hear_88 rfl rfl ?_
                    refine z_imul C dX4_hear_89 ?_
                    refine z_iadd C dX4_hear_90 ?_
                    refine z_seti (y := nI (186 + 256 * m)) (zlin0 186 256 m) ?_
                    refine z_iload C dX4_hear_91 rfl ?_
                    refine z_iadd C dX4_hear_93 ?_
                    refine z_seti (y := nI (186 + 256 * m + i)) (nI_add _ _) ?_
                    refine z_dup2_11 C dX4_hear_94 rfl rfl ?_
                    refine tl_state C ⟨rfl, by omega⟩ dX4_hear_95 ?_
                    refine z_aload_n (i := 0) C dX4_hear_96 rfl rfl ?_
                    refine z_aload_n (i := 0) C dX4_hear_97 rfl rfl ?_
                    refine z_iload_n (i := 2) C dX4_hear_98 rfl rfl ?_
                    refine z_iload C dX4_hear_99 rfl ?_
                    refine z_callVe C (tw_obj) rfl (ct_X4_emittedBy D B s q hs (by omega) n4 (by rw [h186 _ (by omega)]; exact hn4) hn1 hn2) q2035 q2037 qs35 q106 q2038 np_X4_emittedBy (zr_ok rfl rfl) rfl rfl (Nat.le_of_ble_eq_true rfl) (⟨Nat.le_of_ble_eq_true rfl, Nat.le_of_ble_eq_true rfl⟩) dX4_hear_101 ?_
                    refine z_iload C dX4_hear_104 rfl ?_
                    refine z_iload_n (i := 3) C dX4_hear_106 rfl rfl ?_
                    refine z_callVe C (tw_obj) rfl (ct_X4_amountOf D B _ _ r (by first | exact (hd q (by omega)).1 | exact (hd q (by omega)).2)) q2097 q2099 qs45 q106 q2100 np_X4_amountOf (zr_ok rfl rfl) rfl rfl (Nat.le_of_ble_eq_true rfl) (⟨Nat.le_of_ble_eq_true rfl, Nat.le_of_ble_eq_true rfl⟩) dX4_hear_107 ?_
                    refine z_iadd C dX4_hear_110 ?_
                    refine ts_state C ⟨rfl, by omega⟩ dX4_hear_111 ?_
                    refine z_iinc (v := nI (i + 1)) C dX4_hear_112 rfl (ziinc i) (Nat.le_of_ble_eq_true rfl) rfl ?_
                    refine z_goto (tgt := 6) C dX4_hear_115 (by decide) ?_
                    first
                      | exact z_convG (ih6 (i + 1) k sx (by omega) hk (Or.inl hk0) (fun j hj => h2 j (by omega)) (fun n hn => by
                          by_cases e : n = i
                          · subst e
                            rw [h2 _ (by omega)]
                            unfold zhr
                            rw [hz, hk0]
                            exact (Int32.add_zero _).symm
                          · exact h3 n (by omega)) (by omega)) (And.intro rfl (And.intro rfl (And.intro rfl (And.intro rfl (And.intro rfl (And.intro rfl trivial)))))) (Nat.le_of_ble_eq_true rfl) (Nat.le_of_ble_eq_true rfl)
                      | exact z_convG (ih6 (i + 1) (q + 1) _ (by omega) hk (hk2.imp id (fun g i9 g1 g2 => g i9 (by omega) g2)) (fun j hj => (if_neg (by omega)).trans (h2 j (by omega))) (fun n hn => by
                          by_cases e : n = i
                          · subst e
                            refine (if_pos rfl).trans ?_
                            rw [h2 (186 + 256 * m + n) (by omega), zem_congr h186 hs hn4 hn1 hn2, zam_congr h186]
                            unfold zhr
                            rw [hz]
                            simp [c_56]
                          · exact (if_neg (by omega)).trans (h3 n (by omega))) (by omega)) (And.intro rfl (And.intro rfl (And.intro rfl (And.intro rfl (And.intro rfl (And.intro rfl trivial)))))) (Nat.le_of_ble_eq_true rfl) (Nat.le_of_ble_eq_true rfl)
              · refine z_iinc (v := ztm (k + 1)) C dX4_hear_43 rfl (ztm_1 k) (Nat.le_of_ble_eq_true rfl) rfl ?_
                refine z_goto (tgt := 14) C dX4_hear_46 (by decide) ?_
                exact z_convG (ih14 (k + 1) (by omega) (Or.inr (fun i9 g1 g2 => Int32.le_trans (Int32.not_lt.mp c_40) (hsn i i9 g1 g2))) (by omega)) (And.intro (rfl) (And.intro (rfl) (And.intro (rfl) (And.intro (rfl) (And.intro (rfl) (And.intro (rfl) trivial)))))) (Nat.le_of_ble_eq_true rfl) (Nat.le_of_ble_eq_true rfl)
        exact z_convG (lp14 257 k hk hk2 (by omega)) (And.intro (rfl) (And.intro (rfl) (And.intro (rfl) (And.intro (rfl) (And.intro (rfl) (And.intro (rfl) trivial)))))) (Nat.le_of_ble_eq_true rfl) (Nat.le_of_ble_eq_true rfl)
  exact z_convG (lp6 257 0 0 st (by omega) (by omega) (Or.inl rfl) (fun _ _ => rfl) (fun n hn => by omega) (by omega)) (And.intro (rfl) (And.intro (rfl) (And.intro (rfl) (And.intro (rfl) (And.intro (rfl) (And.intro (rfl) trivial)))))) (Nat.le_of_ble_eq_true rfl) (Nat.le_of_ble_eq_true rfl)
set_option maxHeartbeats 4000000 in
set_option maxRecDepth 100000 in
theorem ct_X4_draw (D : zG) (B : Nat) {b : zH} {t : tA} {st : Nat → Int32} {bk : Nat → Int32} {sv : Nat → Int32} {iz : Nat → Int32} {th : Int32} {di : Nat → Int32} {re : Nat → Int32} {si : Nat → Int32} {pa : Nat → Int32} {fo : Nat → Int64} {te : Nat → Int32} {tl : Int32} {po : Int32} {ts : Int32} {to : Int32} {le : Int32} {nu : Int32} {ec : Int32} {ep : Int32} {wo : Int64} (q b9 : Nat) (hq : st 3 = nI q) (hql : q < 2147483648) (hb0 : 0 < b9) (hb : b9 < 2147483648) : Ct D B yX4_draw (ws_ yX4_draw cX4_draw 4 (some .int)) (zr 0) [.ref (t.1 0), .int (nI b9)] (tw b t st bk sv iz th di re si pa fo te tl po ts to le nu ec ep wo) (zpe (some (.int (nI (zrn q / 65536 % b9)))) (tw b t (upd st 3 (nI (zrn q))) bk sv iz th di re si pa fo te tl po ts to le nu ec ep wo)) zno := by
  refine ct_intro (by decide +kernel) (Nat.le_of_ble_eq_true rfl) ?_
  intro X C
  refine z_aload_n (i := 0) C dX4_draw_0 rfl rfl ?_
  refine tg_state C q1864 dX4_draw_1 ?_
  refine z_iconst (v := 3) C dX4_draw_4 (by decide) ?_
  refine tl_state C (⟨(rfl : (3 : Int32) = nI 3), by decide⟩) dX4_draw_5 ?_
  rw [hq]
  refine z_i2l C dX4_draw_6 (nI_l hql) ?_
  refine z_ldc2 C q2109 dX4_draw_7 ?_
  refine z_lmul C dX4_draw_10 ?_
  refine z_ldc2 C q2110 dX4_draw_11 ?_
  refine z_ladd C dX4_draw_14 ?_
  refine z_ldc2 C q2111 dX4_draw_15 ?_
  refine z_lrem C dX4_draw_18 (by decide) ?_
  refine z_setl (zrn_l hql) ?_
  refine z_lstore_n (i := 2) C dX4_draw_19 rfl (Nat.le_of_ble_eq_true rfl) rfl ?_
  refine z_aload_n (i := 0) C dX4_draw_20 rfl rfl ?_
  refine tg_state C q1864 dX4_draw_21 ?_
  refine z_iconst (v := 3) C dX4_draw_24 (by decide) ?_
  refine z_lload_n (i := 2) C dX4_draw_25 rfl rfl ?_
  refine z_l2i C dX4_draw_26 (lN_i _) ?_
  refine ts_state C (⟨(rfl : (3 : Int32) = nI 3), by decide⟩) dX4_draw_27 ?_
  refine z_lload_n (i := 2) C dX4_draw_28 rfl rfl ?_
  refine z_ldc2 C q2112 dX4_draw_29 ?_
  refine z_ldiv C dX4_draw_32 (by decide) ?_
  refine z_iload_n (i := 1) C dX4_draw_33 rfl rfl ?_
  refine z_i2l C dX4_draw_34 (nI_l hb) ?_
  refine z_lrem C dX4_draw_35 (fun e => absurd ((lN_eq (b := 0) (by omega) (by decide)).mp e) (by omega)) ?_
  refine z_l2i C dX4_draw_36 (zrn_d (zrn_lt q) hb0 hb) ?_
  exact z_ireturn C rfl (rfl) dX4_draw_37 (⟨rfl, rfl⟩) (Nat.le_of_ble_eq_true rfl) (Nat.le_of_ble_eq_true rfl)
theorem np_X4_draw : znp yX4_draw 1 := ⟨by decide +kernel, by decide +kernel, by decide +kernel⟩
set_option maxHeartbeats 4000000 in
set_option maxRecDepth 100000 in
theorem ct_X4_addNoise (D : zG) (B : Nat) {b : zH} {t : tA} {st : Nat → Int32} {bk : Nat → Int32} {sv : Nat → Int32} {iz : Nat → Int32} {th : Int32} {di : Nat → Int32} {re : Nat → Int32} {si : Nat → Int32} {pa : Nat → Int32} {fo : Nat → Int64} {te : Nat → Int32} {tl : Int32} {po : Int32} {ts : Int32} {to : Int32} {le : Int32} {nu : Int32} {ec : Int32} {ep : Int32} {wo : Int64} (m : Nat) (hm : m < 8) (lv q : Nat) (hlv : st 4 = nI lv) (hlv2 : lv ≤ 99) (hq : st 3 = nI q) (hql : q < 2147483648) : Ct D B yX4_addNoise (ws_ yX4_addNoise cX4_addNoise 4 none) (zr 1) [.ref (t.1 0), .int (nI m)] (tw b t st bk sv iz th di re si pa fo te tl po ts to le nu ec ep wo) (fun w G9 => w = none ∧ ∃ sx : Nat → Int32, G9 = (tw b t sx bk sv iz th di re si pa fo te tl po ts to le nu ec ep wo) ∧ (∀ j, (j < 186 + 256 * m ∨ 186 + 256 * m + 256 ≤ j) → j ≠ 3 → sx j = st j) ∧ (∀ n, n < 256 → sx (186 + 256 * m + n) = st (186 + 256 * m + n) + zns lv q n) ∧ sx 3 = nI (if lv = 0 then q else zrs q 256)) zno := by
  refine ct_intro (by decide +kernel) (Nat.le_of_ble_eq_true rfl) ?_
  intro X C
  refine z_aload_n (i := 0) C dX4_addNoise_0 rfl rfl ?_
  refine tg_state C q1864 dX4_addNoise_1 ?_
  refine z_iconst (v := 4) C dX4_addNoise_4 (by decide) ?_
  refine tl_state C (⟨(rfl : (4 : Int32) = nI 4), by decide⟩) dX4_addNoise_5 ?_
  rw [hlv]
  refine z_istore_n (i := 2) C dX4_addNoise_6 rfl (Nat.le_of_ble_eq_true rfl) rfl ?_
  refine z_iconst (v := 0) C dX4_addNoise_7 (by decide) ?_
  refine z_istore_n (i := 3) C dX4_addNoise_8 rfl (Nat.le_of_ble_eq_true rfl) rfl ?_
  have lp9 : ∀ (μ : Nat) (i : Nat) (sx : Nat → Int32) (h1 : i ≤ 256) (h2 : ∀ j, (j < 186 + 256 * m ∨ 186 + 256 * m + i ≤ j) → j ≠ 3 → sx j = st j) (h3 : ∀ n, n < i → sx (186 + 256 * m + n) = st (186 + 256 * m + n) + zns lv q n) (h4 : sx 3 = nI (if lv = 0 then q else zrs q i)) (h5 : lv = 0 → i = 0), 256 - i < μ → Z X 9 [some (.ref (t.1 0)), some (.int (nI m)), some (.int (nI lv)), some (.int (nI i))] [] (tw b t sx bk sv iz th di re si pa fo te tl po ts to le nu ec ep wo) 0 0 := by
    intro μ
    induction μ with
    | zero => intro i sx h1 h2 h3 h4 h5 hμ; exact absurd hμ (Nat.not_lt_zero _)
    | succ μ ih9 =>
      intro i sx h1 h2 h3 h4 h5 hμ
      refine z_iload_n (i := 3) C dX4_addNoise_9 rfl rfl ?_
      refine z_sipush (v := 256) C dX4_addNoise_10 (by decide) ?_
      refine z_icmp_ge (tgt := 56) C dX4_addNoise_13 (by decide) (fun c_13 => ?_) (fun c_13 => ?_)
      · have hend : i = 256 := by have := zge (b := 256) c_13 (by omega) (by decide); omega
        subst hend
        have hlv0 : ¬ lv = 0 := fun e => absurd (h5 e) (by decide)
        exact z_return C rfl dX4_addNoise_56 (⟨rfl, sx, rfl, fun j hj h3j => h2 j (by omega) h3j, by first | exact h3 | (intro n hn; rw [h2 _ (by omega) (by omega)]; unfold zns; rw [if_pos hlv0]; exact (Int32.add_zero _).symm), by first | (rw [h4, if_pos hlv0, if_pos hlv0]; done) | exact h4⟩) (Nat.le_of_ble_eq_true rfl) (Nat.le_of_ble_eq_true rfl)
      · have hlt := znge (b := 256) c_13 (by omega) (by decide)
        refine z_iload_n (i := 2) C dX4_addNoise_16 rfl rfl ?_
        refine z_if_le (tgt := 56) C dX4_addNoise_17 (by decide) (fun c_17 => ?_) (fun c_17 => ?_)
        · have hlv0 : lv = 0 := by have := zge (b := lv) (i := 0) c_17 (by decide) (by omega); omega
          have hi0 : i = 0 := h5 hlv0
          subst hi0
          exact z_return C rfl dX4_addNoise_56 (⟨rfl, sx, rfl, fun j hj h3j => h2 j (by omega) h3j, by first | exact h3 | (intro n hn; rw [h2 _ (by omega) (by omega)]; unfold zns; rw [if_pos hlv0]; exact (Int32.add_zero _).symm), by first | (rw [h4, if_pos hlv0, if_pos hlv0]; done) | exact h4⟩) (Nat.le_of_ble_eq_true rfl) (Nat.le_of_ble_eq_true rfl)
        · have hlv0 : ¬ lv = 0 := fun e => c_17 (by rw [e]; decide)
          refine z_aload_n (i := 0) C dX4_addNoise_20 rfl rfl ?_
          refine tg_state C q1864 dX4_addNoise_21 ?_
          refine z_sipush (v := 186) C dX4_addNoise_24 (by decide) ?_
          refine z_sipush (v := 256) C dX4_addNoise_27 (by decide) ?_
          refine z_iload_n (i := 1) C dX4_addNoise_30 rfl rfl ?_
          refine z_imul C dX4_addNoise_31 ?_
          refine z_iadd C dX4_addNoise_32 ?_
          refine z_seti (y := nI (186 + 256 * m)) (zlin0 186 256 m) ?_
          refine z_iload_n (i := 3) C dX4_addNoise_33 rfl rfl ?_
          refine z_iadd C dX4_addNoise_34 ?_
          refine z_seti (y := nI (186 + 256 * m + i)) (nI_add _ _) ?_
          refine z_dup2_11 C dX4_addNoise_35 rfl rfl ?_
          refine tl_state C ⟨rfl, by omega⟩ dX4_addNoise_36 ?_
          refine z_aload_n (i := 0) C dX4_addNoise_37 rfl rfl ?_
          refine z_iconst (v := 2) C dX4_addNoise_38 (by decide) ?_
          refine z_iload_n (i := 2) C dX4_addNoise_39 rfl rfl ?_
          refine z_imul C dX4_addNoise_40 ?_
          refine z_iconst (v := 1) C dX4_addNoise_41 (by decide) ?_
          refine z_iadd C dX4_addNoise_42 ?_
          refine z_seti (y := nI (2 * lv + 1)) (by rw [show (2 : Int32) * nI lv = nI (2 * lv) from pk_mul 2 lv]; exact nI_1 _) ?_
          refine z_callVe C (tw_obj) rfl (ct_X4_draw D B (zrs q i) (2 * lv + 1) (by rw [h4, if_neg hlv0]) (zrs_lt hql i) (by omega) (by omega)) q2105 q2107 qs47 q106 q2108 np_X4_draw (zr_ok rfl rfl) rfl rfl (Nat.le_of_ble_eq_true rfl) (⟨Nat.le_of_ble_eq_true rfl, Nat.le_of_ble_eq_true rfl⟩) dX4_addNoise_43 ?_
          refine z_iload_n (i := 2) C dX4_addNoise_46 rfl rfl ?_
          refine z_isub C dX4_addNoise_47 ?_
          refine z_iadd C dX4_addNoise_48 ?_
          refine ts_state C ⟨rfl, by omega⟩ dX4_addNoise_49 ?_
          refine z_iinc (v := nI (i + 1)) C dX4_addNoise_50 rfl (ziinc i) (Nat.le_of_ble_eq_true rfl) rfl ?_
          refine z_goto (tgt := 9) C dX4_addNoise_53 (by decide) ?_
          exact z_convG (ih9 (i + 1) _ (by omega) (fun j hj h3j => (if_neg (by omega)).trans ((if_neg h3j).trans (h2 j (by omega) h3j))) (fun n hn => by
                by_cases e : n = i
                · subst e
                  refine (if_pos rfl).trans ?_
                  rw [h2 (186 + 256 * m + n) (by omega) (by omega)]
                  unfold zns
                  rw [if_neg hlv0]
                  rfl
                · exact (if_neg (by omega)).trans ((if_neg (by omega)).trans (h3 n (by omega)))) ((if_neg (by omega)).trans ((if_pos rfl).trans (by rw [if_neg hlv0]; rfl))) (fun e => absurd e hlv0) (by omega)) (And.intro rfl (And.intro rfl (And.intro rfl (And.intro rfl trivial)))) (Nat.le_of_ble_eq_true rfl) (Nat.le_of_ble_eq_true rfl)
  exact z_convG (lp9 257 0 st (by omega) (fun _ _ _ => rfl) (fun n hn => by omega) (by rw [hq]; split <;> rfl) (fun _ => rfl) (by omega)) (And.intro (rfl) (And.intro (rfl) (And.intro (rfl) (And.intro (rfl) trivial)))) (Nat.le_of_ble_eq_true rfl) (Nat.le_of_ble_eq_true rfl)
set_option maxHeartbeats 4000000 in
set_option maxRecDepth 100000 in
theorem ct_X4_recorded (D : zG) (B : Nat) {b : zH} {t : tA} {st : Nat → Int32} {bk : Nat → Int32} {sv : Nat → Int32} {iz : Nat → Int32} {th : Int32} {di : Nat → Int32} {re : Nat → Int32} {si : Nat → Int32} {pa : Nat → Int32} {fo : Nat → Int64} {te : Nat → Int32} {tl : Int32} {po : Int32} {ts : Int32} {to : Int32} {le : Int32} {nu : Int32} {ec : Int32} {ep : Int32} {wo : Int64} (m : Nat) (x : Int32) (hm : m < 8) : Ct D B yX4_recorded (ws_ yX4_recorded cX4_recorded 3 (some .int)) (zr 2) [.ref (t.1 0), .int (nI m), .int x] (tw b t st bk sv iz th di re si pa fo te tl po ts to le nu ec ep wo) (zpe (some (.int (zrec st m x))) (tw b t st bk sv iz th di re si pa fo te tl po ts to le nu ec ep wo)) zno := by
  refine ct_intro (by decide +kernel) (Nat.le_of_ble_eq_true rfl) ?_
  intro X C
  refine z_iload_n (i := 2) C dX4_recorded_0 rfl rfl ?_
  refine z_callSe C (ct_X4_isTime D B _) q2032 q2033 q106 q2034 np_X4_isTime (zr_ok rfl rfl) rfl rfl (Nat.le_of_ble_eq_true rfl) (⟨Nat.le_of_ble_eq_true rfl, Nat.le_of_ble_eq_true rfl⟩) dX4_recorded_1 ?_
  refine z_if_eq (tgt := 26) C dX4_recorded_4 (by decide) (fun c_4 => ?_) (fun c_4 => ?_)
  · have hx : ¬ (0 ≤ x ∧ x ≤ 255) := zb_eq.mp c_4
    refine z_iconst (v := 0) C dX4_recorded_26 (by decide) ?_
    exact z_ireturn C rfl (rfl) dX4_recorded_27 (⟨zvs (by first | exact (zrec_in st m hj).symm | exact (if_neg hx).symm), rfl⟩) (Nat.le_of_ble_eq_true rfl) (Nat.le_of_ble_eq_true rfl)
  · have hx : 0 ≤ x ∧ x ≤ 255 := zb_ne.mp c_4
    obtain ⟨j, hj, rfl⟩ := znI_of hx
    refine z_aload_n (i := 0) C dX4_recorded_7 rfl rfl ?_
    refine tg_state C q1864 dX4_recorded_8 ?_
    refine z_sipush (v := 186) C dX4_recorded_11 (by decide) ?_
    refine z_sipush (v := 256) C dX4_recorded_14 (by decide) ?_
    refine z_iload_n (i := 1) C dX4_recorded_17 rfl rfl ?_
    refine z_imul C dX4_recorded_18 ?_
    refine z_iadd C dX4_recorded_19 ?_
    refine z_seti (y := nI (186 + 256 * m)) (zlin0 186 256 m) ?_
    refine z_iload_n (i := 2) C dX4_recorded_20 rfl rfl ?_
    refine z_iadd C dX4_recorded_21 ?_
    refine tl_state C (zixI (nI_add _ _) (by omega)) dX4_recorded_22 ?_
    refine z_goto (tgt := 27) C dX4_recorded_23 (by decide) ?_
    exact z_ireturn C rfl (rfl) dX4_recorded_27 (⟨zvs (by first | exact (zrec_in st m hj).symm | exact (if_neg hx).symm), rfl⟩) (Nat.le_of_ble_eq_true rfl) (Nat.le_of_ble_eq_true rfl)
theorem np_X4_recorded : znp yX4_recorded 2 := ⟨by decide +kernel, by decide +kernel, by decide +kernel⟩
set_option maxHeartbeats 4000000 in
set_option maxRecDepth 100000 in
theorem ct_X4_layRecord (D : zG) (B : Nat) {b : zH} {t : tA} {st : Nat → Int32} {bk : Nat → Int32} {sv : Nat → Int32} {iz : Nat → Int32} {th : Int32} {di : Nat → Int32} {re : Nat → Int32} {si : Nat → Int32} {pa : Nat → Int32} {fo : Nat → Int64} {te : Nat → Int32} {tl : Int32} {po : Int32} {ts : Int32} {to : Int32} {le : Int32} {nu : Int32} {ec : Int32} {ep : Int32} {wo : Int64} (m : Nat) (hm : m < 8) : Ct D B yX4_layRecord (ws_ yX4_layRecord cX4_layRecord 3 none) (zr 3) [.ref (t.1 0), .int (nI m)] (tw b t st bk sv iz th di re si pa fo te tl po ts to le nu ec ep wo) (fun w G9 => w = none ∧ ∃ sx : Nat → Int32, G9 = (tw b t st bk sv iz th di re sx pa fo te tl po ts to le nu ec ep wo) ∧ ∀ j, j < 256 → sx j = st (186 + 256 * m + j)) zno := by
  refine ct_intro (by decide +kernel) (Nat.le_of_ble_eq_true rfl) ?_
  intro X C
  refine z_iconst (v := 0) C dX4_layRecord_0 (by decide) ?_
  refine z_istore_n (i := 2) C dX4_layRecord_1 rfl (Nat.le_of_ble_eq_true rfl) rfl ?_
  have lp2 : ∀ (μ : Nat) (i : Nat) (sx : Nat → Int32) (h1 : i ≤ 256) (h2 : ∀ j, j < i → sx j = st (186 + 256 * m + j)), 256 - i < μ → Z X 2 [some (.ref (t.1 0)), some (.int (nI m)), some (.int (nI i))] [] (tw b t st bk sv iz th di re sx pa fo te tl po ts to le nu ec ep wo) 0 0 := by
    intro μ
    induction μ with
    | zero => intro i sx h1 h2 hμ; exact absurd hμ (Nat.not_lt_zero _)
    | succ μ ih2 =>
      intro i sx h1 h2 hμ
      refine z_iload_n (i := 2) C dX4_layRecord_2 rfl rfl ?_
      refine z_sipush (v := 256) C dX4_layRecord_3 (by decide) ?_
      refine z_icmp_ge (tgt := 27) C dX4_layRecord_6 (by decide) (fun c_6 => ?_) (fun c_6 => ?_)
      · have hend : i = 256 := by have := zge (b := 256) c_6 (by omega) (by decide); omega
        subst hend
        exact z_return C rfl dX4_layRecord_27 (⟨rfl, sx, rfl, h2⟩) (Nat.le_of_ble_eq_true rfl) (Nat.le_of_ble_eq_true rfl)
      · have hlt := znge (b := 256) c_6 (by omega) (by decide)
        refine z_aload_n (i := 0) C dX4_layRecord_9 rfl rfl ?_
        refine tg_signal C q1871 dX4_layRecord_10 ?_
        refine z_iload_n (i := 2) C dX4_layRecord_13 rfl rfl ?_
        refine z_aload_n (i := 0) C dX4_layRecord_14 rfl rfl ?_
        refine z_iload_n (i := 1) C dX4_layRecord_15 rfl rfl ?_
        refine z_iload_n (i := 2) C dX4_layRecord_16 rfl rfl ?_
        refine z_callVe C (tw_obj) rfl (ct_X4_recorded D B m (nI i) hm) q2117 q2119 qs48 q106 q2120 np_X4_recorded (zr_ok rfl rfl) rfl rfl (Nat.le_of_ble_eq_true rfl) (⟨Nat.le_of_ble_eq_true rfl, Nat.le_of_ble_eq_true rfl⟩) dX4_layRecord_17 ?_
        refine ts_signal C (⟨rfl, hlt⟩) dX4_layRecord_20 ?_
        refine z_iinc (v := nI (i + 1)) C dX4_layRecord_21 rfl (ziinc i) (Nat.le_of_ble_eq_true rfl) rfl ?_
        refine z_goto (tgt := 2) C dX4_layRecord_24 (by decide) ?_
        exact z_convG (ih2 (i + 1) _ (by omega) (fun j hj => by unfold upd; by_cases e : j = i; (· subst e; exact (if_pos rfl).trans (zrec_in st m hlt)); (· exact (if_neg e).trans (h2 j (by omega)))) (by omega)) (And.intro (rfl) (And.intro (rfl) (And.intro (rfl) trivial))) (Nat.le_of_ble_eq_true rfl) (Nat.le_of_ble_eq_true rfl)
  exact z_convG (lp2 257 0 si (by omega) (fun j hj => by omega) (by omega)) (And.intro (rfl) (And.intro (rfl) (And.intro (rfl) trivial))) (Nat.le_of_ble_eq_true rfl) (Nat.le_of_ble_eq_true rfl)
set_option maxHeartbeats 4000000 in
set_option maxRecDepth 100000 in
theorem ct_X4_energyOf (D : zG) (B : Nat) {b : zH} {t : tA} {st : Nat → Int32} {bk : Nat → Int32} {sv : Nat → Int32} {iz : Nat → Int32} {th : Int32} {di : Nat → Int32} {re : Nat → Int32} {si : Nat → Int32} {pa : Nat → Int32} {fo : Nat → Int64} {te : Nat → Int32} {tl : Int32} {po : Int32} {ts : Int32} {to : Int32} {le : Int32} {nu : Int32} {ec : Int32} {ep : Int32} {wo : Int64} (f l : Nat) (hf : f ≤ l + 1) (hl : l < 256) : Ct D B yX4_energyOf (ws_ yX4_energyOf cX4_energyOf 6 (some .long)) (zr 0) [.ref (t.1 0), .int (nI f), .int (nI l)] (tw b t st bk sv iz th di re si pa fo te tl po ts to le nu ec ep wo) (zpe (some (.long (zen si f l))) (tw b t st bk sv iz th di re si pa fo te tl po ts to le nu ec ep wo)) zno := by
  refine ct_intro (by decide +kernel) (Nat.le_of_ble_eq_true rfl) ?_
  intro X C
  refine z_lconst (v := 0) C dX4_energyOf_0 (by decide) ?_
  refine z_lstore_n (i := 3) C dX4_energyOf_1 rfl (Nat.le_of_ble_eq_true rfl) rfl ?_
  refine z_iload_n (i := 1) C dX4_energyOf_2 rfl rfl ?_
  refine z_istore C dX4_energyOf_3 (Nat.le_of_ble_eq_true rfl) rfl ?_
  have lp5 : ∀ (μ : Nat) (i : Nat) (h1 : f ≤ i) (h2 : i ≤ l + 1), l + 1 - i < μ → Z X 5 [some (.ref (t.1 0)), some (.int (nI f)), some (.int (nI l)), some (.long (zsumL (fun t => (si t).toInt64 * (si t).toInt64) f (i - f))), none, some (.int (nI i))] [] (tw b t st bk sv iz th di re si pa fo te tl po ts to le nu ec ep wo) 0 0 := by
    intro μ
    induction μ with
    | zero => intro i h1 h2 hμ; exact absurd hμ (Nat.not_lt_zero _)
    | succ μ ih5 =>
      intro i h1 h2 hμ
      refine z_iload C dX4_energyOf_5 rfl ?_
      refine z_iload_n (i := 2) C dX4_energyOf_7 rfl rfl ?_
      refine z_icmp_gt (tgt := 37) C dX4_energyOf_8 (by decide) (fun c_8 => ?_) (fun c_8 => ?_)
      · have hend : l < i := zgt c_8 (by omega) (by omega)
        refine z_lload_n (i := 3) C dX4_energyOf_37 rfl rfl ?_
        exact z_lreturn C rfl dX4_energyOf_38 (⟨zvl (by unfold zen; rw [show i = l + 1 by omega]), rfl⟩) (Nat.le_of_ble_eq_true rfl) (Nat.le_of_ble_eq_true rfl)
      · have hle : i ≤ l := zngt c_8 (by omega) (by omega)
        refine z_lload_n (i := 3) C dX4_energyOf_11 rfl rfl ?_
        refine z_aload_n (i := 0) C dX4_energyOf_12 rfl rfl ?_
        refine tg_signal C q1871 dX4_energyOf_13 ?_
        refine z_iload C dX4_energyOf_16 rfl ?_
        refine tl_signal C (⟨rfl, by omega⟩) dX4_energyOf_18 ?_
        refine z_i2l C dX4_energyOf_19 rfl ?_
        refine z_aload_n (i := 0) C dX4_energyOf_20 rfl rfl ?_
        refine tg_signal C q1871 dX4_energyOf_21 ?_
        refine z_iload C dX4_energyOf_24 rfl ?_
        refine tl_signal C (⟨rfl, by omega⟩) dX4_energyOf_26 ?_
        refine z_i2l C dX4_energyOf_27 rfl ?_
        refine z_lmul C dX4_energyOf_28 ?_
        refine z_ladd C dX4_energyOf_29 ?_
        refine z_lstore_n (i := 3) C dX4_energyOf_30 rfl (Nat.le_of_ble_eq_true rfl) rfl ?_
        refine z_iinc (v := nI (i + 1)) C dX4_energyOf_31 rfl (ziinc i) (Nat.le_of_ble_eq_true rfl) rfl ?_
        refine z_goto (tgt := 5) C dX4_energyOf_34 (by decide) ?_
        exact z_convG (ih5 (i + 1) (by omega) (by omega) (by omega)) (And.intro (rfl) (And.intro (rfl) (And.intro (rfl) (And.intro (by rw [zsumL_1 _ h1]) (And.intro (rfl) trivial))))) (Nat.le_of_ble_eq_true rfl) (Nat.le_of_ble_eq_true rfl)
  exact z_convG (lp5 (l + 2) f (by omega) (by omega) (by omega)) (And.intro (rfl) (And.intro (rfl) (And.intro (rfl) (And.intro (by rw [Nat.sub_self]; rfl) (And.intro (rfl) trivial))))) (Nat.le_of_ble_eq_true rfl) (Nat.le_of_ble_eq_true rfl)
set_option maxHeartbeats 4000000 in
set_option maxRecDepth 100000 in
theorem ct_X4_sumOf (D : zG) (B : Nat) {b : zH} {t : tA} {st : Nat → Int32} {bk : Nat → Int32} {sv : Nat → Int32} {iz : Nat → Int32} {th : Int32} {di : Nat → Int32} {re : Nat → Int32} {si : Nat → Int32} {pa : Nat → Int32} {fo : Nat → Int64} {te : Nat → Int32} {tl : Int32} {po : Int32} {ts : Int32} {to : Int32} {le : Int32} {nu : Int32} {ec : Int32} {ep : Int32} {wo : Int64} (f l : Nat) (hf : f ≤ l + 1) (hl : l < 256) : Ct D B yX4_sumOf (ws_ yX4_sumOf cX4_sumOf 6 (some .long)) (zr 0) [.ref (t.1 0), .int (nI f), .int (nI l)] (tw b t st bk sv iz th di re si pa fo te tl po ts to le nu ec ep wo) (zpe (some (.long (zsm si f l))) (tw b t st bk sv iz th di re si pa fo te tl po ts to le nu ec ep wo)) zno := by
  refine ct_intro (by decide +kernel) (Nat.le_of_ble_eq_true rfl) ?_
  intro X C
  refine z_lconst (v := 0) C dX4_sumOf_0 (by decide) ?_
  refine z_lstore_n (i := 3) C dX4_sumOf_1 rfl (Nat.le_of_ble_eq_true rfl) rfl ?_
  refine z_iload_n (i := 1) C dX4_sumOf_2 rfl rfl ?_
  refine z_istore C dX4_sumOf_3 (Nat.le_of_ble_eq_true rfl) rfl ?_
  have lp5 : ∀ (μ : Nat) (i : Nat) (h1 : f ≤ i) (h2 : i ≤ l + 1), l + 1 - i < μ → Z X 5 [some (.ref (t.1 0)), some (.int (nI f)), some (.int (nI l)), some (.long (zsumL (fun t => (si t).toInt64) f (i - f))), none, some (.int (nI i))] [] (tw b t st bk sv iz th di re si pa fo te tl po ts to le nu ec ep wo) 0 0 := by
    intro μ
    induction μ with
    | zero => intro i h1 h2 hμ; exact absurd hμ (Nat.not_lt_zero _)
    | succ μ ih5 =>
      intro i h1 h2 hμ
      refine z_iload C dX4_sumOf_5 rfl ?_
      refine z_iload_n (i := 2) C dX4_sumOf_7 rfl rfl ?_
      refine z_icmp_gt (tgt := 28) C dX4_sumOf_8 (by decide) (fun c_8 => ?_) (fun c_8 => ?_)
      · have hend : l < i := zgt c_8 (by omega) (by omega)
        refine z_lload_n (i := 3) C dX4_sumOf_28 rfl rfl ?_
        exact z_lreturn C rfl dX4_sumOf_29 (⟨zvl (by unfold zsm; rw [show i = l + 1 by omega]), rfl⟩) (Nat.le_of_ble_eq_true rfl) (Nat.le_of_ble_eq_true rfl)
      · have hle : i ≤ l := zngt c_8 (by omega) (by omega)
        refine z_lload_n (i := 3) C dX4_sumOf_11 rfl rfl ?_
        refine z_aload_n (i := 0) C dX4_sumOf_12 rfl rfl ?_
        refine tg_signal C q1871 dX4_sumOf_13 ?_
        refine z_iload C dX4_sumOf_16 rfl ?_
        refine tl_signal C (⟨rfl, by omega⟩) dX4_sumOf_18 ?_
        refine z_i2l C dX4_sumOf_19 rfl ?_
        refine z_ladd C dX4_sumOf_20 ?_
        refine z_lstore_n (i := 3) C dX4_sumOf_21 rfl (Nat.le_of_ble_eq_true rfl) rfl ?_
        refine z_iinc (v := nI (i + 1)) C dX4_sumOf_22 rfl (ziinc i) (Nat.le_of_ble_eq_true rfl) rfl ?_
        refine z_goto (tgt := 5) C dX4_sumOf_25 (by decide) ?_
        exact z_convG (ih5 (i + 1) (by omega) (by omega) (by omega)) (And.intro (rfl) (And.intro (rfl) (And.intro (rfl) (And.intro (by rw [zsumL_1 _ h1]) (And.intro (rfl) trivial))))) (Nat.le_of_ble_eq_true rfl) (Nat.le_of_ble_eq_true rfl)
  exact z_convG (lp5 (l + 2) f (by omega) (by omega) (by omega)) (And.intro (rfl) (And.intro (rfl) (And.intro (rfl) (And.intro (by rw [Nat.sub_self]; rfl) (And.intro (rfl) trivial))))) (Nat.le_of_ble_eq_true rfl) (Nat.le_of_ble_eq_true rfl)
theorem np_J12_max : znp yJ12_max 2 := ⟨by decide +kernel, by decide +kernel, by decide +kernel⟩
set_option maxHeartbeats 4000000 in
set_option maxRecDepth 100000 in
theorem ct_X4_peakOf (D : zG) (B : Nat) {b : zH} {t : tA} {st : Nat → Int32} {bk : Nat → Int32} {sv : Nat → Int32} {iz : Nat → Int32} {th : Int32} {di : Nat → Int32} {re : Nat → Int32} {si : Nat → Int32} {pa : Nat → Int32} {fo : Nat → Int64} {te : Nat → Int32} {tl : Int32} {po : Int32} {ts : Int32} {to : Int32} {le : Int32} {nu : Int32} {ec : Int32} {ep : Int32} {wo : Int64} (f l : Nat) (hf : f ≤ l + 1) (hl : l < 256) : Ct D B yX4_peakOf (ws_ yX4_peakOf cX4_peakOf 5 (some .int)) (zr 1) [.ref (t.1 0), .int (nI f), .int (nI l)] (tw b t st bk sv iz th di re si pa fo te tl po ts to le nu ec ep wo) (zpe (some (.int (zpk si f (l + 1 - f)))) (tw b t st bk sv iz th di re si pa fo te tl po ts to le nu ec ep wo)) zno := by
  refine ct_intro (by decide +kernel) (Nat.le_of_ble_eq_true rfl) ?_
  intro X C
  refine z_iconst (v := 0) C dX4_peakOf_0 (by decide) ?_
  refine z_istore_n (i := 3) C dX4_peakOf_1 rfl (Nat.le_of_ble_eq_true rfl) rfl ?_
  refine z_iload_n (i := 1) C dX4_peakOf_2 rfl rfl ?_
  refine z_istore C dX4_peakOf_3 (Nat.le_of_ble_eq_true rfl) rfl ?_
  have lp5 : ∀ (μ : Nat) (i : Nat) (h1 : f ≤ i) (h2 : i ≤ l + 1), l + 1 - i < μ → Z X 5 [some (.ref (t.1 0)), some (.int (nI f)), some (.int (nI l)), some (.int (zpk si f (i - f))), some (.int (nI i))] [] (tw b t st bk sv iz th di re si pa fo te tl po ts to le nu ec ep wo) 0 0 := by
    intro μ
    induction μ with
    | zero => intro i h1 h2 hμ; exact absurd hμ (Nat.not_lt_zero _)
    | succ μ ih5 =>
      intro i h1 h2 hμ
      refine z_iload C dX4_peakOf_5 rfl ?_
      refine z_iload_n (i := 2) C dX4_peakOf_7 rfl rfl ?_
      refine z_icmp_gt (tgt := 32) C dX4_peakOf_8 (by decide) (fun c_8 => ?_) (fun c_8 => ?_)
      · have hend : l < i := zgt c_8 (by omega) (by omega)
        refine z_iload_n (i := 3) C dX4_peakOf_32 rfl rfl ?_
        exact z_ireturn C rfl (rfl) dX4_peakOf_33 (⟨zvs (by rw [show i = l + 1 by omega]), rfl⟩) (Nat.le_of_ble_eq_true rfl) (Nat.le_of_ble_eq_true rfl)
      · have hle : i ≤ l := zngt c_8 (by omega) (by omega)
        refine z_iload_n (i := 3) C dX4_peakOf_11 rfl rfl ?_
        refine z_aload_n (i := 0) C dX4_peakOf_12 rfl rfl ?_
        refine tg_signal C q1871 dX4_peakOf_13 ?_
        refine z_iload C dX4_peakOf_16 rfl ?_
        refine tl_signal C (⟨rfl, by omega⟩) dX4_peakOf_18 ?_
        refine z_mabs C q2088 q1431 q97 q1432 (Nat.le_of_ble_eq_true rfl) (Nat.le_of_ble_eq_true rfl) (Nat.le_of_ble_eq_true rfl) (Nat.le_of_ble_eq_true rfl) dX4_peakOf_19 ?_
        refine z_seti (zabI_eq _) ?_
        refine z_mmax C q2144 q257 q97 q258 (Nat.le_of_ble_eq_true rfl) (Nat.le_of_ble_eq_true rfl) (Nat.le_of_ble_eq_true rfl) (Nat.le_of_ble_eq_true rfl) dX4_peakOf_22 ?_
        refine z_seti (zmxI_eq _ _) ?_
        refine z_istore_n (i := 3) C dX4_peakOf_25 rfl (Nat.le_of_ble_eq_true rfl) rfl ?_
        refine z_iinc (v := nI (i + 1)) C dX4_peakOf_26 rfl (ziinc i) (Nat.le_of_ble_eq_true rfl) rfl ?_
        refine z_goto (tgt := 5) C dX4_peakOf_29 (by decide) ?_
        exact z_convG (ih5 (i + 1) (by omega) (by omega) (by omega)) (And.intro (rfl) (And.intro (rfl) (And.intro (rfl) (And.intro (by rw [zpk_1 _ h1]) (And.intro (rfl) trivial))))) (Nat.le_of_ble_eq_true rfl) (Nat.le_of_ble_eq_true rfl)
  exact z_convG (lp5 (l + 2) f (by omega) (by omega) (by omega)) (And.intro (rfl) (And.intro (rfl) (And.intro (rfl) (And.intro (by rw [Nat.sub_self]; rfl) (And.intro (rfl) trivial))))) (Nat.le_of_ble_eq_true rfl) (Nat.le_of_ble_eq_true rfl)
set_option maxHeartbeats 4000000 in
set_option maxRecDepth 100000 in
theorem ct_X4_signOf (D : zG) (B : Nat) {G : zH} (x : Int32)  : Ct D B yX4_signOf (ws_ yX4_signOf cX4_signOf 1 (some .int)) (zr 0) [.int x] G (zpe (some (.int (zsg x))) G) zno := by
  refine ct_intro (by decide +kernel) (Nat.le_of_ble_eq_true rfl) ?_
  intro X C
  refine z_iload_n (i := 0) C dX4_signOf_0 rfl rfl ?_
  refine z_if_le (tgt := 8) C dX4_signOf_1 (by decide) (fun c_1 => ?_) (fun c_1 => ?_)
  · refine z_iload_n (i := 0) C dX4_signOf_8 rfl rfl ?_
    refine z_if_ge (tgt := 16) C dX4_signOf_9 (by decide) (fun c_9 => ?_) (fun c_9 => ?_)
    · refine z_iconst (v := 0) C dX4_signOf_16 (by decide) ?_
      exact z_ireturn C rfl (rfl) dX4_signOf_17 (⟨zvs (by unfold zsg; first | rw [if_pos (Int32.not_le.mp c_1)] | rw [if_neg (Int32.not_lt.mpr c_1), if_pos (Int32.not_le.mp c_9)] | rw [if_neg (Int32.not_lt.mpr c_1), if_neg (Int32.not_lt.mpr c_9)]), rfl⟩) (Nat.le_of_ble_eq_true rfl) (Nat.le_of_ble_eq_true rfl)
    · refine z_iconst (v := (-1)) C dX4_signOf_12 (by decide) ?_
      refine z_goto (tgt := 17) C dX4_signOf_13 (by decide) ?_
      exact z_ireturn C rfl (rfl) dX4_signOf_17 (⟨zvs (by unfold zsg; first | rw [if_pos (Int32.not_le.mp c_1)] | rw [if_neg (Int32.not_lt.mpr c_1), if_pos (Int32.not_le.mp c_9)] | rw [if_neg (Int32.not_lt.mpr c_1), if_neg (Int32.not_lt.mpr c_9)]), rfl⟩) (Nat.le_of_ble_eq_true rfl) (Nat.le_of_ble_eq_true rfl)
  · refine z_iconst (v := 1) C dX4_signOf_4 (by decide) ?_
    refine z_goto (tgt := 17) C dX4_signOf_5 (by decide) ?_
    exact z_ireturn C rfl (rfl) dX4_signOf_17 (⟨zvs (by unfold zsg; first | rw [if_pos (Int32.not_le.mp c_1)] | rw [if_neg (Int32.not_lt.mpr c_1), if_pos (Int32.not_le.mp c_9)] | rw [if_neg (Int32.not_lt.mpr c_1), if_neg (Int32.not_lt.mpr c_9)]), rfl⟩) (Nat.le_of_ble_eq_true rfl) (Nat.le_of_ble_eq_true rfl)
set_option maxHeartbeats 4000000 in
set_option maxRecDepth 100000 in
theorem ct_X4_digitsOf (D : zG) (B : Nat) {G : zH} (n : Nat) (hn : n < 2 ^ 63) : Ct D B yX4_digitsOf (ws_ yX4_digitsOf cX4_digitsOf 5 (some .int)) (zr 0) [.long (lN n)] G (zpe (some (.int (nI (zdg n)))) G) zno := by
  refine ct_intro (by decide +kernel) (Nat.le_of_ble_eq_true rfl) ?_
  intro X C
  refine z_iconst (v := 0) C dX4_digitsOf_0 (by decide) ?_
  refine z_istore_n (i := 2) C dX4_digitsOf_1 rfl (Nat.le_of_ble_eq_true rfl) rfl ?_
  refine z_lload_n (i := 0) C dX4_digitsOf_2 rfl rfl ?_
  refine z_lstore_n (i := 3) C dX4_digitsOf_3 rfl (Nat.le_of_ble_eq_true rfl) rfl ?_
  have lp4 : ∀ (μ : Nat) (d a : Nat) (h1 : d + zdg a = zdg n) (h2 : a ≤ n), a < μ → Z X 4 [some (.long (lN n)), none, some (.int (nI d)), some (.long (lN a)), none] [] G 0 0 := by
    intro μ
    induction μ with
    | zero => intro d a h1 h2 hμ; exact absurd hμ (Nat.not_lt_zero _)
    | succ μ ih4 =>
      intro d a h1 h2 hμ
      refine z_lload_n (i := 3) C dX4_digitsOf_4 rfl rfl ?_
      refine z_lconst (v := 0) C dX4_digitsOf_5 (by decide) ?_
      refine z_lc_le (tgt := 22) C dX4_digitsOf_6 dX4_digitsOf_7 (by decide) (fun c_7 => ?_) (fun c_7 => ?_)
      · have ha : a = 0 := by have := (pk_lLE (b := 0) (by omega) (by decide)).mp c_7; omega
        subst ha
        rw [zdg_0] at h1
        refine z_iload_n (i := 2) C dX4_digitsOf_22 rfl rfl ?_
        exact z_ireturn C rfl (rfl) dX4_digitsOf_23 (⟨zvs (by rw [← h1]; rfl), rfl⟩) (Nat.le_of_ble_eq_true rfl) (Nat.le_of_ble_eq_true rfl)
      · have ha : 0 < a := Nat.pos_of_ne_zero (fun e => c_7 (by rw [e]; decide))
        refine z_iinc (v := nI (d + 1)) C dX4_digitsOf_10 rfl (ziinc d) (Nat.le_of_ble_eq_true rfl) rfl ?_
        refine z_lload_n (i := 3) C dX4_digitsOf_13 rfl rfl ?_
        refine z_ldc2 C q2071 dX4_digitsOf_14 ?_
        refine z_ldiv C dX4_digitsOf_17 (by decide) ?_
        refine z_setl (y := lN (a / 2)) (pk_lDiv (b := 2) (by omega) (by decide) (by decide)) ?_
        refine z_lstore_n (i := 3) C dX4_digitsOf_18 rfl (Nat.le_of_ble_eq_true rfl) rfl ?_
        refine z_goto (tgt := 4) C dX4_digitsOf_19 (by decide) ?_
        exact z_convG (ih4 (d + 1) (a / 2) (by rw [zdg_pos ha] at h1; omega) (by omega) (by omega)) (And.intro (rfl) (And.intro (rfl) (And.intro (rfl) trivial))) (Nat.le_of_ble_eq_true rfl) (Nat.le_of_ble_eq_true rfl)
  exact z_convG (lp4 (n + 1) 0 n (by omega) (by omega) (by omega)) (And.intro (rfl) (And.intro (rfl) (And.intro (rfl) trivial))) (Nat.le_of_ble_eq_true rfl) (Nat.le_of_ble_eq_true rfl)
theorem np_X4_signOf : znp yX4_signOf 1 := ⟨by decide +kernel, by decide +kernel, by decide +kernel⟩
set_option maxHeartbeats 4000000 in
set_option maxRecDepth 100000 in
theorem ct_X4_crossingsOf (D : zG) (B : Nat) {b : zH} {t : tA} {st : Nat → Int32} {bk : Nat → Int32} {sv : Nat → Int32} {iz : Nat → Int32} {th : Int32} {di : Nat → Int32} {re : Nat → Int32} {si : Nat → Int32} {pa : Nat → Int32} {fo : Nat → Int64} {te : Nat → Int32} {tl : Int32} {po : Int32} {ts : Int32} {to : Int32} {le : Int32} {nu : Int32} {ec : Int32} {ep : Int32} {wo : Int64} (f l : Nat) (hf : f ≤ l) (hl : l < 256) : Ct D B yX4_crossingsOf (ws_ yX4_crossingsOf cX4_crossingsOf 5 (some .int)) (zr 1) [.ref (t.1 0), .int (nI f), .int (nI l)] (tw b t st bk sv iz th di re si pa fo te tl po ts to le nu ec ep wo) (zpe (some (.int (zcr si f (l - f)))) (tw b t st bk sv iz th di re si pa fo te tl po ts to le nu ec ep wo)) zno := by
  refine ct_intro (by decide +kernel) (Nat.le_of_ble_eq_true rfl) ?_
  intro X C
  refine z_iconst (v := 0) C dX4_crossingsOf_0 (by decide) ?_
  refine z_istore_n (i := 3) C dX4_crossingsOf_1 rfl (Nat.le_of_ble_eq_true rfl) rfl ?_
  refine z_iload_n (i := 1) C dX4_crossingsOf_2 rfl rfl ?_
  refine z_iconst (v := 1) C dX4_crossingsOf_3 (by decide) ?_
  refine z_iadd C dX4_crossingsOf_4 ?_
  refine z_seti (nI_1 f) ?_
  refine z_istore C dX4_crossingsOf_5 (Nat.le_of_ble_eq_true rfl) rfl ?_
  have lp7 : ∀ (μ : Nat) (i : Nat) (h1 : f + 1 ≤ i) (h2 : i ≤ l + 1), l + 1 - i < μ → Z X 7 [some (.ref (t.1 0)), some (.int (nI f)), some (.int (nI l)), some (.int (zcr si f (i - (f + 1)))), some (.int (nI i))] [] (tw b t st bk sv iz th di re si pa fo te tl po ts to le nu ec ep wo) 0 0 := by
    intro μ
    induction μ with
    | zero => intro i h1 h2 hμ; exact absurd hμ (Nat.not_lt_zero _)
    | succ μ ih7 =>
      intro i h1 h2 hμ
      refine z_iload C dX4_crossingsOf_7 rfl ?_
      refine z_iload_n (i := 2) C dX4_crossingsOf_9 rfl rfl ?_
      refine z_icmp_gt (tgt := 52) C dX4_crossingsOf_10 (by decide) (fun c_10 => ?_) (fun c_10 => ?_)
      · have hend : l < i := zgt c_10 (by omega) (by omega)
        refine z_iload_n (i := 3) C dX4_crossingsOf_52 rfl rfl ?_
        exact z_ireturn C rfl (rfl) dX4_crossingsOf_53 (⟨zvs (by rw [show i - (f + 1) = l - f by omega]), rfl⟩) (Nat.le_of_ble_eq_true rfl) (Nat.le_of_ble_eq_true rfl)
      · have hle : i ≤ l := zngt c_10 (by omega) (by omega)
        refine z_iload_n (i := 3) C dX4_crossingsOf_13 rfl rfl ?_
        refine z_aload_n (i := 0) C dX4_crossingsOf_14 rfl rfl ?_
        refine tg_signal C q1871 dX4_crossingsOf_15 ?_
        refine z_iload C dX4_crossingsOf_18 rfl ?_
        refine tl_signal C (⟨rfl, by omega⟩) dX4_crossingsOf_20 ?_
        refine z_callSe C (ct_X4_signOf D B _) q2156 q2157 q106 q2158 np_X4_signOf (zr_ok rfl rfl) rfl rfl (Nat.le_of_ble_eq_true rfl) (⟨Nat.le_of_ble_eq_true rfl, Nat.le_of_ble_eq_true rfl⟩) dX4_crossingsOf_21 ?_
        refine z_aload_n (i := 0) C dX4_crossingsOf_24 rfl rfl ?_
        refine tg_signal C q1871 dX4_crossingsOf_25 ?_
        refine z_iload C dX4_crossingsOf_28 rfl ?_
        refine z_iconst (v := 1) C dX4_crossingsOf_30 (by decide) ?_
        refine z_isub C dX4_crossingsOf_31 ?_
        refine z_seti (y := nI (i - 1)) (pk_sub (b := 1) (by omega)) ?_
        refine tl_signal C (⟨rfl, by omega⟩) dX4_crossingsOf_32 ?_
        refine z_callSe C (ct_X4_signOf D B _) q2156 q2157 q106 q2158 np_X4_signOf (zr_ok rfl rfl) rfl rfl (Nat.le_of_ble_eq_true rfl) (⟨Nat.le_of_ble_eq_true rfl, Nat.le_of_ble_eq_true rfl⟩) dX4_crossingsOf_33 ?_
        refine z_icmp_ne (tgt := 43) C dX4_crossingsOf_36 (by decide) (fun c_36 => ?_) (fun c_36 => ?_)
        · refine z_iconst (v := 1) C dX4_crossingsOf_43 (by decide) ?_
          refine z_iadd C dX4_crossingsOf_44 ?_
          refine z_istore_n (i := 3) C dX4_crossingsOf_45 rfl (Nat.le_of_ble_eq_true rfl) rfl ?_
          refine z_iinc (v := nI (i + 1)) C dX4_crossingsOf_46 rfl (ziinc i) (Nat.le_of_ble_eq_true rfl) rfl ?_
          refine z_goto (tgt := 7) C dX4_crossingsOf_49 (by decide) ?_
          exact z_convG (ih7 (i + 1) (by omega) (by omega) (by omega)) (And.intro (rfl) (And.intro (rfl) (And.intro (rfl) (And.intro (by rw [show i + 1 - (f + 1) = (i - (f + 1)) + 1 by omega]; simp only [zcr]; rw [show f + 1 + (i - (f + 1)) = i by omega, show f + (i - (f + 1)) = i - 1 by omega]; first | rw [if_pos (Classical.byContradiction c_36)] | rw [if_neg c_36] | rw [if_pos c_36]) (And.intro (rfl) trivial))))) (Nat.le_of_ble_eq_true rfl) (Nat.le_of_ble_eq_true rfl)
        · refine z_iconst (v := 0) C dX4_crossingsOf_39 (by decide) ?_
          refine z_goto (tgt := 44) C dX4_crossingsOf_40 (by decide) ?_
          refine z_iadd C dX4_crossingsOf_44 ?_
          refine z_istore_n (i := 3) C dX4_crossingsOf_45 rfl (Nat.le_of_ble_eq_true rfl) rfl ?_
          refine z_iinc (v := nI (i + 1)) C dX4_crossingsOf_46 rfl (ziinc i) (Nat.le_of_ble_eq_true rfl) rfl ?_
          refine z_goto (tgt := 7) C dX4_crossingsOf_49 (by decide) ?_
          exact z_convG (ih7 (i + 1) (by omega) (by omega) (by omega)) (And.intro (rfl) (And.intro (rfl) (And.intro (rfl) (And.intro (by rw [show i + 1 - (f + 1) = (i - (f + 1)) + 1 by omega]; simp only [zcr]; rw [show f + 1 + (i - (f + 1)) = i by omega, show f + (i - (f + 1)) = i - 1 by omega]; first | rw [if_pos (Classical.byContradiction c_36)] | rw [if_neg c_36] | rw [if_pos c_36]) (And.intro (rfl) trivial))))) (Nat.le_of_ble_eq_true rfl) (Nat.le_of_ble_eq_true rfl)
  exact z_convG (lp7 (l + 2) (f + 1) (by omega) (by omega) (by omega)) (And.intro (rfl) (And.intro (rfl) (And.intro (rfl) (And.intro (by rw [Nat.sub_self]; rfl) (And.intro (rfl) trivial))))) (Nat.le_of_ble_eq_true rfl) (Nat.le_of_ble_eq_true rfl)
theorem np_X4_energyOf : znp yX4_energyOf 2 := ⟨by decide +kernel, by decide +kernel, by decide +kernel⟩
theorem np_X4_peakOf : znp yX4_peakOf 2 := ⟨by decide +kernel, by decide +kernel, by decide +kernel⟩
theorem np_X4_digitsOf : znp yX4_digitsOf 1 := ⟨by decide +kernel, by decide +kernel, by decide +kernel⟩
theorem np_X4_sumOf : znp yX4_sumOf 2 := ⟨by decide +kernel, by decide +kernel, by decide +kernel⟩
theorem np_X4_crossingsOf : znp yX4_crossingsOf 2 := ⟨by decide +kernel, by decide +kernel, by decide +kernel⟩
set_option maxHeartbeats 4000000 in
set_option maxRecDepth 100000 in
theorem ct_X4_measureOf_0 (D : zG) (B : Nat) {b : zH} {t : tA} {st : Nat → Int32} {bk : Nat → Int32} {sv : Nat → Int32} {iz : Nat → Int32} {th : Int32} {di : Nat → Int32} {re : Nat → Int32} {si : Nat → Int32} {pa : Nat → Int32} {fo : Nat → Int64} {te : Nat → Int32} {tl : Int32} {po : Int32} {ts : Int32} {to : Int32} {le : Int32} {nu : Int32} {ec : Int32} {ep : Int32} {wo : Int64} (f l : Nat) (hf : f ≤ l) (hl : l < 256) : Ct D B yX4_measureOf (ws_ yX4_measureOf cX4_measureOf 4 (some .long)) (zr 2) [.ref (t.1 0), .int 0, .int (nI f), .int (nI l)] (tw b t st bk sv iz th di re si pa fo te tl po ts to le nu ec ep wo) (zpe (some (.long (zen si f l))) (tw b t st bk sv iz th di re si pa fo te tl po ts to le nu ec ep wo)) zno := by
  refine ct_intro (by decide +kernel) (Nat.le_of_ble_eq_true rfl) ?_
  intro X C
  refine z_iload_n (i := 1) C dX4_measureOf_0 rfl rfl ?_
  refine z_tableIn (x := 0) (off := 31) (tgt := 32) C dX4_measureOf_1 (by decide) (by decide) rfl (by decide) ?_
  refine z_aload_n (i := 0) C dX4_measureOf_32 rfl rfl ?_
  refine z_iload_n (i := 2) C dX4_measureOf_33 rfl rfl ?_
  refine z_iload_n (i := 3) C dX4_measureOf_34 rfl rfl ?_
  refine z_callVe C (tw_obj) rfl (ct_X4_energyOf D B f l (by omega) hl) q2136 q2138 qs51 q106 q2139 np_X4_energyOf (zr_ok rfl rfl) rfl rfl (Nat.le_of_ble_eq_true rfl) (⟨Nat.le_of_ble_eq_true rfl, Nat.le_of_ble_eq_true rfl⟩) dX4_measureOf_35 ?_
  exact z_lreturn C rfl dX4_measureOf_38 (⟨rfl, rfl⟩) (Nat.le_of_ble_eq_true rfl) (Nat.le_of_ble_eq_true rfl)
set_option maxHeartbeats 4000000 in
set_option maxRecDepth 100000 in
theorem ct_X4_measureOf_1 (D : zG) (B : Nat) {b : zH} {t : tA} {st : Nat → Int32} {bk : Nat → Int32} {sv : Nat → Int32} {iz : Nat → Int32} {th : Int32} {di : Nat → Int32} {re : Nat → Int32} {si : Nat → Int32} {pa : Nat → Int32} {fo : Nat → Int64} {te : Nat → Int32} {tl : Int32} {po : Int32} {ts : Int32} {to : Int32} {le : Int32} {nu : Int32} {ec : Int32} {ep : Int32} {wo : Int64} (f l : Nat) (hf : f ≤ l) (hl : l < 256) : Ct D B yX4_measureOf (ws_ yX4_measureOf cX4_measureOf 4 (some .long)) (zr 2) [.ref (t.1 0), .int 1, .int (nI f), .int (nI l)] (tw b t st bk sv iz th di re si pa fo te tl po ts to le nu ec ep wo) (zpe (some (.long ((zpk si f (l + 1 - f)).toInt64))) (tw b t st bk sv iz th di re si pa fo te tl po ts to le nu ec ep wo)) zno := by
  refine ct_intro (by decide +kernel) (Nat.le_of_ble_eq_true rfl) ?_
  intro X C
  refine z_iload_n (i := 1) C dX4_measureOf_0 rfl rfl ?_
  refine z_tableIn (x := 1) (off := 38) (tgt := 39) C dX4_measureOf_1 (by decide) (by decide) rfl (by decide) ?_
  refine z_aload_n (i := 0) C dX4_measureOf_39 rfl rfl ?_
  refine z_iload_n (i := 2) C dX4_measureOf_40 rfl rfl ?_
  refine z_iload_n (i := 3) C dX4_measureOf_41 rfl rfl ?_
  refine z_callVe C (tw_obj) rfl (ct_X4_peakOf D B f l (by omega) hl) q2140 q2142 qs52 q106 q2143 np_X4_peakOf (zr_ok rfl rfl) rfl rfl (Nat.le_of_ble_eq_true rfl) (⟨Nat.le_of_ble_eq_true rfl, Nat.le_of_ble_eq_true rfl⟩) dX4_measureOf_42 ?_
  refine z_i2l C dX4_measureOf_45 rfl ?_
  exact z_lreturn C rfl dX4_measureOf_46 (⟨rfl, rfl⟩) (Nat.le_of_ble_eq_true rfl) (Nat.le_of_ble_eq_true rfl)
set_option maxHeartbeats 4000000 in
set_option maxRecDepth 100000 in
theorem ct_X4_measureOf_2 (D : zG) (B : Nat) {b : zH} {t : tA} {st : Nat → Int32} {bk : Nat → Int32} {sv : Nat → Int32} {iz : Nat → Int32} {th : Int32} {di : Nat → Int32} {re : Nat → Int32} {si : Nat → Int32} {pa : Nat → Int32} {fo : Nat → Int64} {te : Nat → Int32} {tl : Int32} {po : Int32} {ts : Int32} {to : Int32} {le : Int32} {nu : Int32} {ec : Int32} {ep : Int32} {wo : Int64} (f l : Nat) (hf : f ≤ l) (hl : l < 256) (ne : Nat) (hE : zen si f l = lN ne) (hne : ne < 2 ^ 63) : Ct D B yX4_measureOf (ws_ yX4_measureOf cX4_measureOf 4 (some .long)) (zr 2) [.ref (t.1 0), .int 2, .int (nI f), .int (nI l)] (tw b t st bk sv iz th di re si pa fo te tl po ts to le nu ec ep wo) (zpe (some (.long ((nI (zdg ne)).toInt64))) (tw b t st bk sv iz th di re si pa fo te tl po ts to le nu ec ep wo)) zno := by
  refine ct_intro (by decide +kernel) (Nat.le_of_ble_eq_true rfl) ?_
  intro X C
  refine z_iload_n (i := 1) C dX4_measureOf_0 rfl rfl ?_
  refine z_tableIn (x := 2) (off := 46) (tgt := 47) C dX4_measureOf_1 (by decide) (by decide) rfl (by decide) ?_
  refine z_aload_n (i := 0) C dX4_measureOf_47 rfl rfl ?_
  refine z_iload_n (i := 2) C dX4_measureOf_48 rfl rfl ?_
  refine z_iload_n (i := 3) C dX4_measureOf_49 rfl rfl ?_
  refine z_callVe C (tw_obj) rfl (ct_X4_energyOf D B f l (by omega) hl) q2136 q2138 qs51 q106 q2139 np_X4_energyOf (zr_ok rfl rfl) rfl rfl (Nat.le_of_ble_eq_true rfl) (⟨Nat.le_of_ble_eq_true rfl, Nat.le_of_ble_eq_true rfl⟩) dX4_measureOf_50 ?_
  rw [hE]
  refine z_callSe C (ct_X4_digitsOf D B ne hne) q2145 q2146 q106 q2147 np_X4_digitsOf (zr_ok rfl rfl) rfl rfl (Nat.le_of_ble_eq_true rfl) (⟨Nat.le_of_ble_eq_true rfl, Nat.le_of_ble_eq_true rfl⟩) dX4_measureOf_53 ?_
  refine z_i2l C dX4_measureOf_56 rfl ?_
  exact z_lreturn C rfl dX4_measureOf_57 (⟨rfl, rfl⟩) (Nat.le_of_ble_eq_true rfl) (Nat.le_of_ble_eq_true rfl)
set_option maxHeartbeats 4000000 in
set_option maxRecDepth 100000 in
theorem ct_X4_measureOf_3 (D : zG) (B : Nat) {b : zH} {t : tA} {st : Nat → Int32} {bk : Nat → Int32} {sv : Nat → Int32} {iz : Nat → Int32} {th : Int32} {di : Nat → Int32} {re : Nat → Int32} {si : Nat → Int32} {pa : Nat → Int32} {fo : Nat → Int64} {te : Nat → Int32} {tl : Int32} {po : Int32} {ts : Int32} {to : Int32} {le : Int32} {nu : Int32} {ec : Int32} {ep : Int32} {wo : Int64} (f l : Nat) (hf : f ≤ l) (hl : l < 256) : Ct D B yX4_measureOf (ws_ yX4_measureOf cX4_measureOf 4 (some .long)) (zr 2) [.ref (t.1 0), .int 3, .int (nI f), .int (nI l)] (tw b t st bk sv iz th di re si pa fo te tl po ts to le nu ec ep wo) (zpe (some (.long (zsm si f l))) (tw b t st bk sv iz th di re si pa fo te tl po ts to le nu ec ep wo)) zno := by
  refine ct_intro (by decide +kernel) (Nat.le_of_ble_eq_true rfl) ?_
  intro X C
  refine z_iload_n (i := 1) C dX4_measureOf_0 rfl rfl ?_
  refine z_tableIn (x := 3) (off := 57) (tgt := 58) C dX4_measureOf_1 (by decide) (by decide) rfl (by decide) ?_
  refine z_aload_n (i := 0) C dX4_measureOf_58 rfl rfl ?_
  refine z_iload_n (i := 2) C dX4_measureOf_59 rfl rfl ?_
  refine z_iload_n (i := 3) C dX4_measureOf_60 rfl rfl ?_
  refine z_callVe C (tw_obj) rfl (ct_X4_sumOf D B f l (by omega) hl) q2148 q2150 qs53 q106 q2151 np_X4_sumOf (zr_ok rfl rfl) rfl rfl (Nat.le_of_ble_eq_true rfl) (⟨Nat.le_of_ble_eq_true rfl, Nat.le_of_ble_eq_true rfl⟩) dX4_measureOf_61 ?_
  exact z_lreturn C rfl dX4_measureOf_64 (⟨rfl, rfl⟩) (Nat.le_of_ble_eq_true rfl) (Nat.le_of_ble_eq_true rfl)
set_option maxHeartbeats 4000000 in
set_option maxRecDepth 100000 in
theorem ct_X4_measureOf_4 (D : zG) (B : Nat) {b : zH} {t : tA} {st : Nat → Int32} {bk : Nat → Int32} {sv : Nat → Int32} {iz : Nat → Int32} {th : Int32} {di : Nat → Int32} {re : Nat → Int32} {si : Nat → Int32} {pa : Nat → Int32} {fo : Nat → Int64} {te : Nat → Int32} {tl : Int32} {po : Int32} {ts : Int32} {to : Int32} {le : Int32} {nu : Int32} {ec : Int32} {ep : Int32} {wo : Int64} (f l : Nat) (hf : f ≤ l) (hl : l < 256) : Ct D B yX4_measureOf (ws_ yX4_measureOf cX4_measureOf 4 (some .long)) (zr 2) [.ref (t.1 0), .int 4, .int (nI f), .int (nI l)] (tw b t st bk sv iz th di re si pa fo te tl po ts to le nu ec ep wo) (zpe (some (.long ((zcr si f (l - f)).toInt64))) (tw b t st bk sv iz th di re si pa fo te tl po ts to le nu ec ep wo)) zno := by
  refine ct_intro (by decide +kernel) (Nat.le_of_ble_eq_true rfl) ?_
  intro X C
  refine z_iload_n (i := 1) C dX4_measureOf_0 rfl rfl ?_
  refine z_tableOut (x := 4) (tgt := 65) C dX4_measureOf_1 (Or.inr (by decide)) (by decide) ?_
  refine z_aload_n (i := 0) C dX4_measureOf_65 rfl rfl ?_
  refine z_iload_n (i := 2) C dX4_measureOf_66 rfl rfl ?_
  refine z_iload_n (i := 3) C dX4_measureOf_67 rfl rfl ?_
  refine z_callVe C (tw_obj) rfl (ct_X4_crossingsOf D B f l hf hl) q2152 q2154 qs54 q106 q2155 np_X4_crossingsOf (zr_ok rfl rfl) rfl rfl (Nat.le_of_ble_eq_true rfl) (⟨Nat.le_of_ble_eq_true rfl, Nat.le_of_ble_eq_true rfl⟩) dX4_measureOf_68 ?_
  refine z_i2l C dX4_measureOf_71 rfl ?_
  exact z_lreturn C rfl dX4_measureOf_72 (⟨rfl, rfl⟩) (Nat.le_of_ble_eq_true rfl) (Nat.le_of_ble_eq_true rfl)
set_option maxHeartbeats 4000000 in
set_option maxRecDepth 100000 in
theorem ct_X4_sample_ok (D : zG) (B : Nat) {b : zH} {t : tA} {st : Nat → Int32} {bk : Nat → Int32} {sv : Nat → Int32} {iz : Nat → Int32} {th : Int32} {di : Nat → Int32} {re : Nat → Int32} {si : Nat → Int32} {pa : Nat → Int32} {fo : Nat → Int64} {te : Nat → Int32} {tl : Int32} {po : Int32} {ts : Int32} {to : Int32} {le : Int32} {nu : Int32} {ec : Int32} {ep : Int32} {wo : Int64} (m j : Nat) (hm0 : 0 ≤ nI m ∧ nI m ≤ st 8 - 1) (hm : m < 8) (ht0 : 0 ≤ nI j ∧ nI j ≤ 255) (hj : j < 256) : Ct D B yX4_sample (ws_ yX4_sample cX4_sample 3 (some .int)) (zr 3) [.ref (t.1 0), .int (nI m), .int (nI j)] (tw b t st bk sv iz th di re si pa fo te tl po ts to le nu ec ep wo) (zpe (some (.int (st (186 + 256 * m + j)))) (tw b t st bk sv iz 0 di re si pa fo te tl po ts to le nu ec ep wo)) zno := by
  refine ct_intro (by decide +kernel) (Nat.le_of_ble_eq_true rfl) ?_
  intro X C
  refine z_aload_n (i := 0) C dX4_sample_0 rfl rfl ?_
  refine z_iconst (v := 0) C dX4_sample_1 (by decide) ?_
  refine tp_thrown C q1868 dX4_sample_2 ?_
  refine z_aload_n (i := 0) C dX4_sample_5 rfl rfl ?_
  refine z_iload_n (i := 1) C dX4_sample_6 rfl rfl ?_
  refine z_callVe C (tw_obj) rfl (ct_X4_isMicrophone D B _) q2020 q2022 qs34 q106 q2023 np_X4_isMicrophone (zr_ok rfl rfl) rfl rfl (Nat.le_of_ble_eq_true rfl) (⟨Nat.le_of_ble_eq_true rfl, Nat.le_of_ble_eq_true rfl⟩) dX4_sample_7 ?_
  refine z_seti (zb_t (hm0)) ?_
  refine z_if_ne (tgt := 19) C dX4_sample_10 (by decide) (fun c_10 => ?_) (fun c_10 => ?_)
  · refine z_iload_n (i := 2) C dX4_sample_19 rfl rfl ?_
    refine z_callSe C (ct_X4_isTime D B _) q2032 q2033 q106 q2034 np_X4_isTime (zr_ok rfl rfl) rfl rfl (Nat.le_of_ble_eq_true rfl) (⟨Nat.le_of_ble_eq_true rfl, Nat.le_of_ble_eq_true rfl⟩) dX4_sample_20 ?_
    refine z_seti (zb_t (ht0)) ?_
    refine z_if_eq (tgt := 35) C dX4_sample_23 (by decide) (fun c_23 => ?_) (fun c_23 => ?_)
    · exact absurd c_23 (by decide)
    · refine z_aload_n (i := 0) C dX4_sample_26 rfl rfl ?_
      refine z_iload_n (i := 1) C dX4_sample_27 rfl rfl ?_
      refine z_iload_n (i := 2) C dX4_sample_28 rfl rfl ?_
      refine z_callVe C (tw_obj) rfl (ct_X4_recorded D B m (nI j) hm) q2117 q2119 qs48 q106 q2120 np_X4_recorded (zr_ok rfl rfl) rfl rfl (Nat.le_of_ble_eq_true rfl) (⟨Nat.le_of_ble_eq_true rfl, Nat.le_of_ble_eq_true rfl⟩) dX4_sample_29 ?_
      refine z_goto (tgt := 40) C dX4_sample_32 (by decide) ?_
      exact z_ireturn C rfl (rfl) dX4_sample_40 (⟨zvs (zrec_in st m hj), rfl⟩) (Nat.le_of_ble_eq_true rfl) (Nat.le_of_ble_eq_true rfl)
  · exact absurd c_10 (by decide)
set_option maxHeartbeats 4000000 in
set_option maxRecDepth 100000 in
theorem ct_X4_sample_1 (D : zG) (B : Nat) {b : zH} {t : tA} {st : Nat → Int32} {bk : Nat → Int32} {sv : Nat → Int32} {iz : Nat → Int32} {th : Int32} {di : Nat → Int32} {re : Nat → Int32} {si : Nat → Int32} {pa : Nat → Int32} {fo : Nat → Int64} {te : Nat → Int32} {tl : Int32} {po : Int32} {ts : Int32} {to : Int32} {le : Int32} {nu : Int32} {ec : Int32} {ep : Int32} {wo : Int64} (m j : Int32) (h1 : ¬ (0 ≤ m ∧ m ≤ st 8 - 1)) : Ct D B yX4_sample (ws_ yX4_sample cX4_sample 3 (some .int)) (zr 3) [.ref (t.1 0), .int m, .int j] (tw b t st bk sv iz th di re si pa fo te tl po ts to le nu ec ep wo) (zpe (some (.int (0))) (tw b t st bk sv iz 1 di re si pa fo te tl po ts to le nu ec ep wo)) zno := by
  refine ct_intro (by decide +kernel) (Nat.le_of_ble_eq_true rfl) ?_
  intro X C
  refine z_aload_n (i := 0) C dX4_sample_0 rfl rfl ?_
  refine z_iconst (v := 0) C dX4_sample_1 (by decide) ?_
  refine tp_thrown C q1868 dX4_sample_2 ?_
  refine z_aload_n (i := 0) C dX4_sample_5 rfl rfl ?_
  refine z_iload_n (i := 1) C dX4_sample_6 rfl rfl ?_
  refine z_callVe C (tw_obj) rfl (ct_X4_isMicrophone D B _) q2020 q2022 qs34 q106 q2023 np_X4_isMicrophone (zr_ok rfl rfl) rfl rfl (Nat.le_of_ble_eq_true rfl) (⟨Nat.le_of_ble_eq_true rfl, Nat.le_of_ble_eq_true rfl⟩) dX4_sample_7 ?_
  refine z_seti (zb_f (h1)) ?_
  refine z_if_ne (tgt := 19) C dX4_sample_10 (by decide) (fun c_10 => ?_) (fun c_10 => ?_)
  · exact absurd rfl c_10
  · refine z_aload_n (i := 0) C dX4_sample_13 rfl rfl ?_
    refine z_iconst (v := 1) C dX4_sample_14 (by decide) ?_
    refine z_callVe C (tw_obj) rfl (ct_X4_fail D B _) q1941 q1943 qs26 q106 q1944 np_X4_fail (zr_ok rfl rfl) rfl rfl (Nat.le_of_ble_eq_true rfl) (⟨Nat.le_of_ble_eq_true rfl, Nat.le_of_ble_eq_true rfl⟩) dX4_sample_15 ?_
    exact z_ireturn C rfl (rfl) dX4_sample_18 (⟨rfl, rfl⟩) (Nat.le_of_ble_eq_true rfl) (Nat.le_of_ble_eq_true rfl)
set_option maxHeartbeats 4000000 in
set_option maxRecDepth 100000 in
theorem ct_X4_sample_2 (D : zG) (B : Nat) {b : zH} {t : tA} {st : Nat → Int32} {bk : Nat → Int32} {sv : Nat → Int32} {iz : Nat → Int32} {th : Int32} {di : Nat → Int32} {re : Nat → Int32} {si : Nat → Int32} {pa : Nat → Int32} {fo : Nat → Int64} {te : Nat → Int32} {tl : Int32} {po : Int32} {ts : Int32} {to : Int32} {le : Int32} {nu : Int32} {ec : Int32} {ep : Int32} {wo : Int64} (m j : Int32) (h1 : 0 ≤ m ∧ m ≤ st 8 - 1) (h2 : ¬ (0 ≤ j ∧ j ≤ 255)) : Ct D B yX4_sample (ws_ yX4_sample cX4_sample 3 (some .int)) (zr 3) [.ref (t.1 0), .int m, .int j] (tw b t st bk sv iz th di re si pa fo te tl po ts to le nu ec ep wo) (zpe (some (.int (0))) (tw b t st bk sv iz 2 di re si pa fo te tl po ts to le nu ec ep wo)) zno := by
  refine ct_intro (by decide +kernel) (Nat.le_of_ble_eq_true rfl) ?_
  intro X C
  refine z_aload_n (i := 0) C dX4_sample_0 rfl rfl ?_
  refine z_iconst (v := 0) C dX4_sample_1 (by decide) ?_
  refine tp_thrown C q1868 dX4_sample_2 ?_
  refine z_aload_n (i := 0) C dX4_sample_5 rfl rfl ?_
  refine z_iload_n (i := 1) C dX4_sample_6 rfl rfl ?_
  refine z_callVe C (tw_obj) rfl (ct_X4_isMicrophone D B _) q2020 q2022 qs34 q106 q2023 np_X4_isMicrophone (zr_ok rfl rfl) rfl rfl (Nat.le_of_ble_eq_true rfl) (⟨Nat.le_of_ble_eq_true rfl, Nat.le_of_ble_eq_true rfl⟩) dX4_sample_7 ?_
  refine z_seti (zb_t (h1)) ?_
  refine z_if_ne (tgt := 19) C dX4_sample_10 (by decide) (fun c_10 => ?_) (fun c_10 => ?_)
  · refine z_iload_n (i := 2) C dX4_sample_19 rfl rfl ?_
    refine z_callSe C (ct_X4_isTime D B _) q2032 q2033 q106 q2034 np_X4_isTime (zr_ok rfl rfl) rfl rfl (Nat.le_of_ble_eq_true rfl) (⟨Nat.le_of_ble_eq_true rfl, Nat.le_of_ble_eq_true rfl⟩) dX4_sample_20 ?_
    refine z_seti (zb_f (h2)) ?_
    refine z_if_eq (tgt := 35) C dX4_sample_23 (by decide) (fun c_23 => ?_) (fun c_23 => ?_)
    · refine z_aload_n (i := 0) C dX4_sample_35 rfl rfl ?_
      refine z_iconst (v := 2) C dX4_sample_36 (by decide) ?_
      refine z_callVe C (tw_obj) rfl (ct_X4_fail D B _) q1941 q1943 qs26 q106 q1944 np_X4_fail (zr_ok rfl rfl) rfl rfl (Nat.le_of_ble_eq_true rfl) (⟨Nat.le_of_ble_eq_true rfl, Nat.le_of_ble_eq_true rfl⟩) dX4_sample_37 ?_
      exact z_ireturn C rfl (rfl) dX4_sample_40 (⟨rfl, rfl⟩) (Nat.le_of_ble_eq_true rfl) (Nat.le_of_ble_eq_true rfl)
    · exact absurd rfl c_23
  · exact absurd c_10 (by decide)
theorem np_X4_isWindow : znp yX4_isWindow 2 := ⟨by decide +kernel, by decide +kernel, by decide +kernel⟩
theorem np_X4_layRecord : znp yX4_layRecord 1 := ⟨by decide +kernel, by decide +kernel, by decide +kernel⟩
theorem np_X4_measureOf : znp yX4_measureOf 3 := ⟨by decide +kernel, by decide +kernel, by decide +kernel⟩
set_option maxHeartbeats 4000000 in
set_option maxRecDepth 100000 in
theorem ct_X4_measureRecord_0 (D : zG) (B : Nat) {b : zH} {t : tA} {st : Nat → Int32} {bk : Nat → Int32} {sv : Nat → Int32} {iz : Nat → Int32} {th : Int32} {di : Nat → Int32} {re : Nat → Int32} {si : Nat → Int32} {pa : Nat → Int32} {fo : Nat → Int64} {te : Nat → Int32} {tl : Int32} {po : Int32} {ts : Int32} {to : Int32} {le : Int32} {nu : Int32} {ec : Int32} {ep : Int32} {wo : Int64} (m f l : Nat) (hm0 : 0 ≤ nI m ∧ nI m ≤ st 8 - 1) (hm : m < 8) (hw : (0 ≤ nI f ∧ nI f ≤ 255) ∧ nI f ≤ nI l ∧ nI l ≤ 255) (hf : f ≤ l) (hl : l < 256) : Ct D B yX4_measureRecord (ws_ yX4_measureRecord cX4_measureRecord 5 (some .long)) (zr 4) [.ref (t.1 0), .int (nI m), .int 0, .int (nI f), .int (nI l)] (tw b t st bk sv iz th di re si pa fo te tl po ts to le nu ec ep wo) (fun w G9 => w = some (.long (zen (fun j => st (186 + 256 * m + j)) f l)) ∧ ∃ sx : Nat → Int32, G9 = (tw b t st bk sv iz 0 di re sx pa fo te tl po ts to le nu ec ep wo)) zno := by
  refine ct_intro (by decide +kernel) (Nat.le_of_ble_eq_true rfl) ?_
  intro X C
  refine z_aload_n (i := 0) C dX4_measureRecord_0 rfl rfl ?_
  refine z_iconst (v := 0) C dX4_measureRecord_1 (by decide) ?_
  refine tp_thrown C q1868 dX4_measureRecord_2 ?_
  refine z_aload_n (i := 0) C dX4_measureRecord_5 rfl rfl ?_
  refine z_iload_n (i := 1) C dX4_measureRecord_6 rfl rfl ?_
  refine z_callVe C (tw_obj) rfl (ct_X4_isMicrophone D B _) q2020 q2022 qs34 q106 q2023 np_X4_isMicrophone (zr_ok rfl rfl) rfl rfl (Nat.le_of_ble_eq_true rfl) (⟨Nat.le_of_ble_eq_true rfl, Nat.le_of_ble_eq_true rfl⟩) dX4_measureRecord_7 ?_
  refine z_seti (zb_t (hm0)) ?_
  refine z_if_ne (tgt := 20) C dX4_measureRecord_10 (by decide) (fun c_10 => ?_) (fun c_10 => ?_)
  · refine z_iload_n (i := 2) C dX4_measureRecord_20 rfl rfl ?_
    refine z_iconst (v := 0) C dX4_measureRecord_21 (by decide) ?_
    refine z_iconst (v := 4) C dX4_measureRecord_22 (by decide) ?_
    refine z_callSe C (ct_X4_isBetween D B _ _ _) q1934 q1935 q106 q1936 np_X4_isBetween (zr_ok rfl rfl) rfl rfl (Nat.le_of_ble_eq_true rfl) (⟨Nat.le_of_ble_eq_true rfl, Nat.le_of_ble_eq_true rfl⟩) dX4_measureRecord_23 ?_
    refine z_seti (zb_t (by decide)) ?_
    refine z_if_eq (tgt := 38) C dX4_measureRecord_26 (by decide) (fun c_26 => ?_) (fun c_26 => ?_)
    · exact absurd c_26 (by decide)
    · refine z_iload_n (i := 3) C dX4_measureRecord_29 rfl rfl ?_
      refine z_iload C dX4_measureRecord_30 rfl ?_
      refine z_callSe C (ct_X4_isWindow D B _ _) q2125 q2126 q106 q2127 np_X4_isWindow (zr_ok rfl rfl) rfl rfl (Nat.le_of_ble_eq_true rfl) (⟨Nat.le_of_ble_eq_true rfl, Nat.le_of_ble_eq_true rfl⟩) dX4_measureRecord_32 ?_
      refine z_seti (zb_t (hw)) ?_
      refine z_if_ne (tgt := 45) C dX4_measureRecord_35 (by decide) (fun c_35 => ?_) (fun c_35 => ?_)
      · refine z_aload_n (i := 0) C dX4_measureRecord_45 rfl rfl ?_
        refine z_iload_n (i := 1) C dX4_measureRecord_46 rfl rfl ?_
        refine z_callVn C (tw_obj) rfl (ct_X4_layRecord D B m hm) q2128 q2130 qs49 q106 q2131 np_X4_layRecord (zr_ok rfl rfl) rfl rfl (Nat.le_of_ble_eq_true rfl) (⟨Nat.le_of_ble_eq_true rfl, Nat.le_of_ble_eq_true rfl⟩) dX4_measureRecord_47 ?_
        intro v9 G9 h9
        obtain ⟨rfl, sx, rfl, hsx⟩ := h9
        refine z_aload_n (i := 0) C dX4_measureRecord_50 rfl rfl ?_
        refine z_iload_n (i := 2) C dX4_measureRecord_51 rfl rfl ?_
        refine z_iload_n (i := 3) C dX4_measureRecord_52 rfl rfl ?_
        refine z_iload C dX4_measureRecord_53 rfl ?_
        refine z_callVe C (tw_obj) rfl (ct_X4_measureOf_0 D B f l hf hl) q2132 q2134 qs50 q106 q2135 np_X4_measureOf (zr_ok rfl rfl) rfl rfl (Nat.le_of_ble_eq_true rfl) (⟨Nat.le_of_ble_eq_true rfl, Nat.le_of_ble_eq_true rfl⟩) dX4_measureRecord_55 ?_
        exact z_lreturn C rfl dX4_measureRecord_58 (⟨zvl (zen_congr (fun j hj => hsx j (by omega))), sx, rfl⟩) (Nat.le_of_ble_eq_true rfl) (Nat.le_of_ble_eq_true rfl)
      · exact absurd c_35 (by decide)
  · exact absurd c_10 (by decide)
set_option maxHeartbeats 4000000 in
set_option maxRecDepth 100000 in
theorem ct_X4_measureRecord_1 (D : zG) (B : Nat) {b : zH} {t : tA} {st : Nat → Int32} {bk : Nat → Int32} {sv : Nat → Int32} {iz : Nat → Int32} {th : Int32} {di : Nat → Int32} {re : Nat → Int32} {si : Nat → Int32} {pa : Nat → Int32} {fo : Nat → Int64} {te : Nat → Int32} {tl : Int32} {po : Int32} {ts : Int32} {to : Int32} {le : Int32} {nu : Int32} {ec : Int32} {ep : Int32} {wo : Int64} (m f l : Nat) (hm0 : 0 ≤ nI m ∧ nI m ≤ st 8 - 1) (hm : m < 8) (hw : (0 ≤ nI f ∧ nI f ≤ 255) ∧ nI f ≤ nI l ∧ nI l ≤ 255) (hf : f ≤ l) (hl : l < 256) : Ct D B yX4_measureRecord (ws_ yX4_measureRecord cX4_measureRecord 5 (some .long)) (zr 4) [.ref (t.1 0), .int (nI m), .int 1, .int (nI f), .int (nI l)] (tw b t st bk sv iz th di re si pa fo te tl po ts to le nu ec ep wo) (fun w G9 => w = some (.long ((zpk (fun j => st (186 + 256 * m + j)) f (l + 1 - f)).toInt64)) ∧ ∃ sx : Nat → Int32, G9 = (tw b t st bk sv iz 0 di re sx pa fo te tl po ts to le nu ec ep wo)) zno := by
  refine ct_intro (by decide +kernel) (Nat.le_of_ble_eq_true rfl) ?_
  intro X C
  refine z_aload_n (i := 0) C dX4_measureRecord_0 rfl rfl ?_
  refine z_iconst (v := 0) C dX4_measureRecord_1 (by decide) ?_
  refine tp_thrown C q1868 dX4_measureRecord_2 ?_
  refine z_aload_n (i := 0) C dX4_measureRecord_5 rfl rfl ?_
  refine z_iload_n (i := 1) C dX4_measureRecord_6 rfl rfl ?_
  refine z_callVe C (tw_obj) rfl (ct_X4_isMicrophone D B _) q2020 q2022 qs34 q106 q2023 np_X4_isMicrophone (zr_ok rfl rfl) rfl rfl (Nat.le_of_ble_eq_true rfl) (⟨Nat.le_of_ble_eq_true rfl, Nat.le_of_ble_eq_true rfl⟩) dX4_measureRecord_7 ?_
  refine z_seti (zb_t (hm0)) ?_
  refine z_if_ne (tgt := 20) C dX4_measureRecord_10 (by decide) (fun c_10 => ?_) (fun c_10 => ?_)
  · refine z_iload_n (i := 2) C dX4_measureRecord_20 rfl rfl ?_
    refine z_iconst (v := 0) C dX4_measureRecord_21 (by decide) ?_
    refine z_iconst (v := 4) C dX4_measureRecord_22 (by decide) ?_
    refine z_callSe C (ct_X4_isBetween D B _ _ _) q1934 q1935 q106 q1936 np_X4_isBetween (zr_ok rfl rfl) rfl rfl (Nat.le_of_ble_eq_true rfl) (⟨Nat.le_of_ble_eq_true rfl, Nat.le_of_ble_eq_true rfl⟩) dX4_measureRecord_23 ?_
    refine z_seti (zb_t (by decide)) ?_
    refine z_if_eq (tgt := 38) C dX4_measureRecord_26 (by decide) (fun c_26 => ?_) (fun c_26 => ?_)
    · exact absurd c_26 (by decide)
    · refine z_iload_n (i := 3) C dX4_measureRecord_29 rfl rfl ?_
      refine z_iload C dX4_measureRecord_30 rfl ?_
      refine z_callSe C (ct_X4_isWindow D B _ _) q2125 q2126 q106 q2127 np_X4_isWindow (zr_ok rfl rfl) rfl rfl (Nat.le_of_ble_eq_true rfl) (⟨Nat.le_of_ble_eq_true rfl, Nat.le_of_ble_eq_true rfl⟩) dX4_measureRecord_32 ?_
      refine z_seti (zb_t (hw)) ?_
      refine z_if_ne (tgt := 45) C dX4_measureRecord_35 (by decide) (fun c_35 => ?_) (fun c_35 => ?_)
      · refine z_aload_n (i := 0) C dX4_measureRecord_45 rfl rfl ?_
        refine z_iload_n (i := 1) C dX4_measureRecord_46 rfl rfl ?_
        refine z_callVn C (tw_obj) rfl (ct_X4_layRecord D B m hm) q2128 q2130 qs49 q106 q2131 np_X4_layRecord (zr_ok rfl rfl) rfl rfl (Nat.le_of_ble_eq_true rfl) (⟨Nat.le_of_ble_eq_true rfl, Nat.le_of_ble_eq_true rfl⟩) dX4_measureRecord_47 ?_
        intro v9 G9 h9
        obtain ⟨rfl, sx, rfl, hsx⟩ := h9
        refine z_aload_n (i := 0) C dX4_measureRecord_50 rfl rfl ?_
        refine z_iload_n (i := 2) C dX4_measureRecord_51 rfl rfl ?_
        refine z_iload_n (i := 3) C dX4_measureRecord_52 rfl rfl ?_
        refine z_iload C dX4_measureRecord_53 rfl ?_
        refine z_callVe C (tw_obj) rfl (ct_X4_measureOf_1 D B f l hf hl) q2132 q2134 qs50 q106 q2135 np_X4_measureOf (zr_ok rfl rfl) rfl rfl (Nat.le_of_ble_eq_true rfl) (⟨Nat.le_of_ble_eq_true rfl, Nat.le_of_ble_eq_true rfl⟩) dX4_measureRecord_55 ?_
        exact z_lreturn C rfl dX4_measureRecord_58 (⟨zvl (by rw [zpk_congr _ (fun j hj => hsx j (by omega))]), sx, rfl⟩) (Nat.le_of_ble_eq_true rfl) (Nat.le_of_ble_eq_true rfl)
      · exact absurd c_35 (by decide)
  · exact absurd c_10 (by decide)
set_option maxHeartbeats 4000000 in
set_option maxRecDepth 100000 in
theorem ct_X4_measureRecord_2 (D : zG) (B : Nat) {b : zH} {t : tA} {st : Nat → Int32} {bk : Nat → Int32} {sv : Nat → Int32} {iz : Nat → Int32} {th : Int32} {di : Nat → Int32} {re : Nat → Int32} {si : Nat → Int32} {pa : Nat → Int32} {fo : Nat → Int64} {te : Nat → Int32} {tl : Int32} {po : Int32} {ts : Int32} {to : Int32} {le : Int32} {nu : Int32} {ec : Int32} {ep : Int32} {wo : Int64} (m f l : Nat) (hm0 : 0 ≤ nI m ∧ nI m ≤ st 8 - 1) (hm : m < 8) (hw : (0 ≤ nI f ∧ nI f ≤ 255) ∧ nI f ≤ nI l ∧ nI l ≤ 255) (hf : f ≤ l) (hl : l < 256) (ne : Nat) (hE : zen (fun j => st (186 + 256 * m + j)) f l = lN ne) (hne : ne < 2 ^ 63) : Ct D B yX4_measureRecord (ws_ yX4_measureRecord cX4_measureRecord 5 (some .long)) (zr 4) [.ref (t.1 0), .int (nI m), .int 2, .int (nI f), .int (nI l)] (tw b t st bk sv iz th di re si pa fo te tl po ts to le nu ec ep wo) (fun w G9 => w = some (.long ((nI (zdg ne)).toInt64)) ∧ ∃ sx : Nat → Int32, G9 = (tw b t st bk sv iz 0 di re sx pa fo te tl po ts to le nu ec ep wo)) zno := by
  refine ct_intro (by decide +kernel) (Nat.le_of_ble_eq_true rfl) ?_
  intro X C
  refine z_aload_n (i := 0) C dX4_measureRecord_0 rfl rfl ?_
  refine z_iconst (v := 0) C dX4_measureRecord_1 (by decide) ?_
  refine tp_thrown C q1868 dX4_measureRecord_2 ?_
  refine z_aload_n (i := 0) C dX4_measureRecord_5 rfl rfl ?_
  refine z_iload_n (i := 1) C dX4_measureRecord_6 rfl rfl ?_
  refine z_callVe C (tw_obj) rfl (ct_X4_isMicrophone D B _) q2020 q2022 qs34 q106 q2023 np_X4_isMicrophone (zr_ok rfl rfl) rfl rfl (Nat.le_of_ble_eq_true rfl) (⟨Nat.le_of_ble_eq_true rfl, Nat.le_of_ble_eq_true rfl⟩) dX4_measureRecord_7 ?_
  refine z_seti (zb_t (hm0)) ?_
  refine z_if_ne (tgt := 20) C dX4_measureRecord_10 (by decide) (fun c_10 => ?_) (fun c_10 => ?_)
  · refine z_iload_n (i := 2) C dX4_measureRecord_20 rfl rfl ?_
    refine z_iconst (v := 0) C dX4_measureRecord_21 (by decide) ?_
    refine z_iconst (v := 4) C dX4_measureRecord_22 (by decide) ?_
    refine z_callSe C (ct_X4_isBetween D B _ _ _) q1934 q1935 q106 q1936 np_X4_isBetween (zr_ok rfl rfl) rfl rfl (Nat.le_of_ble_eq_true rfl) (⟨Nat.le_of_ble_eq_true rfl, Nat.le_of_ble_eq_true rfl⟩) dX4_measureRecord_23 ?_
    refine z_seti (zb_t (by decide)) ?_
    refine z_if_eq (tgt := 38) C dX4_measureRecord_26 (by decide) (fun c_26 => ?_) (fun c_26 => ?_)
    · exact absurd c_26 (by decide)
    · refine z_iload_n (i := 3) C dX4_measureRecord_29 rfl rfl ?_
      refine z_iload C dX4_measureRecord_30 rfl ?_
      refine z_callSe C (ct_X4_isWindow D B _ _) q2125 q2126 q106 q2127 np_X4_isWindow (zr_ok rfl rfl) rfl rfl (Nat.le_of_ble_eq_true rfl) (⟨Nat.le_of_ble_eq_true rfl, Nat.le_of_ble_eq_true rfl⟩) dX4_measureRecord_32 ?_
      refine z_seti (zb_t (hw)) ?_
      refine z_if_ne (tgt := 45) C dX4_measureRecord_35 (by decide) (fun c_35 => ?_) (fun c_35 => ?_)
      · refine z_aload_n (i := 0) C dX4_measureRecord_45 rfl rfl ?_
        refine z_iload_n (i := 1) C dX4_measureRecord_46 rfl rfl ?_
        refine z_callVn C (tw_obj) rfl (ct_X4_layRecord D B m hm) q2128 q2130 qs49 q106 q2131 np_X4_layRecord (zr_ok rfl rfl) rfl rfl (Nat.le_of_ble_eq_true rfl) (⟨Nat.le_of_ble_eq_true rfl, Nat.le_of_ble_eq_true rfl⟩) dX4_measureRecord_47 ?_
        intro v9 G9 h9
        obtain ⟨rfl, sx, rfl, hsx⟩ := h9
        refine z_aload_n (i := 0) C dX4_measureRecord_50 rfl rfl ?_
        refine z_iload_n (i := 2) C dX4_measureRecord_51 rfl rfl ?_
        refine z_iload_n (i := 3) C dX4_measureRecord_52 rfl rfl ?_
        refine z_iload C dX4_measureRecord_53 rfl ?_
        refine z_callVe C (tw_obj) rfl (ct_X4_measureOf_2 D B f l hf hl ne ((zen_congr (fun j hj => hsx j (by omega))).trans hE) hne) q2132 q2134 qs50 q106 q2135 np_X4_measureOf (zr_ok rfl rfl) rfl rfl (Nat.le_of_ble_eq_true rfl) (⟨Nat.le_of_ble_eq_true rfl, Nat.le_of_ble_eq_true rfl⟩) dX4_measureRecord_55 ?_
        exact z_lreturn C rfl dX4_measureRecord_58 (⟨zvl (rfl), sx, rfl⟩) (Nat.le_of_ble_eq_true rfl) (Nat.le_of_ble_eq_true rfl)
      · exact absurd c_35 (by decide)
  · exact absurd c_10 (by decide)
set_option maxHeartbeats 4000000 in
set_option maxRecDepth 100000 in
theorem ct_X4_measureRecord_3 (D : zG) (B : Nat) {b : zH} {t : tA} {st : Nat → Int32} {bk : Nat → Int32} {sv : Nat → Int32} {iz : Nat → Int32} {th : Int32} {di : Nat → Int32} {re : Nat → Int32} {si : Nat → Int32} {pa : Nat → Int32} {fo : Nat → Int64} {te : Nat → Int32} {tl : Int32} {po : Int32} {ts : Int32} {to : Int32} {le : Int32} {nu : Int32} {ec : Int32} {ep : Int32} {wo : Int64} (m f l : Nat) (hm0 : 0 ≤ nI m ∧ nI m ≤ st 8 - 1) (hm : m < 8) (hw : (0 ≤ nI f ∧ nI f ≤ 255) ∧ nI f ≤ nI l ∧ nI l ≤ 255) (hf : f ≤ l) (hl : l < 256) : Ct D B yX4_measureRecord (ws_ yX4_measureRecord cX4_measureRecord 5 (some .long)) (zr 4) [.ref (t.1 0), .int (nI m), .int 3, .int (nI f), .int (nI l)] (tw b t st bk sv iz th di re si pa fo te tl po ts to le nu ec ep wo) (fun w G9 => w = some (.long (zsm (fun j => st (186 + 256 * m + j)) f l)) ∧ ∃ sx : Nat → Int32, G9 = (tw b t st bk sv iz 0 di re sx pa fo te tl po ts to le nu ec ep wo)) zno := by
  refine ct_intro (by decide +kernel) (Nat.le_of_ble_eq_true rfl) ?_
  intro X C
  refine z_aload_n (i := 0) C dX4_measureRecord_0 rfl rfl ?_
  refine z_iconst (v := 0) C dX4_measureRecord_1 (by decide) ?_
  refine tp_thrown C q1868 dX4_measureRecord_2 ?_
  refine z_aload_n (i := 0) C dX4_measureRecord_5 rfl rfl ?_
  refine z_iload_n (i := 1) C dX4_measureRecord_6 rfl rfl ?_
  refine z_callVe C (tw_obj) rfl (ct_X4_isMicrophone D B _) q2020 q2022 qs34 q106 q2023 np_X4_isMicrophone (zr_ok rfl rfl) rfl rfl (Nat.le_of_ble_eq_true rfl) (⟨Nat.le_of_ble_eq_true rfl, Nat.le_of_ble_eq_true rfl⟩) dX4_measureRecord_7 ?_
  refine z_seti (zb_t (hm0)) ?_
  refine z_if_ne (tgt := 20) C dX4_measureRecord_10 (by decide) (fun c_10 => ?_) (fun c_10 => ?_)
  · refine z_iload_n (i := 2) C dX4_measureRecord_20 rfl rfl ?_
    refine z_iconst (v := 0) C dX4_measureRecord_21 (by decide) ?_
    refine z_iconst (v := 4) C dX4_measureRecord_22 (by decide) ?_
    refine z_callSe C (ct_X4_isBetween D B _ _ _) q1934 q1935 q106 q1936 np_X4_isBetween (zr_ok rfl rfl) rfl rfl (Nat.le_of_ble_eq_true rfl) (⟨Nat.le_of_ble_eq_true rfl, Nat.le_of_ble_eq_true rfl⟩) dX4_measureRecord_23 ?_
    refine z_seti (zb_t (by decide)) ?_
    refine z_if_eq (tgt := 38) C dX4_measureRecord_26 (by decide) (fun c_26 => ?_) (fun c_26 => ?_)
    · exact absurd c_26 (by decide)
    · refine z_iload_n (i := 3) C dX4_measureRecord_29 rfl rfl ?_
      refine z_iload C dX4_measureRecord_30 rfl ?_
      refine z_callSe C (ct_X4_isWindow D B _ _) q2125 q2126 q106 q2127 np_X4_isWindow (zr_ok rfl rfl) rfl rfl (Nat.le_of_ble_eq_true rfl) (⟨Nat.le_of_ble_eq_true rfl, Nat.le_of_ble_eq_true rfl⟩) dX4_measureRecord_32 ?_
      refine z_seti (zb_t (hw)) ?_
      refine z_if_ne (tgt := 45) C dX4_measureRecord_35 (by decide) (fun c_35 => ?_) (fun c_35 => ?_)
      · refine z_aload_n (i := 0) C dX4_measureRecord_45 rfl rfl ?_
        refine z_iload_n (i := 1) C dX4_measureRecord_46 rfl rfl ?_
        refine z_callVn C (tw_obj) rfl (ct_X4_layRecord D B m hm) q2128 q2130 qs49 q106 q2131 np_X4_layRecord (zr_ok rfl rfl) rfl rfl (Nat.le_of_ble_eq_true rfl) (⟨Nat.le_of_ble_eq_true rfl, Nat.le_of_ble_eq_true rfl⟩) dX4_measureRecord_47 ?_
        intro v9 G9 h9
        obtain ⟨rfl, sx, rfl, hsx⟩ := h9
        refine z_aload_n (i := 0) C dX4_measureRecord_50 rfl rfl ?_
        refine z_iload_n (i := 2) C dX4_measureRecord_51 rfl rfl ?_
        refine z_iload_n (i := 3) C dX4_measureRecord_52 rfl rfl ?_
        refine z_iload C dX4_measureRecord_53 rfl ?_
        refine z_callVe C (tw_obj) rfl (ct_X4_measureOf_3 D B f l hf hl) q2132 q2134 qs50 q106 q2135 np_X4_measureOf (zr_ok rfl rfl) rfl rfl (Nat.le_of_ble_eq_true rfl) (⟨Nat.le_of_ble_eq_true rfl, Nat.le_of_ble_eq_true rfl⟩) dX4_measureRecord_55 ?_
        exact z_lreturn C rfl dX4_measureRecord_58 (⟨zvl (zsm_congr (fun j hj => hsx j (by omega))), sx, rfl⟩) (Nat.le_of_ble_eq_true rfl) (Nat.le_of_ble_eq_true rfl)
      · exact absurd c_35 (by decide)
  · exact absurd c_10 (by decide)
set_option maxHeartbeats 4000000 in
set_option maxRecDepth 100000 in
theorem ct_X4_measureRecord_4 (D : zG) (B : Nat) {b : zH} {t : tA} {st : Nat → Int32} {bk : Nat → Int32} {sv : Nat → Int32} {iz : Nat → Int32} {th : Int32} {di : Nat → Int32} {re : Nat → Int32} {si : Nat → Int32} {pa : Nat → Int32} {fo : Nat → Int64} {te : Nat → Int32} {tl : Int32} {po : Int32} {ts : Int32} {to : Int32} {le : Int32} {nu : Int32} {ec : Int32} {ep : Int32} {wo : Int64} (m f l : Nat) (hm0 : 0 ≤ nI m ∧ nI m ≤ st 8 - 1) (hm : m < 8) (hw : (0 ≤ nI f ∧ nI f ≤ 255) ∧ nI f ≤ nI l ∧ nI l ≤ 255) (hf : f ≤ l) (hl : l < 256) : Ct D B yX4_measureRecord (ws_ yX4_measureRecord cX4_measureRecord 5 (some .long)) (zr 4) [.ref (t.1 0), .int (nI m), .int 4, .int (nI f), .int (nI l)] (tw b t st bk sv iz th di re si pa fo te tl po ts to le nu ec ep wo) (fun w G9 => w = some (.long ((zcr (fun j => st (186 + 256 * m + j)) f (l - f)).toInt64)) ∧ ∃ sx : Nat → Int32, G9 = (tw b t st bk sv iz 0 di re sx pa fo te tl po ts to le nu ec ep wo)) zno := by
  refine ct_intro (by decide +kernel) (Nat.le_of_ble_eq_true rfl) ?_
  intro X C
  refine z_aload_n (i := 0) C dX4_measureRecord_0 rfl rfl ?_
  refine z_iconst (v := 0) C dX4_measureRecord_1 (by decide) ?_
  refine tp_thrown C q1868 dX4_measureRecord_2 ?_
  refine z_aload_n (i := 0) C dX4_measureRecord_5 rfl rfl ?_
  refine z_iload_n (i := 1) C dX4_measureRecord_6 rfl rfl ?_
  refine z_callVe C (tw_obj) rfl (ct_X4_isMicrophone D B _) q2020 q2022 qs34 q106 q2023 np_X4_isMicrophone (zr_ok rfl rfl) rfl rfl (Nat.le_of_ble_eq_true rfl) (⟨Nat.le_of_ble_eq_true rfl, Nat.le_of_ble_eq_true rfl⟩) dX4_measureRecord_7 ?_
  refine z_seti (zb_t (hm0)) ?_
  refine z_if_ne (tgt := 20) C dX4_measureRecord_10 (by decide) (fun c_10 => ?_) (fun c_10 => ?_)
  · refine z_iload_n (i := 2) C dX4_measureRecord_20 rfl rfl ?_
    refine z_iconst (v := 0) C dX4_measureRecord_21 (by decide) ?_
    refine z_iconst (v := 4) C dX4_measureRecord_22 (by decide) ?_
    refine z_callSe C (ct_X4_isBetween D B _ _ _) q1934 q1935 q106 q1936 np_X4_isBetween (zr_ok rfl rfl) rfl rfl (Nat.le_of_ble_eq_true rfl) (⟨Nat.le_of_ble_eq_true rfl, Nat.le_of_ble_eq_true rfl⟩) dX4_measureRecord_23 ?_
    refine z_seti (zb_t (by decide)) ?_
    refine z_if_eq (tgt := 38) C dX4_measureRecord_26 (by decide) (fun c_26 => ?_) (fun c_26 => ?_)
    · exact absurd c_26 (by decide)
    · refine z_iload_n (i := 3) C dX4_measureRecord_29 rfl rfl ?_
      refine z_iload C dX4_measureRecord_30 rfl ?_
      refine z_callSe C (ct_X4_isWindow D B _ _) q2125 q2126 q106 q2127 np_X4_isWindow (zr_ok rfl rfl) rfl rfl (Nat.le_of_ble_eq_true rfl) (⟨Nat.le_of_ble_eq_true rfl, Nat.le_of_ble_eq_true rfl⟩) dX4_measureRecord_32 ?_
      refine z_seti (zb_t (hw)) ?_
      refine z_if_ne (tgt := 45) C dX4_measureRecord_35 (by decide) (fun c_35 => ?_) (fun c_35 => ?_)
      · refine z_aload_n (i := 0) C dX4_measureRecord_45 rfl rfl ?_
        refine z_iload_n (i := 1) C dX4_measureRecord_46 rfl rfl ?_
        refine z_callVn C (tw_obj) rfl (ct_X4_layRecord D B m hm) q2128 q2130 qs49 q106 q2131 np_X4_layRecord (zr_ok rfl rfl) rfl rfl (Nat.le_of_ble_eq_true rfl) (⟨Nat.le_of_ble_eq_true rfl, Nat.le_of_ble_eq_true rfl⟩) dX4_measureRecord_47 ?_
        intro v9 G9 h9
        obtain ⟨rfl, sx, rfl, hsx⟩ := h9
        refine z_aload_n (i := 0) C dX4_measureRecord_50 rfl rfl ?_
        refine z_iload_n (i := 2) C dX4_measureRecord_51 rfl rfl ?_
        refine z_iload_n (i := 3) C dX4_measureRecord_52 rfl rfl ?_
        refine z_iload C dX4_measureRecord_53 rfl ?_
        refine z_callVe C (tw_obj) rfl (ct_X4_measureOf_4 D B f l hf hl) q2132 q2134 qs50 q106 q2135 np_X4_measureOf (zr_ok rfl rfl) rfl rfl (Nat.le_of_ble_eq_true rfl) (⟨Nat.le_of_ble_eq_true rfl, Nat.le_of_ble_eq_true rfl⟩) dX4_measureRecord_55 ?_
        exact z_lreturn C rfl dX4_measureRecord_58 (⟨zvl (by rw [zcr_congr _ (fun j hj => hsx j (by omega))]), sx, rfl⟩) (Nat.le_of_ble_eq_true rfl) (Nat.le_of_ble_eq_true rfl)
      · exact absurd c_35 (by decide)
  · exact absurd c_10 (by decide)
set_option maxHeartbeats 4000000 in
set_option maxRecDepth 100000 in
theorem ct_X4_measureRecord_e1 (D : zG) (B : Nat) {b : zH} {t : tA} {st : Nat → Int32} {bk : Nat → Int32} {sv : Nat → Int32} {iz : Nat → Int32} {th : Int32} {di : Nat → Int32} {re : Nat → Int32} {si : Nat → Int32} {pa : Nat → Int32} {fo : Nat → Int64} {te : Nat → Int32} {tl : Int32} {po : Int32} {ts : Int32} {to : Int32} {le : Int32} {nu : Int32} {ec : Int32} {ep : Int32} {wo : Int64} (m k f l : Int32) (h1 : ¬ (0 ≤ m ∧ m ≤ st 8 - 1)) : Ct D B yX4_measureRecord (ws_ yX4_measureRecord cX4_measureRecord 5 (some .long)) (zr 4) [.ref (t.1 0), .int m, .int k, .int f, .int l] (tw b t st bk sv iz th di re si pa fo te tl po ts to le nu ec ep wo) (zpe (some (.long 0)) (tw b t st bk sv iz 1 di re si pa fo te tl po ts to le nu ec ep wo)) zno := by
  refine ct_intro (by decide +kernel) (Nat.le_of_ble_eq_true rfl) ?_
  intro X C
  refine z_aload_n (i := 0) C dX4_measureRecord_0 rfl rfl ?_
  refine z_iconst (v := 0) C dX4_measureRecord_1 (by decide) ?_
  refine tp_thrown C q1868 dX4_measureRecord_2 ?_
  refine z_aload_n (i := 0) C dX4_measureRecord_5 rfl rfl ?_
  refine z_iload_n (i := 1) C dX4_measureRecord_6 rfl rfl ?_
  refine z_callVe C (tw_obj) rfl (ct_X4_isMicrophone D B _) q2020 q2022 qs34 q106 q2023 np_X4_isMicrophone (zr_ok rfl rfl) rfl rfl (Nat.le_of_ble_eq_true rfl) (⟨Nat.le_of_ble_eq_true rfl, Nat.le_of_ble_eq_true rfl⟩) dX4_measureRecord_7 ?_
  refine z_seti (zb_f (h1)) ?_
  refine z_if_ne (tgt := 20) C dX4_measureRecord_10 (by decide) (fun c_10 => ?_) (fun c_10 => ?_)
  · exact absurd rfl c_10
  · refine z_aload_n (i := 0) C dX4_measureRecord_13 rfl rfl ?_
    refine z_iconst (v := 1) C dX4_measureRecord_14 (by decide) ?_
    refine z_callVe C (tw_obj) rfl (ct_X4_fail D B _) q1941 q1943 qs26 q106 q1944 np_X4_fail (zr_ok rfl rfl) rfl rfl (Nat.le_of_ble_eq_true rfl) (⟨Nat.le_of_ble_eq_true rfl, Nat.le_of_ble_eq_true rfl⟩) dX4_measureRecord_15 ?_
    refine z_i2l C dX4_measureRecord_18 rfl ?_
    exact z_lreturn C rfl dX4_measureRecord_19 (⟨rfl, rfl⟩) (Nat.le_of_ble_eq_true rfl) (Nat.le_of_ble_eq_true rfl)
set_option maxHeartbeats 4000000 in
set_option maxRecDepth 100000 in
theorem ct_X4_measureRecord_e2a (D : zG) (B : Nat) {b : zH} {t : tA} {st : Nat → Int32} {bk : Nat → Int32} {sv : Nat → Int32} {iz : Nat → Int32} {th : Int32} {di : Nat → Int32} {re : Nat → Int32} {si : Nat → Int32} {pa : Nat → Int32} {fo : Nat → Int64} {te : Nat → Int32} {tl : Int32} {po : Int32} {ts : Int32} {to : Int32} {le : Int32} {nu : Int32} {ec : Int32} {ep : Int32} {wo : Int64} (m k f l : Int32) (h1 : 0 ≤ m ∧ m ≤ st 8 - 1) (h2 : ¬ (0 ≤ k ∧ k ≤ 4)) : Ct D B yX4_measureRecord (ws_ yX4_measureRecord cX4_measureRecord 5 (some .long)) (zr 4) [.ref (t.1 0), .int m, .int k, .int f, .int l] (tw b t st bk sv iz th di re si pa fo te tl po ts to le nu ec ep wo) (zpe (some (.long 0)) (tw b t st bk sv iz 2 di re si pa fo te tl po ts to le nu ec ep wo)) zno := by
  refine ct_intro (by decide +kernel) (Nat.le_of_ble_eq_true rfl) ?_
  intro X C
  refine z_aload_n (i := 0) C dX4_measureRecord_0 rfl rfl ?_
  refine z_iconst (v := 0) C dX4_measureRecord_1 (by decide) ?_
  refine tp_thrown C q1868 dX4_measureRecord_2 ?_
  refine z_aload_n (i := 0) C dX4_measureRecord_5 rfl rfl ?_
  refine z_iload_n (i := 1) C dX4_measureRecord_6 rfl rfl ?_
  refine z_callVe C (tw_obj) rfl (ct_X4_isMicrophone D B _) q2020 q2022 qs34 q106 q2023 np_X4_isMicrophone (zr_ok rfl rfl) rfl rfl (Nat.le_of_ble_eq_true rfl) (⟨Nat.le_of_ble_eq_true rfl, Nat.le_of_ble_eq_true rfl⟩) dX4_measureRecord_7 ?_
  refine z_seti (zb_t (h1)) ?_
  refine z_if_ne (tgt := 20) C dX4_measureRecord_10 (by decide) (fun c_10 => ?_) (fun c_10 => ?_)
  · refine z_iload_n (i := 2) C dX4_measureRecord_20 rfl rfl ?_
    refine z_iconst (v := 0) C dX4_measureRecord_21 (by decide) ?_
    refine z_iconst (v := 4) C dX4_measureRecord_22 (by decide) ?_
    refine z_callSe C (ct_X4_isBetween D B _ _ _) q1934 q1935 q106 q1936 np_X4_isBetween (zr_ok rfl rfl) rfl rfl (Nat.le_of_ble_eq_true rfl) (⟨Nat.le_of_ble_eq_true rfl, Nat.le_of_ble_eq_true rfl⟩) dX4_measureRecord_23 ?_
    refine z_seti (zb_f (h2)) ?_
    refine z_if_eq (tgt := 38) C dX4_measureRecord_26 (by decide) (fun c_26 => ?_) (fun c_26 => ?_)
    · refine z_aload_n (i := 0) C dX4_measureRecord_38 rfl rfl ?_
      refine z_iconst (v := 2) C dX4_measureRecord_39 (by decide) ?_
      refine z_callVe C (tw_obj) rfl (ct_X4_fail D B _) q1941 q1943 qs26 q106 q1944 np_X4_fail (zr_ok rfl rfl) rfl rfl (Nat.le_of_ble_eq_true rfl) (⟨Nat.le_of_ble_eq_true rfl, Nat.le_of_ble_eq_true rfl⟩) dX4_measureRecord_40 ?_
      refine z_i2l C dX4_measureRecord_43 rfl ?_
      exact z_lreturn C rfl dX4_measureRecord_44 (⟨rfl, rfl⟩) (Nat.le_of_ble_eq_true rfl) (Nat.le_of_ble_eq_true rfl)
    · exact absurd rfl c_26
  · exact absurd c_10 (by decide)
set_option maxHeartbeats 4000000 in
set_option maxRecDepth 100000 in
theorem ct_X4_measureRecord_e2b (D : zG) (B : Nat) {b : zH} {t : tA} {st : Nat → Int32} {bk : Nat → Int32} {sv : Nat → Int32} {iz : Nat → Int32} {th : Int32} {di : Nat → Int32} {re : Nat → Int32} {si : Nat → Int32} {pa : Nat → Int32} {fo : Nat → Int64} {te : Nat → Int32} {tl : Int32} {po : Int32} {ts : Int32} {to : Int32} {le : Int32} {nu : Int32} {ec : Int32} {ep : Int32} {wo : Int64} (m k f l : Int32) (h1 : 0 ≤ m ∧ m ≤ st 8 - 1) (h2 : 0 ≤ k ∧ k ≤ 4) (h3 : ¬ ((0 ≤ f ∧ f ≤ 255) ∧ f ≤ l ∧ l ≤ 255)) : Ct D B yX4_measureRecord (ws_ yX4_measureRecord cX4_measureRecord 5 (some .long)) (zr 4) [.ref (t.1 0), .int m, .int k, .int f, .int l] (tw b t st bk sv iz th di re si pa fo te tl po ts to le nu ec ep wo) (zpe (some (.long 0)) (tw b t st bk sv iz 2 di re si pa fo te tl po ts to le nu ec ep wo)) zno := by
  refine ct_intro (by decide +kernel) (Nat.le_of_ble_eq_true rfl) ?_
  intro X C
  refine z_aload_n (i := 0) C dX4_measureRecord_0 rfl rfl ?_
  refine z_iconst (v := 0) C dX4_measureRecord_1 (by decide) ?_
  refine tp_thrown C q1868 dX4_measureRecord_2 ?_
  refine z_aload_n (i := 0) C dX4_measureRecord_5 rfl rfl ?_
  refine z_iload_n (i := 1) C dX4_measureRecord_6 rfl rfl ?_
  refine z_callVe C (tw_obj) rfl (ct_X4_isMicrophone D B _) q2020 q2022 qs34 q106 q2023 np_X4_isMicrophone (zr_ok rfl rfl) rfl rfl (Nat.le_of_ble_eq_true rfl) (⟨Nat.le_of_ble_eq_true rfl, Nat.le_of_ble_eq_true rfl⟩) dX4_measureRecord_7 ?_
  refine z_seti (zb_t (h1)) ?_
  refine z_if_ne (tgt := 20) C dX4_measureRecord_10 (by decide) (fun c_10 => ?_) (fun c_10 => ?_)
  · refine z_iload_n (i := 2) C dX4_measureRecord_20 rfl rfl ?_
    refine z_iconst (v := 0) C dX4_measureRecord_21 (by decide) ?_
    refine z_iconst (v := 4) C dX4_measureRecord_22 (by decide) ?_
    refine z_callSe C (ct_X4_isBetween D B _ _ _) q1934 q1935 q106 q1936 np_X4_isBetween (zr_ok rfl rfl) rfl rfl (Nat.le_of_ble_eq_true rfl) (⟨Nat.le_of_ble_eq_true rfl, Nat.le_of_ble_eq_true rfl⟩) dX4_measureRecord_23 ?_
    refine z_seti (zb_t (h2)) ?_
    refine z_if_eq (tgt := 38) C dX4_measureRecord_26 (by decide) (fun c_26 => ?_) (fun c_26 => ?_)
    · exact absurd c_26 (by decide)
    · refine z_iload_n (i := 3) C dX4_measureRecord_29 rfl rfl ?_
      refine z_iload C dX4_measureRecord_30 rfl ?_
      refine z_callSe C (ct_X4_isWindow D B _ _) q2125 q2126 q106 q2127 np_X4_isWindow (zr_ok rfl rfl) rfl rfl (Nat.le_of_ble_eq_true rfl) (⟨Nat.le_of_ble_eq_true rfl, Nat.le_of_ble_eq_true rfl⟩) dX4_measureRecord_32 ?_
      refine z_seti (zb_f (h3)) ?_
      refine z_if_ne (tgt := 45) C dX4_measureRecord_35 (by decide) (fun c_35 => ?_) (fun c_35 => ?_)
      · exact absurd rfl c_35
      · refine z_aload_n (i := 0) C dX4_measureRecord_38 rfl rfl ?_
        refine z_iconst (v := 2) C dX4_measureRecord_39 (by decide) ?_
        refine z_callVe C (tw_obj) rfl (ct_X4_fail D B _) q1941 q1943 qs26 q106 q1944 np_X4_fail (zr_ok rfl rfl) rfl rfl (Nat.le_of_ble_eq_true rfl) (⟨Nat.le_of_ble_eq_true rfl, Nat.le_of_ble_eq_true rfl⟩) dX4_measureRecord_40 ?_
        refine z_i2l C dX4_measureRecord_43 rfl ?_
        exact z_lreturn C rfl dX4_measureRecord_44 (⟨rfl, rfl⟩) (Nat.le_of_ble_eq_true rfl) (Nat.le_of_ble_eq_true rfl)
  · exact absurd c_10 (by decide)
set_option maxHeartbeats 4000000 in
set_option maxRecDepth 100000 in
theorem ct_X4_loudestMicrophone_ok (D : zG) (B : Nat) {b : zH} {t : tA} {st : Nat → Int32} {bk : Nat → Int32} {sv : Nat → Int32} {iz : Nat → Int32} {th : Int32} {di : Nat → Int32} {re : Nat → Int32} {si : Nat → Int32} {pa : Nat → Int32} {fo : Nat → Int64} {te : Nat → Int32} {tl : Int32} {po : Int32} {ts : Int32} {to : Int32} {le : Int32} {nu : Int32} {ec : Int32} {ep : Int32} {wo : Int64} (f l : Nat) (hw : (0 ≤ nI f ∧ nI f ≤ 255) ∧ nI f ≤ nI l ∧ nI l ≤ 255) (hf : f ≤ l) (hl : l < 256) (nm9 : Nat) (hn : st 8 = nI nm9) (hn8 : nm9 ≤ 8) : Ct D B yX4_loudestMicrophone (ws_ yX4_loudestMicrophone cX4_loudestMicrophone 9 (some .int)) (zr 4) [.ref (t.1 0), .int (nI f), .int (nI l)] (tw b t st bk sv iz th di re si pa fo te tl po ts to le nu ec ep wo) (fun w G9 => w = some (.int (zlm (fun m9 => zen (fun j => st (186 + 256 * m9 + j)) f l) nm9).1) ∧ ∃ sx : Nat → Int32, G9 = (tw b t st bk sv iz 0 di re sx pa fo te tl po ts to le nu ec ep wo)) zno := by
  refine ct_intro (by decide +kernel) (Nat.le_of_ble_eq_true rfl) ?_
  intro X C
  refine z_aload_n (i := 0) C dX4_loudestMicrophone_0 rfl rfl ?_
  refine z_iconst (v := 0) C dX4_loudestMicrophone_1 (by decide) ?_
  refine tp_thrown C q1868 dX4_loudestMicrophone_2 ?_
  refine z_iload_n (i := 1) C dX4_loudestMicrophone_5 rfl rfl ?_
  refine z_iload_n (i := 2) C dX4_loudestMicrophone_6 rfl rfl ?_
  refine z_callSe C (ct_X4_isWindow D B _ _) q2125 q2126 q106 q2127 np_X4_isWindow (zr_ok rfl rfl) rfl rfl (Nat.le_of_ble_eq_true rfl) (⟨Nat.le_of_ble_eq_true rfl, Nat.le_of_ble_eq_true rfl⟩) dX4_loudestMicrophone_7 ?_
  refine z_seti (zb_t (hw)) ?_
  refine z_if_ne (tgt := 19) C dX4_loudestMicrophone_10 (by decide) (fun c_10 => ?_) (fun c_10 => ?_)
  · refine z_iconst (v := (-1)) C dX4_loudestMicrophone_19 (by decide) ?_
    refine z_istore_n (i := 3) C dX4_loudestMicrophone_20 rfl (Nat.le_of_ble_eq_true rfl) rfl ?_
    refine z_lconst (v := 0) C dX4_loudestMicrophone_21 (by decide) ?_
    refine z_lstore C dX4_loudestMicrophone_22 (Nat.le_of_ble_eq_true rfl) rfl ?_
    refine z_iconst (v := 0) C dX4_loudestMicrophone_24 (by decide) ?_
    refine z_istore C dX4_loudestMicrophone_25 (Nat.le_of_ble_eq_true rfl) rfl ?_
    have lp27 : ∀ (μ : Nat) (i : Nat) (sx : Nat → Int32) (h1 : i ≤ nm9), nm9 - i < μ → Z X 27 [some (.ref (t.1 0)), some (.int (nI f)), some (.int (nI l)), some (.int (zlm (fun m9 => zen (fun j => st (186 + 256 * m9 + j)) f l) i).1), some (.long (zlm (fun m9 => zen (fun j => st (186 + 256 * m9 + j)) f l) i).2), none, some (.int (nI i)), none, none] [] (tw b t st bk sv iz 0 di re sx pa fo te tl po ts to le nu ec ep wo) 0 0 := by
      intro μ
      induction μ with
      | zero => intro i sx h1 hμ; exact absurd hμ (Nat.not_lt_zero _)
      | succ μ ih27 =>
        intro i sx h1 hμ
        refine z_iload C dX4_loudestMicrophone_27 rfl ?_
        refine z_aload_n (i := 0) C dX4_loudestMicrophone_29 rfl rfl ?_
        refine tg_state C q1864 dX4_loudestMicrophone_30 ?_
        refine z_bipush (v := 8) C dX4_loudestMicrophone_33 (by decide) ?_
        refine tl_state C (⟨(rfl : (8 : Int32) = nI 8), by decide⟩) dX4_loudestMicrophone_35 ?_
        rw [hn]
        refine z_icmp_ge (tgt := 79) C dX4_loudestMicrophone_36 (by decide) (fun c_36 => ?_) (fun c_36 => ?_)
        · have hend : i = nm9 := by have := zge c_36 (by omega) (by omega); omega
          subst hend
          refine z_iload_n (i := 3) C dX4_loudestMicrophone_79 rfl rfl ?_
          exact z_ireturn C rfl (rfl) dX4_loudestMicrophone_80 (⟨rfl, sx, rfl⟩) (Nat.le_of_ble_eq_true rfl) (Nat.le_of_ble_eq_true rfl)
        · have hlt := znge c_36 (by omega) (by omega)
          refine z_aload_n (i := 0) C dX4_loudestMicrophone_39 rfl rfl ?_
          refine z_iload C dX4_loudestMicrophone_40 rfl ?_
          refine z_callVn C (tw_obj) rfl (ct_X4_layRecord D B i (by omega)) q2128 q2130 qs49 q106 q2131 np_X4_layRecord (zr_ok rfl rfl) rfl rfl (Nat.le_of_ble_eq_true rfl) (⟨Nat.le_of_ble_eq_true rfl, Nat.le_of_ble_eq_true rfl⟩) dX4_loudestMicrophone_42 ?_
          intro v9 G9 h9
          obtain ⟨rfl, sy, rfl, hsy⟩ := h9
          refine z_aload_n (i := 0) C dX4_loudestMicrophone_45 rfl rfl ?_
          refine z_iload_n (i := 1) C dX4_loudestMicrophone_46 rfl rfl ?_
          refine z_iload_n (i := 2) C dX4_loudestMicrophone_47 rfl rfl ?_
          refine z_callVe C (tw_obj) rfl (ct_X4_energyOf D B f l (by omega) hl) q2136 q2138 qs51 q106 q2139 np_X4_energyOf (zr_ok rfl rfl) rfl rfl (Nat.le_of_ble_eq_true rfl) (⟨Nat.le_of_ble_eq_true rfl, Nat.le_of_ble_eq_true rfl⟩) dX4_loudestMicrophone_48 ?_
          refine z_setl (y := zen (fun j => st (186 + 256 * i + j)) f l) (zen_congr (fun j hj => hsy j (by omega))) ?_
          refine z_lstore C dX4_loudestMicrophone_51 (Nat.le_of_ble_eq_true rfl) rfl ?_
          refine z_iload_n (i := 3) C dX4_loudestMicrophone_53 rfl rfl ?_
          refine z_iconst (v := (-1)) C dX4_loudestMicrophone_54 (by decide) ?_
          refine z_icmp_eq (tgt := 66) C dX4_loudestMicrophone_55 (by decide) (fun c_55 => ?_) (fun c_55 => ?_)
          · refine z_iload C dX4_loudestMicrophone_66 rfl ?_
            refine z_istore_n (i := 3) C dX4_loudestMicrophone_68 rfl (Nat.le_of_ble_eq_true rfl) rfl ?_
            refine z_lload C dX4_loudestMicrophone_69 rfl ?_
            refine z_lstore C dX4_loudestMicrophone_71 (Nat.le_of_ble_eq_true rfl) rfl ?_
            refine z_iinc (v := nI (i + 1)) C dX4_loudestMicrophone_73 rfl (ziinc i) (Nat.le_of_ble_eq_true rfl) rfl ?_
            refine z_goto (tgt := 27) C dX4_loudestMicrophone_76 (by decide) ?_
            exact z_convG (ih27 (i + 1) _ (by omega) (by omega)) (And.intro (rfl) (And.intro (rfl) (And.intro (rfl) (And.intro (by simp only [zlm]; first | rw [if_pos (Or.inl c_55)] | rw [if_pos (Or.inr (Int64.not_le.mp c_63))] | rw [if_neg (by rintro (q | q); (· exact c_55 q); (· exact Int64.not_le.mpr q c_63))]) (And.intro (by simp only [zlm]; first | rw [if_pos (Or.inl c_55)] | rw [if_pos (Or.inr (Int64.not_le.mp c_63))] | rw [if_neg (by rintro (q | q); (· exact c_55 q); (· exact Int64.not_le.mpr q c_63))]) (And.intro (rfl) trivial)))))) (Nat.le_of_ble_eq_true rfl) (Nat.le_of_ble_eq_true rfl)
          · refine z_lload C dX4_loudestMicrophone_58 rfl ?_
            refine z_lload C dX4_loudestMicrophone_60 rfl ?_
            refine z_lc_le (tgt := 73) C dX4_loudestMicrophone_62 dX4_loudestMicrophone_63 (by decide) (fun c_63 => ?_) (fun c_63 => ?_)
            · refine z_iinc (v := nI (i + 1)) C dX4_loudestMicrophone_73 rfl (ziinc i) (Nat.le_of_ble_eq_true rfl) rfl ?_
              refine z_goto (tgt := 27) C dX4_loudestMicrophone_76 (by decide) ?_
              exact z_convG (ih27 (i + 1) _ (by omega) (by omega)) (And.intro (rfl) (And.intro (rfl) (And.intro (rfl) (And.intro (by simp only [zlm]; first | rw [if_pos (Or.inl c_55)] | rw [if_pos (Or.inr (Int64.not_le.mp c_63))] | rw [if_neg (by rintro (q | q); (· exact c_55 q); (· exact Int64.not_le.mpr q c_63))]) (And.intro (by simp only [zlm]; first | rw [if_pos (Or.inl c_55)] | rw [if_pos (Or.inr (Int64.not_le.mp c_63))] | rw [if_neg (by rintro (q | q); (· exact c_55 q); (· exact Int64.not_le.mpr q c_63))]) (And.intro (rfl) trivial)))))) (Nat.le_of_ble_eq_true rfl) (Nat.le_of_ble_eq_true rfl)
            · refine z_iload C dX4_loudestMicrophone_66 rfl ?_
              refine z_istore_n (i := 3) C dX4_loudestMicrophone_68 rfl (Nat.le_of_ble_eq_true rfl) rfl ?_
              refine z_lload C dX4_loudestMicrophone_69 rfl ?_
              refine z_lstore C dX4_loudestMicrophone_71 (Nat.le_of_ble_eq_true rfl) rfl ?_
              refine z_iinc (v := nI (i + 1)) C dX4_loudestMicrophone_73 rfl (ziinc i) (Nat.le_of_ble_eq_true rfl) rfl ?_
              refine z_goto (tgt := 27) C dX4_loudestMicrophone_76 (by decide) ?_
              exact z_convG (ih27 (i + 1) _ (by omega) (by omega)) (And.intro (rfl) (And.intro (rfl) (And.intro (rfl) (And.intro (by simp only [zlm]; first | rw [if_pos (Or.inl c_55)] | rw [if_pos (Or.inr (Int64.not_le.mp c_63))] | rw [if_neg (by rintro (q | q); (· exact c_55 q); (· exact Int64.not_le.mpr q c_63))]) (And.intro (by simp only [zlm]; first | rw [if_pos (Or.inl c_55)] | rw [if_pos (Or.inr (Int64.not_le.mp c_63))] | rw [if_neg (by rintro (q | q); (· exact c_55 q); (· exact Int64.not_le.mpr q c_63))]) (And.intro (rfl) trivial)))))) (Nat.le_of_ble_eq_true rfl) (Nat.le_of_ble_eq_true rfl)
    exact z_convG (lp27 9 0 si (by omega) (by omega)) (And.intro (rfl) (And.intro (rfl) (And.intro (rfl) (And.intro (rfl) (And.intro (rfl) (And.intro (rfl) trivial)))))) (Nat.le_of_ble_eq_true rfl) (Nat.le_of_ble_eq_true rfl)
  · exact absurd c_10 (by decide)
set_option maxHeartbeats 4000000 in
set_option maxRecDepth 100000 in
theorem ct_X4_loudestMicrophone_1 (D : zG) (B : Nat) {b : zH} {t : tA} {st : Nat → Int32} {bk : Nat → Int32} {sv : Nat → Int32} {iz : Nat → Int32} {th : Int32} {di : Nat → Int32} {re : Nat → Int32} {si : Nat → Int32} {pa : Nat → Int32} {fo : Nat → Int64} {te : Nat → Int32} {tl : Int32} {po : Int32} {ts : Int32} {to : Int32} {le : Int32} {nu : Int32} {ec : Int32} {ep : Int32} {wo : Int64} (f l : Int32) (h3 : ¬ ((0 ≤ f ∧ f ≤ 255) ∧ f ≤ l ∧ l ≤ 255)) : Ct D B yX4_loudestMicrophone (ws_ yX4_loudestMicrophone cX4_loudestMicrophone 9 (some .int)) (zr 4) [.ref (t.1 0), .int f, .int l] (tw b t st bk sv iz th di re si pa fo te tl po ts to le nu ec ep wo) (zpe (some (.int (0))) (tw b t st bk sv iz 1 di re si pa fo te tl po ts to le nu ec ep wo)) zno := by
  refine ct_intro (by decide +kernel) (Nat.le_of_ble_eq_true rfl) ?_
  intro X C
  refine z_aload_n (i := 0) C dX4_loudestMicrophone_0 rfl rfl ?_
  refine z_iconst (v := 0) C dX4_loudestMicrophone_1 (by decide) ?_
  refine tp_thrown C q1868 dX4_loudestMicrophone_2 ?_
  refine z_iload_n (i := 1) C dX4_loudestMicrophone_5 rfl rfl ?_
  refine z_iload_n (i := 2) C dX4_loudestMicrophone_6 rfl rfl ?_
  refine z_callSe C (ct_X4_isWindow D B _ _) q2125 q2126 q106 q2127 np_X4_isWindow (zr_ok rfl rfl) rfl rfl (Nat.le_of_ble_eq_true rfl) (⟨Nat.le_of_ble_eq_true rfl, Nat.le_of_ble_eq_true rfl⟩) dX4_loudestMicrophone_7 ?_
  refine z_seti (zb_f (h3)) ?_
  refine z_if_ne (tgt := 19) C dX4_loudestMicrophone_10 (by decide) (fun c_10 => ?_) (fun c_10 => ?_)
  · exact absurd rfl c_10
  · refine z_aload_n (i := 0) C dX4_loudestMicrophone_13 rfl rfl ?_
    refine z_iconst (v := 1) C dX4_loudestMicrophone_14 (by decide) ?_
    refine z_callVe C (tw_obj) rfl (ct_X4_fail D B _) q1941 q1943 qs26 q106 q1944 np_X4_fail (zr_ok rfl rfl) rfl rfl (Nat.le_of_ble_eq_true rfl) (⟨Nat.le_of_ble_eq_true rfl, Nat.le_of_ble_eq_true rfl⟩) dX4_loudestMicrophone_15 ?_
    exact z_ireturn C rfl (rfl) dX4_loudestMicrophone_18 (⟨rfl, rfl⟩) (Nat.le_of_ble_eq_true rfl) (Nat.le_of_ble_eq_true rfl)
set_option maxHeartbeats 4000000 in
set_option maxRecDepth 100000 in
theorem ct_X4_loudestWindow_ok (D : zG) (B : Nat) {b : zH} {t : tA} {st : Nat → Int32} {bk : Nat → Int32} {sv : Nat → Int32} {iz : Nat → Int32} {th : Int32} {di : Nat → Int32} {re : Nat → Int32} {si : Nat → Int32} {pa : Nat → Int32} {fo : Nat → Int64} {te : Nat → Int32} {tl : Int32} {po : Int32} {ts : Int32} {to : Int32} {le : Int32} {nu : Int32} {ec : Int32} {ep : Int32} {wo : Int64} (m w9 : Nat) (hm0 : 0 ≤ nI m ∧ nI m ≤ st 8 - 1) (hm : m < 8) (hw0 : 1 ≤ nI w9 ∧ nI w9 ≤ 256) (hw1 : 1 ≤ w9) (hw2 : w9 ≤ 256) : Ct D B yX4_loudestWindow (ws_ yX4_loudestWindow cX4_loudestWindow 9 (some .int)) (zr 4) [.ref (t.1 0), .int (nI m), .int (nI w9)] (tw b t st bk sv iz th di re si pa fo te tl po ts to le nu ec ep wo) (fun w G9 => w = some (.int (zlw (fun a9 => zen (fun j => st (186 + 256 * m + j)) a9 (a9 + w9 - 1)) (257 - w9)).1) ∧ ∃ sx : Nat → Int32, G9 = (tw b t st bk sv iz 0 di re sx pa fo te tl po ts to le nu ec ep wo)) zno := by
  refine ct_intro (by decide +kernel) (Nat.le_of_ble_eq_true rfl) ?_
  intro X C
  refine z_aload_n (i := 0) C dX4_loudestWindow_0 rfl rfl ?_
  refine z_iconst (v := 0) C dX4_loudestWindow_1 (by decide) ?_
  refine tp_thrown C q1868 dX4_loudestWindow_2 ?_
  refine z_aload_n (i := 0) C dX4_loudestWindow_5 rfl rfl ?_
  refine z_iload_n (i := 1) C dX4_loudestWindow_6 rfl rfl ?_
  refine z_callVe C (tw_obj) rfl (ct_X4_isMicrophone D B _) q2020 q2022 qs34 q106 q2023 np_X4_isMicrophone (zr_ok rfl rfl) rfl rfl (Nat.le_of_ble_eq_true rfl) (⟨Nat.le_of_ble_eq_true rfl, Nat.le_of_ble_eq_true rfl⟩) dX4_loudestWindow_7 ?_
  refine z_seti (zb_t (hm0)) ?_
  refine z_if_ne (tgt := 19) C dX4_loudestWindow_10 (by decide) (fun c_10 => ?_) (fun c_10 => ?_)
  · refine z_iload_n (i := 2) C dX4_loudestWindow_19 rfl rfl ?_
    refine z_iconst (v := 1) C dX4_loudestWindow_20 (by decide) ?_
    refine z_sipush (v := 256) C dX4_loudestWindow_21 (by decide) ?_
    refine z_callSe C (ct_X4_isBetween D B _ _ _) q1934 q1935 q106 q1936 np_X4_isBetween (zr_ok rfl rfl) rfl rfl (Nat.le_of_ble_eq_true rfl) (⟨Nat.le_of_ble_eq_true rfl, Nat.le_of_ble_eq_true rfl⟩) dX4_loudestWindow_24 ?_
    refine z_seti (zb_t (hw0)) ?_
    refine z_if_ne (tgt := 36) C dX4_loudestWindow_27 (by decide) (fun c_27 => ?_) (fun c_27 => ?_)
    · refine z_aload_n (i := 0) C dX4_loudestWindow_36 rfl rfl ?_
      refine z_iload_n (i := 1) C dX4_loudestWindow_37 rfl rfl ?_
      refine z_callVn C (tw_obj) rfl (ct_X4_layRecord D B m hm) q2128 q2130 qs49 q106 q2131 np_X4_layRecord (zr_ok rfl rfl) rfl rfl (Nat.le_of_ble_eq_true rfl) (⟨Nat.le_of_ble_eq_true rfl, Nat.le_of_ble_eq_true rfl⟩) dX4_loudestWindow_38 ?_
      intro v9 G9 h9
      obtain ⟨rfl, sx, rfl, hsx⟩ := h9
      refine z_iconst (v := 0) C dX4_loudestWindow_41 (by decide) ?_
      refine z_istore_n (i := 3) C dX4_loudestWindow_42 rfl (Nat.le_of_ble_eq_true rfl) rfl ?_
      refine z_ldc2 C q2167 dX4_loudestWindow_43 ?_
      refine z_lstore C dX4_loudestWindow_46 (Nat.le_of_ble_eq_true rfl) rfl ?_
      refine z_iconst (v := 0) C dX4_loudestWindow_48 (by decide) ?_
      refine z_istore C dX4_loudestWindow_49 (Nat.le_of_ble_eq_true rfl) rfl ?_
      have lp51 : ∀ (μ : Nat) (i : Nat) (h1 : i ≤ 257 - w9), 257 - w9 - i < μ → Z X 51 [some (.ref (t.1 0)), some (.int (nI m)), some (.int (nI w9)), some (.int (zlw (fun a9 => zen (fun j => st (186 + 256 * m + j)) a9 (a9 + w9 - 1)) i).1), some (.long (zlw (fun a9 => zen (fun j => st (186 + 256 * m + j)) a9 (a9 + w9 - 1)) i).2), none, some (.int (nI i)), none, none] [] (tw b t st bk sv iz 0 di re sx pa fo te tl po ts to le nu ec ep wo) 0 0 := by
        intro μ
        induction μ with
        | zero => intro i h1 hμ; exact absurd hμ (Nat.not_lt_zero _)
        | succ μ ih51 =>
          intro i h1 hμ
          refine z_iload C dX4_loudestWindow_51 rfl ?_
          refine z_iload_n (i := 2) C dX4_loudestWindow_53 rfl rfl ?_
          refine z_iadd C dX4_loudestWindow_54 ?_
          refine z_seti (nI_add i w9) ?_
          refine z_sipush (v := 256) C dX4_loudestWindow_55 (by decide) ?_
          refine z_icmp_gt (tgt := 96) C dX4_loudestWindow_58 (by decide) (fun c_58 => ?_) (fun c_58 => ?_)
          · have hend : i = 257 - w9 := by have := zgt (b := 256) c_58 (by omega) (by decide); omega
            subst hend
            refine z_iload_n (i := 3) C dX4_loudestWindow_96 rfl rfl ?_
            exact z_ireturn C rfl (rfl) dX4_loudestWindow_97 (⟨rfl, sx, rfl⟩) (Nat.le_of_ble_eq_true rfl) (Nat.le_of_ble_eq_true rfl)
          · have hle := zngt (b := 256) c_58 (by omega) (by decide)
            refine z_aload_n (i := 0) C dX4_loudestWindow_61 rfl rfl ?_
            refine z_iload C dX4_loudestWindow_62 rfl ?_
            refine z_iload C dX4_loudestWindow_64 rfl ?_
            refine z_iload_n (i := 2) C dX4_loudestWindow_66 rfl rfl ?_
            refine z_iadd C dX4_loudestWindow_67 ?_
            refine z_seti (nI_add i w9) ?_
            refine z_iconst (v := 1) C dX4_loudestWindow_68 (by decide) ?_
            refine z_isub C dX4_loudestWindow_69 ?_
            refine z_seti (y := nI (i + w9 - 1)) (pk_sub (b := 1) (by omega)) ?_
            refine z_callVe C (tw_obj) rfl (ct_X4_energyOf D B i (i + w9 - 1) (by omega) (by omega)) q2136 q2138 qs51 q106 q2139 np_X4_energyOf (zr_ok rfl rfl) rfl rfl (Nat.le_of_ble_eq_true rfl) (⟨Nat.le_of_ble_eq_true rfl, Nat.le_of_ble_eq_true rfl⟩) dX4_loudestWindow_70 ?_
            refine z_setl (y := zen (fun j => st (186 + 256 * m + j)) i (i + w9 - 1)) (zen_congr (fun j hj => hsx j (by omega))) ?_
            refine z_lstore C dX4_loudestWindow_73 (Nat.le_of_ble_eq_true rfl) rfl ?_
            refine z_lload C dX4_loudestWindow_75 rfl ?_
            refine z_lload C dX4_loudestWindow_77 rfl ?_
            refine z_lc_le (tgt := 90) C dX4_loudestWindow_79 dX4_loudestWindow_80 (by decide) (fun c_80 => ?_) (fun c_80 => ?_)
            · refine z_iinc (v := nI (i + 1)) C dX4_loudestWindow_90 rfl (ziinc i) (Nat.le_of_ble_eq_true rfl) rfl ?_
              refine z_goto (tgt := 51) C dX4_loudestWindow_93 (by decide) ?_
              exact z_convG (ih51 (i + 1) (by omega) (by omega)) (And.intro (rfl) (And.intro (rfl) (And.intro (rfl) (And.intro (by simp only [zlw]; first | rw [if_pos (Int64.not_le.mp c_80)] | rw [if_neg (Int64.not_lt.mpr c_80)]) (And.intro (by simp only [zlw]; first | rw [if_pos (Int64.not_le.mp c_80)] | rw [if_neg (Int64.not_lt.mpr c_80)]) (And.intro (rfl) trivial)))))) (Nat.le_of_ble_eq_true rfl) (Nat.le_of_ble_eq_true rfl)
            · refine z_iload C dX4_loudestWindow_83 rfl ?_
              refine z_istore_n (i := 3) C dX4_loudestWindow_85 rfl (Nat.le_of_ble_eq_true rfl) rfl ?_
              refine z_lload C dX4_loudestWindow_86 rfl ?_
              refine z_lstore C dX4_loudestWindow_88 (Nat.le_of_ble_eq_true rfl) rfl ?_
              refine z_iinc (v := nI (i + 1)) C dX4_loudestWindow_90 rfl (ziinc i) (Nat.le_of_ble_eq_true rfl) rfl ?_
              refine z_goto (tgt := 51) C dX4_loudestWindow_93 (by decide) ?_
              exact z_convG (ih51 (i + 1) (by omega) (by omega)) (And.intro (rfl) (And.intro (rfl) (And.intro (rfl) (And.intro (by simp only [zlw]; first | rw [if_pos (Int64.not_le.mp c_80)] | rw [if_neg (Int64.not_lt.mpr c_80)]) (And.intro (by simp only [zlw]; first | rw [if_pos (Int64.not_le.mp c_80)] | rw [if_neg (Int64.not_lt.mpr c_80)]) (And.intro (rfl) trivial)))))) (Nat.le_of_ble_eq_true rfl) (Nat.le_of_ble_eq_true rfl)
      exact z_convG (lp51 257 0 (by omega) (by omega)) (And.intro (rfl) (And.intro (rfl) (And.intro (rfl) (And.intro (rfl) (And.intro (rfl) (And.intro (rfl) trivial)))))) (Nat.le_of_ble_eq_true rfl) (Nat.le_of_ble_eq_true rfl)
    · exact absurd c_27 (by decide)
  · exact absurd c_10 (by decide)
set_option maxHeartbeats 4000000 in
set_option maxRecDepth 100000 in
theorem ct_X4_loudestWindow_1 (D : zG) (B : Nat) {b : zH} {t : tA} {st : Nat → Int32} {bk : Nat → Int32} {sv : Nat → Int32} {iz : Nat → Int32} {th : Int32} {di : Nat → Int32} {re : Nat → Int32} {si : Nat → Int32} {pa : Nat → Int32} {fo : Nat → Int64} {te : Nat → Int32} {tl : Int32} {po : Int32} {ts : Int32} {to : Int32} {le : Int32} {nu : Int32} {ec : Int32} {ep : Int32} {wo : Int64} (m w : Int32) (h1 : ¬ (0 ≤ m ∧ m ≤ st 8 - 1)) : Ct D B yX4_loudestWindow (ws_ yX4_loudestWindow cX4_loudestWindow 9 (some .int)) (zr 4) [.ref (t.1 0), .int m, .int w] (tw b t st bk sv iz th di re si pa fo te tl po ts to le nu ec ep wo) (zpe (some (.int (0))) (tw b t st bk sv iz 1 di re si pa fo te tl po ts to le nu ec ep wo)) zno := by
  refine ct_intro (by decide +kernel) (Nat.le_of_ble_eq_true rfl) ?_
  intro X C
  refine z_aload_n (i := 0) C dX4_loudestWindow_0 rfl rfl ?_
  refine z_iconst (v := 0) C dX4_loudestWindow_1 (by decide) ?_
  refine tp_thrown C q1868 dX4_loudestWindow_2 ?_
  refine z_aload_n (i := 0) C dX4_loudestWindow_5 rfl rfl ?_
  refine z_iload_n (i := 1) C dX4_loudestWindow_6 rfl rfl ?_
  refine z_callVe C (tw_obj) rfl (ct_X4_isMicrophone D B _) q2020 q2022 qs34 q106 q2023 np_X4_isMicrophone (zr_ok rfl rfl) rfl rfl (Nat.le_of_ble_eq_true rfl) (⟨Nat.le_of_ble_eq_true rfl, Nat.le_of_ble_eq_true rfl⟩) dX4_loudestWindow_7 ?_
  refine z_seti (zb_f (h1)) ?_
  refine z_if_ne (tgt := 19) C dX4_loudestWindow_10 (by decide) (fun c_10 => ?_) (fun c_10 => ?_)
  · exact absurd rfl c_10
  · refine z_aload_n (i := 0) C dX4_loudestWindow_13 rfl rfl ?_
    refine z_iconst (v := 1) C dX4_loudestWindow_14 (by decide) ?_
    refine z_callVe C (tw_obj) rfl (ct_X4_fail D B _) q1941 q1943 qs26 q106 q1944 np_X4_fail (zr_ok rfl rfl) rfl rfl (Nat.le_of_ble_eq_true rfl) (⟨Nat.le_of_ble_eq_true rfl, Nat.le_of_ble_eq_true rfl⟩) dX4_loudestWindow_15 ?_
    exact z_ireturn C rfl (rfl) dX4_loudestWindow_18 (⟨rfl, rfl⟩) (Nat.le_of_ble_eq_true rfl) (Nat.le_of_ble_eq_true rfl)
set_option maxHeartbeats 4000000 in
set_option maxRecDepth 100000 in
theorem ct_X4_loudestWindow_2 (D : zG) (B : Nat) {b : zH} {t : tA} {st : Nat → Int32} {bk : Nat → Int32} {sv : Nat → Int32} {iz : Nat → Int32} {th : Int32} {di : Nat → Int32} {re : Nat → Int32} {si : Nat → Int32} {pa : Nat → Int32} {fo : Nat → Int64} {te : Nat → Int32} {tl : Int32} {po : Int32} {ts : Int32} {to : Int32} {le : Int32} {nu : Int32} {ec : Int32} {ep : Int32} {wo : Int64} (m w : Int32) (h1 : 0 ≤ m ∧ m ≤ st 8 - 1) (h2 : ¬ (1 ≤ w ∧ w ≤ 256)) : Ct D B yX4_loudestWindow (ws_ yX4_loudestWindow cX4_loudestWindow 9 (some .int)) (zr 4) [.ref (t.1 0), .int m, .int w] (tw b t st bk sv iz th di re si pa fo te tl po ts to le nu ec ep wo) (zpe (some (.int (0))) (tw b t st bk sv iz 2 di re si pa fo te tl po ts to le nu ec ep wo)) zno := by
  refine ct_intro (by decide +kernel) (Nat.le_of_ble_eq_true rfl) ?_
  intro X C
  refine z_aload_n (i := 0) C dX4_loudestWindow_0 rfl rfl ?_
  refine z_iconst (v := 0) C dX4_loudestWindow_1 (by decide) ?_
  refine tp_thrown C q1868 dX4_loudestWindow_2 ?_
  refine z_aload_n (i := 0) C dX4_loudestWindow_5 rfl rfl ?_
  refine z_iload_n (i := 1) C dX4_loudestWindow_6 rfl rfl ?_
  refine z_callVe C (tw_obj) rfl (ct_X4_isMicrophone D B _) q2020 q2022 qs34 q106 q2023 np_X4_isMicrophone (zr_ok rfl rfl) rfl rfl (Nat.le_of_ble_eq_true rfl) (⟨Nat.le_of_ble_eq_true rfl, Nat.le_of_ble_eq_true rfl⟩) dX4_loudestWindow_7 ?_
  refine z_seti (zb_t (h1)) ?_
  refine z_if_ne (tgt := 19) C dX4_loudestWindow_10 (by decide) (fun c_10 => ?_) (fun c_10 => ?_)
  · refine z_iload_n (i := 2) C dX4_loudestWindow_19 rfl rfl ?_
    refine z_iconst (v := 1) C dX4_loudestWindow_20 (by decide) ?_
    refine z_sipush (v := 256) C dX4_loudestWindow_21 (by decide) ?_
    refine z_callSe C (ct_X4_isBetween D B _ _ _) q1934 q1935 q106 q1936 np_X4_isBetween (zr_ok rfl rfl) rfl rfl (Nat.le_of_ble_eq_true rfl) (⟨Nat.le_of_ble_eq_true rfl, Nat.le_of_ble_eq_true rfl⟩) dX4_loudestWindow_24 ?_
    refine z_seti (zb_f (h2)) ?_
    refine z_if_ne (tgt := 36) C dX4_loudestWindow_27 (by decide) (fun c_27 => ?_) (fun c_27 => ?_)
    · exact absurd rfl c_27
    · refine z_aload_n (i := 0) C dX4_loudestWindow_30 rfl rfl ?_
      refine z_iconst (v := 2) C dX4_loudestWindow_31 (by decide) ?_
      refine z_callVe C (tw_obj) rfl (ct_X4_fail D B _) q1941 q1943 qs26 q106 q1944 np_X4_fail (zr_ok rfl rfl) rfl rfl (Nat.le_of_ble_eq_true rfl) (⟨Nat.le_of_ble_eq_true rfl, Nat.le_of_ble_eq_true rfl⟩) dX4_loudestWindow_32 ?_
      exact z_ireturn C rfl (rfl) dX4_loudestWindow_35 (⟨rfl, rfl⟩) (Nat.le_of_ble_eq_true rfl) (Nat.le_of_ble_eq_true rfl)
  · exact absurd c_10 (by decide)
set_option maxHeartbeats 4000000 in
set_option maxRecDepth 100000 in
theorem ct_X4_correlationOf (D : zG) (B : Nat) {b : zH} {t : tA} {st : Nat → Int32} {bk : Nat → Int32} {sv : Nat → Int32} {iz : Nat → Int32} {th : Int32} {di : Nat → Int32} {re : Nat → Int32} {si : Nat → Int32} {pa : Nat → Int32} {fo : Nat → Int64} {te : Nat → Int32} {tl : Int32} {po : Int32} {ts : Int32} {to : Int32} {le : Int32} {nu : Int32} {ec : Int32} {ep : Int32} {wo : Int64} (m o : Nat) (x : Int32) (hm : m < 8) (ho : o < 8) : Ct D B yX4_correlationOf (ws_ yX4_correlationOf cX4_correlationOf 7 (some .long)) (zr 3) [.ref (t.1 0), .int (nI m), .int (nI o), .int x] (tw b t st bk sv iz th di re si pa fo te tl po ts to le nu ec ep wo) (zpe (some (.long (zco st m o x))) (tw b t st bk sv iz th di re si pa fo te tl po ts to le nu ec ep wo)) zno := by
  refine ct_intro (by decide +kernel) (Nat.le_of_ble_eq_true rfl) ?_
  intro X C
  refine z_lconst (v := 0) C dX4_correlationOf_0 (by decide) ?_
  refine z_lstore C dX4_correlationOf_1 (Nat.le_of_ble_eq_true rfl) rfl ?_
  refine z_iconst (v := 0) C dX4_correlationOf_3 (by decide) ?_
  refine z_istore C dX4_correlationOf_4 (Nat.le_of_ble_eq_true rfl) rfl ?_
  have lp6 : ∀ (μ : Nat) (i : Nat) (h1 : i ≤ 256), 256 - i < μ → Z X 6 [some (.ref (t.1 0)), some (.int (nI m)), some (.int (nI o)), some (.int x), some (.long (zsumL (fun n => if 0 ≤ nI n + x ∧ nI n + x ≤ 255 then (zrec st m (nI n)).toInt64 * (zrec st o (nI n + x)).toInt64 else 0) 0 i)), none, some (.int (nI i))] [] (tw b t st bk sv iz th di re si pa fo te tl po ts to le nu ec ep wo) 0 0 := by
    intro μ
    induction μ with
    | zero => intro i h1 hμ; exact absurd hμ (Nat.not_lt_zero _)
    | succ μ ih6 =>
      intro i h1 hμ
      refine z_iload C dX4_correlationOf_6 rfl ?_
      refine z_sipush (v := 256) C dX4_correlationOf_8 (by decide) ?_
      refine z_icmp_ge (tgt := 58) C dX4_correlationOf_11 (by decide) (fun c_11 => ?_) (fun c_11 => ?_)
      · have hend : i = 256 := by have := zge (b := 256) c_11 (by omega) (by decide); omega
        subst hend
        refine z_lload C dX4_correlationOf_58 rfl ?_
        exact z_lreturn C rfl dX4_correlationOf_60 (⟨rfl, rfl⟩) (Nat.le_of_ble_eq_true rfl) (Nat.le_of_ble_eq_true rfl)
      · have hlt := znge (b := 256) c_11 (by omega) (by decide)
        refine z_lload C dX4_correlationOf_14 rfl ?_
        refine z_iload C dX4_correlationOf_16 rfl ?_
        refine z_iload_n (i := 3) C dX4_correlationOf_18 rfl rfl ?_
        refine z_iadd C dX4_correlationOf_19 ?_
        refine z_callSe C (ct_X4_isTime D B _) q2032 q2033 q106 q2034 np_X4_isTime (zr_ok rfl rfl) rfl rfl (Nat.le_of_ble_eq_true rfl) (⟨Nat.le_of_ble_eq_true rfl, Nat.le_of_ble_eq_true rfl⟩) dX4_correlationOf_20 ?_
        refine z_if_eq (tgt := 48) C dX4_correlationOf_23 (by decide) (fun c_23 => ?_) (fun c_23 => ?_)
        · refine z_lconst (v := 0) C dX4_correlationOf_48 (by decide) ?_
          refine z_ladd C dX4_correlationOf_49 ?_
          refine z_lstore C dX4_correlationOf_50 (Nat.le_of_ble_eq_true rfl) rfl ?_
          refine z_iinc (v := nI (i + 1)) C dX4_correlationOf_52 rfl (ziinc i) (Nat.le_of_ble_eq_true rfl) rfl ?_
          refine z_goto (tgt := 6) C dX4_correlationOf_55 (by decide) ?_
          exact z_convG (ih6 (i + 1) (by omega) (by omega)) (And.intro (rfl) (And.intro (rfl) (And.intro (rfl) (And.intro (rfl) (And.intro (by simp only [zsumL, Nat.zero_add]; first | rw [if_pos (zb_ne.mp c_23)] | rw [if_neg (zb_eq.mp c_23)]) (And.intro (rfl) trivial)))))) (Nat.le_of_ble_eq_true rfl) (Nat.le_of_ble_eq_true rfl)
        · refine z_aload_n (i := 0) C dX4_correlationOf_26 rfl rfl ?_
          refine z_iload_n (i := 1) C dX4_correlationOf_27 rfl rfl ?_
          refine z_iload C dX4_correlationOf_28 rfl ?_
          refine z_callVe C (tw_obj) rfl (ct_X4_recorded D B m _ hm) q2117 q2119 qs48 q106 q2120 np_X4_recorded (zr_ok rfl rfl) rfl rfl (Nat.le_of_ble_eq_true rfl) (⟨Nat.le_of_ble_eq_true rfl, Nat.le_of_ble_eq_true rfl⟩) dX4_correlationOf_30 ?_
          refine z_i2l C dX4_correlationOf_33 rfl ?_
          refine z_aload_n (i := 0) C dX4_correlationOf_34 rfl rfl ?_
          refine z_iload_n (i := 2) C dX4_correlationOf_35 rfl rfl ?_
          refine z_iload C dX4_correlationOf_36 rfl ?_
          refine z_iload_n (i := 3) C dX4_correlationOf_38 rfl rfl ?_
          refine z_iadd C dX4_correlationOf_39 ?_
          refine z_callVe C (tw_obj) rfl (ct_X4_recorded D B o _ ho) q2117 q2119 qs48 q106 q2120 np_X4_recorded (zr_ok rfl rfl) rfl rfl (Nat.le_of_ble_eq_true rfl) (⟨Nat.le_of_ble_eq_true rfl, Nat.le_of_ble_eq_true rfl⟩) dX4_correlationOf_40 ?_
          refine z_i2l C dX4_correlationOf_43 rfl ?_
          refine z_lmul C dX4_correlationOf_44 ?_
          refine z_goto (tgt := 49) C dX4_correlationOf_45 (by decide) ?_
          refine z_ladd C dX4_correlationOf_49 ?_
          refine z_lstore C dX4_correlationOf_50 (Nat.le_of_ble_eq_true rfl) rfl ?_
          refine z_iinc (v := nI (i + 1)) C dX4_correlationOf_52 rfl (ziinc i) (Nat.le_of_ble_eq_true rfl) rfl ?_
          refine z_goto (tgt := 6) C dX4_correlationOf_55 (by decide) ?_
          exact z_convG (ih6 (i + 1) (by omega) (by omega)) (And.intro (rfl) (And.intro (rfl) (And.intro (rfl) (And.intro (rfl) (And.intro (by simp only [zsumL, Nat.zero_add]; first | rw [if_pos (zb_ne.mp c_23)] | rw [if_neg (zb_eq.mp c_23)]) (And.intro (rfl) trivial)))))) (Nat.le_of_ble_eq_true rfl) (Nat.le_of_ble_eq_true rfl)
  exact z_convG (lp6 257 0 (by omega) (by omega)) (And.intro (rfl) (And.intro (rfl) (And.intro (rfl) (And.intro (rfl) (And.intro (rfl) (And.intro (rfl) trivial)))))) (Nat.le_of_ble_eq_true rfl) (Nat.le_of_ble_eq_true rfl)
theorem np_X4_correlationOf : znp yX4_correlationOf 3 := ⟨by decide +kernel, by decide +kernel, by decide +kernel⟩
set_option maxHeartbeats 4000000 in
set_option maxRecDepth 100000 in
theorem ct_X4_correlation_ok (D : zG) (B : Nat) {b : zH} {t : tA} {st : Nat → Int32} {bk : Nat → Int32} {sv : Nat → Int32} {iz : Nat → Int32} {th : Int32} {di : Nat → Int32} {re : Nat → Int32} {si : Nat → Int32} {pa : Nat → Int32} {fo : Nat → Int64} {te : Nat → Int32} {tl : Int32} {po : Int32} {ts : Int32} {to : Int32} {le : Int32} {nu : Int32} {ec : Int32} {ep : Int32} {wo : Int64} (m o : Nat) (x : Int32) (hm0 : 0 ≤ nI m ∧ nI m ≤ st 8 - 1) (hm : m < 8) (ho0 : 0 ≤ nI o ∧ nI o ≤ st 8 - 1) (ho : o < 8) (hx : -255 ≤ x ∧ x ≤ 255) : Ct D B yX4_correlation (ws_ yX4_correlation cX4_correlation 4 (some .long)) (zr 4) [.ref (t.1 0), .int (nI m), .int (nI o), .int x] (tw b t st bk sv iz th di re si pa fo te tl po ts to le nu ec ep wo) (zpe (some (.long (zco st m o x))) (tw b t st bk sv iz 0 di re si pa fo te tl po ts to le nu ec ep wo)) zno := by
  refine ct_intro (by decide +kernel) (Nat.le_of_ble_eq_true rfl) ?_
  intro X C
  refine z_aload_n (i := 0) C dX4_correlation_0 rfl rfl ?_
  refine z_iconst (v := 0) C dX4_correlation_1 (by decide) ?_
  refine tp_thrown C q1868 dX4_correlation_2 ?_
  refine z_aload_n (i := 0) C dX4_correlation_5 rfl rfl ?_
  refine z_iload_n (i := 1) C dX4_correlation_6 rfl rfl ?_
  refine z_callVe C (tw_obj) rfl (ct_X4_isMicrophone D B _) q2020 q2022 qs34 q106 q2023 np_X4_isMicrophone (zr_ok rfl rfl) rfl rfl (Nat.le_of_ble_eq_true rfl) (⟨Nat.le_of_ble_eq_true rfl, Nat.le_of_ble_eq_true rfl⟩) dX4_correlation_7 ?_
  refine z_seti (zb_t (hm0)) ?_
  refine z_if_eq (tgt := 21) C dX4_correlation_10 (by decide) (fun c_10 => ?_) (fun c_10 => ?_)
  · exact absurd c_10 (by decide)
  · refine z_aload_n (i := 0) C dX4_correlation_13 rfl rfl ?_
    refine z_iload_n (i := 2) C dX4_correlation_14 rfl rfl ?_
    refine z_callVe C (tw_obj) rfl (ct_X4_isMicrophone D B _) q2020 q2022 qs34 q106 q2023 np_X4_isMicrophone (zr_ok rfl rfl) rfl rfl (Nat.le_of_ble_eq_true rfl) (⟨Nat.le_of_ble_eq_true rfl, Nat.le_of_ble_eq_true rfl⟩) dX4_correlation_15 ?_
    refine z_seti (zb_t (ho0)) ?_
    refine z_if_ne (tgt := 28) C dX4_correlation_18 (by decide) (fun c_18 => ?_) (fun c_18 => ?_)
    · refine z_iload_n (i := 3) C dX4_correlation_28 rfl rfl ?_
      refine z_sipush (v := (-255)) C dX4_correlation_29 (by decide) ?_
      refine z_sipush (v := 255) C dX4_correlation_32 (by decide) ?_
      refine z_callSe C (ct_X4_isBetween D B _ _ _) q1934 q1935 q106 q1936 np_X4_isBetween (zr_ok rfl rfl) rfl rfl (Nat.le_of_ble_eq_true rfl) (⟨Nat.le_of_ble_eq_true rfl, Nat.le_of_ble_eq_true rfl⟩) dX4_correlation_35 ?_
      refine z_seti (zb_t (hx)) ?_
      refine z_if_eq (tgt := 51) C dX4_correlation_38 (by decide) (fun c_38 => ?_) (fun c_38 => ?_)
      · exact absurd c_38 (by decide)
      · refine z_aload_n (i := 0) C dX4_correlation_41 rfl rfl ?_
        refine z_iload_n (i := 1) C dX4_correlation_42 rfl rfl ?_
        refine z_iload_n (i := 2) C dX4_correlation_43 rfl rfl ?_
        refine z_iload_n (i := 3) C dX4_correlation_44 rfl rfl ?_
        refine z_callVe C (tw_obj) rfl (ct_X4_correlationOf D B m o x hm ho) q2172 q2174 qs55 q106 q2175 np_X4_correlationOf (zr_ok rfl rfl) rfl rfl (Nat.le_of_ble_eq_true rfl) (⟨Nat.le_of_ble_eq_true rfl, Nat.le_of_ble_eq_true rfl⟩) dX4_correlation_45 ?_
        refine z_goto (tgt := 57) C dX4_correlation_48 (by decide) ?_
        exact z_lreturn C rfl dX4_correlation_57 (⟨rfl, rfl⟩) (Nat.le_of_ble_eq_true rfl) (Nat.le_of_ble_eq_true rfl)
    · exact absurd c_18 (by decide)
set_option maxHeartbeats 4000000 in
set_option maxRecDepth 100000 in
theorem ct_X4_correlation_1a (D : zG) (B : Nat) {b : zH} {t : tA} {st : Nat → Int32} {bk : Nat → Int32} {sv : Nat → Int32} {iz : Nat → Int32} {th : Int32} {di : Nat → Int32} {re : Nat → Int32} {si : Nat → Int32} {pa : Nat → Int32} {fo : Nat → Int64} {te : Nat → Int32} {tl : Int32} {po : Int32} {ts : Int32} {to : Int32} {le : Int32} {nu : Int32} {ec : Int32} {ep : Int32} {wo : Int64} (m o x : Int32) (h1 : ¬ (0 ≤ m ∧ m ≤ st 8 - 1)) : Ct D B yX4_correlation (ws_ yX4_correlation cX4_correlation 4 (some .long)) (zr 4) [.ref (t.1 0), .int m, .int o, .int x] (tw b t st bk sv iz th di re si pa fo te tl po ts to le nu ec ep wo) (zpe (some (.long 0)) (tw b t st bk sv iz 1 di re si pa fo te tl po ts to le nu ec ep wo)) zno := by
  refine ct_intro (by decide +kernel) (Nat.le_of_ble_eq_true rfl) ?_
  intro X C
  refine z_aload_n (i := 0) C dX4_correlation_0 rfl rfl ?_
  refine z_iconst (v := 0) C dX4_correlation_1 (by decide) ?_
  refine tp_thrown C q1868 dX4_correlation_2 ?_
  refine z_aload_n (i := 0) C dX4_correlation_5 rfl rfl ?_
  refine z_iload_n (i := 1) C dX4_correlation_6 rfl rfl ?_
  refine z_callVe C (tw_obj) rfl (ct_X4_isMicrophone D B _) q2020 q2022 qs34 q106 q2023 np_X4_isMicrophone (zr_ok rfl rfl) rfl rfl (Nat.le_of_ble_eq_true rfl) (⟨Nat.le_of_ble_eq_true rfl, Nat.le_of_ble_eq_true rfl⟩) dX4_correlation_7 ?_
  refine z_seti (zb_f (h1)) ?_
  refine z_if_eq (tgt := 21) C dX4_correlation_10 (by decide) (fun c_10 => ?_) (fun c_10 => ?_)
  · refine z_aload_n (i := 0) C dX4_correlation_21 rfl rfl ?_
    refine z_iconst (v := 1) C dX4_correlation_22 (by decide) ?_
    refine z_callVe C (tw_obj) rfl (ct_X4_fail D B _) q1941 q1943 qs26 q106 q1944 np_X4_fail (zr_ok rfl rfl) rfl rfl (Nat.le_of_ble_eq_true rfl) (⟨Nat.le_of_ble_eq_true rfl, Nat.le_of_ble_eq_true rfl⟩) dX4_correlation_23 ?_
    refine z_i2l C dX4_correlation_26 rfl ?_
    exact z_lreturn C rfl dX4_correlation_27 (⟨rfl, rfl⟩) (Nat.le_of_ble_eq_true rfl) (Nat.le_of_ble_eq_true rfl)
  · exact absurd rfl c_10
set_option maxHeartbeats 4000000 in
set_option maxRecDepth 100000 in
theorem ct_X4_correlation_1b (D : zG) (B : Nat) {b : zH} {t : tA} {st : Nat → Int32} {bk : Nat → Int32} {sv : Nat → Int32} {iz : Nat → Int32} {th : Int32} {di : Nat → Int32} {re : Nat → Int32} {si : Nat → Int32} {pa : Nat → Int32} {fo : Nat → Int64} {te : Nat → Int32} {tl : Int32} {po : Int32} {ts : Int32} {to : Int32} {le : Int32} {nu : Int32} {ec : Int32} {ep : Int32} {wo : Int64} (m o x : Int32) (h1 : 0 ≤ m ∧ m ≤ st 8 - 1) (h2 : ¬ (0 ≤ o ∧ o ≤ st 8 - 1)) : Ct D B yX4_correlation (ws_ yX4_correlation cX4_correlation 4 (some .long)) (zr 4) [.ref (t.1 0), .int m, .int o, .int x] (tw b t st bk sv iz th di re si pa fo te tl po ts to le nu ec ep wo) (zpe (some (.long 0)) (tw b t st bk sv iz 1 di re si pa fo te tl po ts to le nu ec ep wo)) zno := by
  refine ct_intro (by decide +kernel) (Nat.le_of_ble_eq_true rfl) ?_
  intro X C
  refine z_aload_n (i := 0) C dX4_correlation_0 rfl rfl ?_
  refine z_iconst (v := 0) C dX4_correlation_1 (by decide) ?_
  refine tp_thrown C q1868 dX4_correlation_2 ?_
  refine z_aload_n (i := 0) C dX4_correlation_5 rfl rfl ?_
  refine z_iload_n (i := 1) C dX4_correlation_6 rfl rfl ?_
  refine z_callVe C (tw_obj) rfl (ct_X4_isMicrophone D B _) q2020 q2022 qs34 q106 q2023 np_X4_isMicrophone (zr_ok rfl rfl) rfl rfl (Nat.le_of_ble_eq_true rfl) (⟨Nat.le_of_ble_eq_true rfl, Nat.le_of_ble_eq_true rfl⟩) dX4_correlation_7 ?_
  refine z_seti (zb_t (h1)) ?_
  refine z_if_eq (tgt := 21) C dX4_correlation_10 (by decide) (fun c_10 => ?_) (fun c_10 => ?_)
  · exact absurd c_10 (by decide)
  · refine z_aload_n (i := 0) C dX4_correlation_13 rfl rfl ?_
    refine z_iload_n (i := 2) C dX4_correlation_14 rfl rfl ?_
    refine z_callVe C (tw_obj) rfl (ct_X4_isMicrophone D B _) q2020 q2022 qs34 q106 q2023 np_X4_isMicrophone (zr_ok rfl rfl) rfl rfl (Nat.le_of_ble_eq_true rfl) (⟨Nat.le_of_ble_eq_true rfl, Nat.le_of_ble_eq_true rfl⟩) dX4_correlation_15 ?_
    refine z_seti (zb_f (h2)) ?_
    refine z_if_ne (tgt := 28) C dX4_correlation_18 (by decide) (fun c_18 => ?_) (fun c_18 => ?_)
    · exact absurd rfl c_18
    · refine z_aload_n (i := 0) C dX4_correlation_21 rfl rfl ?_
      refine z_iconst (v := 1) C dX4_correlation_22 (by decide) ?_
      refine z_callVe C (tw_obj) rfl (ct_X4_fail D B _) q1941 q1943 qs26 q106 q1944 np_X4_fail (zr_ok rfl rfl) rfl rfl (Nat.le_of_ble_eq_true rfl) (⟨Nat.le_of_ble_eq_true rfl, Nat.le_of_ble_eq_true rfl⟩) dX4_correlation_23 ?_
      refine z_i2l C dX4_correlation_26 rfl ?_
      exact z_lreturn C rfl dX4_correlation_27 (⟨rfl, rfl⟩) (Nat.le_of_ble_eq_true rfl) (Nat.le_of_ble_eq_true rfl)
set_option maxHeartbeats 4000000 in
set_option maxRecDepth 100000 in
theorem ct_X4_correlation_2 (D : zG) (B : Nat) {b : zH} {t : tA} {st : Nat → Int32} {bk : Nat → Int32} {sv : Nat → Int32} {iz : Nat → Int32} {th : Int32} {di : Nat → Int32} {re : Nat → Int32} {si : Nat → Int32} {pa : Nat → Int32} {fo : Nat → Int64} {te : Nat → Int32} {tl : Int32} {po : Int32} {ts : Int32} {to : Int32} {le : Int32} {nu : Int32} {ec : Int32} {ep : Int32} {wo : Int64} (m o x : Int32) (h1 : 0 ≤ m ∧ m ≤ st 8 - 1) (h2 : 0 ≤ o ∧ o ≤ st 8 - 1) (h3 : ¬ (-255 ≤ x ∧ x ≤ 255)) : Ct D B yX4_correlation (ws_ yX4_correlation cX4_correlation 4 (some .long)) (zr 4) [.ref (t.1 0), .int m, .int o, .int x] (tw b t st bk sv iz th di re si pa fo te tl po ts to le nu ec ep wo) (zpe (some (.long 0)) (tw b t st bk sv iz 2 di re si pa fo te tl po ts to le nu ec ep wo)) zno := by
  refine ct_intro (by decide +kernel) (Nat.le_of_ble_eq_true rfl) ?_
  intro X C
  refine z_aload_n (i := 0) C dX4_correlation_0 rfl rfl ?_
  refine z_iconst (v := 0) C dX4_correlation_1 (by decide) ?_
  refine tp_thrown C q1868 dX4_correlation_2 ?_
  refine z_aload_n (i := 0) C dX4_correlation_5 rfl rfl ?_
  refine z_iload_n (i := 1) C dX4_correlation_6 rfl rfl ?_
  refine z_callVe C (tw_obj) rfl (ct_X4_isMicrophone D B _) q2020 q2022 qs34 q106 q2023 np_X4_isMicrophone (zr_ok rfl rfl) rfl rfl (Nat.le_of_ble_eq_true rfl) (⟨Nat.le_of_ble_eq_true rfl, Nat.le_of_ble_eq_true rfl⟩) dX4_correlation_7 ?_
  refine z_seti (zb_t (h1)) ?_
  refine z_if_eq (tgt := 21) C dX4_correlation_10 (by decide) (fun c_10 => ?_) (fun c_10 => ?_)
  · exact absurd c_10 (by decide)
  · refine z_aload_n (i := 0) C dX4_correlation_13 rfl rfl ?_
    refine z_iload_n (i := 2) C dX4_correlation_14 rfl rfl ?_
    refine z_callVe C (tw_obj) rfl (ct_X4_isMicrophone D B _) q2020 q2022 qs34 q106 q2023 np_X4_isMicrophone (zr_ok rfl rfl) rfl rfl (Nat.le_of_ble_eq_true rfl) (⟨Nat.le_of_ble_eq_true rfl, Nat.le_of_ble_eq_true rfl⟩) dX4_correlation_15 ?_
    refine z_seti (zb_t (h2)) ?_
    refine z_if_ne (tgt := 28) C dX4_correlation_18 (by decide) (fun c_18 => ?_) (fun c_18 => ?_)
    · refine z_iload_n (i := 3) C dX4_correlation_28 rfl rfl ?_
      refine z_sipush (v := (-255)) C dX4_correlation_29 (by decide) ?_
      refine z_sipush (v := 255) C dX4_correlation_32 (by decide) ?_
      refine z_callSe C (ct_X4_isBetween D B _ _ _) q1934 q1935 q106 q1936 np_X4_isBetween (zr_ok rfl rfl) rfl rfl (Nat.le_of_ble_eq_true rfl) (⟨Nat.le_of_ble_eq_true rfl, Nat.le_of_ble_eq_true rfl⟩) dX4_correlation_35 ?_
      refine z_seti (zb_f (h3)) ?_
      refine z_if_eq (tgt := 51) C dX4_correlation_38 (by decide) (fun c_38 => ?_) (fun c_38 => ?_)
      · refine z_aload_n (i := 0) C dX4_correlation_51 rfl rfl ?_
        refine z_iconst (v := 2) C dX4_correlation_52 (by decide) ?_
        refine z_callVe C (tw_obj) rfl (ct_X4_fail D B _) q1941 q1943 qs26 q106 q1944 np_X4_fail (zr_ok rfl rfl) rfl rfl (Nat.le_of_ble_eq_true rfl) (⟨Nat.le_of_ble_eq_true rfl, Nat.le_of_ble_eq_true rfl⟩) dX4_correlation_53 ?_
        refine z_i2l C dX4_correlation_56 rfl ?_
        exact z_lreturn C rfl dX4_correlation_57 (⟨rfl, rfl⟩) (Nat.le_of_ble_eq_true rfl) (Nat.le_of_ble_eq_true rfl)
      · exact absurd rfl c_38
    · exact absurd c_18 (by decide)
set_option maxHeartbeats 4000000 in
set_option maxRecDepth 100000 in
theorem ct_X4_bestLag_1a (D : zG) (B : Nat) {b : zH} {t : tA} {st : Nat → Int32} {bk : Nat → Int32} {sv : Nat → Int32} {iz : Nat → Int32} {th : Int32} {di : Nat → Int32} {re : Nat → Int32} {si : Nat → Int32} {pa : Nat → Int32} {fo : Nat → Int64} {te : Nat → Int32} {tl : Int32} {po : Int32} {ts : Int32} {to : Int32} {le : Int32} {nu : Int32} {ec : Int32} {ep : Int32} {wo : Int64} (m o x : Int32) (h1 : ¬ (0 ≤ m ∧ m ≤ st 8 - 1)) : Ct D B yX4_bestLag (ws_ yX4_bestLag cX4_bestLag 11 (some .int)) (zr 4) [.ref (t.1 0), .int m, .int o, .int x] (tw b t st bk sv iz th di re si pa fo te tl po ts to le nu ec ep wo) (zpe (some (.int (0))) (tw b t st bk sv iz 1 di re si pa fo te tl po ts to le nu ec ep wo)) zno := by
  refine ct_intro (by decide +kernel) (Nat.le_of_ble_eq_true rfl) ?_
  intro X C
  refine z_aload_n (i := 0) C dX4_bestLag_0 rfl rfl ?_
  refine z_iconst (v := 0) C dX4_bestLag_1 (by decide) ?_
  refine tp_thrown C q1868 dX4_bestLag_2 ?_
  refine z_aload_n (i := 0) C dX4_bestLag_5 rfl rfl ?_
  refine z_iload_n (i := 1) C dX4_bestLag_6 rfl rfl ?_
  refine z_callVe C (tw_obj) rfl (ct_X4_isMicrophone D B _) q2020 q2022 qs34 q106 q2023 np_X4_isMicrophone (zr_ok rfl rfl) rfl rfl (Nat.le_of_ble_eq_true rfl) (⟨Nat.le_of_ble_eq_true rfl, Nat.le_of_ble_eq_true rfl⟩) dX4_bestLag_7 ?_
  refine z_seti (zb_f (h1)) ?_
  refine z_if_eq (tgt := 21) C dX4_bestLag_10 (by decide) (fun c_10 => ?_) (fun c_10 => ?_)
  · refine z_aload_n (i := 0) C dX4_bestLag_21 rfl rfl ?_
    refine z_iconst (v := 1) C dX4_bestLag_22 (by decide) ?_
    refine z_callVe C (tw_obj) rfl (ct_X4_fail D B _) q1941 q1943 qs26 q106 q1944 np_X4_fail (zr_ok rfl rfl) rfl rfl (Nat.le_of_ble_eq_true rfl) (⟨Nat.le_of_ble_eq_true rfl, Nat.le_of_ble_eq_true rfl⟩) dX4_bestLag_23 ?_
    exact z_ireturn C rfl (rfl) dX4_bestLag_26 (⟨rfl, rfl⟩) (Nat.le_of_ble_eq_true rfl) (Nat.le_of_ble_eq_true rfl)
  · exact absurd rfl c_10
set_option maxHeartbeats 4000000 in
set_option maxRecDepth 100000 in
theorem ct_X4_bestLag_1b (D : zG) (B : Nat) {b : zH} {t : tA} {st : Nat → Int32} {bk : Nat → Int32} {sv : Nat → Int32} {iz : Nat → Int32} {th : Int32} {di : Nat → Int32} {re : Nat → Int32} {si : Nat → Int32} {pa : Nat → Int32} {fo : Nat → Int64} {te : Nat → Int32} {tl : Int32} {po : Int32} {ts : Int32} {to : Int32} {le : Int32} {nu : Int32} {ec : Int32} {ep : Int32} {wo : Int64} (m o x : Int32) (h1 : 0 ≤ m ∧ m ≤ st 8 - 1) (h2 : ¬ (0 ≤ o ∧ o ≤ st 8 - 1)) : Ct D B yX4_bestLag (ws_ yX4_bestLag cX4_bestLag 11 (some .int)) (zr 4) [.ref (t.1 0), .int m, .int o, .int x] (tw b t st bk sv iz th di re si pa fo te tl po ts to le nu ec ep wo) (zpe (some (.int (0))) (tw b t st bk sv iz 1 di re si pa fo te tl po ts to le nu ec ep wo)) zno := by
  refine ct_intro (by decide +kernel) (Nat.le_of_ble_eq_true rfl) ?_
  intro X C
  refine z_aload_n (i := 0) C dX4_bestLag_0 rfl rfl ?_
  refine z_iconst (v := 0) C dX4_bestLag_1 (by decide) ?_
  refine tp_thrown C q1868 dX4_bestLag_2 ?_
  refine z_aload_n (i := 0) C dX4_bestLag_5 rfl rfl ?_
  refine z_iload_n (i := 1) C dX4_bestLag_6 rfl rfl ?_
  refine z_callVe C (tw_obj) rfl (ct_X4_isMicrophone D B _) q2020 q2022 qs34 q106 q2023 np_X4_isMicrophone (zr_ok rfl rfl) rfl rfl (Nat.le_of_ble_eq_true rfl) (⟨Nat.le_of_ble_eq_true rfl, Nat.le_of_ble_eq_true rfl⟩) dX4_bestLag_7 ?_
  refine z_seti (zb_t (h1)) ?_
  refine z_if_eq (tgt := 21) C dX4_bestLag_10 (by decide) (fun c_10 => ?_) (fun c_10 => ?_)
  · exact absurd c_10 (by decide)
  · refine z_aload_n (i := 0) C dX4_bestLag_13 rfl rfl ?_
    refine z_iload_n (i := 2) C dX4_bestLag_14 rfl rfl ?_
    refine z_callVe C (tw_obj) rfl (ct_X4_isMicrophone D B _) q2020 q2022 qs34 q106 q2023 np_X4_isMicrophone (zr_ok rfl rfl) rfl rfl (Nat.le_of_ble_eq_true rfl) (⟨Nat.le_of_ble_eq_true rfl, Nat.le_of_ble_eq_true rfl⟩) dX4_bestLag_15 ?_
    refine z_seti (zb_f (h2)) ?_
    refine z_if_ne (tgt := 27) C dX4_bestLag_18 (by decide) (fun c_18 => ?_) (fun c_18 => ?_)
    · exact absurd rfl c_18
    · refine z_aload_n (i := 0) C dX4_bestLag_21 rfl rfl ?_
      refine z_iconst (v := 1) C dX4_bestLag_22 (by decide) ?_
      refine z_callVe C (tw_obj) rfl (ct_X4_fail D B _) q1941 q1943 qs26 q106 q1944 np_X4_fail (zr_ok rfl rfl) rfl rfl (Nat.le_of_ble_eq_true rfl) (⟨Nat.le_of_ble_eq_true rfl, Nat.le_of_ble_eq_true rfl⟩) dX4_bestLag_23 ?_
      exact z_ireturn C rfl (rfl) dX4_bestLag_26 (⟨rfl, rfl⟩) (Nat.le_of_ble_eq_true rfl) (Nat.le_of_ble_eq_true rfl)
set_option maxHeartbeats 4000000 in
set_option maxRecDepth 100000 in
theorem ct_X4_bestLag_2 (D : zG) (B : Nat) {b : zH} {t : tA} {st : Nat → Int32} {bk : Nat → Int32} {sv : Nat → Int32} {iz : Nat → Int32} {th : Int32} {di : Nat → Int32} {re : Nat → Int32} {si : Nat → Int32} {pa : Nat → Int32} {fo : Nat → Int64} {te : Nat → Int32} {tl : Int32} {po : Int32} {ts : Int32} {to : Int32} {le : Int32} {nu : Int32} {ec : Int32} {ep : Int32} {wo : Int64} (m o x : Int32) (h1 : 0 ≤ m ∧ m ≤ st 8 - 1) (h2 : 0 ≤ o ∧ o ≤ st 8 - 1) (h3 : ¬ (0 ≤ x ∧ x ≤ 255)) : Ct D B yX4_bestLag (ws_ yX4_bestLag cX4_bestLag 11 (some .int)) (zr 4) [.ref (t.1 0), .int m, .int o, .int x] (tw b t st bk sv iz th di re si pa fo te tl po ts to le nu ec ep wo) (zpe (some (.int (0))) (tw b t st bk sv iz 2 di re si pa fo te tl po ts to le nu ec ep wo)) zno := by
  refine ct_intro (by decide +kernel) (Nat.le_of_ble_eq_true rfl) ?_
  intro X C
  refine z_aload_n (i := 0) C dX4_bestLag_0 rfl rfl ?_
  refine z_iconst (v := 0) C dX4_bestLag_1 (by decide) ?_
  refine tp_thrown C q1868 dX4_bestLag_2 ?_
  refine z_aload_n (i := 0) C dX4_bestLag_5 rfl rfl ?_
  refine z_iload_n (i := 1) C dX4_bestLag_6 rfl rfl ?_
  refine z_callVe C (tw_obj) rfl (ct_X4_isMicrophone D B _) q2020 q2022 qs34 q106 q2023 np_X4_isMicrophone (zr_ok rfl rfl) rfl rfl (Nat.le_of_ble_eq_true rfl) (⟨Nat.le_of_ble_eq_true rfl, Nat.le_of_ble_eq_true rfl⟩) dX4_bestLag_7 ?_
  refine z_seti (zb_t (h1)) ?_
  refine z_if_eq (tgt := 21) C dX4_bestLag_10 (by decide) (fun c_10 => ?_) (fun c_10 => ?_)
  · exact absurd c_10 (by decide)
  · refine z_aload_n (i := 0) C dX4_bestLag_13 rfl rfl ?_
    refine z_iload_n (i := 2) C dX4_bestLag_14 rfl rfl ?_
    refine z_callVe C (tw_obj) rfl (ct_X4_isMicrophone D B _) q2020 q2022 qs34 q106 q2023 np_X4_isMicrophone (zr_ok rfl rfl) rfl rfl (Nat.le_of_ble_eq_true rfl) (⟨Nat.le_of_ble_eq_true rfl, Nat.le_of_ble_eq_true rfl⟩) dX4_bestLag_15 ?_
    refine z_seti (zb_t (h2)) ?_
    refine z_if_ne (tgt := 27) C dX4_bestLag_18 (by decide) (fun c_18 => ?_) (fun c_18 => ?_)
    · refine z_iload_n (i := 3) C dX4_bestLag_27 rfl rfl ?_
      refine z_callSe C (ct_X4_isTime D B _) q2032 q2033 q106 q2034 np_X4_isTime (zr_ok rfl rfl) rfl rfl (Nat.le_of_ble_eq_true rfl) (⟨Nat.le_of_ble_eq_true rfl, Nat.le_of_ble_eq_true rfl⟩) dX4_bestLag_28 ?_
      refine z_seti (zb_f (h3)) ?_
      refine z_if_ne (tgt := 40) C dX4_bestLag_31 (by decide) (fun c_31 => ?_) (fun c_31 => ?_)
      · exact absurd rfl c_31
      · refine z_aload_n (i := 0) C dX4_bestLag_34 rfl rfl ?_
        refine z_iconst (v := 2) C dX4_bestLag_35 (by decide) ?_
        refine z_callVe C (tw_obj) rfl (ct_X4_fail D B _) q1941 q1943 qs26 q106 q1944 np_X4_fail (zr_ok rfl rfl) rfl rfl (Nat.le_of_ble_eq_true rfl) (⟨Nat.le_of_ble_eq_true rfl, Nat.le_of_ble_eq_true rfl⟩) dX4_bestLag_36 ?_
        exact z_ireturn C rfl (rfl) dX4_bestLag_39 (⟨rfl, rfl⟩) (Nat.le_of_ble_eq_true rfl) (Nat.le_of_ble_eq_true rfl)
    · exact absurd c_18 (by decide)
set_option maxHeartbeats 4000000 in
set_option maxRecDepth 100000 in
theorem ct_X4_bestLag_ok (D : zG) (B : Nat) {b : zH} {t : tA} {st : Nat → Int32} {bk : Nat → Int32} {sv : Nat → Int32} {iz : Nat → Int32} {th : Int32} {di : Nat → Int32} {re : Nat → Int32} {si : Nat → Int32} {pa : Nat → Int32} {fo : Nat → Int64} {te : Nat → Int32} {tl : Int32} {po : Int32} {ts : Int32} {to : Int32} {le : Int32} {nu : Int32} {ec : Int32} {ep : Int32} {wo : Int64} (m o g : Nat) (hm0 : 0 ≤ nI m ∧ nI m ≤ st 8 - 1) (hm : m < 8) (ho0 : 0 ≤ nI o ∧ nI o ≤ st 8 - 1) (ho : o < 8) (hg0 : 0 ≤ nI g ∧ nI g ≤ 255) (hg : g < 256) : Ct D B yX4_bestLag (ws_ yX4_bestLag cX4_bestLag 11 (some .int)) (zr 4) [.ref (t.1 0), .int (nI m), .int (nI o), .int (nI g)] (tw b t st bk sv iz th di re si pa fo te tl po ts to le nu ec ep wo) (zpe (some (.int (zba (zco st m o) g))) (tw b t st bk sv iz 0 di re si pa fo te tl po ts to le nu ec ep wo)) zno := by
  refine ct_intro (by decide +kernel) (Nat.le_of_ble_eq_true rfl) ?_
  intro X C
  refine z_aload_n (i := 0) C dX4_bestLag_0 rfl rfl ?_
  refine z_iconst (v := 0) C dX4_bestLag_1 (by decide) ?_
  refine tp_thrown C q1868 dX4_bestLag_2 ?_
  refine z_aload_n (i := 0) C dX4_bestLag_5 rfl rfl ?_
  refine z_iload_n (i := 1) C dX4_bestLag_6 rfl rfl ?_
  refine z_callVe C (tw_obj) rfl (ct_X4_isMicrophone D B _) q2020 q2022 qs34 q106 q2023 np_X4_isMicrophone (zr_ok rfl rfl) rfl rfl (Nat.le_of_ble_eq_true rfl) (⟨Nat.le_of_ble_eq_true rfl, Nat.le_of_ble_eq_true rfl⟩) dX4_bestLag_7 ?_
  refine z_seti (zb_t (hm0)) ?_
  refine z_if_eq (tgt := 21) C dX4_bestLag_10 (by decide) (fun c_10 => ?_) (fun c_10 => ?_)
  · exact absurd c_10 (by decide)
  · refine z_aload_n (i := 0) C dX4_bestLag_13 rfl rfl ?_
    refine z_iload_n (i := 2) C dX4_bestLag_14 rfl rfl ?_
    refine z_callVe C (tw_obj) rfl (ct_X4_isMicrophone D B _) q2020 q2022 qs34 q106 q2023 np_X4_isMicrophone (zr_ok rfl rfl) rfl rfl (Nat.le_of_ble_eq_true rfl) (⟨Nat.le_of_ble_eq_true rfl, Nat.le_of_ble_eq_true rfl⟩) dX4_bestLag_15 ?_
    refine z_seti (zb_t (ho0)) ?_
    refine z_if_ne (tgt := 27) C dX4_bestLag_18 (by decide) (fun c_18 => ?_) (fun c_18 => ?_)
    · refine z_iload_n (i := 3) C dX4_bestLag_27 rfl rfl ?_
      refine z_callSe C (ct_X4_isTime D B _) q2032 q2033 q106 q2034 np_X4_isTime (zr_ok rfl rfl) rfl rfl (Nat.le_of_ble_eq_true rfl) (⟨Nat.le_of_ble_eq_true rfl, Nat.le_of_ble_eq_true rfl⟩) dX4_bestLag_28 ?_
      refine z_seti (zb_t (hg0)) ?_
      refine z_if_ne (tgt := 40) C dX4_bestLag_31 (by decide) (fun c_31 => ?_) (fun c_31 => ?_)
      · refine z_iconst (v := 0) C dX4_bestLag_40 (by decide) ?_
        refine z_istore C dX4_bestLag_41 (Nat.le_of_ble_eq_true rfl) rfl ?_
        refine z_aload_n (i := 0) C dX4_bestLag_43 rfl rfl ?_
        refine z_iload_n (i := 1) C dX4_bestLag_44 rfl rfl ?_
        refine z_iload_n (i := 2) C dX4_bestLag_45 rfl rfl ?_
        refine z_iconst (v := 0) C dX4_bestLag_46 (by decide) ?_
        refine z_callVe C (tw_obj) rfl (ct_X4_correlationOf D B m o 0 hm ho) q2172 q2174 qs55 q106 q2175 np_X4_correlationOf (zr_ok rfl rfl) rfl rfl (Nat.le_of_ble_eq_true rfl) (⟨Nat.le_of_ble_eq_true rfl, Nat.le_of_ble_eq_true rfl⟩) dX4_bestLag_47 ?_
        refine z_lstore C dX4_bestLag_50 (Nat.le_of_ble_eq_true rfl) rfl ?_
        refine z_iconst (v := 1) C dX4_bestLag_52 (by decide) ?_
        refine z_istore C dX4_bestLag_53 (Nat.le_of_ble_eq_true rfl) rfl ?_
        have lp55 : ∀ (μ : Nat) (i : Nat) (h1 : i ≤ g), g - i < μ → Z X 55 [some (.ref (t.1 0)), some (.int (nI m)), some (.int (nI o)), some (.int (nI g)), some (.int (zba (zco st m o) i)), some (.long (zco st m o (zba (zco st m o) i))), none, some (.int (nI (i + 1))), none, none, none] [] (tw b t st bk sv iz 0 di re si pa fo te tl po ts to le nu ec ep wo) 0 0 := by
          intro μ
          induction μ with
          | zero => intro i h1 hμ; exact absurd hμ (Nat.not_lt_zero _)
          | succ μ ih55 =>
            intro i h1 hμ
            refine z_iload C dX4_bestLag_55 rfl ?_
            refine z_iload_n (i := 3) C dX4_bestLag_57 rfl rfl ?_
            refine z_icmp_gt (tgt := 117) C dX4_bestLag_58 (by decide) (fun c_58 => ?_) (fun c_58 => ?_)
            · have hend : i = g := by have := zgt c_58 (by omega) (by omega); omega
              subst hend
              refine z_iload C dX4_bestLag_117 rfl ?_
              exact z_ireturn C rfl (rfl) dX4_bestLag_119 (⟨rfl, rfl⟩) (Nat.le_of_ble_eq_true rfl) (Nat.le_of_ble_eq_true rfl)
            · have hle := zngt c_58 (by omega) (by omega)
              refine z_iload C dX4_bestLag_61 rfl ?_
              refine z_ineg C dX4_bestLag_63 ?_
              refine z_istore C dX4_bestLag_64 (Nat.le_of_ble_eq_true rfl) rfl ?_
              have lp66 : ∀ (μ : Nat) (q : Nat) (lg b9 : Int32) (hq : (q = 0 ∧ lg = -nI (i + 1) ∧ b9 = zba (zco st m o) i) ∨ (q = 1 ∧ lg = nI (i + 1) ∧ b9 = zbh (zco st m o) i) ∨ (q = 2 ∧ lg = nI (3 * (i + 1)) ∧ b9 = zba (zco st m o) (i + 1))), 2 - q < μ → Z X 66 [some (.ref (t.1 0)), some (.int (nI m)), some (.int (nI o)), some (.int (nI g)), some (.int b9), some (.long (zco st m o b9)), none, some (.int (nI (i + 1))), some (.int lg), none, none] [] (tw b t st bk sv iz 0 di re si pa fo te tl po ts to le nu ec ep wo) 0 0 := by
                intro μ
                induction μ with
                | zero => intro q lg b9 hq hμ; exact absurd hμ (Nat.not_lt_zero _)
                | succ μ ih66 =>
                  intro q lg b9 hq hμ
                  refine z_iload C dX4_bestLag_66 rfl ?_
                  refine z_iload C dX4_bestLag_68 rfl ?_
                  refine z_icmp_gt (tgt := 111) C dX4_bestLag_70 (by decide) (fun c_70 => ?_) (fun c_70 => ?_)
                  · have hb2 : b9 = zba (zco st m o) (i + 1) := by
                      rcases hq with ⟨_, e, _⟩ | ⟨_, e, _⟩ | ⟨_, _, e⟩
                      · exact absurd (e ▸ c_70) (zng (by omega))
                      · rw [e] at c_70; exact absurd c_70 Int32.lt_irrefl
                      · exact e
                    refine z_iinc (v := nI (i + 1 + 1)) C dX4_bestLag_111 rfl (ziinc (i + 1)) (Nat.le_of_ble_eq_true rfl) rfl ?_
                    refine z_goto (tgt := 55) C dX4_bestLag_114 (by decide) ?_
                    exact z_convG (ih55 (i + 1) (by omega) (by omega)) (And.intro (rfl) (And.intro (rfl) (And.intro (rfl) (And.intro (rfl) (And.intro (by rw [hb2]) (And.intro (by rw [hb2]) (And.intro (rfl) trivial))))))) (Nat.le_of_ble_eq_true rfl) (Nat.le_of_ble_eq_true rfl)
                  · have hq2 : q < 2 := by
                      rcases hq with ⟨e, _⟩ | ⟨e, _⟩ | ⟨_, e, _⟩
                      · omega
                      · omega
                      · exact absurd (e ▸ nI_lt (by omega) (by omega)) c_70
                    refine z_aload_n (i := 0) C dX4_bestLag_73 rfl rfl ?_
                    refine z_iload_n (i := 1) C dX4_bestLag_74 rfl rfl ?_
                    refine z_iload_n (i := 2) C dX4_bestLag_75 rfl rfl ?_
                    refine z_iload C dX4_bestLag_76 rfl ?_
                    refine z_callVe C (tw_obj) rfl (ct_X4_correlationOf D B m o lg hm ho) q2172 q2174 qs55 q106 q2175 np_X4_correlationOf (zr_ok rfl rfl) rfl rfl (Nat.le_of_ble_eq_true rfl) (⟨Nat.le_of_ble_eq_true rfl, Nat.le_of_ble_eq_true rfl⟩) dX4_bestLag_78 ?_
                    refine z_lstore C dX4_bestLag_81 (Nat.le_of_ble_eq_true rfl) rfl ?_
                    refine z_lload C dX4_bestLag_83 rfl ?_
                    refine z_lload C dX4_bestLag_85 rfl ?_
                    refine z_lc_le (tgt := 99) C dX4_bestLag_87 dX4_bestLag_88 (by decide) (fun c_88 => ?_) (fun c_88 => ?_)
                    · refine z_iload C dX4_bestLag_99 rfl ?_
                      refine z_iconst (v := 2) C dX4_bestLag_101 (by decide) ?_
                      refine z_iload C dX4_bestLag_102 rfl ?_
                      refine z_imul C dX4_bestLag_104 ?_
                      refine z_iadd C dX4_bestLag_105 ?_
                      refine z_istore C dX4_bestLag_106 (Nat.le_of_ble_eq_true rfl) rfl ?_
                      refine z_goto (tgt := 66) C dX4_bestLag_108 (by decide) ?_
                      first
                        | exact z_convG (ih66 (q + 1) _ _ (zbq hq hq2 (Or.inl ⟨Int64.not_le.mp c_88, rfl⟩)) (by omega)) (And.intro rfl (And.intro rfl (And.intro rfl (And.intro rfl (And.intro rfl (And.intro rfl (And.intro rfl (And.intro rfl trivial)))))))) (Nat.le_of_ble_eq_true rfl) (Nat.le_of_ble_eq_true rfl)
                        | exact z_convG (ih66 (q + 1) _ _ (zbq hq hq2 (Or.inr ⟨Int64.not_lt.mpr c_88, rfl⟩)) (by omega)) (And.intro rfl (And.intro rfl (And.intro rfl (And.intro rfl (And.intro rfl (And.intro rfl (And.intro rfl (And.intro rfl trivial)))))))) (Nat.le_of_ble_eq_true rfl) (Nat.le_of_ble_eq_true rfl)
                    · refine z_iload C dX4_bestLag_91 rfl ?_
                      refine z_istore C dX4_bestLag_93 (Nat.le_of_ble_eq_true rfl) rfl ?_
                      refine z_lload C dX4_bestLag_95 rfl ?_
                      refine z_lstore C dX4_bestLag_97 (Nat.le_of_ble_eq_true rfl) rfl ?_
                      refine z_iload C dX4_bestLag_99 rfl ?_
                      refine z_iconst (v := 2) C dX4_bestLag_101 (by decide) ?_
                      refine z_iload C dX4_bestLag_102 rfl ?_
                      refine z_imul C dX4_bestLag_104 ?_
                      refine z_iadd C dX4_bestLag_105 ?_
                      refine z_istore C dX4_bestLag_106 (Nat.le_of_ble_eq_true rfl) rfl ?_
                      refine z_goto (tgt := 66) C dX4_bestLag_108 (by decide) ?_
                      first
                        | exact z_convG (ih66 (q + 1) _ _ (zbq hq hq2 (Or.inl ⟨Int64.not_le.mp c_88, rfl⟩)) (by omega)) (And.intro rfl (And.intro rfl (And.intro rfl (And.intro rfl (And.intro rfl (And.intro rfl (And.intro rfl (And.intro rfl trivial)))))))) (Nat.le_of_ble_eq_true rfl) (Nat.le_of_ble_eq_true rfl)
                        | exact z_convG (ih66 (q + 1) _ _ (zbq hq hq2 (Or.inr ⟨Int64.not_lt.mpr c_88, rfl⟩)) (by omega)) (And.intro rfl (And.intro rfl (And.intro rfl (And.intro rfl (And.intro rfl (And.intro rfl (And.intro rfl (And.intro rfl trivial)))))))) (Nat.le_of_ble_eq_true rfl) (Nat.le_of_ble_eq_true rfl)
              exact z_convG (lp66 3 0 _ _ (Or.inl ⟨rfl, rfl, rfl⟩) (by omega)) (And.intro (rfl) (And.intro (rfl) (And.intro (rfl) (And.intro (rfl) (And.intro (rfl) (And.intro (rfl) (And.intro (rfl) (And.intro (rfl) trivial)))))))) (Nat.le_of_ble_eq_true rfl) (Nat.le_of_ble_eq_true rfl)
        exact z_convG (lp55 256 0 (by omega) (by omega)) (And.intro (rfl) (And.intro (rfl) (And.intro (rfl) (And.intro (rfl) (And.intro (rfl) (And.intro (rfl) (And.intro (rfl) trivial))))))) (Nat.le_of_ble_eq_true rfl) (Nat.le_of_ble_eq_true rfl)
      · exact absurd c_31 (by decide)
    · exact absurd c_18 (by decide)
