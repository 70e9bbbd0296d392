/-! the twin: words -/
/-- a constant's letters, packed -/
def zkp (i : Nat) : Nat → Int64
  | 0 => 0
  | k + 1 => 27 * zkp i k + (((zSbyt.getD i []).getD k 0 &&& 255).toUInt32 % 65536).toInt32.toInt64 - 96
theorem np_J9_length : znp yJ9_length 0 := ⟨by decide +kernel, by decide +kernel, by decide +kernel⟩
theorem np_J9_charAt : znp yJ9_charAt 1 := ⟨by decide +kernel, by decide +kernel, by decide +kernel⟩
set_option maxHeartbeats 4000000 in
set_option maxRecDepth 100000 in
theorem ct_X4_isWord (D : zG) (B : Nat) {b : zH} {t : tA} {st : Nat → Int32} {bk : Nat → Int32} {sv : Nat → Int32} {iz : Nat → Int32} {th : Int32} {di : Nat → Int32} {re : Nat → Int32} {si : Nat → Int32} {pa : Nat → Int32} {fo : Nat → Int64} {te : Nat → Int32} {tl : Int32} {po : Int32} {ts : Int32} {to : Int32} {le : Int32} {nu : Int32} {ec : Int32} {ep : Int32} {wo : Int64} (i : Nat) (hi : i < 10) : Ct D B yX4_isWord (ws_ yX4_isWord cX4_isWord 5 (some .boolean)) (zr 5) [.ref (t.1 0), .ref (D.2.2.2 i)] (tw b t st bk sv iz th di re si pa fo te tl po ts to le nu ec ep wo) (zpe (some (.int (zb (to = 2 ∧ le = nI (zSlen.getD i 0) ∧ wo = zkp i (zSlen.getD i 0))))) (tw b t st bk sv iz th di re si pa fo te tl po ts to le nu ec ep wo)) zno := by
  refine ct_intro (by decide +kernel) (Nat.le_of_ble_eq_true rfl) ?_
  intro X C
  have hl9 := zSl31 i hi
  obtain ⟨N9, hN⟩ : ∃ N9, N9 = zSlen.getD i 0 := ⟨_, rfl⟩
  rw [← hN] at hl9
  refine z_aload_n (i := 0) C dX4_isWord_0 rfl rfl ?_
  refine tg_token C q1878 dX4_isWord_1 ?_
  refine z_iconst (v := 2) C dX4_isWord_4 (by decide) ?_
  refine z_icmp_ne (tgt := 19) C dX4_isWord_5 (by decide) (fun c_5 => ?_) (fun c_5 => ?_)
  · refine z_iconst (v := 0) C dX4_isWord_19 (by decide) ?_
    exact z_ireturn C rfl (rfl) dX4_isWord_20 (⟨zvs (zb_f (fun q => c_5 q.1)).symm, rfl⟩) (Nat.le_of_ble_eq_true rfl) (Nat.le_of_ble_eq_true rfl)
  · refine z_aload_n (i := 0) C dX4_isWord_8 rfl rfl ?_
    refine tg_letters C q1879 dX4_isWord_9 ?_
    refine z_aload_n (i := 1) C dX4_isWord_12 rfl rfl ?_
    refine z_callKe C hi rfl (ct_J9_length_k D B i hi) q2350 q312 q313 q94 q314 np_J9_length (zr_ok rfl rfl) rfl rfl (Nat.le_of_ble_eq_true rfl) (⟨Nat.le_of_ble_eq_true rfl, Nat.le_of_ble_eq_true rfl⟩) dX4_isWord_13 ?_
    refine z_icmp_eq (tgt := 21) C dX4_isWord_16 (by decide) (fun c_16 => ?_) (fun c_16 => ?_)
    · refine z_lconst (v := 0) C dX4_isWord_21 (by decide) ?_
      refine z_lstore_n (i := 2) C dX4_isWord_22 rfl (Nat.le_of_ble_eq_true rfl) rfl ?_
      refine z_iconst (v := 0) C dX4_isWord_23 (by decide) ?_
      refine z_istore C dX4_isWord_24 (Nat.le_of_ble_eq_true rfl) rfl ?_
      have lp26 : ∀ (μ : Nat) (k : Nat) (h1 : k ≤ N9), N9 - k < μ → Z X 26 [some (.ref (t.1 0)), some (.ref (D.2.2.2 i)), some (.long (zkp i k)), none, some (.int (nI k))] [] (tw b t st bk sv iz th di re si pa fo te tl po ts to le nu ec ep wo) 0 0 := by
        intro μ
        induction μ with
        | zero => intro k h1 hμ; exact absurd hμ (Nat.not_lt_zero _)
        | succ μ ih26 =>
          intro k h1 hμ
          refine z_iload C dX4_isWord_26 rfl ?_
          refine z_aload_n (i := 1) C dX4_isWord_28 rfl rfl ?_
          refine z_callKe C hi rfl (ct_J9_length_k D B i hi) q2350 q312 q313 q94 q314 np_J9_length (zr_ok rfl rfl) rfl rfl (Nat.le_of_ble_eq_true rfl) (⟨Nat.le_of_ble_eq_true rfl, Nat.le_of_ble_eq_true rfl⟩) dX4_isWord_29 ?_
          rw [← hN]
          refine z_icmp_ge (tgt := 59) C dX4_isWord_32 (by decide) (fun c_32 => ?_) (fun c_32 => ?_)
          · have hend : k = N9 := by have := zge (b := N9) c_32 (by omega) (by omega); omega
            subst hend
            refine z_aload_n (i := 0) C dX4_isWord_59 rfl rfl ?_
            refine tg_word C q1883 dX4_isWord_60 ?_
            refine z_lload_n (i := 2) C dX4_isWord_63 rfl rfl ?_
            refine z_lc_ne (tgt := 72) C dX4_isWord_64 dX4_isWord_65 (by decide) (fun c_65 => ?_) (fun c_65 => ?_)
            · refine z_iconst (v := 0) C dX4_isWord_72 (by decide) ?_
              exact z_ireturn C rfl (rfl) dX4_isWord_73 (⟨zvs (zb_f (fun q => c_65 (by rw [hN]; exact q.2.2))).symm, rfl⟩) (Nat.le_of_ble_eq_true rfl) (Nat.le_of_ble_eq_true rfl)
            · refine z_iconst (v := 1) C dX4_isWord_68 (by decide) ?_
              refine z_goto (tgt := 73) C dX4_isWord_69 (by decide) ?_
              exact z_ireturn C rfl (rfl) dX4_isWord_73 (⟨zvs (zb_t ⟨c_5, c_16, by rw [← hN]; exact c_65⟩).symm, rfl⟩) (Nat.le_of_ble_eq_true rfl) (Nat.le_of_ble_eq_true rfl)
          · have hlt := znge (b := N9) c_32 (by omega) (by omega)
            refine z_ldc2 C q2336 dX4_isWord_35 ?_
            refine z_lload_n (i := 2) C dX4_isWord_38 rfl rfl ?_
            refine z_lmul C dX4_isWord_39 ?_
            refine z_aload_n (i := 1) C dX4_isWord_40 rfl rfl ?_
            refine z_iload C dX4_isWord_41 rfl ?_
            refine z_callKe C hi rfl (ct_J9_charAt_k D B i k hi (by rw [← hN]; exact hlt)) q2351 q2352 q2353 q94 q2354 np_J9_charAt (zr_ok rfl rfl) rfl rfl (Nat.le_of_ble_eq_true rfl) (⟨Nat.le_of_ble_eq_true rfl, Nat.le_of_ble_eq_true rfl⟩) dX4_isWord_43 ?_
            refine z_i2l C dX4_isWord_46 rfl ?_
            refine z_ladd C dX4_isWord_47 ?_
            refine z_ldc2 C q2337 dX4_isWord_48 ?_
            refine z_lsub C dX4_isWord_51 ?_
            refine z_lstore_n (i := 2) C dX4_isWord_52 rfl (Nat.le_of_ble_eq_true rfl) rfl ?_
            refine z_iinc (v := nI (k + 1)) C dX4_isWord_53 rfl (ziinc k) (Nat.le_of_ble_eq_true rfl) rfl ?_
            refine z_goto (tgt := 26) C dX4_isWord_56 (by decide) ?_
            exact z_convG (ih26 (k + 1) (by omega) (by omega)) (And.intro (rfl) (And.intro (rfl) (And.intro (rfl) (And.intro (rfl) trivial)))) (Nat.le_of_ble_eq_true rfl) (Nat.le_of_ble_eq_true rfl)
      exact z_convG (lp26 (N9 + 1) 0 (by omega) (by omega)) (And.intro (rfl) (And.intro (rfl) (And.intro (rfl) (And.intro (rfl) trivial)))) (Nat.le_of_ble_eq_true rfl) (Nat.le_of_ble_eq_true rfl)
    · refine z_iconst (v := 0) C dX4_isWord_19 (by decide) ?_
      exact z_ireturn C rfl (rfl) dX4_isWord_20 (⟨zvs (zb_f (fun q => c_16 q.2.1)).symm, rfl⟩) (Nat.le_of_ble_eq_true rfl) (Nat.le_of_ble_eq_true rfl)
/-- the token is a constant's word -/
abbrev zwd (te : Nat → Int32) (n : Nat) (c : zC) (i : Nat) : Prop := nI (zkd te n c.1) = 2 ∧ nI (zleN te n c.1) = nI (zSlen.getD i 0) ∧ zwoN te n c.1 = zkp i (zSlen.getD i 0)
/-- a statement ahead of its semicolon -/
def zpU (te : Nat → Int32) (n : Nat) (S : Nat → Int32) (c : zC) : (Nat → Int32) × zC :=
  if zwd te n c 1 then zpM te n S c else if zwd te n c 2 then zpV te n S c else if zwd te n c 3 then zpS te n S c
  else if zwd te n c 4 then (upd S 0 (zpN te n 100 1000 (zad te n c)).1, (zpN te n 100 1000 (zad te n c)).2)
  else if zwd te n c 5 then (upd S 1 (zpI te n (-90) 90 (zad te n c)).1, (zpI te n (-90) 90 (zad te n c)).2)
  else if zwd te n c 6 then (upd S 4 (zpN te n 0 99 (zad te n c)).1, (zpN te n 0 99 (zad te n c)).2)
  else (upd S 2 1, zad te n (zrq (zb (zwd te n c 7)) 1 c))
/-- a statement -/
def zpT (te : Nat → Int32) (n : Nat) (S : Nat → Int32) (c : zC) : (Nat → Int32) × zC := ((zpU te n S c).1, zad te n (zrq (zb (nI (zkd te n (zpU te n S c).2.1) = 4)) 1 (zpU te n S c).2))
