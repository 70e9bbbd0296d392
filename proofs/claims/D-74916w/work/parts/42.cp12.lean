/-! component: leading zeros, levels, the enum's members -/
theorem zdg_sh : ∀ (s k : Nat), 2 ^ s ≤ k → zdg k = zdg (k / 2 ^ s) + s
  | 0, k, _ => by rw [Nat.pow_zero, Nat.div_one, Nat.add_zero]
  | s + 1, k, h => by
    have hp : 0 < 2 ^ s := Nat.pos_of_ne_zero (by exact Nat.ne_of_gt (Nat.two_pow_pos s))
    have e2 : 2 ^ (s + 1) = 2 * 2 ^ s := by rw [Nat.pow_succ, Nat.mul_comm]
    rw [e2] at h
    rw [zdg_pos (by omega), zdg_sh s (k / 2) ((Nat.le_div_iff_mul_le (by decide)).mpr (by omega)), e2, ← Nat.div_div_eq_div_mul]
    omega
theorem zdg_3 (k : Nat) (h1 : 1 ≤ k) (h2 : k < 4) : zdg k = k / 2 + 1 := by
  rw [zdg_pos (by omega)]
  rcases (show k / 2 = 0 ∨ k / 2 = 1 by omega) with e | e
  · rw [e, zdg_0]
  · rw [e, zdg_pos (by decide), show 1 / 2 = 0 from rfl, zdg_0]
theorem zdg_lt {k b : Nat} (h : k < 2 ^ b) : zdg k ≤ b := by
  induction b generalizing k with
  | zero => rw [show k = 0 by omega, zdg_0]; exact Nat.le_refl _
  | succ b ih =>
    by_cases h0 : k = 0
    · rw [h0, zdg_0]; omega
    · rw [zdg_pos (by omega)]
      have := ih (k := k / 2) (by rw [Nat.pow_succ] at h; omega)
      omega
theorem nI_uN {k : Nat} (h : k < 2 ^ 32) : (nI k).toUInt32.toNat = k := by
  show (BitVec.ofNat 32 k).toNat = k
  rw [BitVec.toNat_ofNat]
  exact Nat.mod_eq_of_lt h
theorem zus (k s : Nat) (y : Int32) (hy : y = nI s) (hk : k < 2 ^ 31) (hs : s < 32) : ((nI k).toUInt32 >>> (y.toUInt32 &&& Int32.toUInt32 31)).toInt32 = nI (k / 2 ^ s) := by
  subst hy
  have e1 : (nI s).toUInt32 &&& Int32.toUInt32 31 = UInt32.ofNat s := by
    have : ∀ j, j < 32 → (nI j).toUInt32 &&& Int32.toUInt32 31 = UInt32.ofNat j := by decide
    exact this s hs
  rw [e1]
  have e2 : (nI k).toUInt32 >>> UInt32.ofNat s = UInt32.ofNat (k / 2 ^ s) := by
    apply UInt32.toNat_inj.mp
    rw [UInt32.toNat_shiftRight, nI_uN (by omega), UInt32.toNat_ofNat', UInt32.toNat_ofNat', Nat.shiftRight_eq_div_pow, Nat.mod_eq_of_lt (a := s) (by omega), Nat.mod_eq_of_lt (a := s) (by omega)]
    have : k / 2 ^ s ≤ k := Nat.div_le_self _ _
    rw [Nat.mod_eq_of_lt (by omega)]
  rw [e2]
  rfl
theorem zusL (k s : Nat) (y : Int32) (hy : y = nI s) (hk : k < 2 ^ 63) (hs : s < 64) : ((lN k).toUInt64 >>> (y.toInt64.toUInt64 &&& Int64.toUInt64 63)).toInt64 = lN (k / 2 ^ s) := by
  subst hy
  have e1 : (nI s).toInt64.toUInt64 &&& Int64.toUInt64 63 = UInt64.ofNat s := by
    have : ∀ j, j < 64 → (nI j).toInt64.toUInt64 &&& Int64.toUInt64 63 = UInt64.ofNat j := by decide
    exact this s hs
  rw [e1]
  have e0 : (lN k).toUInt64.toNat = k := by
    show (BitVec.ofNat 64 k).toNat = k
    rw [BitVec.toNat_ofNat]
    exact Nat.mod_eq_of_lt (by omega)
  have e2 : (lN k).toUInt64 >>> UInt64.ofNat s = UInt64.ofNat (k / 2 ^ s) := by
    apply UInt64.toNat_inj.mp
    rw [UInt64.toNat_shiftRight, e0, UInt64.toNat_ofNat', UInt64.toNat_ofNat', Nat.shiftRight_eq_div_pow, Nat.mod_eq_of_lt (a := s) (by omega), Nat.mod_eq_of_lt (a := s) (by omega)]
    have : k / 2 ^ s ≤ k := Nat.div_le_self _ _
    rw [Nat.mod_eq_of_lt (by omega)]
  rw [e2]
  rfl
set_option maxHeartbeats 16000000 in
set_option maxRecDepth 100000 in
theorem ct_J16_numberOfLeadingZeros_p (D : zG) (B : Nat) {G : zH} (k : Nat) (hk : k < 2147483648) (h1 : 1 ≤ k) : Ct D B yJ16_numberOfLeadingZeros (ws_ yJ16_numberOfLeadingZeros cJ16_numberOfLeadingZeros 2 (some .int)) (zr 0) [.int (nI k)] G (zpe (some (.int (nI (32 - zdg k)))) G) zno := by
  refine ct_intro (by decide +kernel) (Nat.le_of_ble_eq_true rfl) ?_
  intro X C
  refine z_iload_n (i := 0) C dJ16_numberOfLeadingZeros_0 rfl rfl ?_
  refine z_if_gt (tgt := 15) C dJ16_numberOfLeadingZeros_1 (by decide) (fun c_1 => ?_) (fun c_1 => ?_)
  · refine z_bipush (v := 31) C dJ16_numberOfLeadingZeros_15 (by decide) ?_
    refine z_istore_n (i := 1) C dJ16_numberOfLeadingZeros_17 rfl (Nat.le_of_ble_eq_true rfl) rfl ?_
    refine z_iload_n (i := 0) C dJ16_numberOfLeadingZeros_18 rfl rfl ?_
    refine z_ldcw C q1519 dJ16_numberOfLeadingZeros_19 ?_
    refine z_icmp_lt (tgt := 33) C dJ16_numberOfLeadingZeros_22 (by decide) (fun c_22 => ?_) (fun c_22 => ?_)
    · have b_22 : k < 65536 := (nI_ltI (b := 65536) (by omega) (by decide)).mp c_22
      refine z_iload_n (i := 0) C dJ16_numberOfLeadingZeros_33 rfl rfl ?_
      refine z_sipush (v := 256) C dJ16_numberOfLeadingZeros_34 (by decide) ?_
      refine z_icmp_lt (tgt := 48) C dJ16_numberOfLeadingZeros_37 (by decide) (fun c_37 => ?_) (fun c_37 => ?_)
      · have b_37 : k < 256 := (nI_ltI (b := 256) (by omega) (by decide)).mp c_37
        refine z_iload_n (i := 0) C dJ16_numberOfLeadingZeros_48 rfl rfl ?_
        refine z_bipush (v := 16) C dJ16_numberOfLeadingZeros_49 (by decide) ?_
        refine z_icmp_lt (tgt := 61) C dJ16_numberOfLeadingZeros_51 (by decide) (fun c_51 => ?_) (fun c_51 => ?_)
        · have b_51 : k < 16 := (nI_ltI (b := 16) (by omega) (by decide)).mp c_51
          refine z_iload_n (i := 0) C dJ16_numberOfLeadingZeros_61 rfl rfl ?_
          refine z_iconst (v := 4) C dJ16_numberOfLeadingZeros_62 (by decide) ?_
          refine z_icmp_lt (tgt := 73) C dJ16_numberOfLeadingZeros_63 (by decide) (fun c_63 => ?_) (fun c_63 => ?_)
          · have b_63 : k < 4 := (nI_ltI (b := 4) (by omega) (by decide)).mp c_63
            refine z_iload_n (i := 1) C dJ16_numberOfLeadingZeros_73 rfl rfl ?_
            refine z_iload_n (i := 0) C dJ16_numberOfLeadingZeros_74 rfl rfl ?_
            refine z_iconst (v := 1) C dJ16_numberOfLeadingZeros_75 (by decide) ?_
            refine z_iushr C dJ16_numberOfLeadingZeros_76 rfl ?_
            refine z_seti (y := nI (k / 2)) (zus k 1 1 rfl (by omega) (by decide)) ?_
            refine z_isub C dJ16_numberOfLeadingZeros_77 ?_
            refine z_seti (y := nI (32 - zdg k)) ((pk_sub (a := 31) (b := k / 2) (by omega)).trans (congrArg nI (by have := zdg_3 k (by omega) (by omega); omega))) ?_
            exact z_ireturn C rfl (rfl) dJ16_numberOfLeadingZeros_78 (⟨rfl, rfl⟩) (Nat.le_of_ble_eq_true rfl) (Nat.le_of_ble_eq_true rfl)
          · have n_63 : 4 ≤ k := Nat.le_of_not_lt (fun z => c_63 (nI_lt (b := 4) z (by decide)))
            obtain ⟨k63, hk63⟩ : ∃ k63, k63 = k / 2 ^ 2 := ⟨_, rfl⟩
            have e_63 : zdg k = zdg k63 + 2 := by rw [hk63]; exact zdg_sh 2 k n_63
            have b_63 : k63 < 4 := by omega
            have g_63 : 1 ≤ k63 := by omega
            refine z_iinc (v := 29) C dJ16_numberOfLeadingZeros_66 rfl (rfl) (Nat.le_of_ble_eq_true rfl) rfl ?_
            refine z_iload_n (i := 0) C dJ16_numberOfLeadingZeros_69 rfl rfl ?_
            refine z_iconst (v := 2) C dJ16_numberOfLeadingZeros_70 (by decide) ?_
            refine z_iushr C dJ16_numberOfLeadingZeros_71 rfl ?_
            refine z_seti (y := nI k63) ((zus k 2 2 rfl (by omega) (by decide)).trans (by rw [hk63])) ?_
            refine z_istore_n (i := 0) C dJ16_numberOfLeadingZeros_72 rfl (Nat.le_of_ble_eq_true rfl) rfl ?_
            refine z_iload_n (i := 1) C dJ16_numberOfLeadingZeros_73 rfl rfl ?_
            refine z_iload_n (i := 0) C dJ16_numberOfLeadingZeros_74 rfl rfl ?_
            refine z_iconst (v := 1) C dJ16_numberOfLeadingZeros_75 (by decide) ?_
            refine z_iushr C dJ16_numberOfLeadingZeros_76 rfl ?_
            refine z_seti (y := nI (k63 / 2)) (zus k63 1 1 rfl (by omega) (by decide)) ?_
            refine z_isub C dJ16_numberOfLeadingZeros_77 ?_
            refine z_seti (y := nI (32 - zdg k)) ((pk_sub (a := 29) (b := k63 / 2) (by omega)).trans (congrArg nI (by have := zdg_3 k63 (by omega) (by omega); omega))) ?_
            exact z_ireturn C rfl (rfl) dJ16_numberOfLeadingZeros_78 (⟨rfl, rfl⟩) (Nat.le_of_ble_eq_true rfl) (Nat.le_of_ble_eq_true rfl)
        · have n_51 : 16 ≤ k := Nat.le_of_not_lt (fun z => c_51 (nI_lt (b := 16) z (by decide)))
          obtain ⟨k51, hk51⟩ : ∃ k51, k51 = k / 2 ^ 4 := ⟨_, rfl⟩
          have e_51 : zdg k = zdg k51 + 4 := by rw [hk51]; exact zdg_sh 4 k n_51
          have b_51 : k51 < 16 := by omega
          have g_51 : 1 ≤ k51 := by omega
          refine z_iinc (v := 27) C dJ16_numberOfLeadingZeros_54 rfl (rfl) (Nat.le_of_ble_eq_true rfl) rfl ?_
          refine z_iload_n (i := 0) C dJ16_numberOfLeadingZeros_57 rfl rfl ?_
          refine z_iconst (v := 4) C dJ16_numberOfLeadingZeros_58 (by decide) ?_
          refine z_iushr C dJ16_numberOfLeadingZeros_59 rfl ?_
          refine z_seti (y := nI k51) ((zus k 4 4 rfl (by omega) (by decide)).trans (by rw [hk51])) ?_
          refine z_istore_n (i := 0) C dJ16_numberOfLeadingZeros_60 rfl (Nat.le_of_ble_eq_true rfl) rfl ?_
          refine z_iload_n (i := 0) C dJ16_numberOfLeadingZeros_61 rfl rfl ?_
          refine z_iconst (v := 4) C dJ16_numberOfLeadingZeros_62 (by decide) ?_
          refine z_icmp_lt (tgt := 73) C dJ16_numberOfLeadingZeros_63 (by decide) (fun c_63 => ?_) (fun c_63 => ?_)
          · have b_63 : k51 < 4 := (nI_ltI (b := 4) (by omega) (by decide)).mp c_63
            refine z_iload_n (i := 1) C dJ16_numberOfLeadingZeros_73 rfl rfl ?_
            refine z_iload_n (i := 0) C dJ16_numberOfLeadingZeros_74 rfl rfl ?_
            refine z_iconst (v := 1) C dJ16_numberOfLeadingZeros_75 (by decide) ?_
            refine z_iushr C dJ16_numberOfLeadingZeros_76 rfl ?_
            refine z_seti (y := nI (k51 / 2)) (zus k51 1 1 rfl (by omega) (by decide)) ?_
            refine z_isub C dJ16_numberOfLeadingZeros_77 ?_
            refine z_seti (y := nI (32 - zdg k)) ((pk_sub (a := 27) (b := k51 / 2) (by omega)).trans (congrArg nI (by have := zdg_3 k51 (by omega) (by omega); omega))) ?_
            exact z_ireturn C rfl (rfl) dJ16_numberOfLeadingZeros_78 (⟨rfl, rfl⟩) (Nat.le_of_ble_eq_true rfl) (Nat.le_of_ble_eq_true rfl)
          · have n_63 : 4 ≤ k51 := Nat.le_of_not_lt (fun z => c_63 (nI_lt (b := 4) z (by decide)))
            obtain ⟨k63, hk63⟩ : ∃ k63, k63 = k51 / 2 ^ 2 := ⟨_, rfl⟩
            have e_63 : zdg k51 = zdg k63 + 2 := by rw [hk63]; exact zdg_sh 2 k51 n_63
            have b_63 : k63 < 4 := by omega
            have g_63 : 1 ≤ k63 := by omega
            refine z_iinc (v := 25) C dJ16_numberOfLeadingZeros_66 rfl (rfl) (Nat.le_of_ble_eq_true rfl) rfl ?_
            refine z_iload_n (i := 0) C dJ16_numberOfLeadingZeros_69 rfl rfl ?_
            refine z_iconst (v := 2) C dJ16_numberOfLeadingZeros_70 (by decide) ?_
            refine z_iushr C dJ16_numberOfLeadingZeros_71 rfl ?_
            refine z_seti (y := nI k63) ((zus k51 2 2 rfl (by omega) (by decide)).trans (by rw [hk63])) ?_
            refine z_istore_n (i := 0) C dJ16_numberOfLeadingZeros_72 rfl (Nat.le_of_ble_eq_true rfl) rfl ?_
            refine z_iload_n (i := 1) C dJ16_numberOfLeadingZeros_73 rfl rfl ?_
            refine z_iload_n (i := 0) C dJ16_numberOfLeadingZeros_74 rfl rfl ?_
            refine z_iconst (v := 1) C dJ16_numberOfLeadingZeros_75 (by decide) ?_
            refine z_iushr C dJ16_numberOfLeadingZeros_76 rfl ?_
            refine z_seti (y := nI (k63 / 2)) (zus k63 1 1 rfl (by omega) (by decide)) ?_
            refine z_isub C dJ16_numberOfLeadingZeros_77 ?_
            refine z_seti (y := nI (32 - zdg k)) ((pk_sub (a := 25) (b := k63 / 2) (by omega)).trans (congrArg nI (by have := zdg_3 k63 (by omega) (by omega); omega))) ?_
            exact z_ireturn C rfl (rfl) dJ16_numberOfLeadingZeros_78 (⟨rfl, rfl⟩) (Nat.le_of_ble_eq_true rfl) (Nat.le_of_ble_eq_true rfl)
      · have n_37 : 256 ≤ k := Nat.le_of_not_lt (fun z => c_37 (nI_lt (b := 256) z (by decide)))
        obtain ⟨k37, hk37⟩ : ∃ k37, k37 = k / 2 ^ 8 := ⟨_, rfl⟩
        have e_37 : zdg k = zdg k37 + 8 := by rw [hk37]; exact zdg_sh 8 k n_37
        have b_37 : k37 < 256 := by omega
        have g_37 : 1 ≤ k37 := by omega
        refine z_iinc (v := 23) C dJ16_numberOfLeadingZeros_40 rfl (rfl) (Nat.le_of_ble_eq_true rfl) rfl ?_
        refine z_iload_n (i := 0) C dJ16_numberOfLeadingZeros_43 rfl rfl ?_
        refine z_bipush (v := 8) C dJ16_numberOfLeadingZeros_44 (by decide) ?_
        refine z_iushr C dJ16_numberOfLeadingZeros_46 rfl ?_
        refine z_seti (y := nI k37) ((zus k 8 8 rfl (by omega) (by decide)).trans (by rw [hk37])) ?_
        refine z_istore_n (i := 0) C dJ16_numberOfLeadingZeros_47 rfl (Nat.le_of_ble_eq_true rfl) rfl ?_
        refine z_iload_n (i := 0) C dJ16_numberOfLeadingZeros_48 rfl rfl ?_
        refine z_bipush (v := 16) C dJ16_numberOfLeadingZeros_49 (by decide) ?_
        refine z_icmp_lt (tgt := 61) C dJ16_numberOfLeadingZeros_51 (by decide) (fun c_51 => ?_) (fun c_51 => ?_)
        · have b_51 : k37 < 16 := (nI_ltI (b := 16) (by omega) (by decide)).mp c_51
          refine z_iload_n (i := 0) C dJ16_numberOfLeadingZeros_61 rfl rfl ?_
          refine z_iconst (v := 4) C dJ16_numberOfLeadingZeros_62 (by decide) ?_
          refine z_icmp_lt (tgt := 73) C dJ16_numberOfLeadingZeros_63 (by decide) (fun c_63 => ?_) (fun c_63 => ?_)
          · have b_63 : k37 < 4 := (nI_ltI (b := 4) (by omega) (by decide)).mp c_63
            refine z_iload_n (i := 1) C dJ16_numberOfLeadingZeros_73 rfl rfl ?_
            refine z_iload_n (i := 0) C dJ16_numberOfLeadingZeros_74 rfl rfl ?_
            refine z_iconst (v := 1) C dJ16_numberOfLeadingZeros_75 (by decide) ?_
            refine z_iushr C dJ16_numberOfLeadingZeros_76 rfl ?_
            refine z_seti (y := nI (k37 / 2)) (zus k37 1 1 rfl (by omega) (by decide)) ?_
            refine z_isub C dJ16_numberOfLeadingZeros_77 ?_
            refine z_seti (y := nI (32 - zdg k)) ((pk_sub (a := 23) (b := k37 / 2) (by omega)).trans (congrArg nI (by have := zdg_3 k37 (by omega) (by omega); omega))) ?_
            exact z_ireturn C rfl (rfl) dJ16_numberOfLeadingZeros_78 (⟨rfl, rfl⟩) (Nat.le_of_ble_eq_true rfl) (Nat.le_of_ble_eq_true rfl)
          · have n_63 : 4 ≤ k37 := Nat.le_of_not_lt (fun z => c_63 (nI_lt (b := 4) z (by decide)))
            obtain ⟨k63, hk63⟩ : ∃ k63, k63 = k37 / 2 ^ 2 := ⟨_, rfl⟩
            have e_63 : zdg k37 = zdg k63 + 2 := by rw [hk63]; exact zdg_sh 2 k37 n_63
            have b_63 : k63 < 4 := by omega
            have g_63 : 1 ≤ k63 := by omega
            refine z_iinc (v := 21) C dJ16_numberOfLeadingZeros_66 rfl (rfl) (Nat.le_of_ble_eq_true rfl) rfl ?_
            refine z_iload_n (i := 0) C dJ16_numberOfLeadingZeros_69 rfl rfl ?_
            refine z_iconst (v := 2) C dJ16_numberOfLeadingZeros_70 (by decide) ?_
            refine z_iushr C dJ16_numberOfLeadingZeros_71 rfl ?_
            refine z_seti (y := nI k63) ((zus k37 2 2 rfl (by omega) (by decide)).trans (by rw [hk63])) ?_
            refine z_istore_n (i := 0) C dJ16_numberOfLeadingZeros_72 rfl (Nat.le_of_ble_eq_true rfl) rfl ?_
            refine z_iload_n (i := 1) C dJ16_numberOfLeadingZeros_73 rfl rfl ?_
            refine z_iload_n (i := 0) C dJ16_numberOfLeadingZeros_74 rfl rfl ?_
            refine z_iconst (v := 1) C dJ16_numberOfLeadingZeros_75 (by decide) ?_
            refine z_iushr C dJ16_numberOfLeadingZeros_76 rfl ?_
            refine z_seti (y := nI (k63 / 2)) (zus k63 1 1 rfl (by omega) (by decide)) ?_
            refine z_isub C dJ16_numberOfLeadingZeros_77 ?_
            refine z_seti (y := nI (32 - zdg k)) ((pk_sub (a := 21) (b := k63 / 2) (by omega)).trans (congrArg nI (by have := zdg_3 k63 (by omega) (by omega); omega))) ?_
            exact z_ireturn C rfl (rfl) dJ16_numberOfLeadingZeros_78 (⟨rfl, rfl⟩) (Nat.le_of_ble_eq_true rfl) (Nat.le_of_ble_eq_true rfl)
        · have n_51 : 16 ≤ k37 := Nat.le_of_not_lt (fun z => c_51 (nI_lt (b := 16) z (by decide)))
          obtain ⟨k51, hk51⟩ : ∃ k51, k51 = k37 / 2 ^ 4 := ⟨_, rfl⟩
          have e_51 : zdg k37 = zdg k51 + 4 := by rw [hk51]; exact zdg_sh 4 k37 n_51
          have b_51 : k51 < 16 := by omega
          have g_51 : 1 ≤ k51 := by omega
          refine z_iinc (v := 19) C dJ16_numberOfLeadingZeros_54 rfl (rfl) (Nat.le_of_ble_eq_true rfl) rfl ?_
          refine z_iload_n (i := 0) C dJ16_numberOfLeadingZeros_57 rfl rfl ?_
          refine z_iconst (v := 4) C dJ16_numberOfLeadingZeros_58 (by decide) ?_
          refine z_iushr C dJ16_numberOfLeadingZeros_59 rfl ?_
          refine z_seti (y := nI k51) ((zus k37 4 4 rfl (by omega) (by decide)).trans (by rw [hk51])) ?_
          refine z_istore_n (i := 0) C dJ16_numberOfLeadingZeros_60 rfl (Nat.le_of_ble_eq_true rfl) rfl ?_
          refine z_iload_n (i := 0) C dJ16_numberOfLeadingZeros_61 rfl rfl ?_
          refine z_iconst (v := 4) C dJ16_numberOfLeadingZeros_62 (by decide) ?_
          refine z_icmp_lt (tgt := 73) C dJ16_numberOfLeadingZeros_63 (by decide) (fun c_63 => ?_) (fun c_63 => ?_)
          · have b_63 : k51 < 4 := (nI_ltI (b := 4) (by omega) (by decide)).mp c_63
            refine z_iload_n (i := 1) C dJ16_numberOfLeadingZeros_73 rfl rfl ?_
            refine z_iload_n (i := 0) C dJ16_numberOfLeadingZeros_74 rfl rfl ?_
            refine z_iconst (v := 1) C dJ16_numberOfLeadingZeros_75 (by decide) ?_
            refine z_iushr C dJ16_numberOfLeadingZeros_76 rfl ?_
            refine z_seti (y := nI (k51 / 2)) (zus k51 1 1 rfl (by omega) (by decide)) ?_
            refine z_isub C dJ16_numberOfLeadingZeros_77 ?_
            refine z_seti (y := nI (32 - zdg k)) ((pk_sub (a := 19) (b := k51 / 2) (by omega)).trans (congrArg nI (by have := zdg_3 k51 (by omega) (by omega); omega))) ?_
            exact z_ireturn C rfl (rfl) dJ16_numberOfLeadingZeros_78 (⟨rfl, rfl⟩) (Nat.le_of_ble_eq_true rfl) (Nat.le_of_ble_eq_true rfl)
          · have n_63 : 4 ≤ k51 := Nat.le_of_not_lt (fun z => c_63 (nI_lt (b := 4) z (by decide)))
            obtain ⟨k63, hk63⟩ : ∃ k63, k63 = k51 / 2 ^ 2 := ⟨_, rfl⟩
            have e_63 : zdg k51 = zdg k63 + 2 := by rw [hk63]; exact zdg_sh 2 k51 n_63
            have b_63 : k63 < 4 := by omega
            have g_63 : 1 ≤ k63 := by omega
            refine z_iinc (v := 17) C dJ16_numberOfLeadingZeros_66 rfl (rfl) (Nat.le_of_ble_eq_true rfl) rfl ?_
            refine z_iload_n (i := 0) C dJ16_numberOfLeadingZeros_69 rfl rfl ?_
            refine z_iconst (v := 2) C dJ16_numberOfLeadingZeros_70 (by decide) ?_
            refine z_iushr C dJ16_numberOfLeadingZeros_71 rfl ?_
            refine z_seti (y := nI k63) ((zus k51 2 2 rfl (by omega) (by decide)).trans (by rw [hk63])) ?_
            refine z_istore_n (i := 0) C dJ16_numberOfLeadingZeros_72 rfl (Nat.le_of_ble_eq_true rfl) rfl ?_
            refine z_iload_n (i := 1) C dJ16_numberOfLeadingZeros_73 rfl rfl ?_
            refine z_iload_n (i := 0) C dJ16_numberOfLeadingZeros_74 rfl rfl ?_
            refine z_iconst (v := 1) C dJ16_numberOfLeadingZeros_75 (by decide) ?_
            refine z_iushr C dJ16_numberOfLeadingZeros_76 rfl ?_
            refine z_seti (y := nI (k63 / 2)) (zus k63 1 1 rfl (by omega) (by decide)) ?_
            refine z_isub C dJ16_numberOfLeadingZeros_77 ?_
            refine z_seti (y := nI (32 - zdg k)) ((pk_sub (a := 17) (b := k63 / 2) (by omega)).trans (congrArg nI (by have := zdg_3 k63 (by omega) (by omega); omega))) ?_
            exact z_ireturn C rfl (rfl) dJ16_numberOfLeadingZeros_78 (⟨rfl, rfl⟩) (Nat.le_of_ble_eq_true rfl) (Nat.le_of_ble_eq_true rfl)
    · have n_22 : 65536 ≤ k := Nat.le_of_not_lt (fun z => c_22 (nI_lt (b := 65536) z (by decide)))
      obtain ⟨k22, hk22⟩ : ∃ k22, k22 = k / 2 ^ 16 := ⟨_, rfl⟩
      have e_22 : zdg k = zdg k22 + 16 := by rw [hk22]; exact zdg_sh 16 k n_22
      have b_22 : k22 < 65536 := by omega
      have g_22 : 1 ≤ k22 := by omega
      refine z_iinc (v := 15) C dJ16_numberOfLeadingZeros_25 rfl (rfl) (Nat.le_of_ble_eq_true rfl) rfl ?_
      refine z_iload_n (i := 0) C dJ16_numberOfLeadingZeros_28 rfl rfl ?_
      refine z_bipush (v := 16) C dJ16_numberOfLeadingZeros_29 (by decide) ?_
      refine z_iushr C dJ16_numberOfLeadingZeros_31 rfl ?_
      refine z_seti (y := nI k22) ((zus k 16 16 rfl (by omega) (by decide)).trans (by rw [hk22])) ?_
      refine z_istore_n (i := 0) C dJ16_numberOfLeadingZeros_32 rfl (Nat.le_of_ble_eq_true rfl) rfl ?_
      refine z_iload_n (i := 0) C dJ16_numberOfLeadingZeros_33 rfl rfl ?_
      refine z_sipush (v := 256) C dJ16_numberOfLeadingZeros_34 (by decide) ?_
      refine z_icmp_lt (tgt := 48) C dJ16_numberOfLeadingZeros_37 (by decide) (fun c_37 => ?_) (fun c_37 => ?_)
      · have b_37 : k22 < 256 := (nI_ltI (b := 256) (by omega) (by decide)).mp c_37
        refine z_iload_n (i := 0) C dJ16_numberOfLeadingZeros_48 rfl rfl ?_
        refine z_bipush (v := 16) C dJ16_numberOfLeadingZeros_49 (by decide) ?_
        refine z_icmp_lt (tgt := 61) C dJ16_numberOfLeadingZeros_51 (by decide) (fun c_51 => ?_) (fun c_51 => ?_)
        · have b_51 : k22 < 16 := (nI_ltI (b := 16) (by omega) (by decide)).mp c_51
          refine z_iload_n (i := 0) C dJ16_numberOfLeadingZeros_61 rfl rfl ?_
          refine z_iconst (v := 4) C dJ16_numberOfLeadingZeros_62 (by decide) ?_
          refine z_icmp_lt (tgt := 73) C dJ16_numberOfLeadingZeros_63 (by decide) (fun c_63 => ?_) (fun c_63 => ?_)
          · have b_63 : k22 < 4 := (nI_ltI (b := 4) (by omega) (by decide)).mp c_63
            refine z_iload_n (i := 1) C dJ16_numberOfLeadingZeros_73 rfl rfl ?_
            refine z_iload_n (i := 0) C dJ16_numberOfLeadingZeros_74 rfl rfl ?_
            refine z_iconst (v := 1) C dJ16_numberOfLeadingZeros_75 (by decide) ?_
            refine z_iushr C dJ16_numberOfLeadingZeros_76 rfl ?_
            refine z_seti (y := nI (k22 / 2)) (zus k22 1 1 rfl (by omega) (by decide)) ?_
            refine z_isub C dJ16_numberOfLeadingZeros_77 ?_
            refine z_seti (y := nI (32 - zdg k)) ((pk_sub (a := 15) (b := k22 / 2) (by omega)).trans (congrArg nI (by have := zdg_3 k22 (by omega) (by omega); omega))) ?_
            exact z_ireturn C rfl (rfl) dJ16_numberOfLeadingZeros_78 (⟨rfl, rfl⟩) (Nat.le_of_ble_eq_true rfl) (Nat.le_of_ble_eq_true rfl)
          · have n_63 : 4 ≤ k22 := Nat.le_of_not_lt (fun z => c_63 (nI_lt (b := 4) z (by decide)))
            obtain ⟨k63, hk63⟩ : ∃ k63, k63 = k22 / 2 ^ 2 := ⟨_, rfl⟩
            have e_63 : zdg k22 = zdg k63 + 2 := by rw [hk63]; exact zdg_sh 2 k22 n_63
            have b_63 : k63 < 4 := by omega
            have g_63 : 1 ≤ k63 := by omega
            refine z_iinc (v := 13) C dJ16_numberOfLeadingZeros_66 rfl (rfl) (Nat.le_of_ble_eq_true rfl) rfl ?_
            refine z_iload_n (i := 0) C dJ16_numberOfLeadingZeros_69 rfl rfl ?_
            refine z_iconst (v := 2) C dJ16_numberOfLeadingZeros_70 (by decide) ?_
            refine z_iushr C dJ16_numberOfLeadingZeros_71 rfl ?_
            refine z_seti (y := nI k63) ((zus k22 2 2 rfl (by omega) (by decide)).trans (by rw [hk63])) ?_
            refine z_istore_n (i := 0) C dJ16_numberOfLeadingZeros_72 rfl (Nat.le_of_ble_eq_true rfl) rfl ?_
            refine z_iload_n (i := 1) C dJ16_numberOfLeadingZeros_73 rfl rfl ?_
            refine z_iload_n (i := 0) C dJ16_numberOfLeadingZeros_74 rfl rfl ?_
            refine z_iconst (v := 1) C dJ16_numberOfLeadingZeros_75 (by decide) ?_
            refine z_iushr C dJ16_numberOfLeadingZeros_76 rfl ?_
            refine z_seti (y := nI (k63 / 2)) (zus k63 1 1 rfl (by omega) (by decide)) ?_
            refine z_isub C dJ16_numberOfLeadingZeros_77 ?_
            refine z_seti (y := nI (32 - zdg k)) ((pk_sub (a := 13) (b := k63 / 2) (by omega)).trans (congrArg nI (by have := zdg_3 k63 (by omega) (by omega); omega))) ?_
            exact z_ireturn C rfl (rfl) dJ16_numberOfLeadingZeros_78 (⟨rfl, rfl⟩) (Nat.le_of_ble_eq_true rfl) (Nat.le_of_ble_eq_true rfl)
        · have n_51 : 16 ≤ k22 := Nat.le_of_not_lt (fun z => c_51 (nI_lt (b := 16) z (by decide)))
          obtain ⟨k51, hk51⟩ : ∃ k51, k51 = k22 / 2 ^ 4 := ⟨_, rfl⟩
          have e_51 : zdg k22 = zdg k51 + 4 := by rw [hk51]; exact zdg_sh 4 k22 n_51
          have b_51 : k51 < 16 := by omega
          have g_51 : 1 ≤ k51 := by omega
          refine z_iinc (v := 11) C dJ16_numberOfLeadingZeros_54 rfl (rfl) (Nat.le_of_ble_eq_true rfl) rfl ?_
          refine z_iload_n (i := 0) C dJ16_numberOfLeadingZeros_57 rfl rfl ?_
          refine z_iconst (v := 4) C dJ16_numberOfLeadingZeros_58 (by decide) ?_
          refine z_iushr C dJ16_numberOfLeadingZeros_59 rfl ?_
          refine z_seti (y := nI k51) ((zus k22 4 4 rfl (by omega) (by decide)).trans (by rw [hk51])) ?_
          refine z_istore_n (i := 0) C dJ16_numberOfLeadingZeros_60 rfl (Nat.le_of_ble_eq_true rfl) rfl ?_
          refine z_iload_n (i := 0) C dJ16_numberOfLeadingZeros_61 rfl rfl ?_
          refine z_iconst (v := 4) C dJ16_numberOfLeadingZeros_62 (by decide) ?_
          refine z_icmp_lt (tgt := 73) C dJ16_numberOfLeadingZeros_63 (by decide) (fun c_63 => ?_) (fun c_63 => ?_)
          · have b_63 : k51 < 4 := (nI_ltI (b := 4) (by omega) (by decide)).mp c_63
            refine z_iload_n (i := 1) C dJ16_numberOfLeadingZeros_73 rfl rfl ?_
            refine z_iload_n (i := 0) C dJ16_numberOfLeadingZeros_74 rfl rfl ?_
            refine z_iconst (v := 1) C dJ16_numberOfLeadingZeros_75 (by decide) ?_
            refine z_iushr C dJ16_numberOfLeadingZeros_76 rfl ?_
            refine z_seti (y := nI (k51 / 2)) (zus k51 1 1 rfl (by omega) (by decide)) ?_
            refine z_isub C dJ16_numberOfLeadingZeros_77 ?_
            refine z_seti (y := nI (32 - zdg k)) ((pk_sub (a := 11) (b := k51 / 2) (by omega)).trans (congrArg nI (by have := zdg_3 k51 (by omega) (by omega); omega))) ?_
            exact z_ireturn C rfl (rfl) dJ16_numberOfLeadingZeros_78 (⟨rfl, rfl⟩) (Nat.le_of_ble_eq_true rfl) (Nat.le_of_ble_eq_true rfl)
          · have n_63 : 4 ≤ k51 := Nat.le_of_not_lt (fun z => c_63 (nI_lt (b := 4) z (by decide)))
            obtain ⟨k63, hk63⟩ : ∃ k63, k63 = k51 / 2 ^ 2 := ⟨_, rfl⟩
            have e_63 : zdg k51 = zdg k63 + 2 := by rw [hk63]; exact zdg_sh 2 k51 n_63
            have b_63 : k63 < 4 := by omega
            have g_63 : 1 ≤ k63 := by omega
            refine z_iinc (v := 9) C dJ16_numberOfLeadingZeros_66 rfl (rfl) (Nat.le_of_ble_eq_true rfl) rfl ?_
            refine z_iload_n (i := 0) C dJ16_numberOfLeadingZeros_69 rfl rfl ?_
            refine z_iconst (v := 2) C dJ16_numberOfLeadingZeros_70 (by decide) ?_
            refine z_iushr C dJ16_numberOfLeadingZeros_71 rfl ?_
            refine z_seti (y := nI k63) ((zus k51 2 2 rfl (by omega) (by decide)).trans (by rw [hk63])) ?_
            refine z_istore_n (i := 0) C dJ16_numberOfLeadingZeros_72 rfl (Nat.le_of_ble_eq_true rfl) rfl ?_
            refine z_iload_n (i := 1) C dJ16_numberOfLeadingZeros_73 rfl rfl ?_
            refine z_iload_n (i := 0) C dJ16_numberOfLeadingZeros_74 rfl rfl ?_
            refine z_iconst (v := 1) C dJ16_numberOfLeadingZeros_75 (by decide) ?_
            refine z_iushr C dJ16_numberOfLeadingZeros_76 rfl ?_
            refine z_seti (y := nI (k63 / 2)) (zus k63 1 1 rfl (by omega) (by decide)) ?_
            refine z_isub C dJ16_numberOfLeadingZeros_77 ?_
            refine z_seti (y := nI (32 - zdg k)) ((pk_sub (a := 9) (b := k63 / 2) (by omega)).trans (congrArg nI (by have := zdg_3 k63 (by omega) (by omega); omega))) ?_
            exact z_ireturn C rfl (rfl) dJ16_numberOfLeadingZeros_78 (⟨rfl, rfl⟩) (Nat.le_of_ble_eq_true rfl) (Nat.le_of_ble_eq_true rfl)
      · have n_37 : 256 ≤ k22 := Nat.le_of_not_lt (fun z => c_37 (nI_lt (b := 256) z (by decide)))
        obtain ⟨k37, hk37⟩ : ∃ k37, k37 = k22 / 2 ^ 8 := ⟨_, rfl⟩
        have e_37 : zdg k22 = zdg k37 + 8 := by rw [hk37]; exact zdg_sh 8 k22 n_37
        have b_37 : k37 < 256 := by omega
        have g_37 : 1 ≤ k37 := by omega
        refine z_iinc (v := 7) C dJ16_numberOfLeadingZeros_40 rfl (rfl) (Nat.le_of_ble_eq_true rfl) rfl ?_
        refine z_iload_n (i := 0) C dJ16_numberOfLeadingZeros_43 rfl rfl ?_
        refine z_bipush (v := 8) C dJ16_numberOfLeadingZeros_44 (by decide) ?_
        refine z_iushr C dJ16_numberOfLeadingZeros_46 rfl ?_
        refine z_seti (y := nI k37) ((zus k22 8 8 rfl (by omega) (by decide)).trans (by rw [hk37])) ?_
        refine z_istore_n (i := 0) C dJ16_numberOfLeadingZeros_47 rfl (Nat.le_of_ble_eq_true rfl) rfl ?_
        refine z_iload_n (i := 0) C dJ16_numberOfLeadingZeros_48 rfl rfl ?_
        refine z_bipush (v := 16) C dJ16_numberOfLeadingZeros_49 (by decide) ?_
        refine z_icmp_lt (tgt := 61) C dJ16_numberOfLeadingZeros_51 (by decide) (fun c_51 => ?_) (fun c_51 => ?_)
        · have b_51 : k37 < 16 := (nI_ltI (b := 16) (by omega) (by decide)).mp c_51
          refine z_iload_n (i := 0) C dJ16_numberOfLeadingZeros_61 rfl rfl ?_
          refine z_iconst (v := 4) C dJ16_numberOfLeadingZeros_62 (by decide) ?_
          refine z_icmp_lt (tgt := 73) C dJ16_numberOfLeadingZeros_63 (by decide) (fun c_63 => ?_) (fun c_63 => ?_)
          · have b_63 : k37 < 4 := (nI_ltI (b := 4) (by omega) (by decide)).mp c_63
            refine z_iload_n (i := 1) C dJ16_numberOfLeadingZeros_73 rfl rfl ?_
            refine z_iload_n (i := 0) C dJ16_numberOfLeadingZeros_74 rfl rfl ?_
            refine z_iconst (v := 1) C dJ16_numberOfLeadingZeros_75 (by decide) ?_
            refine z_iushr C dJ16_numberOfLeadingZeros_76 rfl ?_
            refine z_seti (y := nI (k37 / 2)) (zus k37 1 1 rfl (by omega) (by decide)) ?_
            refine z_isub C dJ16_numberOfLeadingZeros_77 ?_
            refine z_seti (y := nI (32 - zdg k)) ((pk_sub (a := 7) (b := k37 / 2) (by omega)).trans (congrArg nI (by have := zdg_3 k37 (by omega) (by omega); omega))) ?_
            exact z_ireturn C rfl (rfl) dJ16_numberOfLeadingZeros_78 (⟨rfl, rfl⟩) (Nat.le_of_ble_eq_true rfl) (Nat.le_of_ble_eq_true rfl)
          · have n_63 : 4 ≤ k37 := Nat.le_of_not_lt (fun z => c_63 (nI_lt (b := 4) z (by decide)))
            obtain ⟨k63, hk63⟩ : ∃ k63, k63 = k37 / 2 ^ 2 := ⟨_, rfl⟩
            have e_63 : zdg k37 = zdg k63 + 2 := by rw [hk63]; exact zdg_sh 2 k37 n_63
            have b_63 : k63 < 4 := by omega
            have g_63 : 1 ≤ k63 := by omega
            refine z_iinc (v := 5) C dJ16_numberOfLeadingZeros_66 rfl (rfl) (Nat.le_of_ble_eq_true rfl) rfl ?_
            refine z_iload_n (i := 0) C dJ16_numberOfLeadingZeros_69 rfl rfl ?_
            refine z_iconst (v := 2) C dJ16_numberOfLeadingZeros_70 (by decide) ?_
            refine z_iushr C dJ16_numberOfLeadingZeros_71 rfl ?_
            refine z_seti (y := nI k63) ((zus k37 2 2 rfl (by omega) (by decide)).trans (by rw [hk63])) ?_
            refine z_istore_n (i := 0) C dJ16_numberOfLeadingZeros_72 rfl (Nat.le_of_ble_eq_true rfl) rfl ?_
            refine z_iload_n (i := 1) C dJ16_numberOfLeadingZeros_73 rfl rfl ?_
            refine z_iload_n (i := 0) C dJ16_numberOfLeadingZeros_74 rfl rfl ?_
            refine z_iconst (v := 1) C dJ16_numberOfLeadingZeros_75 (by decide) ?_
            refine z_iushr C dJ16_numberOfLeadingZeros_76 rfl ?_
            refine z_seti (y := nI (k63 / 2)) (zus k63 1 1 rfl (by omega) (by decide)) ?_
            refine z_isub C dJ16_numberOfLeadingZeros_77 ?_
            refine z_seti (y := nI (32 - zdg k)) ((pk_sub (a := 5) (b := k63 / 2) (by omega)).trans (congrArg nI (by have := zdg_3 k63 (by omega) (by omega); omega))) ?_
            exact z_ireturn C rfl (rfl) dJ16_numberOfLeadingZeros_78 (⟨rfl, rfl⟩) (Nat.le_of_ble_eq_true rfl) (Nat.le_of_ble_eq_true rfl)
        · have n_51 : 16 ≤ k37 := Nat.le_of_not_lt (fun z => c_51 (nI_lt (b := 16) z (by decide)))
          obtain ⟨k51, hk51⟩ : ∃ k51, k51 = k37 / 2 ^ 4 := ⟨_, rfl⟩
          have e_51 : zdg k37 = zdg k51 + 4 := by rw [hk51]; exact zdg_sh 4 k37 n_51
          have b_51 : k51 < 16 := by omega
          have g_51 : 1 ≤ k51 := by omega
          refine z_iinc (v := 3) C dJ16_numberOfLeadingZeros_54 rfl (rfl) (Nat.le_of_ble_eq_true rfl) rfl ?_
          refine z_iload_n (i := 0) C dJ16_numberOfLeadingZeros_57 rfl rfl ?_
          refine z_iconst (v := 4) C dJ16_numberOfLeadingZeros_58 (by decide) ?_
          refine z_iushr C dJ16_numberOfLeadingZeros_59 rfl ?_
          refine z_seti (y := nI k51) ((zus k37 4 4 rfl (by omega) (by decide)).trans (by rw [hk51])) ?_
          refine z_istore_n (i := 0) C dJ16_numberOfLeadingZeros_60 rfl (Nat.le_of_ble_eq_true rfl) rfl ?_
          refine z_iload_n (i := 0) C dJ16_numberOfLeadingZeros_61 rfl rfl ?_
          refine z_iconst (v := 4) C dJ16_numberOfLeadingZeros_62 (by decide) ?_
          refine z_icmp_lt (tgt := 73) C dJ16_numberOfLeadingZeros_63 (by decide) (fun c_63 => ?_) (fun c_63 => ?_)
          · have b_63 : k51 < 4 := (nI_ltI (b := 4) (by omega) (by decide)).mp c_63
            refine z_iload_n (i := 1) C dJ16_numberOfLeadingZeros_73 rfl rfl ?_
            refine z_iload_n (i := 0) C dJ16_numberOfLeadingZeros_74 rfl rfl ?_
            refine z_iconst (v := 1) C dJ16_numberOfLeadingZeros_75 (by decide) ?_
            refine z_iushr C dJ16_numberOfLeadingZeros_76 rfl ?_
            refine z_seti (y := nI (k51 / 2)) (zus k51 1 1 rfl (by omega) (by decide)) ?_
            refine z_isub C dJ16_numberOfLeadingZeros_77 ?_
            refine z_seti (y := nI (32 - zdg k)) ((pk_sub (a := 3) (b := k51 / 2) (by omega)).trans (congrArg nI (by have := zdg_3 k51 (by omega) (by omega); omega))) ?_
            exact z_ireturn C rfl (rfl) dJ16_numberOfLeadingZeros_78 (⟨rfl, rfl⟩) (Nat.le_of_ble_eq_true rfl) (Nat.le_of_ble_eq_true rfl)
          · have n_63 : 4 ≤ k51 := Nat.le_of_not_lt (fun z => c_63 (nI_lt (b := 4) z (by decide)))
            obtain ⟨k63, hk63⟩ : ∃ k63, k63 = k51 / 2 ^ 2 := ⟨_, rfl⟩
            have e_63 : zdg k51 = zdg k63 + 2 := by rw [hk63]; exact zdg_sh 2 k51 n_63
            have b_63 : k63 < 4 := by omega
            have g_63 : 1 ≤ k63 := by omega
            refine z_iinc (v := 1) C dJ16_numberOfLeadingZeros_66 rfl (rfl) (Nat.le_of_ble_eq_true rfl) rfl ?_
            refine z_iload_n (i := 0) C dJ16_numberOfLeadingZeros_69 rfl rfl ?_
            refine z_iconst (v := 2) C dJ16_numberOfLeadingZeros_70 (by decide) ?_
            refine z_iushr C dJ16_numberOfLeadingZeros_71 rfl ?_
            refine z_seti (y := nI k63) ((zus k51 2 2 rfl (by omega) (by decide)).trans (by rw [hk63])) ?_
            refine z_istore_n (i := 0) C dJ16_numberOfLeadingZeros_72 rfl (Nat.le_of_ble_eq_true rfl) rfl ?_
            refine z_iload_n (i := 1) C dJ16_numberOfLeadingZeros_73 rfl rfl ?_
            refine z_iload_n (i := 0) C dJ16_numberOfLeadingZeros_74 rfl rfl ?_
            refine z_iconst (v := 1) C dJ16_numberOfLeadingZeros_75 (by decide) ?_
            refine z_iushr C dJ16_numberOfLeadingZeros_76 rfl ?_
            refine z_seti (y := nI (k63 / 2)) (zus k63 1 1 rfl (by omega) (by decide)) ?_
            refine z_isub C dJ16_numberOfLeadingZeros_77 ?_
            refine z_seti (y := nI (32 - zdg k)) ((pk_sub (a := 1) (b := k63 / 2) (by omega)).trans (congrArg nI (by have := zdg_3 k63 (by omega) (by omega); omega))) ?_
            exact z_ireturn C rfl (rfl) dJ16_numberOfLeadingZeros_78 (⟨rfl, rfl⟩) (Nat.le_of_ble_eq_true rfl) (Nat.le_of_ble_eq_true rfl)
  · exact absurd (nI_lt (a := 0) (by omega) (by omega)) c_1
set_option maxHeartbeats 4000000 in
set_option maxRecDepth 100000 in
theorem ct_J16_numberOfLeadingZeros_z (D : zG) (B : Nat) {G : zH}   : Ct D B yJ16_numberOfLeadingZeros (ws_ yJ16_numberOfLeadingZeros cJ16_numberOfLeadingZeros 2 (some .int)) (zr 0) [.int 0] G (zpe (some (.int (32))) G) zno := by
  refine ct_intro (by decide +kernel) (Nat.le_of_ble_eq_true rfl) ?_
  intro X C
  refine z_iload_n (i := 0) C dJ16_numberOfLeadingZeros_0 rfl rfl ?_
  refine z_if_gt (tgt := 15) C dJ16_numberOfLeadingZeros_1 (by decide) (fun c_1 => ?_) (fun c_1 => ?_)
  · exact absurd c_1 (by decide)
  · refine z_iload_n (i := 0) C dJ16_numberOfLeadingZeros_4 rfl rfl ?_
    refine z_if_ne (tgt := 13) C dJ16_numberOfLeadingZeros_5 (by decide) (fun c_5 => ?_) (fun c_5 => ?_)
    · exact absurd rfl c_5
    · refine z_bipush (v := 32) C dJ16_numberOfLeadingZeros_8 (by decide) ?_
      refine z_goto (tgt := 14) C dJ16_numberOfLeadingZeros_10 (by decide) ?_
      exact z_ireturn C rfl (rfl) dJ16_numberOfLeadingZeros_14 (⟨rfl, rfl⟩) (Nat.le_of_ble_eq_true rfl) (Nat.le_of_ble_eq_true rfl)
set_option maxHeartbeats 4000000 in
set_option maxRecDepth 100000 in
theorem ct_J16_numberOfLeadingZeros_n (D : zG) (B : Nat) {G : zH} (x : Int32) (hx : x < 0) : Ct D B yJ16_numberOfLeadingZeros (ws_ yJ16_numberOfLeadingZeros cJ16_numberOfLeadingZeros 2 (some .int)) (zr 0) [.int x] G (zpe (some (.int (0))) G) zno := by
  refine ct_intro (by decide +kernel) (Nat.le_of_ble_eq_true rfl) ?_
  intro X C
  refine z_iload_n (i := 0) C dJ16_numberOfLeadingZeros_0 rfl rfl ?_
  refine z_if_gt (tgt := 15) C dJ16_numberOfLeadingZeros_1 (by decide) (fun c_1 => ?_) (fun c_1 => ?_)
  · exact absurd c_1 (Int32.not_lt.mpr (Int32.le_of_lt hx))
  · refine z_iload_n (i := 0) C dJ16_numberOfLeadingZeros_4 rfl rfl ?_
    refine z_if_ne (tgt := 13) C dJ16_numberOfLeadingZeros_5 (by decide) (fun c_5 => ?_) (fun c_5 => ?_)
    · refine z_iconst (v := 0) C dJ16_numberOfLeadingZeros_13 (by decide) ?_
      exact z_ireturn C rfl (rfl) dJ16_numberOfLeadingZeros_14 (⟨rfl, rfl⟩) (Nat.le_of_ble_eq_true rfl) (Nat.le_of_ble_eq_true rfl)
    · exact absurd hx (by rw [c_5]; decide)
theorem nI_neg {k : Nat} (h : 2147483648 ≤ k) (h2 : k < 4294967296) : nI k < 0 := by
  rw [Int32.lt_iff_toInt_lt]
  show (BitVec.ofNat 32 k).toInt < 0
  rw [BitVec.toInt_eq_toNat_cond, BitVec.toNat_ofNat]
  have : (2 : Nat) ^ 32 = 4294967296 := by decide
  rw [this, Nat.mod_eq_of_lt h2]
  split <;> omega
theorem nI_mod (k : Nat) : nI k = nI (k % 4294967296) := by
  apply Int32.toBitVec_inj.mp
  show BitVec.ofNat 32 k = BitVec.ofNat 32 (k % 4294967296)
  apply BitVec.eq_of_toNat_eq
  rw [BitVec.toNat_ofNat, BitVec.toNat_ofNat]
  omega
/-- the leading zeros of a low half -/
theorem znlz (D : zG) (B : Nat) {G : zH} (k : Nat) (h : k < 4294967296) : Ct D B yJ16_numberOfLeadingZeros (ws_ yJ16_numberOfLeadingZeros cJ16_numberOfLeadingZeros 2 (some .int)) (zr 0) [.int (nI k)] G (zpe (some (.int (nI (32 - zdg k)))) G) zno := by
  by_cases h0 : k = 0
  · subst h0
    rw [zdg_0]
    exact ct_J16_numberOfLeadingZeros_z D B
  · by_cases h1 : k < 2147483648
    · exact ct_J16_numberOfLeadingZeros_p D B k h1 (by omega)
    · have e : zdg k = 32 := by
        rw [zdg_sh 31 k (by omega), show k / 2 ^ 31 = 1 by omega, zdg_3 1 (by decide) (by decide)]
      rw [e]
      exact ct_J16_numberOfLeadingZeros_n D B (nI k) (nI_neg (by omega) h)
theorem np_J16_numberOfLeadingZeros : znp yJ16_numberOfLeadingZeros 1 := ⟨by decide +kernel, by decide +kernel, by decide +kernel⟩
set_option maxHeartbeats 4000000 in
set_option maxRecDepth 100000 in
theorem ct_J23_numberOfLeadingZeros (D : zG) (B : Nat) {G : zH} (n : Nat) (hn : n < 2 ^ 63) : Ct D B yJ23_numberOfLeadingZeros (ws_ yJ23_numberOfLeadingZeros cJ23_numberOfLeadingZeros 3 (some .int)) (zr 1) [.long (lN n)] G (zpe (some (.int (nI (64 - zdg n)))) G) zno := by
  refine ct_intro (by decide +kernel) (Nat.le_of_ble_eq_true rfl) ?_
  intro X C
  refine z_lload_n (i := 0) C dJ23_numberOfLeadingZeros_0 rfl rfl ?_
  refine z_bipush (v := 32) C dJ23_numberOfLeadingZeros_1 (by decide) ?_
  refine z_lushr C dJ23_numberOfLeadingZeros_3 rfl ?_
  refine z_setl (zusL n 32 32 rfl hn (by decide)) ?_
  refine z_l2i C dJ23_numberOfLeadingZeros_4 rfl ?_
  refine z_seti (lN_i _) ?_
  refine z_istore_n (i := 2) C dJ23_numberOfLeadingZeros_5 rfl (Nat.le_of_ble_eq_true rfl) rfl ?_
  refine z_iload_n (i := 2) C dJ23_numberOfLeadingZeros_6 rfl rfl ?_
  refine z_if_ne (tgt := 21) C dJ23_numberOfLeadingZeros_7 (by decide) (fun c_7 => ?_) (fun c_7 => ?_)
  · have hz : n / 2 ^ 32 ≠ 0 := fun z => c_7 (by rw [z]; rfl)
    refine z_iload_n (i := 2) C dJ23_numberOfLeadingZeros_21 rfl rfl ?_
    refine z_callSe C (znlz D B (n / 2 ^ 32) (by omega)) q1516 q1517 q103 q1518 np_J16_numberOfLeadingZeros (zr_ok rfl rfl) rfl rfl (Nat.le_of_ble_eq_true rfl) (⟨Nat.le_of_ble_eq_true rfl, Nat.le_of_ble_eq_true rfl⟩) dJ23_numberOfLeadingZeros_22 ?_
    refine z_seti (y := nI (64 - zdg n)) (congrArg nI (by have := zdg_sh 32 n (by omega); omega)) ?_
    exact z_ireturn C rfl (rfl) dJ23_numberOfLeadingZeros_25 (⟨rfl, rfl⟩) (Nat.le_of_ble_eq_true rfl) (Nat.le_of_ble_eq_true rfl)
  · have hz : n / 2 ^ 32 = 0 := (nI_eq (a := n / 2 ^ 32) (b := 0) (by omega) (by decide)).mp c_7
    refine z_bipush (v := 32) C dJ23_numberOfLeadingZeros_10 (by decide) ?_
    refine z_lload_n (i := 0) C dJ23_numberOfLeadingZeros_12 rfl rfl ?_
    refine z_l2i C dJ23_numberOfLeadingZeros_13 rfl ?_
    refine z_seti ((lN_i n).trans (nI_mod n)) ?_
    refine z_callSe C (znlz D B (n % 4294967296) (Nat.mod_lt _ (by decide))) q1516 q1517 q103 q1518 np_J16_numberOfLeadingZeros (zr_ok rfl rfl) rfl rfl (Nat.le_of_ble_eq_true rfl) (⟨Nat.le_of_ble_eq_true rfl, Nat.le_of_ble_eq_true rfl⟩) dJ23_numberOfLeadingZeros_14 ?_
    refine z_iadd C dJ23_numberOfLeadingZeros_17 ?_
    refine z_seti (y := nI (64 - zdg n)) ((nI_add 32 _).trans (congrArg nI (by rw [show n % 4294967296 = n by omega]; have := zdg_lt (k := n) (b := 32) (by omega); omega))) ?_
    refine z_goto (tgt := 25) C dJ23_numberOfLeadingZeros_18 (by decide) ?_
    exact z_ireturn C rfl (rfl) dJ23_numberOfLeadingZeros_25 (⟨rfl, rfl⟩) (Nat.le_of_ble_eq_true rfl) (Nat.le_of_ble_eq_true rfl)
