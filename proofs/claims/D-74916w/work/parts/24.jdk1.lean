/-! the JDK: constant Strings -/
theorem zsh0 (x : Int32) : x >>> ((0 : Int32) &&& 31) = x := by
  rw [show ((0 : Int32) &&& 31) = 0 from by decide, Int32.shiftRight_zero]
theorem zSl31 : ∀ i, i < 10 → zSlen.getD i 0 < 2 ^ 31 := by decide
set_option maxHeartbeats 4000000 in
set_option maxRecDepth 100000 in
theorem ct_J14_checkIndex_n (D : zG) (B : Nat) {G : zH} (i n : Nat) (h : i < n) (hn : n < 2 ^ 31) : Ct D B yJ14_checkIndex (ws_ yJ14_checkIndex cJ14_checkIndex 3 (some .int)) (zr 0) [.int (nI i), .int (nI n), .null] G (zpe (some (.int (nI i))) G) zno := by
  refine ct_intro (by decide +kernel) (Nat.le_of_ble_eq_true rfl) ?_
  intro X C
  refine z_iload_n (i := 0) C dJ14_checkIndex_0 rfl rfl ?_
  refine z_if_lt (tgt := 9) C dJ14_checkIndex_1 (by decide) (fun c_1 => ?_) (fun c_1 => ?_)
  · exact absurd c_1 (nI_pos (by omega))
  · refine z_iload_n (i := 0) C dJ14_checkIndex_4 rfl rfl ?_
    refine z_iload_n (i := 1) C dJ14_checkIndex_5 rfl rfl ?_
    refine z_icmp_lt (tgt := 16) C dJ14_checkIndex_6 (by decide) (fun c_6 => ?_) (fun c_6 => ?_)
    · refine z_iload_n (i := 0) C dJ14_checkIndex_16 rfl rfl ?_
      exact z_ireturn C rfl (rfl) dJ14_checkIndex_17 (⟨rfl, rfl⟩) (Nat.le_of_ble_eq_true rfl) (Nat.le_of_ble_eq_true rfl)
    · exact absurd (nI_lt h hn) c_6
set_option maxHeartbeats 4000000 in
set_option maxRecDepth 100000 in
theorem ct_J14_checkIndex_r (D : zG) (B : Nat) {G : zH} (i n : Nat) (a : Nat) (h : i < n) (hn : n < 2 ^ 31) : Ct D B yJ14_checkIndex (ws_ yJ14_checkIndex cJ14_checkIndex 3 (some .int)) (zr 0) [.int (nI i), .int (nI n), .ref a] G (zpe (some (.int (nI i))) G) zno := by
  refine ct_intro (by decide +kernel) (Nat.le_of_ble_eq_true rfl) ?_
  intro X C
  refine z_iload_n (i := 0) C dJ14_checkIndex_0 rfl rfl ?_
  refine z_if_lt (tgt := 9) C dJ14_checkIndex_1 (by decide) (fun c_1 => ?_) (fun c_1 => ?_)
  · exact absurd c_1 (nI_pos (by omega))
  · refine z_iload_n (i := 0) C dJ14_checkIndex_4 rfl rfl ?_
    refine z_iload_n (i := 1) C dJ14_checkIndex_5 rfl rfl ?_
    refine z_icmp_lt (tgt := 16) C dJ14_checkIndex_6 (by decide) (fun c_6 => ?_) (fun c_6 => ?_)
    · refine z_iload_n (i := 0) C dJ14_checkIndex_16 rfl rfl ?_
      exact z_ireturn C rfl (rfl) dJ14_checkIndex_17 (⟨rfl, rfl⟩) (Nat.le_of_ble_eq_true rfl) (Nat.le_of_ble_eq_true rfl)
    · exact absurd (nI_lt h hn) c_6
theorem np_J14_checkIndex : znp yJ14_checkIndex 3 := ⟨by decide +kernel, by decide +kernel, by decide +kernel⟩
set_option maxHeartbeats 4000000 in
set_option maxRecDepth 100000 in
theorem ct_J9_checkIndex (D : zG) (B : Nat) {G : zH} (i n : Nat) (h : i < n) (hn : n < 2 ^ 31) : Ct D B yJ9_checkIndex (ws_ yJ9_checkIndex cJ9_checkIndex 2 none) (zr 1) [.int (nI i), .int (nI n)] G (zpe none G) zno := by
  refine ct_intro (by decide +kernel) (Nat.le_of_ble_eq_true rfl) ?_
  intro X C
  refine z_iload_n (i := 0) C dJ9_checkIndex_0 rfl rfl ?_
  refine z_iload_n (i := 1) C dJ9_checkIndex_1 rfl rfl ?_
  refine z_gets (k := 55) C (by decide) q297 dJ9_checkIndex_2 ?_
  rcases zSv_rf D (k := 55) (by decide) with e55 | ⟨a55, e55⟩
  · rw [e55]
    refine z_callSe C (ct_J14_checkIndex_n D B i n h hn) q816 q817 q100 q818 np_J14_checkIndex (zr_ok rfl rfl) rfl rfl (Nat.le_of_ble_eq_true rfl) (⟨Nat.le_of_ble_eq_true rfl, Nat.le_of_ble_eq_true rfl⟩) dJ9_checkIndex_5 ?_
    refine z_pop C dJ9_checkIndex_8 rfl ?_
    exact z_return C rfl dJ9_checkIndex_9 (⟨rfl, rfl⟩) (Nat.le_of_ble_eq_true rfl) (Nat.le_of_ble_eq_true rfl)
  · rw [e55]
    refine z_callSe C (ct_J14_checkIndex_r D B i n a55 h hn) q816 q817 q100 q818 np_J14_checkIndex (zr_ok rfl rfl) rfl rfl (Nat.le_of_ble_eq_true rfl) (⟨Nat.le_of_ble_eq_true rfl, Nat.le_of_ble_eq_true rfl⟩) dJ9_checkIndex_5 ?_
    refine z_pop C dJ9_checkIndex_8 rfl ?_
    exact z_return C rfl dJ9_checkIndex_9 (⟨rfl, rfl⟩) (Nat.le_of_ble_eq_true rfl) (Nat.le_of_ble_eq_true rfl)
set_option maxHeartbeats 4000000 in
set_option maxRecDepth 100000 in
theorem ct_J9_coder_k (D : zG) (B : Nat) {G : zH} (i : Nat) (hi : i < 10) : Ct D B yJ9_coder (ws_ yJ9_coder cJ9_coder 1 (some .byte)) (zr 0) [.ref (D.2.2.2 i)] G (zpe (some (.int 0)) G) zno := by
  refine ct_intro (by decide +kernel) (Nat.le_of_ble_eq_true rfl) ?_
  intro X C
  refine z_gets (k := 0) C (by decide) q319 dJ9_coder_0 ?_
  refine z_if_eq (tgt := 13) C dJ9_coder_3 (by decide) (fun c_3 => ?_) (fun c_3 => ?_)
  · exact absurd c_3 (by decide)
  · refine z_aload_n (i := 0) C dJ9_coder_6 rfl rfl ?_
    refine z_kcod C hi q461 dJ9_coder_7 ?_
    refine z_goto (tgt := 14) C dJ9_coder_10 (by decide) ?_
    exact z_ireturn C rfl (rfl) dJ9_coder_14 (⟨rfl, rfl⟩) (Nat.le_of_ble_eq_true rfl) (Nat.le_of_ble_eq_true rfl)
set_option maxHeartbeats 4000000 in
set_option maxRecDepth 100000 in
theorem ct_J9_isLatin1_k (D : zG) (B : Nat) {G : zH} (i : Nat) (hi : i < 10) : Ct D B yJ9_isLatin1 (ws_ yJ9_isLatin1 cJ9_isLatin1 1 (some .boolean)) (zr 0) [.ref (D.2.2.2 i)] G (zpe (some (.int 1)) G) zno := by
  refine ct_intro (by decide +kernel) (Nat.le_of_ble_eq_true rfl) ?_
  intro X C
  refine z_gets (k := 0) C (by decide) q319 dJ9_isLatin1_0 ?_
  refine z_if_eq (tgt := 17) C dJ9_isLatin1_3 (by decide) (fun c_3 => ?_) (fun c_3 => ?_)
  · exact absurd c_3 (by decide)
  · refine z_aload_n (i := 0) C dJ9_isLatin1_6 rfl rfl ?_
    refine z_kcod C hi q461 dJ9_isLatin1_7 ?_
    refine z_if_ne (tgt := 17) C dJ9_isLatin1_10 (by decide) (fun c_10 => ?_) (fun c_10 => ?_)
    · exact absurd rfl c_10
    · refine z_iconst (v := 1) C dJ9_isLatin1_13 (by decide) ?_
      refine z_goto (tgt := 18) C dJ9_isLatin1_14 (by decide) ?_
      exact z_ireturn C rfl (rfl) dJ9_isLatin1_18 (⟨rfl, rfl⟩) (Nat.le_of_ble_eq_true rfl) (Nat.le_of_ble_eq_true rfl)
theorem np_J9_coder : znp yJ9_coder 0 := ⟨by decide +kernel, by decide +kernel, by decide +kernel⟩
set_option maxHeartbeats 4000000 in
set_option maxRecDepth 100000 in
theorem ct_J9_length_k (D : zG) (B : Nat) {G : zH} (i : Nat) (hi : i < 10) : Ct D B yJ9_length (ws_ yJ9_length cJ9_length 1 (some .int)) (zr 1) [.ref (D.2.2.2 i)] G (zpe (some (.int (nI (zSlen.getD i 0)))) G) zno := by
  refine ct_intro (by decide +kernel) (Nat.le_of_ble_eq_true rfl) ?_
  intro X C
  refine z_aload_n (i := 0) C dJ9_length_0 rfl rfl ?_
  refine z_kval C hi q460 dJ9_length_1 ?_
  refine z_klen C hi rfl dJ9_length_4 ?_
  refine z_aload_n (i := 0) C dJ9_length_5 rfl rfl ?_
  refine z_callKe C hi rfl (ct_J9_coder_k D B i hi) q315 q316 q317 q94 q318 np_J9_coder (zr_ok rfl rfl) rfl rfl (Nat.le_of_ble_eq_true rfl) (⟨Nat.le_of_ble_eq_true rfl, Nat.le_of_ble_eq_true rfl⟩) dJ9_length_6 ?_
  refine z_ishr C dJ9_length_9 ?_
  exact z_ireturn C rfl (rfl) dJ9_length_10 (⟨zvs (by show nI _ >>> ((0 : Int32) &&& 31) = _; exact zsh0 _), rfl⟩) (Nat.le_of_ble_eq_true rfl) (Nat.le_of_ble_eq_true rfl)
theorem np_J9_checkIndex : znp yJ9_checkIndex 2 := ⟨by decide +kernel, by decide +kernel, by decide +kernel⟩
set_option maxHeartbeats 4000000 in
set_option maxRecDepth 100000 in
theorem ct_J15_charAt_k (D : zG) (B : Nat) {G : zH} (i j : Nat) (hi : i < 10) (hj : j < zSlen.getD i 0) : Ct D B yJ15_charAt (ws_ yJ15_charAt cJ15_charAt 2 (some .char)) (zr 2) [.ref (D.2.2.2 (20 + i)), .int (nI j)] G (zpe (some (.int (((zSbyt.getD i []).getD j 0 &&& 255).toUInt32 % 65536).toInt32)) G) zno := by
  refine ct_intro (by decide +kernel) (Nat.le_of_ble_eq_true rfl) ?_
  intro X C
  refine z_iload_n (i := 1) C dJ15_charAt_0 rfl rfl ?_
  refine z_aload_n (i := 0) C dJ15_charAt_1 rfl rfl ?_
  refine z_klen C hi rfl dJ15_charAt_2 ?_
  refine z_callSe C (ct_J9_checkIndex D B j (zSlen.getD i 0) hj (zSl31 i hi)) q2358 q814 q94 q815 np_J9_checkIndex (zr_ok rfl rfl) rfl rfl (Nat.le_of_ble_eq_true rfl) (⟨Nat.le_of_ble_eq_true rfl, Nat.le_of_ble_eq_true rfl⟩) dJ15_charAt_3 ?_
  refine z_aload_n (i := 0) C dJ15_charAt_6 rfl rfl ?_
  refine z_iload_n (i := 1) C dJ15_charAt_7 rfl rfl ?_
  refine z_kbyt C hi (vp_in_nI hj (zSl31 i hi)) dJ15_charAt_8 ?_
  rw [nI_clamp (Nat.lt_trans hj (zSl31 i hi))]
  refine z_sipush (v := 255) C dJ15_charAt_9 (by decide) ?_
  refine z_iand C dJ15_charAt_12 ?_
  refine z_i2c C dJ15_charAt_13 rfl ?_
  exact z_ireturn C rfl (by rw [pk_char]; exact (pk_charN (Nat.mod_lt _ (by decide))).1) dJ15_charAt_14 (⟨rfl, rfl⟩) (Nat.le_of_ble_eq_true rfl) (Nat.le_of_ble_eq_true rfl)
theorem np_J9_isLatin1 : znp yJ9_isLatin1 0 := ⟨by decide +kernel, by decide +kernel, by decide +kernel⟩
theorem np_J15_charAt : znp yJ15_charAt 2 := ⟨by decide +kernel, by decide +kernel, by decide +kernel⟩
theorem np_J10_charAt : znp yJ10_charAt 2 := ⟨by decide +kernel, by decide +kernel, by decide +kernel⟩
set_option maxHeartbeats 4000000 in
set_option maxRecDepth 100000 in
theorem ct_J9_charAt_k (D : zG) (B : Nat) {G : zH} (i j : Nat) (hi : i < 10) (hj : j < zSlen.getD i 0) : Ct D B yJ9_charAt (ws_ yJ9_charAt cJ9_charAt 2 (some .char)) (zr 4) [.ref (D.2.2.2 i), .int (nI j)] G (zpe (some (.int ((((zSbyt.getD i []).getD j 0 &&& 255).toUInt32 % 65536).toInt32))) G) zno := by
  refine ct_intro (by decide +kernel) (Nat.le_of_ble_eq_true rfl) ?_
  intro X C
  refine z_aload_n (i := 0) C dJ9_charAt_0 rfl rfl ?_
  refine z_callKe C hi rfl (ct_J9_isLatin1_k D B i hi) q858 q859 q860 q94 q861 np_J9_isLatin1 (zr_ok rfl rfl) rfl rfl (Nat.le_of_ble_eq_true rfl) (⟨Nat.le_of_ble_eq_true rfl, Nat.le_of_ble_eq_true rfl⟩) dJ9_charAt_1 ?_
  refine z_if_eq (tgt := 16) C dJ9_charAt_4 (by decide) (fun c_4 => ?_) (fun c_4 => ?_)
  · exact absurd c_4 (by decide)
  · refine z_aload_n (i := 0) C dJ9_charAt_7 rfl rfl ?_
    refine z_kval C hi q460 dJ9_charAt_8 ?_
    refine z_iload_n (i := 1) C dJ9_charAt_11 rfl rfl ?_
    refine z_callSe C (ct_J15_charAt_k D B i j hi hj) q2355 q2356 q101 q2357 np_J15_charAt (zr_ok rfl rfl) rfl rfl (Nat.le_of_ble_eq_true rfl) (⟨Nat.le_of_ble_eq_true rfl, Nat.le_of_ble_eq_true rfl⟩) dJ9_charAt_12 ?_
    exact z_ireturn C rfl (by rw [pk_char]; exact (pk_charN (Nat.mod_lt _ (by decide))).1) dJ9_charAt_15 (⟨rfl, rfl⟩) (Nat.le_of_ble_eq_true rfl) (Nat.le_of_ble_eq_true rfl)
