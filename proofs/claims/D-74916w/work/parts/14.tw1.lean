/-! the twin: small methods -/
abbrev zr (k : Nat) : Room := { frames := k, cells := 0, slots := 0, locals := 40 * k }
theorem zr_ok {rm rm' : Room} {n : Nat} (h1 : Nat.ble (rm'.frames + 1) rm.frames = true) (h2 : Nat.ble (8 + (n + 11) + rm'.locals) rm.locals = true) : zroom rm rm' n := ⟨Nat.le_of_ble_eq_true h1, Nat.le_of_ble_eq_true h2⟩
def zb (p : Prop) [Decidable p] : Int32 := if p then 1 else 0
theorem zb_t {p : Prop} [Decidable p] (h : p) : zb p = 1 := if_pos h
theorem zb_f {p : Prop} [Decidable p] (h : ¬ p) : zb p = 0 := if_neg h
theorem zb_nar (p : Prop) [Decidable p] : narrow .boolean (.int (zb p)) = .int (zb p) := by unfold zb; split <;> rfl
theorem zb_ne {p : Prop} [Decidable p] : ¬ zb p = 0 ↔ p := by unfold zb; split <;> simp [*]
theorem zb_eq {p : Prop} [Decidable p] : zb p = 0 ↔ ¬ p := by unfold zb; split <;> simp [*]
theorem zvs {a b : Int32} (h : a = b) : some (Value.int a) = some (Value.int b) := by rw [h]
theorem zvl {a b : Int64} (h : a = b) : some (Value.long a) = some (Value.long b) := by rw [h]
theorem nI_lit (n : Nat) : nI (OfNat.ofNat n : Nat) = (OfNat.ofNat n : Int32) := rfl
set_option maxHeartbeats 4000000 in
set_option maxRecDepth 100000 in
theorem ct_X4_isBetween (D : zG) (B : Nat) {G : zH} (x lo hi : Int32)  : Ct D B yX4_isBetween (ws_ yX4_isBetween cX4_isBetween 3 (some .boolean)) (zr 0) [.int x, .int lo, .int hi] G (zpe (some (.int (zb (lo ≤ x ∧ x ≤ hi)))) G) zno := by
  refine ct_intro (by decide +kernel) (Nat.le_of_ble_eq_true rfl) ?_
  intro X C
  refine z_iload_n (i := 0) C dX4_isBetween_0 rfl rfl ?_
  refine z_iload_n (i := 1) C dX4_isBetween_1 rfl rfl ?_
  refine z_icmp_lt (tgt := 14) C dX4_isBetween_2 (by decide) (fun c_2 => ?_) (fun c_2 => ?_)
  · refine z_iconst (v := 0) C dX4_isBetween_14 (by decide) ?_
    exact z_ireturn C rfl (rfl) dX4_isBetween_15 (⟨zvs (by first | (exact (zb_t (by clear C; (try simp only [zb_eq, zb_ne, Int32.lt_iff_toInt_lt, Int32.le_iff_toInt_le] at *); omega)).symm) | (exact (zb_f (by clear C; (try simp only [zb_eq, zb_ne, Int32.lt_iff_toInt_lt, Int32.le_iff_toInt_le] at *); omega)).symm)), rfl⟩) (Nat.le_of_ble_eq_true rfl) (Nat.le_of_ble_eq_true rfl)
  · refine z_iload_n (i := 0) C dX4_isBetween_5 rfl rfl ?_
    refine z_iload_n (i := 2) C dX4_isBetween_6 rfl rfl ?_
    refine z_icmp_gt (tgt := 14) C dX4_isBetween_7 (by decide) (fun c_7 => ?_) (fun c_7 => ?_)
    · refine z_iconst (v := 0) C dX4_isBetween_14 (by decide) ?_
      exact z_ireturn C rfl (rfl) dX4_isBetween_15 (⟨zvs (by first | (exact (zb_t (by clear C; (try simp only [zb_eq, zb_ne, Int32.lt_iff_toInt_lt, Int32.le_iff_toInt_le] at *); omega)).symm) | (exact (zb_f (by clear C; (try simp only [zb_eq, zb_ne, Int32.lt_iff_toInt_lt, Int32.le_iff_toInt_le] at *); omega)).symm)), rfl⟩) (Nat.le_of_ble_eq_true rfl) (Nat.le_of_ble_eq_true rfl)
    · refine z_iconst (v := 1) C dX4_isBetween_10 (by decide) ?_
      refine z_goto (tgt := 15) C dX4_isBetween_11 (by decide) ?_
      exact z_ireturn C rfl (rfl) dX4_isBetween_15 (⟨zvs (by first | (exact (zb_t (by clear C; (try simp only [zb_eq, zb_ne, Int32.lt_iff_toInt_lt, Int32.le_iff_toInt_le] at *); omega)).symm) | (exact (zb_f (by clear C; (try simp only [zb_eq, zb_ne, Int32.lt_iff_toInt_lt, Int32.le_iff_toInt_le] at *); omega)).symm)), rfl⟩) (Nat.le_of_ble_eq_true rfl) (Nat.le_of_ble_eq_true rfl)
theorem np_X4_isBetween : znp yX4_isBetween 3 := ⟨by decide +kernel, by decide +kernel, by decide +kernel⟩
set_option maxHeartbeats 4000000 in
set_option maxRecDepth 100000 in
theorem ct_X4_isTime (D : zG) (B : Nat) {G : zH} (x : Int32)  : Ct D B yX4_isTime (ws_ yX4_isTime cX4_isTime 1 (some .boolean)) (zr 1) [.int x] G (zpe (some (.int (zb (0 ≤ x ∧ x ≤ 255)))) G) zno := by
  refine ct_intro (by decide +kernel) (Nat.le_of_ble_eq_true rfl) ?_
  intro X C
  refine z_iload_n (i := 0) C dX4_isTime_0 rfl rfl ?_
  refine z_iconst (v := 0) C dX4_isTime_1 (by decide) ?_
  refine z_sipush (v := 255) C dX4_isTime_2 (by decide) ?_
  refine z_callSe C (ct_X4_isBetween D B _ _ _) q1934 q1935 q106 q1936 np_X4_isBetween (zr_ok rfl rfl) rfl rfl (Nat.le_of_ble_eq_true rfl) (⟨Nat.le_of_ble_eq_true rfl, Nat.le_of_ble_eq_true rfl⟩) dX4_isTime_5 ?_
  exact z_ireturn C rfl (zb_nar _) dX4_isTime_8 (⟨rfl, rfl⟩) (Nat.le_of_ble_eq_true rfl) (Nat.le_of_ble_eq_true rfl)
set_option maxHeartbeats 4000000 in
set_option maxRecDepth 100000 in
theorem ct_X4_isHeight (D : zG) (B : Nat) {G : zH} (x : Int32)  : Ct D B yX4_isHeight (ws_ yX4_isHeight cX4_isHeight 1 (some .boolean)) (zr 1) [.int x] G (zpe (some (.int (zb (0 ≤ x ∧ x ≤ 500)))) G) zno := by
  refine ct_intro (by decide +kernel) (Nat.le_of_ble_eq_true rfl) ?_
  intro X C
  refine z_iload_n (i := 0) C dX4_isHeight_0 rfl rfl ?_
  refine z_iconst (v := 0) C dX4_isHeight_1 (by decide) ?_
  refine z_sipush (v := 500) C dX4_isHeight_2 (by decide) ?_
  refine z_callSe C (ct_X4_isBetween D B _ _ _) q1934 q1935 q106 q1936 np_X4_isBetween (zr_ok rfl rfl) rfl rfl (Nat.le_of_ble_eq_true rfl) (⟨Nat.le_of_ble_eq_true rfl, Nat.le_of_ble_eq_true rfl⟩) dX4_isHeight_5 ?_
  exact z_ireturn C rfl (zb_nar _) dX4_isHeight_8 (⟨rfl, rfl⟩) (Nat.le_of_ble_eq_true rfl) (Nat.le_of_ble_eq_true rfl)
set_option maxHeartbeats 4000000 in
set_option maxRecDepth 100000 in
theorem ct_X4_isOffset (D : zG) (B : Nat) {G : zH} (x : Int32)  : Ct D B yX4_isOffset (ws_ yX4_isOffset cX4_isOffset 1 (some .boolean)) (zr 1) [.int x] G (zpe (some (.int (zb (-1000 ≤ x ∧ x ≤ 1000)))) G) zno := by
  refine ct_intro (by decide +kernel) (Nat.le_of_ble_eq_true rfl) ?_
  intro X C
  refine z_iload_n (i := 0) C dX4_isOffset_0 rfl rfl ?_
  refine z_sipush (v := (-1000)) C dX4_isOffset_1 (by decide) ?_
  refine z_sipush (v := 1000) C dX4_isOffset_4 (by decide) ?_
  refine z_callSe C (ct_X4_isBetween D B _ _ _) q1934 q1935 q106 q1936 np_X4_isBetween (zr_ok rfl rfl) rfl rfl (Nat.le_of_ble_eq_true rfl) (⟨Nat.le_of_ble_eq_true rfl, Nat.le_of_ble_eq_true rfl⟩) dX4_isOffset_7 ?_
  exact z_ireturn C rfl (zb_nar _) dX4_isOffset_10 (⟨rfl, rfl⟩) (Nat.le_of_ble_eq_true rfl) (Nat.le_of_ble_eq_true rfl)
set_option maxHeartbeats 4000000 in
set_option maxRecDepth 100000 in
theorem ct_X4_isValue (D : zG) (B : Nat) {G : zH} (x : Int32)  : Ct D B yX4_isValue (ws_ yX4_isValue cX4_isValue 1 (some .boolean)) (zr 1) [.int x] G (zpe (some (.int (zb (-99 ≤ x ∧ x ≤ 99)))) G) zno := by
  refine ct_intro (by decide +kernel) (Nat.le_of_ble_eq_true rfl) ?_
  intro X C
  refine z_iload_n (i := 0) C dX4_isValue_0 rfl rfl ?_
  refine z_bipush (v := (-99)) C dX4_isValue_1 (by decide) ?_
  refine z_bipush (v := 99) C dX4_isValue_3 (by decide) ?_
  refine z_callSe C (ct_X4_isBetween D B _ _ _) q1934 q1935 q106 q1936 np_X4_isBetween (zr_ok rfl rfl) rfl rfl (Nat.le_of_ble_eq_true rfl) (⟨Nat.le_of_ble_eq_true rfl, Nat.le_of_ble_eq_true rfl⟩) dX4_isValue_5 ?_
  exact z_ireturn C rfl (zb_nar _) dX4_isValue_8 (⟨rfl, rfl⟩) (Nat.le_of_ble_eq_true rfl) (Nat.le_of_ble_eq_true rfl)
set_option maxHeartbeats 4000000 in
set_option maxRecDepth 100000 in
theorem ct_X4_isPeriod (D : zG) (B : Nat) {G : zH} (x : Int32)  : Ct D B yX4_isPeriod (ws_ yX4_isPeriod cX4_isPeriod 1 (some .boolean)) (zr 1) [.int x] G (zpe (some (.int (zb (1 ≤ x ∧ x ≤ 64)))) G) zno := by
  refine ct_intro (by decide +kernel) (Nat.le_of_ble_eq_true rfl) ?_
  intro X C
  refine z_iload_n (i := 0) C dX4_isPeriod_0 rfl rfl ?_
  refine z_iconst (v := 1) C dX4_isPeriod_1 (by decide) ?_
  refine z_bipush (v := 64) C dX4_isPeriod_2 (by decide) ?_
  refine z_callSe C (ct_X4_isBetween D B _ _ _) q1934 q1935 q106 q1936 np_X4_isBetween (zr_ok rfl rfl) rfl rfl (Nat.le_of_ble_eq_true rfl) (⟨Nat.le_of_ble_eq_true rfl, Nat.le_of_ble_eq_true rfl⟩) dX4_isPeriod_4 ?_
  exact z_ireturn C rfl (zb_nar _) dX4_isPeriod_7 (⟨rfl, rfl⟩) (Nat.le_of_ble_eq_true rfl) (Nat.le_of_ble_eq_true rfl)
set_option maxHeartbeats 4000000 in
set_option maxRecDepth 100000 in
theorem ct_X4_isLetter (D : zG) (B : Nat) {G : zH} (x : Int32)  : Ct D B yX4_isLetter (ws_ yX4_isLetter cX4_isLetter 1 (some .boolean)) (zr 1) [.int x] G (zpe (some (.int (zb (97 ≤ x ∧ x ≤ 122)))) G) zno := by
  refine ct_intro (by decide +kernel) (Nat.le_of_ble_eq_true rfl) ?_
  intro X C
  refine z_iload_n (i := 0) C dX4_isLetter_0 rfl rfl ?_
  refine z_bipush (v := 97) C dX4_isLetter_1 (by decide) ?_
  refine z_bipush (v := 122) C dX4_isLetter_3 (by decide) ?_
  refine z_callSe C (ct_X4_isBetween D B _ _ _) q1934 q1935 q106 q1936 np_X4_isBetween (zr_ok rfl rfl) rfl rfl (Nat.le_of_ble_eq_true rfl) (⟨Nat.le_of_ble_eq_true rfl, Nat.le_of_ble_eq_true rfl⟩) dX4_isLetter_5 ?_
  exact z_ireturn C rfl (zb_nar _) dX4_isLetter_8 (⟨rfl, rfl⟩) (Nat.le_of_ble_eq_true rfl) (Nat.le_of_ble_eq_true rfl)
set_option maxHeartbeats 4000000 in
set_option maxRecDepth 100000 in
theorem ct_X4_isDigit (D : zG) (B : Nat) {G : zH} (x : Int32)  : Ct D B yX4_isDigit (ws_ yX4_isDigit cX4_isDigit 1 (some .boolean)) (zr 1) [.int x] G (zpe (some (.int (zb (48 ≤ x ∧ x ≤ 57)))) G) zno := by
  refine ct_intro (by decide +kernel) (Nat.le_of_ble_eq_true rfl) ?_
  intro X C
  refine z_iload_n (i := 0) C dX4_isDigit_0 rfl rfl ?_
  refine z_bipush (v := 48) C dX4_isDigit_1 (by decide) ?_
  refine z_bipush (v := 57) C dX4_isDigit_3 (by decide) ?_
  refine z_callSe C (ct_X4_isBetween D B _ _ _) q1934 q1935 q106 q1936 np_X4_isBetween (zr_ok rfl rfl) rfl rfl (Nat.le_of_ble_eq_true rfl) (⟨Nat.le_of_ble_eq_true rfl, Nat.le_of_ble_eq_true rfl⟩) dX4_isDigit_5 ?_
  exact z_ireturn C rfl (zb_nar _) dX4_isDigit_8 (⟨rfl, rfl⟩) (Nat.le_of_ble_eq_true rfl) (Nat.le_of_ble_eq_true rfl)
theorem np_X4_isTime : znp yX4_isTime 1 := ⟨by decide +kernel, by decide +kernel, by decide +kernel⟩
set_option maxHeartbeats 4000000 in
set_option maxRecDepth 100000 in
theorem ct_X4_isWindow (D : zG) (B : Nat) {G : zH} (f l : Int32)  : Ct D B yX4_isWindow (ws_ yX4_isWindow cX4_isWindow 2 (some .boolean)) (zr 2) [.int f, .int l] G (zpe (some (.int (zb ((0 ≤ f ∧ f ≤ 255) ∧ f ≤ l ∧ l ≤ 255)))) G) zno := by
  refine ct_intro (by decide +kernel) (Nat.le_of_ble_eq_true rfl) ?_
  intro X C
  refine z_iload_n (i := 0) C dX4_isWindow_0 rfl rfl ?_
  refine z_callSe C (ct_X4_isTime D B _) q2032 q2033 q106 q2034 np_X4_isTime (zr_ok rfl rfl) rfl rfl (Nat.le_of_ble_eq_true rfl) (⟨Nat.le_of_ble_eq_true rfl, Nat.le_of_ble_eq_true rfl⟩) dX4_isWindow_1 ?_
  refine z_if_eq (tgt := 22) C dX4_isWindow_4 (by decide) (fun c_4 => ?_) (fun c_4 => ?_)
  · refine z_iconst (v := 0) C dX4_isWindow_22 (by decide) ?_
    exact z_ireturn C rfl (rfl) dX4_isWindow_23 (⟨zvs (by first | (exact (zb_t (by clear C; (try simp only [zb_eq, zb_ne, Int32.lt_iff_toInt_lt, Int32.le_iff_toInt_le] at *); omega)).symm) | (exact (zb_f (by clear C; (try simp only [zb_eq, zb_ne, Int32.lt_iff_toInt_lt, Int32.le_iff_toInt_le] at *); omega)).symm)), rfl⟩) (Nat.le_of_ble_eq_true rfl) (Nat.le_of_ble_eq_true rfl)
  · refine z_iload_n (i := 1) C dX4_isWindow_7 rfl rfl ?_
    refine z_iload_n (i := 0) C dX4_isWindow_8 rfl rfl ?_
    refine z_sipush (v := 255) C dX4_isWindow_9 (by decide) ?_
    refine z_callSe C (ct_X4_isBetween D B _ _ _) q1934 q1935 q106 q1936 np_X4_isBetween (zr_ok rfl rfl) rfl rfl (Nat.le_of_ble_eq_true rfl) (⟨Nat.le_of_ble_eq_true rfl, Nat.le_of_ble_eq_true rfl⟩) dX4_isWindow_12 ?_
    refine z_if_eq (tgt := 22) C dX4_isWindow_15 (by decide) (fun c_15 => ?_) (fun c_15 => ?_)
    · refine z_iconst (v := 0) C dX4_isWindow_22 (by decide) ?_
      exact z_ireturn C rfl (rfl) dX4_isWindow_23 (⟨zvs (by first | (exact (zb_t (by clear C; (try simp only [zb_eq, zb_ne, Int32.lt_iff_toInt_lt, Int32.le_iff_toInt_le] at *); omega)).symm) | (exact (zb_f (by clear C; (try simp only [zb_eq, zb_ne, Int32.lt_iff_toInt_lt, Int32.le_iff_toInt_le] at *); omega)).symm)), rfl⟩) (Nat.le_of_ble_eq_true rfl) (Nat.le_of_ble_eq_true rfl)
    · refine z_iconst (v := 1) C dX4_isWindow_18 (by decide) ?_
      refine z_goto (tgt := 23) C dX4_isWindow_19 (by decide) ?_
      exact z_ireturn C rfl (rfl) dX4_isWindow_23 (⟨zvs (by first | (exact (zb_t (by clear C; (try simp only [zb_eq, zb_ne, Int32.lt_iff_toInt_lt, Int32.le_iff_toInt_le] at *); omega)).symm) | (exact (zb_f (by clear C; (try simp only [zb_eq, zb_ne, Int32.lt_iff_toInt_lt, Int32.le_iff_toInt_le] at *); omega)).symm)), rfl⟩) (Nat.le_of_ble_eq_true rfl) (Nat.le_of_ble_eq_true rfl)
set_option maxHeartbeats 4000000 in
set_option maxRecDepth 100000 in
theorem ct_X4_isVehiclePlace (D : zG) (B : Nat) {G : zH} (x s y : Int32)  : Ct D B yX4_isVehiclePlace (ws_ yX4_isVehiclePlace cX4_isVehiclePlace 3 (some .boolean)) (zr 1) [.int x, .int s, .int y] G (zpe (some (.int (zb ((-20000 ≤ x ∧ x ≤ 20000) ∧ (-50 ≤ s ∧ s ≤ 50) ∧ 100 ≤ y ∧ y ≤ 5000)))) G) zno := by
  refine ct_intro (by decide +kernel) (Nat.le_of_ble_eq_true rfl) ?_
  intro X C
  refine z_iload_n (i := 0) C dX4_isVehiclePlace_0 rfl rfl ?_
  refine z_sipush (v := (-20000)) C dX4_isVehiclePlace_1 (by decide) ?_
  refine z_sipush (v := 20000) C dX4_isVehiclePlace_4 (by decide) ?_
  refine z_callSe C (ct_X4_isBetween D B _ _ _) q1934 q1935 q106 q1936 np_X4_isBetween (zr_ok rfl rfl) rfl rfl (Nat.le_of_ble_eq_true rfl) (⟨Nat.le_of_ble_eq_true rfl, Nat.le_of_ble_eq_true rfl⟩) dX4_isVehiclePlace_7 ?_
  refine z_if_eq (tgt := 40) C dX4_isVehiclePlace_10 (by decide) (fun c_10 => ?_) (fun c_10 => ?_)
  · refine z_iconst (v := 0) C dX4_isVehiclePlace_40 (by decide) ?_
    exact z_ireturn C rfl (rfl) dX4_isVehiclePlace_41 (⟨zvs (by first | (exact (zb_t (by clear C; (try simp only [zb_eq, zb_ne, Int32.lt_iff_toInt_lt, Int32.le_iff_toInt_le] at *); omega)).symm) | (exact (zb_f (by clear C; (try simp only [zb_eq, zb_ne, Int32.lt_iff_toInt_lt, Int32.le_iff_toInt_le] at *); omega)).symm)), rfl⟩) (Nat.le_of_ble_eq_true rfl) (Nat.le_of_ble_eq_true rfl)
  · refine z_iload_n (i := 1) C dX4_isVehiclePlace_13 rfl rfl ?_
    refine z_bipush (v := (-50)) C dX4_isVehiclePlace_14 (by decide) ?_
    refine z_bipush (v := 50) C dX4_isVehiclePlace_16 (by decide) ?_
    refine z_callSe C (ct_X4_isBetween D B _ _ _) q1934 q1935 q106 q1936 np_X4_isBetween (zr_ok rfl rfl) rfl rfl (Nat.le_of_ble_eq_true rfl) (⟨Nat.le_of_ble_eq_true rfl, Nat.le_of_ble_eq_true rfl⟩) dX4_isVehiclePlace_18 ?_
    refine z_if_eq (tgt := 40) C dX4_isVehiclePlace_21 (by decide) (fun c_21 => ?_) (fun c_21 => ?_)
    · refine z_iconst (v := 0) C dX4_isVehiclePlace_40 (by decide) ?_
      exact z_ireturn C rfl (rfl) dX4_isVehiclePlace_41 (⟨zvs (by first | (exact (zb_t (by clear C; (try simp only [zb_eq, zb_ne, Int32.lt_iff_toInt_lt, Int32.le_iff_toInt_le] at *); omega)).symm) | (exact (zb_f (by clear C; (try simp only [zb_eq, zb_ne, Int32.lt_iff_toInt_lt, Int32.le_iff_toInt_le] at *); omega)).symm)), rfl⟩) (Nat.le_of_ble_eq_true rfl) (Nat.le_of_ble_eq_true rfl)
    · refine z_iload_n (i := 2) C dX4_isVehiclePlace_24 rfl rfl ?_
      refine z_bipush (v := 100) C dX4_isVehiclePlace_25 (by decide) ?_
      refine z_sipush (v := 5000) C dX4_isVehiclePlace_27 (by decide) ?_
      refine z_callSe C (ct_X4_isBetween D B _ _ _) q1934 q1935 q106 q1936 np_X4_isBetween (zr_ok rfl rfl) rfl rfl (Nat.le_of_ble_eq_true rfl) (⟨Nat.le_of_ble_eq_true rfl, Nat.le_of_ble_eq_true rfl⟩) dX4_isVehiclePlace_30 ?_
      refine z_if_eq (tgt := 40) C dX4_isVehiclePlace_33 (by decide) (fun c_33 => ?_) (fun c_33 => ?_)
      · refine z_iconst (v := 0) C dX4_isVehiclePlace_40 (by decide) ?_
        exact z_ireturn C rfl (rfl) dX4_isVehiclePlace_41 (⟨zvs (by first | (exact (zb_t (by clear C; (try simp only [zb_eq, zb_ne, Int32.lt_iff_toInt_lt, Int32.le_iff_toInt_le] at *); omega)).symm) | (exact (zb_f (by clear C; (try simp only [zb_eq, zb_ne, Int32.lt_iff_toInt_lt, Int32.le_iff_toInt_le] at *); omega)).symm)), rfl⟩) (Nat.le_of_ble_eq_true rfl) (Nat.le_of_ble_eq_true rfl)
      · refine z_iconst (v := 1) C dX4_isVehiclePlace_36 (by decide) ?_
        refine z_goto (tgt := 41) C dX4_isVehiclePlace_37 (by decide) ?_
        exact z_ireturn C rfl (rfl) dX4_isVehiclePlace_41 (⟨zvs (by first | (exact (zb_t (by clear C; (try simp only [zb_eq, zb_ne, Int32.lt_iff_toInt_lt, Int32.le_iff_toInt_le] at *); omega)).symm) | (exact (zb_f (by clear C; (try simp only [zb_eq, zb_ne, Int32.lt_iff_toInt_lt, Int32.le_iff_toInt_le] at *); omega)).symm)), rfl⟩) (Nat.le_of_ble_eq_true rfl) (Nat.le_of_ble_eq_true rfl)
theorem np_X4_isHeight : znp yX4_isHeight 1 := ⟨by decide +kernel, by decide +kernel, by decide +kernel⟩
set_option maxHeartbeats 4000000 in
set_option maxRecDepth 100000 in
theorem ct_X4_isMicrophonePlace (D : zG) (B : Nat) {G : zH} (x y z : Int32)  : Ct D B yX4_isMicrophonePlace (ws_ yX4_isMicrophonePlace cX4_isMicrophonePlace 3 (some .boolean)) (zr 2) [.int x, .int y, .int z] G (zpe (some (.int (zb ((-5000 ≤ x ∧ x ≤ 5000) ∧ (-100 ≤ y ∧ y ≤ 99) ∧ 0 ≤ z ∧ z ≤ 500)))) G) zno := by
  refine ct_intro (by decide +kernel) (Nat.le_of_ble_eq_true rfl) ?_
  intro X C
  refine z_iload_n (i := 0) C dX4_isMicrophonePlace_0 rfl rfl ?_
  refine z_sipush (v := (-5000)) C dX4_isMicrophonePlace_1 (by decide) ?_
  refine z_sipush (v := 5000) C dX4_isMicrophonePlace_4 (by decide) ?_
  refine z_callSe C (ct_X4_isBetween D B _ _ _) q1934 q1935 q106 q1936 np_X4_isBetween (zr_ok rfl rfl) rfl rfl (Nat.le_of_ble_eq_true rfl) (⟨Nat.le_of_ble_eq_true rfl, Nat.le_of_ble_eq_true rfl⟩) dX4_isMicrophonePlace_7 ?_
  refine z_if_eq (tgt := 35) C dX4_isMicrophonePlace_10 (by decide) (fun c_10 => ?_) (fun c_10 => ?_)
  · refine z_iconst (v := 0) C dX4_isMicrophonePlace_35 (by decide) ?_
    exact z_ireturn C rfl (rfl) dX4_isMicrophonePlace_36 (⟨zvs (by first | (exact (zb_t (by clear C; (try simp only [zb_eq, zb_ne, Int32.lt_iff_toInt_lt, Int32.le_iff_toInt_le] at *); omega)).symm) | (exact (zb_f (by clear C; (try simp only [zb_eq, zb_ne, Int32.lt_iff_toInt_lt, Int32.le_iff_toInt_le] at *); omega)).symm)), rfl⟩) (Nat.le_of_ble_eq_true rfl) (Nat.le_of_ble_eq_true rfl)
  · refine z_iload_n (i := 1) C dX4_isMicrophonePlace_13 rfl rfl ?_
    refine z_bipush (v := (-100)) C dX4_isMicrophonePlace_14 (by decide) ?_
    refine z_bipush (v := 99) C dX4_isMicrophonePlace_16 (by decide) ?_
    refine z_callSe C (ct_X4_isBetween D B _ _ _) q1934 q1935 q106 q1936 np_X4_isBetween (zr_ok rfl rfl) rfl rfl (Nat.le_of_ble_eq_true rfl) (⟨Nat.le_of_ble_eq_true rfl, Nat.le_of_ble_eq_true rfl⟩) dX4_isMicrophonePlace_18 ?_
    refine z_if_eq (tgt := 35) C dX4_isMicrophonePlace_21 (by decide) (fun c_21 => ?_) (fun c_21 => ?_)
    · refine z_iconst (v := 0) C dX4_isMicrophonePlace_35 (by decide) ?_
      exact z_ireturn C rfl (rfl) dX4_isMicrophonePlace_36 (⟨zvs (by first | (exact (zb_t (by clear C; (try simp only [zb_eq, zb_ne, Int32.lt_iff_toInt_lt, Int32.le_iff_toInt_le] at *); omega)).symm) | (exact (zb_f (by clear C; (try simp only [zb_eq, zb_ne, Int32.lt_iff_toInt_lt, Int32.le_iff_toInt_le] at *); omega)).symm)), rfl⟩) (Nat.le_of_ble_eq_true rfl) (Nat.le_of_ble_eq_true rfl)
    · refine z_iload_n (i := 2) C dX4_isMicrophonePlace_24 rfl rfl ?_
      refine z_callSe C (ct_X4_isHeight D B _) q1979 q1980 q106 q1981 np_X4_isHeight (zr_ok rfl rfl) rfl rfl (Nat.le_of_ble_eq_true rfl) (⟨Nat.le_of_ble_eq_true rfl, Nat.le_of_ble_eq_true rfl⟩) dX4_isMicrophonePlace_25 ?_
      refine z_if_eq (tgt := 35) C dX4_isMicrophonePlace_28 (by decide) (fun c_28 => ?_) (fun c_28 => ?_)
      · refine z_iconst (v := 0) C dX4_isMicrophonePlace_35 (by decide) ?_
        exact z_ireturn C rfl (rfl) dX4_isMicrophonePlace_36 (⟨zvs (by first | (exact (zb_t (by clear C; (try simp only [zb_eq, zb_ne, Int32.lt_iff_toInt_lt, Int32.le_iff_toInt_le] at *); omega)).symm) | (exact (zb_f (by clear C; (try simp only [zb_eq, zb_ne, Int32.lt_iff_toInt_lt, Int32.le_iff_toInt_le] at *); omega)).symm)), rfl⟩) (Nat.le_of_ble_eq_true rfl) (Nat.le_of_ble_eq_true rfl)
      · refine z_iconst (v := 1) C dX4_isMicrophonePlace_31 (by decide) ?_
        refine z_goto (tgt := 36) C dX4_isMicrophonePlace_32 (by decide) ?_
        exact z_ireturn C rfl (rfl) dX4_isMicrophonePlace_36 (⟨zvs (by first | (exact (zb_t (by clear C; (try simp only [zb_eq, zb_ne, Int32.lt_iff_toInt_lt, Int32.le_iff_toInt_le] at *); omega)).symm) | (exact (zb_f (by clear C; (try simp only [zb_eq, zb_ne, Int32.lt_iff_toInt_lt, Int32.le_iff_toInt_le] at *); omega)).symm)), rfl⟩) (Nat.le_of_ble_eq_true rfl) (Nat.le_of_ble_eq_true rfl)
set_option maxHeartbeats 4000000 in
set_option maxRecDepth 100000 in
theorem ct_X4_isVehicle (D : zG) (B : Nat) {b : zH} {t : tA} {st : Nat → Int32} {bk : Nat → Int32} {sv : Nat → Int32} {iz : Nat → Int32} {th : Int32} {di : Nat → Int32} {re : Nat → Int32} {si : Nat → Int32} {pa : Nat → Int32} {fo : Nat → Int64} {te : Nat → Int32} {tl : Int32} {po : Int32} {ts : Int32} {to : Int32} {le : Int32} {nu : Int32} {ec : Int32} {ep : Int32} {wo : Int64} (x : Int32)  : Ct D B yX4_isVehicle (ws_ yX4_isVehicle cX4_isVehicle 2 (some .boolean)) (zr 1) [.ref (t.1 0), .int x] (tw b t st bk sv iz th di re si pa fo te tl po ts to le nu ec ep wo) (zpe (some (.int (zb (0 ≤ x ∧ x ≤ st 6 - 1)))) (tw b t st bk sv iz th di re si pa fo te tl po ts to le nu ec ep wo)) zno := by
  refine ct_intro (by decide +kernel) (Nat.le_of_ble_eq_true rfl) ?_
  intro X C
  refine z_iload_n (i := 1) C dX4_isVehicle_0 rfl rfl ?_
  refine z_iconst (v := 0) C dX4_isVehicle_1 (by decide) ?_
  refine z_aload_n (i := 0) C dX4_isVehicle_2 rfl rfl ?_
  refine tg_state C q1864 dX4_isVehicle_3 ?_
  refine z_bipush (v := 6) C dX4_isVehicle_6 (by decide) ?_
  refine tl_state C (⟨(rfl : (6 : Int32) = nI 6), by decide⟩) dX4_isVehicle_8 ?_
  refine z_iconst (v := 1) C dX4_isVehicle_9 (by decide) ?_
  refine z_isub C dX4_isVehicle_10 ?_
  refine z_callSe C (ct_X4_isBetween D B _ _ _) q1934 q1935 q106 q1936 np_X4_isBetween (zr_ok rfl rfl) rfl rfl (Nat.le_of_ble_eq_true rfl) (⟨Nat.le_of_ble_eq_true rfl, Nat.le_of_ble_eq_true rfl⟩) dX4_isVehicle_11 ?_
  exact z_ireturn C rfl (zb_nar _) dX4_isVehicle_14 (⟨rfl, rfl⟩) (Nat.le_of_ble_eq_true rfl) (Nat.le_of_ble_eq_true rfl)
set_option maxHeartbeats 4000000 in
set_option maxRecDepth 100000 in
theorem ct_X4_isSource (D : zG) (B : Nat) {b : zH} {t : tA} {st : Nat → Int32} {bk : Nat → Int32} {sv : Nat → Int32} {iz : Nat → Int32} {th : Int32} {di : Nat → Int32} {re : Nat → Int32} {si : Nat → Int32} {pa : Nat → Int32} {fo : Nat → Int64} {te : Nat → Int32} {tl : Int32} {po : Int32} {ts : Int32} {to : Int32} {le : Int32} {nu : Int32} {ec : Int32} {ep : Int32} {wo : Int64} (x : Int32)  : Ct D B yX4_isSource (ws_ yX4_isSource cX4_isSource 2 (some .boolean)) (zr 1) [.ref (t.1 0), .int x] (tw b t st bk sv iz th di re si pa fo te tl po ts to le nu ec ep wo) (zpe (some (.int (zb (0 ≤ x ∧ x ≤ st 7 - 1)))) (tw b t st bk sv iz th di re si pa fo te tl po ts to le nu ec ep wo)) zno := by
  refine ct_intro (by decide +kernel) (Nat.le_of_ble_eq_true rfl) ?_
  intro X C
  refine z_iload_n (i := 1) C dX4_isSource_0 rfl rfl ?_
  refine z_iconst (v := 0) C dX4_isSource_1 (by decide) ?_
  refine z_aload_n (i := 0) C dX4_isSource_2 rfl rfl ?_
  refine tg_state C q1864 dX4_isSource_3 ?_
  refine z_bipush (v := 7) C dX4_isSource_6 (by decide) ?_
  refine tl_state C (⟨(rfl : (7 : Int32) = nI 7), by decide⟩) dX4_isSource_8 ?_
  refine z_iconst (v := 1) C dX4_isSource_9 (by decide) ?_
  refine z_isub C dX4_isSource_10 ?_
  refine z_callSe C (ct_X4_isBetween D B _ _ _) q1934 q1935 q106 q1936 np_X4_isBetween (zr_ok rfl rfl) rfl rfl (Nat.le_of_ble_eq_true rfl) (⟨Nat.le_of_ble_eq_true rfl, Nat.le_of_ble_eq_true rfl⟩) dX4_isSource_11 ?_
  exact z_ireturn C rfl (zb_nar _) dX4_isSource_14 (⟨rfl, rfl⟩) (Nat.le_of_ble_eq_true rfl) (Nat.le_of_ble_eq_true rfl)
set_option maxHeartbeats 4000000 in
set_option maxRecDepth 100000 in
theorem ct_X4_isMicrophone (D : zG) (B : Nat) {b : zH} {t : tA} {st : Nat → Int32} {bk : Nat → Int32} {sv : Nat → Int32} {iz : Nat → Int32} {th : Int32} {di : Nat → Int32} {re : Nat → Int32} {si : Nat → Int32} {pa : Nat → Int32} {fo : Nat → Int64} {te : Nat → Int32} {tl : Int32} {po : Int32} {ts : Int32} {to : Int32} {le : Int32} {nu : Int32} {ec : Int32} {ep : Int32} {wo : Int64} (x : Int32)  : Ct D B yX4_isMicrophone (ws_ yX4_isMicrophone cX4_isMicrophone 2 (some .boolean)) (zr 1) [.ref (t.1 0), .int x] (tw b t st bk sv iz th di re si pa fo te tl po ts to le nu ec ep wo) (zpe (some (.int (zb (0 ≤ x ∧ x ≤ st 8 - 1)))) (tw b t st bk sv iz th di re si pa fo te tl po ts to le nu ec ep wo)) zno := by
  refine ct_intro (by decide +kernel) (Nat.le_of_ble_eq_true rfl) ?_
  intro X C
  refine z_iload_n (i := 1) C dX4_isMicrophone_0 rfl rfl ?_
  refine z_iconst (v := 0) C dX4_isMicrophone_1 (by decide) ?_
  refine z_aload_n (i := 0) C dX4_isMicrophone_2 rfl rfl ?_
  refine tg_state C q1864 dX4_isMicrophone_3 ?_
  refine z_bipush (v := 8) C dX4_isMicrophone_6 (by decide) ?_
  refine tl_state C (⟨(rfl : (8 : Int32) = nI 8), by decide⟩) dX4_isMicrophone_8 ?_
  refine z_iconst (v := 1) C dX4_isMicrophone_9 (by decide) ?_
  refine z_isub C dX4_isMicrophone_10 ?_
  refine z_callSe C (ct_X4_isBetween D B _ _ _) q1934 q1935 q106 q1936 np_X4_isBetween (zr_ok rfl rfl) rfl rfl (Nat.le_of_ble_eq_true rfl) (⟨Nat.le_of_ble_eq_true rfl, Nat.le_of_ble_eq_true rfl⟩) dX4_isMicrophone_11 ?_
  exact z_ireturn C rfl (zb_nar _) dX4_isMicrophone_14 (⟨rfl, rfl⟩) (Nat.le_of_ble_eq_true rfl) (Nat.le_of_ble_eq_true rfl)
set_option maxHeartbeats 4000000 in
set_option maxRecDepth 100000 in
theorem ct_X4_fail (D : zG) (B : Nat) {b : zH} {t : tA} {st : Nat → Int32} {bk : Nat → Int32} {sv : Nat → Int32} {iz : Nat → Int32} {th : Int32} {di : Nat → Int32} {re : Nat → Int32} {si : Nat → Int32} {pa : Nat → Int32} {fo : Nat → Int64} {te : Nat → Int32} {tl : Int32} {po : Int32} {ts : Int32} {to : Int32} {le : Int32} {nu : Int32} {ec : Int32} {ep : Int32} {wo : Int64} (k : Int32)  : Ct D B yX4_fail (ws_ yX4_fail cX4_fail 2 (some .int)) (zr 0) [.ref (t.1 0), .int k] (tw b t st bk sv iz th di re si pa fo te tl po ts to le nu ec ep wo) (zpe (some (.int 0)) (tw b t st bk sv iz k di re si pa fo te tl po ts to le nu ec ep wo)) zno := by
  refine ct_intro (by decide +kernel) (Nat.le_of_ble_eq_true rfl) ?_
  intro X C
  refine z_aload_n (i := 0) C dX4_fail_0 rfl rfl ?_
  refine z_iload_n (i := 1) C dX4_fail_1 rfl rfl ?_
  refine tp_thrown C q1868 dX4_fail_2 ?_
  refine z_iconst (v := 0) C dX4_fail_5 (by decide) ?_
  exact z_ireturn C rfl (rfl) dX4_fail_6 (⟨rfl, rfl⟩) (Nat.le_of_ble_eq_true rfl) (Nat.le_of_ble_eq_true rfl)
set_option maxHeartbeats 4000000 in
set_option maxRecDepth 100000 in
theorem ct_X4_thrown (D : zG) (B : Nat) {b : zH} {t : tA} {st : Nat → Int32} {bk : Nat → Int32} {sv : Nat → Int32} {iz : Nat → Int32} {th : Int32} {di : Nat → Int32} {re : Nat → Int32} {si : Nat → Int32} {pa : Nat → Int32} {fo : Nat → Int64} {te : Nat → Int32} {tl : Int32} {po : Int32} {ts : Int32} {to : Int32} {le : Int32} {nu : Int32} {ec : Int32} {ep : Int32} {wo : Int64}   : Ct D B yX4_thrown (ws_ yX4_thrown cX4_thrown 1 (some .int)) (zr 0) [.ref (t.1 0)] (tw b t st bk sv iz th di re si pa fo te tl po ts to le nu ec ep wo) (zpe (some (.int th)) (tw b t st bk sv iz th di re si pa fo te tl po ts to le nu ec ep wo)) zno := by
  refine ct_intro (by decide +kernel) (Nat.le_of_ble_eq_true rfl) ?_
  intro X C
  refine z_aload_n (i := 0) C dX4_thrown_0 rfl rfl ?_
  refine tg_thrown C q1868 dX4_thrown_1 ?_
  exact z_ireturn C rfl (rfl) dX4_thrown_4 (⟨rfl, rfl⟩) (Nat.le_of_ble_eq_true rfl) (Nat.le_of_ble_eq_true rfl)
set_option maxHeartbeats 4000000 in
set_option maxRecDepth 100000 in
theorem ct_X4_replace (D : zG) (B : Nat) {b : zH} {t : tA} {st : Nat → Int32} {bk : Nat → Int32} {sv : Nat → Int32} {iz : Nat → Int32} {th : Int32} {di : Nat → Int32} {re : Nat → Int32} {si : Nat → Int32} {pa : Nat → Int32} {fo : Nat → Int64} {te : Nat → Int32} {tl : Int32} {po : Int32} {ts : Int32} {to : Int32} {le : Int32} {nu : Int32} {ec : Int32} {ep : Int32} {wo : Int64} (p : Nat) (x : Int32) (hp : p < 2234) : Ct D B yX4_replace (ws_ yX4_replace cX4_replace 4 (some .int)) (zr 0) [.ref (t.1 0), .int (nI p), .int x] (tw b t st bk sv iz th di re si pa fo te tl po ts to le nu ec ep wo) (zpe (some (.int (st p))) (tw b t (upd st p x) bk sv iz th di re si pa fo te tl po ts to le nu ec ep wo)) zno := by
  refine ct_intro (by decide +kernel) (Nat.le_of_ble_eq_true rfl) ?_
  intro X C
  refine z_aload_n (i := 0) C dX4_replace_0 rfl rfl ?_
  refine tg_state C q1864 dX4_replace_1 ?_
  refine z_iload_n (i := 1) C dX4_replace_4 rfl rfl ?_
  refine tl_state C (⟨rfl, hp⟩) dX4_replace_5 ?_
  refine z_istore_n (i := 3) C dX4_replace_6 rfl (Nat.le_of_ble_eq_true rfl) rfl ?_
  refine z_aload_n (i := 0) C dX4_replace_7 rfl rfl ?_
  refine tg_state C q1864 dX4_replace_8 ?_
  refine z_iload_n (i := 1) C dX4_replace_11 rfl rfl ?_
  refine z_iload_n (i := 2) C dX4_replace_12 rfl rfl ?_
  refine ts_state C (⟨rfl, hp⟩) dX4_replace_13 ?_
  refine z_iload_n (i := 3) C dX4_replace_14 rfl rfl ?_
  exact z_ireturn C rfl (rfl) dX4_replace_15 (⟨rfl, rfl⟩) (Nat.le_of_ble_eq_true rfl) (Nat.le_of_ble_eq_true rfl)
