/-! pure: beams, powers, periods -/
theorem zpff_step {S d r sx sy : Nat → Int32} {m i : Nat} (hi : i < 256) (h2 : ∀ j, j < i → sx j = zpff S d r m i j) (hne : ∀ j, ¬ j = i → sy j = sx j) (hv : sy i = zp1 S d r m sx i) : ∀ j, j < i + 1 → sy j = zpff S d r m (i + 1) j := by
  intro j hj
  show sy j = upd (zpff S d r m i) i (zp1 S d r m (zpff S d r m i) i) j
  unfold upd
  by_cases e : j = i
  · rw [if_pos e, e, hv]
    exact zp1_congr hi h2 (fun _ _ => rfl) (fun _ _ => rfl)
  · rw [if_neg e, hne j e]
    exact h2 j (by omega)
noncomputable def zbs (S : Nat → Int32) (nm : Nat) (d : Int32) : Nat → Int32 := zbeam S (fun m => zpa S m d) nm
def zbd (S : Nat → Int32) (nm : Nat) (d : Int32) : Nat → Int32 := zbeam S (fun m j => zrec S m (nI j + zsh S m d)) nm
/-- the first of the greatest, by steps from -100 on -/
def zbD (w : Int32 → Int64) (sp : Nat) : Nat → Int32 × Int64
  | 0 => (0, -1)
  | k + 1 => if (zbD w sp k).2 < w (nI (k * sp) - 100) then (nI (k * sp) - 100, w (nI (k * sp) - 100)) else zbD w sp k
theorem zdr_1 (k sp : Nat) : nI (k * sp) - 100 + nI sp = nI ((k + 1) * sp) - 100 := by
  rw [Nat.succ_mul, ← nI_add]
  grind
theorem zdr_in {k sp : Nat} (h : k * sp ≤ 300) : zin (nI (k * sp) - 100) (-100) 200 := by
  have := zin_sub (zin_n (k := k * sp) (by omega)) (zin_n (k := 100) (by decide)) (by omega) (by omega)
  unfold zin at *
  have e : (nI (k * sp) - 100).toInt = (k * sp : Nat) - 100 := by
    rw [Int32.toInt_sub, nI_toInt (by omega), show (100 : Int32).toInt = 100 from by decide, zbm (by omega) (by omega)]
  rw [e]
  omega
theorem zdr_le {k sp : Nat} (h : k * sp ≤ 300) : (100 : Int32) < nI (k * sp) - 100 ↔ 200 < k * sp := by
  rw [Int32.lt_iff_toInt_lt, Int32.toInt_sub, nI_toInt (by omega), show (100 : Int32).toInt = 100 from by decide, zbm (by omega) (by omega)]
  omega
/-- the sum of values whose index has a remainder -/
def zfold (f : Nat → Int32) (p a n k : Nat) : Int64 := zsumL (fun t => if (t - a) % p = k then (f t).toInt64 else 0) a n
def zpw (f : Nat → Int32) (p a b : Nat) : Int64 := zsumL (fun k => zfold f p a (b + 1 - a) k * zfold f p a (b + 1 - a) k) 0 p
def zst (f : Nat → Int32) (p a b : Nat) : Int64 := zpw f p a b * lN p / lN (b + 1 - a)
def zbP (w : Nat → Int64) : Nat → Nat
  | 0 => 1
  | n + 1 => if w (zbP w n) < w (n + 2) then n + 2 else zbP w n
theorem zbP_in (w : Nat → Int64) : ∀ n, 1 ≤ zbP w n ∧ zbP w n ≤ n + 1
  | 0 => ⟨Nat.le_refl _, Nat.le_refl _⟩
  | n + 1 => by
    have := zbP_in w n
    unfold zbP
    split <;> omega
theorem zbeam_congr {S : Nat → Int32} {p p' : Nat → Nat → Int32} {t : Nat} : ∀ n, (∀ m, m < n → p' m t = p m t) → zbeam S p' n t = zbeam S p n t
  | 0, _ => rfl
  | n + 1, h => by
    show zbeam S p' n t + _ * p' n t = zbeam S p n t + _ * p n t
    rw [zbeam_congr n (fun m hm => h m (by omega)), h n (by omega)]
theorem zfold_congr {f g : Nat → Int32} {p a n k : Nat} (h : ∀ j, j < a + n → f j = g j) : zfold f p a n k = zfold g p a n k := by
  unfold zfold
  exact zsumL_congr _ (fun i h1 h2 => by rw [h i h2])
theorem zpw_congr {f g : Nat → Int32} {p a b : Nat} (hab : a ≤ b + 1) (h : ∀ j, j ≤ b → f j = g j) : zpw f p a b = zpw g p a b := by
  unfold zpw
  exact zsumL_congr _ (fun i h1 h2 => by rw [zfold_congr (fun j hj => h j (by omega))])
theorem zst_congr {f g : Nat → Int32} {p a b : Nat} (hab : a ≤ b + 1) (h : ∀ j, j ≤ b → f j = g j) : zst f p a b = zst g p a b := by
  unfold zst
  rw [zpw_congr hab h]
theorem zfold_1 (f : Nat → Int32) (p : Nat) {a i : Nat} (h : a ≤ i) (k : Nat) : zfold f p a (i + 1 - a) k = zfold f p a (i - a) k + (if (i - a) % p = k then (f i).toInt64 else 0) := by
  unfold zfold
  rw [zsumL_1 _ h]
