/-! pure: the recording, measures -/
def zabI (x : Int32) : Int32 := if 0 ≤ x then x else -x
/-- the time of the least distance along the track, and that distance -/
def zptA (S : Nat → Int32) (v m : Nat) : Nat → Int32 × Int32
  | 0 => (0, 0)
  | n + 1 => if n = 0 ∨ zabI (zpx S (some v) 0 (nI n) - S (154 + 4 * m + 0)) < (zptA S v m n).2 then (nI n, zabI (zpx S (some v) 0 (nI n) - S (154 + 4 * m + 0))) else zptA S v m n
/-- the amount of what is heard -/
def zam (S : Nat → Int32) (v d r : Int32) : Int32 :=
  if r = 0 then (if S 2 = 1 then v * 1000 / (1000 + d) else v) else (if S 2 = 1 then v * 1000 / (1000 + d) else v) * S 1 / 100
/-- how many times' marks have come (where they come in order) -/
def zlc (mk : Nat → Int32) (b : Int32) : Nat → Nat
  | 0 => 0
  | n + 1 => if mk n ≤ b then n + 1 else zlc mk b n
def ztm : Nat → Int32
  | 0 => -1
  | k + 1 => nI k
theorem zlat_zlc (mk : Nat → Int32) (b : Int32) : ∀ n, zlat mk b n = ztm (zlc mk b n)
  | 0 => rfl
  | n + 1 => by
    unfold zlat zlc
    split
    · rfl
    · exact zlat_zlc mk b n
theorem zlc_le (mk : Nat → Int32) (b : Int32) : ∀ n, zlc mk b n ≤ n
  | 0 => Nat.le_refl _
  | n + 1 => by
    unfold zlc
    split
    · exact Nat.le_refl _
    · exact Nat.le_succ_of_le (zlc_le mk b n)
theorem zlc_eq {mk : Nat → Int32} {b : Int32} {k : Nat} : ∀ n, k ≤ n → (k = 0 ∨ mk (k - 1) ≤ b) → (∀ i, k ≤ i → i < n → ¬ mk i ≤ b) → zlc mk b n = k
  | 0, h, _, _ => by simp [zlc]; omega
  | n + 1, h, h1, h2 => by
    unfold zlc
    by_cases e : k = n + 1
    · subst e
      rcases h1 with q | q
      · omega
      · rw [Nat.add_sub_cancel] at q
        rw [if_pos q]
    · rw [if_neg (h2 n (by omega) (by omega))]
      exact zlc_eq n (by omega) h1 (fun i g1 g2 => h2 i g1 (by omega))
theorem zlc_congr {f g : Nat → Int32} {b : Int32} : ∀ n, (∀ i, i < n → f i = g i) → zlc f b n = zlc g b n
  | 0, _ => rfl
  | n + 1, h => by
    unfold zlc
    rw [h n (by omega), zlc_congr n (fun i hi => h i (by omega))]
theorem ztm_1 (k : Nat) : ztm k + 1 = nI k := by
  cases k with
  | zero => decide
  | succ k => exact nI_1 k
theorem ztm_m1 {k : Nat} (hk : k < 2 ^ 31) : ztm k = -1 ↔ k = 0 := by
  cases k with
  | zero => simp [ztm]
  | succ k =>
    constructor
    · intro h; exact absurd h (nI_nm1 (by omega))
    · intro h; omega
/-- marks that come in order -/
def zmono (mk : Nat → Int32) : Prop := ∀ i j, i ≤ j → j < 256 → mk i ≤ mk j
theorem zlc_spec (mk : Nat → Int32) (b : Int32) : ∀ n, zlc mk b n = 0 ∨ mk (zlc mk b n - 1) ≤ b
  | 0 => Or.inl rfl
  | n + 1 => by
    unfold zlc
    split
    · next h => right; rw [Nat.add_sub_cancel]; exact h
    · exact zlc_spec mk b n
theorem zlc_stop {mk : Nat → Int32} {b : Int32} {k : Nat} (hm : zmono mk) (hk : k ≤ 256) (h1 : k = 0 ∨ mk (k - 1) ≤ b) (h2 : k = 256 ∨ ¬ mk k ≤ b) : zlc mk b 256 = k := by
  refine zlc_eq 256 hk h1 (fun i g1 g2 => ?_)
  rcases h2 with q | q
  · omega
  · exact fun e => q (Int32.le_trans (hm k i g1 g2) e)
/-- the marks of a source's path -/
noncomputable def zsd (S : Nat → Int32) (m s : Nat) (r : Int32) (j : Nat) : Int32 := if r = 0 then zdd S m (some (zsv S s)) (S (28 + 21 * s + 1)) (S (16 + 3 * zsv S s + 2)) (S (28 + 21 * s + 2)) j else zdd S m (some (zsv S s)) (S (28 + 21 * s + 1)) (S (16 + 3 * zsv S s + 2)) (-S (28 + 21 * s + 2)) j
/-- what a microphone hears of a source at a sample, distances being d -/
def zhr (S : Nat → Int32) (d : Nat → Int32) (s : Nat) (r : Int32) (n : Nat) : Int32 :=
  match zlc (fun j => nI j * S 0 + d j) (nI n * S 0) 256 with
  | 0 => 0
  | k + 1 => zam S (zem S s k) (d k) r
theorem zem_congr {S S' : Nat → Int32} (h : ∀ j, j < 186 → S' j = S j) {s j n : Nat} (hs : s < 6) (hn : S (28 + 21 * s + 4) = nI n) (h0 : 0 < n) (h1 : n ≤ 16) : zem S' s j = zem S s j := by
  unfold zem
  have hm := Nat.mod_lt j h0
  rw [h (28 + 21 * s + 4) (by omega), hn, nI_clamp (by omega), h _ (by omega), h _ (by omega)]
theorem zam_congr {S S' : Nat → Int32} (h : ∀ j, j < 186 → S' j = S j) (v d r : Int32) : zam S' v d r = zam S v d r := by
  unfold zam
  rw [h 2 (by omega), h 1 (by omega)]
/-- the next number drawn -/
def zrn (r : Nat) : Nat := (r * 1103515245 + 12345) % 2147483648
def zrs (r : Nat) : Nat → Nat
  | 0 => r
  | n + 1 => zrn (zrs r n)
theorem zrn_lt (r : Nat) : zrn r < 2147483648 := Nat.mod_lt _ (by decide)
theorem zrs_lt {r : Nat} (h : r < 2147483648) : ∀ n, zrs r n < 2147483648
  | 0 => h
  | n + 1 => zrn_lt _
/-- the noise at a sample, level lv, r drawn last ahead of the record -/
def zns (lv r n : Nat) : Int32 := if lv = 0 then 0 else nI (zrs r (n + 1) / 65536 % (2 * lv + 1)) - nI lv
/-- what a microphone hears of the first s sources -/
noncomputable def zrw (S : Nat → Int32) (m : Nat) : Nat → Nat → Int32
  | 0 => fun _ => 0
  | s + 1 => fun n => zrw S m s n + zhr S (zsd S m s 0) s 0 n + zhr S (zsd S m s 1) s 1 n
/-- a sample of a record; 0 where there is none -/
def zrec (S : Nat → Int32) (m : Nat) (x : Int32) : Int32 := if 0 ≤ x ∧ x ≤ 255 then S (186 + 256 * m + x.toNatClampNeg) else 0
def zen (f : Nat → Int32) (a b : Nat) : Int64 := zsumL (fun t => (f t).toInt64 * (f t).toInt64) a (b + 1 - a)
def zsm (f : Nat → Int32) (a b : Nat) : Int64 := zsumL (fun t => (f t).toInt64) a (b + 1 - a)
def zmxI (x y : Int32) : Int32 := if x < y then y else x
def zpk (f : Nat → Int32) (a : Nat) : Nat → Int32
  | 0 => 0
  | n + 1 => zmxI (zpk f a n) (zabI (f (a + n)))
def zsg (x : Int32) : Int32 := if 0 < x then 1 else if x < 0 then -1 else 0
def zcr (f : Nat → Int32) (a : Nat) : Nat → Int32
  | 0 => 0
  | n + 1 => zcr f a n + (if zsg (f (a + 1 + n)) = zsg (f (a + n)) then 0 else 1)
/-- binary digits -/
def zdg (n : Nat) : Nat := if n = 0 then 0 else zdg (n / 2) + 1
termination_by n
decreasing_by omega
theorem zdg_0 : zdg 0 = 0 := by rw [zdg]; rfl
theorem zdg_pos {n : Nat} (h : 0 < n) : zdg n = zdg (n / 2) + 1 := by
  conv => lhs; rw [zdg]
  rw [if_neg (by omega)]
/-- the number from -n to n with the greatest worth -/
def zba (w : Int32 → Int64) : Nat → Int32
  | 0 => 0
  | n + 1 =>
    if w (if w (zba w n) < w (-nI (n + 1)) then -nI (n + 1) else zba w n) < w (nI (n + 1)) then nI (n + 1) else if w (zba w n) < w (-nI (n + 1)) then -nI (n + 1) else zba w n
/-- correlation -/
def zco (S : Nat → Int32) (m o : Nat) (lag : Int32) : Int64 := zsumL (fun n => if 0 ≤ nI n + lag ∧ nI n + lag ≤ 255 then (zrec S m (nI n)).toInt64 * (zrec S o (nI n + lag)).toInt64 else 0) 0 256
theorem zsumL_1 (g : Nat → Int64) {a i : Nat} (h : a ≤ i) : zsumL g a (i + 1 - a) = zsumL g a (i - a) + g i := by
  rw [show i + 1 - a = (i - a) + 1 by omega]
  show zsumL g a (i - a) + g (a + (i - a)) = _
  rw [show a + (i - a) = i by omega]
theorem zpk_1 (g : Nat → Int32) {a i : Nat} (h : a ≤ i) : zpk g a (i + 1 - a) = zmxI (zpk g a (i - a)) (zabI (g i)) := by
  rw [show i + 1 - a = (i - a) + 1 by omega]
  show zmxI (zpk g a (i - a)) (zabI (g (a + (i - a)))) = _
  rw [show a + (i - a) = i by omega]
theorem zabI_eq (x : Int32) : (if 0 ≤ x then x else 0 - x) = zabI x := by unfold zabI; rw [Int32.zero_sub]
theorem zmxI_eq (x y : Int32) : (if x < y then y else x) = zmxI x y := rfl
/-- one draw, in the machine's numbers -/
theorem zrn_l {r : Nat} (h : r < 2147483648) : (lN r * 1103515245 + 12345) - (lN r * 1103515245 + 12345) / 2147483648 * 2147483648 = lN (zrn r) := by
  have e : lN r * 1103515245 + 12345 = lN (r * 1103515245 + 12345) := by rw [← lN_add, ← lN_mul]; rfl
  rw [e]
  exact pk_lRem (b := 2147483648) (by omega) (by decide) (by decide)
theorem zrn_d {q b : Nat} (hq : q < 2147483648) (h0 : 0 < b) (hb : b < 2147483648) : (lN q / 65536 - lN q / 65536 / lN b * lN b).toInt32 = nI (q / 65536 % b) := by
  have e : lN q / 65536 = lN (q / 65536) := pk_lDiv (b := 65536) (by omega) (by decide) (by decide)
  rw [e, pk_lRem (by omega) h0 (by omega), lN_i]
theorem zrec_in (S : Nat → Int32) (m : Nat) {j : Nat} (h : j < 256) : zrec S m (nI j) = S (186 + 256 * m + j) := by
  unfold zrec
  rw [if_pos ⟨nI_pos' (by omega), nI_le (b := 255) (by omega) (by decide)⟩, nI_clamp (by omega)]
theorem znI_of {x : Int32} (h : 0 ≤ x ∧ x ≤ 255) : ∃ j : Nat, j < 256 ∧ x = nI j := by
  obtain ⟨j, h1, h2⟩ := nI_of2 (M := 255) (n := 255) (by decide) (Int32.not_lt.mpr h.1) h.2
  exact ⟨j, by omega, h2⟩
theorem zsumL_congr {f g : Nat → Int64} {a : Nat} : ∀ n, (∀ i, a ≤ i → i < a + n → f i = g i) → zsumL f a n = zsumL g a n
  | 0, _ => rfl
  | n + 1, h => by
    show zsumL f a n + f (a + n) = zsumL g a n + g (a + n)
    rw [zsumL_congr n (fun i h1 h2 => h i h1 (by omega)), h (a + n) (by omega) (by omega)]
theorem zen_congr {f g : Nat → Int32} {a b : Nat} (h : ∀ j, j ≤ b → f j = g j) : zen f a b = zen g a b := by
  unfold zen
  exact zsumL_congr _ (fun i h1 h2 => by rw [h i (by omega)])
theorem zsm_congr {f g : Nat → Int32} {a b : Nat} (h : ∀ j, j ≤ b → f j = g j) : zsm f a b = zsm g a b := by
  unfold zsm
  exact zsumL_congr _ (fun i h1 h2 => by rw [h i (by omega)])
theorem zpk_congr {f g : Nat → Int32} {a : Nat} : ∀ n, (∀ i, i < a + n → f i = g i) → zpk f a n = zpk g a n
  | 0, _ => rfl
  | n + 1, h => by
    show zmxI (zpk f a n) (zabI (f (a + n))) = zmxI (zpk g a n) (zabI (g (a + n)))
    rw [zpk_congr n (fun i h2 => h i (by omega)), h (a + n) (by omega)]
theorem zcr_congr {f g : Nat → Int32} {a : Nat} : ∀ n, (∀ i, i < a + 1 + n → f i = g i) → zcr f a n = zcr g a n
  | 0, _ => rfl
  | n + 1, h => by
    simp only [zcr]
    rw [zcr_congr n (fun i h2 => h i (by omega)), h (a + n) (by omega), h (a + 1 + n) (by omega)]
/-- the first of the greatest energies, as the reference seeks it -/
def zlm (w : Nat → Int64) : Nat → Int32 × Int64
  | 0 => (-1, 0)
  | n + 1 => if (zlm w n).1 = -1 ∨ (zlm w n).2 < w n then (nI n, w n) else zlm w n
def zlw (w : Nat → Int64) : Nat → Int32 × Int64
  | 0 => (0, -1)
  | n + 1 => if (zlw w n).2 < w n then (nI n, w n) else zlw w n
/-- half a step of zba -/
def zbh (w : Int32 → Int64) (n : Nat) : Int32 := if w (zba w n) < w (-nI (n + 1)) then -nI (n + 1) else zba w n
theorem zba_zbh (w : Int32 → Int64) (n : Nat) : zba w (n + 1) = if w (zbh w n) < w (nI (n + 1)) then nI (n + 1) else zbh w n := rfl
theorem zng {n : Nat} (h : n < 2 ^ 30) : ¬ nI n < -nI n := by
  rw [Int32.lt_iff_toInt_lt, nI_toInt (by omega), sb_negT (by omega)]
  omega
theorem zbq {w : Int32 → Int64} {q i : Nat} {lg b9 b' : Int32} (hq : (q = 0 ∧ lg = -nI (i + 1) ∧ b9 = zba w i) ∨ (q = 1 ∧ lg = nI (i + 1) ∧ b9 = zbh w i) ∨ (q = 2 ∧ lg = nI (3 * (i + 1)) ∧ b9 = zba w (i + 1))) (h2 : q < 2) (hc : (w b9 < w lg ∧ b' = lg) ∨ (¬ w b9 < w lg ∧ b' = b9)) :
    (q + 1 = 0 ∧ lg + 2 * nI (i + 1) = -nI (i + 1) ∧ b' = zba w i) ∨ (q + 1 = 1 ∧ lg + 2 * nI (i + 1) = nI (i + 1) ∧ b' = zbh w i) ∨ (q + 1 = 2 ∧ lg + 2 * nI (i + 1) = nI (3 * (i + 1)) ∧ b' = zba w (i + 1)) := by
  rcases hq with ⟨rfl, rfl, rfl⟩ | ⟨rfl, rfl, rfl⟩ | ⟨rfl, _, _⟩
  · refine Or.inr (Or.inl ⟨rfl, by grind, ?_⟩)
    unfold zbh
    rcases hc with ⟨c, rfl⟩ | ⟨c, rfl⟩
    · rw [if_pos c]
    · rw [if_neg c]
  · refine Or.inr (Or.inr ⟨rfl, ?_, ?_⟩)
    · rw [show (2 : Int32) * nI (i + 1) = nI (2 * (i + 1)) from pk_mul 2 (i + 1), nI_add]
      congr 1
      omega
    · rw [zba_zbh]
      rcases hc with ⟨c, rfl⟩ | ⟨c, rfl⟩
      · rw [if_pos c]
      · rw [if_neg c]
  · omega
