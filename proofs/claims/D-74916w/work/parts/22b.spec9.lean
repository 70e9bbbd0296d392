/-! pure: parsing; a parser's state is its token's place, the error code and the error's place -/
abbrev zC : Type := Nat × Int32 × Int32
def zrq (g k : Int32) (c : zC) : zC := (c.1, if g = 0 ∧ c.2.1 = 0 then k else c.2.1, if g = 0 ∧ c.2.1 = 0 then nI c.1 else c.2.2)
def znx (te : Nat → Int32) (n q : Nat) : Nat := ztB te n (zed te n q)
def zad (te : Nat → Int32) (n : Nat) (c : zC) : zC := if c.2.1 = 0 then (znx te n c.1, c.2) else c
def zpN (te : Nat → Int32) (n : Nat) (lo hi : Int32) (c : zC) : Int32 × zC := (znmN te n c.1, zad te n (zrq (zb (lo ≤ znmN te n c.1 ∧ znmN te n c.1 ≤ hi)) 2 (zrq (zb (nI (zkd te n c.1) = 3)) 1 c)))
def zpJ (te : Nat → Int32) (n : Nat) (lo hi : Int32) (c : zC) : Int32 × zC := (-znmN te n c.1, zad te n (zrq (zb (lo ≤ -znmN te n c.1 ∧ -znmN te n c.1 ≤ hi)) 2 (zrq (zb (nI (zkd te n c.1) = 3)) 1 c)))
def zpI (te : Nat → Int32) (n : Nat) (lo hi : Int32) (c : zC) : Int32 × zC := if nI (zkd te n c.1) = 5 then zpJ te n lo hi (zad te n c) else zpN te n lo hi c
theorem zed_le {te : Nat → Int32} {n q : Nat} (h : q ≤ n) : zed te n q ≤ n := by
  unfold zed
  have h1 := zrun_le (zble te) (n - q) q
  have h2 := zrun_le (zbdi te) (n - q) q
  split
  · split
    · omega
    · split <;> omega
  · omega
theorem ztB_le {te : Nat → Int32} {n p : Nat} (h : p ≤ n) : ztB te n p ≤ n := by
  unfold ztB
  have h1 := zrun_le (zbsp te) (n - p) p
  omega
theorem znx_le {te : Nat → Int32} {n q : Nat} (h : q ≤ n) : znx te n q ≤ n := ztB_le (zed_le h)
theorem zad_le {te : Nat → Int32} {n : Nat} {c : zC} (h : c.1 ≤ n) : (zad te n c).1 ≤ n := by
  unfold zad
  split
  · exact znx_le h
  · exact h
theorem zpN_le {te : Nat → Int32} {n : Nat} {lo hi : Int32} {c : zC} (h : c.1 ≤ n) : (zpN te n lo hi c).2.1 ≤ n := zad_le (c := zrq _ 2 (zrq _ 1 c)) h
theorem zpJ_le {te : Nat → Int32} {n : Nat} {lo hi : Int32} {c : zC} (h : c.1 ≤ n) : (zpJ te n lo hi c).2.1 ≤ n := zad_le (c := zrq _ 2 (zrq _ 1 c)) h
theorem zpI_le {te : Nat → Int32} {n : Nat} {lo hi : Int32} {c : zC} (h : c.1 ≤ n) : (zpI te n lo hi c).2.1 ≤ n := by
  unfold zpI
  split
  · exact zpJ_le (zad_le h)
  · exact zpN_le h
/-! errors stay -/
theorem zrq_e {g k : Int32} {c : zC} (hk : ¬ k = 0) (h : (zrq g k c).2.1 = 0) : c.2.1 = 0 ∧ ¬ g = 0 ∧ zrq g k c = c := by
  unfold zrq at h ⊢
  by_cases q : g = 0 ∧ c.2.1 = 0
  · simp only [if_pos q] at h
    exact absurd h hk
  · simp only [if_neg q] at h ⊢
    exact ⟨h, fun e => q ⟨e, h⟩, trivial⟩
theorem zad_e {te : Nat → Int32} {n : Nat} {c : zC} (h : (zad te n c).2.1 = 0) : c.2.1 = 0 := by
  unfold zad at h
  split at h
  · exact h
  · exact h
theorem zpN_e {te : Nat → Int32} {n : Nat} {lo hi : Int32} {c : zC} (h : (zpN te n lo hi c).2.2.1 = 0) : c.2.1 = 0 ∧ nI (zkd te n c.1) = 3 ∧ (lo ≤ znmN te n c.1 ∧ znmN te n c.1 ≤ hi) ∧ (zpN te n lo hi c).2 = (znx te n c.1, c.2) := by
  have a := zad_e (c := zrq _ 2 (zrq _ 1 c)) h
  obtain ⟨b1, b2, b3⟩ := zrq_e (by decide) a
  obtain ⟨d1, d2, d3⟩ := zrq_e (by decide) b1
  refine ⟨d1, zb_ne.mp d2, zb_ne.mp b2, ?_⟩
  show zad te n (zrq _ 2 (zrq _ 1 c)) = _
  rw [b3, d3]
  exact if_pos d1
theorem zpJ_e {te : Nat → Int32} {n : Nat} {lo hi : Int32} {c : zC} (h : (zpJ te n lo hi c).2.2.1 = 0) : c.2.1 = 0 ∧ nI (zkd te n c.1) = 3 ∧ (lo ≤ -znmN te n c.1 ∧ -znmN te n c.1 ≤ hi) ∧ (zpJ te n lo hi c).2 = (znx te n c.1, c.2) := by
  have a := zad_e (c := zrq _ 2 (zrq _ 1 c)) h
  obtain ⟨b1, b2, b3⟩ := zrq_e (by decide) a
  obtain ⟨d1, d2, d3⟩ := zrq_e (by decide) b1
  refine ⟨d1, zb_ne.mp d2, zb_ne.mp b2, ?_⟩
  show zad te n (zrq _ 2 (zrq _ 1 c)) = _
  rw [b3, d3]
  exact if_pos d1
theorem zpI_e {te : Nat → Int32} {n : Nat} {lo hi : Int32} {c : zC} (h : (zpI te n lo hi c).2.2.1 = 0) : c.2.1 = 0 ∧ lo ≤ (zpI te n lo hi c).1 ∧ (zpI te n lo hi c).1 ≤ hi := by
  unfold zpI at h ⊢
  split at h
  · next q =>
    rw [if_pos q]
    obtain ⟨a1, -, ⟨a2, a3⟩, -⟩ := zpJ_e h
    exact ⟨zad_e a1, a2, a3⟩
  · next q =>
    rw [if_neg q]
    obtain ⟨a1, -, ⟨a2, a3⟩, -⟩ := zpN_e h
    exact ⟨a1, a2, a3⟩
/-! what is put to a state -/
def zaV (S : Nat → Int32) (n : Nat) (x s y : Int32) : Nat → Int32 := upd (upd (upd (upd S (16 + 3 * n + 0) x) (16 + 3 * n + 1) s) (16 + 3 * n + 2) y) 6 (nI (n + 1))
def zaM (S : Nat → Int32) (n : Nat) (x y z w : Int32) : Nat → Int32 := upd (upd (upd (upd (upd S (154 + 4 * n + 0) x) (154 + 4 * n + 1) y) (154 + 4 * n + 2) z) (154 + 4 * n + 3) w) 8 (nI (n + 1))
def zaS (S : Nat → Int32) (n : Nat) (v o z s : Int32) : Nat → Int32 := upd (upd (upd (upd (upd (upd S (28 + 21 * n + 0) v) (28 + 21 * n + 1) o) (28 + 21 * n + 2) z) (28 + 21 * n + 3) s) (28 + 21 * n + 4) 0) 7 (nI (n + 1))
def zaX (S : Nat → Int32) (k n : Nat) (x : Int32) : Nat → Int32 := upd (upd S (28 + 21 * k + 5 + n) x) (28 + 21 * k + 4) (nI (n + 1))
/-- a number in a cell, as a count -/
def zct (S : Nat → Int32) (i : Nat) : Nat := (S i).toNatClampNeg
section ZPP
variable (te : Nat → Int32) (n : Nat)
def zpM1 (S : Nat → Int32) (c : zC) : zC := zad te n (zrq (zb (S 8 < 8)) 3 c)
def zpM2 (S : Nat → Int32) (c : zC) : Int32 × zC := zpI te n (-5000) 5000 (zpM1 te n S c)
def zpM3 (S : Nat → Int32) (c : zC) : Int32 × zC := zpI te n (-100) 99 (zpM2 te n S c).2
def zpM4 (S : Nat → Int32) (c : zC) : Int32 × zC := zpN te n 0 500 (zpM3 te n S c).2
def zpM5 (S : Nat → Int32) (c : zC) : Int32 × zC := zpN te n 0 9 (zpM4 te n S c).2
/-- a microphone's statement -/
def zpM (S : Nat → Int32) (c : zC) : (Nat → Int32) × zC := (if (zpM5 te n S c).2.2.1 = 0 then zaM S (zct S 8) (zpM2 te n S c).1 (zpM3 te n S c).1 (zpM4 te n S c).1 (zpM5 te n S c).1 else S, (zpM5 te n S c).2)
def zpV1 (S : Nat → Int32) (c : zC) : zC := zad te n (zrq (zb (S 6 < 4)) 3 c)
def zpV2 (S : Nat → Int32) (c : zC) : Int32 × zC := zpI te n (-20000) 20000 (zpV1 te n S c)
def zpV3 (S : Nat → Int32) (c : zC) : Int32 × zC := zpI te n (-50) 50 (zpV2 te n S c).2
def zpV4 (S : Nat → Int32) (c : zC) : Int32 × zC := zpI te n 100 5000 (zpV3 te n S c).2
/-- a vehicle's statement -/
def zpV (S : Nat → Int32) (c : zC) : (Nat → Int32) × zC := (if (zpV4 te n S c).2.2.1 = 0 then zaV S (zct S 6) (zpV2 te n S c).1 (zpV3 te n S c).1 (zpV4 te n S c).1 else S, (zpV4 te n S c).2)
def zpS1 (S : Nat → Int32) (c : zC) : zC := zad te n (zrq (zb (S 7 < 6)) 3 c)
def zpS2 (S : Nat → Int32) (c : zC) : Int32 × zC := zpN te n 0 (S 6 - 1) (zpS1 te n S c)
def zpS3 (S : Nat → Int32) (c : zC) : Int32 × zC := zpI te n (-1000) 1000 (zpS2 te n S c).2
def zpS4 (S : Nat → Int32) (c : zC) : Int32 × zC := zpN te n 0 500 (zpS3 te n S c).2
def zpS5 (S : Nat → Int32) (c : zC) : Int32 × zC := zpN te n 1 10 (zpS4 te n S c).2
/-- the values: of a source k, the first i, if more are to come -/
def zpX (k : Nat) (S : Nat → Int32) (c : zC) : Nat → (Nat → Int32) × zC × Bool
  | 0 => (S, c, true)
  | i + 1 =>
    if (zpX k S c i).2.2 then
      (if (zpI te n (-99) 99 (zpX k S c i).2.1).2.2.1 = 0 then zaX (zpX k S c i).1 k i (zpI te n (-99) 99 (zpX k S c i).2.1).1 else (zpX k S c i).1,
        (zpI te n (-99) 99 (zpX k S c i).2.1).2,
        decide ((zpI te n (-99) 99 (zpX k S c i).2.1).2.2.1 = 0 ∧ (nI (zkd te n (zpI te n (-99) 99 (zpX k S c i).2.1).2.1) = 3 ∨ nI (zkd te n (zpI te n (-99) 99 (zpX k S c i).2.1).2.1) = 5)))
    else zpX k S c i
/-- a source's statement -/
def zpS (S : Nat → Int32) (c : zC) : (Nat → Int32) × zC :=
  if (zpS5 te n S c).2.2.1 = 0 then ((zpX te n (zct S 7) (zaS S (zct S 7) (zpS2 te n S c).1 (zpS3 te n S c).1 (zpS4 te n S c).1 (zpS5 te n S c).1) (zpS5 te n S c).2 16).1, (zpX te n (zct S 7) (zaS S (zct S 7) (zpS2 te n S c).1 (zpS3 te n S c).1 (zpS4 te n S c).1 (zpS5 te n S c).1) (zpS5 te n S c).2 16).2.1)
  else ((zpX te n 0 S (zpS5 te n S c).2 16).1, (zpX te n 0 S (zpS5 te n S c).2 16).2.1)
end ZPP
theorem zct_of {S : Nat → Int32} {i k : Nat} (h : S i = nI k) (hk : k < 2 ^ 31) : zct S i = k := by unfold zct; rw [h, nI_clamp hk]
theorem zpX_le {te : Nat → Int32} {n k : Nat} {S : Nat → Int32} {c : zC} (h : c.1 ≤ n) : ∀ i, (zpX te n k S c i).2.1.1 ≤ n
  | 0 => h
  | i + 1 => by
    unfold zpX
    split
    · exact zpI_le (zpX_le h i)
    · exact zpX_le h i
theorem zpX_end {te : Nat → Int32} {n k : Nat} {S : Nat → Int32} {c : zC} {i : Nat} (h : ¬ (zpX te n k S c i).2.2 = true) : ∀ d, zpX te n k S c (i + d) = zpX te n k S c i
  | 0 => rfl
  | d + 1 => by
    have e := zpX_end h d
    have e2 : zpX te n k S c (i + (d + 1)) = zpX te n k S c (i + d) := if_neg (show ¬ (zpX te n k S c (i + d)).2.2 = true from by rw [e]; exact h)
    exact e2.trans e
theorem zpX_ct {te : Nat → Int32} {n k : Nat} {S : Nat → Int32} {c : zC} (h0 : c.2.1 = 0 → S (28 + 21 * k + 4) = nI 0) : ∀ i, (zpX te n k S c i).2.2 = true → (zpX te n k S c i).2.1.2.1 = 0 → (zpX te n k S c i).1 (28 + 21 * k + 4) = nI i
  | 0 => fun _ h => h0 h
  | i + 1 => by
    intro h1 h2
    by_cases q : (zpX te n k S c i).2.2 = true
    · have e : zpX te n k S c (i + 1) = (if (zpI te n (-99) 99 (zpX te n k S c i).2.1).2.2.1 = 0 then zaX (zpX te n k S c i).1 k i (zpI te n (-99) 99 (zpX te n k S c i).2.1).1 else (zpX te n k S c i).1, (zpI te n (-99) 99 (zpX te n k S c i).2.1).2, decide ((zpI te n (-99) 99 (zpX te n k S c i).2.1).2.2.1 = 0 ∧ (nI (zkd te n (zpI te n (-99) 99 (zpX te n k S c i).2.1).2.1) = 3 ∨ nI (zkd te n (zpI te n (-99) 99 (zpX te n k S c i).2.1).2.1) = 5))) := if_pos q
      rw [e] at h2 ⊢
      show (if _ then _ else _ : Nat → Int32) _ = _
      rw [if_pos h2]
      exact if_pos rfl
    · have e : zpX te n k S c (i + 1) = zpX te n k S c i := if_neg q
      rw [e] at h1
      exact absurd h1 q
