/-! pure: what the system computes, with no program in sight -/
/-- a sum of n terms from a on -/
def zsumL (g : Nat → Int64) (a : Nat) : Nat → Int64
  | 0 => 0
  | n + 1 => zsumL g a n + g (a + n)
/-- the greatest r up to k with r * r at most n -/
def zisA (n : Nat) : Nat → Nat
  | 0 => 0
  | k + 1 => if (k + 1) * (k + 1) ≤ n then k + 1 else zisA n k
theorem zisA_le (n : Nat) : ∀ k, zisA n k ≤ k
  | 0 => Nat.le_refl _
  | k + 1 => by
    unfold zisA
    split
    · exact Nat.le_refl _
    · exact Nat.le_succ_of_le (zisA_le n k)
theorem zisA_sq (n : Nat) : ∀ k, zisA n k * zisA n k ≤ n
  | 0 => by simp [zisA]
  | k + 1 => by
    unfold zisA
    split
    · assumption
    · exact zisA_sq n k
theorem zisA_max (n : Nat) : ∀ k r, r ≤ k → r * r ≤ n → r ≤ zisA n k
  | 0, r, h, _ => by omega
  | k + 1, r, h, h2 => by
    unfold zisA
    split
    · exact h
    · next q =>
      have : r ≠ k + 1 := fun e => q (by rw [← e]; exact h2)
      exact zisA_max n k r (by omega) h2
theorem zis_ex (n : Nat) : ∃ r, r ≤ 70000 ∧ r * r ≤ n ∧ ∀ k, k ≤ 70000 → k * k ≤ n → k ≤ r := ⟨zisA n 70000, zisA_le n 70000, zisA_sq n 70000, fun k h1 h2 => zisA_max n 70000 k h1 h2⟩
noncomputable def zis (n : Nat) : Nat := Classical.choose (zis_ex n)
theorem zis_le (n : Nat) : zis n ≤ 70000 := (Classical.choose_spec (zis_ex n)).1
theorem zis_sq (n : Nat) : zis n * zis n ≤ n := (Classical.choose_spec (zis_ex n)).2.1
theorem zis_max {n r : Nat} (h : r ≤ 70000) (h2 : r * r ≤ n) : r ≤ zis n := (Classical.choose_spec (zis_ex n)).2.2 r h h2
theorem zis_uniq {n r : Nat} (h : r ≤ 70000) (h1 : r * r ≤ n) (h2 : n < (r + 1) * (r + 1)) : zis n = r := by
  have a1 := zis_max h h1
  have a2 := zis_sq n
  by_cases q : zis n = r
  · exact q
  · have h3 : r + 1 ≤ zis n := by omega
    have h4 := Nat.mul_le_mul h3 h3
    omega
theorem zis_lt {n : Nat} (h : n < 4900000000) : n < (zis n + 1) * (zis n + 1) := by
  by_cases q : n < (zis n + 1) * (zis n + 1)
  · exact q
  · have h1 : (zis n + 1) * (zis n + 1) ≤ n := by omega
    have h2 : zis n + 1 ≤ 70000 := by
      have := zis_le n
      by_cases e : zis n = 70000
      · rw [e] at h1; omega
      · omega
    have h3 := zis_max h2 h1
    omega
theorem zis_mono {a b : Nat} (h : a ≤ b) : zis a ≤ zis b := zis_max (zis_le a) (Nat.le_trans (zis_sq a) h)
