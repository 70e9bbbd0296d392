/-! pure: texts -/
/-- four bytes put to a text -/
def zap (te : Nat → Int32) (n : Nat) (x : Int32) : Nat → Nat → Int32
  | 0 => te
  | k + 1 => upd (zap te n x k) (n + k) (x >>> ((24 - 8 * nI k) &&& 31) &&& 255)
theorem zap_sh : ∀ k, k < 5 → ((24 - 8 * nI k : Int32) < 0 ↔ k = 4) := by decide
theorem zap_st (k : Nat) : (24 - 8 * nI k : Int32) + (-8) = 24 - 8 * nI (k + 1) := by
  rw [nI_succ]
  grind
/-- the byte at a place; -1 behind the text -/
def zby (te : Nat → Int32) (n p : Nat) : Int32 := if p < n then te p else -1
/-- where the first byte that is not b stands -/
def zrun (b : Nat → Bool) : Nat → Nat → Nat
  | 0, p => p
  | k + 1, p => if b p then zrun b k (p + 1) else p
def zbsp (te : Nat → Int32) (p : Nat) : Bool := decide (te p = 32 ∨ te p = 10)
def zble (te : Nat → Int32) (p : Nat) : Bool := decide (97 ≤ te p ∧ te p ≤ 122)
def zbdi (te : Nat → Int32) (p : Nat) : Bool := decide (48 ≤ te p ∧ te p ≤ 57)
/-- where the token begins that is read at p -/
def ztB (te : Nat → Int32) (n p : Nat) : Nat := zrun (zbsp te) (n - p) p
theorem zrun_le (b : Nat → Bool) : ∀ k p, p ≤ zrun b k p ∧ zrun b k p ≤ p + k
  | 0, p => ⟨Nat.le_refl _, Nat.le_refl _⟩
  | k + 1, p => by
    unfold zrun
    have := zrun_le b k (p + 1)
    split <;> omega
/-- one step of a run -/
theorem zrun_1 {b : Nat → Bool} {n p : Nat} (h : p < n) (hb : b p = true) : zrun b (n - p) p = zrun b (n - (p + 1)) (p + 1) := by
  rw [show n - p = (n - (p + 1)) + 1 by omega]
  exact if_pos hb
theorem zrun_0 {b : Nat → Bool} {n p : Nat} (h : ¬ (p < n ∧ b p = true)) : zrun b (n - p) p = p := by
  by_cases q : p < n
  · rw [show n - p = (n - (p + 1)) + 1 by omega]
    exact if_neg (fun e => h ⟨q, e⟩)
  · rw [show n - p = 0 by omega]
    rfl
/-- kinds: 0 end, 1 wrong, 2 word, 3 number, 4 semicolon, 5 minus -/
def zkd (te : Nat → Int32) (n q : Nat) : Nat := if q < n then (if zble te q then 2 else if zbdi te q then 3 else if te q = 59 then 4 else if te q = 45 then 5 else 1) else 0
/-- where a token ends that begins at q -/
def zed (te : Nat → Int32) (n q : Nat) : Nat := if q < n then (if zble te q then zrun (zble te) (n - q) q else if zbdi te q then zrun (zbdi te) (n - q) q else q + 1) else q
/-- a word's letters, packed; the first ten -/
def zpk_ (te : Nat → Int32) (q : Nat) : Nat → Int64
  | 0 => 0
  | k + 1 => if k < 10 then 27 * zpk_ te q k + (te (q + k)).toInt64 - 96 else zpk_ te q k
/-- a number, growing no more once it is too great -/
def znu (te : Nat → Int32) (q : Nat) : Nat → Int32
  | 0 => 0
  | k + 1 => if 20000 < znu te q k then znu te q k else 10 * znu te q k + te (q + k) - 48
