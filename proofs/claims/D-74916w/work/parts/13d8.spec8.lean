/-! pure: tokens -/
def zleN (te : Nat → Int32) (n q : Nat) : Nat := if zkd te n q = 2 then zed te n q - q else 0
def zwoN (te : Nat → Int32) (n q : Nat) : Int64 := if zkd te n q = 2 then zpk_ te q (zed te n q - q) else 0
def znmN (te : Nat → Int32) (n q : Nat) : Int32 := if zkd te n q = 3 then znu te q (zed te n q - q) else 0
theorem ztok2 {te : Nat → Int32} {n q k : Nat} (h : q < n) (hl : zble te q = true) (hk : zrun (zble te) (n - (q + k)) (q + k) = zrun (zble te) (n - q) q) (he : zrun (zble te) (n - (q + k)) (q + k) = q + k) :
    zkd te n q = 2 ∧ zed te n q = q + k ∧ zleN te n q = k ∧ zwoN te n q = zpk_ te q k ∧ znmN te n q = 0 := by
  have e1 : zkd te n q = 2 := by unfold zkd; rw [if_pos h, if_pos hl]
  have e2 : zed te n q = q + k := by unfold zed; rw [if_pos h, if_pos hl, ← hk, he]
  refine ⟨e1, e2, ?_, ?_, ?_⟩
  · unfold zleN; rw [if_pos e1, e2, Nat.add_sub_cancel_left]
  · unfold zwoN; rw [if_pos e1, e2, Nat.add_sub_cancel_left]
  · unfold znmN; rw [if_neg (by rw [e1]; decide)]
theorem ztok3 {te : Nat → Int32} {n q k : Nat} (h : q < n) (hl : ¬ zble te q = true) (hd : zbdi te q = true) (hk : zrun (zbdi te) (n - (q + k)) (q + k) = zrun (zbdi te) (n - q) q) (he : zrun (zbdi te) (n - (q + k)) (q + k) = q + k) :
    zkd te n q = 3 ∧ zed te n q = q + k ∧ zleN te n q = 0 ∧ zwoN te n q = 0 ∧ znmN te n q = znu te q k := by
  have e1 : zkd te n q = 3 := by unfold zkd; rw [if_pos h, if_neg hl, if_pos hd]
  have e2 : zed te n q = q + k := by unfold zed; rw [if_pos h, if_neg hl, if_pos hd, ← hk, he]
  refine ⟨e1, e2, ?_, ?_, ?_⟩
  · unfold zleN; rw [if_neg (by rw [e1]; decide)]
  · unfold zwoN; rw [if_neg (by rw [e1]; decide)]
  · unfold znmN; rw [if_pos e1, e2, Nat.add_sub_cancel_left]
theorem ztokx {te : Nat → Int32} {n q x e : Nat} (hx : zkd te n q = x) (h2 : x ≠ 2) (h3 : x ≠ 3) (he : zed te n q = e) :
    zkd te n q = x ∧ zed te n q = e ∧ zleN te n q = 0 ∧ zwoN te n q = 0 ∧ znmN te n q = 0 := by
  refine ⟨hx, he, ?_, ?_, ?_⟩
  · unfold zleN; rw [if_neg (by rw [hx]; exact h2)]
  · unfold zwoN; rw [if_neg (by rw [hx]; exact h2)]
  · unfold znmN; rw [if_neg (by rw [hx]; exact h3)]
theorem ztok0 {te : Nat → Int32} {n q : Nat} (h : ¬ q < n) : zkd te n q = 0 ∧ zed te n q = q ∧ zleN te n q = 0 ∧ zwoN te n q = 0 ∧ znmN te n q = 0 :=
  ztokx (by unfold zkd; rw [if_neg h]) (by decide) (by decide) (by unfold zed; rw [if_neg h])
theorem ztok1 {te : Nat → Int32} {n q : Nat} (h : q < n) (hl : ¬ zble te q = true) (hd : ¬ zbdi te q = true) : zkd te n q = (if te q = 59 then 4 else if te q = 45 then 5 else 1) ∧ zed te n q = q + 1 ∧ zleN te n q = 0 ∧ zwoN te n q = 0 ∧ znmN te n q = 0 :=
  ztokx (by unfold zkd; rw [if_pos h, if_neg hl, if_neg hd]) (by split <;> (try split) <;> decide) (by split <;> (try split) <;> decide) (by unfold zed; rw [if_pos h, if_neg hl, if_neg hd])
theorem zby_in {te : Nat → Int32} {n p : Nat} (h : p < n) : zby te n p = te p := if_pos h
theorem zby_out {te : Nat → Int32} {n p : Nat} (h : ¬ p < n) : zby te n p = -1 := if_neg h
theorem zby_sp {te : Nat → Int32} {n p : Nat} (h : zby te n p = 32 ∨ zby te n p = 10) : p < n ∧ zbsp te p = true := by
  by_cases q : p < n
  · rw [zby_in q] at h
    exact ⟨q, decide_eq_true h⟩
  · rw [zby_out q] at h
    exact absurd h (by decide)
theorem zby_nsp {te : Nat → Int32} {n p : Nat} (h1 : ¬ zby te n p = 32) (h2 : ¬ zby te n p = 10) : ¬ (p < n ∧ zbsp te p = true) := by
  rintro ⟨q, e⟩
  rw [zby_in q] at h1 h2
  rcases of_decide_eq_true e with a | a
  · exact h1 a
  · exact h2 a
theorem zby_le {te : Nat → Int32} {n p : Nat} : (97 ≤ zby te n p ∧ zby te n p ≤ 122) ↔ (p < n ∧ zble te p = true) := by
  by_cases q : p < n
  · rw [zby_in q]
    exact ⟨fun h => ⟨q, decide_eq_true h⟩, fun h => of_decide_eq_true h.2⟩
  · rw [zby_out q]
    exact ⟨fun h => absurd h (by decide), fun h => absurd h.1 q⟩
theorem zby_di {te : Nat → Int32} {n p : Nat} : (48 ≤ zby te n p ∧ zby te n p ≤ 57) ↔ (p < n ∧ zbdi te p = true) := by
  by_cases q : p < n
  · rw [zby_in q]
    exact ⟨fun h => ⟨q, decide_eq_true h⟩, fun h => of_decide_eq_true h.2⟩
  · rw [zby_out q]
    exact ⟨fun h => absurd h (by decide), fun h => absurd h.1 q⟩
