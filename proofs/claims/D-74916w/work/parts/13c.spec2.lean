/-! pure: places, distances, marks -/
def zsq3 (a b c : Int32) : Int64 := a.toInt64 * a.toInt64 + b.toInt64 * b.toInt64 + c.toInt64 * c.toInt64
/-- the distance for three differences -/
noncomputable def zd (a b c : Int32) : Int32 := nI (zis (zsq3 a b c).toInt.toNat)
def zdok (a b c : Int32) : Prop := ∃ n : Nat, n < 4900000000 ∧ zsq3 a b c = lN n
theorem zd_of {a b c : Int32} {n : Nat} (hn : n < 4900000000) (h : zsq3 a b c = lN n) : zd a b c = nI (zis n) := by
  unfold zd
  rw [h, pk_lT (by omega)]
  rfl
/-- where something is that rides on a vehicle (none: stays) -/
def zpx (S : Nat → Int32) (v : Option Nat) (x t : Int32) : Int32 := match v with
  | none => x
  | some k => S (16 + 3 * k + 0) + S (16 + 3 * k + 1) * t + x
def zvi (v : Option Nat) : Int32 := match v with
  | none => -1
  | some k => nI k
theorem nI_nm1 {k : Nat} (h : k < 2 ^ 31) : ¬ nI k = -1 := fun e => by
  have := congrArg Int32.toInt e
  rw [nI_toInt h] at this
  have h2 : (-1 : Int32).toInt = -1 := by decide
  omega
/-- the distance at a time -/
noncomputable def zdd (S : Nat → Int32) (m : Nat) (v : Option Nat) (x y z : Int32) (j : Nat) : Int32 := zd (zpx S v x (nI j) - S (154 + 4 * m + 0)) (y - S (154 + 4 * m + 1)) (z - S (154 + 4 * m + 2))
def zddok (S : Nat → Int32) (m : Nat) (v : Option Nat) (x y z : Int32) (j : Nat) : Prop := zdok (zpx S v x (nI j) - S (154 + 4 * m + 0)) (y - S (154 + 4 * m + 1)) (z - S (154 + 4 * m + 2))
/-- the latest time below n whose mark has come -/
def zlat (mk : Nat → Int32) (b : Int32) : Nat → Int32
  | 0 => -1
  | n + 1 => if mk n ≤ b then nI n else zlat mk b n
/-- a source's vehicle -/
def zsv (S : Nat → Int32) (s : Nat) : Nat := (S (28 + 21 * s + 0)).toNatClampNeg
/-- what a source emits at a time -/
def zem (S : Nat → Int32) (s j : Nat) : Int32 := S (28 + 21 * s + (5 + j % (S (28 + 21 * s + 4)).toNatClampNeg)) * S (28 + 21 * s + 3)
theorem zlat_congr {f g : Nat → Int32} {b : Int32} {n : Nat} (h : ∀ i, i < n → f i = g i) : zlat f b n = zlat g b n := by
  induction n with
  | zero => rfl
  | succ n ih =>
    unfold zlat
    rw [h n (by omega), ih (fun i hi => h i (by omega))]
