/-! pure: ranges of numbers; a state's good order -/
/-- a number between two bounds -/
def zin (x : Int32) (l h : Int) : Prop := l ≤ x.toInt ∧ x.toInt ≤ h
theorem zin_n {k : Nat} (h : k < 2 ^ 31) : zin (nI k) 0 k := by
  unfold zin
  rw [nI_toInt h]
  omega
theorem zin_w {x : Int32} {l h l' h' : Int} (q : zin x l h) (h1 : l' ≤ l) (h2 : h ≤ h') : zin x l' h' := ⟨Int.le_trans h1 q.1, Int.le_trans q.2 h2⟩
theorem zbm {x : Int} (h1 : -2147483648 ≤ x) (h2 : x ≤ 2147483647) : x.bmod (2 ^ 32) = x := Int.bmod_eq_of_le (by omega) (by omega)
theorem zin_add {x y : Int32} {l h l' h' : Int} (p : zin x l h) (q : zin y l' h') (h1 : -2147483648 ≤ l + l') (h2 : h + h' ≤ 2147483647) : zin (x + y) (l + l') (h + h') := by
  unfold zin at *
  rw [Int32.toInt_add, zbm (by omega) (by omega)]
  omega
theorem zin_sub {x y : Int32} {l h l' h' : Int} (p : zin x l h) (q : zin y l' h') (h1 : -2147483648 ≤ l - h') (h2 : h - l' ≤ 2147483647) : zin (x - y) (l - h') (h - l') := by
  unfold zin at *
  rw [Int32.toInt_sub, zbm (by omega) (by omega)]
  omega
theorem zin_neg {x : Int32} {l h : Int} (p : zin x l h) (h1 : -2147483647 ≤ l) (h2 : h ≤ 2147483647) : zin (-x) (-h) (-l) := by
  unfold zin at *
  rw [Int32.toInt_neg, zbm (by omega) (by omega)]
  omega
theorem zin_mul {x y : Int32} {c d : Int} (p : zin x (-c) c) (q : zin y (-d) d) (h2 : c * d ≤ 2147483647) : zin (x * y) (-(c * d)) (c * d) := by
  unfold zin at *
  have hx : x.toInt.natAbs ≤ c.natAbs := by omega
  have hy : y.toInt.natAbs ≤ d.natAbs := by omega
  have h3 := Nat.mul_le_mul hx hy
  rw [← Int.natAbs_mul, ← Int.natAbs_mul] at h3
  have h4 : 0 ≤ c * d := Int.mul_nonneg (by omega) (by omega)
  rw [Int32.toInt_mul, zbm (by omega) (by omega)]
  omega
/-- a number by its size -/
theorem zpm (x : Int32) {c : Nat} (h : zin x (-c) c) (hc : c < 2 ^ 31) : ∃ k : Nat, k ≤ c ∧ (x = nI k ∨ x = -nI k) := by
  unfold zin at h
  refine ⟨x.toInt.natAbs, by omega, ?_⟩
  by_cases q : 0 ≤ x.toInt
  · left
    apply Int32.toInt_inj.mp
    rw [nI_toInt (by omega)]
    omega
  · right
    apply Int32.toInt_inj.mp
    rw [sb_negT (by omega)]
    omega
theorem znegL {k : Nat} (h : k < 2 ^ 31) : (-nI k).toInt64 = -lN k := by
  apply Int64.toInt_inj.mp
  rw [Int32.toInt_toInt64, sb_negT h, Int64.toInt_neg, lN_toInt h]
  exact (Int.bmod_eq_of_le (by omega) (by omega)).symm
theorem zsqr {x : Int32} {k : Nat} (h : x = nI k ∨ x = -nI k) (hk : k < 2 ^ 31) : x.toInt64 * x.toInt64 = lN (k * k) := by
  rcases h with rfl | rfl
  · rw [nI_l hk, lN_mul]
  · rw [znegL hk, Int64.neg_mul, Int64.mul_neg, Int64.neg_neg, lN_mul]
theorem zdok_of {a b c : Int32} (ha : zin a (-45000) 45000) (hb : zin b (-10000) 10000) (hc : zin c (-2000) 2000) : zdok a b c := by
  obtain ⟨k1, g1, e1⟩ := zpm a (c := 45000) ha (by decide)
  obtain ⟨k2, g2, e2⟩ := zpm b (c := 10000) hb (by decide)
  obtain ⟨k3, g3, e3⟩ := zpm c (c := 2000) hc (by decide)
  refine ⟨k1 * k1 + k2 * k2 + k3 * k3, ?_, ?_⟩
  · have f1 := Nat.mul_le_mul g1 g1
    have f2 := Nat.mul_le_mul g2 g2
    have f3 := Nat.mul_le_mul g3 g3
    omega
  · unfold zsq3
    rw [zsqr e1 (by omega), zsqr e2 (by omega), zsqr e3 (by omega), lN_add, lN_add]
/-- the good order of a state's settings (the cells below 186 but the random one) -/
def zGe (S : Nat → Int32) : Prop :=
  (∃ n : Nat, 100 ≤ n ∧ n ≤ 1000 ∧ S 0 = nI n) ∧
  (zin (S 1) (-90) 90) ∧
  (∃ n : Nat, n ≤ 99 ∧ S 4 = nI n) ∧
  (∃ n : Nat, n ≤ 4 ∧ S 6 = nI n) ∧
  (∃ n : Nat, n ≤ 6 ∧ S 7 = nI n) ∧
  (∃ n : Nat, n ≤ 8 ∧ S 8 = nI n) ∧
  (∀ k, k < 4 → zin (S (16 + 3 * k + 0)) (-20000) 20000 ∧ zin (S (16 + 3 * k + 1)) (-50) 50 ∧ zin (S (16 + 3 * k + 2)) 0 5000) ∧
  (∀ s, s < 6 → ∃ v : Nat, v < 4 ∧ S (28 + 21 * s + 0) = nI v) ∧
  (∀ s, s < 6 → nI s < S 7 → (∃ v : Nat, S (28 + 21 * s + 0) = nI v ∧ nI v < S 6) ∧ ∃ n : Nat, 1 ≤ n ∧ n ≤ 16 ∧ S (28 + 21 * s + 4) = nI n) ∧
  (∀ s, s < 6 → zin (S (28 + 21 * s + 1)) (-1000) 1000 ∧ zin (S (28 + 21 * s + 2)) 0 500 ∧ zin (S (28 + 21 * s + 3)) 0 10) ∧
  (∀ s, s < 6 → ∀ i, i < 16 → zin (S (28 + 21 * s + (5 + i))) (-99) 99) ∧
  (∀ m, m < 8 → zin (S (154 + 4 * m + 0)) (-5000) 5000 ∧ zin (S (154 + 4 * m + 1)) (-100) 99 ∧ zin (S (154 + 4 * m + 2)) 0 500 ∧ zin (S (154 + 4 * m + 3)) 0 9) ∧
  (∃ k : Nat, k ≤ 2 ∧ S 10 = nI k) ∧
  (S 10 = 0 → ∃ v : Nat, v < 4 ∧ S 11 = nI v ∧ nI v < S 6) ∧
  (zin (S 12) (-20000) 20000) ∧
  (S 10 = 0 → zin (S 12) (-1000) 1000) ∧
  (S 10 = 2 → zin (S 12) (-100) 100) ∧
  (zin (S 13) 0 5000) ∧
  (zin (S 14) 0 500)
theorem zGe.snd {S : Nat → Int32} (h : zGe S) : ∃ n : Nat, 100 ≤ n ∧ n ≤ 1000 ∧ S 0 = nI n := h.1
theorem zGe.gnd {S : Nat → Int32} (h : zGe S) : zin (S 1) (-90) 90 := h.2.1
theorem zGe.noi {S : Nat → Int32} (h : zGe S) : ∃ n : Nat, n ≤ 99 ∧ S 4 = nI n := h.2.2.1
theorem zGe.nv {S : Nat → Int32} (h : zGe S) : ∃ n : Nat, n ≤ 4 ∧ S 6 = nI n := h.2.2.2.1
theorem zGe.ns {S : Nat → Int32} (h : zGe S) : ∃ n : Nat, n ≤ 6 ∧ S 7 = nI n := h.2.2.2.2.1
theorem zGe.nm {S : Nat → Int32} (h : zGe S) : ∃ n : Nat, n ≤ 8 ∧ S 8 = nI n := h.2.2.2.2.2.1
theorem zGe.vh {S : Nat → Int32} (h : zGe S) : ∀ k, k < 4 → zin (S (16 + 3 * k + 0)) (-20000) 20000 ∧ zin (S (16 + 3 * k + 1)) (-50) 50 ∧ zin (S (16 + 3 * k + 2)) 0 5000 := h.2.2.2.2.2.2.1
theorem zGe.sv {S : Nat → Int32} (h : zGe S) : ∀ s, s < 6 → ∃ v : Nat, v < 4 ∧ S (28 + 21 * s + 0) = nI v := h.2.2.2.2.2.2.2.1
theorem zGe.sn {S : Nat → Int32} (h : zGe S) : ∀ s, s < 6 → nI s < S 7 → (∃ v : Nat, S (28 + 21 * s + 0) = nI v ∧ nI v < S 6) ∧ ∃ n : Nat, 1 ≤ n ∧ n ≤ 16 ∧ S (28 + 21 * s + 4) = nI n := h.2.2.2.2.2.2.2.2.1
theorem zGe.sr {S : Nat → Int32} (h : zGe S) : ∀ s, s < 6 → zin (S (28 + 21 * s + 1)) (-1000) 1000 ∧ zin (S (28 + 21 * s + 2)) 0 500 ∧ zin (S (28 + 21 * s + 3)) 0 10 := h.2.2.2.2.2.2.2.2.2.1
theorem zGe.sx {S : Nat → Int32} (h : zGe S) : ∀ s, s < 6 → ∀ i, i < 16 → zin (S (28 + 21 * s + (5 + i))) (-99) 99 := h.2.2.2.2.2.2.2.2.2.2.1
theorem zGe.mc {S : Nat → Int32} (h : zGe S) : ∀ m, m < 8 → zin (S (154 + 4 * m + 0)) (-5000) 5000 ∧ zin (S (154 + 4 * m + 1)) (-100) 99 ∧ zin (S (154 + 4 * m + 2)) 0 500 ∧ zin (S (154 + 4 * m + 3)) 0 9 := h.2.2.2.2.2.2.2.2.2.2.2.1
theorem zGe.fk {S : Nat → Int32} (h : zGe S) : ∃ k : Nat, k ≤ 2 ∧ S 10 = nI k := h.2.2.2.2.2.2.2.2.2.2.2.2.1
theorem zGe.fv {S : Nat → Int32} (h : zGe S) : S 10 = 0 → ∃ v : Nat, v < 4 ∧ S 11 = nI v ∧ nI v < S 6 := h.2.2.2.2.2.2.2.2.2.2.2.2.2.1
theorem zGe.fx {S : Nat → Int32} (h : zGe S) : zin (S 12) (-20000) 20000 := h.2.2.2.2.2.2.2.2.2.2.2.2.2.2.1
theorem zGe.fx0 {S : Nat → Int32} (h : zGe S) : S 10 = 0 → zin (S 12) (-1000) 1000 := h.2.2.2.2.2.2.2.2.2.2.2.2.2.2.2.1
theorem zGe.fx2 {S : Nat → Int32} (h : zGe S) : S 10 = 2 → zin (S 12) (-100) 100 := h.2.2.2.2.2.2.2.2.2.2.2.2.2.2.2.2.1
theorem zGe.fy {S : Nat → Int32} (h : zGe S) : zin (S 13) 0 5000 := h.2.2.2.2.2.2.2.2.2.2.2.2.2.2.2.2.2.1
theorem zGe.fz {S : Nat → Int32} (h : zGe S) : zin (S 14) 0 500 := h.2.2.2.2.2.2.2.2.2.2.2.2.2.2.2.2.2.2
theorem zsd_ok {S : Nat → Int32} (g : zGe S) {m s j : Nat} (hm : m < 8) (hs : s < 6) (hj : j < 256) :
    zddok S m (some (zsv S s)) (S (28 + 21 * s + 1)) (S (16 + 3 * zsv S s + 2)) (S (28 + 21 * s + 2)) j ∧ zddok S m (some (zsv S s)) (S (28 + 21 * s + 1)) (S (16 + 3 * zsv S s + 2)) (-S (28 + 21 * s + 2)) j := by
  obtain ⟨v, hv, e⟩ := g.sv s hs
  have hz : zsv S s = v := by unfold zsv; rw [e, nI_clamp (by omega)]
  rw [hz]
  obtain ⟨v1, v2, v3⟩ := g.vh v hv
  obtain ⟨s1, s2, -⟩ := g.sr s hs
  obtain ⟨m1, m2, m3, -⟩ := g.mc m hm
  have px := zin_sub (zin_add (zin_add v1 (zin_mul (c := 50) (d := 255) v2 (zin_w (zin_n (k := j) (by omega)) (by omega) (by omega)) (by decide)) (by decide) (by decide)) s1 (by decide) (by decide)) m1 (by decide) (by decide)
  have py := zin_sub v3 m2 (by decide) (by decide)
  have pz := zin_sub s2 m3 (by decide) (by decide)
  have pz2 := zin_sub (zin_neg s2 (by decide) (by decide)) m3 (by decide) (by decide)
  exact ⟨zdok_of (zin_w px (by decide) (by decide)) (zin_w py (by decide) (by decide)) (zin_w pz (by decide) (by decide)), zdok_of (zin_w px (by decide) (by decide)) (zin_w py (by decide) (by decide)) (zin_w pz2 (by decide) (by decide))⟩
/-! the focus -/
def zfv (S : Nat → Int32) : Option Nat := if S 10 = 0 then some (S 11).toNatClampNeg else none
def zfy (S : Nat → Int32) : Int32 := if S 10 = 0 then S (16 + 3 * (S 11).toNatClampNeg + 2) else S 13
theorem zfv_lt {S : Nat → Int32} (g : zGe S) : ∀ k, zfv S = some k → k < 4 := by
  intro k hk
  unfold zfv at hk
  split at hk
  · next h0 =>
    obtain ⟨v, hv, e, -⟩ := g.fv h0
    rw [e, nI_clamp (by omega)] at hk
    cases hk
    exact hv
  · cases hk
theorem zvi_zfv {S : Nat → Int32} (g : zGe S) (h0 : S 10 = 0) : zvi (zfv S) = S 11 ∧ zfv S = some (S 11).toNatClampNeg := by
  obtain ⟨v, hv, e, -⟩ := g.fv h0
  unfold zfv
  rw [if_pos h0, e, nI_clamp (by omega)]
  exact ⟨rfl, rfl⟩
theorem zfo_ok {S : Nat → Int32} (g : zGe S) {m j : Nat} {by_ : Int32} (hm : m < 8) (hj : j < 256) (hb : zin by_ (-2000) 2000) :
    zddok S m (zfv S) (S 12 + by_) (zfy S) (S 14) j ∧ zddok S m (zfv S) (S 12 + by_) (zfy S) (-S 14) j := by
  obtain ⟨m1, m2, m3, -⟩ := g.mc m hm
  have pz := zin_sub g.fz m3 (by decide) (by decide)
  have pz2 := zin_sub (zin_neg g.fz (by decide) (by decide)) m3 (by decide) (by decide)
  have hy : zin (zfy S) 0 5000 := by
    unfold zfy
    split
    · next h0 =>
      obtain ⟨v, hv, e, -⟩ := g.fv h0
      rw [e, nI_clamp (by omega)]
      exact (g.vh v hv).2.2
    · exact g.fy
  have py := zin_sub hy m2 (by decide) (by decide)
  have px : zin (zpx S (zfv S) (S 12 + by_) (nI j) - S (154 + 4 * m + 0)) (-45000) 45000 := by
    unfold zfv
    split
    · next h0 =>
      obtain ⟨v, hv, e, -⟩ := g.fv h0
      rw [e, nI_clamp (by omega)]
      obtain ⟨v1, v2, v3⟩ := g.vh v hv
      exact zin_w (zin_sub (zin_add (zin_add v1 (zin_mul (c := 50) (d := 255) v2 (zin_w (zin_n (k := j) (by omega)) (by omega) (by omega)) (by decide)) (by decide) (by decide)) (zin_add (g.fx0 h0) hb (by decide) (by decide)) (by decide) (by decide)) m1 (by decide) (by decide)) (by decide) (by decide)
    · exact zin_w (zin_sub (zin_add g.fx hb (by decide) (by decide)) m1 (by decide) (by decide)) (by decide) (by decide)
  exact ⟨zdok_of px (zin_w py (by decide) (by decide)) (zin_w pz (by decide) (by decide)), zdok_of px (zin_w py (by decide) (by decide)) (zin_w pz2 (by decide) (by decide))⟩
/-- the focus' distances -/
noncomputable def zfdd (S : Nat → Int32) (m : Nat) (by_ r : Int32) (j : Nat) : Int32 := if r = 0 then zdd S m (zfv S) (S 12 + by_) (zfy S) (S 14) j else zdd S m (zfv S) (S 12 + by_) (zfy S) (-S 14) j
theorem zd_nat (a b c : Int32) : ∃ e : Nat, e ≤ 70000 ∧ zd a b c = nI e := ⟨_, zis_le _, rfl⟩
theorem zfdd_nat (S : Nat → Int32) (m : Nat) (by_ r : Int32) (j : Nat) : ∃ e : Nat, e ≤ 70000 ∧ zfdd S m by_ r j = nI e := by
  unfold zfdd
  split <;> exact zd_nat _ _ _
theorem zsd_nat (S : Nat → Int32) (m s : Nat) (r : Int32) (j : Nat) : ∃ e : Nat, e ≤ 70000 ∧ zsd S m s r j = nI e := by
  unfold zsd
  split <;> exact zd_nat _ _ _
/-- Java's floorDiv -/
def zfl (x y : Int32) : Int32 := if 0 ≤ x ^^^ y then x / y else if x / y * y = x then x / y else x / y - 1
def zsh (S : Nat → Int32) (m : Nat) (d : Int32) : Int32 := zfl (S (154 + 4 * m + 0) * d) (100 * S 0)
/-- the first sample at which a mark has come -/
def zfs (S : Nat → Int32) (k : Int32) : Int32 := (k + S 0 - 1) / S 0
/-- what is taken away from a part, earlier parts being P -/
def zrp (S P d r : Nat → Int32) (t : Nat) (x : Int32) : Int32 :=
  match zlc (fun j => nI j * S 0 + r j) (x * S 0) 256 with
  | 0 => 0
  | k + 1 => if t ≤ k then 0 else ((if S 2 = 1 then (P k).toInt64 * (1000 + (d k).toInt64) / (1000 + (r k).toInt64) else (P k).toInt64) * (S 1).toInt64 / 100).toInt32
def zp1 (S d r : Nat → Int32) (m : Nat) (P : Nat → Int32) (t : Nat) : Int32 :=
  if S 5 = 1 ∧ zfs S (nI t * S 0 + d t) ≤ 255 then zrec S m (zfs S (nI t * S 0 + d t)) - zrp S P d r t (zfs S (nI t * S 0 + d t)) else zrec S m (zfs S (nI t * S 0 + d t))
/-- the first parts -/
def zpff (S d r : Nat → Int32) (m : Nat) : Nat → Nat → Int32
  | 0 => fun _ => 0
  | n + 1 => upd (zpff S d r m n) n (zp1 S d r m (zpff S d r m n) n)
/-- a microphone's parts for the focus moved by a number -/
noncomputable def zpa (S : Nat → Int32) (m : Nat) (by_ : Int32) (t : Nat) : Int32 :=
  if S 10 = 2 then zrec S m (nI t + zsh S m (S 12 + by_)) else zpff S (zfdd S m by_ 0) (zfdd S m by_ 1) m 256 t
/-- the beam: of the first microphones, parts being p -/
def zbeam (S : Nat → Int32) (p : Nat → Nat → Int32) : Nat → Nat → Int32
  | 0 => fun _ => 0
  | m + 1 => fun t => zbeam S p m t + S (154 + 4 * m + 3) * p m t
theorem zrp_congr {S P P' d r d' r' : Nat → Int32} {t : Nat} {x : Int32} (hP : ∀ k, k < t → P' k = P k) (hd : ∀ k, k < 256 → d' k = d k) (hr : ∀ k, k < 256 → r' k = r k) : zrp S P' d' r' t x = zrp S P d r t x := by
  unfold zrp
  rw [zlc_congr (f := fun j => nI j * S 0 + r' j) (g := fun j => nI j * S 0 + r j) 256 (fun i hi => by rw [hr i hi])]
  have := zlc_le (fun j => nI j * S 0 + r j) (x * S 0) 256
  split
  · rfl
  · next k hk =>
    split
    · rfl
    · rw [hP k (by omega), hd k (by omega), hr k (by omega)]
theorem zp1_congr {S P P' d r d' r' : Nat → Int32} {m t : Nat} (ht : t < 256) (hP : ∀ k, k < t → P' k = P k) (hd : ∀ k, k < 256 → d' k = d k) (hr : ∀ k, k < 256 → r' k = r k) : zp1 S d' r' m P' t = zp1 S d r m P t := by
  unfold zp1
  rw [hd t ht, zrp_congr hP hd hr]
theorem zpff_congr {S d r d' r' : Nat → Int32} {m : Nat} (hd : ∀ k, k < 256 → d' k = d k) (hr : ∀ k, k < 256 → r' k = r k) : ∀ n, n ≤ 256 → zpff S d' r' m n = zpff S d r m n
  | 0, _ => rfl
  | n + 1, h => by
    unfold zpff
    rw [zpff_congr hd hr n (by omega), zp1_congr (by omega) (fun _ _ => rfl) hd hr]
