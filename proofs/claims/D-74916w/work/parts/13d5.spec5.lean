/-! pure: marks come in order; the recording's cells -/
theorem zis_near {a b c d : Nat} (h : a ≤ b + d) (hn : b * b + c < 4900000000) : zis (a * a + c) ≤ zis (b * b + c) + d := by
  have h1 := zis_lt hn
  have h2 := zis_sq (a * a + c)
  generalize zis (a * a + c) = p at *
  generalize zis (b * b + c) = r at *
  by_cases q : p ≤ r + d
  · exact q
  · exfalso
    have h3 : r + 1 + d ≤ p := by omega
    have h4 := Nat.mul_le_mul h3 h3
    have h5 := Nat.mul_le_mul h h
    have h6 : b ≤ r := by
      by_cases e : b ≤ r
      · exact e
      · have := Nat.mul_le_mul (show r + 1 ≤ b by omega) (show r + 1 ≤ b by omega)
        omega
    have h7 := Nat.mul_le_mul_right d h6
    have e1 : (b + d) * (b + d) = b * b + 2 * (b * d) + d * d := by grind
    have e2 : (r + 1 + d) * (r + 1 + d) = (r + 1) * (r + 1) + 2 * (r * d) + 2 * d + d * d := by grind
    omega
/-- a distance of something that moves: by its squares -/
theorem zd_near {a a' b c : Int32} (ha : zin a (-45000) 45000) (ha' : zin a' (-45000) 45000) (hb : zin b (-10000) 10000) (hc : zin c (-2000) 2000) (d : Nat) (hd : a.toInt.natAbs ≤ a'.toInt.natAbs + d) :
    ∃ e e' : Nat, e ≤ 70000 ∧ e' ≤ 70000 ∧ zd a b c = nI e ∧ zd a' b c = nI e' ∧ e ≤ e' + d := by
  have key : ∀ x : Int32, ∀ l : Nat, l < 2 ^ 31 → zin x (-l) l → (x = nI x.toInt.natAbs ∨ x = -nI x.toInt.natAbs) ∧ x.toInt.natAbs ≤ l := by
    intro x l hl h
    unfold zin at h
    refine ⟨?_, by omega⟩
    by_cases q : 0 ≤ x.toInt
    · left
      apply Int32.toInt_inj.mp
      rw [nI_toInt (by omega)]
      omega
    · right
      apply Int32.toInt_inj.mp
      rw [sb_negT (by omega)]
      omega
  obtain ⟨e1, g1⟩ := key a 45000 (by decide) ha
  obtain ⟨e2, g2⟩ := key a' 45000 (by decide) ha'
  obtain ⟨e3, g3⟩ := key b 10000 (by decide) hb
  obtain ⟨e4, g4⟩ := key c 2000 (by decide) hc
  generalize a.toInt.natAbs = p at *
  generalize a'.toInt.natAbs = p' at *
  generalize b.toInt.natAbs = q at *
  generalize c.toInt.natAbs = w at *
  have f1 := Nat.mul_le_mul g1 g1
  have f2 := Nat.mul_le_mul g2 g2
  have f3 := Nat.mul_le_mul g3 g3
  have f4 := Nat.mul_le_mul g4 g4
  have s1 : zsq3 a b c = lN (p * p + (q * q + w * w)) := by
    unfold zsq3
    rw [zsqr e1 (by omega), zsqr e3 (by omega), zsqr e4 (by omega), lN_add, lN_add, Nat.add_assoc]
  have s2 : zsq3 a' b c = lN (p' * p' + (q * q + w * w)) := by
    unfold zsq3
    rw [zsqr e2 (by omega), zsqr e3 (by omega), zsqr e4 (by omega), lN_add, lN_add, Nat.add_assoc]
  exact ⟨_, _, zis_le _, zis_le _, zd_of (by omega) s1, zd_of (by omega) s2, zis_near hd (by omega)⟩
/-- marks in order, one step at a time -/
theorem zmono_of {S d : Nat → Int32} {n : Nat} (h0 : S 0 = nI n) (h1 : 100 ≤ n) (h2 : n ≤ 1000) (f : Nat → Nat) (hf : ∀ j, j < 256 → d j = nI (f j) ∧ f j ≤ 70000) (hs : ∀ j, j + 1 < 256 → f j ≤ f (j + 1) + 50) : zmono (fun j => nI j * S 0 + d j) := by
  have e : ∀ j, j < 256 → nI j * S 0 + d j = nI (j * n + f j) := fun j hj => by
    rw [h0, (hf j hj).1, ← nI_add]
    congr 1
    exact (Int32.ofNat_mul j n).symm
  have st : ∀ k i, i + k < 256 → i * n + f i ≤ (i + k) * n + f (i + k) := by
    intro k
    induction k with
    | zero => intro i hi; exact Nat.le_refl _
    | succ k ih =>
      intro i hi
      have a1 := ih i (by omega)
      have a2 := hs (i + k) (by omega)
      have e3 : (i + (k + 1)) * n = (i + k) * n + n := by rw [← Nat.add_assoc, Nat.succ_mul]
      rw [e3]
      have : i + (k + 1) = i + k + 1 := rfl
      rw [this]
      omega
  intro i j hij hj
  show nI i * S 0 + d i ≤ nI j * S 0 + d j
  rw [e i (by omega), e j hj]
  have a1 := st (j - i) i (by omega)
  rw [show i + (j - i) = j by omega] at a1
  have a2 := (hf j hj).2
  have a3 : j * n ≤ 255 * 1000 := Nat.mul_le_mul (by omega) h2
  exact nI_le a1 (by omega)
theorem zsn_of {S : Nat → Int32} {n : Nat} (h0 : S 0 = nI n) (h2 : n ≤ 1000) : ∀ i j : Nat, i ≤ j → j < 256 → nI i * S 0 ≤ nI j * S 0 := by
  intro i j hij hj
  rw [h0]
  have e : ∀ k, nI k * nI n = nI (k * n) := fun k => (Int32.ofNat_mul k n).symm
  rw [e, e]
  have a3 : j * n ≤ 255 * 1000 := Nat.mul_le_mul (by omega) h2
  exact nI_le (Nat.mul_le_mul_right n hij) (by omega)
/-- steps of something on a vehicle -/
theorem zpx_step {S : Nat → Int32} (g : zGe S) {v : Nat} (hv : v < 4) {x m0 : Int32} (hx : zin x (-3000) 3000) (hm : zin m0 (-5000) 5000) {j : Nat} (hj : j + 1 < 256) :
    zin (zpx S (some v) x (nI j) - m0) (-45000) 45000 ∧ (zpx S (some v) x (nI j) - m0).toInt.natAbs ≤ (zpx S (some v) x (nI (j + 1)) - m0).toInt.natAbs + 50 := by
  obtain ⟨v1, v2, -⟩ := g.vh v hv
  have P : ∀ i, i < 256 → zin (zpx S (some v) x (nI i) - m0) (-45000) 45000 := fun i hi => zin_w (zin_sub (zin_add (zin_add v1 (zin_mul (c := 50) (d := 255) v2 (zin_w (zin_n (k := i) (by omega)) (by omega) (by omega)) (by decide)) (by decide) (by decide)) hx (by decide) (by decide)) hm (by decide) (by decide)) (by decide) (by decide)
  refine ⟨P j (by omega), ?_⟩
  have p1 := P j (by omega)
  have p2 := P (j + 1) hj
  have e : zpx S (some v) x (nI (j + 1)) - m0 = (zpx S (some v) x (nI j) - m0) + S (16 + 3 * v + 1) := by
    show S (16 + 3 * v + 0) + S (16 + 3 * v + 1) * nI (j + 1) + x - m0 = S (16 + 3 * v + 0) + S (16 + 3 * v + 1) * nI j + x - m0 + S (16 + 3 * v + 1)
    rw [nI_succ, Int32.mul_add, Int32.mul_one]
    grind
  have p3 := zin_add p1 v2 (by decide) (by decide)
  unfold zin at p1 p2 v2
  have e2 : (zpx S (some v) x (nI (j + 1)) - m0).toInt = (zpx S (some v) x (nI j) - m0).toInt + (S (16 + 3 * v + 1)).toInt := by
    rw [e, Int32.toInt_add, zbm (by omega) (by omega)]
  omega
theorem zdd_mono {S : Nat → Int32} (g : zGe S) {m : Nat} (hm : m < 8) {v : Option Nat} (hv : ∀ k, v = some k → k < 4) {x y z : Int32} (hx : zin x (-3000) 3000 ∨ (v = none ∧ zin x (-22000) 22000)) (hy : zin y 0 5000) (hz : zin z (-500) 500) : zmono (fun j => nI j * S 0 + zdd S m v x y z j) := by
  obtain ⟨n, h1, h2, h0⟩ := g.snd
  obtain ⟨m1, m2, m3, -⟩ := g.mc m hm
  have py : zin (y - S (154 + 4 * m + 1)) (-10000) 10000 := zin_w (zin_sub hy m2 (by decide) (by decide)) (by decide) (by decide)
  have pz : zin (z - S (154 + 4 * m + 2)) (-2000) 2000 := zin_w (zin_sub hz m3 (by decide) (by decide)) (by decide) (by decide)
  refine zmono_of h0 h1 h2 (fun j => zis (zsq3 (zpx S v x (nI j) - S (154 + 4 * m + 0)) (y - S (154 + 4 * m + 1)) (z - S (154 + 4 * m + 2))).toInt.toNat) (fun j _ => ⟨rfl, zis_le _⟩) (fun j hj => ?_)
  have fin : ∀ (a a' : Int32), (∃ e e' : Nat, e ≤ 70000 ∧ e' ≤ 70000 ∧ zd a (y - S (154 + 4 * m + 1)) (z - S (154 + 4 * m + 2)) = nI e ∧ zd a' (y - S (154 + 4 * m + 1)) (z - S (154 + 4 * m + 2)) = nI e' ∧ e ≤ e' + 50) → zis (zsq3 a (y - S (154 + 4 * m + 1)) (z - S (154 + 4 * m + 2))).toInt.toNat ≤ zis (zsq3 a' (y - S (154 + 4 * m + 1)) (z - S (154 + 4 * m + 2))).toInt.toNat + 50 := by
    rintro a a' ⟨e, e', q1, q2, q3, q4, q5⟩
    have r1 := (nI_eq (Nat.lt_of_le_of_lt (zis_le _) (by decide)) (by omega)).mp q3
    have r2 := (nI_eq (Nat.lt_of_le_of_lt (zis_le _) (by decide)) (by omega)).mp q4
    rw [r1, r2]
    exact q5
  apply fin
  rcases hx with hx | ⟨rfl, hx⟩
  · cases v with
    | none =>
      have px : zin (x - S (154 + 4 * m + 0)) (-45000) 45000 := zin_w (zin_sub hx m1 (by decide) (by decide)) (by decide) (by decide)
      exact zd_near px px py pz 50 (by show (x - S (154 + 4 * m + 0)).toInt.natAbs ≤ (x - S (154 + 4 * m + 0)).toInt.natAbs + 50; omega)
    | some k =>
      have hk := hv k rfl
      obtain ⟨p1, p2⟩ := zpx_step g hk hx m1 hj
      have p3 : zin (zpx S (some k) x (nI (j + 1)) - S (154 + 4 * m + 0)) (-45000) 45000 := by
        by_cases q : j + 2 < 256
        · exact (zpx_step g hk hx m1 (j := j + 1) q).1
        · obtain ⟨v1, v2, -⟩ := g.vh k hk
          exact zin_w (zin_sub (zin_add (zin_add v1 (zin_mul (c := 50) (d := 255) v2 (zin_w (zin_n (k := j + 1) (by omega)) (by omega) (by omega)) (by decide)) (by decide) (by decide)) hx (by decide) (by decide)) m1 (by decide) (by decide)) (by decide) (by decide)
      exact zd_near p1 p3 py pz 50 p2
  · have px : zin (x - S (154 + 4 * m + 0)) (-45000) 45000 := zin_w (zin_sub hx m1 (by decide) (by decide)) (by decide) (by decide)
    exact zd_near px px py pz 50 (by show (x - S (154 + 4 * m + 0)).toInt.natAbs ≤ (x - S (154 + 4 * m + 0)).toInt.natAbs + 50; omega)
theorem zsd_mono {S : Nat → Int32} (g : zGe S) {m s : Nat} (hm : m < 8) (hs : s < 6) (r : Int32) : zmono (fun j => nI j * S 0 + zsd S m s r j) := by
  obtain ⟨v, hv, e⟩ := g.sv s hs
  have hz : zsv S s = v := by unfold zsv; rw [e, nI_clamp (by omega)]
  obtain ⟨s1, s2, -⟩ := g.sr s hs
  by_cases h : r = 0
  · subst h
    exact zdd_mono g hm (fun k hk => by cases hk; rw [hz]; exact hv) (Or.inl (zin_w s1 (by decide) (by decide))) (by rw [hz]; exact (g.vh v hv).2.2) (zin_w s2 (by decide) (by decide))
  · have : (fun j => nI j * S 0 + zsd S m s r j) = fun j => nI j * S 0 + zdd S m (some (zsv S s)) (S (28 + 21 * s + 1)) (S (16 + 3 * zsv S s + 2)) (-S (28 + 21 * s + 2)) j := by
      funext j
      unfold zsd
      rw [if_neg h]
    rw [this]
    exact zdd_mono g hm (fun k hk => by cases hk; rw [hz]; exact hv) (Or.inl (zin_w s1 (by decide) (by decide))) (by rw [hz]; exact (g.vh v hv).2.2) (zin_w (zin_neg s2 (by decide) (by decide)) (by decide) (by decide))
/-- two states with the same settings -/
def zsame (S S' : Nat → Int32) : Prop := ∀ j, j < 186 → j ≠ 3 → j ≠ 9 → S' j = S j
theorem zsame_ge {S S' : Nat → Int32} (h : zsame S S') (g : zGe S) : zGe S' := by
  unfold zGe
  rw [h 0 (by decide) (by decide) (by decide), h 1 (by decide) (by decide) (by decide), h 4 (by decide) (by decide) (by decide), h 6 (by decide) (by decide) (by decide), h 7 (by decide) (by decide) (by decide), h 8 (by decide) (by decide) (by decide), h 10 (by decide) (by decide) (by decide), h 11 (by decide) (by decide) (by decide), h 12 (by decide) (by decide) (by decide), h 13 (by decide) (by decide) (by decide), h 14 (by decide) (by decide) (by decide)]
  refine ⟨g.snd, g.gnd, g.noi, g.nv, g.ns, g.nm, fun k hk => ?_, fun s hs => ?_, fun s hs h7 => ?_, fun s hs => ?_, fun s hs i hi => ?_, fun m hm => ?_, g.fk, g.fv, g.fx, g.fx0, g.fx2, g.fy, g.fz⟩
  · rw [h _ (by omega) (by omega) (by omega), h _ (by omega) (by omega) (by omega), h _ (by omega) (by omega) (by omega)]
    exact g.vh k hk
  · rw [h _ (by omega) (by omega) (by omega)]
    exact g.sv s hs
  · rw [h _ (by omega) (by omega) (by omega), h _ (by omega) (by omega) (by omega)]
    exact g.sn s hs h7
  · rw [h _ (by omega) (by omega) (by omega), h _ (by omega) (by omega) (by omega), h _ (by omega) (by omega) (by omega)]
    exact g.sr s hs
  · rw [h _ (by omega) (by omega) (by omega)]
    exact g.sx s hs i hi
  · rw [h _ (by omega) (by omega) (by omega), h _ (by omega) (by omega) (by omega), h _ (by omega) (by omega) (by omega), h _ (by omega) (by omega) (by omega)]
    exact g.mc m hm
theorem zsame_px {S S' : Nat → Int32} (h : zsame S S') {v : Option Nat} (hv : ∀ k, v = some k → k < 4) (x t : Int32) : zpx S' v x t = zpx S v x t := by
  cases v with
  | none => rfl
  | some k =>
    have := hv k rfl
    show S' _ + S' _ * t + x = S _ + S _ * t + x
    rw [h _ (by omega) (by omega) (by omega), h _ (by omega) (by omega) (by omega)]
theorem zsame_dd {S S' : Nat → Int32} (h : zsame S S') {m : Nat} (hm : m < 8) {v : Option Nat} (hv : ∀ k, v = some k → k < 4) (x y z : Int32) (j : Nat) : zdd S' m v x y z j = zdd S m v x y z j := by
  unfold zdd
  rw [zsame_px h hv, h _ (by omega) (by omega) (by omega), h _ (by omega) (by omega) (by omega), h _ (by omega) (by omega) (by omega)]
theorem zsame_sv {S S' : Nat → Int32} (h : zsame S S') {s : Nat} (hs : s < 6) : zsv S' s = zsv S s := by
  unfold zsv
  rw [h _ (by omega) (by omega) (by omega)]
theorem zsv_lt {S : Nat → Int32} (g : zGe S) {s : Nat} (hs : s < 6) : S (28 + 21 * s + 0) = nI (zsv S s) ∧ zsv S s < 4 := by
  obtain ⟨v, hv, e⟩ := g.sv s hs
  have hz : zsv S s = v := by unfold zsv; rw [e, nI_clamp (by omega)]
  rw [hz]
  exact ⟨e, hv⟩
theorem zsame_sd {S S' : Nat → Int32} (g : zGe S) (h : zsame S S') {m s : Nat} (hm : m < 8) (hs : s < 6) (r : Int32) (j : Nat) : zsd S' m s r j = zsd S m s r j := by
  have hv : ∀ k, some (zsv S s) = some k → k < 4 := fun k hk => by cases hk; exact (zsv_lt g hs).2
  have h4 := (zsv_lt g hs).2
  unfold zsd
  rw [zsame_sv h hs, zsame_dd h hm hv, zsame_dd h hm hv, h _ (by omega) (by omega) (by omega), h _ (by omega) (by omega) (by omega), h _ (by omega) (by omega) (by omega)]
theorem zhr_congr {S S' d d' : Nat → Int32} (h : zsame S S') (hd : ∀ j, j < 256 → d' j = d j) {s n4 : Nat} {r : Int32} (hs : s < 6) (h4 : S (28 + 21 * s + 4) = nI n4) (h0 : 0 < n4) (h1 : n4 ≤ 16) (n : Nat) : zhr S' d' s r n = zhr S d s r n := by
  unfold zhr
  have e : zlc (fun j => nI j * S' 0 + d' j) (nI n * S' 0) 256 = zlc (fun j => nI j * S 0 + d j) (nI n * S 0) 256 := by
    rw [h 0 (by decide) (by decide) (by decide)]
    exact zlc_congr 256 (fun i hi => by rw [hd i hi])
  rw [e]
  have hl := zlc_le (fun j => nI j * S 0 + d j) (nI n * S 0) 256
  split
  · rfl
  · next k hk =>
    rw [hd k (by omega)]
    have e2 : zem S' s k = zem S s k := by
      unfold zem
      have hm := Nat.mod_lt k h0
      rw [h (28 + 21 * s + 4) (by omega) (by omega) (by omega), h4, nI_clamp (by omega), h _ (by omega) (by omega) (by omega), h _ (by omega) (by omega) (by omega)]
    unfold zam
    rw [e2, h 2 (by decide) (by decide) (by decide), h 1 (by decide) (by decide) (by decide)]
/-- the random number ahead of a microphone's record -/
def zqs (lv q : Nat) : Nat → Nat
  | 0 => q
  | m + 1 => if lv = 0 then zqs lv q m else zrs (zqs lv q m) 256
theorem zqs_lt {lv q : Nat} (h : q < 2147483648) : ∀ m, zqs lv q m < 2147483648
  | 0 => h
  | m + 1 => by
    unfold zqs
    split
    · exact zqs_lt h m
    · exact zrs_lt (zqs_lt h m) 256
/-- a cell of a record -/
noncomputable def zmr (S : Nat → Int32) (ns lv q m n : Nat) : Int32 := zrw S m ns n + zns lv (zqs lv q m) n
/-- after a recording -/
def zAR (S S' : Nat → Int32) (nm ns lv q : Nat) : Prop :=
  (∀ j, j < 186 → j ≠ 3 → j ≠ 9 → S' j = S j) ∧ (∀ j, 186 + 256 * nm ≤ j → S' j = S j) ∧ S' 9 = S 9 + 1 ∧ S' 3 = nI (zqs lv q nm) ∧ ∀ m, m < nm → ∀ n, n < 256 → S' (186 + 256 * m + n) = zmr S ns lv q m n
theorem zmono_congr {f g : Nat → Int32} (h : ∀ j, j < 256 → g j = f j) (m : zmono f) : zmono g := by
  intro i j hij hj
  rw [h i (by omega), h j hj]
  exact m i j hij hj
theorem zlay {S dx rx : Nat → Int32} {m s : Nat} (hd : ∀ j, j < 256 → dx j = zdd S m (some (zsv S s)) (S (28 + 21 * s + 1)) (S (16 + 3 * zsv S s + 2)) (S (28 + 21 * s + 2)) j ∧ rx j = zdd S m (some (zsv S s)) (S (28 + 21 * s + 1)) (S (16 + 3 * zsv S s + 2)) (-S (28 + 21 * s + 2)) j) (r : Int32) (j : Nat) (hj : j < 256) : (if r = 0 then dx j else rx j) = zsd S m s r j := by
  unfold zsd
  split
  · exact (hd j hj).1
  · exact (hd j hj).2
theorem zlayN {S dx rx : Nat → Int32} {m s : Nat} (hd : ∀ j, j < 256 → dx j = zdd S m (some (zsv S s)) (S (28 + 21 * s + 1)) (S (16 + 3 * zsv S s + 2)) (S (28 + 21 * s + 2)) j ∧ rx j = zdd S m (some (zsv S s)) (S (28 + 21 * s + 1)) (S (16 + 3 * zsv S s + 2)) (-S (28 + 21 * s + 2)) j) : ∀ j, j < 256 → (∃ e : Nat, e ≤ 70000 ∧ dx j = nI e) ∧ ∃ e : Nat, e ≤ 70000 ∧ rx j = nI e := by
  intro j hj
  rw [(hd j hj).1, (hd j hj).2]
  exact ⟨zd_nat _ _ _, zd_nat _ _ _⟩
