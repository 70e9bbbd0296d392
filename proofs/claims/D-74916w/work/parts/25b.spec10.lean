/-! pure: the good order of a state is kept by each change -/
theorem zaV_6 {S : Nat → Int32} {n : Nat} {x s y : Int32} : zaV S n x s y 6 = nI (n + 1) := by simp only [zaV, upd]; rw [if_pos trivial]
theorem zaM_8 {S : Nat → Int32} {n : Nat} {x y z w : Int32} : zaM S n x y z w 8 = nI (n + 1) := by simp only [zaM, upd]; rw [if_pos trivial]
theorem zGe_snd {S : Nat → Int32} (g : zGe S) {n : Nat} (h1 : 100 ≤ n) (h2 : n ≤ 1000) : zGe (upd S 0 (nI n)) := by
  have e : ∀ j, ¬ (j = 0) → (upd S 0 (nI n)) j = S j := fun j hj => by
    simp only [upd]
    rw [if_neg (by omega)]
  unfold zGe
  exact ⟨⟨n, h1, h2, if_pos rfl⟩,
    by rw [e (1) (by omega)]; exact g.gnd,
    by rw [e (4) (by omega)]; exact g.noi,
    by rw [e (6) (by omega)]; exact g.nv,
    by rw [e (7) (by omega)]; exact g.ns,
    by rw [e (8) (by omega)]; exact g.nm,
    fun k hk => by rw [e (16 + 3 * k + 0) (by omega), e (16 + 3 * k + 1) (by omega), e (16 + 3 * k + 2) (by omega)]; exact g.vh k hk,
    fun s hs => by rw [e (28 + 21 * s + 0) (by omega)]; exact g.sv s hs,
    fun s hs h7 => by rw [e 7 (by omega)] at h7; rw [e (28 + 21 * s + 0) (by omega), e (28 + 21 * s + 4) (by omega), e (6) (by omega)]; exact g.sn s hs h7,
    fun s hs => by rw [e (28 + 21 * s + 1) (by omega), e (28 + 21 * s + 2) (by omega), e (28 + 21 * s + 3) (by omega)]; exact g.sr s hs,
    fun s hs i hi => by rw [e (28 + 21 * s + (5 + i)) (by omega)]; exact g.sx s hs i hi,
    fun m hm => by rw [e (154 + 4 * m + 0) (by omega), e (154 + 4 * m + 1) (by omega), e (154 + 4 * m + 2) (by omega), e (154 + 4 * m + 3) (by omega)]; exact g.mc m hm,
    by rw [e (10) (by omega)]; exact g.fk,
    fun h0 => by rw [e 10 (by omega)] at h0; rw [e 11 (by omega), e 6 (by omega)]; exact g.fv h0,
    by rw [e (12) (by omega)]; exact g.fx,
    fun h0 => by rw [e 10 (by omega)] at h0; rw [e 12 (by omega)]; exact g.fx0 h0,
    fun h0 => by rw [e 10 (by omega)] at h0; rw [e 12 (by omega)]; exact g.fx2 h0,
    by rw [e (13) (by omega)]; exact g.fy,
    by rw [e (14) (by omega)]; exact g.fz⟩
theorem zGe_gnd {S : Nat → Int32} (g : zGe S) {x : Int32} (h : zin x (-90) 90) : zGe (upd S 1 x) := by
  have e : ∀ j, ¬ (j = 1) → (upd S 1 x) j = S j := fun j hj => by
    simp only [upd]
    rw [if_neg (by omega)]
  unfold zGe
  exact ⟨by rw [e (0) (by omega)]; exact g.snd,
    by rw [show upd S 1 x 1 = x from if_pos rfl]; exact h,
    by rw [e (4) (by omega)]; exact g.noi,
    by rw [e (6) (by omega)]; exact g.nv,
    by rw [e (7) (by omega)]; exact g.ns,
    by rw [e (8) (by omega)]; exact g.nm,
    fun k hk => by rw [e (16 + 3 * k + 0) (by omega), e (16 + 3 * k + 1) (by omega), e (16 + 3 * k + 2) (by omega)]; exact g.vh k hk,
    fun s hs => by rw [e (28 + 21 * s + 0) (by omega)]; exact g.sv s hs,
    fun s hs h7 => by rw [e 7 (by omega)] at h7; rw [e (28 + 21 * s + 0) (by omega), e (28 + 21 * s + 4) (by omega), e (6) (by omega)]; exact g.sn s hs h7,
    fun s hs => by rw [e (28 + 21 * s + 1) (by omega), e (28 + 21 * s + 2) (by omega), e (28 + 21 * s + 3) (by omega)]; exact g.sr s hs,
    fun s hs i hi => by rw [e (28 + 21 * s + (5 + i)) (by omega)]; exact g.sx s hs i hi,
    fun m hm => by rw [e (154 + 4 * m + 0) (by omega), e (154 + 4 * m + 1) (by omega), e (154 + 4 * m + 2) (by omega), e (154 + 4 * m + 3) (by omega)]; exact g.mc m hm,
    by rw [e (10) (by omega)]; exact g.fk,
    fun h0 => by rw [e 10 (by omega)] at h0; rw [e 11 (by omega), e 6 (by omega)]; exact g.fv h0,
    by rw [e (12) (by omega)]; exact g.fx,
    fun h0 => by rw [e 10 (by omega)] at h0; rw [e 12 (by omega)]; exact g.fx0 h0,
    fun h0 => by rw [e 10 (by omega)] at h0; rw [e 12 (by omega)]; exact g.fx2 h0,
    by rw [e (13) (by omega)]; exact g.fy,
    by rw [e (14) (by omega)]; exact g.fz⟩
theorem zGe_spr {S : Nat → Int32} (g : zGe S) {x : Int32} : zGe (upd S 2 x) := by
  have e : ∀ j, ¬ (j = 2) → (upd S 2 x) j = S j := fun j hj => by
    simp only [upd]
    rw [if_neg (by omega)]
  unfold zGe
  exact ⟨by rw [e (0) (by omega)]; exact g.snd,
    by rw [e (1) (by omega)]; exact g.gnd,
    by rw [e (4) (by omega)]; exact g.noi,
    by rw [e (6) (by omega)]; exact g.nv,
    by rw [e (7) (by omega)]; exact g.ns,
    by rw [e (8) (by omega)]; exact g.nm,
    fun k hk => by rw [e (16 + 3 * k + 0) (by omega), e (16 + 3 * k + 1) (by omega), e (16 + 3 * k + 2) (by omega)]; exact g.vh k hk,
    fun s hs => by rw [e (28 + 21 * s + 0) (by omega)]; exact g.sv s hs,
    fun s hs h7 => by rw [e 7 (by omega)] at h7; rw [e (28 + 21 * s + 0) (by omega), e (28 + 21 * s + 4) (by omega), e (6) (by omega)]; exact g.sn s hs h7,
    fun s hs => by rw [e (28 + 21 * s + 1) (by omega), e (28 + 21 * s + 2) (by omega), e (28 + 21 * s + 3) (by omega)]; exact g.sr s hs,
    fun s hs i hi => by rw [e (28 + 21 * s + (5 + i)) (by omega)]; exact g.sx s hs i hi,
    fun m hm => by rw [e (154 + 4 * m + 0) (by omega), e (154 + 4 * m + 1) (by omega), e (154 + 4 * m + 2) (by omega), e (154 + 4 * m + 3) (by omega)]; exact g.mc m hm,
    by rw [e (10) (by omega)]; exact g.fk,
    fun h0 => by rw [e 10 (by omega)] at h0; rw [e 11 (by omega), e 6 (by omega)]; exact g.fv h0,
    by rw [e (12) (by omega)]; exact g.fx,
    fun h0 => by rw [e 10 (by omega)] at h0; rw [e 12 (by omega)]; exact g.fx0 h0,
    fun h0 => by rw [e 10 (by omega)] at h0; rw [e 12 (by omega)]; exact g.fx2 h0,
    by rw [e (13) (by omega)]; exact g.fy,
    by rw [e (14) (by omega)]; exact g.fz⟩
theorem zGe_rnd {S : Nat → Int32} (g : zGe S) {x : Int32} : zGe (upd S 3 x) := by
  have e : ∀ j, ¬ (j = 3) → (upd S 3 x) j = S j := fun j hj => by
    simp only [upd]
    rw [if_neg (by omega)]
  unfold zGe
  exact ⟨by rw [e (0) (by omega)]; exact g.snd,
    by rw [e (1) (by omega)]; exact g.gnd,
    by rw [e (4) (by omega)]; exact g.noi,
    by rw [e (6) (by omega)]; exact g.nv,
    by rw [e (7) (by omega)]; exact g.ns,
    by rw [e (8) (by omega)]; exact g.nm,
    fun k hk => by rw [e (16 + 3 * k + 0) (by omega), e (16 + 3 * k + 1) (by omega), e (16 + 3 * k + 2) (by omega)]; exact g.vh k hk,
    fun s hs => by rw [e (28 + 21 * s + 0) (by omega)]; exact g.sv s hs,
    fun s hs h7 => by rw [e 7 (by omega)] at h7; rw [e (28 + 21 * s + 0) (by omega), e (28 + 21 * s + 4) (by omega), e (6) (by omega)]; exact g.sn s hs h7,
    fun s hs => by rw [e (28 + 21 * s + 1) (by omega), e (28 + 21 * s + 2) (by omega), e (28 + 21 * s + 3) (by omega)]; exact g.sr s hs,
    fun s hs i hi => by rw [e (28 + 21 * s + (5 + i)) (by omega)]; exact g.sx s hs i hi,
    fun m hm => by rw [e (154 + 4 * m + 0) (by omega), e (154 + 4 * m + 1) (by omega), e (154 + 4 * m + 2) (by omega), e (154 + 4 * m + 3) (by omega)]; exact g.mc m hm,
    by rw [e (10) (by omega)]; exact g.fk,
    fun h0 => by rw [e 10 (by omega)] at h0; rw [e 11 (by omega), e 6 (by omega)]; exact g.fv h0,
    by rw [e (12) (by omega)]; exact g.fx,
    fun h0 => by rw [e 10 (by omega)] at h0; rw [e 12 (by omega)]; exact g.fx0 h0,
    fun h0 => by rw [e 10 (by omega)] at h0; rw [e 12 (by omega)]; exact g.fx2 h0,
    by rw [e (13) (by omega)]; exact g.fy,
    by rw [e (14) (by omega)]; exact g.fz⟩
theorem zGe_cut {S : Nat → Int32} (g : zGe S) {x : Int32} : zGe (upd S 5 x) := by
  have e : ∀ j, ¬ (j = 5) → (upd S 5 x) j = S j := fun j hj => by
    simp only [upd]
    rw [if_neg (by omega)]
  unfold zGe
  exact ⟨by rw [e (0) (by omega)]; exact g.snd,
    by rw [e (1) (by omega)]; exact g.gnd,
    by rw [e (4) (by omega)]; exact g.noi,
    by rw [e (6) (by omega)]; exact g.nv,
    by rw [e (7) (by omega)]; exact g.ns,
    by rw [e (8) (by omega)]; exact g.nm,
    fun k hk => by rw [e (16 + 3 * k + 0) (by omega), e (16 + 3 * k + 1) (by omega), e (16 + 3 * k + 2) (by omega)]; exact g.vh k hk,
    fun s hs => by rw [e (28 + 21 * s + 0) (by omega)]; exact g.sv s hs,
    fun s hs h7 => by rw [e 7 (by omega)] at h7; rw [e (28 + 21 * s + 0) (by omega), e (28 + 21 * s + 4) (by omega), e (6) (by omega)]; exact g.sn s hs h7,
    fun s hs => by rw [e (28 + 21 * s + 1) (by omega), e (28 + 21 * s + 2) (by omega), e (28 + 21 * s + 3) (by omega)]; exact g.sr s hs,
    fun s hs i hi => by rw [e (28 + 21 * s + (5 + i)) (by omega)]; exact g.sx s hs i hi,
    fun m hm => by rw [e (154 + 4 * m + 0) (by omega), e (154 + 4 * m + 1) (by omega), e (154 + 4 * m + 2) (by omega), e (154 + 4 * m + 3) (by omega)]; exact g.mc m hm,
    by rw [e (10) (by omega)]; exact g.fk,
    fun h0 => by rw [e 10 (by omega)] at h0; rw [e 11 (by omega), e 6 (by omega)]; exact g.fv h0,
    by rw [e (12) (by omega)]; exact g.fx,
    fun h0 => by rw [e 10 (by omega)] at h0; rw [e 12 (by omega)]; exact g.fx0 h0,
    fun h0 => by rw [e 10 (by omega)] at h0; rw [e 12 (by omega)]; exact g.fx2 h0,
    by rw [e (13) (by omega)]; exact g.fy,
    by rw [e (14) (by omega)]; exact g.fz⟩
theorem zGe_noi {S : Nat → Int32} (g : zGe S) {n : Nat} (h : n ≤ 99) : zGe (upd S 4 (nI n)) := by
  have e : ∀ j, ¬ (j = 4) → (upd S 4 (nI n)) j = S j := fun j hj => by
    simp only [upd]
    rw [if_neg (by omega)]
  unfold zGe
  exact ⟨by rw [e (0) (by omega)]; exact g.snd,
    by rw [e (1) (by omega)]; exact g.gnd,
    ⟨n, h, if_pos rfl⟩,
    by rw [e (6) (by omega)]; exact g.nv,
    by rw [e (7) (by omega)]; exact g.ns,
    by rw [e (8) (by omega)]; exact g.nm,
    fun k hk => by rw [e (16 + 3 * k + 0) (by omega), e (16 + 3 * k + 1) (by omega), e (16 + 3 * k + 2) (by omega)]; exact g.vh k hk,
    fun s hs => by rw [e (28 + 21 * s + 0) (by omega)]; exact g.sv s hs,
    fun s hs h7 => by rw [e 7 (by omega)] at h7; rw [e (28 + 21 * s + 0) (by omega), e (28 + 21 * s + 4) (by omega), e (6) (by omega)]; exact g.sn s hs h7,
    fun s hs => by rw [e (28 + 21 * s + 1) (by omega), e (28 + 21 * s + 2) (by omega), e (28 + 21 * s + 3) (by omega)]; exact g.sr s hs,
    fun s hs i hi => by rw [e (28 + 21 * s + (5 + i)) (by omega)]; exact g.sx s hs i hi,
    fun m hm => by rw [e (154 + 4 * m + 0) (by omega), e (154 + 4 * m + 1) (by omega), e (154 + 4 * m + 2) (by omega), e (154 + 4 * m + 3) (by omega)]; exact g.mc m hm,
    by rw [e (10) (by omega)]; exact g.fk,
    fun h0 => by rw [e 10 (by omega)] at h0; rw [e 11 (by omega), e 6 (by omega)]; exact g.fv h0,
    by rw [e (12) (by omega)]; exact g.fx,
    fun h0 => by rw [e 10 (by omega)] at h0; rw [e 12 (by omega)]; exact g.fx0 h0,
    fun h0 => by rw [e 10 (by omega)] at h0; rw [e 12 (by omega)]; exact g.fx2 h0,
    by rw [e (13) (by omega)]; exact g.fy,
    by rw [e (14) (by omega)]; exact g.fz⟩
theorem zGe_wgt {S : Nat → Int32} (g : zGe S) {k : Nat} {x : Int32} (hk : k < 8) (h : zin x 0 9) : zGe (upd S (154 + 4 * k + 3) x) := by
  have e : ∀ j, ¬ (j = 154 + 4 * k + 3) → (upd S (154 + 4 * k + 3) x) j = S j := fun j hj => by
    simp only [upd]
    rw [if_neg (by omega)]
  unfold zGe
  exact ⟨by rw [e (0) (by omega)]; exact g.snd,
    by rw [e (1) (by omega)]; exact g.gnd,
    by rw [e (4) (by omega)]; exact g.noi,
    by rw [e (6) (by omega)]; exact g.nv,
    by rw [e (7) (by omega)]; exact g.ns,
    by rw [e (8) (by omega)]; exact g.nm,
    fun k hk => by rw [e (16 + 3 * k + 0) (by omega), e (16 + 3 * k + 1) (by omega), e (16 + 3 * k + 2) (by omega)]; exact g.vh k hk,
    fun s hs => by rw [e (28 + 21 * s + 0) (by omega)]; exact g.sv s hs,
    fun s hs h7 => by rw [e 7 (by omega)] at h7; rw [e (28 + 21 * s + 0) (by omega), e (28 + 21 * s + 4) (by omega), e (6) (by omega)]; exact g.sn s hs h7,
    fun s hs => by rw [e (28 + 21 * s + 1) (by omega), e (28 + 21 * s + 2) (by omega), e (28 + 21 * s + 3) (by omega)]; exact g.sr s hs,
    fun s hs i hi => by rw [e (28 + 21 * s + (5 + i)) (by omega)]; exact g.sx s hs i hi,
    fun m hm => by
      rw [e (154 + 4 * m + 0) (by omega), e (154 + 4 * m + 1) (by omega), e (154 + 4 * m + 2) (by omega)]
      refine ⟨(g.mc m hm).1, (g.mc m hm).2.1, (g.mc m hm).2.2.1, ?_⟩
      by_cases q : m = k
      · subst q; rw [show upd S (154 + 4 * m + 3) x (154 + 4 * m + 3) = x from if_pos rfl]; exact h
      · rw [e _ (by omega)]; exact (g.mc m hm).2.2.2,
    by rw [e (10) (by omega)]; exact g.fk,
    fun h0 => by rw [e 10 (by omega)] at h0; rw [e 11 (by omega), e 6 (by omega)]; exact g.fv h0,
    by rw [e (12) (by omega)]; exact g.fx,
    fun h0 => by rw [e 10 (by omega)] at h0; rw [e 12 (by omega)]; exact g.fx0 h0,
    fun h0 => by rw [e 10 (by omega)] at h0; rw [e 12 (by omega)]; exact g.fx2 h0,
    by rw [e (13) (by omega)]; exact g.fy,
    by rw [e (14) (by omega)]; exact g.fz⟩
theorem zGe_V {S : Nat → Int32} (g : zGe S) {n : Nat} {x s y : Int32} (h6 : S 6 = nI n) (hn : n < 4) (hx : zin x (-20000) 20000) (hs : zin s (-50) 50) (hy : zin y 0 5000) : zGe (zaV S n x s y) := by
  have e : ∀ j, ¬ (j = 6 ∨ 16 + 3 * n ≤ j ∧ j < 16 + 3 * n + 3) → (zaV S n x s y) j = S j := fun j hj => by
    simp only [zaV, upd]
    rw [if_neg (by omega)]; rw [if_neg (by omega)]; rw [if_neg (by omega)]; rw [if_neg (by omega)]
  unfold zGe
  exact ⟨by rw [e (0) (by omega)]; exact g.snd,
    by rw [e (1) (by omega)]; exact g.gnd,
    by rw [e (4) (by omega)]; exact g.noi,
    ⟨n + 1, by omega, zaV_6⟩,
    by rw [e (7) (by omega)]; exact g.ns,
    by rw [e (8) (by omega)]; exact g.nm,
    fun k hk => by
      by_cases q : k = n
      · subst q
        rw [show (zaV S k x s y) (16 + 3 * k + 0) = x from by simp only [zaV, upd]; rw [if_neg (by omega)]; rw [if_neg (by omega)]; rw [if_neg (by omega)]; rw [if_pos trivial], show (zaV S k x s y) (16 + 3 * k + 1) = s from by simp only [zaV, upd]; rw [if_neg (by omega)]; rw [if_neg (by omega)]; rw [if_pos trivial], show (zaV S k x s y) (16 + 3 * k + 2) = y from by simp only [zaV, upd]; rw [if_neg (by omega)]; rw [if_pos trivial]]
        exact ⟨hx, hs, hy⟩
      · rw [e _ (by omega), e _ (by omega), e _ (by omega)]; exact g.vh k hk,
    fun s hs => by rw [e (28 + 21 * s + 0) (by omega)]; exact g.sv s hs,
    fun s9 hs9 h7 => by
      rw [e 7 (by omega)] at h7
      rw [e (28 + 21 * s9 + 0) (by omega), e (28 + 21 * s9 + 4) (by omega), zaV_6]
      obtain ⟨⟨v, v1, v2⟩, q⟩ := g.sn s9 hs9 h7
      obtain ⟨v9, hv9, e9⟩ := g.sv s9 hs9
      rw [v1] at e9
      rw [h6, Int32.lt_iff_toInt_lt] at v2
      refine ⟨⟨v, v1, ?_⟩, q⟩
      rw [Int32.lt_iff_toInt_lt, nI_toInt (n := n + 1) (by omega)]
      rw [nI_toInt (n := n) (by omega)] at v2
      omega,
    fun s hs => by rw [e (28 + 21 * s + 1) (by omega), e (28 + 21 * s + 2) (by omega), e (28 + 21 * s + 3) (by omega)]; exact g.sr s hs,
    fun s hs i hi => by rw [e (28 + 21 * s + (5 + i)) (by omega)]; exact g.sx s hs i hi,
    fun m hm => by rw [e (154 + 4 * m + 0) (by omega), e (154 + 4 * m + 1) (by omega), e (154 + 4 * m + 2) (by omega), e (154 + 4 * m + 3) (by omega)]; exact g.mc m hm,
    by rw [e (10) (by omega)]; exact g.fk,
    fun h0 => by
      rw [e 10 (by omega)] at h0
      rw [e 11 (by omega), zaV_6]
      obtain ⟨v, v0, v1, v2⟩ := g.fv h0
      rw [h6, Int32.lt_iff_toInt_lt] at v2
      refine ⟨v, v0, v1, ?_⟩
      rw [Int32.lt_iff_toInt_lt, nI_toInt (n := n + 1) (by omega)]
      rw [nI_toInt (n := n) (by omega)] at v2
      omega,
    by rw [e (12) (by omega)]; exact g.fx,
    fun h0 => by rw [e 10 (by omega)] at h0; rw [e 12 (by omega)]; exact g.fx0 h0,
    fun h0 => by rw [e 10 (by omega)] at h0; rw [e 12 (by omega)]; exact g.fx2 h0,
    by rw [e (13) (by omega)]; exact g.fy,
    by rw [e (14) (by omega)]; exact g.fz⟩
theorem zGe_M {S : Nat → Int32} (g : zGe S) {n : Nat} {x y z w : Int32} (h8 : S 8 = nI n) (hn : n < 8) (hx : zin x (-5000) 5000) (hy : zin y (-100) 99) (hz : zin z 0 500) (hw : zin w 0 9) : zGe (zaM S n x y z w) := by
  have e : ∀ j, ¬ (j = 8 ∨ 154 + 4 * n ≤ j ∧ j < 154 + 4 * n + 4) → (zaM S n x y z w) j = S j := fun j hj => by
    simp only [zaM, upd]
    rw [if_neg (by omega)]; rw [if_neg (by omega)]; rw [if_neg (by omega)]; rw [if_neg (by omega)]; rw [if_neg (by omega)]
  unfold zGe
  exact ⟨by rw [e (0) (by omega)]; exact g.snd,
    by rw [e (1) (by omega)]; exact g.gnd,
    by rw [e (4) (by omega)]; exact g.noi,
    by rw [e (6) (by omega)]; exact g.nv,
    by rw [e (7) (by omega)]; exact g.ns,
    ⟨n + 1, by omega, zaM_8⟩,
    fun k hk => by rw [e (16 + 3 * k + 0) (by omega), e (16 + 3 * k + 1) (by omega), e (16 + 3 * k + 2) (by omega)]; exact g.vh k hk,
    fun s hs => by rw [e (28 + 21 * s + 0) (by omega)]; exact g.sv s hs,
    fun s hs h7 => by rw [e 7 (by omega)] at h7; rw [e (28 + 21 * s + 0) (by omega), e (28 + 21 * s + 4) (by omega), e (6) (by omega)]; exact g.sn s hs h7,
    fun s hs => by rw [e (28 + 21 * s + 1) (by omega), e (28 + 21 * s + 2) (by omega), e (28 + 21 * s + 3) (by omega)]; exact g.sr s hs,
    fun s hs i hi => by rw [e (28 + 21 * s + (5 + i)) (by omega)]; exact g.sx s hs i hi,
    fun m hm => by
      by_cases q : m = n
      · subst q
        rw [show (zaM S m x y z w) (154 + 4 * m + 0) = x from by simp only [zaM, upd]; rw [if_neg (by omega)]; rw [if_neg (by omega)]; rw [if_neg (by omega)]; rw [if_neg (by omega)]; rw [if_pos trivial], show (zaM S m x y z w) (154 + 4 * m + 1) = y from by simp only [zaM, upd]; rw [if_neg (by omega)]; rw [if_neg (by omega)]; rw [if_neg (by omega)]; rw [if_pos trivial], show (zaM S m x y z w) (154 + 4 * m + 2) = z from by simp only [zaM, upd]; rw [if_neg (by omega)]; rw [if_neg (by omega)]; rw [if_pos trivial], show (zaM S m x y z w) (154 + 4 * m + 3) = w from by simp only [zaM, upd]; rw [if_neg (by omega)]; rw [if_pos trivial]]
        exact ⟨hx, hy, hz, hw⟩
      · rw [e _ (by omega), e _ (by omega), e _ (by omega), e _ (by omega)]; exact g.mc m hm,
    by rw [e (10) (by omega)]; exact g.fk,
    fun h0 => by rw [e 10 (by omega)] at h0; rw [e 11 (by omega), e 6 (by omega)]; exact g.fv h0,
    by rw [e (12) (by omega)]; exact g.fx,
    fun h0 => by rw [e 10 (by omega)] at h0; rw [e 12 (by omega)]; exact g.fx0 h0,
    fun h0 => by rw [e 10 (by omega)] at h0; rw [e 12 (by omega)]; exact g.fx2 h0,
    by rw [e (13) (by omega)]; exact g.fy,
    by rw [e (14) (by omega)]; exact g.fz⟩
theorem zGe_S {S : Nat → Int32} (g : zGe S) {n v : Nat} {o z s : Int32} (h7 : S 7 = nI n) (hn : n < 6) (hv : v < 4) (hv6 : nI v < S 6) (ho : zin o (-1000) 1000) (hz : zin z 0 500) (hs : zin s 0 10) : zGe (upd (zaS S n (nI v) o z s) (28 + 21 * n + 4) 1) := by
  have e : ∀ j, ¬ (j = 7 ∨ 28 + 21 * n ≤ j ∧ j < 28 + 21 * n + 5) → (upd (zaS S n (nI v) o z s) (28 + 21 * n + 4) 1) j = S j := fun j hj => by
    simp only [zaS, upd]
    rw [if_neg (by omega)]; rw [if_neg (by omega)]; rw [if_neg (by omega)]; rw [if_neg (by omega)]; rw [if_neg (by omega)]; rw [if_neg (by omega)]; rw [if_neg (by omega)]
  unfold zGe
  exact ⟨by rw [e (0) (by omega)]; exact g.snd,
    by rw [e (1) (by omega)]; exact g.gnd,
    by rw [e (4) (by omega)]; exact g.noi,
    by rw [e (6) (by omega)]; exact g.nv,
    ⟨n + 1, by omega, by simp only [zaS, upd]; rw [if_neg (by omega), if_pos trivial]⟩,
    by rw [e (8) (by omega)]; exact g.nm,
    fun k hk => by rw [e (16 + 3 * k + 0) (by omega), e (16 + 3 * k + 1) (by omega), e (16 + 3 * k + 2) (by omega)]; exact g.vh k hk,
    fun k hk => by
      by_cases q : k = n
      · subst q
        rw [show (upd (zaS S k (nI v) o z s) (28 + 21 * k + 4) 1) (28 + 21 * k + 0) = nI v from by simp only [zaS, upd]; rw [if_neg (by omega)]; rw [if_neg (by omega)]; rw [if_neg (by omega)]; rw [if_neg (by omega)]; rw [if_neg (by omega)]; rw [if_neg (by omega)]; rw [if_pos trivial]]
        exact ⟨v, hv, rfl⟩
      · rw [e _ (by omega)]; exact g.sv k hk,
    fun k hk h9 => by
      rw [e 6 (by omega)]
      by_cases q : k = n
      · subst q
        rw [show (upd (zaS S k (nI v) o z s) (28 + 21 * k + 4) 1) (28 + 21 * k + 0) = nI v from by simp only [zaS, upd]; rw [if_neg (by omega)]; rw [if_neg (by omega)]; rw [if_neg (by omega)]; rw [if_neg (by omega)]; rw [if_neg (by omega)]; rw [if_neg (by omega)]; rw [if_pos trivial]]
        exact ⟨⟨v, rfl, hv6⟩, 1, by decide, by decide, by simp only [upd]; rw [if_pos trivial]; rfl⟩
      · rw [e (28 + 21 * k + 0) (by omega), e (28 + 21 * k + 4) (by omega)]
        refine g.sn k hk ?_
        rw [show (upd (zaS S n (nI v) o z s) (28 + 21 * n + 4) 1) 7 = nI (n + 1) from by simp only [zaS, upd]; rw [if_neg (by omega), if_pos trivial]] at h9
        rw [h7]
        have := (nI_ltI (by omega) (by omega)).mp h9
        exact nI_lt (by omega) (by omega),
    fun k hk => by
      by_cases q : k = n
      · subst q
        rw [show (upd (zaS S k (nI v) o z s) (28 + 21 * k + 4) 1) (28 + 21 * k + 1) = o from by simp only [zaS, upd]; rw [if_neg (by omega)]; rw [if_neg (by omega)]; rw [if_neg (by omega)]; rw [if_neg (by omega)]; rw [if_neg (by omega)]; rw [if_pos trivial], show (upd (zaS S k (nI v) o z s) (28 + 21 * k + 4) 1) (28 + 21 * k + 2) = z from by simp only [zaS, upd]; rw [if_neg (by omega)]; rw [if_neg (by omega)]; rw [if_neg (by omega)]; rw [if_neg (by omega)]; rw [if_pos trivial], show (upd (zaS S k (nI v) o z s) (28 + 21 * k + 4) 1) (28 + 21 * k + 3) = s from by simp only [zaS, upd]; rw [if_neg (by omega)]; rw [if_neg (by omega)]; rw [if_neg (by omega)]; rw [if_pos trivial]]
        exact ⟨ho, hz, hs⟩
      · rw [e _ (by omega), e _ (by omega), e _ (by omega)]; exact g.sr k hk,
    fun s hs i hi => by rw [e (28 + 21 * s + (5 + i)) (by omega)]; exact g.sx s hs i hi,
    fun m hm => by rw [e (154 + 4 * m + 0) (by omega), e (154 + 4 * m + 1) (by omega), e (154 + 4 * m + 2) (by omega), e (154 + 4 * m + 3) (by omega)]; exact g.mc m hm,
    by rw [e (10) (by omega)]; exact g.fk,
    fun h0 => by rw [e 10 (by omega)] at h0; rw [e 11 (by omega), e 6 (by omega)]; exact g.fv h0,
    by rw [e (12) (by omega)]; exact g.fx,
    fun h0 => by rw [e 10 (by omega)] at h0; rw [e 12 (by omega)]; exact g.fx0 h0,
    fun h0 => by rw [e 10 (by omega)] at h0; rw [e 12 (by omega)]; exact g.fx2 h0,
    by rw [e (13) (by omega)]; exact g.fy,
    by rw [e (14) (by omega)]; exact g.fz⟩
theorem zGe_X {S : Nat → Int32} (g : zGe S) {k n c : Nat} {x : Int32} (hk : k < 6) (hn : n < 16) (hc : 1 ≤ c) (hc2 : c ≤ 16) (hx : zin x (-99) 99) : zGe (upd (zaX S k n x) (28 + 21 * k + 4) (nI c)) := by
  have e : ∀ j, ¬ (j = 28 + 21 * k + 5 + n ∨ j = 28 + 21 * k + 4) → (upd (zaX S k n x) (28 + 21 * k + 4) (nI c)) j = S j := fun j hj => by
    simp only [zaX, upd]
    rw [if_neg (by omega)]; rw [if_neg (by omega)]; rw [if_neg (by omega)]
  unfold zGe
  exact ⟨by rw [e (0) (by omega)]; exact g.snd,
    by rw [e (1) (by omega)]; exact g.gnd,
    by rw [e (4) (by omega)]; exact g.noi,
    by rw [e (6) (by omega)]; exact g.nv,
    by rw [e (7) (by omega)]; exact g.ns,
    by rw [e (8) (by omega)]; exact g.nm,
    fun k hk => by rw [e (16 + 3 * k + 0) (by omega), e (16 + 3 * k + 1) (by omega), e (16 + 3 * k + 2) (by omega)]; exact g.vh k hk,
    fun s hs => by rw [e (28 + 21 * s + 0) (by omega)]; exact g.sv s hs,
    fun s hs h7 => by
      rw [e 7 (by omega)] at h7
      rw [e (28 + 21 * s + 0) (by omega), e 6 (by omega)]
      by_cases q : s = k
      · subst q
        exact ⟨(g.sn s hs h7).1, c, hc, hc2, if_pos rfl⟩
      · rw [e (28 + 21 * s + 4) (by omega)]; exact g.sn s hs h7,
    fun s hs => by rw [e (28 + 21 * s + 1) (by omega), e (28 + 21 * s + 2) (by omega), e (28 + 21 * s + 3) (by omega)]; exact g.sr s hs,
    fun s hs i hi => by
      by_cases q : s = k ∧ i = n
      · obtain ⟨rfl, rfl⟩ := q
        rw [show (upd (zaX S s i x) (28 + 21 * s + 4) (nI c)) (28 + 21 * s + (5 + i)) = x from by simp only [zaX, upd]; rw [if_neg (by omega), if_neg (by omega), if_pos (by omega)]]
        exact hx
      · rw [e _ (by omega)]; exact g.sx s hs i hi,
    fun m hm => by rw [e (154 + 4 * m + 0) (by omega), e (154 + 4 * m + 1) (by omega), e (154 + 4 * m + 2) (by omega), e (154 + 4 * m + 3) (by omega)]; exact g.mc m hm,
    by rw [e (10) (by omega)]; exact g.fk,
    fun h0 => by rw [e 10 (by omega)] at h0; rw [e 11 (by omega), e 6 (by omega)]; exact g.fv h0,
    by rw [e (12) (by omega)]; exact g.fx,
    fun h0 => by rw [e 10 (by omega)] at h0; rw [e 12 (by omega)]; exact g.fx0 h0,
    fun h0 => by rw [e 10 (by omega)] at h0; rw [e 12 (by omega)]; exact g.fx2 h0,
    by rw [e (13) (by omega)]; exact g.fy,
    by rw [e (14) (by omega)]; exact g.fz⟩
theorem zGe_cnt {S : Nat → Int32} (g : zGe S) {k c : Nat} (hk : k < 6) (hc : 1 ≤ c) (hc2 : c ≤ 16) : zGe (upd S (28 + 21 * k + 4) (nI c)) := by
  have e : ∀ j, ¬ (j = 28 + 21 * k + 4) → (upd S (28 + 21 * k + 4) (nI c)) j = S j := fun j hj => by
    simp only [upd]
    rw [if_neg (by omega)]
  unfold zGe
  exact ⟨by rw [e (0) (by omega)]; exact g.snd,
    by rw [e (1) (by omega)]; exact g.gnd,
    by rw [e (4) (by omega)]; exact g.noi,
    by rw [e (6) (by omega)]; exact g.nv,
    by rw [e (7) (by omega)]; exact g.ns,
    by rw [e (8) (by omega)]; exact g.nm,
    fun k hk => by rw [e (16 + 3 * k + 0) (by omega), e (16 + 3 * k + 1) (by omega), e (16 + 3 * k + 2) (by omega)]; exact g.vh k hk,
    fun s hs => by rw [e (28 + 21 * s + 0) (by omega)]; exact g.sv s hs,
    fun s hs h7 => by
      rw [e 7 (by omega)] at h7
      rw [e (28 + 21 * s + 0) (by omega), e 6 (by omega)]
      by_cases q : s = k
      · subst q
        exact ⟨(g.sn s hs h7).1, c, hc, hc2, if_pos rfl⟩
      · rw [e (28 + 21 * s + 4) (by omega)]; exact g.sn s hs h7,
    fun s hs => by rw [e (28 + 21 * s + 1) (by omega), e (28 + 21 * s + 2) (by omega), e (28 + 21 * s + 3) (by omega)]; exact g.sr s hs,
    fun s hs i hi => by rw [e (28 + 21 * s + (5 + i)) (by omega)]; exact g.sx s hs i hi,
    fun m hm => by rw [e (154 + 4 * m + 0) (by omega), e (154 + 4 * m + 1) (by omega), e (154 + 4 * m + 2) (by omega), e (154 + 4 * m + 3) (by omega)]; exact g.mc m hm,
    by rw [e (10) (by omega)]; exact g.fk,
    fun h0 => by rw [e 10 (by omega)] at h0; rw [e 11 (by omega), e 6 (by omega)]; exact g.fv h0,
    by rw [e (12) (by omega)]; exact g.fx,
    fun h0 => by rw [e 10 (by omega)] at h0; rw [e 12 (by omega)]; exact g.fx0 h0,
    fun h0 => by rw [e 10 (by omega)] at h0; rw [e 12 (by omega)]; exact g.fx2 h0,
    by rw [e (13) (by omega)]; exact g.fy,
    by rw [e (14) (by omega)]; exact g.fz⟩
/-- a focus put to a state -/
def zfoc (S : Nat → Int32) (k v x y z : Int32) : Nat → Int32 := upd (upd (upd (upd (upd S 10 k) 11 v) 12 x) 13 y) 14 z
theorem zGe_F {S : Nat → Int32} (g : zGe S) {k v x y z : Int32} (hk : ∃ k9 : Nat, k9 ≤ 2 ∧ k = nI k9) (hv : k = 0 → ∃ v9 : Nat, v9 < 4 ∧ v = nI v9 ∧ nI v9 < S 6) (hx : zin x (-20000) 20000) (hx0 : k = 0 → zin x (-1000) 1000) (hx2 : k = 2 → zin x (-100) 100) (hy : zin y 0 5000) (hz : zin z 0 500) : zGe (zfoc S k v x y z) := by
  have e : ∀ j, ¬ (10 ≤ j ∧ j < 15) → (zfoc S k v x y z) j = S j := fun j hj => by
    simp only [zfoc, upd]
    rw [if_neg (by omega)]; rw [if_neg (by omega)]; rw [if_neg (by omega)]; rw [if_neg (by omega)]; rw [if_neg (by omega)]
  unfold zGe
  exact ⟨by rw [e (0) (by omega)]; exact g.snd,
    by rw [e (1) (by omega)]; exact g.gnd,
    by rw [e (4) (by omega)]; exact g.noi,
    by rw [e (6) (by omega)]; exact g.nv,
    by rw [e (7) (by omega)]; exact g.ns,
    by rw [e (8) (by omega)]; exact g.nm,
    fun k hk => by rw [e (16 + 3 * k + 0) (by omega), e (16 + 3 * k + 1) (by omega), e (16 + 3 * k + 2) (by omega)]; exact g.vh k hk,
    fun s hs => by rw [e (28 + 21 * s + 0) (by omega)]; exact g.sv s hs,
    fun s hs h7 => by rw [e 7 (by omega)] at h7; rw [e (28 + 21 * s + 0) (by omega), e (28 + 21 * s + 4) (by omega), e (6) (by omega)]; exact g.sn s hs h7,
    fun s hs => by rw [e (28 + 21 * s + 1) (by omega), e (28 + 21 * s + 2) (by omega), e (28 + 21 * s + 3) (by omega)]; exact g.sr s hs,
    fun s hs i hi => by rw [e (28 + 21 * s + (5 + i)) (by omega)]; exact g.sx s hs i hi,
    fun m hm => by rw [e (154 + 4 * m + 0) (by omega), e (154 + 4 * m + 1) (by omega), e (154 + 4 * m + 2) (by omega), e (154 + 4 * m + 3) (by omega)]; exact g.mc m hm,
    by rw [show (zfoc S k v x y z) 10 = k from by simp only [zfoc, upd]; rw [if_neg (by omega)]; rw [if_neg (by omega)]; rw [if_neg (by omega)]; rw [if_neg (by omega)]; rw [if_pos trivial]]; exact hk,
    fun h0 => by
      rw [show (zfoc S k v x y z) 10 = k from by simp only [zfoc, upd]; rw [if_neg (by omega)]; rw [if_neg (by omega)]; rw [if_neg (by omega)]; rw [if_neg (by omega)]; rw [if_pos trivial]] at h0
      rw [show (zfoc S k v x y z) 11 = v from by simp only [zfoc, upd]; rw [if_neg (by omega)]; rw [if_neg (by omega)]; rw [if_neg (by omega)]; rw [if_pos trivial], e 6 (by omega)]
      exact hv h0,
    by rw [show (zfoc S k v x y z) 12 = x from by simp only [zfoc, upd]; rw [if_neg (by omega)]; rw [if_neg (by omega)]; rw [if_pos trivial]]; exact hx,
    fun h0 => by
      rw [show (zfoc S k v x y z) 10 = k from by simp only [zfoc, upd]; rw [if_neg (by omega)]; rw [if_neg (by omega)]; rw [if_neg (by omega)]; rw [if_neg (by omega)]; rw [if_pos trivial]] at h0
      rw [show (zfoc S k v x y z) 12 = x from by simp only [zfoc, upd]; rw [if_neg (by omega)]; rw [if_neg (by omega)]; rw [if_pos trivial]]
      exact hx0 h0,
    fun h0 => by
      rw [show (zfoc S k v x y z) 10 = k from by simp only [zfoc, upd]; rw [if_neg (by omega)]; rw [if_neg (by omega)]; rw [if_neg (by omega)]; rw [if_neg (by omega)]; rw [if_pos trivial]] at h0
      rw [show (zfoc S k v x y z) 12 = x from by simp only [zfoc, upd]; rw [if_neg (by omega)]; rw [if_neg (by omega)]; rw [if_pos trivial]]
      exact hx2 h0,
    by rw [show (zfoc S k v x y z) 13 = y from by simp only [zfoc, upd]; rw [if_neg (by omega)]; rw [if_pos trivial]]; exact hy,
    by rw [show (zfoc S k v x y z) 14 = z from by simp only [zfoc, upd]; rw [if_pos trivial]]; exact hz⟩
/-- the state's cells as they stand at first -/
def zini (j : Nat) : Int32 := if j = 0 then 340 else if j = 3 ∨ j = 10 then 1 else if j = 13 then 100 else 0
theorem zGe_ini {S : Nat → Int32} (h : ∀ j, j < 2234 → S j = zini j) : zGe S := by
  have z : ∀ j, j < 2234 → j ≠ 0 → j ≠ 3 → j ≠ 10 → j ≠ 13 → S j = 0 := fun j h0 h1 h2 h3 h4 => by
    rw [h j h0]
    unfold zini
    rw [if_neg h1, if_neg (by omega), if_neg h4]
  have z0 : zin (0 : Int32) (-50) 0 := by unfold zin; decide
  have w : ∀ {l h : Int}, l ≤ 0 → 0 ≤ h → zin (0 : Int32) l h := fun {l h} h1 h2 => ⟨by rw [show (0 : Int32).toInt = 0 from by decide]; exact h1, by rw [show (0 : Int32).toInt = 0 from by decide]; exact h2⟩
  unfold zGe
  refine ⟨⟨340, by decide, by decide, h 0 (by decide)⟩, ?_, ⟨0, by decide, z 4 (by decide) (by decide) (by decide) (by decide) (by decide)⟩, ⟨0, by decide, z 6 (by decide) (by decide) (by decide) (by decide) (by decide)⟩, ⟨0, by decide, z 7 (by decide) (by decide) (by decide) (by decide) (by decide)⟩, ⟨0, by decide, z 8 (by decide) (by decide) (by decide) (by decide) (by decide)⟩,
    fun k hk => ?_, fun s hs => ?_, fun s hs h7 => ?_, fun s hs => ?_, fun s hs i hi => ?_, fun m hm => ?_, ⟨1, by decide, h 10 (by decide)⟩, fun h0 => ?_, ?_, fun h0 => ?_, fun h0 => ?_, ?_, ?_⟩
  · rw [z 1 (by decide) (by decide) (by decide) (by decide) (by decide)]; exact w (by decide) (by decide)
  · rw [z _ (by omega) (by omega) (by omega) (by omega) (by omega), z _ (by omega) (by omega) (by omega) (by omega) (by omega), z _ (by omega) (by omega) (by omega) (by omega) (by omega)]
    exact ⟨w (by decide) (by decide), w (by decide) (by decide), w (by decide) (by decide)⟩
  · exact ⟨0, by decide, z _ (by omega) (by omega) (by omega) (by omega) (by omega)⟩
  · rw [z 7 (by decide) (by decide) (by decide) (by decide) (by decide)] at h7
    exact absurd h7 (nI_pos (by omega))
  · rw [z _ (by omega) (by omega) (by omega) (by omega) (by omega), z _ (by omega) (by omega) (by omega) (by omega) (by omega), z _ (by omega) (by omega) (by omega) (by omega) (by omega)]
    exact ⟨w (by decide) (by decide), w (by decide) (by decide), w (by decide) (by decide)⟩
  · rw [z _ (by omega) (by omega) (by omega) (by omega) (by omega)]; exact w (by decide) (by decide)
  · rw [z _ (by omega) (by omega) (by omega) (by omega) (by omega), z _ (by omega) (by omega) (by omega) (by omega) (by omega), z _ (by omega) (by omega) (by omega) (by omega) (by omega), z _ (by omega) (by omega) (by omega) (by omega) (by omega)]
    exact ⟨w (by decide) (by decide), w (by decide) (by decide), w (by decide) (by decide), w (by decide) (by decide)⟩
  · rw [h 10 (by decide)] at h0; exact absurd h0 (by decide)
  · rw [z 12 (by decide) (by decide) (by decide) (by decide) (by decide)]; exact w (by decide) (by decide)
  · rw [z 12 (by decide) (by decide) (by decide) (by decide) (by decide)]; exact w (by decide) (by decide)
  · rw [z 12 (by decide) (by decide) (by decide) (by decide) (by decide)]; exact w (by decide) (by decide)
  · rw [h 13 (by decide)]; unfold zin zini; decide
  · rw [z 14 (by decide) (by decide) (by decide) (by decide) (by decide)]; exact w (by decide) (by decide)
