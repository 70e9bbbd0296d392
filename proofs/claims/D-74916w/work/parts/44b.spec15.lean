/-! the focus's paths, beams of the component -/
theorem zfm {S : Nat → Int32} (g : zGe S) {m : Nat} (hm : m < 8) {by_ z : Int32} (hb : zin by_ (-2000) 2000) (hz : z = S 14 ∨ z = -S 14) : zmono (fun j => nI j * S 0 + zdd S m (zfv S) (S 12 + by_) (zfy S) z j) := by
  have pz : zin z (-500) 500 := by
    rcases hz with rfl | rfl
    · exact zin_w g.fz (by decide) (by decide)
    · exact zin_w (zin_neg g.fz (by decide) (by decide)) (by decide) (by decide)
  by_cases h0 : S 10 = 0
  · obtain ⟨v, hv, e, -⟩ := g.fv h0
    have ex : zin (S 12 + by_) (-3000) 3000 := zin_w (zin_add (g.fx0 h0) hb (by decide) (by decide)) (by decide) (by decide)
    have ey : zin (zfy S) 0 5000 := by
      unfold zfy
      rw [if_pos h0, e, nI_clamp (by omega)]
      exact (g.vh v hv).2.2
    exact zdd_mono g hm (zfv_lt g) (Or.inl ex) ey pz
  · have ev : zfv S = none := by unfold zfv; rw [if_neg h0]
    have ey : zin (zfy S) 0 5000 := by
      unfold zfy
      rw [if_neg h0]
      exact g.fy
    exact zdd_mono g hm (zfv_lt g) (Or.inr ⟨ev, zin_w (zin_add g.fx hb (by decide) (by decide)) (by decide) (by decide)⟩) ey pz
theorem zdr_fdd (S : Nat → Int32) (m : Nat) (by_ : Int32) (r : Int32) (j : Nat) : zdr S m (zfv S) (S 12 + by_) (zfy S) (S 14) r (nI j) = zfdd S m by_ r j := by
  unfold zdr zfdd zdd
  by_cases h : r = 0
  · rw [if_pos h, if_pos h]
  · rw [if_neg h, if_neg h]
theorem zdr_f (S : Nat → Int32) (m : Nat) (by_ r : Int32) : (fun j => zdr S m (zfv S) (S 12 + by_) (zfy S) (S 14) r (nI j)) = zfdd S m by_ r := funext fun j => zdr_fdd S m by_ r j
theorem zfdok {S : Nat → Int32} (g : zGe S) {m j : Nat} {by_ : Int32} (hm : m < 8) (hj : j < 256) (hb : zin by_ (-2000) 2000) (r : Int32) : zdrok S m (zfv S) (S 12 + by_) (zfy S) (S 14) r (nI j) := by
  obtain ⟨h1, h2⟩ := zfo_ok g hm hj hb
  unfold zddok at h1 h2
  unfold zdrok
  by_cases h : r = 0
  · rw [if_pos h]; exact h1
  · rw [if_neg h]; exact h2
theorem zfmr {S : Nat → Int32} (g : zGe S) {m : Nat} (hm : m < 8) {by_ : Int32} (hb : zin by_ (-2000) 2000) (r : Int32) : zmono (fun j => nI j * S 0 + zdr S m (zfv S) (S 12 + by_) (zfy S) (S 14) r (nI j)) := by
  have e : (fun j => nI j * S 0 + zdr S m (zfv S) (S 12 + by_) (zfy S) (S 14) r (nI j)) = fun j => nI j * S 0 + zfdd S m by_ r j := funext fun j => by rw [zdr_fdd]
  rw [e]
  unfold zfdd
  by_cases h : r = 0
  · simp only [if_pos h]
    exact zfm g hm hb (Or.inl rfl)
  · simp only [if_neg h]
    exact zfm g hm hb (Or.inr rfl)
/-- after a beam -/
theorem zTr.kpb {G G' : zH} {χ χ' : Nat → Nat} {c a lv ls lm fo pa su q : Nat} {va sa ua ma ra : Nat → Nat} {S : Nat → Int32} {w : Nat → Int64} {p : Nat → Int32} (h : zTr G χ c a lv ls lm fo pa su va sa ua ma ra q S) (g : zGe S) (hc : 100 ≤ c) (hk : zkee (zPb c) G χ G' χ') (hs : zo G' χ' (c + 8) su (.inl (1, 256, .inr (.inl w)))) (hp : zo G' χ' (c + 7) pa (.inl (0, 256, .inl p))) : zTr G' χ' c a lv ls lm fo pa su va sa ua ma ra q S := by
  obtain ⟨h1, h2, h3, h4, h5, h6, -⟩ := h
  obtain ⟨nv, nv4, ev⟩ := g.nv
  obtain ⟨ns, ns4, es⟩ := g.ns
  obtain ⟨nm, nm4, em⟩ := g.nm
  have PB : ∀ k, k = 1 ∨ k = c ∨ (c + 1 ≤ k ∧ k ≤ c + 6) ∨ c + 9 ≤ k → zPb c k := fun k hk => zPb_of hc hk
  rw [zct_of ev (by omega)] at h3
  rw [zct_of es (by omega)] at h4
  rw [zct_of em (by omega)] at h5
  refine ⟨h1.kp (PB _ (by omega)) hk, h2, ?_, ?_, ?_, h6.kp (PB _ (by omega)) hk, ⟨_, hp⟩, _, hs⟩
  · rw [zct_of ev (by omega)]
    exact h3.kp (PB _ (by omega)) (PB _ (by omega)) (PB _ (by omega)) hk (fun _ _ _ => rfl)
  · rw [zct_of es (by omega)]
    refine h4.kp (PB _ (by omega)) (PB _ (by omega)) (fun i hi => ⟨PB _ (by omega), PB _ (by omega)⟩) hk (fun _ _ _ => rfl) (fun i hi => ?_)
    obtain ⟨-, m, m1, m2, e⟩ := g.sn i (by omega) (by rw [es]; exact nI_lt hi (by omega))
    rw [zct_of e (by omega)]
    exact m2
  · rw [zct_of em (by omega)]
    exact h5.kp (PB _ (by omega)) (PB _ (by omega)) (fun i hi => ⟨PB _ (by omega), PB _ (by omega)⟩) hk (fun _ _ _ => rfl) (fun _ _ _ => rfl)
theorem zPl.kp {G G' : zH} {χ χ' : Nat → Nat} {P : Nat → Prop} {p : Nat} {S : Nat → Int32} {v : Option Nat} {x y z : Int32} (h : zPl G p S v x y z) (h1 : ∀ a e, G a = some (.inr e) → (e.1 = 2 ∨ e.1 = 7 ∨ e.1 = 4) → P (χ a)) (hk : zkee P G χ G' χ') : zPl G' p S v x y z := by
  rcases h with ⟨h1', h2⟩ | ⟨i, w, q1, q2, q3, q4⟩
  · exact Or.inl ⟨h1', (hk p _ h2 (h1 p _ h2 (Or.inl rfl))).1⟩
  · exact Or.inr ⟨i, w, q1, (hk p _ q2 (h1 p _ q2 (Or.inr (Or.inl rfl)))).1, (hk w _ q3 (h1 w _ q3 (Or.inr (Or.inr rfl)))).1, q4⟩
