/-! component: the focus's beams -/
theorem zFo_place {G : zH} {χ : Nat → Nat} {f : Nat} {S : Nat → Int32} {va : Nat → Nat} {by_ : Int32} (g : zGe S) (n2 : ¬ S 10 = 2) (hf : zo G χ 1 f (zfE (upd S 12 (S 12 + by_)) va)) (hv : ∀ k, k < 4 → nI k < S 6 → zo G χ 1 (va k) (zvE S k)) : zFc G f S by_ := by
  have e10 : upd S 12 (S 12 + by_) 10 = S 10 := rfl
  have e11 : upd S 12 (S 12 + by_) 11 = S 11 := rfl
  have e12 : upd S 12 (S 12 + by_) 12 = S 12 + by_ := rfl
  have e13 : upd S 12 (S 12 + by_) 13 = S 13 := rfl
  have e14 : upd S 12 (S 12 + by_) 14 = S 14 := rfl
  unfold zfE at hf
  rw [e10, e11, e12, e13, e14] at hf
  unfold zFc zPl zfv zfy
  obtain ⟨k, hk, ek⟩ := g.fk
  by_cases h0 : S 10 = 0
  · obtain ⟨v, hv4, ev, hv6⟩ := g.fv h0
    rw [if_pos h0, ev, nI_clamp (by omega)] at hf
    refine Or.inr ⟨v, va v, by rw [if_pos h0, ev, nI_clamp (by omega)], hf.1, (hv v hv4 hv6).1, ?_⟩
    rw [if_pos h0, ev, nI_clamp (by omega)]
  · have h1 : S 10 = 1 := by
      rw [ek] at h0 n2 ⊢
      rcases (show k = 0 ∨ k = 1 ∨ k = 2 by omega) with e | e | e
      · subst e; exact absurd rfl h0
      · subst e; rfl
      · subst e; exact absurd rfl n2
    rw [if_neg h0, if_pos h1] at hf
    exact Or.inl ⟨if_neg h0, by rw [if_neg h0]; exact hf.1⟩
theorem zFo_dir {G : zH} {χ : Nat → Nat} {f : Nat} {S : Nat → Int32} {va : Nat → Nat} {by_ : Int32} (h2 : S 10 = 2) (hf : zo G χ 1 f (zfE (upd S 12 (S 12 + by_)) va)) : zDi G f (S 12 + by_) := by
  have e10 : upd S 12 (S 12 + by_) 10 = S 10 := rfl
  have e12 : upd S 12 (S 12 + by_) 12 = S 12 + by_ := rfl
  unfold zfE at hf
  rw [e10, e12, if_neg (by rw [h2]; decide), if_neg (by rw [h2]; decide)] at hf
  exact hf.1
/-- the parts of the focus, at every heap that a beam meets -/
theorem zlayF (D : zG) (B : Nat) {G : zH} {χ : Nat → Nat} {c a lv ls lm fo pa su : Nat} {va sa ua ma ra : Nat → Nat} {rq : Nat} {S : Nat → Int32} {f l nm : Nat} {by_ : Int32} (hR : zTr G χ c a lv ls lm fo pa su va sa ua ma ra rq S) (g : zGe S) (hc : 100 ≤ c) (e8 : S 8 = nI nm) (n8 : nm ≤ 8) (hl : l < 256) (hb : zin by_ (-2000) 2000) (h2 : S 2 = 0 ∨ S 2 = 1) (h5 : S 5 = 0 ∨ S 5 = 1) (hf : zo G χ 1 f (zfE (upd S 12 (S 12 + by_)) va)) :
    ∀ (G2 : zH) (χ2 : Nat → Nat), zkee (zPb c) G χ G2 χ2 → ∀ k, k < nm → ∀ p0 : Nat → Int32, G2 pa = some (.inl (0, 256, .inl p0)) → Ct D B yX2_layParts (ws_ yX2_layParts cX2_layParts 8 none) (zr 5) [.ref a, .ref (ma k), .ref f, .int (nI l)] G2 (fun r9 G9 => r9 = none ∧ ∃ pp : Nat → Int32, (∀ j, j ≤ l → pp j = zpa S k by_ j) ∧ G9 = zup G2 pa (.inl (0, 256, .inl pp))) zno := by
  intro G2 χ2 K k hk p0 hp0
  obtain ⟨t1, t2, t3, t4, t5, t6, ⟨p00, t7⟩, w0, t8⟩ := id hR
  have PB : ∀ k, k = 1 ∨ k = c ∨ (c + 1 ≤ k ∧ k ≤ c + 6) ∨ c + 9 ≤ k → zPb c k := fun k hk => zPb_of hc hk
  rw [zct_of e8 (by omega)] at t5
  obtain ⟨m1, w, m2, m3⟩ := t5.2 k hk
  have hqp : ¬ ra k = pa := m2.ne t7.2 (by omega)
  have hT := (t1.kp (PB _ (by omega)) K).1
  have hm := (m1.kp (PB _ (by omega)) K).1
  have hr := (m2.kp (PB _ (by omega)) K).1
  by_cases h0 : S 10 = 2
  · have hd : zDi G2 f (S 12 + by_) := zFo_dir h0 (hf.kp (PB _ (by omega)) K)
    have := ct_X2_layParts_d D B (G := G2) a lv ls lm fo pa su rq S (ma k) k (ra k) f l (S 12 + by_) w p0 hT hm hr hp0 hqp m3 hd hl g
    have e : ∀ j, zpa S k by_ j = zrec S k (nI j + zsh S k (S 12 + by_)) := fun j => by unfold zpa; rw [if_pos h0]
    simp only [e]
    exact this
  · have hpl : zFc G2 f S by_ := zFo_place g h0 (hf.kp (PB _ (by omega)) K) (fun k9 h9 h69 => by
      obtain ⟨nv, nv4, ev⟩ := g.nv
      rw [zct_of ev (by omega)] at t3
      rw [ev] at h69
      exact (t3.2 k9 ((nI_ltI (by omega) (by omega)).mp h69)).kp (PB _ (by omega)) K)
    have := ct_X2_layParts_p D B (G := G2) a lv ls lm fo pa su rq S (ma k) k (ra k) l f (zfv S) (S 12 + by_) (zfy S) (S 14) w p0 hT hm hr hp0 hqp m3 hpl (fun j hj r => zfdok g (by omega) hj hb r) (zfmr g (by omega) hb 0) (zfmr g (by omega) hb 1) hl h2 h5 g
    have e : ∀ j, zpa S k by_ j = zpff S (fun j => zdr S k (zfv S) (S 12 + by_) (zfy S) (S 14) 0 (nI j)) (fun j => zdr S k (zfv S) (S 12 + by_) (zfy S) (S 14) 1 (nI j)) k 256 j := fun j => by unfold zpa; rw [if_neg h0, zdr_f, zdr_f]
    simp only [e]
    exact this
theorem zlayD (D : zG) (B : Nat) {G : zH} {χ : Nat → Nat} {c a lv ls lm fo pa su : Nat} {va sa ua ma ra : Nat → Nat} {rq : Nat} {S : Nat → Int32} {f l nm : Nat} {d : Int32} (hR : zTr G χ c a lv ls lm fo pa su va sa ua ma ra rq S) (g : zGe S) (hc : 100 ≤ c) (e8 : S 8 = nI nm) (n8 : nm ≤ 8) (hl : l < 256) (hf : zo G χ 1 f (.inr (8, [.int d]))) :
    ∀ (G2 : zH) (χ2 : Nat → Nat), zkee (zPb c) G χ G2 χ2 → ∀ k, k < nm → ∀ p0 : Nat → Int32, G2 pa = some (.inl (0, 256, .inl p0)) → Ct D B yX2_layParts (ws_ yX2_layParts cX2_layParts 8 none) (zr 5) [.ref a, .ref (ma k), .ref f, .int (nI l)] G2 (fun r9 G9 => r9 = none ∧ ∃ pp : Nat → Int32, (∀ j, j ≤ l → pp j = zrec S k (nI j + zsh S k d)) ∧ G9 = zup G2 pa (.inl (0, 256, .inl pp))) zno := by
  intro G2 χ2 K k hk p0 hp0
  obtain ⟨t1, t2, t3, t4, t5, t6, ⟨p00, t7⟩, w0, t8⟩ := id hR
  have PB : ∀ k, k = 1 ∨ k = c ∨ (c + 1 ≤ k ∧ k ≤ c + 6) ∨ c + 9 ≤ k → zPb c k := fun k hk => zPb_of hc hk
  rw [zct_of e8 (by omega)] at t5
  obtain ⟨m1, w, m2, m3⟩ := t5.2 k hk
  have hqp : ¬ ra k = pa := m2.ne t7.2 (by omega)
  exact ct_X2_layParts_d D B (G := G2) a lv ls lm fo pa su rq S (ma k) k (ra k) f l d w p0 ((t1.kp (PB _ (by omega)) K).1) ((m1.kp (PB _ (by omega)) K).1) ((m2.kp (PB _ (by omega)) K).1) hp0 hqp m3 (hf.kp (PB _ (by omega)) K).1 hl g
