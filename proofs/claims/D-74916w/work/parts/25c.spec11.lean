/-! pure: loading a text -/
theorem zrun_gt {b : Nat → Bool} {n q : Nat} (h : q < n) (hb : b q = true) : q < zrun b (n - q) q := by
  rw [zrun_1 h hb]
  have := (zrun_le b (n - (q + 1)) (q + 1)).1
  omega
theorem zed_gt {te : Nat → Int32} {n q : Nat} (h : q < n) : q < zed te n q := by
  unfold zed
  rw [if_pos h]
  split
  · next g => exact zrun_gt h g
  · split
    · next g => exact zrun_gt h g
    · omega
theorem zed_ge {te : Nat → Int32} {n q : Nat} : q ≤ zed te n q := by
  by_cases h : q < n
  · exact Nat.le_of_lt (zed_gt h)
  · unfold zed; rw [if_neg h]; exact Nat.le_refl _
theorem znx_gt {te : Nat → Int32} {n q : Nat} (h : q < n) : q < znx te n q := Nat.lt_of_lt_of_le (zed_gt h) (zrun_le _ _ _).1
theorem znx_ge {te : Nat → Int32} {n q : Nat} : q ≤ znx te n q := Nat.le_trans zed_ge (zrun_le _ _ _).1
theorem zad_ge {te : Nat → Int32} {n : Nat} {c : zC} : c.1 ≤ (zad te n c).1 := by
  unfold zad
  split
  · exact znx_ge
  · exact Nat.le_refl _
theorem zad_gt {te : Nat → Int32} {n : Nat} {c : zC} (h : c.2.1 = 0) (hn : c.1 < n) : c.1 < (zad te n c).1 := by
  unfold zad
  rw [if_pos h]
  exact znx_gt hn
theorem zpN_ge {te : Nat → Int32} {n : Nat} {lo hi : Int32} {c : zC} : c.1 ≤ (zpN te n lo hi c).2.1 := zad_ge (c := zrq _ 2 (zrq _ 1 c))
theorem zpJ_ge {te : Nat → Int32} {n : Nat} {lo hi : Int32} {c : zC} : c.1 ≤ (zpJ te n lo hi c).2.1 := zad_ge (c := zrq _ 2 (zrq _ 1 c))
theorem zpI_ge {te : Nat → Int32} {n : Nat} {lo hi : Int32} {c : zC} : c.1 ≤ (zpI te n lo hi c).2.1 := by
  unfold zpI
  split
  · exact Nat.le_trans zad_ge zpJ_ge
  · exact zpN_ge
theorem zinI {x l h : Int32} (a : l ≤ x ∧ x ≤ h) : zin x l.toInt h.toInt := ⟨Int32.le_iff_toInt_le.mp a.1, Int32.le_iff_toInt_le.mp a.2⟩
theorem znat {x l h : Int32} (a : l ≤ x ∧ x ≤ h) (h0 : 0 ≤ l.toInt) : ∃ k : Nat, x = nI k ∧ l.toInt ≤ k ∧ (k : Int) ≤ h.toInt := by
  have := zinI a
  unfold zin at this
  have hb := Int32.toInt_lt x
  refine ⟨x.toInt.toNat, ?_, by omega, by omega⟩
  apply Int32.toInt_inj.mp
  rw [nI_toInt (by omega)]
  omega
section ZLP
variable {te : Nat → Int32} {n : Nat} {S : Nat → Int32} {c : zC}
theorem zpM_ok (h : (zpM te n S c).2.2.1 = 0) : c.2.1 = 0 ∧ S 8 < 8 ∧ c.1 ≤ (zpM1 te n S c).1 ∧ (c.1 < n → c.1 < (zpM te n S c).2.1) ∧ (zGe S → zGe (zpM te n S c).1) := by
  have h5 : (zpM5 te n S c).2.2.1 = 0 := h
  obtain ⟨a4, -, r5, -⟩ := zpN_e (c := (zpM4 te n S c).2) h5
  obtain ⟨a3, -, r4, -⟩ := zpN_e (c := (zpM3 te n S c).2) a4
  obtain ⟨a2, r3⟩ := zpI_e (c := (zpM2 te n S c).2) a3
  obtain ⟨a1, r2⟩ := zpI_e (c := zpM1 te n S c) a2
  obtain ⟨b1, b2, b3⟩ := zrq_e (by decide) (zad_e a1)
  have h8 : S 8 < 8 := zb_ne.mp b2
  refine ⟨b1, h8, zad_ge (c := zrq _ 3 c), fun hn => ?_, fun g => ?_⟩
  · have q1 : c.1 < (zpM1 te n S c).1 := zad_gt (c := zrq _ 3 c) (zad_e a1) hn
    have q2 : (zpM1 te n S c).1 ≤ (zpM2 te n S c).2.1 := zpI_ge
    have q3 : (zpM2 te n S c).2.1 ≤ (zpM3 te n S c).2.1 := zpI_ge
    have q4 : (zpM3 te n S c).2.1 ≤ (zpM4 te n S c).2.1 := zpN_ge
    have q5 : (zpM4 te n S c).2.1 ≤ (zpM5 te n S c).2.1 := zpN_ge
    show c.1 < (zpM5 te n S c).2.1
    omega
  · obtain ⟨k, k8, e8⟩ := g.nm
    have e : (zpM te n S c).1 = zaM S k (zpM2 te n S c).1 (zpM3 te n S c).1 (zpM4 te n S c).1 (zpM5 te n S c).1 := by
      unfold zpM
      rw [if_pos h5, zct_of e8 (by omega)]
    rw [e]
    rw [e8] at h8
    exact zGe_M g e8 ((nI_ltI (b := 8) (by omega) (by decide)).mp h8) (zin_w (zinI r2) (by decide) (by decide)) (zin_w (zinI r3) (by decide) (by decide)) (zin_w (zinI r4) (by decide) (by decide)) (zin_w (zinI r5) (by decide) (by decide))
theorem zpV_ok (h : (zpV te n S c).2.2.1 = 0) : c.2.1 = 0 ∧ S 6 < 4 ∧ c.1 ≤ (zpV1 te n S c).1 ∧ (c.1 < n → c.1 < (zpV te n S c).2.1) ∧ (zGe S → zGe (zpV te n S c).1) := by
  have h5 : (zpV4 te n S c).2.2.1 = 0 := h
  obtain ⟨a3, r4⟩ := zpI_e (c := (zpV3 te n S c).2) h5
  obtain ⟨a2, r3⟩ := zpI_e (c := (zpV2 te n S c).2) a3
  obtain ⟨a1, r2⟩ := zpI_e (c := zpV1 te n S c) a2
  obtain ⟨b1, b2, b3⟩ := zrq_e (by decide) (zad_e a1)
  have h8 : S 6 < 4 := zb_ne.mp b2
  refine ⟨b1, h8, zad_ge (c := zrq _ 3 c), fun hn => ?_, fun g => ?_⟩
  · have q1 : c.1 < (zpV1 te n S c).1 := zad_gt (c := zrq _ 3 c) (zad_e a1) hn
    have q2 : (zpV1 te n S c).1 ≤ (zpV2 te n S c).2.1 := zpI_ge
    have q3 : (zpV2 te n S c).2.1 ≤ (zpV3 te n S c).2.1 := zpI_ge
    have q4 : (zpV3 te n S c).2.1 ≤ (zpV4 te n S c).2.1 := zpI_ge
    show c.1 < (zpV4 te n S c).2.1
    omega
  · obtain ⟨k, k8, e8⟩ := g.nv
    have e : (zpV te n S c).1 = zaV S k (zpV2 te n S c).1 (zpV3 te n S c).1 (zpV4 te n S c).1 := by
      unfold zpV
      rw [if_pos h5, zct_of e8 (by omega)]
    rw [e]
    rw [e8] at h8
    exact zGe_V g e8 ((nI_ltI (b := 4) (by omega) (by decide)).mp h8) (zin_w (zinI r2) (by decide) (by decide)) (zin_w (zinI r3) (by decide) (by decide)) (zin_w (zinI r4) (by decide) (by decide))
theorem zpX_e {k : Nat} : ∀ i, (zpX te n k S c i).2.1.2.1 = 0 → c.2.1 = 0
  | 0 => id
  | i + 1 => fun h => by
    unfold zpX at h
    split at h
    · exact zpX_e i (zpI_e h).1
    · exact zpX_e i h
theorem zpX_ge {k : Nat} : ∀ i, c.1 ≤ (zpX te n k S c i).2.1.1
  | 0 => Nat.le_refl _
  | i + 1 => by
    have := zpX_ge (k := k) i
    unfold zpX
    split
    · exact Nat.le_trans this zpI_ge
    · exact this
theorem zpX_ok {k : Nat} (hk : k < 6) (h4 : S (28 + 21 * k + 4) = nI 0) (g : zGe (upd S (28 + 21 * k + 4) 1)) : ∀ i, i ≤ 16 → (zpX te n k S c i).2.1.2.1 = 0 → zGe (upd (zpX te n k S c i).1 (28 + 21 * k + 4) 1) ∧ (i = 0 ∨ ∃ m : Nat, 1 ≤ m ∧ m ≤ 16 ∧ (zpX te n k S c i).1 (28 + 21 * k + 4) = nI m)
  | 0 => fun _ _ => ⟨g, Or.inl rfl⟩
  | i + 1 => fun hi h => by
    by_cases q : (zpX te n k S c i).2.2 = true
    · have e : zpX te n k S c (i + 1) = (if (zpI te n (-99) 99 (zpX te n k S c i).2.1).2.2.1 = 0 then zaX (zpX te n k S c i).1 k i (zpI te n (-99) 99 (zpX te n k S c i).2.1).1 else (zpX te n k S c i).1, (zpI te n (-99) 99 (zpX te n k S c i).2.1).2, decide ((zpI te n (-99) 99 (zpX te n k S c i).2.1).2.2.1 = 0 ∧ (nI (zkd te n (zpI te n (-99) 99 (zpX te n k S c i).2.1).2.1) = 3 ∨ nI (zkd te n (zpI te n (-99) 99 (zpX te n k S c i).2.1).2.1) = 5))) := if_pos q
      rw [e] at h ⊢
      have h2 : (zpI te n (-99) 99 (zpX te n k S c i).2.1).2.2.1 = 0 := h
      obtain ⟨a1, r1⟩ := zpI_e h2
      obtain ⟨g1, -⟩ := zpX_ok hk h4 g i (by omega) a1
      simp only [if_pos h2]
      refine ⟨?_, Or.inr ⟨i + 1, by omega, hi, if_pos rfl⟩⟩
      have := zGe_X g1 (k := k) (n := i) (c := 1) (x := (zpI te n (-99) 99 (zpX te n k S c i).2.1).1) hk (by omega) (by decide) (by decide) (zin_w (zinI r1) (by decide) (by decide))
      have e2 : upd (zaX (upd (zpX te n k S c i).1 (28 + 21 * k + 4) 1) k i (zpI te n (-99) 99 (zpX te n k S c i).2.1).1) (28 + 21 * k + 4) (nI 1) = upd (zaX (zpX te n k S c i).1 k i (zpI te n (-99) 99 (zpX te n k S c i).2.1).1) (28 + 21 * k + 4) 1 := by
        funext j
        simp only [zaX, upd]
        by_cases e9 : j = 28 + 21 * k + 4
        · rw [if_pos e9, if_pos e9]; rfl
        · simp only [if_neg e9]
      rw [e2] at this
      exact this
    · have e : zpX te n k S c (i + 1) = zpX te n k S c i := if_neg q
      rw [e] at h ⊢
      obtain ⟨g1, g2⟩ := zpX_ok hk h4 g i (by omega) h
      refine ⟨g1, Or.inr ?_⟩
      rcases g2 with rfl | g2
      · exact absurd rfl q
      · exact g2
theorem zpS_ok (h : (zpS te n S c).2.2.1 = 0) : c.2.1 = 0 ∧ S 7 < 6 ∧ (zpS5 te n S c).2.2.1 = 0 ∧ (c.1 < n → c.1 < (zpS te n S c).2.1) ∧ (zGe S → zGe (zpS te n S c).1) := by
  have h5 : (zpS5 te n S c).2.2.1 = 0 := by
    unfold zpS at h
    split at h
    · assumption
    · exact zpX_e 16 h
  have eS : zpS te n S c = ((zpX te n (zct S 7) (zaS S (zct S 7) (zpS2 te n S c).1 (zpS3 te n S c).1 (zpS4 te n S c).1 (zpS5 te n S c).1) (zpS5 te n S c).2 16).1, (zpX te n (zct S 7) (zaS S (zct S 7) (zpS2 te n S c).1 (zpS3 te n S c).1 (zpS4 te n S c).1 (zpS5 te n S c).1) (zpS5 te n S c).2 16).2.1) := if_pos h5
  obtain ⟨a4, -, r5, -⟩ := zpN_e (c := (zpS4 te n S c).2) h5
  obtain ⟨a3, -, r4, -⟩ := zpN_e (c := (zpS3 te n S c).2) a4
  obtain ⟨a2, r3⟩ := zpI_e (c := (zpS2 te n S c).2) a3
  obtain ⟨a1, -, r2, -⟩ := zpN_e (c := zpS1 te n S c) a2
  obtain ⟨b1, b2, b3⟩ := zrq_e (by decide) (zad_e a1)
  have h8 : S 7 < 6 := zb_ne.mp b2
  refine ⟨b1, h8, h5, fun hn => ?_, fun g => ?_⟩
  · have q1 : c.1 < (zpS1 te n S c).1 := zad_gt (c := zrq _ 3 c) (zad_e a1) hn
    have q2 : (zpS1 te n S c).1 ≤ (zpS2 te n S c).2.1 := zpN_ge
    have q3 : (zpS2 te n S c).2.1 ≤ (zpS3 te n S c).2.1 := zpI_ge
    have q4 : (zpS3 te n S c).2.1 ≤ (zpS4 te n S c).2.1 := zpN_ge
    have q5 : (zpS4 te n S c).2.1 ≤ (zpS5 te n S c).2.1 := zpN_ge
    have q6 := zpX_ge (te := te) (n := n) (S := zaS S (zct S 7) (zpS2 te n S c).1 (zpS3 te n S c).1 (zpS4 te n S c).1 (zpS5 te n S c).1) (c := (zpS5 te n S c).2) (k := zct S 7) 16
    rw [eS]
    show c.1 < (zpX te n (zct S 7) _ _ 16).2.1.1
    omega
  · obtain ⟨k, k8, e8⟩ := g.ns
    obtain ⟨nv, nv4, e6⟩ := g.nv
    rw [eS] at h ⊢
    have hk : zct S 7 = k := zct_of e8 (by omega)
    rw [hk] at h ⊢
    rw [e8] at h8
    have hk6 : k < 6 := (nI_ltI (b := 6) (by omega) (by decide)).mp h8
    obtain ⟨v, e2, v0, v1⟩ := znat r2 (by decide)
    have v3 : (zpS2 te n S c).1 = nI v := e2
    have v4 : nI v < S 6 := by
      rw [Int32.lt_iff_toInt_lt]
      have a9 := (zinI r2).2
      rw [e2, e6, Int32.toInt_sub, nI_toInt (n := nv) (by omega), show (1 : Int32).toInt = 1 from by decide, zbm (by omega) (by omega)] at a9
      rw [e6, nI_toInt (n := nv) (by omega)]
      omega
    have v5 : v < 4 := by
      rw [e6] at v4
      have := (nI_ltI (b := nv) (by rw [e6, Int32.toInt_sub, nI_toInt (n := nv) (by omega), show (1 : Int32).toInt = 1 from by decide, zbm (by omega) (by omega)] at v1; omega) (by omega)).mp v4
      omega
    rw [v3] at h ⊢
    have g1 := zGe_S g (n := k) (v := v) (o := (zpS3 te n S c).1) (z := (zpS4 te n S c).1) (s := (zpS5 te n S c).1) e8 hk6 v5 v4 (zin_w (zinI r3) (by decide) (by decide)) (zin_w (zinI r4) (by decide) (by decide)) (zin_w (zinI r5) (by decide) (by decide))
    obtain ⟨g2, g3⟩ := zpX_ok (te := te) (n := n) (S := zaS S k (nI v) (zpS3 te n S c).1 (zpS4 te n S c).1 (zpS5 te n S c).1) (c := (zpS5 te n S c).2) hk6 ((if_neg (by omega)).trans (if_pos rfl)) g1 16 (Nat.le_refl _) h
    rcases g3 with g3 | ⟨m, m1, m2, g3⟩
    · omega
    · have g4 := zGe_cnt g2 hk6 m1 m2
      rw [← g3] at g4
      have e9 : upd (upd (zpX te n k (zaS S k (nI v) (zpS3 te n S c).1 (zpS4 te n S c).1 (zpS5 te n S c).1) (zpS5 te n S c).2 16).1 (28 + 21 * k + 4) 1) (28 + 21 * k + 4) ((zpX te n k (zaS S k (nI v) (zpS3 te n S c).1 (zpS4 te n S c).1 (zpS5 te n S c).1) (zpS5 te n S c).2 16).1 (28 + 21 * k + 4)) = (zpX te n k (zaS S k (nI v) (zpS3 te n S c).1 (zpS4 te n S c).1 (zpS5 te n S c).1) (zpS5 te n S c).2 16).1 := by
        funext j
        simp only [upd]
        by_cases e7 : j = 28 + 21 * k + 4
        · rw [if_pos e7, e7]
        · rw [if_neg e7, if_neg e7]
      rw [e9] at g4
      exact g4
theorem zpU_ok (h : (zpU te n S c).2.2.1 = 0) : c.2.1 = 0 ∧ (c.1 < n → c.1 < (zpU te n S c).2.1) ∧ (zGe S → zGe (zpU te n S c).1) := by
  have fin : ∀ (d : zC), (zad te n c).2.1 = 0 → (zad te n c).1 ≤ d.1 → c.2.1 = 0 ∧ (c.1 < n → c.1 < d.1) := fun d h1 h2 => ⟨zad_e h1, fun hn => Nat.lt_of_lt_of_le (zad_gt (zad_e h1) hn) h2⟩
  unfold zpU at h ⊢
  split at h
  · next q =>
    simp only [if_pos q]
    obtain ⟨a1, -, -, a2, a3⟩ := zpM_ok h
    exact ⟨a1, a2, a3⟩
  next q1 =>
  simp only [if_neg q1]
  split at h
  · next q =>
    simp only [if_pos q]
    obtain ⟨a1, -, -, a2, a3⟩ := zpV_ok h
    exact ⟨a1, a2, a3⟩
  next q2 =>
  simp only [if_neg q2]
  split at h
  · next q =>
    simp only [if_pos q]
    obtain ⟨a1, -, -, a2, a3⟩ := zpS_ok h
    exact ⟨a1, a2, a3⟩
  next q3 =>
  simp only [if_neg q3]
  split at h
  · next q =>
    simp only [if_pos q]
    obtain ⟨a1, -, r, -⟩ := zpN_e h
    obtain ⟨b1, b2⟩ := fin (zpN te n 100 1000 (zad te n c)).2 a1 zpN_ge
    refine ⟨b1, b2, fun g => ?_⟩
    obtain ⟨k, e, k1, k2⟩ := znat r (by decide)
    show zGe (upd S 0 (znmN te n (zad te n c).1))
    rw [e]
    exact zGe_snd g (by have : (100 : Int32).toInt = 100 := by decide
                        omega) (by have : (1000 : Int32).toInt = 1000 := by decide
                                   omega)
  next q4 =>
  simp only [if_neg q4]
  split at h
  · next q =>
    simp only [if_pos q]
    obtain ⟨a1, r⟩ := zpI_e h
    obtain ⟨b1, b2⟩ := fin (zpI te n (-90) 90 (zad te n c)).2 a1 zpI_ge
    exact ⟨b1, b2, fun g => zGe_gnd g (zin_w (zinI r) (by decide) (by decide))⟩
  next q5 =>
  simp only [if_neg q5]
  split at h
  · next q =>
    simp only [if_pos q]
    obtain ⟨a1, -, r, -⟩ := zpN_e h
    obtain ⟨b1, b2⟩ := fin (zpN te n 0 99 (zad te n c)).2 a1 zpN_ge
    refine ⟨b1, b2, fun g => ?_⟩
    obtain ⟨k, e, k1, k2⟩ := znat r (by decide)
    show zGe (upd S 4 (znmN te n (zad te n c).1))
    rw [e]
    exact zGe_noi g (by have : (99 : Int32).toInt = 99 := by decide
                        omega)
  next q6 =>
  simp only [if_neg q6]
  have h1 : (zad te n (zrq (zb (zwd te n c 7)) 1 c)).2.1 = 0 := h
  obtain ⟨b1, b2, b3⟩ := zrq_e (by decide) (zad_e h1)
  exact ⟨b1, fun hn => zad_gt (c := zrq _ 1 c) (zad_e h1) hn, fun g => zGe_spr g⟩
theorem zpT_ok (h : (zpT te n S c).2.2.1 = 0) : c.2.1 = 0 ∧ (c.1 < n → c.1 < (zpT te n S c).2.1) ∧ (zGe S → zGe (zpT te n S c).1) := by
  have h1 : (zad te n (zrq (zb (nI (zkd te n (zpU te n S c).2.1) = 4)) 1 (zpU te n S c).2)).2.1 = 0 := h
  obtain ⟨b1, -, -⟩ := zrq_e (by decide) (zad_e h1)
  obtain ⟨a1, a2, a3⟩ := zpU_ok b1
  exact ⟨a1, fun hn => Nat.lt_of_lt_of_le (a2 hn) (zad_ge (c := zrq _ 1 (zpU te n S c).2)), a3⟩
end ZLP
theorem zkd_lt {te : Nat → Int32} {n q : Nat} (h : ¬ nI (zkd te n q) = 0) : q < n := by
  by_cases e : q < n
  · exact e
  · exact absurd (by unfold zkd; rw [if_neg e]; rfl) h
/-- the statements one by one, from a state on -/
def zld (te : Nat → Int32) (n : Nat) (S0 : Nat → Int32) : Nat → (Nat → Int32) × zC
  | 0 => (S0, (ztB te n 0, 0, -1))
  | i + 1 => zpT te n (zld te n S0 i).1 (zld te n S0 i).2
/-- another statement follows -/
abbrev zmo (te : Nat → Int32) (n : Nat) (c : zC) : Prop := c.2.1 = 0 ∧ ¬ nI (zkd te n c.1) = 0
/-- just i statements are read -/
def zLE (te : Nat → Int32) (n : Nat) (S0 : Nat → Int32) (i : Nat) : Prop := (∀ j, j < i → zmo te n (zld te n S0 j).2) ∧ ¬ zmo te n (zld te n S0 i).2
theorem zLE_uniq {te : Nat → Int32} {n : Nat} {S0 : Nat → Int32} {i j : Nat} (h : zLE te n S0 i) (h2 : zLE te n S0 j) : i = j := by
  rcases Nat.lt_trichotomy i j with q | q | q
  · exact absurd (h2.1 i q) h.2
  · exact q
  · exact absurd (h.1 j q) h2.2
theorem zld_ge {te : Nat → Int32} {n : Nat} {S0 : Nat → Int32} (g : zGe S0) : ∀ i, (zld te n S0 i).2.2.1 = 0 → zGe (zld te n S0 i).1
  | 0 => fun _ => g
  | i + 1 => fun h => (zpT_ok h).2.2 (zld_ge g i (zpT_ok h).1)
