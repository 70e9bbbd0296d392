/-! component: beams -/
/-- what a beam keeps -/
def zPb (c k : Nat) : Prop := k ≠ 2 ∧ k ≠ c + 7 ∧ k ≠ c + 8
theorem zPb_of {c k : Nat} (hc : 100 ≤ c) (h : k = 1 ∨ k = c ∨ (c + 1 ≤ k ∧ k ≤ c + 6) ∨ c + 9 ≤ k) : zPb c k := ⟨by omega, by omega, by omega⟩
/-- a beam's sums, in longs: of the first microphones, parts being p -/
def zbL (S : Nat → Int32) (p : Nat → Nat → Int32) : Nat → Nat → Int64
  | 0 => fun _ => 0
  | m + 1 => fun t => zbL S p m t + (S (154 + 4 * m + 3)).toInt64 * (p m t).toInt64
theorem np_X2_layParts : znp yX2_layParts 3 := ⟨by decide +kernel, by decide +kernel, by decide +kernel⟩
set_option maxHeartbeats 16000000 in
set_option maxRecDepth 100000 in
theorem ct_X2_beam (D : zG) (B : Nat) {G : zH} (χ : Nat → Nat) (c a lv ls lm fo pa su : Nat) (va sa ua ma ra : Nat → Nat) (rq : Nat) (S : Nat → Int32) (f l nm : Nat) (P : Nat → Nat → Int32) (hR : zTr G χ c a lv ls lm fo pa su va sa ua ma ra rq S) (hc : 100 ≤ c) (e8 : S 8 = nI nm) (n8 : nm ≤ 8) (hl : l < 256) (hlay : ∀ (G2 : zH) (χ2 : Nat → Nat), zkee (zPb c) G χ G2 χ2 → ∀ k, k < nm → ∀ p0 : Nat → Int32, G2 pa = some (.inl (0, 256, .inl p0)) → Ct D B yX2_layParts (ws_ yX2_layParts cX2_layParts 8 none) (zr 5) [.ref a, .ref (ma k), .ref f, .int (nI l)] G2 (fun r9 G9 => r9 = none ∧ ∃ pp : Nat → Int32, (∀ j, j ≤ l → pp j = P k j) ∧ G9 = zup G2 pa (.inl (0, 256, .inl pp))) zno) : Ct D B yX2_beam (ws_ yX2_beam cX2_beam 6 (some (.object "TrackArray$Signal"))) (zrL 9 30 100) [.ref a, .ref f, .int (nI l)] G (fun r9 G9 => ∃ q : Nat, r9 = some (.ref q) ∧ ∃ (χ9 : Nat → Nat) (w9 : Nat → Int64) (p9 : Nat → Int32), zkee (zPb c) G χ G9 χ9 ∧ G9 q = some (.inr (100, [.ref a])) ∧ zo G9 χ9 (c + 8) su (.inl (1, 256, .inr (.inl w9))) ∧ (∀ t, t ≤ l → w9 t = zbL S P nm t) ∧ zo G9 χ9 (c + 7) pa (.inl (0, 256, .inl p9))) zno := by
  refine ct_introN (by decide +kernel) (Nat.le_of_ble_eq_true rfl) ?_
  intro X C hN
  obtain ⟨t1, t2, t3, t4, t5, t6, ⟨p0, t7⟩, w0, t8⟩ := id hR
  rw [zct_of e8 (by omega)] at t5
  obtain ⟨⟨mcm, em, capm, gm, lm1, lmc, lmd⟩, tm⟩ := t5
  have PB : ∀ k, k = 1 ∨ k = c ∨ (c + 1 ≤ k ∧ k ≤ c + 6) ∨ c + 9 ≤ k → zPb c k := fun k hk => zPb_of hc hk
  have nas : ¬ a = su := t1.ne t8.2 (by omega)
  refine z_iconst (v := 0) C dX2_beam_0 (by decide) ?_
  refine z_istore_n (i := 3) C dX2_beam_1 rfl (Nat.le_of_ble_eq_true rfl) rfl ?_
  have lp2 : ∀ (μ : Nat) (t : Nat) (w1 : Nat → Int64) (h1 : t ≤ l + 1) (h2 : ∀ j, j < t → w1 j = 0), l + 1 - t < μ → Z X 2 [some (.ref a), some (.ref f), some (.int (nI l)), some (.int (nI t)), none, none] [] (zup G su (.inl (1, 256, .inr (.inl w1)))) 0 0 := by
    intro μ
    induction μ with
    | zero => intro t w1 h1 h2 hμ; exact absurd hμ (Nat.not_lt_zero _)
    | succ μ ih2 =>
      intro t w1 h1 h2 hμ
      refine z_iload_n (i := 3) C dX2_beam_2 rfl rfl ?_
      refine z_iload_n (i := 2) C dX2_beam_3 rfl rfl ?_
      refine z_icmp_gt (tgt := 20) C dX2_beam_4 (by decide) (fun c_4 => ?_) (fun c_4 => ?_)
      · have hend1 : l < t := zgt c_4 (by omega) (by omega)
        refine z_aload_n (i := 0) C dX2_beam_20 rfl rfl ?_
        have K1 : zkee (fun k => k ≠ c + 8) G χ (zup G su (.inl (1, 256, .inr (.inl w1)))) χ := zkee.put t8.2 (fun h => h rfl)
        obtain ⟨G1, hG1⟩ : ∃ G1, G1 = zup G su (.inl (1, 256, .inr (.inl w1))) := ⟨_, rfl⟩
        have s1 : zo G1 χ (c + 8) su (.inl (1, 256, .inr (.inl w1))) := by rw [hG1]; exact t8.put
        rw [← hG1] at K1
        refine z_heap hG1.symm ?_
        have a1 := t1.kp (show c ≠ c + 8 by omega) K1
        have l1 := lm1.1
        have l2 := (K1 lm _ lm1.1 (show χ lm ≠ c + 8 by omega)).1
        have p1 := t7.kp (show c + 7 ≠ c + 8 by omega) K1
        refine z_getf (ci := 1) (k := 2) C (a1.1) rfl rfl q514 dX2_beam_21 ?_
        refine z_callVn C (l2) rfl (ct_J2_iterator D B lm mcm _ _ l2) q602 q603 q604 q87 q605 np_J2_iterator (zr_ok rfl rfl) rfl rfl (Nat.le_of_ble_eq_true rfl) (⟨Nat.le_of_ble_eq_true rfl, Nat.le_of_ble_eq_true rfl⟩) dX2_beam_24 ?_
        intro v9 G9 h9
        obtain ⟨it, rfl, hit, rfl⟩ := h9
        have N1 : zkee (fun _ => True) G1 χ (zup G1 it (.inr (14, [.int (nI (0)), .int (-1), .int mcm, .ref lm]))) (zcol χ it 2) := zkee.new hit
        obtain ⟨χ2, hχ2⟩ : ∃ χ2, χ2 = zcol χ it 2 := ⟨_, rfl⟩
        refine z_astore_n (i := 3) C dX2_beam_27 rfl (Nat.le_of_ble_eq_true rfl) rfl ?_
        have lp28 : ∀ (μ : Nat) (i : Nat) (G3 : zH) (lr : Value) (w3 : Nat → Int64) (p3 : Nat → Int32) (i1 : i ≤ nm) (i2 : zkee (zPb c) G χ G3 χ2) (i3 : zo G3 χ2 (c + 8) su (.inl (1, 256, .inr (.inl w3)))) (i4 : zo G3 χ2 (c + 7) pa (.inl (0, 256, .inl p3))) (i5 : ∀ t, t ≤ l → w3 t = zbL S P i t) (i6 : zo G3 χ2 2 it (.inr (14, [.int (nI (i)), lr, .int mcm, .ref lm]))), nm - i < μ → Z X 28 [some (.ref a), some (.ref f), some (.int (nI l)), some (.ref it), none, none] [] G3 (1 + 2 * i) (4 + 6 * i) := by
          intro μ
          induction μ with
          | zero => intro i G3 lr w3 p3 i1 i2 i3 i4 i5 i6 hμ; exact absurd hμ (Nat.not_lt_zero _)
          | succ μ ih28 =>
            intro i G3 lr w3 p3 i1 i2 i3 i4 i5 i6 hμ
            have lmZ : zli G3 lm nm ma mcm em capm gm := ⟨(i2 lm _ lm1.1 (by rw [lmc]; exact PB _ (by omega))).1, (i2 em _ lm1.2.1 (by rw [lmd]; exact PB _ (by omega))).1, lm1.2.2⟩
            refine z_aload_n (i := 3) C dX2_beam_28 rfl rfl ?_
            refine z_callFe (x := ⟨"java/util/Iterator", "hasNext", "()Z"⟩) (C0 := "java/util/ArrayList$Itr") (np := 0) C (i6.1) rfl (by decide) (ct_J22_hasNext D B it lm i nm _ _ _ _ lmZ.1 i6.1 (by omega) (by omega)) q626 q630 q632 q115 q634 ⟨by decide +kernel, by decide +kernel, by decide +kernel⟩ (zr_ok rfl rfl) rfl rfl (Nat.le_of_ble_eq_true rfl) (⟨by simp only [zrc, zr]; omega, by simp only [zrc, zr]; omega⟩) dX2_beam_29 ?_
            refine z_if_eq (tgt := 99) C dX2_beam_34 (by decide) (fun c_34 => ?_) (fun c_34 => ?_)
            · have hend : i = nm := by
                by_cases z : i = nm
                · exact z
                · exact absurd z (zb_eq.mp c_34)
              subst hend
              refine z_aload_n (i := 0) C dX2_beam_99 rfl rfl ?_
              refine z_indy (i := 0) C rfl hN rfl q2475 (vals := [.ref a]) (rest := []) rfl ⟨⟨rfl, rfl⟩, trivial⟩ (Nat.le_of_ble_eq_true rfl) (by (try simp only [zrc, zrL, zr]); omega) (by (try simp only [zrc, zrL, zr, List.length_singleton]); omega) (Nat.le_of_ble_eq_true rfl) dX2_beam_100 ?_
              intro q hq hb
              have q8 : zkee (fun _ => True) G3 χ2 (zup G3 q (.inr (100, [.ref a]))) (zcol χ2 q 2) := zkee.new hq
              exact z_areturn C rfl (Or.inl ⟨_, rfl⟩) (Or.inr ⟨_, rfl⟩) dX2_beam_105 ⟨q, rfl, zcol χ2 q 2, w3, p3, i2.trans (q8.mono (fun _ _ => trivial)), zup_s, i3.kp trivial q8, i5, i4.kp trivial q8⟩ (by (try simp only [zrc, zrL, zr, List.length_singleton]); omega) (by (try simp only [zrc, zrL, zr, List.length_singleton]); omega)
            · have hlt : i < nm := by
                have := zb_ne.mp c_34
                omega
              refine z_aload_n (i := 3) C dX2_beam_37 rfl rfl ?_
              refine z_callFe (x := ⟨"java/util/Iterator", "next", "()Ljava/lang/Object;"⟩) (C0 := "java/util/ArrayList$Itr") (np := 0) C (i6.1) rfl (by decide) (ct_J22_next D B lm nm ma mcm em capm gm it i lr lmZ i6.1 hlt) q636 q639 q641 q115 q643 ⟨by decide +kernel, by decide +kernel, by decide +kernel⟩ (zr_ok rfl rfl) rfl rfl (Nat.le_of_ble_eq_true rfl) (⟨by simp only [zrc, zr]; omega, by simp only [zrc, zr]; omega⟩) dX2_beam_38 ?_
              have q1 : zkee (fun x => x ≠ 2) G3 χ2 (zup G3 it (.inr (14, [.int (nI (i + 1)), .int (nI i), .int mcm, .ref lm]))) χ2 := zkee.put i6.2 (fun h => h rfl)
              obtain ⟨G4, hG4⟩ : ∃ G4, G4 = zup G3 it (.inr (14, [.int (nI (i + 1)), .int (nI i), .int mcm, .ref lm])) := ⟨_, rfl⟩
              have I4 : zo G4 χ2 2 it (.inr (14, [.int (nI (i + 1)), .int (nI i), .int mcm, .ref lm])) := by rw [hG4]; exact i6.put
              rw [← hG4] at q1
              refine z_heap hG4.symm ?_
              have K4 : zkee (zPb c) G χ G4 χ2 := i2.trans (q1.mono (fun x hx => hx.1))
              have m4 := ((tm i hlt).1.kp (PB _ (by omega)) K4).1
              have p4 := i4.kp (show c + 7 ≠ 2 by omega) q1
              have s4 := i3.kp (show c + 8 ≠ 2 by omega) q1
              have a4 := t1.kp (PB _ (by omega)) K4
              refine z_castS (ci := 6) C (m4) rfl q648 dX2_beam_43 ?_
              refine z_astore C dX2_beam_46 (Nat.le_of_ble_eq_true rfl) rfl ?_
              refine z_aload_n (i := 0) C dX2_beam_48 rfl rfl ?_
              refine z_aload C dX2_beam_49 rfl ?_
              refine z_aload_n (i := 1) C dX2_beam_51 rfl rfl ?_
              refine z_iload_n (i := 2) C dX2_beam_52 rfl rfl ?_
              refine z_callVn C (a4.1) rfl (hlay G4 χ2 K4 i hlt p3 p4.1) q1661 q1640 q1641 q84 q1642 np_X2_layParts (zr_ok rfl rfl) rfl rfl (Nat.le_of_ble_eq_true rfl) (⟨by simp only [zrc, zr]; omega, by simp only [zrc, zr]; omega⟩) dX2_beam_53 ?_
              intro v9 G9 h9
              obtain ⟨rfl, pp, hpp, rfl⟩ := h9
              have q2 : zkee (fun x => x ≠ c + 7) G4 χ2 (zup G4 pa (.inl (0, 256, .inl pp))) χ2 := zkee.put p4.2 (fun h => h rfl)
              obtain ⟨G5, hG5⟩ : ∃ G5, G5 = zup G4 pa (.inl (0, 256, .inl pp)) := ⟨_, rfl⟩
              have p5 : zo G5 χ2 (c + 7) pa (.inl (0, 256, .inl pp)) := by rw [hG5]; exact p4.put
              rw [← hG5] at q2
              refine z_heap hG5.symm ?_
              have s5 := s4.kp (show c + 8 ≠ c + 7 by omega) q2
              have I5 := I4.kp (show 2 ≠ c + 7 by omega) q2
              have K5 : zkee (zPb c) G χ G5 χ2 := K4.trans (q2.mono (fun x hx => hx.2.1))
              have a5 := t1.kp (PB _ (by omega)) K5
              have m5 := (tm i hlt).1.kp (PB _ (by omega)) K5
              have nps : ¬ pa = su := p5.ne s5.2 (by omega)
              have nms : ¬ ma i = su := m5.ne s5.2 (by omega)
              refine z_iconst (v := 0) C dX2_beam_56 (by decide) ?_
              refine z_istore C dX2_beam_57 (Nat.le_of_ble_eq_true rfl) rfl ?_
              have lp59 : ∀ (μ : Nat) (t : Nat) (w5 : Nat → Int64) (g1 : t ≤ l + 1) (g2 : ∀ j, j < t → w5 j = zbL S P (i + 1) j) (g3 : ∀ j, t ≤ j → j ≤ l → w5 j = zbL S P i j), l + 1 - t < μ → Z X 59 [some (.ref a), some (.ref f), some (.int (nI l)), some (.ref it), some (.ref (ma i)), some (.int (nI t))] [] (zup G5 su (.inl (1, 256, .inr (.inl w5)))) (2 + 2 * i) (6 + 6 * i) := by
                intro μ
                induction μ with
                | zero => intro t w5 g1 g2 g3 hμ; exact absurd hμ (Nat.not_lt_zero _)
                | succ μ ih59 =>
                  intro t w5 g1 g2 g3 hμ
                  refine z_iload C dX2_beam_59 rfl ?_
                  refine z_iload_n (i := 2) C dX2_beam_61 rfl rfl ?_
                  refine z_icmp_gt (tgt := 96) C dX2_beam_62 (by decide) (fun c_62 => ?_) (fun c_62 => ?_)
                  · have hend2 : l < t := zgt c_62 (by omega) (by omega)
                    have q3 : zkee (fun x => x ≠ c + 8) G5 χ2 (zup G5 su (.inl (1, 256, .inr (.inl w5)))) χ2 := zkee.put s5.2 (fun h => h rfl)
                    refine z_goto (tgt := 28) C dX2_beam_96 (by decide) ?_
                    exact z_convG (ih28 (i + 1) _ _ w5 pp (by omega) (K5.trans (q3.mono (fun x hx => hx.2.2))) s5.put (p5.kp (show c + 7 ≠ c + 8 by omega) q3) (fun t9 h9 => g2 t9 (by omega)) (I5.kp (show 2 ≠ c + 8 by omega) q3) (by omega)) (And.intro rfl (And.intro rfl (And.intro rfl (And.intro rfl trivial)))) (by (try simp only [zrc, zrL, zr]); omega) (by (try simp only [zrc, zrL, zr]); omega)
                  · have hle2 : t ≤ l := zngt c_62 (by omega) (by omega)
                    refine z_aload_n (i := 0) C dX2_beam_65 rfl rfl ?_
                    refine z_getf (ci := 1) (k := 12) C ((zup_n nas).trans a5.1) rfl rfl q539 dX2_beam_66 ?_
                    refine z_iload C dX2_beam_69 rfl ?_
                    refine z_dup2_11 C dX2_beam_71 rfl rfl ?_
                    refine zj_lald C zup_s (zixI rfl (show t < 256 by omega)) (by decide) dX2_beam_72 ?_
                    refine z_aload C dX2_beam_73 rfl ?_
                    refine z_getfN (ci := 6) (k := 3) C ((zup_n nms).trans m5.1) rfl rfl q1029 dX2_beam_75 ?_
                    refine z_i2l C dX2_beam_78 rfl ?_
                    refine z_aload_n (i := 0) C dX2_beam_79 rfl rfl ?_
                    refine z_getf (ci := 1) (k := 11) C ((zup_n nas).trans a5.1) rfl rfl q537 dX2_beam_80 ?_
                    refine z_iload C dX2_beam_83 rfl ?_
                    refine zj_iald C ((zup_n nps).trans p5.1) (zixI rfl (show t < 256 by omega)) (by decide) dX2_beam_85 ?_
                    refine z_i2l C dX2_beam_86 rfl ?_
                    refine z_lmul C dX2_beam_87 ?_
                    refine z_ladd C dX2_beam_88 ?_
                    refine zj_last C zup_s (zixI rfl (show t < 256 by omega)) (by decide) dX2_beam_89 ?_
                    refine z_heap zup_zup ?_
                    refine z_iinc (v := nI (t + 1)) C dX2_beam_90 rfl (ziinc t) (Nat.le_of_ble_eq_true rfl) rfl ?_
                    refine z_goto (tgt := 59) C dX2_beam_93 (by decide) ?_
                    exact z_convG (ih59 (t + 1) (vp_updL w5 t (w5 t + (S (154 + 4 * i + 3)).toInt64 * (pp t).toInt64)) (by omega) (fun j hj => by
    unfold vp_updL
    split
    · next e9 => rw [e9, g3 t (Nat.le_refl _) hle2, hpp t hle2]; rfl
    · exact g2 j (by omega)) (fun j hj hj2 => by unfold vp_updL; rw [if_neg (by omega)]; exact g3 j (by omega) hj2) (by omega)) (And.intro (rfl) (And.intro (rfl) (And.intro (rfl) (And.intro (rfl) (And.intro (rfl) (And.intro (rfl) trivial)))))) (by (try simp only [zrc, zrL, zr]); omega) (by (try simp only [zrc, zrL, zr]); omega)
              refine z_heap (zup_self s5.1).symm ?_
              exact z_convG (lp59 (l + 2) 0 w3 (by omega) (fun j hj => absurd hj (Nat.not_lt_zero _)) (fun j _ hj => i5 j hj) (by omega)) (And.intro (rfl) (And.intro (rfl) (And.intro (rfl) (And.intro (rfl) (And.intro (rfl) (And.intro (rfl) trivial)))))) (by (try simp only [zrc, zrL, zr]); omega) (by (try simp only [zrc, zrL, zr]); omega)
        
        exact z_convG (lp28 9 0 _ (.int (-1)) w1 p0 (by omega) ((K1.mono (fun x hx => hx.2.2)).trans (hχ2 ▸ N1.mono (fun _ _ => trivial))) (by rw [hχ2]; exact s1.kp trivial N1) (by rw [hχ2]; exact p1.kp trivial N1) (fun t9 h9 => h2 t9 (by omega)) (by rw [hχ2]; exact zo.newc hit) (by omega)) (And.intro (rfl) (And.intro (rfl) (And.intro (rfl) (And.intro (rfl) trivial)))) (by (try simp only [zrc, zrL, zr]); omega) (by (try simp only [zrc, zrL, zr]); omega)
      · have hle1 : t ≤ l := zngt c_4 (by omega) (by omega)
        refine z_aload_n (i := 0) C dX2_beam_7 rfl rfl ?_
        refine z_getf (ci := 1) (k := 12) C ((zup_n nas).trans t1.1) rfl rfl q539 dX2_beam_8 ?_
        refine z_iload_n (i := 3) C dX2_beam_11 rfl rfl ?_
        refine z_lconst (v := 0) C dX2_beam_12 (by decide) ?_
        refine zj_last C zup_s (zixI rfl (show t < 256 by omega)) (by decide) dX2_beam_13 ?_
        refine z_heap zup_zup ?_
        refine z_iinc (v := nI (t + 1)) C dX2_beam_14 rfl (ziinc t) (Nat.le_of_ble_eq_true rfl) rfl ?_
        refine z_goto (tgt := 2) C dX2_beam_17 (by decide) ?_
        exact z_convG (ih2 (t + 1) (vp_updL w1 t 0) (by omega) (fun j hj => by unfold vp_updL; split; rfl; exact h2 j (by omega)) (by omega)) (And.intro (rfl) (And.intro (rfl) (And.intro (rfl) (And.intro (rfl) trivial)))) (Nat.le_of_ble_eq_true rfl) (Nat.le_of_ble_eq_true rfl)
  refine z_heap (zup_self t8.1).symm ?_
  exact z_convG (lp2 (l + 2) 0 w0 (by omega) (fun j hj => absurd hj (Nat.not_lt_zero _)) (by omega)) (And.intro (rfl) (And.intro (rfl) (And.intro (rfl) (And.intro (rfl) trivial)))) (Nat.le_of_ble_eq_true rfl) (Nat.le_of_ble_eq_true rfl)
