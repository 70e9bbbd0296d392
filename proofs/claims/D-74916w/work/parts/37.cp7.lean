/-! component: what a microphone hears, the recording -/
theorem znw {G G1 : zH} {p a : Nat} {e x : zE} (hG1 : G1 = zup G p e) (hq : G p = none) (h : G a = some x) : G1 a = some x := by rw [hG1]; exact (zup_n (zne_of hq h)).trans h
theorem zem_eq {S w : Nat → Int32} {i n4 j : Nat} (e : S (28 + 21 * i + 4) = nI n4) (h1 : 1 ≤ n4) (h2 : n4 ≤ 16) (hw : ∀ j, j < n4 → w j = S (28 + 21 * i + (5 + j))) : w (j % n4) * S (28 + 21 * i + 3) = zem S i j := by
  unfold zem
  rw [e, nI_clamp (by omega), hw _ (Nat.mod_lt j (by omega))]
theorem zhr_0 {S d : Nat → Int32} {s n : Nat} {r : Int32} (h : zlc (fun j => nI j * S 0 + d j) (nI n * S 0) 256 = 0) : zhr S d s r n = 0 := by unfold zhr; rw [h]
theorem zhr_1 {S d : Nat → Int32} {s n k : Nat} {r : Int32} (h : zlc (fun j => nI j * S 0 + d j) (nI n * S 0) 256 = k + 1) : zhr S d s r n = zam S (zem S s k) (d k) r := by unfold zhr; rw [h]
theorem np_X2_placeOf : znp yX2_placeOf 1 := ⟨by decide +kernel, by decide +kernel, by decide +kernel⟩
theorem np_X6_emitted : znp yX6_emitted 1 := ⟨by decide +kernel, by decide +kernel, by decide +kernel⟩
theorem np_X2_amount : znp yX2_amount 3 := ⟨by decide +kernel, by decide +kernel, by decide +kernel⟩
set_option maxHeartbeats 4000000 in
set_option maxRecDepth 100000 in
theorem ct_X2_hear (D : zG) (B : Nat) {G : zH} (a : Nat) (lv ls lm fo pa su rq : Nat) (S : Nat → Int32) (m s k i q n4 : Nat) (va ua : Nat → Nat) (w f0 : Nat → Int32) (r : Int32) (hT : G a = some (.inr (1, zTf lv ls lm fo pa su rq S))) (h1 : G m = some (zMo S k q)) (hs : G s = some (zsE S va ua i)) (hu : G (ua i) = some (.inl (0, 16, .inl w))) (hv : G (va (zsv S i)) = some (zvE S (zsv S i))) (hr : G q = some (.inl (0, 256, .inl f0))) (e4 : S (28 + 21 * i + 4) = nI n4) (n41 : 1 ≤ n4) (n42 : n4 ≤ 16) (hw : ∀ j, j < n4 → w j = S (28 + 21 * i + (5 + j))) (hk : k < 8) (hi : i < 6) (h2 : S 2 = 0 ∨ S 2 = 1) (g : zGe S) : Ct D B yX2_hear (ws_ yX2_hear cX2_hear 7 none) (zrc 5 1 3) [.ref a, .ref m, .ref s, .int r] G (fun r9 G9 => r9 = none ∧ ∃ fx : Nat → Int32, (∀ n, n < 256 → fx n = f0 n + zhr S (zsd S k i r) i r n) ∧ G9 = zup G q (.inl (0, 256, .inl fx))) zno := by
  refine ct_intro (by decide +kernel) (Nat.le_of_ble_eq_true rfl) ?_
  intro X C
  refine z_aload_n (i := 0) C dX2_hear_0 rfl rfl ?_
  refine z_aload_n (i := 2) C dX2_hear_1 rfl rfl ?_
  refine z_callVn C (hT) rfl (ct_X2_placeOf D B a s (ua i) (va (zsv S i)) _ _ _ _ hs) q654 q656 qs2 q84 q657 np_X2_placeOf (zr_ok rfl rfl) rfl rfl (Nat.le_of_ble_eq_true rfl) (⟨Nat.le_of_ble_eq_true rfl, Nat.le_of_ble_eq_true rfl⟩) dX2_hear_2 ?_
  intro v9 G9 h9
  obtain ⟨p, rfl, hq, rfl⟩ := h9
  obtain ⟨G1, hG1⟩ : ∃ G1, G1 = zup G p (.inr (7, [.ref (va (zsv S i)), .int (S (28 + 21 * i + 1)), .int (S (28 + 21 * i + 2))])) := ⟨_, rfl⟩
  have hT1 := znw hG1 hq hT
  have h11 := znw hG1 hq h1
  have hs1 := znw hG1 hq hs
  have hu1 := znw hG1 hq hu
  have hv1 := znw hG1 hq hv
  have hr1 := znw hG1 hq hr
  have hp1 : G1 p = some (.inr (7, [.ref (va (zsv S i)), .int (S (28 + 21 * i + 1)), .int (S (28 + 21 * i + 2))])) := by rw [hG1]; exact zup_s
  have nuq : ¬ ua i = q := fun z => by rw [z, hr] at hu; exact absurd (zinl hu) (by decide)
  have hpq : ¬ p = q := fun z => by rw [z, hr] at hq; cases hq
  obtain ⟨sn, sn1, sn2, sn0⟩ := g.snd
  have hmk : (fun j => nI j * S 0 + zdr S k (some (zsv S i)) (S (28 + 21 * i + 1)) (S (16 + 3 * zsv S i + 2)) (S (28 + 21 * i + 2)) r (nI j)) = (fun j => nI j * S 0 + zsd S k i r j) := funext fun j => by rw [zdr_sd]
  refine z_heap hG1.symm ?_
  refine z_astore C dX2_hear_5 (Nat.le_of_ble_eq_true rfl) rfl ?_
  refine z_iconst (v := (-1)) C dX2_hear_7 (by decide) ?_
  refine z_istore C dX2_hear_8 (Nat.le_of_ble_eq_true rfl) rfl ?_
  refine z_iconst (v := 0) C dX2_hear_10 (by decide) ?_
  refine z_istore C dX2_hear_11 (Nat.le_of_ble_eq_true rfl) rfl ?_
  have lp13 : ∀ (μ : Nat) (n : Nat) (fx : Nat → Int32) (c : Nat) (g1 : n ≤ 256) (g2 : c ≤ 256) (g3 : c = 0 ∨ ∀ t, n ≤ t → t < 256 → (fun j => nI j * S 0 + zsd S k i r j) (c - 1) ≤ nI t * S 0) (g4 : ∀ j, j < n → fx j = f0 j + zhr S (zsd S k i r) i r j) (g5 : ∀ j, n ≤ j → fx j = f0 j), 256 - n < μ → Z X 13 [some (.ref a), some (.ref m), some (.ref s), some (.int r), some (.ref p), some (.int (ztm c)), some (.int (nI n))] [] (zup G1 q (.inl (0, 256, .inl fx))) 1 3 := by
    intro μ
    induction μ with
    | zero => intro n fx c g1 g2 g3 g4 g5 hμ; exact absurd hμ (Nat.not_lt_zero _)
    | succ μ ih13 =>
      intro n fx c g1 g2 g3 g4 g5 hμ
      have hT2 : (zup G1 q (.inl (0, 256, .inl fx))) a = _ := (zup_n (znk hT1 hr1)).trans hT1
      have h12 : (zup G1 q (.inl (0, 256, .inl fx))) m = _ := (zup_n (znk h11 hr1)).trans h11
      have hs2 : (zup G1 q (.inl (0, 256, .inl fx))) s = _ := (zup_n (znk hs1 hr1)).trans hs1
      have hv2 : (zup G1 q (.inl (0, 256, .inl fx))) (va (zsv S i)) = _ := (zup_n (znk hv1 hr1)).trans hv1
      have hp2 : (zup G1 q (.inl (0, 256, .inl fx))) p = _ := (zup_n hpq).trans hp1
      have hu2 : (zup G1 q (.inl (0, 256, .inl fx))) (ua i) = _ := (zup_n nuq).trans hu1
      have hpl2 : zPl (zup G1 q (.inl (0, 256, .inl fx))) p S (some (zsv S i)) (S (28 + 21 * i + 1)) (S (16 + 3 * zsv S i + 2)) (S (28 + 21 * i + 2)) := Or.inr ⟨_, _, rfl, hp2, hv2, rfl⟩
      refine z_iload C dX2_hear_13 rfl ?_
      refine z_sipush (v := 256) C dX2_hear_15 (by decide) ?_
      refine z_icmp_ge (tgt := 77) C dX2_hear_18 (by decide) (fun c_18 => ?_) (fun c_18 => ?_)
      · have hend_18 : n = 256 := by have := zge (b := 256) c_18 (by omega) (by omega); omega
        refine z_heap (congrArg (fun z => zup z q _) hG1) ?_
        refine z_sub (G' := zup G q (.inl (0, 256, .inl fx))) (fun b x hb => ?_) ?_
        · unfold zup at hb ⊢
          by_cases b1 : b = q
          · rw [if_pos b1] at hb ⊢; exact hb
          · rw [if_neg b1] at hb ⊢
            by_cases b2 : b = p
            · rw [b2, hq] at hb; cases hb
            · rw [if_neg b2]; exact hb
        exact z_return C rfl dX2_hear_77 (⟨rfl, fx, fun j hj => g4 j (by omega), rfl⟩) (Nat.le_of_ble_eq_true rfl) (by decide)
      · have hlt_18 : n < 256 := znge (b := 256) c_18 (by omega) (by omega)
        refine z_aload_n (i := 0) C dX2_hear_21 rfl rfl ?_
        refine z_aload_n (i := 1) C dX2_hear_22 rfl rfl ?_
        refine z_aload C dX2_hear_23 rfl ?_
        refine z_iload C dX2_hear_25 rfl ?_
        refine z_iload_n (i := 3) C dX2_hear_27 rfl rfl ?_
        refine z_iload C dX2_hear_28 rfl ?_
        refine z_callVe C (hT2) rfl (ct_X2_heard D B a lv ls lm fo pa su rq S m k q p (some (zsv S i)) (S (28 + 21 * i + 1)) (S (16 + 3 * zsv S i + 2)) (S (28 + 21 * i + 2)) (nI n) r c hT2 h12 hpl2 (fun j hj => zdrok_sd g hk hi hj r) (by rw [hmk]; exact zsd_mono g hk hi r) g2 (by rw [hmk]; exact g3.imp id (fun q9 => q9 n (Nat.le_refl _) hlt_18))) q674 q675 q676 q84 q677 np_X2_heard (zr_ok rfl rfl) rfl rfl (Nat.le_of_ble_eq_true rfl) (⟨Nat.le_of_ble_eq_true rfl, Nat.le_of_ble_eq_true rfl⟩) dX2_hear_30 ?_
        rw [hmk]
        obtain ⟨c2, hc2⟩ : ∃ c2, zlc (fun j => nI j * S 0 + zsd S k i r j) (nI n * S 0) 256 = c2 := ⟨_, rfl⟩
        rw [hc2]
        have g2' : c2 ≤ 256 := by rw [← hc2]; exact zlc_le _ _ _
        have g3' : c2 = 0 ∨ ∀ t, n + 1 ≤ t → t < 256 → (fun j => nI j * S 0 + zsd S k i r j) (c2 - 1) ≤ nI t * S 0 := by
          rcases zlc_spec (fun j => nI j * S 0 + zsd S k i r j) (nI n * S 0) 256 with e | e
          · left; rw [← hc2]; exact e
          · right
            intro t t1 t2
            rw [hc2] at e
            exact Int32.le_trans e (zsn_of sn0 sn2 n t (by omega) t2)
        refine z_istore C dX2_hear_33 (Nat.le_of_ble_eq_true rfl) rfl ?_
        refine z_iload C dX2_hear_35 rfl ?_
        refine z_iconst (v := (-1)) C dX2_hear_37 (by decide) ?_
        refine z_icmp_eq (tgt := 71) C dX2_hear_38 (by decide) (fun c_38 => ?_) (fun c_38 => ?_)
        · have hc0 : c2 = 0 := (ztm_m1 (by omega)).mp c_38
          have hz : zhr S (zsd S k i r) i r n = 0 := zhr_0 (hc2.trans hc0)
          refine z_iinc (v := nI (n + 1)) C dX2_hear_71 rfl (ziinc n) (Nat.le_of_ble_eq_true rfl) rfl ?_
          refine z_goto (tgt := 13) C dX2_hear_74 (by decide) ?_
          exact z_convG (ih13 (n + 1) _ c2 (by omega) g2' g3' (fun j9 h9 => by by_cases e9 : j9 = n; (· subst e9; rw [hz, Int32.add_zero]; exact g5 _ (Nat.le_refl _)); (· exact g4 j9 (by omega))) (fun j9 h9 => g5 j9 (by omega)) (by omega)) (And.intro rfl (And.intro rfl (And.intro rfl (And.intro rfl (And.intro rfl (And.intro rfl (And.intro rfl trivial))))))) (Nat.le_of_ble_eq_true rfl) (Nat.le_of_ble_eq_true rfl)
        · have hc0 : ¬ c2 = 0 := fun z => c_38 ((ztm_m1 (by omega)).mpr z)
          obtain ⟨j, rfl⟩ : ∃ j, c2 = j + 1 := ⟨c2 - 1, by omega⟩
          have hz := zhr_1 (s := i) (r := r) hc2
          obtain ⟨e, e1, e2⟩ := zsd_nat S k i r j
          refine z_aload_n (i := 1) C dX2_hear_41 rfl rfl ?_
          refine z_getfN (ci := 6) (k := 4) C (h12) rfl rfl q1032 dX2_hear_42 ?_
          refine z_iload C dX2_hear_45 rfl ?_
          refine z_dup2_11 C dX2_hear_47 rfl rfl ?_
          refine zj_iald C zup_s (zixI rfl hlt_18) (by decide) dX2_hear_48 ?_
          refine z_aload_n (i := 0) C dX2_hear_49 rfl rfl ?_
          refine z_aload_n (i := 2) C dX2_hear_50 rfl rfl ?_
          refine z_iload C dX2_hear_51 rfl ?_
          refine z_callVe C (hs2) rfl (ct_X6_emitted D B s (ua i) n4 (va (zsv S i)) j _ _ _ w (by rw [← e4]; exact hs2) hu2 n41 n42 (by omega)) q742 q743 q744 q111 q745 np_X6_emitted (zr_ok rfl rfl) rfl rfl (Nat.le_of_ble_eq_true rfl) (⟨Nat.le_of_ble_eq_true rfl, Nat.le_of_ble_eq_true rfl⟩) dX2_hear_53 ?_
          refine z_seti (zem_eq e4 n41 n42 hw) ?_
          refine z_aload_n (i := 1) C dX2_hear_56 rfl rfl ?_
          refine z_aload C dX2_hear_57 rfl ?_
          refine z_iload C dX2_hear_59 rfl ?_
          refine z_iload_n (i := 3) C dX2_hear_61 rfl rfl ?_
          refine z_callVe C (h12) rfl (ct_X7_distance D B m k q S (nI j) r p (some (zsv S i)) (S (28 + 21 * i + 1)) (S (16 + 3 * zsv S i + 2)) (S (28 + 21 * i + 2)) h12 hpl2 (zdrok_sd g hk hi (by omega) r)) q682 q683 q684 q113 q685 np_X7_distance (zr_ok rfl rfl) rfl rfl (Nat.le_of_ble_eq_true rfl) (⟨Nat.le_of_ble_eq_true rfl, Nat.le_of_ble_eq_true rfl⟩) dX2_hear_62 ?_
          refine z_seti (y := nI e) ((zdr_sd S k i r j).trans e2) ?_
          refine z_iload_n (i := 3) C dX2_hear_65 rfl rfl ?_
          refine z_callVe C (hT2) rfl (ct_X2_amount D B a lv ls lm fo pa su rq S (zem S i j) r e hT2 e1 h2) q746 q747 q748 q84 q749 np_X2_amount (zr_ok rfl rfl) rfl rfl (Nat.le_of_ble_eq_true rfl) (⟨Nat.le_of_ble_eq_true rfl, Nat.le_of_ble_eq_true rfl⟩) dX2_hear_66 ?_
          rw [← e2, ← hz]
          refine z_iadd C dX2_hear_69 ?_
          refine zj_iast C zup_s (zixI rfl hlt_18) (by decide) dX2_hear_70 ?_
          refine z_heap zup_zup ?_
          refine z_iinc (v := nI (n + 1)) C dX2_hear_71 rfl (ziinc n) (Nat.le_of_ble_eq_true rfl) rfl ?_
          refine z_goto (tgt := 13) C dX2_hear_74 (by decide) ?_
          exact z_convG (ih13 (n + 1) _ (j + 1) (by omega) g2' g3' (fun j9 h9 => by by_cases e9 : j9 = n; (· subst e9; exact (if_pos rfl).trans (by rw [g5 _ (Nat.le_refl _)])); (· exact (if_neg e9).trans (g4 j9 (by omega)))) (fun j9 h9 => (if_neg (by omega)).trans (g5 j9 (by omega))) (by omega)) (And.intro rfl (And.intro rfl (And.intro rfl (And.intro rfl (And.intro rfl (And.intro rfl (And.intro rfl trivial))))))) (Nat.le_of_ble_eq_true rfl) (Nat.le_of_ble_eq_true rfl)
  refine z_heap (zup_self hr1).symm ?_
  exact z_convG (lp13 257 0 f0 0 (by omega) (by omega) (Or.inl rfl) (fun j hj => absurd hj (Nat.not_lt_zero _)) (fun j _ => rfl) (by omega)) (And.intro (rfl) (And.intro (rfl) (And.intro (rfl) (And.intro (rfl) (And.intro (rfl) (And.intro (rfl) (And.intro (rfl) trivial))))))) (Nat.le_of_ble_eq_true rfl) (Nat.le_of_ble_eq_true rfl)
