/-! component: adding to a track, copies of sources and microphones, a new track -/
theorem zkee.putn {G G' : zH} {χ χ' : Nat → Nat} {P : Nat → Prop} {b : Nat} {e : zE} (hb : G b = none) (h : zkee P G χ G' χ') : zkee P G χ (zup G' b e) χ' := fun a x h1 hp => by
  obtain ⟨q1, q2⟩ := h a x h1 hp
  exact ⟨(zup_n (zne_of hb h1)).trans q1, q2⟩
theorem zLi.hl {G : zH} {χ : Nat → Nat} {c j a n : Nat} {f : Nat → Nat} (h : zLi G χ c j a n f) : ∃ (mc : Int32) (e cap : Nat) (g : Nat → Option Nat), zli G a n f mc e cap g ∧ χ a = c + j ∧ χ e = c + 3 + j := h
theorem zLi.f {G : zH} {χ : Nat → Nat} {c j a n : Nat} {f f' : Nat → Nat} (h : zLi G χ c j a n f) (hf : ∀ i, i < n → f' i = f i) : zLi G χ c j a n f' := by
  obtain ⟨mc, e, cap, g, ⟨h1, h2, h3, h4, h5⟩, h6⟩ := h
  exact ⟨mc, e, cap, g, ⟨h1, h2, h3, fun i hi => by rw [hf i hi]; exact h4 i hi, h5⟩, h6⟩
/-- all that is new and two cells: a list of no elements -/
theorem zLi_new {G : zH} {χ : Nat → Nat} {c j l e k : Nat} (hl : G l = none) (he : G e = none) (n : ¬ l = e) (hk : 1 ≤ k ∧ k ≤ 16) :
    zkee (fun _ => True) G χ (zup (zup G e (.inl (5, k, .inr (.inr (.inr (.inr fun _ => none)))))) l (.inr (13, [.int 0, .ref e, .int 0]))) (zcol (zcol χ e (c + 3 + j)) l (c + j)) ∧
    ∀ f, zLi (zup (zup G e (.inl (5, k, .inr (.inr (.inr (.inr fun _ => none)))))) l (.inr (13, [.int 0, .ref e, .int 0]))) (zcol (zcol χ e (c + 3 + j)) l (c + j)) c j l 0 f := by
  refine ⟨(zkee.new he).trans (zkee.new ((zup_n n).trans hl)), fun f => ⟨0, e, k, fun _ => none, ⟨zup_s, (zup_n (fun z => n z.symm)).trans zup_s, ⟨Nat.zero_le _, hk⟩, fun i hi => absurd hi (Nat.not_lt_zero _), fun _ _ => rfl⟩, if_pos rfl, (if_neg (fun z => n z.symm)).trans (if_pos rfl)⟩⟩
theorem zTr_init {G : zH} {χ : Nat → Nat} {c a lv ls lm fo pa su : Nat} {va sa ua ma ra : Nat → Nat} {S : Nat → Int32} (h : zo G χ c a (.inr (1, [.ref lv, .ref ls, .ref lm, .int 340, .int 0, .int 0, .long 1, .int 0, .int 0, .ref fo, .int 0, .ref pa, .ref su]))) (h1 : ∀ f, zLi G χ c 1 lv 0 f) (h2 : ∀ f, zLi G χ c 2 ls 0 f) (h3 : ∀ f, zLi G χ c 3 lm 0 f) (h4 : zo G χ 1 fo (.inr (2, [.int 0, .int 100, .int 0]))) (h5 : zRw G χ c pa su) (hS : ∀ j, j < 2234 → S j = zini j) : zTr G χ c a lv ls lm fo pa su va sa ua ma ra 1 S := by
  have e : ∀ j, j < 2234 → j ≠ 0 → j ≠ 3 → j ≠ 10 → j ≠ 13 → S j = 0 := fun j a1 a2 a3 a4 a5 => by
    rw [hS j a1]; unfold zini; rw [if_neg a2, if_neg (by omega), if_neg a5]
  have z : ∀ j, j < 2234 → j ≠ 0 → j ≠ 3 → j ≠ 10 → j ≠ 13 → zct S j = 0 := fun j a1 a2 a3 a4 a5 => by
    unfold zct; rw [e j a1 a2 a3 a4 a5]; rfl
  refine ⟨?_, ⟨by rw [hS 3 (by decide)]; rfl, by decide⟩, ?_, ?_, ?_, ?_, h5⟩
  · unfold zTf
    rw [hS 0 (by decide), e 1 (by decide) (by decide) (by decide) (by decide) (by decide), e 2 (by decide) (by decide) (by decide) (by decide) (by decide), e 4 (by decide) (by decide) (by decide) (by decide) (by decide), e 9 (by decide) (by decide) (by decide) (by decide) (by decide), e 5 (by decide) (by decide) (by decide) (by decide) (by decide)]
    exact h
  · rw [z 6 (by decide) (by decide) (by decide) (by decide) (by decide)]
    exact ⟨h1 va, fun i hi => absurd hi (Nat.not_lt_zero _)⟩
  · rw [z 7 (by decide) (by decide) (by decide) (by decide) (by decide)]
    exact ⟨h2 sa, fun i hi => absurd hi (Nat.not_lt_zero _)⟩
  · rw [z 8 (by decide) (by decide) (by decide) (by decide) (by decide)]
    exact ⟨h3 ma, fun i hi => absurd hi (Nat.not_lt_zero _)⟩
  · have e9 : zfE S va = .inr (2, [.int 0, .int 100, .int 0]) := by
      unfold zfE
      rw [hS 10 (by decide), e 12 (by decide) (by decide) (by decide) (by decide) (by decide), hS 13 (by decide), e 14 (by decide) (by decide) (by decide) (by decide) (by decide)]
      rfl
    rw [e9]
    exact h4
theorem np_X5_init : znp yX5_init 3 := ⟨by decide +kernel, by decide +kernel, by decide +kernel⟩
theorem np_J2_add : znp yJ2_add 1 := ⟨by decide +kernel, by decide +kernel, by decide +kernel⟩
theorem np_J2_size : znp yJ2_size 0 := ⟨by decide +kernel, by decide +kernel, by decide +kernel⟩
set_option maxHeartbeats 4000000 in
set_option maxRecDepth 100000 in
theorem ct_X2_addVehicle (D : zG) (B : Nat) {G : zH} (χ : Nat → Nat) (c a lv ls lm fo pa su : Nat) (va sa ua ma ra : Nat → Nat) (rq : Nat) (S : Nat → Int32) (x s y : Int32) (n : Nat) (hR : zTr G χ c a lv ls lm fo pa su va sa ua ma ra rq S) (g : zGe S) (hc : 100 ≤ c) (hn : S 6 = nI n) (hn4 : n < 4) : Ct D B yX2_addVehicle (ws_ yX2_addVehicle cX2_addVehicle 4 (some .int)) (zrc 8 2 27) [.ref a, .int x, .int s, .int y] G (fun r9 G9 => r9 = some (.int (nI n)) ∧ ∃ (χ' va' : Nat → Nat), zkee (fun k => k ≠ c + 1 ∧ k ≠ c + 4) G χ G9 χ' ∧ zTr G9 χ' c a lv ls lm fo pa su va' sa ua ma ra rq (zaV S n x s y)) zno := by
  refine ct_intro (by decide +kernel) (Nat.le_of_ble_eq_true rfl) ?_
  intro X C
  refine z_aload_n (i := 0) C dX2_addVehicle_0 rfl rfl ?_
  refine z_getf (ci := 1) (k := 0) C (hR.1.1) rfl rfl q508 dX2_addVehicle_1 ?_
  refine z_new (ci := 4) C rfl q1113 q1114 q108 (Nat.le_of_ble_eq_true rfl) (Nat.le_of_ble_eq_true rfl) dX2_addVehicle_4 ?_
  intro v hv0 hb
  have ne := zne_of hv0 hR.1.1
  refine z_dup C dX2_addVehicle_7 rfl ?_
  refine z_iload_n (i := 1) C dX2_addVehicle_8 rfl rfl ?_
  refine z_iload_n (i := 2) C dX2_addVehicle_9 rfl rfl ?_
  refine z_iload_n (i := 3) C dX2_addVehicle_10 rfl rfl ?_
  refine z_callINe C (ct_X5_init D B v x s y zup_s) q1115 q1116 q108 q1117 rfl np_X5_init (zr_ok rfl rfl) rfl rfl (Nat.le_of_ble_eq_true rfl) (⟨Nat.le_of_ble_eq_true rfl, Nat.le_of_ble_eq_true rfl⟩) dX2_addVehicle_11 ?_
  refine z_heap zup_zup ?_
  have K1 : zkee (fun _ => True) G χ (zup G v (.inr (4, [.int x, .int s, .int y]))) (zcol χ v 1) := zkee.new hv0
  have hR1 := hR.kp g (fun _ _ => trivial) K1
  obtain ⟨G1, hG1⟩ : ∃ G1, G1 = zup G v (.inr (4, [.int x, .int s, .int y])) := ⟨_, rfl⟩
  have v1 : zo G1 (zcol χ v 1) 1 v (.inr (4, [.int x, .int s, .int y])) := by rw [hG1]; exact zo.newc hv0
  rw [← hG1] at K1 hR1
  refine z_heap hG1.symm ?_
  obtain ⟨⟨mc, e, cap, gg, l1, l2, l3⟩, l4⟩ : zVs G1 (zcol χ v 1) c lv n va S := by
    have := hR1.2.2.1
    rw [zct_of hn (by omega)] at this
    exact this
  refine z_callVn C (l1.1) rfl (ct_J2_add D B lv n va mc e cap gg 4 "TrackArray$Vehicle" TX5 3 v _ v1.1 l1 (fun i hi => ⟨_, (l4 i hi).1⟩) (by omega) (by decide) rfl q2435) q1045 q1046 q1047 q87 q1048 np_J2_add (zr_ok rfl rfl) rfl rfl (Nat.le_of_ble_eq_true rfl) (⟨Nat.le_of_ble_eq_true rfl, Nat.le_of_ble_eq_true rfl⟩) dX2_addVehicle_14 ?_
  intro v9 G9 h9
  obtain ⟨rfl, e', cap', g', he, hg', hG9⟩ := h9
  obtain ⟨a1, K2⟩ := zLi_add (mc' := 0) (m2 := mc + 1) l1 l2 l3 (Or.inl rfl) he hg'
  rw [← hG9] at a1 K2
  have t9 := (hR1.1.kp (show c ≠ c + 1 ∧ c ≠ c + 4 by omega) K2).1
  have hfin := hR1.addV g hc hn hn4 rfl K2 a1 (v1.kp (show 1 ≠ c + 1 ∧ 1 ≠ c + 4 by omega) K2)
  obtain ⟨mc9, e9, cap9, g9, ⟨l9, -⟩, -⟩ := a1
  refine z_pop C dX2_addVehicle_17 rfl ?_
  refine z_aload_n (i := 0) C dX2_addVehicle_18 rfl rfl ?_
  refine z_getf (ci := 1) (k := 0) C (t9) rfl rfl q508 dX2_addVehicle_19 ?_
  refine z_callVe C (l9) rfl (ct_J2_size D B lv (n + 1) _ _ l9) q1104 q931 q932 q87 q933 np_J2_size (zr_ok rfl rfl) rfl rfl (Nat.le_of_ble_eq_true rfl) (⟨Nat.le_of_ble_eq_true rfl, Nat.le_of_ble_eq_true rfl⟩) dX2_addVehicle_22 ?_
  refine z_iconst (v := 1) C dX2_addVehicle_25 (by decide) ?_
  refine z_isub C dX2_addVehicle_26 ?_
  refine z_seti (y := nI n) (pk_sub (b := 1) (by omega)) ?_
  exact z_ireturn C rfl (rfl) dX2_addVehicle_27 (⟨rfl, _, _, (K1.mono (fun _ _ => trivial)).trans K2, hfin⟩) (Nat.le_of_ble_eq_true rfl) (Nat.le_of_ble_eq_true rfl)
theorem np_X7_init : znp yX7_init 4 := ⟨by decide +kernel, by decide +kernel, by decide +kernel⟩
set_option maxHeartbeats 4000000 in
set_option maxRecDepth 100000 in
theorem ct_X2_addMicrophone (D : zG) (B : Nat) {G : zH} (χ : Nat → Nat) (c a lv ls lm fo pa su : Nat) (va sa ua ma ra : Nat → Nat) (rq : Nat) (S : Nat → Int32) (x y z w : Int32) (n : Nat) (hR : zTr G χ c a lv ls lm fo pa su va sa ua ma ra rq S) (g : zGe S) (hc : 100 ≤ c) (hn : S 8 = nI n) (hn8 : n < 8) (h0 : ∀ j, j < 256 → S (186 + 256 * n + j) = 0) : Ct D B yX2_addMicrophone (ws_ yX2_addMicrophone cX2_addMicrophone 5 (some .int)) (zrc 8 3 285) [.ref a, .int x, .int y, .int z, .int w] G (fun r9 G9 => r9 = some (.int (nI n)) ∧ ∃ (χ' ma' ra' : Nat → Nat), zkee (fun k => k ≠ c + 3 ∧ k ≠ c + 6) G χ G9 χ' ∧ zTr G9 χ' c a lv ls lm fo pa su va sa ua ma' ra' rq (zaM S n x y z w)) zno := by
  refine ct_intro (by decide +kernel) (Nat.le_of_ble_eq_true rfl) ?_
  intro X C
  refine z_aload_n (i := 0) C dX2_addMicrophone_0 rfl rfl ?_
  refine z_getf (ci := 1) (k := 2) C (hR.1.1) rfl rfl q514 dX2_addMicrophone_1 ?_
  refine z_new (ci := 6) C rfl q648 q1018 q113 (Nat.le_of_ble_eq_true rfl) (Nat.le_of_ble_eq_true rfl) dX2_addMicrophone_4 ?_
  intro v hv0 hb
  refine z_dup C dX2_addMicrophone_7 rfl ?_
  refine z_iload_n (i := 1) C dX2_addMicrophone_8 rfl rfl ?_
  refine z_iload_n (i := 2) C dX2_addMicrophone_9 rfl rfl ?_
  refine z_iload_n (i := 3) C dX2_addMicrophone_10 rfl rfl ?_
  refine z_iload C dX2_addMicrophone_11 rfl ?_
  refine z_callIn C (ct_X7_init D B v x y z w zup_s) q1019 q1020 q113 q1021 rfl np_X7_init (zr_ok rfl rfl) rfl rfl (Nat.le_of_ble_eq_true rfl) (⟨Nat.le_of_ble_eq_true rfl, Nat.le_of_ble_eq_true rfl⟩) dX2_addMicrophone_13 ?_
  intro v9 G9 h9
  obtain ⟨rfl, r, hr, rfl⟩ := h9
  obtain ⟨r1, r2⟩ := zup_no hr
  refine z_heap (zup_aba (fun z => r1 z.symm)) ?_
  have K1 : zkee (fun _ => True) G χ (zup (zup G r (.inl (0, 256, .inl fun _ => 0))) v (.inr (6, [.int x, .int y, .int z, .int w, .ref r]))) (zcol (zcol χ r (c + 50 + n)) v (c + 40 + n)) := (zkee.new r2).trans (zkee.new ((zup_n (fun z => r1 z.symm)).trans hv0))
  have hR1 := hR.kp g (fun _ _ => trivial) K1
  obtain ⟨G1, hG1⟩ : ∃ G1, G1 = zup (zup G r (.inl (0, 256, .inl fun _ => 0))) v (.inr (6, [.int x, .int y, .int z, .int w, .ref r])) := ⟨_, rfl⟩
  have v1 : zo G1 (zcol (zcol χ r (c + 50 + n)) v (c + 40 + n)) (c + 40 + n) v (.inr (6, [.int x, .int y, .int z, .int w, .ref r])) := by rw [hG1]; exact ⟨zup_s, if_pos rfl⟩
  have v2 : zo G1 (zcol (zcol χ r (c + 50 + n)) v (c + 40 + n)) (c + 50 + n) r (.inl (0, 256, .inl fun _ => 0)) := by rw [hG1]; exact ⟨(zup_n r1).trans zup_s, (if_neg r1).trans (if_pos rfl)⟩
  rw [← hG1] at K1 hR1
  refine z_heap hG1.symm ?_
  obtain ⟨⟨mc, e, cap, gg, l1, l2, l3⟩, l4⟩ : zMs G1 (zcol (zcol χ r (c + 50 + n)) v (c + 40 + n)) c lm n ma ra S := by
    have := hR1.2.2.2.2.1
    rw [zct_of hn (by omega)] at this
    exact this
  refine z_callVn C (l1.1) rfl (ct_J2_add D B lm n ma mc e cap gg 6 "TrackArray$Microphone" TX7 5 v _ v1.1 l1 (fun i hi => ⟨_, (l4 i hi).1.1⟩) (by omega) (by decide) rfl q2439) q1045 q1046 q1047 q87 q1048 np_J2_add (zr_ok rfl rfl) rfl rfl (Nat.le_of_ble_eq_true rfl) (⟨Nat.le_of_ble_eq_true rfl, Nat.le_of_ble_eq_true rfl⟩) dX2_addMicrophone_16 ?_
  intro v9 G9 h9
  obtain ⟨rfl, e', cap', g', he, hg', hG9⟩ := h9
  obtain ⟨a1, K2⟩ := zLi_add (mc' := 0) (m2 := mc + 1) l1 l2 l3 (Or.inr (Or.inr rfl)) he hg'
  rw [← hG9] at a1 K2
  have t9 := (hR1.1.kp (show c ≠ c + 3 ∧ c ≠ c + 6 by omega) K2).1
  have hfin := hR1.addM g hc hn hn8 rfl K2 a1 (v1.kp (show c + 40 + n ≠ c + 3 ∧ c + 40 + n ≠ c + 6 by omega) K2) (v2.kp (show c + 50 + n ≠ c + 3 ∧ c + 50 + n ≠ c + 6 by omega) K2) h0
  obtain ⟨mc9, e9, cap9, g9, ⟨l9, -⟩, -⟩ := a1
  refine z_pop C dX2_addMicrophone_19 rfl ?_
  refine z_aload_n (i := 0) C dX2_addMicrophone_20 rfl rfl ?_
  refine z_getf (ci := 1) (k := 2) C (t9) rfl rfl q514 dX2_addMicrophone_21 ?_
  refine z_callVe C (l9) rfl (ct_J2_size D B lm (n + 1) _ _ l9) q1104 q931 q932 q87 q933 np_J2_size (zr_ok rfl rfl) rfl rfl (Nat.le_of_ble_eq_true rfl) (⟨Nat.le_of_ble_eq_true rfl, Nat.le_of_ble_eq_true rfl⟩) dX2_addMicrophone_24 ?_
  refine z_iconst (v := 1) C dX2_addMicrophone_27 (by decide) ?_
  refine z_isub C dX2_addMicrophone_28 ?_
  refine z_seti (y := nI n) (pk_sub (b := 1) (by omega)) ?_
  exact z_ireturn C rfl (rfl) dX2_addMicrophone_29 (⟨rfl, _, _, _, (K1.mono (fun _ _ => trivial)).trans K2, hfin⟩) (Nat.le_of_ble_eq_true rfl) (Nat.le_of_ble_eq_true rfl)
theorem np_J2_get : znp yJ2_get 1 := ⟨by decide +kernel, by decide +kernel, by decide +kernel⟩
theorem np_X6_init : znp yX6_init 4 := ⟨by decide +kernel, by decide +kernel, by decide +kernel⟩
theorem np_X6_add : znp yX6_add 1 := ⟨by decide +kernel, by decide +kernel, by decide +kernel⟩
set_option maxHeartbeats 4000000 in
set_option maxRecDepth 100000 in
theorem ct_X2_addSource (D : zG) (B : Nat) {G : zH} (χ : Nat → Nat) (c a lv ls lm fo pa su : Nat) (va sa ua ma ra : Nat → Nat) (rq : Nat) (S : Nat → Int32) (v n : Nat) (o z st x : Int32) (hR : zTr G χ c a lv ls lm fo pa su va sa ua ma ra rq S) (g : zGe S) (hc : 100 ≤ c) (hn : S 7 = nI n) (hn6 : n < 6) (hv : v < zct S 6) (hv4 : v < 100) : Ct D B yX2_addSource (ws_ yX2_addSource cX2_addSource 8 (some .int)) (zrc 8 3 46) [.ref a, .int (nI v), .int o, .int z, .int st, .int x] G (fun r9 G9 => r9 = some (.int (nI n)) ∧ ∃ (χ' sa' ua' : Nat → Nat), zkee (fun k => k ≠ c + 2 ∧ k ≠ c + 5) G χ G9 χ' ∧ zTr G9 χ' c a lv ls lm fo pa su va sa' ua' ma ra rq (zaX (zaS S n (nI v) o z st) n 0 x)) zno := by
  refine ct_intro (by decide +kernel) (Nat.le_of_ble_eq_true rfl) ?_
  intro X C
  refine z_new (ci := 5) C rfl q649 q1137 q111 (Nat.le_of_ble_eq_true rfl) (Nat.le_of_ble_eq_true rfl) dX2_addSource_0 ?_
  intro s1 hs0 hb
  have t1 := (zup_n (e := .inr (5, zfs0 5)) (zne_of hs0 hR.1.1)).trans hR.1.1
  obtain ⟨⟨mcv, ev, capv, gv, lv1, lv2, lv3⟩, lv4⟩ := hR.2.2.1
  have lvZ : zli (zup G s1 (.inr (5, zfs0 5))) lv (zct S 6) va mcv ev capv gv := ⟨(zup_n (zne_of hs0 lv1.1)).trans lv1.1, (zup_n (zne_of hs0 lv1.2.1)).trans lv1.2.1, lv1.2.2⟩
  have vv1 := (zup_n (e := .inr (5, zfs0 5)) (zne_of hs0 (lv4 v hv).1)).trans (lv4 v hv).1
  refine z_dup C dX2_addSource_3 rfl ?_
  refine z_aload_n (i := 0) C dX2_addSource_4 rfl rfl ?_
  refine z_getf (ci := 1) (k := 0) C (t1) rfl rfl q508 dX2_addSource_5 ?_
  refine z_iload_n (i := 1) C dX2_addSource_8 rfl rfl ?_
  refine z_callVe C (lvZ.1) rfl (ct_J2_get D B lv (zct S 6) va mcv ev capv gv v lvZ hv) q1138 q1139 q1140 q87 q1141 np_J2_get (zr_ok rfl rfl) rfl rfl (Nat.le_of_ble_eq_true rfl) (⟨Nat.le_of_ble_eq_true rfl, Nat.le_of_ble_eq_true rfl⟩) dX2_addSource_9 ?_
  refine z_castS (ci := 4) C (vv1) rfl q1113 dX2_addSource_12 ?_
  refine z_iload_n (i := 2) C dX2_addSource_15 rfl rfl ?_
  refine z_iload_n (i := 3) C dX2_addSource_16 rfl rfl ?_
  refine z_iload C dX2_addSource_17 rfl ?_
  refine z_callIn C (ct_X6_init D B s1 (va v) o z st zup_s) q1150 q1151 q111 q1152 rfl np_X6_init (zr_ok rfl rfl) rfl rfl (Nat.le_of_ble_eq_true rfl) (⟨Nat.le_of_ble_eq_true rfl, Nat.le_of_ble_eq_true rfl⟩) dX2_addSource_19 ?_
  intro v9 G9 h9
  obtain ⟨rfl, u, hu, rfl⟩ := h9
  obtain ⟨r1, r2⟩ := zup_no hu
  refine z_heap (zup_aba (fun z => r1 z.symm)) ?_
  obtain ⟨χ1, hχ1⟩ : ∃ χ1, χ1 = zcol (zcol χ u (c + 30 + n)) s1 (c + 20 + n) := ⟨_, rfl⟩
  have K1 : zkee (fun _ => True) G χ (zup (zup G u (.inl (0, 16, .inl fun _ => 0))) s1 (.inr (5, [.ref (va v), .int o, .int z, .int st, .ref u, .int 0]))) χ1 := by rw [hχ1]; exact (zkee.new r2).trans (zkee.new ((zup_n (fun z => r1 z.symm)).trans hs0))
  have hR1 := hR.kp g (fun _ _ => trivial) K1
  obtain ⟨G1, hG1⟩ : ∃ G1, G1 = zup (zup G u (.inl (0, 16, .inl fun _ => 0))) s1 (.inr (5, [.ref (va v), .int o, .int z, .int st, .ref u, .int 0])) := ⟨_, rfl⟩
  have v1 : zo G1 χ1 (c + 20 + n) s1 (.inr (5, [.ref (va v), .int o, .int z, .int st, .ref u, .int 0])) := by rw [hG1, hχ1]; exact ⟨zup_s, if_pos rfl⟩
  have v2 : zo G1 χ1 (c + 30 + n) u (.inl (0, 16, .inl fun _ => 0)) := by rw [hG1, hχ1]; exact ⟨(zup_n r1).trans zup_s, (if_neg r1).trans (if_pos rfl)⟩
  rw [← hG1] at K1 hR1
  refine z_heap hG1.symm ?_
  obtain ⟨⟨mc, e, cap, gg, l1, l2, l3⟩, l4⟩ : zSs G1 χ1 c ls n sa ua va S := by
    have := hR1.2.2.2.1
    rw [zct_of hn (by omega)] at this
    exact this
  refine z_astore C dX2_addSource_22 (Nat.le_of_ble_eq_true rfl) rfl ?_
  refine z_aload_n (i := 0) C dX2_addSource_24 rfl rfl ?_
  refine z_getf (ci := 1) (k := 1) C (hR1.1.1) rfl rfl q511 dX2_addSource_25 ?_
  refine z_aload C dX2_addSource_28 rfl ?_
  refine z_callVn C (l1.1) rfl (ct_J2_add D B ls n sa mc e cap gg 5 "TrackArray$Source" TX6 6 s1 _ v1.1 l1 (fun i hi => ⟨_, (l4 i hi).1.1⟩) (by omega) (by decide) rfl q2438) q1045 q1046 q1047 q87 q1048 np_J2_add (zr_ok rfl rfl) rfl rfl (Nat.le_of_ble_eq_true rfl) (⟨Nat.le_of_ble_eq_true rfl, Nat.le_of_ble_eq_true rfl⟩) dX2_addSource_30 ?_
  intro v9 G9 h9
  obtain ⟨rfl, e', cap', g', he, hg', rfl⟩ := h9
  obtain ⟨a1, K2⟩ := zLi_add (mc' := 0) (m2 := mc + 1) l1 l2 l3 (Or.inr (Or.inl rfl)) he hg'
  obtain ⟨G2, hG2⟩ : ∃ G2, G2 = zup (zup G1 e' (.inl (5, cap', .inr (.inr (.inr (.inr g')))))) ls (.inr (13, [.int (mc + 1), .ref e', .int (nI (n + 1))])) := ⟨_, rfl⟩
  rw [← hG2] at a1 K2
  refine z_heap hG2.symm ?_
  have w1 := v1.kp (show c + 20 + n ≠ c + 2 ∧ c + 20 + n ≠ c + 5 by omega) K2
  have w2 := v2.kp (show c + 30 + n ≠ c + 2 ∧ c + 30 + n ≠ c + 5 by omega) K2
  refine z_pop C dX2_addSource_33 rfl ?_
  refine z_aload C dX2_addSource_34 rfl ?_
  refine z_iload C dX2_addSource_36 rfl ?_
  refine z_callVe C (w1.1) rfl (ct_X6_add D B s1 u 0 (va v) x o z st _ w1.1 w2.1 (by decide)) q1178 q1179 q1180 q111 q1181 np_X6_add (zr_ok rfl rfl) rfl rfl (Nat.le_of_ble_eq_true rfl) (⟨Nat.le_of_ble_eq_true rfl, Nat.le_of_ble_eq_true rfl⟩) dX2_addSource_38 ?_
  obtain ⟨G3, hG3⟩ : ∃ G3, G3 = zup (zup G2 u (.inl (0, 16, .inl (upd (fun _ => 0) 0 x)))) s1 (.inr (5, [.ref (va v), .int o, .int z, .int st, .ref u, .int (nI 1)])) := ⟨_, rfl⟩
  have K3 : zkee (fun k => k ≠ c + 20 + n ∧ k ≠ c + 30 + n) G2 (zcol χ1 e' (c + 3 + 2)) G3 (zcol χ1 e' (c + 3 + 2)) := by
    rw [hG3]
    exact (zkee.put w2.2 (fun h => h.2 rfl)).trans (zkee.put w1.2 (fun h => h.1 rfl))
  have K02 : zkee (fun k => k ≠ c + 2 ∧ k ≠ c + 5) G χ G3 (zcol χ1 e' (c + 3 + 2)) := by
    rw [hG3]
    exact (((K1.mono (fun _ _ => trivial)).trans K2).putn r2).putn hs0
  have a3 := a1.kp (show c + 2 ≠ c + 20 + n ∧ c + 2 ≠ c + 30 + n by omega) (show c + 3 + 2 ≠ c + 20 + n ∧ c + 3 + 2 ≠ c + 30 + n by omega) K3
  have t9 := (hR.1.kp (show c ≠ c + 2 ∧ c ≠ c + 5 by omega) K02).1
  have hfin := hR.addS g hc hn hn6 (show v < 2 ^ 31 by omega) rfl K02 a3 (o := o) (z := z) (st := st) (x := x) (by rw [hG3]; exact ⟨zup_s, w1.2⟩) (by rw [hG3]; exact ⟨(zup_n (fun z => by have := w1.2; rw [← z, w2.2] at this; omega)).trans zup_s, w2.2⟩) (if_pos rfl)
  obtain ⟨mc9, e9, cap9, g9, ⟨l9, -⟩, -⟩ := a3
  refine z_heap hG3.symm ?_
  refine z_istore C dX2_addSource_41 (Nat.le_of_ble_eq_true rfl) rfl ?_
  refine z_aload_n (i := 0) C dX2_addSource_43 rfl rfl ?_
  refine z_getf (ci := 1) (k := 1) C (t9) rfl rfl q511 dX2_addSource_44 ?_
  refine z_callVe C (l9) rfl (ct_J2_size D B ls (n + 1) _ _ l9) q1104 q931 q932 q87 q933 np_J2_size (zr_ok rfl rfl) rfl rfl (Nat.le_of_ble_eq_true rfl) (⟨Nat.le_of_ble_eq_true rfl, Nat.le_of_ble_eq_true rfl⟩) dX2_addSource_47 ?_
  refine z_iload C dX2_addSource_50 rfl ?_
  refine z_isub C dX2_addSource_52 ?_
  refine z_seti (y := nI n) (pk_sub (b := 1) (by omega)) ?_
  exact z_ireturn C rfl (rfl) dX2_addSource_53 (⟨rfl, _, _, _, K02, hfin⟩) (Nat.le_of_ble_eq_true rfl) (Nat.le_of_ble_eq_true rfl)
set_option maxHeartbeats 4000000 in
set_option maxRecDepth 100000 in
theorem ct_X6_copy (D : zG) (B : Nat) {G : zH} (s u v k : Nat) (o z st : Int32) (w : Nat → Int32) (h1 : G s = some (.inr (5, [.ref v, .int o, .int z, .int st, .ref u, .int (nI k)]))) (h2 : G u = some (.inl (0, 16, .inl w))) (hk : k ≤ 16) : Ct D B yX6_copy (ws_ yX6_copy cX6_copy 2 (some (.object "TrackArray$Source"))) (zrc 3 2 22) [.ref s] G (fun r9 G9 => ∃ (s2 u2 : Nat) (w2 : Nat → Int32), r9 = some (.ref s2) ∧ G s2 = none ∧ G u2 = none ∧ ¬ u2 = s2 ∧ (∀ j, j < k → w2 j = w j) ∧ G9 = zup (zup G u2 (.inl (0, 16, .inl w2))) s2 (.inr (5, [.ref v, .int o, .int z, .int st, .ref u2, .int (nI k)]))) zno := by
  refine ct_intro (by decide +kernel) (Nat.le_of_ble_eq_true rfl) ?_
  intro X C
  refine z_new (ci := 5) C rfl q1833 q1137 q111 (Nat.le_of_ble_eq_true rfl) (Nat.le_of_ble_eq_true rfl) dX6_copy_0 ?_
  intro s2 hs2 hb
  have n1 := zne_of hs2 h1
  have n2 := zne_of hs2 h2
  refine z_dup C dX6_copy_3 rfl ?_
  refine z_aload_n (i := 0) C dX6_copy_4 rfl rfl ?_
  refine z_getf (ci := 5) (k := 0) C ((zup_n n1).trans h1) rfl rfl q1154 dX6_copy_5 ?_
  refine z_aload_n (i := 0) C dX6_copy_8 rfl rfl ?_
  refine z_getf (ci := 5) (k := 1) C ((zup_n n1).trans h1) rfl rfl q1156 dX6_copy_9 ?_
  refine z_aload_n (i := 0) C dX6_copy_12 rfl rfl ?_
  refine z_getf (ci := 5) (k := 2) C ((zup_n n1).trans h1) rfl rfl q1158 dX6_copy_13 ?_
  refine z_aload_n (i := 0) C dX6_copy_16 rfl rfl ?_
  refine z_getf (ci := 5) (k := 3) C ((zup_n n1).trans h1) rfl rfl q1160 dX6_copy_17 ?_
  refine z_callIn C (ct_X6_init D B s2 v o z st zup_s) q1834 q1151 q111 q1152 rfl np_X6_init (zr_ok rfl rfl) rfl rfl (Nat.le_of_ble_eq_true rfl) (⟨Nat.le_of_ble_eq_true rfl, Nat.le_of_ble_eq_true rfl⟩) dX6_copy_20 ?_
  intro v9 G9 h9
  obtain ⟨rfl, u2, hu2, rfl⟩ := h9
  obtain ⟨r1, r2⟩ := zup_no hu2
  have n3 := zne_of r2 h1
  have n4 := zne_of r2 h2
  refine z_heap (zup_aba (fun z => r1 z.symm)) ?_
  refine z_astore_n (i := 1) C dX6_copy_23 rfl (Nat.le_of_ble_eq_true rfl) rfl ?_
  refine z_aload_n (i := 0) C dX6_copy_24 rfl rfl ?_
  refine z_getf (ci := 5) (k := 4) C ((zup_n n1).trans ((zup_n n3).trans h1)) rfl rfl q1161 dX6_copy_25 ?_
  refine z_iconst (v := 0) C dX6_copy_28 (by decide) ?_
  refine z_aload_n (i := 1) C dX6_copy_29 rfl rfl ?_
  refine z_getf (ci := 5) (k := 4) C (zup_s) rfl rfl q1161 dX6_copy_30 ?_
  refine z_iconst (v := 0) C dX6_copy_33 (by decide) ?_
  refine z_aload_n (i := 0) C dX6_copy_34 rfl rfl ?_
  refine z_getf (ci := 5) (k := 5) C ((zup_n n1).trans ((zup_n n3).trans h1)) rfl rfl q1162 dX6_copy_35 ?_
  refine z_copyi (ty := .int) C ((zup_n n2).trans ((zup_n n4).trans h2)) ((zup_n r1).trans zup_s) rfl rfl q1835 q279 q278 q99 (by decide) (by decide) (nI_pos (by omega)) (by rw [nI_clamp (by omega)]; show 0 + _ ≤ _; omega) (by rw [nI_clamp (by omega)]; show 0 + _ ≤ _; omega) (fun i hi => rfl) (Nat.le_of_ble_eq_true rfl) (Nat.le_of_ble_eq_true rfl) dX6_copy_38 ?_
  rw [nI_clamp (n := k) (by omega)]
  refine z_heap ((zup_comm r1).symm.trans (congrArg (fun z => zup z s2 _) zup_zup)) ?_
  refine z_aload_n (i := 1) C dX6_copy_41 rfl rfl ?_
  refine z_aload_n (i := 0) C dX6_copy_42 rfl rfl ?_
  refine z_getf (ci := 5) (k := 5) C ((zup_n n1).trans ((zup_n n3).trans h1)) rfl rfl q1162 dX6_copy_43 ?_
  refine z_putf (ci := 5) (k := 5) C (zup_s) rfl (Nat.le_of_ble_eq_true rfl) (zfit_I _) q1162 dX6_copy_46 ?_
  refine z_heap zup_zup ?_
  refine z_aload_n (i := 1) C dX6_copy_49 rfl rfl ?_
  exact z_areturn C rfl (Or.inl ⟨_, rfl⟩) (Or.inr ⟨_, rfl⟩) dX6_copy_50 (⟨s2, u2, _, rfl, hs2, r2, r1, fun j hj => (if_pos ⟨Nat.zero_le _, by show j < 0 + k; omega⟩).trans (by show w (0 + (j - 0)) = w j; rw [Nat.zero_add, Nat.sub_zero]), rfl⟩) (Nat.le_of_ble_eq_true rfl) (Nat.le_of_ble_eq_true rfl)
set_option maxHeartbeats 4000000 in
set_option maxRecDepth 100000 in
theorem ct_X7_copy (D : zG) (B : Nat) {G : zH} (m q : Nat) (x y z t : Int32) (w : Nat → Int32) (h1 : G m = some (.inr (6, [.int x, .int y, .int z, .int t, .ref q]))) (h2 : G q = some (.inl (0, 256, .inl w))) : Ct D B yX7_copy (ws_ yX7_copy cX7_copy 2 (some (.object "TrackArray$Microphone"))) (zrc 3 3 517) [.ref m] G (fun r9 G9 => ∃ m2 q2 : Nat, r9 = some (.ref m2) ∧ G m2 = none ∧ G q2 = none ∧ ¬ q2 = m2 ∧ G9 = zup (zup G q2 (.inl (0, 256, .inl w))) m2 (.inr (6, [.int x, .int y, .int z, .int t, .ref q2]))) zno := by
  refine ct_intro (by decide +kernel) (Nat.le_of_ble_eq_true rfl) ?_
  intro X C
  refine z_new (ci := 6) C rfl q1840 q1018 q113 (Nat.le_of_ble_eq_true rfl) (Nat.le_of_ble_eq_true rfl) dX7_copy_0 ?_
  intro m2 hm2 hb
  have n1 := zne_of hm2 h1
  have n2 := zne_of hm2 h2
  refine z_dup C dX7_copy_3 rfl ?_
  refine z_aload_n (i := 0) C dX7_copy_4 rfl rfl ?_
  refine z_getf (ci := 6) (k := 0) C ((zup_n n1).trans h1) rfl rfl q1023 dX7_copy_5 ?_
  refine z_aload_n (i := 0) C dX7_copy_8 rfl rfl ?_
  refine z_getf (ci := 6) (k := 1) C ((zup_n n1).trans h1) rfl rfl q1026 dX7_copy_9 ?_
  refine z_aload_n (i := 0) C dX7_copy_12 rfl rfl ?_
  refine z_getf (ci := 6) (k := 2) C ((zup_n n1).trans h1) rfl rfl q1027 dX7_copy_13 ?_
  refine z_aload_n (i := 0) C dX7_copy_16 rfl rfl ?_
  refine z_getf (ci := 6) (k := 3) C ((zup_n n1).trans h1) rfl rfl q1028 dX7_copy_17 ?_
  refine z_callIn C (ct_X7_init D B m2 x y z t zup_s) q1841 q1020 q113 q1021 rfl np_X7_init (zr_ok rfl rfl) rfl rfl (Nat.le_of_ble_eq_true rfl) (⟨Nat.le_of_ble_eq_true rfl, Nat.le_of_ble_eq_true rfl⟩) dX7_copy_20 ?_
  intro v9 G9 h9
  obtain ⟨rfl, u, hu, rfl⟩ := h9
  obtain ⟨r1, r2⟩ := zup_no hu
  have n3 := zne_of r2 h1
  have n4 := zne_of r2 h2
  refine z_heap (zup_aba (fun z => r1 z.symm)) ?_
  refine z_astore_n (i := 1) C dX7_copy_23 rfl (Nat.le_of_ble_eq_true rfl) rfl ?_
  refine z_aload_n (i := 1) C dX7_copy_24 rfl rfl ?_
  refine z_aload_n (i := 0) C dX7_copy_25 rfl rfl ?_
  refine z_getf (ci := 6) (k := 4) C ((zup_n n1).trans ((zup_n n3).trans h1)) rfl rfl q1031 dX7_copy_26 ?_
  refine z_clone (ty := .int) (ad := "[I") C ((zup_n n2).trans ((zup_n n4).trans h2)) rfl (fun _ hK => znmI hK) (fun _ => rfl) q1842 q1843 q269 q270 q1844 q1845 (Nat.le_of_ble_eq_true rfl) (Nat.le_of_ble_eq_true rfl) (Nat.le_of_ble_eq_true rfl) (Nat.le_of_ble_eq_true rfl) dX7_copy_29 ?_
  intro q2 hq2 hb2
  obtain ⟨p1, p2⟩ := zup_no hq2
  obtain ⟨p3, p4⟩ := zup_no p2
  refine z_heap (zup_comm (fun z => p1 z.symm)) ?_
  refine z_castI C ((zup_n p1).trans zup_s) q1846 dX7_copy_32 ?_
  refine z_putf (ci := 6) (k := 4) C (zup_s) rfl (Nat.le_of_ble_eq_true rfl) (zfit_aI _) q1031 dX7_copy_35 ?_
  refine z_heap zup_zup ?_
  refine z_sub (G' := zup (zup G q2 (.inl (0, 256, .inl w))) m2 (.inr (6, [.int x, .int y, .int z, .int t, .ref q2]))) (zsub2 r2) ?_
  refine z_aload_n (i := 1) C dX7_copy_38 rfl rfl ?_
  exact z_areturn C rfl (Or.inl ⟨_, rfl⟩) (Or.inr ⟨_, rfl⟩) dX7_copy_39 (⟨m2, q2, rfl, hm2, p4, p1, rfl⟩) (Nat.le_of_ble_eq_true rfl) (Nat.le_of_ble_eq_true rfl)
