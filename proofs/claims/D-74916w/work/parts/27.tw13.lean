/-! the twin: loading, its constructor -/
theorem zpT_le {te : Nat → Int32} {n : Nat} {S : Nat → Int32} {c : zC} (h : c.1 ≤ n) : (zpT te n S c).2.1 ≤ n := zad_le (c := zrq _ 1 (zpU te n S c).2) (zpU_le h)
theorem zld_le {te : Nat → Int32} {n : Nat} {S0 : Nat → Int32} : ∀ i, (zld te n S0 i).2.1 ≤ n
  | 0 => ztB_le (Nat.zero_le n)
  | i + 1 => zpT_le (zld_le i)
/-- what is left to read -/
def zmu (n : Nat) (c : zC) : Nat := if c.2.1 = 0 then n - c.1 + 1 else 0
theorem zmu_1 {te : Nat → Int32} {n : Nat} {S : Nat → Int32} {c : zC} (h : c.1 ≤ n) (h2 : zmo te n c) : zmu n (zpT te n S c).2 < zmu n c := by
  unfold zmu
  rw [if_pos h2.1]
  split
  · next q =>
    have a1 := (zpT_ok q).2.1 (zkd_lt h2.2)
    have a2 := zpT_le (te := te) (S := S) h
    omega
  · omega
theorem np_X4_clear : znp yX4_clear 0 := ⟨by decide +kernel, by decide +kernel, by decide +kernel⟩
theorem np_X4_parseStatement : znp yX4_parseStatement 0 := ⟨by decide +kernel, by decide +kernel, by decide +kernel⟩
set_option maxHeartbeats 4000000 in
set_option maxRecDepth 100000 in
theorem ct_X4_load (D : zG) (B : Nat) {b : zH} {t : tA} {st : Nat → Int32} {bk : Nat → Int32} {sv : Nat → Int32} {iz : Nat → Int32} {th : Int32} {di : Nat → Int32} {re : Nat → Int32} {si : Nat → Int32} {pa : Nat → Int32} {fo : Nat → Int64} {te : Nat → Int32} {tl : Int32} {po : Int32} {ts : Int32} {to : Int32} {le : Int32} {nu : Int32} {ec : Int32} {ep : Int32} {wo : Int64}  (n : Nat) (hn5 : n ≤ 500) (hte : ∀ j, j < n → ¬ te j = -1) (hn : tl = nI n) : Ct D B yX4_load (ws_ yX4_load cX4_load 2 (some .int)) (zr 8) [.ref (t.1 0)] (tw b t st bk sv iz th di re si pa fo te tl po ts to le nu ec ep wo) (fun w G9 => ∃ (sx : Nat → Int32) (i : Nat), (∀ j, j < 2234 → sx j = zini j) ∧ zLE te n sx i ∧ (((zld te n sx i).2.2.1 = 0 ∧ w = some (.int (nI i)) ∧ ∃ (bx : Nat → Int32) (po ts to le nu : Int32) (wo : Int64), G9 = (tw b t (zld te n sx i).1 bx sv iz 0 di re si pa fo te 0 po ts to le nu (zld te n sx i).2.2.1 (zld te n sx i).2.2.2 wo)) ∨ (¬ (zld te n sx i).2.2.1 = 0 ∧ w = some (.int (-1)) ∧ ∃ (bx s9 : Nat → Int32) (po ts to le nu : Int32) (wo : Int64), G9 = (tw b t s9 bx sv iz 0 di re si pa fo te 0 po ts to le nu (zld te n sx i).2.2.1 (zld te n sx i).2.2.2 wo) ∧ ∀ j, j < 2234 → s9 j = st j))) zno := by
  refine ct_intro (by decide +kernel) (Nat.le_of_ble_eq_true rfl) ?_
  intro X C
  subst hn
  refine z_aload_n (i := 0) C dX4_load_0 rfl rfl ?_
  refine z_iconst (v := 0) C dX4_load_1 (by decide) ?_
  refine tp_thrown C q1868 dX4_load_2 ?_
  refine z_aload_n (i := 0) C dX4_load_5 rfl rfl ?_
  refine tg_state C q1864 dX4_load_6 ?_
  refine z_iconst (v := 0) C dX4_load_9 (by decide) ?_
  refine z_aload_n (i := 0) C dX4_load_10 rfl rfl ?_
  refine tg_backup C q1865 dX4_load_11 ?_
  refine z_iconst (v := 0) C dX4_load_14 (by decide) ?_
  refine z_callSn C (ct_X4_copy D B (t.1 1) (t.1 2) 2234 2234 0 0 st bk (tne t (by decide) (by decide) (by decide)) tw_state tw_backup (by omega) (by omega) (by decide) (by decide)) q2322 q2323 q106 q2324 np_X4_copy (zr_ok rfl rfl) rfl rfl (Nat.le_of_ble_eq_true rfl) (⟨Nat.le_of_ble_eq_true rfl, Nat.le_of_ble_eq_true rfl⟩) dX4_load_15 ?_
  intro v9 G9 h9
  obtain ⟨rfl, bx, rfl, b1, -⟩ := h9
  refine z_heap (tu_backup bx) ?_
  refine z_aload_n (i := 0) C dX4_load_18 rfl rfl ?_
  refine z_callVn C (tw_obj) rfl (ct_X4_clear D B) q1860 q1862 qs24 q106 q1863 np_X4_clear (zr_ok rfl rfl) rfl rfl (Nat.le_of_ble_eq_true rfl) (⟨Nat.le_of_ble_eq_true rfl, Nat.le_of_ble_eq_true rfl⟩) dX4_load_19 ?_
  intro v9 G9 h9
  obtain ⟨rfl, sx, rfl, hsx⟩ := h9
  replace hsx : ∀ j, j < 2234 → sx j = zini j := hsx
  refine z_aload_n (i := 0) C dX4_load_22 rfl rfl ?_
  refine z_iconst (v := 0) C dX4_load_23 (by decide) ?_
  refine tp_errorCode C q1881 dX4_load_24 ?_
  refine z_aload_n (i := 0) C dX4_load_27 rfl rfl ?_
  refine z_iconst (v := (-1)) C dX4_load_28 (by decide) ?_
  refine tp_errorPosition C q1882 dX4_load_29 ?_
  refine z_aload_n (i := 0) C dX4_load_32 rfl rfl ?_
  refine z_iconst (v := 0) C dX4_load_33 (by decide) ?_
  refine tp_position C q1876 dX4_load_34 ?_
  refine z_aload_n (i := 0) C dX4_load_37 rfl rfl ?_
  refine z_callVe C (tw_obj) rfl (ct_X4_nextToken D B 0 n hn5 hte rfl (Nat.zero_le _) rfl) q2325 q2327 qs71 q106 q2328 np_X4_nextToken (zr_ok rfl rfl) rfl rfl (Nat.le_of_ble_eq_true rfl) (⟨Nat.le_of_ble_eq_true rfl, Nat.le_of_ble_eq_true rfl⟩) dX4_load_38 ?_
  refine z_iconst (v := 0) C dX4_load_41 (by decide) ?_
  refine z_istore_n (i := 1) C dX4_load_42 rfl (Nat.le_of_ble_eq_true rfl) rfl ?_
  have lp43 : ∀ (μ : Nat) (i : Nat) (hi : ∀ j, j < i → zmo te n (zld te n sx j).2), zmu n (zld te n sx i).2 < μ → Z X 43 [some (.ref (t.1 0)), some (.int (nI i))] [] (tw b t (zld te n sx i).1 bx sv iz 0 di re si pa fo te (nI n) (nI (zed te n (zld te n sx i).2.1)) (nI (zld te n sx i).2.1) (nI (zkd te n (zld te n sx i).2.1)) (nI (zleN te n (zld te n sx i).2.1)) (znmN te n (zld te n sx i).2.1) (zld te n sx i).2.2.1 (zld te n sx i).2.2.2 (zwoN te n (zld te n sx i).2.1)) 0 0 := by
    intro μ
    induction μ with
    | zero => intro i hi hμ; exact absurd hμ (Nat.not_lt_zero _)
    | succ μ ih43 =>
      intro i hi hμ
      refine z_aload_n (i := 0) C dX4_load_43 rfl rfl ?_
      refine tg_errorCode C q1881 dX4_load_44 ?_
      refine z_if_ne (tgt := 67) C dX4_load_47 (by decide) (fun c_47 => ?_) (fun c_47 => ?_)
      · refine z_aload_n (i := 0) C dX4_load_67 rfl rfl ?_
        refine z_iconst (v := 0) C dX4_load_68 (by decide) ?_
        refine tp_textLength C q1875 dX4_load_69 ?_
        refine z_aload_n (i := 0) C dX4_load_72 rfl rfl ?_
        refine tg_errorCode C q1881 dX4_load_73 ?_
        refine z_if_eq (tgt := 94) C dX4_load_76 (by decide) (fun c_76 => ?_) (fun c_76 => ?_)
        · exact absurd c_76 c_47
        · refine z_aload_n (i := 0) C dX4_load_79 rfl rfl ?_
          refine tg_backup C q1865 dX4_load_80 ?_
          refine z_iconst (v := 0) C dX4_load_83 (by decide) ?_
          refine z_aload_n (i := 0) C dX4_load_84 rfl rfl ?_
          refine tg_state C q1864 dX4_load_85 ?_
          refine z_iconst (v := 0) C dX4_load_88 (by decide) ?_
          refine z_callSn C (ct_X4_copy D B (t.1 2) (t.1 1) 2234 2234 0 0 bx (zld te n sx i).1 (tne t (by decide) (by decide) (by decide)) tw_backup tw_state (by omega) (by omega) (by decide) (by decide)) q2322 q2323 q106 q2324 np_X4_copy (zr_ok rfl rfl) rfl rfl (Nat.le_of_ble_eq_true rfl) (⟨Nat.le_of_ble_eq_true rfl, Nat.le_of_ble_eq_true rfl⟩) dX4_load_89 ?_
          intro v9 G9 h9
          obtain ⟨rfl, s9, rfl, b2, -⟩ := h9
          refine z_heap (tu_state s9) ?_
          refine z_iconst (v := (-1)) C dX4_load_92 (by decide) ?_
          exact z_ireturn C rfl (rfl) dX4_load_93 (⟨sx, i, hsx, ⟨hi, fun q => c_47 q.1⟩, Or.inr ⟨c_47, rfl, bx, s9, _, _, _, _, _, _, rfl, fun j hj => by have a1 := b1 j hj; have a2 := b2 j hj; simp only [Nat.zero_add] at a1 a2; exact a2.trans a1⟩⟩) (Nat.le_of_ble_eq_true rfl) (Nat.le_of_ble_eq_true rfl)
      · have ge9 := zld_ge (te := te) (n := n) (zGe_ini hsx) i c_47
        obtain ⟨k6, k66, e6⟩ := ge9.nv
        obtain ⟨k7, k77, e7⟩ := ge9.ns
        obtain ⟨k8, k88, e8⟩ := ge9.nm
        refine z_aload_n (i := 0) C dX4_load_50 rfl rfl ?_
        refine tg_token C q1878 dX4_load_51 ?_
        refine z_if_eq (tgt := 67) C dX4_load_54 (by decide) (fun c_54 => ?_) (fun c_54 => ?_)
        · refine z_aload_n (i := 0) C dX4_load_67 rfl rfl ?_
          refine z_iconst (v := 0) C dX4_load_68 (by decide) ?_
          refine tp_textLength C q1875 dX4_load_69 ?_
          refine z_aload_n (i := 0) C dX4_load_72 rfl rfl ?_
          refine tg_errorCode C q1881 dX4_load_73 ?_
          refine z_if_eq (tgt := 94) C dX4_load_76 (by decide) (fun c_76 => ?_) (fun c_76 => ?_)
          · refine z_iload_n (i := 1) C dX4_load_94 rfl rfl ?_
            exact z_ireturn C rfl (rfl) dX4_load_95 (⟨sx, i, hsx, ⟨hi, fun q => q.2 c_54⟩, Or.inl ⟨c_47, rfl, bx, _, _, _, _, _, _, rfl⟩⟩) (Nat.le_of_ble_eq_true rfl) (Nat.le_of_ble_eq_true rfl)
          · exact absurd c_47 c_76
        · have hmo : zmo te n (zld te n sx i).2 := ⟨c_47, c_54⟩
          refine z_aload_n (i := 0) C dX4_load_57 rfl rfl ?_
          refine z_callVe C (tw_obj) rfl (ct_X4_parseStatement D B n hn5 hte (zld te n sx i).2 (zld_le i) k6 k7 k8 e6 k66 e7 k77 e8 k88) q2341 q2343 qs73 q106 q2344 np_X4_parseStatement (zr_ok rfl rfl) rfl rfl (Nat.le_of_ble_eq_true rfl) (⟨Nat.le_of_ble_eq_true rfl, Nat.le_of_ble_eq_true rfl⟩) dX4_load_58 ?_
          refine z_iinc (v := nI (i + 1)) C dX4_load_61 rfl (ziinc i) (Nat.le_of_ble_eq_true rfl) rfl ?_
          refine z_goto (tgt := 43) C dX4_load_64 (by decide) ?_
          exact z_convG (ih43 (i + 1) (fun j hj => by by_cases q : j = i; (· subst q; exact hmo); (· exact hi j (by omega))) (by have : zmu n (zld te n sx (i + 1)).2 < zmu n (zld te n sx i).2 := zmu_1 (zld_le i) hmo; omega)) (And.intro (rfl) (And.intro (rfl) trivial)) (Nat.le_of_ble_eq_true rfl) (Nat.le_of_ble_eq_true rfl)
  exact z_convG (lp43 (zmu n (zld te n sx 0).2 + 1) 0 (fun j hj => absurd hj (Nat.not_lt_zero _)) (Nat.lt_succ_self _)) (And.intro (rfl) (And.intro (rfl) trivial)) (Nat.le_of_ble_eq_true rfl) (Nat.le_of_ble_eq_true rfl)
theorem zup_self {h : zH} {a : Nat} {e : zE} (q : h a = some e) : zup h a e = h := by
  funext x
  unfold zup
  split
  · next g => rw [g, q]
  · rfl
theorem zup_comm {h : zH} {a b : Nat} {e f : zE} (n : a ≠ b) : zup (zup h a e) b f = zup (zup h b f) a e := by
  funext x
  unfold zup
  by_cases p : x = a
  · subst p; rw [if_neg n, if_pos rfl, if_pos rfl]
  · rw [if_neg p, if_neg p]
theorem znodup : ∀ {l : List Nat}, l.Nodup → ∀ {i j : Nat}, i < l.length → j < l.length → l.getD i 0 = l.getD j 0 → i = j
  | [], _, i, _, h, _, _ => absurd h (Nat.not_lt_zero _)
  | x :: l, hn, i, j, hi, hj, e => by
    obtain ⟨h1, h2⟩ := List.nodup_cons.mp hn
    have mem : ∀ k, k < l.length → l.getD k 0 ∈ l := fun k hk => by
      rw [List.getD_eq_getElem?_getD, List.getElem?_eq_getElem hk]
      exact List.getElem_mem hk
    cases i with
    | zero =>
      cases j with
      | zero => rfl
      | succ j =>
        have e2 : x = l.getD j 0 := e
        exact absurd (e2 ▸ mem j (Nat.lt_of_succ_lt_succ hj)) h1
    | succ i =>
      cases j with
      | zero =>
        have e2 : l.getD i 0 = x := e
        exact absurd (e2 ▸ mem i (Nat.lt_of_succ_lt_succ hi)) h1
      | succ j => rw [znodup h2 (Nat.lt_of_succ_lt_succ hi) (Nat.lt_of_succ_lt_succ hj) e]
theorem zfit_aI (q : Nat) : zfit "[I" (.ref q) := ⟨.array .int, by decide +kernel, rfl, rfl⟩
theorem zfit_aJ (q : Nat) : zfit "[J" (.ref q) := ⟨.array .long, by decide +kernel, rfl, rfl⟩
theorem zfit_aZ (q : Nat) : zfit "[Z" (.ref q) := ⟨.array .boolean, by decide +kernel, rfl, rfl⟩
theorem zfit_aB (q : Nat) : zfit "[B" (.ref q) := ⟨.array .byte, by decide +kernel, rfl, rfl⟩
theorem np_J24_init : znp yJ24_init 0 := ⟨by decide +kernel, by decide +kernel, by decide +kernel⟩
set_option maxHeartbeats 4000000 in
set_option maxRecDepth 100000 in
theorem ct_X4_init (D : zG) (B : Nat) {G : zH} (a0 : Nat) (h0 : G a0 = some (.inr (3, zfs0 3))) : Ct D B yX4_init (ws_ yX4_init cX4_init 1 none) { frames := 2, cells := 10, slots := 10526, locals := 80 } [.ref a0] G (fun w G9 => w = none ∧ ∃ (t : tA) (sx : Nat → Int32), t.1 0 = a0 ∧ (∀ i, 1 ≤ i → i ≤ 10 → G (t.1 i) = none) ∧ (∀ j, j < 2234 → sx j = zini j) ∧ G9 = (tw G t sx (fun _ => 0) (fun _ => 0) (fun _ => 0) 0 (fun _ => 0) (fun _ => 0) (fun _ => 0) (fun _ => 0) (fun _ => 0) (fun _ => 0) 0 0 0 0 0 0 0 (-1) 0)) zno := by
  refine ct_intro (by decide +kernel) (Nat.le_of_ble_eq_true rfl) ?_
  intro X C
  refine z_aload_n (i := 0) C dX4_init_0 rfl rfl ?_
  refine z_objInit C q1859 q132 q133 (Nat.le_of_ble_eq_true rfl) (Nat.le_of_ble_eq_true rfl) dX4_init_1 ?_
  refine z_heap (G' := zup G a0 (.inr (3, [.null, .null, .null, .null, .int 0, .null, .null, .null, .null, .null, .null, .int 0, .int 0, .int 0, .int 0, .int 0, .int 0, .int 0, .int 0, .long 0]))) (zup_self h0).symm ?_
  refine z_aload_n (i := 0) C dX4_init_4 rfl rfl ?_
  refine z_sipush (v := 2234) C dX4_init_5 (by decide) ?_
  refine z_newarr (ty := .int) (t := 0) (N := 2234) (x0 := (2234, .inl fun _ => 0)) C rfl rfl q567 (fun _ => rfl) (by decide) (by decide +kernel) (Nat.le_of_ble_eq_true rfl) (Nat.le_of_ble_eq_true rfl) (Nat.le_of_ble_eq_true rfl) dX4_init_8 ?_
  intro q1 w1 hb1
  have f1_0 : ¬ q1 = a0 := fun e => by rw [e, zup_s] at w1; cases w1
  have g1 : G q1 = none := (zup_n f1_0).symm.trans w1
  have z1 : G q1 = none := g1
  refine z_heap (zup_comm (fun e => f1_0 e.symm)) ?_
  refine z_putfF (ci := 3) (k := 0) C zup_s rfl (Nat.le_of_ble_eq_true rfl) (zfit_aI _) rfl rfl q1864 dX4_init_10 ?_
  refine z_heap (G' := zup (zup G q1 (.inl (0, 2234, .inl fun _ => 0))) a0 (.inr (3, [.ref q1, .null, .null, .null, .int 0, .null, .null, .null, .null, .null, .null, .int 0, .int 0, .int 0, .int 0, .int 0, .int 0, .int 0, .int 0, .long 0]))) zup_zup ?_
  refine z_aload_n (i := 0) C dX4_init_13 rfl rfl ?_
  refine z_sipush (v := 2234) C dX4_init_14 (by decide) ?_
  refine z_newarr (ty := .int) (t := 0) (N := 2234) (x0 := (2234, .inl fun _ => 0)) C rfl rfl q567 (fun _ => rfl) (by decide) (by decide +kernel) (Nat.le_of_ble_eq_true rfl) (Nat.le_of_ble_eq_true rfl) (Nat.le_of_ble_eq_true rfl) dX4_init_17 ?_
  intro q2 w2 hb2
  have f2_0 : ¬ q2 = a0 := fun e => by rw [e, zup_s] at w2; cases w2
  have g2 : (zup G q1 (.inl (0, 2234, .inl fun _ => 0))) q2 = none := (zup_n f2_0).symm.trans w2
  have f2_1 : ¬ q2 = q1 := fun e => by rw [e, zup_s] at g2; cases g2
  have g2_1 : G q2 = none := (zup_n f2_1).symm.trans g2
  have z2 : G q2 = none := g2_1
  refine z_heap (zup_comm (fun e => f2_0 e.symm)) ?_
  refine z_putfF (ci := 3) (k := 1) C zup_s rfl (Nat.le_of_ble_eq_true rfl) (zfit_aI _) rfl rfl q1865 dX4_init_19 ?_
  refine z_heap (G' := zup (zup (zup G q1 (.inl (0, 2234, .inl fun _ => 0))) q2 (.inl (0, 2234, .inl fun _ => 0))) a0 (.inr (3, [.ref q1, .ref q2, .null, .null, .int 0, .null, .null, .null, .null, .null, .null, .int 0, .int 0, .int 0, .int 0, .int 0, .int 0, .int 0, .int 0, .long 0]))) zup_zup ?_
  refine z_aload_n (i := 0) C dX4_init_22 rfl rfl ?_
  refine z_sipush (v := 4468) C dX4_init_23 (by decide) ?_
  refine z_newarr (ty := .int) (t := 0) (N := 4468) (x0 := (4468, .inl fun _ => 0)) C rfl rfl q567 (fun _ => rfl) (by decide) (by decide +kernel) (Nat.le_of_ble_eq_true rfl) (Nat.le_of_ble_eq_true rfl) (Nat.le_of_ble_eq_true rfl) dX4_init_26 ?_
  intro q3 w3 hb3
  have f3_0 : ¬ q3 = a0 := fun e => by rw [e, zup_s] at w3; cases w3
  have g3 : (zup (zup G q1 (.inl (0, 2234, .inl fun _ => 0))) q2 (.inl (0, 2234, .inl fun _ => 0))) q3 = none := (zup_n f3_0).symm.trans w3
  have f3_2 : ¬ q3 = q2 := fun e => by rw [e, zup_s] at g3; cases g3
  have g3_2 : (zup G q1 (.inl (0, 2234, .inl fun _ => 0))) q3 = none := (zup_n f3_2).symm.trans g3
  have f3_1 : ¬ q3 = q1 := fun e => by rw [e, zup_s] at g3_2; cases g3_2
  have g3_1 : G q3 = none := (zup_n f3_1).symm.trans g3_2
  have z3 : G q3 = none := g3_1
  refine z_heap (zup_comm (fun e => f3_0 e.symm)) ?_
  refine z_putfF (ci := 3) (k := 2) C zup_s rfl (Nat.le_of_ble_eq_true rfl) (zfit_aI _) rfl rfl q1866 dX4_init_28 ?_
  refine z_heap (G' := zup (zup (zup (zup G q1 (.inl (0, 2234, .inl fun _ => 0))) q2 (.inl (0, 2234, .inl fun _ => 0))) q3 (.inl (0, 4468, .inl fun _ => 0))) a0 (.inr (3, [.ref q1, .ref q2, .ref q3, .null, .int 0, .null, .null, .null, .null, .null, .null, .int 0, .int 0, .int 0, .int 0, .int 0, .int 0, .int 0, .int 0, .long 0]))) zup_zup ?_
  refine z_aload_n (i := 0) C dX4_init_31 rfl rfl ?_
  refine z_iconst (v := 2) C dX4_init_32 (by decide) ?_
  refine z_newarr (ty := .boolean) (t := 3) (N := 2) (x0 := (2, .inl fun _ => 0)) C rfl rfl q1925 (fun _ => rfl) (by decide) (by decide +kernel) (Nat.le_of_ble_eq_true rfl) (Nat.le_of_ble_eq_true rfl) (Nat.le_of_ble_eq_true rfl) dX4_init_33 ?_
  intro q4 w4 hb4
  have f4_0 : ¬ q4 = a0 := fun e => by rw [e, zup_s] at w4; cases w4
  have g4 : (zup (zup (zup G q1 (.inl (0, 2234, .inl fun _ => 0))) q2 (.inl (0, 2234, .inl fun _ => 0))) q3 (.inl (0, 4468, .inl fun _ => 0))) q4 = none := (zup_n f4_0).symm.trans w4
  have f4_3 : ¬ q4 = q3 := fun e => by rw [e, zup_s] at g4; cases g4
  have g4_3 : (zup (zup G q1 (.inl (0, 2234, .inl fun _ => 0))) q2 (.inl (0, 2234, .inl fun _ => 0))) q4 = none := (zup_n f4_3).symm.trans g4
  have f4_2 : ¬ q4 = q2 := fun e => by rw [e, zup_s] at g4_3; cases g4_3
  have g4_2 : (zup G q1 (.inl (0, 2234, .inl fun _ => 0))) q4 = none := (zup_n f4_2).symm.trans g4_3
  have f4_1 : ¬ q4 = q1 := fun e => by rw [e, zup_s] at g4_2; cases g4_2
  have g4_1 : G q4 = none := (zup_n f4_1).symm.trans g4_2
  have z4 : G q4 = none := g4_1
  refine z_heap (zup_comm (fun e => f4_0 e.symm)) ?_
  refine z_putfF (ci := 3) (k := 3) C zup_s rfl (Nat.le_of_ble_eq_true rfl) (zfit_aZ _) rfl rfl q1867 dX4_init_35 ?_
  refine z_heap (G' := zup (zup (zup (zup (zup G q1 (.inl (0, 2234, .inl fun _ => 0))) q2 (.inl (0, 2234, .inl fun _ => 0))) q3 (.inl (0, 4468, .inl fun _ => 0))) q4 (.inl (3, 2, .inl fun _ => 0))) a0 (.inr (3, [.ref q1, .ref q2, .ref q3, .ref q4, .int 0, .null, .null, .null, .null, .null, .null, .int 0, .int 0, .int 0, .int 0, .int 0, .int 0, .int 0, .int 0, .long 0]))) zup_zup ?_
  refine z_aload_n (i := 0) C dX4_init_38 rfl rfl ?_
  refine z_sipush (v := 256) C dX4_init_39 (by decide) ?_
  refine z_newarr (ty := .int) (t := 0) (N := 256) (x0 := (256, .inl fun _ => 0)) C rfl rfl q567 (fun _ => rfl) (by decide) (by decide +kernel) (Nat.le_of_ble_eq_true rfl) (Nat.le_of_ble_eq_true rfl) (Nat.le_of_ble_eq_true rfl) dX4_init_42 ?_
  intro q5 w5 hb5
  have f5_0 : ¬ q5 = a0 := fun e => by rw [e, zup_s] at w5; cases w5
  have g5 : (zup (zup (zup (zup G q1 (.inl (0, 2234, .inl fun _ => 0))) q2 (.inl (0, 2234, .inl fun _ => 0))) q3 (.inl (0, 4468, .inl fun _ => 0))) q4 (.inl (3, 2, .inl fun _ => 0))) q5 = none := (zup_n f5_0).symm.trans w5
  have f5_4 : ¬ q5 = q4 := fun e => by rw [e, zup_s] at g5; cases g5
  have g5_4 : (zup (zup (zup G q1 (.inl (0, 2234, .inl fun _ => 0))) q2 (.inl (0, 2234, .inl fun _ => 0))) q3 (.inl (0, 4468, .inl fun _ => 0))) q5 = none := (zup_n f5_4).symm.trans g5
  have f5_3 : ¬ q5 = q3 := fun e => by rw [e, zup_s] at g5_4; cases g5_4
  have g5_3 : (zup (zup G q1 (.inl (0, 2234, .inl fun _ => 0))) q2 (.inl (0, 2234, .inl fun _ => 0))) q5 = none := (zup_n f5_3).symm.trans g5_4
  have f5_2 : ¬ q5 = q2 := fun e => by rw [e, zup_s] at g5_3; cases g5_3
  have g5_2 : (zup G q1 (.inl (0, 2234, .inl fun _ => 0))) q5 = none := (zup_n f5_2).symm.trans g5_3
  have f5_1 : ¬ q5 = q1 := fun e => by rw [e, zup_s] at g5_2; cases g5_2
  have g5_1 : G q5 = none := (zup_n f5_1).symm.trans g5_2
  have z5 : G q5 = none := g5_1
  refine z_heap (zup_comm (fun e => f5_0 e.symm)) ?_
  refine z_putfF (ci := 3) (k := 5) C zup_s rfl (Nat.le_of_ble_eq_true rfl) (zfit_aI _) rfl rfl q1869 dX4_init_44 ?_
  refine z_heap (G' := zup (zup (zup (zup (zup (zup G q1 (.inl (0, 2234, .inl fun _ => 0))) q2 (.inl (0, 2234, .inl fun _ => 0))) q3 (.inl (0, 4468, .inl fun _ => 0))) q4 (.inl (3, 2, .inl fun _ => 0))) q5 (.inl (0, 256, .inl fun _ => 0))) a0 (.inr (3, [.ref q1, .ref q2, .ref q3, .ref q4, .int 0, .ref q5, .null, .null, .null, .null, .null, .int 0, .int 0, .int 0, .int 0, .int 0, .int 0, .int 0, .int 0, .long 0]))) zup_zup ?_
  refine z_aload_n (i := 0) C dX4_init_47 rfl rfl ?_
  refine z_sipush (v := 256) C dX4_init_48 (by decide) ?_
  refine z_newarr (ty := .int) (t := 0) (N := 256) (x0 := (256, .inl fun _ => 0)) C rfl rfl q567 (fun _ => rfl) (by decide) (by decide +kernel) (Nat.le_of_ble_eq_true rfl) (Nat.le_of_ble_eq_true rfl) (Nat.le_of_ble_eq_true rfl) dX4_init_51 ?_
  intro q6 w6 hb6
  have f6_0 : ¬ q6 = a0 := fun e => by rw [e, zup_s] at w6; cases w6
  have g6 : (zup (zup (zup (zup (zup G q1 (.inl (0, 2234, .inl fun _ => 0))) q2 (.inl (0, 2234, .inl fun _ => 0))) q3 (.inl (0, 4468, .inl fun _ => 0))) q4 (.inl (3, 2, .inl fun _ => 0))) q5 (.inl (0, 256, .inl fun _ => 0))) q6 = none := (zup_n f6_0).symm.trans w6
  have f6_5 : ¬ q6 = q5 := fun e => by rw [e, zup_s] at g6; cases g6
  have g6_5 : (zup (zup (zup (zup G q1 (.inl (0, 2234, .inl fun _ => 0))) q2 (.inl (0, 2234, .inl fun _ => 0))) q3 (.inl (0, 4468, .inl fun _ => 0))) q4 (.inl (3, 2, .inl fun _ => 0))) q6 = none := (zup_n f6_5).symm.trans g6
  have f6_4 : ¬ q6 = q4 := fun e => by rw [e, zup_s] at g6_5; cases g6_5
  have g6_4 : (zup (zup (zup G q1 (.inl (0, 2234, .inl fun _ => 0))) q2 (.inl (0, 2234, .inl fun _ => 0))) q3 (.inl (0, 4468, .inl fun _ => 0))) q6 = none := (zup_n f6_4).symm.trans g6_5
  have f6_3 : ¬ q6 = q3 := fun e => by rw [e, zup_s] at g6_4; cases g6_4
  have g6_3 : (zup (zup G q1 (.inl (0, 2234, .inl fun _ => 0))) q2 (.inl (0, 2234, .inl fun _ => 0))) q6 = none := (zup_n f6_3).symm.trans g6_4
  have f6_2 : ¬ q6 = q2 := fun e => by rw [e, zup_s] at g6_3; cases g6_3
  have g6_2 : (zup G q1 (.inl (0, 2234, .inl fun _ => 0))) q6 = none := (zup_n f6_2).symm.trans g6_3
  have f6_1 : ¬ q6 = q1 := fun e => by rw [e, zup_s] at g6_2; cases g6_2
  have g6_1 : G q6 = none := (zup_n f6_1).symm.trans g6_2
  have z6 : G q6 = none := g6_1
  refine z_heap (zup_comm (fun e => f6_0 e.symm)) ?_
  refine z_putfF (ci := 3) (k := 6) C zup_s rfl (Nat.le_of_ble_eq_true rfl) (zfit_aI _) rfl rfl q1870 dX4_init_53 ?_
  refine z_heap (G' := zup (zup (zup (zup (zup (zup (zup G q1 (.inl (0, 2234, .inl fun _ => 0))) q2 (.inl (0, 2234, .inl fun _ => 0))) q3 (.inl (0, 4468, .inl fun _ => 0))) q4 (.inl (3, 2, .inl fun _ => 0))) q5 (.inl (0, 256, .inl fun _ => 0))) q6 (.inl (0, 256, .inl fun _ => 0))) a0 (.inr (3, [.ref q1, .ref q2, .ref q3, .ref q4, .int 0, .ref q5, .ref q6, .null, .null, .null, .null, .int 0, .int 0, .int 0, .int 0, .int 0, .int 0, .int 0, .int 0, .long 0]))) zup_zup ?_
  refine z_aload_n (i := 0) C dX4_init_56 rfl rfl ?_
  refine z_sipush (v := 256) C dX4_init_57 (by decide) ?_
  refine z_newarr (ty := .int) (t := 0) (N := 256) (x0 := (256, .inl fun _ => 0)) C rfl rfl q567 (fun _ => rfl) (by decide) (by decide +kernel) (Nat.le_of_ble_eq_true rfl) (Nat.le_of_ble_eq_true rfl) (Nat.le_of_ble_eq_true rfl) dX4_init_60 ?_
  intro q7 w7 hb7
  have f7_0 : ¬ q7 = a0 := fun e => by rw [e, zup_s] at w7; cases w7
  have g7 : (zup (zup (zup (zup (zup (zup G q1 (.inl (0, 2234, .inl fun _ => 0))) q2 (.inl (0, 2234, .inl fun _ => 0))) q3 (.inl (0, 4468, .inl fun _ => 0))) q4 (.inl (3, 2, .inl fun _ => 0))) q5 (.inl (0, 256, .inl fun _ => 0))) q6 (.inl (0, 256, .inl fun _ => 0))) q7 = none := (zup_n f7_0).symm.trans w7
  have f7_6 : ¬ q7 = q6 := fun e => by rw [e, zup_s] at g7; cases g7
  have g7_6 : (zup (zup (zup (zup (zup G q1 (.inl (0, 2234, .inl fun _ => 0))) q2 (.inl (0, 2234, .inl fun _ => 0))) q3 (.inl (0, 4468, .inl fun _ => 0))) q4 (.inl (3, 2, .inl fun _ => 0))) q5 (.inl (0, 256, .inl fun _ => 0))) q7 = none := (zup_n f7_6).symm.trans g7
  have f7_5 : ¬ q7 = q5 := fun e => by rw [e, zup_s] at g7_6; cases g7_6
  have g7_5 : (zup (zup (zup (zup G q1 (.inl (0, 2234, .inl fun _ => 0))) q2 (.inl (0, 2234, .inl fun _ => 0))) q3 (.inl (0, 4468, .inl fun _ => 0))) q4 (.inl (3, 2, .inl fun _ => 0))) q7 = none := (zup_n f7_5).symm.trans g7_6
  have f7_4 : ¬ q7 = q4 := fun e => by rw [e, zup_s] at g7_5; cases g7_5
  have g7_4 : (zup (zup (zup G q1 (.inl (0, 2234, .inl fun _ => 0))) q2 (.inl (0, 2234, .inl fun _ => 0))) q3 (.inl (0, 4468, .inl fun _ => 0))) q7 = none := (zup_n f7_4).symm.trans g7_5
  have f7_3 : ¬ q7 = q3 := fun e => by rw [e, zup_s] at g7_4; cases g7_4
  have g7_3 : (zup (zup G q1 (.inl (0, 2234, .inl fun _ => 0))) q2 (.inl (0, 2234, .inl fun _ => 0))) q7 = none := (zup_n f7_3).symm.trans g7_4
  have f7_2 : ¬ q7 = q2 := fun e => by rw [e, zup_s] at g7_3; cases g7_3
  have g7_2 : (zup G q1 (.inl (0, 2234, .inl fun _ => 0))) q7 = none := (zup_n f7_2).symm.trans g7_3
  have f7_1 : ¬ q7 = q1 := fun e => by rw [e, zup_s] at g7_2; cases g7_2
  have g7_1 : G q7 = none := (zup_n f7_1).symm.trans g7_2
  have z7 : G q7 = none := g7_1
  refine z_heap (zup_comm (fun e => f7_0 e.symm)) ?_
  refine z_putfF (ci := 3) (k := 7) C zup_s rfl (Nat.le_of_ble_eq_true rfl) (zfit_aI _) rfl rfl q1871 dX4_init_62 ?_
  refine z_heap (G' := zup (zup (zup (zup (zup (zup (zup (zup G q1 (.inl (0, 2234, .inl fun _ => 0))) q2 (.inl (0, 2234, .inl fun _ => 0))) q3 (.inl (0, 4468, .inl fun _ => 0))) q4 (.inl (3, 2, .inl fun _ => 0))) q5 (.inl (0, 256, .inl fun _ => 0))) q6 (.inl (0, 256, .inl fun _ => 0))) q7 (.inl (0, 256, .inl fun _ => 0))) a0 (.inr (3, [.ref q1, .ref q2, .ref q3, .ref q4, .int 0, .ref q5, .ref q6, .ref q7, .null, .null, .null, .int 0, .int 0, .int 0, .int 0, .int 0, .int 0, .int 0, .int 0, .long 0]))) zup_zup ?_
  refine z_aload_n (i := 0) C dX4_init_65 rfl rfl ?_
  refine z_sipush (v := 256) C dX4_init_66 (by decide) ?_
  refine z_newarr (ty := .int) (t := 0) (N := 256) (x0 := (256, .inl fun _ => 0)) C rfl rfl q567 (fun _ => rfl) (by decide) (by decide +kernel) (Nat.le_of_ble_eq_true rfl) (Nat.le_of_ble_eq_true rfl) (Nat.le_of_ble_eq_true rfl) dX4_init_69 ?_
  intro q8 w8 hb8
  have f8_0 : ¬ q8 = a0 := fun e => by rw [e, zup_s] at w8; cases w8
  have g8 : (zup (zup (zup (zup (zup (zup (zup G q1 (.inl (0, 2234, .inl fun _ => 0))) q2 (.inl (0, 2234, .inl fun _ => 0))) q3 (.inl (0, 4468, .inl fun _ => 0))) q4 (.inl (3, 2, .inl fun _ => 0))) q5 (.inl (0, 256, .inl fun _ => 0))) q6 (.inl (0, 256, .inl fun _ => 0))) q7 (.inl (0, 256, .inl fun _ => 0))) q8 = none := (zup_n f8_0).symm.trans w8
  have f8_7 : ¬ q8 = q7 := fun e => by rw [e, zup_s] at g8; cases g8
  have g8_7 : (zup (zup (zup (zup (zup (zup G q1 (.inl (0, 2234, .inl fun _ => 0))) q2 (.inl (0, 2234, .inl fun _ => 0))) q3 (.inl (0, 4468, .inl fun _ => 0))) q4 (.inl (3, 2, .inl fun _ => 0))) q5 (.inl (0, 256, .inl fun _ => 0))) q6 (.inl (0, 256, .inl fun _ => 0))) q8 = none := (zup_n f8_7).symm.trans g8
  have f8_6 : ¬ q8 = q6 := fun e => by rw [e, zup_s] at g8_7; cases g8_7
  have g8_6 : (zup (zup (zup (zup (zup G q1 (.inl (0, 2234, .inl fun _ => 0))) q2 (.inl (0, 2234, .inl fun _ => 0))) q3 (.inl (0, 4468, .inl fun _ => 0))) q4 (.inl (3, 2, .inl fun _ => 0))) q5 (.inl (0, 256, .inl fun _ => 0))) q8 = none := (zup_n f8_6).symm.trans g8_7
  have f8_5 : ¬ q8 = q5 := fun e => by rw [e, zup_s] at g8_6; cases g8_6
  have g8_5 : (zup (zup (zup (zup G q1 (.inl (0, 2234, .inl fun _ => 0))) q2 (.inl (0, 2234, .inl fun _ => 0))) q3 (.inl (0, 4468, .inl fun _ => 0))) q4 (.inl (3, 2, .inl fun _ => 0))) q8 = none := (zup_n f8_5).symm.trans g8_6
  have f8_4 : ¬ q8 = q4 := fun e => by rw [e, zup_s] at g8_5; cases g8_5
  have g8_4 : (zup (zup (zup G q1 (.inl (0, 2234, .inl fun _ => 0))) q2 (.inl (0, 2234, .inl fun _ => 0))) q3 (.inl (0, 4468, .inl fun _ => 0))) q8 = none := (zup_n f8_4).symm.trans g8_5
  have f8_3 : ¬ q8 = q3 := fun e => by rw [e, zup_s] at g8_4; cases g8_4
  have g8_3 : (zup (zup G q1 (.inl (0, 2234, .inl fun _ => 0))) q2 (.inl (0, 2234, .inl fun _ => 0))) q8 = none := (zup_n f8_3).symm.trans g8_4
  have f8_2 : ¬ q8 = q2 := fun e => by rw [e, zup_s] at g8_3; cases g8_3
  have g8_2 : (zup G q1 (.inl (0, 2234, .inl fun _ => 0))) q8 = none := (zup_n f8_2).symm.trans g8_3
  have f8_1 : ¬ q8 = q1 := fun e => by rw [e, zup_s] at g8_2; cases g8_2
  have g8_1 : G q8 = none := (zup_n f8_1).symm.trans g8_2
  have z8 : G q8 = none := g8_1
  refine z_heap (zup_comm (fun e => f8_0 e.symm)) ?_
  refine z_putfF (ci := 3) (k := 8) C zup_s rfl (Nat.le_of_ble_eq_true rfl) (zfit_aI _) rfl rfl q1872 dX4_init_71 ?_
  refine z_heap (G' := zup (zup (zup (zup (zup (zup (zup (zup (zup G q1 (.inl (0, 2234, .inl fun _ => 0))) q2 (.inl (0, 2234, .inl fun _ => 0))) q3 (.inl (0, 4468, .inl fun _ => 0))) q4 (.inl (3, 2, .inl fun _ => 0))) q5 (.inl (0, 256, .inl fun _ => 0))) q6 (.inl (0, 256, .inl fun _ => 0))) q7 (.inl (0, 256, .inl fun _ => 0))) q8 (.inl (0, 256, .inl fun _ => 0))) a0 (.inr (3, [.ref q1, .ref q2, .ref q3, .ref q4, .int 0, .ref q5, .ref q6, .ref q7, .ref q8, .null, .null, .int 0, .int 0, .int 0, .int 0, .int 0, .int 0, .int 0, .int 0, .long 0]))) zup_zup ?_
  refine z_aload_n (i := 0) C dX4_init_74 rfl rfl ?_
  refine z_bipush (v := 64) C dX4_init_75 (by decide) ?_
  refine z_newarr (ty := .long) (t := 1) (N := 64) (x0 := (64, .inr (.inl fun _ => 0))) C rfl rfl q568 (fun _ => rfl) (by decide) (by decide +kernel) (Nat.le_of_ble_eq_true rfl) (Nat.le_of_ble_eq_true rfl) (Nat.le_of_ble_eq_true rfl) dX4_init_77 ?_
  intro q9 w9 hb9
  have f9_0 : ¬ q9 = a0 := fun e => by rw [e, zup_s] at w9; cases w9
  have g9 : (zup (zup (zup (zup (zup (zup (zup (zup G q1 (.inl (0, 2234, .inl fun _ => 0))) q2 (.inl (0, 2234, .inl fun _ => 0))) q3 (.inl (0, 4468, .inl fun _ => 0))) q4 (.inl (3, 2, .inl fun _ => 0))) q5 (.inl (0, 256, .inl fun _ => 0))) q6 (.inl (0, 256, .inl fun _ => 0))) q7 (.inl (0, 256, .inl fun _ => 0))) q8 (.inl (0, 256, .inl fun _ => 0))) q9 = none := (zup_n f9_0).symm.trans w9
  have f9_8 : ¬ q9 = q8 := fun e => by rw [e, zup_s] at g9; cases g9
  have g9_8 : (zup (zup (zup (zup (zup (zup (zup G q1 (.inl (0, 2234, .inl fun _ => 0))) q2 (.inl (0, 2234, .inl fun _ => 0))) q3 (.inl (0, 4468, .inl fun _ => 0))) q4 (.inl (3, 2, .inl fun _ => 0))) q5 (.inl (0, 256, .inl fun _ => 0))) q6 (.inl (0, 256, .inl fun _ => 0))) q7 (.inl (0, 256, .inl fun _ => 0))) q9 = none := (zup_n f9_8).symm.trans g9
  have f9_7 : ¬ q9 = q7 := fun e => by rw [e, zup_s] at g9_8; cases g9_8
  have g9_7 : (zup (zup (zup (zup (zup (zup G q1 (.inl (0, 2234, .inl fun _ => 0))) q2 (.inl (0, 2234, .inl fun _ => 0))) q3 (.inl (0, 4468, .inl fun _ => 0))) q4 (.inl (3, 2, .inl fun _ => 0))) q5 (.inl (0, 256, .inl fun _ => 0))) q6 (.inl (0, 256, .inl fun _ => 0))) q9 = none := (zup_n f9_7).symm.trans g9_8
  have f9_6 : ¬ q9 = q6 := fun e => by rw [e, zup_s] at g9_7; cases g9_7
  have g9_6 : (zup (zup (zup (zup (zup G q1 (.inl (0, 2234, .inl fun _ => 0))) q2 (.inl (0, 2234, .inl fun _ => 0))) q3 (.inl (0, 4468, .inl fun _ => 0))) q4 (.inl (3, 2, .inl fun _ => 0))) q5 (.inl (0, 256, .inl fun _ => 0))) q9 = none := (zup_n f9_6).symm.trans g9_7
  have f9_5 : ¬ q9 = q5 := fun e => by rw [e, zup_s] at g9_6; cases g9_6
  have g9_5 : (zup (zup (zup (zup G q1 (.inl (0, 2234, .inl fun _ => 0))) q2 (.inl (0, 2234, .inl fun _ => 0))) q3 (.inl (0, 4468, .inl fun _ => 0))) q4 (.inl (3, 2, .inl fun _ => 0))) q9 = none := (zup_n f9_5).symm.trans g9_6
  have f9_4 : ¬ q9 = q4 := fun e => by rw [e, zup_s] at g9_5; cases g9_5
  have g9_4 : (zup (zup (zup G q1 (.inl (0, 2234, .inl fun _ => 0))) q2 (.inl (0, 2234, .inl fun _ => 0))) q3 (.inl (0, 4468, .inl fun _ => 0))) q9 = none := (zup_n f9_4).symm.trans g9_5
  have f9_3 : ¬ q9 = q3 := fun e => by rw [e, zup_s] at g9_4; cases g9_4
  have g9_3 : (zup (zup G q1 (.inl (0, 2234, .inl fun _ => 0))) q2 (.inl (0, 2234, .inl fun _ => 0))) q9 = none := (zup_n f9_3).symm.trans g9_4
  have f9_2 : ¬ q9 = q2 := fun e => by rw [e, zup_s] at g9_3; cases g9_3
  have g9_2 : (zup G q1 (.inl (0, 2234, .inl fun _ => 0))) q9 = none := (zup_n f9_2).symm.trans g9_3
  have f9_1 : ¬ q9 = q1 := fun e => by rw [e, zup_s] at g9_2; cases g9_2
  have g9_1 : G q9 = none := (zup_n f9_1).symm.trans g9_2
  have z9 : G q9 = none := g9_1
  refine z_heap (zup_comm (fun e => f9_0 e.symm)) ?_
  refine z_putfF (ci := 3) (k := 9) C zup_s rfl (Nat.le_of_ble_eq_true rfl) (zfit_aJ _) rfl rfl q1873 dX4_init_79 ?_
  refine z_heap (G' := zup (zup (zup (zup (zup (zup (zup (zup (zup (zup G q1 (.inl (0, 2234, .inl fun _ => 0))) q2 (.inl (0, 2234, .inl fun _ => 0))) q3 (.inl (0, 4468, .inl fun _ => 0))) q4 (.inl (3, 2, .inl fun _ => 0))) q5 (.inl (0, 256, .inl fun _ => 0))) q6 (.inl (0, 256, .inl fun _ => 0))) q7 (.inl (0, 256, .inl fun _ => 0))) q8 (.inl (0, 256, .inl fun _ => 0))) q9 (.inl (1, 64, .inr (.inl fun _ => 0)))) a0 (.inr (3, [.ref q1, .ref q2, .ref q3, .ref q4, .int 0, .ref q5, .ref q6, .ref q7, .ref q8, .ref q9, .null, .int 0, .int 0, .int 0, .int 0, .int 0, .int 0, .int 0, .int 0, .long 0]))) zup_zup ?_
  refine z_aload_n (i := 0) C dX4_init_82 rfl rfl ?_
  refine z_sipush (v := 500) C dX4_init_83 (by decide) ?_
  refine z_newarr (ty := .int) (t := 0) (N := 500) (x0 := (500, .inl fun _ => 0)) C rfl rfl q567 (fun _ => rfl) (by decide) (by decide +kernel) (Nat.le_of_ble_eq_true rfl) (Nat.le_of_ble_eq_true rfl) (Nat.le_of_ble_eq_true rfl) dX4_init_86 ?_
  intro q10 w10 hb10
  have f10_0 : ¬ q10 = a0 := fun e => by rw [e, zup_s] at w10; cases w10
  have g10 : (zup (zup (zup (zup (zup (zup (zup (zup (zup G q1 (.inl (0, 2234, .inl fun _ => 0))) q2 (.inl (0, 2234, .inl fun _ => 0))) q3 (.inl (0, 4468, .inl fun _ => 0))) q4 (.inl (3, 2, .inl fun _ => 0))) q5 (.inl (0, 256, .inl fun _ => 0))) q6 (.inl (0, 256, .inl fun _ => 0))) q7 (.inl (0, 256, .inl fun _ => 0))) q8 (.inl (0, 256, .inl fun _ => 0))) q9 (.inl (1, 64, .inr (.inl fun _ => 0)))) q10 = none := (zup_n f10_0).symm.trans w10
  have f10_9 : ¬ q10 = q9 := fun e => by rw [e, zup_s] at g10; cases g10
  have g10_9 : (zup (zup (zup (zup (zup (zup (zup (zup G q1 (.inl (0, 2234, .inl fun _ => 0))) q2 (.inl (0, 2234, .inl fun _ => 0))) q3 (.inl (0, 4468, .inl fun _ => 0))) q4 (.inl (3, 2, .inl fun _ => 0))) q5 (.inl (0, 256, .inl fun _ => 0))) q6 (.inl (0, 256, .inl fun _ => 0))) q7 (.inl (0, 256, .inl fun _ => 0))) q8 (.inl (0, 256, .inl fun _ => 0))) q10 = none := (zup_n f10_9).symm.trans g10
  have f10_8 : ¬ q10 = q8 := fun e => by rw [e, zup_s] at g10_9; cases g10_9
  have g10_8 : (zup (zup (zup (zup (zup (zup (zup G q1 (.inl (0, 2234, .inl fun _ => 0))) q2 (.inl (0, 2234, .inl fun _ => 0))) q3 (.inl (0, 4468, .inl fun _ => 0))) q4 (.inl (3, 2, .inl fun _ => 0))) q5 (.inl (0, 256, .inl fun _ => 0))) q6 (.inl (0, 256, .inl fun _ => 0))) q7 (.inl (0, 256, .inl fun _ => 0))) q10 = none := (zup_n f10_8).symm.trans g10_9
  have f10_7 : ¬ q10 = q7 := fun e => by rw [e, zup_s] at g10_8; cases g10_8
  have g10_7 : (zup (zup (zup (zup (zup (zup G q1 (.inl (0, 2234, .inl fun _ => 0))) q2 (.inl (0, 2234, .inl fun _ => 0))) q3 (.inl (0, 4468, .inl fun _ => 0))) q4 (.inl (3, 2, .inl fun _ => 0))) q5 (.inl (0, 256, .inl fun _ => 0))) q6 (.inl (0, 256, .inl fun _ => 0))) q10 = none := (zup_n f10_7).symm.trans g10_8
  have f10_6 : ¬ q10 = q6 := fun e => by rw [e, zup_s] at g10_7; cases g10_7
  have g10_6 : (zup (zup (zup (zup (zup G q1 (.inl (0, 2234, .inl fun _ => 0))) q2 (.inl (0, 2234, .inl fun _ => 0))) q3 (.inl (0, 4468, .inl fun _ => 0))) q4 (.inl (3, 2, .inl fun _ => 0))) q5 (.inl (0, 256, .inl fun _ => 0))) q10 = none := (zup_n f10_6).symm.trans g10_7
  have f10_5 : ¬ q10 = q5 := fun e => by rw [e, zup_s] at g10_6; cases g10_6
  have g10_5 : (zup (zup (zup (zup G q1 (.inl (0, 2234, .inl fun _ => 0))) q2 (.inl (0, 2234, .inl fun _ => 0))) q3 (.inl (0, 4468, .inl fun _ => 0))) q4 (.inl (3, 2, .inl fun _ => 0))) q10 = none := (zup_n f10_5).symm.trans g10_6
  have f10_4 : ¬ q10 = q4 := fun e => by rw [e, zup_s] at g10_5; cases g10_5
  have g10_4 : (zup (zup (zup G q1 (.inl (0, 2234, .inl fun _ => 0))) q2 (.inl (0, 2234, .inl fun _ => 0))) q3 (.inl (0, 4468, .inl fun _ => 0))) q10 = none := (zup_n f10_4).symm.trans g10_5
  have f10_3 : ¬ q10 = q3 := fun e => by rw [e, zup_s] at g10_4; cases g10_4
  have g10_3 : (zup (zup G q1 (.inl (0, 2234, .inl fun _ => 0))) q2 (.inl (0, 2234, .inl fun _ => 0))) q10 = none := (zup_n f10_3).symm.trans g10_4
  have f10_2 : ¬ q10 = q2 := fun e => by rw [e, zup_s] at g10_3; cases g10_3
  have g10_2 : (zup G q1 (.inl (0, 2234, .inl fun _ => 0))) q10 = none := (zup_n f10_2).symm.trans g10_3
  have f10_1 : ¬ q10 = q1 := fun e => by rw [e, zup_s] at g10_2; cases g10_2
  have g10_1 : G q10 = none := (zup_n f10_1).symm.trans g10_2
  have z10 : G q10 = none := g10_1
  refine z_heap (zup_comm (fun e => f10_0 e.symm)) ?_
  refine z_putfF (ci := 3) (k := 10) C zup_s rfl (Nat.le_of_ble_eq_true rfl) (zfit_aI _) rfl rfl q1874 dX4_init_88 ?_
  refine z_heap (G' := zup (zup (zup (zup (zup (zup (zup (zup (zup (zup (zup G q1 (.inl (0, 2234, .inl fun _ => 0))) q2 (.inl (0, 2234, .inl fun _ => 0))) q3 (.inl (0, 4468, .inl fun _ => 0))) q4 (.inl (3, 2, .inl fun _ => 0))) q5 (.inl (0, 256, .inl fun _ => 0))) q6 (.inl (0, 256, .inl fun _ => 0))) q7 (.inl (0, 256, .inl fun _ => 0))) q8 (.inl (0, 256, .inl fun _ => 0))) q9 (.inl (1, 64, .inr (.inl fun _ => 0)))) q10 (.inl (0, 500, .inl fun _ => 0))) a0 (.inr (3, [.ref q1, .ref q2, .ref q3, .ref q4, .int 0, .ref q5, .ref q6, .ref q7, .ref q8, .ref q9, .ref q10, .int 0, .int 0, .int 0, .int 0, .int 0, .int 0, .int 0, .int 0, .long 0]))) zup_zup ?_
  refine z_aload_n (i := 0) C dX4_init_91 rfl rfl ?_
  refine z_iconst (v := (-1)) C dX4_init_92 (by decide) ?_
  refine z_putf (ci := 3) (k := 18) C zup_s rfl (Nat.le_of_ble_eq_true rfl) (zfit_I _) q1882 dX4_init_93 ?_
  refine z_heap (G' := zup (zup (zup (zup (zup (zup (zup (zup (zup (zup (zup G q1 (.inl (0, 2234, .inl fun _ => 0))) q2 (.inl (0, 2234, .inl fun _ => 0))) q3 (.inl (0, 4468, .inl fun _ => 0))) q4 (.inl (3, 2, .inl fun _ => 0))) q5 (.inl (0, 256, .inl fun _ => 0))) q6 (.inl (0, 256, .inl fun _ => 0))) q7 (.inl (0, 256, .inl fun _ => 0))) q8 (.inl (0, 256, .inl fun _ => 0))) q9 (.inl (1, 64, .inr (.inl fun _ => 0)))) q10 (.inl (0, 500, .inl fun _ => 0))) a0 (.inr (3, [.ref q1, .ref q2, .ref q3, .ref q4, .int 0, .ref q5, .ref q6, .ref q7, .ref q8, .ref q9, .ref q10, .int 0, .int 0, .int 0, .int 0, .int 0, .int 0, .int 0, .int (-1), .long 0]))) zup_zup ?_
  have hnd : List.Nodup [a0, q1, q2, q3, q4, q5, q6, q7, q8, q9, q10] := by
    simp only [List.nodup_cons, List.mem_cons, List.not_mem_nil, or_false, not_or, List.nodup_nil, not_false_eq_true, and_true]
    exact ⟨⟨fun e => f1_0 e.symm, fun e => f2_0 e.symm, fun e => f3_0 e.symm, fun e => f4_0 e.symm, fun e => f5_0 e.symm, fun e => f6_0 e.symm, fun e => f7_0 e.symm, fun e => f8_0 e.symm, fun e => f9_0 e.symm, fun e => f10_0 e.symm⟩, ⟨fun e => f2_1 e.symm, fun e => f3_1 e.symm, fun e => f4_1 e.symm, fun e => f5_1 e.symm, fun e => f6_1 e.symm, fun e => f7_1 e.symm, fun e => f8_1 e.symm, fun e => f9_1 e.symm, fun e => f10_1 e.symm⟩, ⟨fun e => f3_2 e.symm, fun e => f4_2 e.symm, fun e => f5_2 e.symm, fun e => f6_2 e.symm, fun e => f7_2 e.symm, fun e => f8_2 e.symm, fun e => f9_2 e.symm, fun e => f10_2 e.symm⟩, ⟨fun e => f4_3 e.symm, fun e => f5_3 e.symm, fun e => f6_3 e.symm, fun e => f7_3 e.symm, fun e => f8_3 e.symm, fun e => f9_3 e.symm, fun e => f10_3 e.symm⟩, ⟨fun e => f5_4 e.symm, fun e => f6_4 e.symm, fun e => f7_4 e.symm, fun e => f8_4 e.symm, fun e => f9_4 e.symm, fun e => f10_4 e.symm⟩, ⟨fun e => f6_5 e.symm, fun e => f7_5 e.symm, fun e => f8_5 e.symm, fun e => f9_5 e.symm, fun e => f10_5 e.symm⟩, ⟨fun e => f7_6 e.symm, fun e => f8_6 e.symm, fun e => f9_6 e.symm, fun e => f10_6 e.symm⟩, ⟨fun e => f8_7 e.symm, fun e => f9_7 e.symm, fun e => f10_7 e.symm⟩, ⟨fun e => f9_8 e.symm, fun e => f10_8 e.symm⟩, fun e => f10_9 e.symm⟩
  obtain ⟨t, ht⟩ : ∃ t : tA, t.1 = fun i => [a0, q1, q2, q3, q4, q5, q6, q7, q8, q9, q10].getD i 0 := ⟨⟨fun i => [a0, q1, q2, q3, q4, q5, q6, q7, q8, q9, q10].getD i 0, fun i j hi hj e => znodup hnd (Nat.lt_succ_of_le hi) (Nat.lt_succ_of_le hj) e⟩, rfl⟩
  have e0 : t.1 0 = a0 := by rw [ht]; rfl
  have e1 : t.1 1 = q1 := by rw [ht]; rfl
  have e2 : t.1 2 = q2 := by rw [ht]; rfl
  have e3 : t.1 3 = q3 := by rw [ht]; rfl
  have e4 : t.1 4 = q4 := by rw [ht]; rfl
  have e5 : t.1 5 = q5 := by rw [ht]; rfl
  have e6 : t.1 6 = q6 := by rw [ht]; rfl
  have e7 : t.1 7 = q7 := by rw [ht]; rfl
  have e8 : t.1 8 = q8 := by rw [ht]; rfl
  have e9 : t.1 9 = q9 := by rw [ht]; rfl
  have e10 : t.1 10 = q10 := by rw [ht]; rfl
  have heq : zup (zup (zup (zup (zup (zup (zup (zup (zup (zup (zup G q1 (.inl (0, 2234, .inl fun _ => 0))) q2 (.inl (0, 2234, .inl fun _ => 0))) q3 (.inl (0, 4468, .inl fun _ => 0))) q4 (.inl (3, 2, .inl fun _ => 0))) q5 (.inl (0, 256, .inl fun _ => 0))) q6 (.inl (0, 256, .inl fun _ => 0))) q7 (.inl (0, 256, .inl fun _ => 0))) q8 (.inl (0, 256, .inl fun _ => 0))) q9 (.inl (1, 64, .inr (.inl fun _ => 0)))) q10 (.inl (0, 500, .inl fun _ => 0))) a0 (.inr (3, [.ref q1, .ref q2, .ref q3, .ref q4, .int 0, .ref q5, .ref q6, .ref q7, .ref q8, .ref q9, .ref q10, .int 0, .int 0, .int 0, .int 0, .int 0, .int 0, .int 0, .int (-1), .long 0])) = (tw G t (fun _ => 0) (fun _ => 0) (fun _ => 0) (fun _ => 0) 0 (fun _ => 0) (fun _ => 0) (fun _ => 0) (fun _ => 0) (fun _ => 0) (fun _ => 0) 0 0 0 0 0 0 0 (-1) 0) := by
    funext q
    have T : ∀ i, t.1 i = [a0, q1, q2, q3, q4, q5, q6, q7, q8, q9, q10].getD i 0 := fun i => by rw [ht]
    by_cases h0q : q = a0
    · subst h0q; have := tw_obj (b := G) (t := t) (st := fun _ => 0) (bk := fun _ => 0) (sv := fun _ => 0) (iz := fun _ => 0) (th := 0) (di := fun _ => 0) (re := fun _ => 0) (si := fun _ => 0) (pa := fun _ => 0) (fo := fun _ => 0) (te := fun _ => 0) (tl := 0) (po := 0) (ts := 0) (to := 0) (le := 0) (nu := 0) (ec := 0) (ep := -1) (wo := 0); rw [e0, e1, e2, e3, e4, e5, e6, e7, e8, e9, e10] at this; exact zup_s.trans this.symm
    by_cases h10q : q = q10
    · subst h10q; exact (((zup_n f10_0)).trans zup_s).trans (by rw [← e10]; exact (tw_text (t := t)).symm)
    by_cases h9q : q = q9
    · subst h9q; exact ((((zup_n f9_0)).trans (zup_n (fun e => f10_9 e.symm))).trans zup_s).trans (by rw [← e9]; exact (tw_folded (t := t)).symm)
    by_cases h8q : q = q8
    · subst h8q; exact (((((zup_n f8_0)).trans (zup_n (fun e => f10_8 e.symm))).trans (zup_n (fun e => f9_8 e.symm))).trans zup_s).trans (by rw [← e8]; exact (tw_parts (t := t)).symm)
    by_cases h7q : q = q7
    · subst h7q; exact ((((((zup_n f7_0)).trans (zup_n (fun e => f10_7 e.symm))).trans (zup_n (fun e => f9_7 e.symm))).trans (zup_n (fun e => f8_7 e.symm))).trans zup_s).trans (by rw [← e7]; exact (tw_signal (t := t)).symm)
    by_cases h6q : q = q6
    · subst h6q; exact (((((((zup_n f6_0)).trans (zup_n (fun e => f10_6 e.symm))).trans (zup_n (fun e => f9_6 e.symm))).trans (zup_n (fun e => f8_6 e.symm))).trans (zup_n (fun e => f7_6 e.symm))).trans zup_s).trans (by rw [← e6]; exact (tw_reflections (t := t)).symm)
    by_cases h5q : q = q5
    · subst h5q; exact ((((((((zup_n f5_0)).trans (zup_n (fun e => f10_5 e.symm))).trans (zup_n (fun e => f9_5 e.symm))).trans (zup_n (fun e => f8_5 e.symm))).trans (zup_n (fun e => f7_5 e.symm))).trans (zup_n (fun e => f6_5 e.symm))).trans zup_s).trans (by rw [← e5]; exact (tw_distances (t := t)).symm)
    by_cases h4q : q = q4
    · subst h4q; exact (((((((((zup_n f4_0)).trans (zup_n (fun e => f10_4 e.symm))).trans (zup_n (fun e => f9_4 e.symm))).trans (zup_n (fun e => f8_4 e.symm))).trans (zup_n (fun e => f7_4 e.symm))).trans (zup_n (fun e => f6_4 e.symm))).trans (zup_n (fun e => f5_4 e.symm))).trans zup_s).trans (by rw [← e4]; exact (tw_isSaved (t := t)).symm)
    by_cases h3q : q = q3
    · subst h3q; exact ((((((((((zup_n f3_0)).trans (zup_n (fun e => f10_3 e.symm))).trans (zup_n (fun e => f9_3 e.symm))).trans (zup_n (fun e => f8_3 e.symm))).trans (zup_n (fun e => f7_3 e.symm))).trans (zup_n (fun e => f6_3 e.symm))).trans (zup_n (fun e => f5_3 e.symm))).trans (zup_n (fun e => f4_3 e.symm))).trans zup_s).trans (by rw [← e3]; exact (tw_saved (t := t)).symm)
    by_cases h2q : q = q2
    · subst h2q; exact (((((((((((zup_n f2_0)).trans (zup_n (fun e => f10_2 e.symm))).trans (zup_n (fun e => f9_2 e.symm))).trans (zup_n (fun e => f8_2 e.symm))).trans (zup_n (fun e => f7_2 e.symm))).trans (zup_n (fun e => f6_2 e.symm))).trans (zup_n (fun e => f5_2 e.symm))).trans (zup_n (fun e => f4_2 e.symm))).trans (zup_n (fun e => f3_2 e.symm))).trans zup_s).trans (by rw [← e2]; exact (tw_backup (t := t)).symm)
    by_cases h1q : q = q1
    · subst h1q; exact ((((((((((((zup_n f1_0)).trans (zup_n (fun e => f10_1 e.symm))).trans (zup_n (fun e => f9_1 e.symm))).trans (zup_n (fun e => f8_1 e.symm))).trans (zup_n (fun e => f7_1 e.symm))).trans (zup_n (fun e => f6_1 e.symm))).trans (zup_n (fun e => f5_1 e.symm))).trans (zup_n (fun e => f4_1 e.symm))).trans (zup_n (fun e => f3_1 e.symm))).trans (zup_n (fun e => f2_1 e.symm))).trans zup_s).trans (by rw [← e1]; exact (tw_state (t := t)).symm)
    refine (((((((((((zup_n h0q).trans (zup_n h10q)).trans (zup_n h9q)).trans (zup_n h8q)).trans (zup_n h7q)).trans (zup_n h6q)).trans (zup_n h5q)).trans (zup_n h4q)).trans (zup_n h3q)).trans (zup_n h2q)).trans (zup_n h1q)).trans ?_
    show G q = tw G t _ _ _ _ _ _ _ _ _ _ _ _ _ _ _ _ _ _ _ _ q
    unfold tw
    rw [e0, e1, e2, e3, e4, e5, e6, e7, e8, e9, e10]
    exact ((if_neg h0q).trans <| (if_neg h1q).trans <| (if_neg h2q).trans <| (if_neg h3q).trans <| (if_neg h4q).trans <| (if_neg h5q).trans <| (if_neg h6q).trans <| (if_neg h7q).trans <| (if_neg h8q).trans <| (if_neg h9q).trans <| if_neg h10q).symm
  refine z_heap heq ?_
  refine z_aload_n (i := 0) C dX4_init_96 rfl rfl ?_
  refine z_eq (st' := [.ref (t.1 0)]) (by rw [e0]) rfl ?_
  refine z_callVn C (tw_obj) rfl (ct_X4_clear D B) q1860 q1862 qs24 q106 q1863 np_X4_clear (zr_ok rfl rfl) rfl rfl (Nat.le_of_ble_eq_true rfl) (⟨Nat.le_of_ble_eq_true rfl, Nat.le_of_ble_eq_true rfl⟩) dX4_init_97 ?_
  intro v9 G9 h9
  obtain ⟨rfl, sx, rfl, hsx⟩ := h9
  replace hsx : ∀ j, j < 2234 → sx j = zini j := hsx
  exact z_return C rfl dX4_init_100 (⟨rfl, t, sx, e0, fun i h1 h2 => by
    have : i = 1 ∨ i = 2 ∨ i = 3 ∨ i = 4 ∨ i = 5 ∨ i = 6 ∨ i = 7 ∨ i = 8 ∨ i = 9 ∨ i = 10 := by omega
    rcases this with rfl | rfl | rfl | rfl | rfl | rfl | rfl | rfl | rfl | rfl
    · rw [e1]; exact z1
    · rw [e2]; exact z2
    · rw [e3]; exact z3
    · rw [e4]; exact z4
    · rw [e5]; exact z5
    · rw [e6]; exact z6
    · rw [e7]; exact z7
    · rw [e8]; exact z8
    · rw [e9]; exact z9
    · rw [e10]; exact z10, hsx, rfl⟩) (Nat.le_of_ble_eq_true rfl) (Nat.le_of_ble_eq_true rfl)
