/-! the twin: tokens and parsing -/
theorem np_X4_byteAt : znp yX4_byteAt 1 := ⟨by decide +kernel, by decide +kernel, by decide +kernel⟩
theorem np_X4_isLetter : znp yX4_isLetter 1 := ⟨by decide +kernel, by decide +kernel, by decide +kernel⟩
theorem np_X4_isDigit : znp yX4_isDigit 1 := ⟨by decide +kernel, by decide +kernel, by decide +kernel⟩
set_option maxHeartbeats 4000000 in
set_option maxRecDepth 100000 in
theorem ct_X4_nextToken (D : zG) (B : Nat) {b : zH} {t : tA} {st : Nat → Int32} {bk : Nat → Int32} {sv : Nat → Int32} {iz : Nat → Int32} {th : Int32} {di : Nat → Int32} {re : Nat → Int32} {si : Nat → Int32} {pa : Nat → Int32} {fo : Nat → Int64} {te : Nat → Int32} {tl : Int32} {po : Int32} {ts : Int32} {to : Int32} {le : Int32} {nu : Int32} {ec : Int32} {ep : Int32} {wo : Int64} (p : Nat) (n : Nat) (hn5 : n ≤ 500) (hte : ∀ j, j < n → ¬ te j = -1) (hp : po = nI p) (hpn : p ≤ n) (hn : tl = nI n) : Ct D B yX4_nextToken (ws_ yX4_nextToken cX4_nextToken 2 none) (zr 2) [.ref (t.1 0)] (tw b t st bk sv iz th di re si pa fo te tl po ts to le nu ec ep wo) (zpe none (tw b t st bk sv iz th di re si pa fo te (nI n) (nI (zed te n (ztB te n p))) (nI (ztB te n p)) (nI (zkd te n (ztB te n p))) (nI (zleN te n (ztB te n p))) (znmN te n (ztB te n p)) ec ep (zwoN te n (ztB te n p)))) zno := by
  refine ct_intro (by decide +kernel) (Nat.le_of_ble_eq_true rfl) ?_
  intro X C
  subst hp hn
  obtain ⟨q, hq⟩ : ∃ q, q = ztB te n p := ⟨_, rfl⟩
  rw [← hq] at C
  have lp0 : ∀ (μ : Nat) (a : Nat) (h1 : a ≤ n) (h2 : zrun (zbsp te) (n - a) a = q), n - a < μ → Z X 0 [some (.ref (t.1 0)), none] [] (tw b t st bk sv iz th di re si pa fo te (nI n) (nI a) ts to le nu ec ep wo) 0 0 := by
    intro μ
    induction μ with
    | zero => intro a h1 h2 hμ; exact absurd hμ (Nat.not_lt_zero _)
    | succ μ ih0 =>
      intro a h1 h2 hμ
      refine z_aload_n (i := 0) C dX4_nextToken_0 rfl rfl ?_
      refine z_aload_n (i := 0) C dX4_nextToken_1 rfl rfl ?_
      refine tg_position C q1876 dX4_nextToken_2 ?_
      refine z_callVe C (tw_obj) rfl (ct_X4_byteAt D B (a) n rfl hn5 (by omega)) q2329 q2331 qs72 q106 q2332 np_X4_byteAt (zr_ok rfl rfl) rfl rfl (Nat.le_of_ble_eq_true rfl) (⟨Nat.le_of_ble_eq_true rfl, Nat.le_of_ble_eq_true rfl⟩) dX4_nextToken_5 ?_
      refine z_bipush (v := 32) C dX4_nextToken_8 (by decide) ?_
      refine z_icmp_eq (tgt := 26) C dX4_nextToken_10 (by decide) (fun c_10 => ?_) (fun c_10 => ?_)
      · refine z_aload_n (i := 0) C dX4_nextToken_26 rfl rfl ?_
        refine z_dup C dX4_nextToken_27 rfl ?_
        refine tg_position C q1876 dX4_nextToken_28 ?_
        refine z_iconst (v := 1) C dX4_nextToken_31 (by decide) ?_
        refine z_iadd C dX4_nextToken_32 ?_
        refine z_seti (nI_1 a) ?_
        refine tp_position C q1876 dX4_nextToken_33 ?_
        have hsp := zby_sp (te := te) (n := n) (p := a) (by first | exact Or.inl c_10 | exact Or.inr c_23)
        refine z_goto (tgt := 0) C dX4_nextToken_36 (by decide) ?_
        exact z_convG (ih0 (a + 1) (by omega) (by rw [← h2]; exact (zrun_1 hsp.1 hsp.2).symm) (by omega)) (And.intro (rfl) trivial) (Nat.le_of_ble_eq_true rfl) (Nat.le_of_ble_eq_true rfl)
      · refine z_aload_n (i := 0) C dX4_nextToken_13 rfl rfl ?_
        refine z_aload_n (i := 0) C dX4_nextToken_14 rfl rfl ?_
        refine tg_position C q1876 dX4_nextToken_15 ?_
        refine z_callVe C (tw_obj) rfl (ct_X4_byteAt D B (a) n rfl hn5 (by omega)) q2329 q2331 qs72 q106 q2332 np_X4_byteAt (zr_ok rfl rfl) rfl rfl (Nat.le_of_ble_eq_true rfl) (⟨Nat.le_of_ble_eq_true rfl, Nat.le_of_ble_eq_true rfl⟩) dX4_nextToken_18 ?_
        refine z_bipush (v := 10) C dX4_nextToken_21 (by decide) ?_
        refine z_icmp_ne (tgt := 39) C dX4_nextToken_23 (by decide) (fun c_23 => ?_) (fun c_23 => ?_)
        · have hst : zrun (zbsp te) (n - a) a = a := zrun_0 (zby_nsp c_10 c_23)
          have haq : a = q := hst.symm.trans h2
          clear h2 hst
          subst haq
          refine z_aload_n (i := 0) C dX4_nextToken_39 rfl rfl ?_
          refine z_aload_n (i := 0) C dX4_nextToken_40 rfl rfl ?_
          refine tg_position C q1876 dX4_nextToken_41 ?_
          refine tp_tokenStart C q1877 dX4_nextToken_44 ?_
          refine z_aload_n (i := 0) C dX4_nextToken_47 rfl rfl ?_
          refine z_iconst (v := 0) C dX4_nextToken_48 (by decide) ?_
          refine tp_letters C q1879 dX4_nextToken_49 ?_
          refine z_aload_n (i := 0) C dX4_nextToken_52 rfl rfl ?_
          refine z_lconst (v := 0) C dX4_nextToken_53 (by decide) ?_
          refine tp_word C q1883 dX4_nextToken_54 ?_
          refine z_aload_n (i := 0) C dX4_nextToken_57 rfl rfl ?_
          refine z_iconst (v := 0) C dX4_nextToken_58 (by decide) ?_
          refine tp_number C q1880 dX4_nextToken_59 ?_
          refine z_aload_n (i := 0) C dX4_nextToken_62 rfl rfl ?_
          refine z_aload_n (i := 0) C dX4_nextToken_63 rfl rfl ?_
          refine tg_position C q1876 dX4_nextToken_64 ?_
          refine z_callVe C (tw_obj) rfl (ct_X4_byteAt D B (a) n rfl hn5 (by omega)) q2329 q2331 qs72 q106 q2332 np_X4_byteAt (zr_ok rfl rfl) rfl rfl (Nat.le_of_ble_eq_true rfl) (⟨Nat.le_of_ble_eq_true rfl, Nat.le_of_ble_eq_true rfl⟩) dX4_nextToken_67 ?_
          refine z_istore_n (i := 1) C dX4_nextToken_70 rfl (Nat.le_of_ble_eq_true rfl) rfl ?_
          refine z_iload_n (i := 1) C dX4_nextToken_71 rfl rfl ?_
          refine z_iconst (v := (-1)) C dX4_nextToken_72 (by decide) ?_
          refine z_icmp_ne (tgt := 84) C dX4_nextToken_73 (by decide) (fun c_73 => ?_) (fun c_73 => ?_)
          · refine z_iload_n (i := 1) C dX4_nextToken_84 rfl rfl ?_
            refine z_callSe C (ct_X4_isLetter D B _) q2333 q2334 q106 q2335 np_X4_isLetter (zr_ok rfl rfl) rfl rfl (Nat.le_of_ble_eq_true rfl) (⟨Nat.le_of_ble_eq_true rfl, Nat.le_of_ble_eq_true rfl⟩) dX4_nextToken_85 ?_
            refine z_if_eq (tgt := 175) C dX4_nextToken_88 (by decide) (fun c_88 => ?_) (fun c_88 => ?_)
            · have hnl : ¬ (a < n ∧ zble te a = true) := fun g => (zb_eq.mp c_88) (zby_le.mpr g)
              refine z_iload_n (i := 1) C dX4_nextToken_175 rfl rfl ?_
              refine z_callSe C (ct_X4_isDigit D B _) q2338 q2339 q106 q2340 np_X4_isDigit (zr_ok rfl rfl) rfl rfl (Nat.le_of_ble_eq_true rfl) (⟨Nat.le_of_ble_eq_true rfl, Nat.le_of_ble_eq_true rfl⟩) dX4_nextToken_176 ?_
              refine z_if_eq (tgt := 254) C dX4_nextToken_179 (by decide) (fun c_179 => ?_) (fun c_179 => ?_)
              · have hnd : ¬ (a < n ∧ zbdi te a = true) := fun g => (zb_eq.mp c_179) (zby_di.mpr g)
                have han : a < n := by
                  rcases Nat.lt_or_ge a n with g | g
                  · exact g
                  · exact absurd (zby_out (by omega)) c_73
                have hnl2 : ¬ zble te a = true := fun g => hnl ⟨han, g⟩
                have hnd2 : ¬ zbdi te a = true := fun g => hnd ⟨han, g⟩
                have hby : zby te n a = te a := zby_in han
                refine z_aload_n (i := 0) C dX4_nextToken_254 rfl rfl ?_
                refine z_iload_n (i := 1) C dX4_nextToken_255 rfl rfl ?_
                refine z_bipush (v := 59) C dX4_nextToken_256 (by decide) ?_
                refine z_icmp_ne (tgt := 265) C dX4_nextToken_258 (by decide) (fun c_258 => ?_) (fun c_258 => ?_)
                · refine z_iload_n (i := 1) C dX4_nextToken_265 rfl rfl ?_
                  refine z_bipush (v := 45) C dX4_nextToken_266 (by decide) ?_
                  refine z_icmp_ne (tgt := 275) C dX4_nextToken_268 (by decide) (fun c_268 => ?_) (fun c_268 => ?_)
                  · refine z_iconst (v := 1) C dX4_nextToken_275 (by decide) ?_
                    refine tp_token C q1878 dX4_nextToken_276 ?_
                    refine z_aload_n (i := 0) C dX4_nextToken_279 rfl rfl ?_
                    refine z_dup C dX4_nextToken_280 rfl ?_
                    refine tg_position C q1876 dX4_nextToken_281 ?_
                    refine z_iconst (v := 1) C dX4_nextToken_284 (by decide) ?_
                    refine z_iadd C dX4_nextToken_285 ?_
                    refine z_seti (nI_1 a) ?_
                    refine tp_position C q1876 dX4_nextToken_286 ?_
                    exact z_return C rfl dX4_nextToken_289 (⟨rfl, by obtain ⟨e1, e2, e3, e4, e5⟩ := ztok1 han hnl2 hnd2; rw [e1, e2, e3, e4, e5, ← hby]; rw [if_neg c_258, if_neg c_268]; rfl⟩) (Nat.le_of_ble_eq_true rfl) (Nat.le_of_ble_eq_true rfl)
                  · refine z_iconst (v := 5) C dX4_nextToken_271 (by decide) ?_
                    refine z_goto (tgt := 276) C dX4_nextToken_272 (by decide) ?_
                    refine tp_token C q1878 dX4_nextToken_276 ?_
                    refine z_aload_n (i := 0) C dX4_nextToken_279 rfl rfl ?_
                    refine z_dup C dX4_nextToken_280 rfl ?_
                    refine tg_position C q1876 dX4_nextToken_281 ?_
                    refine z_iconst (v := 1) C dX4_nextToken_284 (by decide) ?_
                    refine z_iadd C dX4_nextToken_285 ?_
                    refine z_seti (nI_1 a) ?_
                    refine tp_position C q1876 dX4_nextToken_286 ?_
                    exact z_return C rfl dX4_nextToken_289 (⟨rfl, by obtain ⟨e1, e2, e3, e4, e5⟩ := ztok1 han hnl2 hnd2; rw [e1, e2, e3, e4, e5, ← hby]; rw [if_neg c_258, if_pos c_268]; rfl⟩) (Nat.le_of_ble_eq_true rfl) (Nat.le_of_ble_eq_true rfl)
                · refine z_iconst (v := 4) C dX4_nextToken_261 (by decide) ?_
                  refine z_goto (tgt := 276) C dX4_nextToken_262 (by decide) ?_
                  refine tp_token C q1878 dX4_nextToken_276 ?_
                  refine z_aload_n (i := 0) C dX4_nextToken_279 rfl rfl ?_
                  refine z_dup C dX4_nextToken_280 rfl ?_
                  refine tg_position C q1876 dX4_nextToken_281 ?_
                  refine z_iconst (v := 1) C dX4_nextToken_284 (by decide) ?_
                  refine z_iadd C dX4_nextToken_285 ?_
                  refine z_seti (nI_1 a) ?_
                  refine tp_position C q1876 dX4_nextToken_286 ?_
                  exact z_return C rfl dX4_nextToken_289 (⟨rfl, by obtain ⟨e1, e2, e3, e4, e5⟩ := ztok1 han hnl2 hnd2; rw [e1, e2, e3, e4, e5, ← hby]; rw [if_pos c_258]; rfl⟩) (Nat.le_of_ble_eq_true rfl) (Nat.le_of_ble_eq_true rfl)
              · have hd : a < n ∧ zbdi te a = true := zby_di.mp (zb_ne.mp c_179)
                have hnl2 : ¬ zble te a = true := fun g => hnl ⟨hd.1, g⟩
                refine z_aload_n (i := 0) C dX4_nextToken_182 rfl rfl ?_
                refine z_iconst (v := 3) C dX4_nextToken_183 (by decide) ?_
                refine tp_token C q1878 dX4_nextToken_184 ?_
                have lp187 : ∀ (μ : Nat) (k : Nat) (hk1 : a + k ≤ n) (hk2 : zrun (zbdi te) (n - (a + k)) (a + k) = zrun (zbdi te) (n - a) a), n - (a + k) < μ → Z X 187 [some (.ref (t.1 0)), some (.int (zby te n a))] [] (tw b t st bk sv iz th di re si pa fo te (nI n) (nI (a + k)) (nI a) 3 0 (znu te a k) ec ep 0) 0 0 := by
                  intro μ
                  induction μ with
                  | zero => intro k hk1 hk2 hμ; exact absurd hμ (Nat.not_lt_zero _)
                  | succ μ ih187 =>
                    intro k hk1 hk2 hμ
                    refine z_aload_n (i := 0) C dX4_nextToken_187 rfl rfl ?_
                    refine z_aload_n (i := 0) C dX4_nextToken_188 rfl rfl ?_
                    refine tg_position C q1876 dX4_nextToken_189 ?_
                    refine z_callVe C (tw_obj) rfl (ct_X4_byteAt D B (a + k) n rfl hn5 (by omega)) q2329 q2331 qs72 q106 q2332 np_X4_byteAt (zr_ok rfl rfl) rfl rfl (Nat.le_of_ble_eq_true rfl) (⟨Nat.le_of_ble_eq_true rfl, Nat.le_of_ble_eq_true rfl⟩) dX4_nextToken_192 ?_
                    refine z_callSe C (ct_X4_isDigit D B _) q2338 q2339 q106 q2340 np_X4_isDigit (zr_ok rfl rfl) rfl rfl (Nat.le_of_ble_eq_true rfl) (⟨Nat.le_of_ble_eq_true rfl, Nat.le_of_ble_eq_true rfl⟩) dX4_nextToken_195 ?_
                    refine z_if_eq (tgt := 289) C dX4_nextToken_198 (by decide) (fun c_198 => ?_) (fun c_198 => ?_)
                    · have hke : zrun (zbdi te) (n - (a + k)) (a + k) = a + k := zrun_0 (fun g => (zb_eq.mp c_198) (zby_di.mpr g))
                      exact z_return C rfl dX4_nextToken_289 (⟨rfl, by obtain ⟨e1, e2, e3, e4, e5⟩ := ztok3 hd.1 hnl2 hd.2 hk2 hke; rw [e1, e2, e3, e4, e5]; rfl⟩) (Nat.le_of_ble_eq_true rfl) (Nat.le_of_ble_eq_true rfl)
                    · have hkl : a + k < n ∧ zbdi te (a + k) = true := zby_di.mp (zb_ne.mp c_198)
                      refine z_aload_n (i := 0) C dX4_nextToken_201 rfl rfl ?_
                      refine z_aload_n (i := 0) C dX4_nextToken_202 rfl rfl ?_
                      refine tg_number C q1880 dX4_nextToken_203 ?_
                      refine z_sipush (v := 20000) C dX4_nextToken_206 (by decide) ?_
                      refine z_icmp_le (tgt := 219) C dX4_nextToken_209 (by decide) (fun c_209 => ?_) (fun c_209 => ?_)
                      · refine z_bipush (v := 10) C dX4_nextToken_219 (by decide) ?_
                        refine z_aload_n (i := 0) C dX4_nextToken_221 rfl rfl ?_
                        refine tg_number C q1880 dX4_nextToken_222 ?_
                        refine z_imul C dX4_nextToken_225 ?_
                        refine z_aload_n (i := 0) C dX4_nextToken_226 rfl rfl ?_
                        refine z_aload_n (i := 0) C dX4_nextToken_227 rfl rfl ?_
                        refine tg_position C q1876 dX4_nextToken_228 ?_
                        refine z_callVe C (tw_obj) rfl (ct_X4_byteAt D B (a + k) n rfl hn5 (by omega)) q2329 q2331 qs72 q106 q2332 np_X4_byteAt (zr_ok rfl rfl) rfl rfl (Nat.le_of_ble_eq_true rfl) (⟨Nat.le_of_ble_eq_true rfl, Nat.le_of_ble_eq_true rfl⟩) dX4_nextToken_231 ?_
                        refine z_seti (zby_in hkl.1) ?_
                        refine z_iadd C dX4_nextToken_234 ?_
                        refine z_bipush (v := 48) C dX4_nextToken_235 (by decide) ?_
                        refine z_isub C dX4_nextToken_237 ?_
                        refine z_seti (y := znu te a (k + 1)) (by show _ = if 20000 < znu te a k then _ else _; rw [if_neg (Int32.not_lt.mpr c_209)]) ?_
                        refine tp_number C q1880 dX4_nextToken_238 ?_
                        refine z_aload_n (i := 0) C dX4_nextToken_241 rfl rfl ?_
                        refine z_dup C dX4_nextToken_242 rfl ?_
                        refine tg_position C q1876 dX4_nextToken_243 ?_
                        refine z_iconst (v := 1) C dX4_nextToken_246 (by decide) ?_
                        refine z_iadd C dX4_nextToken_247 ?_
                        refine z_seti (y := nI (a + (k + 1))) (nI_1 (a + k)) ?_
                        refine tp_position C q1876 dX4_nextToken_248 ?_
                        refine z_goto (tgt := 187) C dX4_nextToken_251 (by decide) ?_
                        exact z_convG (ih187 (k + 1) (by omega) ((zrun_1 hkl.1 hkl.2).symm.trans hk2) (by omega)) (And.intro rfl (And.intro rfl trivial)) (Nat.le_of_ble_eq_true rfl) (Nat.le_of_ble_eq_true rfl)
                      · refine z_aload_n (i := 0) C dX4_nextToken_212 rfl rfl ?_
                        refine tg_number C q1880 dX4_nextToken_213 ?_
                        refine z_goto (tgt := 238) C dX4_nextToken_216 (by decide) ?_
                        refine z_seti (y := znu te a (k + 1)) (by show _ = if 20000 < znu te a k then _ else _; rw [if_pos (Int32.not_le.mp c_209)]) ?_
                        refine tp_number C q1880 dX4_nextToken_238 ?_
                        refine z_aload_n (i := 0) C dX4_nextToken_241 rfl rfl ?_
                        refine z_dup C dX4_nextToken_242 rfl ?_
                        refine tg_position C q1876 dX4_nextToken_243 ?_
                        refine z_iconst (v := 1) C dX4_nextToken_246 (by decide) ?_
                        refine z_iadd C dX4_nextToken_247 ?_
                        refine z_seti (y := nI (a + (k + 1))) (nI_1 (a + k)) ?_
                        refine tp_position C q1876 dX4_nextToken_248 ?_
                        refine z_goto (tgt := 187) C dX4_nextToken_251 (by decide) ?_
                        exact z_convG (ih187 (k + 1) (by omega) ((zrun_1 hkl.1 hkl.2).symm.trans hk2) (by omega)) (And.intro rfl (And.intro rfl trivial)) (Nat.le_of_ble_eq_true rfl) (Nat.le_of_ble_eq_true rfl)
                exact z_convG (lp187 501 0 (by omega) rfl (by omega)) (And.intro (rfl) (And.intro (rfl) trivial)) (Nat.le_of_ble_eq_true rfl) (Nat.le_of_ble_eq_true rfl)
            · have hl : a < n ∧ zble te a = true := zby_le.mp (zb_ne.mp c_88)
              refine z_aload_n (i := 0) C dX4_nextToken_91 rfl rfl ?_
              refine z_iconst (v := 2) C dX4_nextToken_92 (by decide) ?_
              refine tp_token C q1878 dX4_nextToken_93 ?_
              have lp96 : ∀ (μ : Nat) (k : Nat) (hk1 : a + k ≤ n) (hk2 : zrun (zble te) (n - (a + k)) (a + k) = zrun (zble te) (n - a) a), n - (a + k) < μ → Z X 96 [some (.ref (t.1 0)), some (.int (zby te n a))] [] (tw b t st bk sv iz th di re si pa fo te (nI n) (nI (a + k)) (nI a) 2 (nI k) 0 ec ep (zpk_ te a k)) 0 0 := by
                intro μ
                induction μ with
                | zero => intro k hk1 hk2 hμ; exact absurd hμ (Nat.not_lt_zero _)
                | succ μ ih96 =>
                  intro k hk1 hk2 hμ
                  refine z_aload_n (i := 0) C dX4_nextToken_96 rfl rfl ?_
                  refine z_aload_n (i := 0) C dX4_nextToken_97 rfl rfl ?_
                  refine tg_position C q1876 dX4_nextToken_98 ?_
                  refine z_callVe C (tw_obj) rfl (ct_X4_byteAt D B (a + k) n rfl hn5 (by omega)) q2329 q2331 qs72 q106 q2332 np_X4_byteAt (zr_ok rfl rfl) rfl rfl (Nat.le_of_ble_eq_true rfl) (⟨Nat.le_of_ble_eq_true rfl, Nat.le_of_ble_eq_true rfl⟩) dX4_nextToken_101 ?_
                  refine z_callSe C (ct_X4_isLetter D B _) q2333 q2334 q106 q2335 np_X4_isLetter (zr_ok rfl rfl) rfl rfl (Nat.le_of_ble_eq_true rfl) (⟨Nat.le_of_ble_eq_true rfl, Nat.le_of_ble_eq_true rfl⟩) dX4_nextToken_104 ?_
                  refine z_if_eq (tgt := 289) C dX4_nextToken_107 (by decide) (fun c_107 => ?_) (fun c_107 => ?_)
                  · have hke : zrun (zble te) (n - (a + k)) (a + k) = a + k := zrun_0 (fun g => (zb_eq.mp c_107) (zby_le.mpr g))
                    exact z_return C rfl dX4_nextToken_289 (⟨rfl, by obtain ⟨e1, e2, e3, e4, e5⟩ := ztok2 hl.1 hl.2 hk2 hke; rw [e1, e2, e3, e4, e5]; rfl⟩) (Nat.le_of_ble_eq_true rfl) (Nat.le_of_ble_eq_true rfl)
                  · have hkl : a + k < n ∧ zble te (a + k) = true := zby_le.mp (zb_ne.mp c_107)
                    refine z_aload_n (i := 0) C dX4_nextToken_110 rfl rfl ?_
                    refine z_aload_n (i := 0) C dX4_nextToken_111 rfl rfl ?_
                    refine tg_letters C q1879 dX4_nextToken_112 ?_
                    refine z_bipush (v := 10) C dX4_nextToken_115 (by decide) ?_
                    refine z_icmp_ge (tgt := 145) C dX4_nextToken_117 (by decide) (fun c_117 => ?_) (fun c_117 => ?_)
                    · have hk10 : ¬ k < 10 := by have := zge (b := 10) c_117 (by omega) (by decide); omega
                      refine z_aload_n (i := 0) C dX4_nextToken_145 rfl rfl ?_
                      refine tg_word C q1883 dX4_nextToken_146 ?_
                      refine z_setl (y := zpk_ te a (k + 1)) (by show _ = if k < 10 then _ else _; rw [if_neg hk10]) ?_
                      refine tp_word C q1883 dX4_nextToken_149 ?_
                      refine z_aload_n (i := 0) C dX4_nextToken_152 rfl rfl ?_
                      refine z_dup C dX4_nextToken_153 rfl ?_
                      refine tg_letters C q1879 dX4_nextToken_154 ?_
                      refine z_iconst (v := 1) C dX4_nextToken_157 (by decide) ?_
                      refine z_iadd C dX4_nextToken_158 ?_
                      refine z_seti (nI_1 k) ?_
                      refine tp_letters C q1879 dX4_nextToken_159 ?_
                      refine z_aload_n (i := 0) C dX4_nextToken_162 rfl rfl ?_
                      refine z_dup C dX4_nextToken_163 rfl ?_
                      refine tg_position C q1876 dX4_nextToken_164 ?_
                      refine z_iconst (v := 1) C dX4_nextToken_167 (by decide) ?_
                      refine z_iadd C dX4_nextToken_168 ?_
                      refine z_seti (y := nI (a + (k + 1))) (nI_1 (a + k)) ?_
                      refine tp_position C q1876 dX4_nextToken_169 ?_
                      refine z_goto (tgt := 96) C dX4_nextToken_172 (by decide) ?_
                      exact z_convG (ih96 (k + 1) (by omega) ((zrun_1 hkl.1 hkl.2).symm.trans hk2) (by omega)) (And.intro rfl (And.intro rfl trivial)) (Nat.le_of_ble_eq_true rfl) (Nat.le_of_ble_eq_true rfl)
                    · have hk10 : k < 10 := znge (b := 10) c_117 (by omega) (by decide)
                      refine z_ldc2 C q2336 dX4_nextToken_120 ?_
                      refine z_aload_n (i := 0) C dX4_nextToken_123 rfl rfl ?_
                      refine tg_word C q1883 dX4_nextToken_124 ?_
                      refine z_lmul C dX4_nextToken_127 ?_
                      refine z_aload_n (i := 0) C dX4_nextToken_128 rfl rfl ?_
                      refine z_aload_n (i := 0) C dX4_nextToken_129 rfl rfl ?_
                      refine tg_position C q1876 dX4_nextToken_130 ?_
                      refine z_callVe C (tw_obj) rfl (ct_X4_byteAt D B (a + k) n rfl hn5 (by omega)) q2329 q2331 qs72 q106 q2332 np_X4_byteAt (zr_ok rfl rfl) rfl rfl (Nat.le_of_ble_eq_true rfl) (⟨Nat.le_of_ble_eq_true rfl, Nat.le_of_ble_eq_true rfl⟩) dX4_nextToken_133 ?_
                      refine z_seti (zby_in hkl.1) ?_
                      refine z_i2l C dX4_nextToken_136 rfl ?_
                      refine z_ladd C dX4_nextToken_137 ?_
                      refine z_ldc2 C q2337 dX4_nextToken_138 ?_
                      refine z_lsub C dX4_nextToken_141 ?_
                      refine z_goto (tgt := 149) C dX4_nextToken_142 (by decide) ?_
                      refine z_setl (y := zpk_ te a (k + 1)) (by show _ = if k < 10 then _ else _; rw [if_pos hk10]) ?_
                      refine tp_word C q1883 dX4_nextToken_149 ?_
                      refine z_aload_n (i := 0) C dX4_nextToken_152 rfl rfl ?_
                      refine z_dup C dX4_nextToken_153 rfl ?_
                      refine tg_letters C q1879 dX4_nextToken_154 ?_
                      refine z_iconst (v := 1) C dX4_nextToken_157 (by decide) ?_
                      refine z_iadd C dX4_nextToken_158 ?_
                      refine z_seti (nI_1 k) ?_
                      refine tp_letters C q1879 dX4_nextToken_159 ?_
                      refine z_aload_n (i := 0) C dX4_nextToken_162 rfl rfl ?_
                      refine z_dup C dX4_nextToken_163 rfl ?_
                      refine tg_position C q1876 dX4_nextToken_164 ?_
                      refine z_iconst (v := 1) C dX4_nextToken_167 (by decide) ?_
                      refine z_iadd C dX4_nextToken_168 ?_
                      refine z_seti (y := nI (a + (k + 1))) (nI_1 (a + k)) ?_
                      refine tp_position C q1876 dX4_nextToken_169 ?_
                      refine z_goto (tgt := 96) C dX4_nextToken_172 (by decide) ?_
                      exact z_convG (ih96 (k + 1) (by omega) ((zrun_1 hkl.1 hkl.2).symm.trans hk2) (by omega)) (And.intro rfl (And.intro rfl trivial)) (Nat.le_of_ble_eq_true rfl) (Nat.le_of_ble_eq_true rfl)
              exact z_convG (lp96 501 0 (by omega) rfl (by omega)) (And.intro (rfl) (And.intro (rfl) trivial)) (Nat.le_of_ble_eq_true rfl) (Nat.le_of_ble_eq_true rfl)
          · have hqn : ¬ a < n := fun g => hte a g (by rw [← zby_in (te := te) g]; exact c_73)
            refine z_aload_n (i := 0) C dX4_nextToken_76 rfl rfl ?_
            refine z_iconst (v := 0) C dX4_nextToken_77 (by decide) ?_
            refine tp_token C q1878 dX4_nextToken_78 ?_
            refine z_goto (tgt := 289) C dX4_nextToken_81 (by decide) ?_
            exact z_return C rfl dX4_nextToken_289 (⟨rfl, by obtain ⟨e1, e2, e3, e4, e5⟩ := ztok0 hqn; rw [e1, e2, e3, e4, e5]; rfl⟩) (Nat.le_of_ble_eq_true rfl) (Nat.le_of_ble_eq_true rfl)
        · refine z_aload_n (i := 0) C dX4_nextToken_26 rfl rfl ?_
          refine z_dup C dX4_nextToken_27 rfl ?_
          refine tg_position C q1876 dX4_nextToken_28 ?_
          refine z_iconst (v := 1) C dX4_nextToken_31 (by decide) ?_
          refine z_iadd C dX4_nextToken_32 ?_
          refine z_seti (nI_1 a) ?_
          refine tp_position C q1876 dX4_nextToken_33 ?_
          have hsp := zby_sp (te := te) (n := n) (p := a) (by first | exact Or.inl c_10 | exact Or.inr c_23)
          refine z_goto (tgt := 0) C dX4_nextToken_36 (by decide) ?_
          exact z_convG (ih0 (a + 1) (by omega) (by rw [← h2]; exact (zrun_1 hsp.1 hsp.2).symm) (by omega)) (And.intro (rfl) trivial) (Nat.le_of_ble_eq_true rfl) (Nat.le_of_ble_eq_true rfl)
  exact z_convG (lp0 501 p hpn hq.symm (by omega)) (And.intro (rfl) trivial) (Nat.le_of_ble_eq_true rfl) (Nat.le_of_ble_eq_true rfl)
