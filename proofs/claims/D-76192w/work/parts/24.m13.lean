set_option maxHeartbeats 4000000 in
set_option maxRecDepth 100000 in
theorem m_X8_worksRules (l : Launch) (D : ga_G) (mo : Nat) (ad : Nat → Nat) (I : Nat → Int) (A : Nat → Int → Int) (kind shift : Int) (hm : (1 ≤ I 3 ∧ I 3 ≤ 3) ∧ 1 ≤ I 4 ∧ I 4 ≤ 3) (he5 : tEn (A 0)) (h1 : (0 ≤ kind ∧ kind ≤ 6) ∧ -2 ≤ shift ∧ shift ≤ 2) (hft : zFit (I 3) (I 4) kind) (hsf : mSafeR (I 3) (I 4) A) : mM l D yX8_worksRules (ws_ yX8_worksRules cX8_worksRules 9 (some .long)) (gR 4) [.int (iI kind), .int (iI shift)] mo ad I A (mL (fun r I1 A1 => r = (zRu (I 3) (I 4) A kind shift).2.2.2.1 ∧ I1 = I ∧ ∃ p9 f9 g9 l9, A1 = uN (uN (uN (uN A 22 p9) 31 f9) 33 g9) 32 l9 ∧ eOn (tCnt kind (I 3) (I 4)) 8 9 f9 (zRu (I 3) (I 4) A kind shift).1 ∧ (∀ k : Int, 0 ≤ k → k < I 3 * I 4 → g9 k = (zRu (I 3) (I 4) A kind shift).2.2.2.2 k) ∧ ∀ k : Int, 0 ≤ k → k < I 3 * I 4 → l9 k = mLf A (I 3) (I 4) (zRu (I 3) (I 4) A kind shift) k)) := by
  refine mm_met 6 rfl (Nat.le_of_ble_eq_true rfl) (L0 := [some (.ref mo), some (.int (iI kind)), some (.int (iI shift)), none, none, none, none, none, none]) rfl (fun X ok hE => ?_)
  have hmn := mn_r hm
  have hcr := tCnt_r (kind := kind) hmn
  have hss := (hsf kind shift h1.1 h1.2 hft).1
  refine ga_aload_n (pc := 0) dX8_worksRules_0 rfl ?_
  refine ga_iload_n (pc := 1) dX8_worksRules_1 rfl ?_
  refine k_X8_unknownsOf (pc := 2) (kind := kind) (z := (tPl kind (I 4) (A 22) (I 3 * I 4).toNat).1) (A2 := (uN A 22 ((tPl kind (I 4) (A 22) (I 3 * I 4).toNat).2))) ok (by first | exact hm | omega) (by first | exact h1 | omega) (rfl) (rfl) ⟨Nat.le_of_ble_eq_true rfl, Nat.le_of_ble_eq_true rfl⟩ (Nat.le_of_ble_eq_true rfl) dX8_worksRules_2 ?_
  obtain ⟨pl, epl⟩ : ∃ x, x = (tPl kind (I 4) (A 22) (I 3 * I 4).toNat).2 := ⟨_, rfl⟩
  rw [← epl, tCnt_e]
  have hpl : ∀ u : Int, 0 ≤ u → u < (tCnt kind (I 3) (I 4)) → pl u = tPlc kind (I 3) (I 4) u := fun u u0 u1 => by rw [epl]; exact tPlc_e _ _ _ _ u0 u1
  refine ga_istore_n (pc := 5) (L1 := [some (.ref mo), some (.int (iI kind)), some (.int (iI shift)), some (.int (iI (tCnt kind (I 3) (I 4)))), none, none, none, none, none]) dX8_worksRules_5 rfl (by decide) rfl ?_
  refine ga_iconst (pc := 6) dX8_worksRules_6 ?_
  refine ga_istore (pc := 7) (L1 := [some (.ref mo), some (.int (iI kind)), some (.int (iI shift)), some (.int (iI (tCnt kind (I 3) (I 4)))), some (.int (iI 0)), none, none, none, none]) dX8_worksRules_7 rfl (by decide) rfl ?_
  refine ga_heq (pc := 9) (h1 := mH mo ad I (uN (uN A 22 pl) 31 (A 31))) (congr (congrArg (mH mo ad) (rfl)) (by funext j; by_cases e0 : j = 22; (subst e0; rfl); by_cases e1 : j = 31; (subst e1; exact (show (A 31) = (A 31) from rfl)); simp only [uN, if_neg e0, if_neg e1])) ?_
  have lp9 : ∀ (N9 : Nat) (u : Int) (f : Int → Int), (0 ≤ u ∧ u ≤ (tCnt kind (I 3) (I 4))) → (∀ a q : Int, 0 ≤ a → 0 ≤ q → q ≤ 8 → a < u → f (9 * a + q) = (mRul A (I 3) (I 4) kind shift) a q) → ((tCnt kind (I 3) (I 4)) - u).toNat < N9 → G X (gR 4) RX8 9 cX8_worksRules (mH mo ad I (uN (uN A 22 pl) 31 f)) 0 0 9 [some (.ref mo), some (.int (iI kind)), some (.int (iI shift)), some (.int (iI (tCnt kind (I 3) (I 4)))), some (.int (iI u)), none, none, none, none] [] := by
    intro N9
    induction N9 with
    | zero => intro u f hu hf hN9; exact absurd hN9 (Nat.not_lt_zero _)
    | succ N9 ih9 =>
      intro u f hu hf hN9
      refine ga_iload (pc := 9) dX8_worksRules_9 rfl ?_
      refine ga_iload_n (pc := 11) dX8_worksRules_11 rfl ?_
      refine ga_icmp_ge (pc := 12) (tgt := 80) dX8_worksRules_12 rfl (by omega) (by omega) (fun c12 => ?_) (fun c12 => ?_)
      · skip
        refine ga_lconst (pc := 80) 1 dX8_worksRules_80 rfl ?_
        refine ga_lstore (pc := 81) (L1 := [some (.ref mo), some (.int (iI kind)), some (.int (iI shift)), some (.int (iI (tCnt kind (I 3) (I 4)))), some (.long (lI 1)), none, none, none, none]) dX8_worksRules_81 rfl (by decide) rfl ?_
        refine ga_iconst (pc := 83) dX8_worksRules_83 ?_
        refine ga_istore (pc := 84) (L1 := [some (.ref mo), some (.int (iI kind)), some (.int (iI shift)), some (.int (iI (tCnt kind (I 3) (I 4)))), some (.long (lI 1)), none, some (.int (iI 0)), none, none]) dX8_worksRules_84 rfl (by decide) rfl ?_
        refine ga_iconst (pc := 86) dX8_worksRules_86 ?_
        refine ga_istore (pc := 87) (L1 := [some (.ref mo), some (.int (iI kind)), some (.int (iI shift)), some (.int (iI (tCnt kind (I 3) (I 4)))), some (.long (lI 1)), none, some (.int (iI 0)), some (.int (iI 0)), none]) dX8_worksRules_87 rfl (by decide) rfl ?_
        refine ga_heq (pc := 89) (h1 := mH mo ad I (uN (uN (uN A 22 pl) 31 f) 33 (A 33))) (congr (congrArg (mH mo ad) (rfl)) (by funext j; by_cases e0 : j = 22; (subst e0; rfl); by_cases e1 : j = 31; (subst e1; rfl); by_cases e2 : j = 33; (subst e2; exact (show (A 33) = (A 33) from rfl)); simp only [uN, if_neg e0, if_neg e1, if_neg e2])) ?_
        have lp89 : ∀ (N89 : Nat) (c dn la : Int) (f g : Int → Int), (0 ≤ c ∧ c ≤ I 3 * I 4) → (dn = (eRed (tCnt kind (I 3) (I 4)) (mRul A (I 3) (I 4) kind shift) c.toNat).2.1 ∧ la = (eRed (tCnt kind (I 3) (I 4)) (mRul A (I 3) (I 4) kind shift) c.toNat).2.2.2.1) → (eOn (tCnt kind (I 3) (I 4)) 8 9 f (eRed (tCnt kind (I 3) (I 4)) (mRul A (I 3) (I 4) kind shift) c.toNat).1) → (∀ k : Int, 0 ≤ k → k < c → g k = (eRed (tCnt kind (I 3) (I 4)) (mRul A (I 3) (I 4) kind shift) c.toNat).2.2.2.2 k) → (I 3 * I 4 - c).toNat < N89 → G X (gR 4) RX8 9 cX8_worksRules (mH mo ad I (uN (uN (uN A 22 pl) 31 f) 33 g)) 0 0 89 [some (.ref mo), some (.int (iI kind)), some (.int (iI shift)), some (.int (iI (tCnt kind (I 3) (I 4)))), some (.long (lI la)), none, some (.int (iI dn)), some (.int (iI c)), none] [] := by
          intro N89
          induction N89 with
          | zero => intro c dn la f g hc hr hf hg hN89; exact absurd hN89 (Nat.not_lt_zero _)
          | succ N89 ih89 =>
            intro c dn la f g hc hr hf hg hN89
            have hrr := (eRed_r (tCnt kind (I 3) (I 4)) (mRul A (I 3) (I 4) kind shift) hcr.1 c.toNat)
            rw [← hr.1] at hrr
            have hcN : ((c.toNat : Nat) : Int) = c := by omega
            have hsc := hss c hc.1 hc.2
            refine ga_iload (pc := 89) dX8_worksRules_89 rfl ?_
            refine ga_aload_n (pc := 91) dX8_worksRules_91 rfl ?_
            refine mm_g3 (pc := 92) (z := I 3) rfl dX8_worksRules_92 ?_
            refine ga_aload_n (pc := 95) dX8_worksRules_95 rfl ?_
            refine mm_g4 (pc := 96) (z := I 4) rfl dX8_worksRules_96 ?_
            refine ga_imul (pc := 99) dX8_worksRules_99 ?_
            refine ga_icmp_ge (pc := 100) (tgt := 192) dX8_worksRules_100 rfl (by omega) (by omega) (fun c100 => ?_) (fun c100 => ?_)
            · skip
              have hcm : c = I 3 * I 4 := by omega
              subst hcm
              refine ga_iconst (pc := 192) dX8_worksRules_192 ?_
              refine ga_istore (pc := 193) (L1 := [some (.ref mo), some (.int (iI kind)), some (.int (iI shift)), some (.int (iI (tCnt kind (I 3) (I 4)))), some (.long (lI la)), none, some (.int (iI dn)), some (.int (iI 0)), none]) dX8_worksRules_193 rfl (by decide) rfl ?_
              refine ga_heq (pc := 195) (h1 := mH mo ad I (uN (uN (uN (uN A 22 pl) 31 f) 33 g) 32 (A 32))) (congr (congrArg (mH mo ad) (rfl)) (by funext j; by_cases e0 : j = 22; (subst e0; rfl); by_cases e1 : j = 31; (subst e1; rfl); by_cases e2 : j = 33; (subst e2; rfl); by_cases e3 : j = 32; (subst e3; exact (show (A 32) = (A 32) from rfl)); simp only [uN, if_neg e0, if_neg e1, if_neg e2, if_neg e3])) ?_
              have lp195 : ∀ (N195 : Nat) (p : Int) (lf : Int → Int), (0 ≤ p ∧ p ≤ I 3 * I 4) → (∀ a : Int, 0 ≤ a → a < p → lf a = mLf A (I 3) (I 4) (zRu (I 3) (I 4) A kind shift) a) → (I 3 * I 4 - p).toNat < N195 → G X (gR 4) RX8 9 cX8_worksRules (mH mo ad I (uN (uN (uN (uN A 22 pl) 31 f) 33 g) 32 lf)) 0 0 195 [some (.ref mo), some (.int (iI kind)), some (.int (iI shift)), some (.int (iI (tCnt kind (I 3) (I 4)))), some (.long (lI la)), none, some (.int (iI dn)), some (.int (iI p)), none] [] := by
                intro N195
                induction N195 with
                | zero => intro p lf hp hlf hN195; exact absurd hN195 (Nat.not_lt_zero _)
                | succ N195 ih195 =>
                  intro p lf hp hlf hN195
                  refine ga_iload (pc := 195) dX8_worksRules_195 rfl ?_
                  refine ga_aload_n (pc := 197) dX8_worksRules_197 rfl ?_
                  refine mm_g3 (pc := 198) (z := I 3) rfl dX8_worksRules_198 ?_
                  refine ga_aload_n (pc := 201) dX8_worksRules_201 rfl ?_
                  refine mm_g4 (pc := 202) (z := I 4) rfl dX8_worksRules_202 ?_
                  refine ga_imul (pc := 205) dX8_worksRules_205 ?_
                  refine ga_icmp_ge (pc := 206) (tgt := 331) dX8_worksRules_206 rfl (by omega) (by omega) (fun c206 => ?_) (fun c206 => ?_)
                  · skip
                    refine ga_lload (pc := 331) dX8_worksRules_331 rfl ?_
                    exact mm_lret hE dX8_worksRules_333 (⟨_, rfl, by dsimp only; exact ⟨hr.2, rfl, pl, f, g, lf, rfl, hf, hg, fun k k0 k1 => hlf k k0 (by omega)⟩⟩)
                  · skip
                    have hdp := dm_r hm (show 0 ≤ p ∧ p < I 3 * I 4 by omega)
                    have he6 := mE_r he5 2 (p.tdiv (I 4)) (p.tmod (I 4))
                    refine ga_aload_n (pc := 209) dX8_worksRules_209 rfl ?_
                    refine mm_g32 (pc := 210) dX8_worksRules_210 ?_
                    refine ga_iload (pc := 213) dX8_worksRules_213 rfl ?_
                    refine ga_lload (pc := 215) dX8_worksRules_215 rfl ?_
                    refine ga_aload_n (pc := 217) dX8_worksRules_217 rfl ?_
                    refine ga_iconst (pc := 218) dX8_worksRules_218 ?_
                    refine ga_iload (pc := 219) dX8_worksRules_219 rfl ?_
                    refine ga_aload_n (pc := 221) dX8_worksRules_221 rfl ?_
                    refine mm_g4 (pc := 222) (z := I 4) rfl dX8_worksRules_222 ?_
                    refine ga_idiv (pc := 225) dX8_worksRules_225 (by omega) (by omega) (by omega) ?_
                    refine ga_iload (pc := 226) dX8_worksRules_226 rfl ?_
                    refine ga_aload_n (pc := 228) dX8_worksRules_228 rfl ?_
                    refine mm_g4 (pc := 229) (z := I 4) rfl dX8_worksRules_229 ?_
                    refine ga_irem (pc := 232) dX8_worksRules_232 (by omega) (by omega) (by omega) ?_
                    refine k_X8_its (pc := 233) (t := 2) (i := (p.tdiv (I 4))) (j := (p.tmod (I 4))) (z := mE A 2 (p.tdiv (I 4)) (p.tmod (I 4))) ok (show (0 ≤ 2 ∧ 2 ≤ 2) ∧ (0 ≤ (p.tdiv (I 4)) ∧ (p.tdiv (I 4)) ≤ 2) ∧ 0 ≤ (p.tmod (I 4)) ∧ (p.tmod (I 4)) ≤ 2 from by first | exact h1 | omega) (rfl) ⟨Nat.le_of_ble_eq_true rfl, Nat.le_of_ble_eq_true rfl⟩ (Nat.le_of_ble_eq_true rfl) dX8_worksRules_233 ?_
                    refine ga_i2l (pc := 236) dX8_worksRules_236 (by omega) ?_
                    refine ga_lmul (pc := 237) dX8_worksRules_237 ?_
                    refine mm_ast32 (pc := 238) (f := lf) (A1 := (uN (uN (uN (uN A 22 pl) 31 f) 33 g) 32 (uZ lf p (la * (mE A 2 (p.tdiv (I 4)) (p.tmod (I 4))))))) ok (by omega) rfl (by funext j; by_cases e0 : j = 32; (subst e0; rfl); simp only [uN, if_neg e0]) dX8_worksRules_238 ?_
                    refine ga_iconst (pc := 239) dX8_worksRules_239 ?_
                    refine ga_istore (pc := 240) (L1 := [some (.ref mo), some (.int (iI kind)), some (.int (iI shift)), some (.int (iI (tCnt kind (I 3) (I 4)))), some (.long (lI la)), none, some (.int (iI dn)), some (.int (iI p)), some (.int (iI 0))]) dX8_worksRules_240 rfl (by decide) rfl ?_
                    have lp242 : ∀ (N242 : Nat) (q : Int) (lf2 : Int → Int), (0 ≤ q ∧ q ≤ I 3 * I 4) → (∀ a : Int, 0 ≤ a → a < p → lf2 a = mLf A (I 3) (I 4) (zRu (I 3) (I 4) A kind shift) a) → (lf2 p = (zRu (I 3) (I 4) A kind shift).2.2.2.1 * mCe A (I 4) p - zsum (mLfT A (I 4) (zRu (I 3) (I 4) A kind shift) p) q.toNat) → (I 3 * I 4 - q).toNat < N242 → G X (gR 4) RX8 9 cX8_worksRules (mH mo ad I (uN (uN (uN (uN A 22 pl) 31 f) 33 g) 32 lf2)) 0 0 242 [some (.ref mo), some (.int (iI kind)), some (.int (iI shift)), some (.int (iI (tCnt kind (I 3) (I 4)))), some (.long (lI la)), none, some (.int (iI dn)), some (.int (iI p)), some (.int (iI q))] [] := by
                      intro N242
                      induction N242 with
                      | zero => intro q lf2 hq9 hl2 hl3 hN242; exact absurd hN242 (Nat.not_lt_zero _)
                      | succ N242 ih242 =>
                        intro q lf2 hq9 hl2 hl3 hN242
                        refine ga_iload (pc := 242) dX8_worksRules_242 rfl ?_
                        refine ga_aload_n (pc := 244) dX8_worksRules_244 rfl ?_
                        refine mm_g3 (pc := 245) (z := I 3) rfl dX8_worksRules_245 ?_
                        refine ga_aload_n (pc := 248) dX8_worksRules_248 rfl ?_
                        refine mm_g4 (pc := 249) (z := I 4) rfl dX8_worksRules_249 ?_
                        refine ga_imul (pc := 252) dX8_worksRules_252 ?_
                        refine ga_icmp_ge (pc := 253) (tgt := 325) dX8_worksRules_253 rfl (by omega) (by omega) (fun c253 => ?_) (fun c253 => ?_)
                        · skip
                          refine ga_iinc (pc := 325) (L1 := [some (.ref mo), some (.int (iI kind)), some (.int (iI shift)), some (.int (iI (tCnt kind (I 3) (I 4)))), some (.long (lI la)), none, some (.int (iI dn)), some (.int (iI (p + 1))), some (.int (iI q))]) dX8_worksRules_325 rfl rfl (by decide) rfl ?_
                          refine ga_goto (pc := 328) (tgt := 195) dX8_worksRules_328 rfl ?_
                          refine ga_kill (pc := 195) 8 (L1 := [some (.ref mo), some (.int (iI kind)), some (.int (iI shift)), some (.int (iI (tCnt kind (I 3) (I 4)))), some (.long (lI la)), none, some (.int (iI dn)), some (.int (iI (p + 1))), none]) rfl ?_
                          exact ih195 (p + 1) lf2 (by omega) (fun a a0 a1 => by by_cases e : a = p; (rw [e, hl3]; unfold mLf; rw [show q = I 3 * I 4 by omega]); exact hl2 a a0 (by omega)) (by omega)
                        · skip
                          have hdq := dm_r hm (show 0 ≤ q ∧ q < I 3 * I 4 by omega)
                          have he7 := mE_r he5 2 (q.tdiv (I 4)) (q.tmod (I 4))
                          have hlq : -1 ≤ (zRu (I 3) (I 4) A kind shift).2.2.2.2 q ∧ (zRu (I 3) (I 4) A kind shift).2.2.2.2 q < (zRu (I 3) (I 4) A kind shift).2.1 := (eRed_r (tCnt kind (I 3) (I 4)) (mRul A (I 3) (I 4) kind shift) hcr.1 (I 3 * I 4).toNat).2.2 q
                          have hrk : 0 ≤ (zRu (I 3) (I 4) A kind shift).2.1 ∧ (zRu (I 3) (I 4) A kind shift).2.1 ≤ _ ∧ (zRu (I 3) (I 4) A kind shift).2.1 ≤ (tCnt kind (I 3) (I 4)) := (eRed_r (tCnt kind (I 3) (I 4)) (mRul A (I 3) (I 4) kind shift) hcr.1 (I 3 * I 4).toNat).1
                          have jn317 : ∀ (y : Int), (y = mLfT A (I 4) (zRu (I 3) (I 4) A kind shift) p q) → G X (gR 4) RX8 9 cX8_worksRules (mH mo ad I (uN (uN (uN (uN A 22 pl) 31 f) 33 g) 32 lf2)) 0 0 317 [some (.ref mo), some (.int (iI kind)), some (.int (iI shift)), some (.int (iI (tCnt kind (I 3) (I 4)))), some (.long (lI la)), none, some (.int (iI dn)), some (.int (iI p)), some (.int (iI q))] [.long (lI y), .long (lI ((zRu (I 3) (I 4) A kind shift).2.2.2.1 * mCe A (I 4) p - zsum (mLfT A (I 4) (zRu (I 3) (I 4) A kind shift) p) q.toNat)), .int (iI p), .ref (ad 32)] := by
                            intro y hy
                            refine ga_lsub (pc := 317) dX8_worksRules_317 ?_
                            refine mm_ast32 (pc := 318) (f := lf2) (A1 := (uN (uN (uN (uN A 22 pl) 31 f) 33 g) 32 (uZ lf2 p (((zRu (I 3) (I 4) A kind shift).2.2.2.1 * mCe A (I 4) p - zsum (mLfT A (I 4) (zRu (I 3) (I 4) A kind shift) p) q.toNat) - y)))) ok (by omega) rfl (by funext j; by_cases e0 : j = 32; (subst e0; rfl); simp only [uN, if_neg e0]) dX8_worksRules_318 ?_
                            refine ga_iinc (pc := 319) (L1 := [some (.ref mo), some (.int (iI kind)), some (.int (iI shift)), some (.int (iI (tCnt kind (I 3) (I 4)))), some (.long (lI la)), none, some (.int (iI dn)), some (.int (iI p)), some (.int (iI (q + 1)))]) dX8_worksRules_319 rfl rfl (by decide) rfl ?_
                            refine ga_goto (pc := 322) (tgt := 242) dX8_worksRules_322 rfl ?_
                            exact ih242 (q + 1) (uZ lf2 p (((zRu (I 3) (I 4) A kind shift).2.2.2.1 * mCe A (I 4) p - zsum (mLfT A (I 4) (zRu (I 3) (I 4) A kind shift) p) q.toNat) - y)) (by omega) (fun a a0 a1 => by unfold uZ; rw [if_neg (by omega)]; exact hl2 a a0 a1) (by unfold uZ; rw [if_pos rfl, zsum_s _ hq9.1, hy]; omega) (by omega)
                          refine ga_aload_n (pc := 256) dX8_worksRules_256 rfl ?_
                          refine mm_g32 (pc := 257) dX8_worksRules_257 ?_
                          refine ga_iload (pc := 260) dX8_worksRules_260 rfl ?_
                          refine ga_dup2_11 (pc := 262) dX8_worksRules_262 rfl rfl ?_
                          refine mm_ald32 (pc := 263) (x := (zRu (I 3) (I 4) A kind shift).2.2.2.1 * mCe A (I 4) p - zsum (mLfT A (I 4) (zRu (I 3) (I 4) A kind shift) p) q.toNat) ok (by omega) (hl3) dX8_worksRules_263 ?_
                          refine ga_aload_n (pc := 264) dX8_worksRules_264 rfl ?_
                          refine mm_g33 (pc := 265) dX8_worksRules_265 ?_
                          refine ga_iload (pc := 268) dX8_worksRules_268 rfl ?_
                          refine mm_ald33 (pc := 270) (x := (zRu (I 3) (I 4) A kind shift).2.2.2.2 q) ok (by omega) (hg q (by omega) (by omega)) dX8_worksRules_270 ?_
                          refine ga_if_ge (pc := 271) (tgt := 278) dX8_worksRules_271 rfl (by omega) (fun c271 => ?_) (fun c271 => ?_)
                          · skip
                            refine ga_aload_n (pc := 278) dX8_worksRules_278 rfl ?_
                            refine ga_iconst (pc := 279) dX8_worksRules_279 ?_
                            refine ga_iload (pc := 280) dX8_worksRules_280 rfl ?_
                            refine ga_aload_n (pc := 282) dX8_worksRules_282 rfl ?_
                            refine mm_g4 (pc := 283) (z := I 4) rfl dX8_worksRules_283 ?_
                            refine ga_idiv (pc := 286) dX8_worksRules_286 (by omega) (by omega) (by omega) ?_
                            refine ga_iload (pc := 287) dX8_worksRules_287 rfl ?_
                            refine ga_aload_n (pc := 289) dX8_worksRules_289 rfl ?_
                            refine mm_g4 (pc := 290) (z := I 4) rfl dX8_worksRules_290 ?_
                            refine ga_irem (pc := 293) dX8_worksRules_293 (by omega) (by omega) (by omega) ?_
                            refine k_X8_its (pc := 294) (t := 2) (i := (q.tdiv (I 4))) (j := (q.tmod (I 4))) (z := mE A 2 (q.tdiv (I 4)) (q.tmod (I 4))) ok (show (0 ≤ 2 ∧ 2 ≤ 2) ∧ (0 ≤ (q.tdiv (I 4)) ∧ (q.tdiv (I 4)) ≤ 2) ∧ 0 ≤ (q.tmod (I 4)) ∧ (q.tmod (I 4)) ≤ 2 from by first | exact h1 | omega) (rfl) ⟨Nat.le_of_ble_eq_true rfl, Nat.le_of_ble_eq_true rfl⟩ (Nat.le_of_ble_eq_true rfl) dX8_worksRules_294 ?_
                            refine ga_i2l (pc := 297) dX8_worksRules_297 (by omega) ?_
                            refine ga_aload_n (pc := 298) dX8_worksRules_298 rfl ?_
                            refine mm_g31 (pc := 299) dX8_worksRules_299 ?_
                            refine ga_bipush (pc := 302) dX8_worksRules_302 rfl ?_
                            refine ga_aload_n (pc := 304) dX8_worksRules_304 rfl ?_
                            refine mm_g33 (pc := 305) dX8_worksRules_305 ?_
                            refine ga_iload (pc := 308) dX8_worksRules_308 rfl ?_
                            refine mm_ald33 (pc := 310) (x := (zRu (I 3) (I 4) A kind shift).2.2.2.2 q) ok (by omega) (hg q (by omega) (by omega)) dX8_worksRules_310 ?_
                            refine ga_imul (pc := 311) dX8_worksRules_311 ?_
                            refine ga_iload (pc := 312) dX8_worksRules_312 rfl ?_
                            refine ga_iadd (pc := 314) dX8_worksRules_314 ?_
                            refine mm_ald31 (pc := 315) (x := (zRu (I 3) (I 4) A kind shift).1 ((zRu (I 3) (I 4) A kind shift).2.2.2.2 q) p) ok (by omega) (hf _ p (by omega) (by omega) (by omega) (by omega)) dX8_worksRules_315 ?_
                            refine ga_lmul (pc := 316) dX8_worksRules_316 ?_
                            exact jn317 ((mE A 2 (q.tdiv (I 4)) (q.tmod (I 4))) * ((zRu (I 3) (I 4) A kind shift).1 ((zRu (I 3) (I 4) A kind shift).2.2.2.2 q) p)) (by unfold mLfT mCe; first | rw [if_pos (by omega)] | rw [if_neg (by omega)])
                          · skip
                            refine ga_lconst (pc := 274) 0 dX8_worksRules_274 rfl ?_
                            refine ga_goto (pc := 275) (tgt := 317) dX8_worksRules_275 rfl ?_
                            exact jn317 0 (by unfold mLfT mCe; first | rw [if_pos (by omega)] | rw [if_neg (by omega)])
                    exact lp242 _ 0 (uZ lf p (la * (mE A 2 (p.tdiv (I 4)) (p.tmod (I 4))))) (by omega) (fun a a0 a1 => by unfold uZ; rw [if_neg (by omega)]; exact hlf a a0 a1) (by unfold uZ; rw [if_pos rfl, hr.2]; unfold mCe; show _ = _ - 0; rw [Int.sub_zero]; rfl) (Nat.lt_succ_self _)
              exact lp195 _ 0 (A 32) (by omega) (fun a a0 a1 => by omega) (Nat.lt_succ_self _)
            · skip
              refine ga_iload (pc := 103) dX8_worksRules_103 rfl ?_
              refine ga_istore (pc := 105) (L1 := [some (.ref mo), some (.int (iI kind)), some (.int (iI shift)), some (.int (iI (tCnt kind (I 3) (I 4)))), some (.long (lI la)), none, some (.int (iI dn)), some (.int (iI c)), some (.int (iI dn))]) dX8_worksRules_105 rfl (by decide) rfl ?_
              have jn137 : ∀ (row : Int), (dn ≤ row ∧ row ≤ (tCnt kind (I 3) (I 4))) → (row = eRow (tCnt kind (I 3) (I 4)) c (eRed (tCnt kind (I 3) (I 4)) (mRul A (I 3) (I 4) kind shift) c.toNat)) → G X (gR 4) RX8 9 cX8_worksRules (mH mo ad I (uN (uN (uN A 22 pl) 31 f) 33 g)) 0 0 137 [some (.ref mo), some (.int (iI kind)), some (.int (iI shift)), some (.int (iI (tCnt kind (I 3) (I 4)))), some (.long (lI la)), none, some (.int (iI dn)), some (.int (iI c)), some (.int (iI row))] [] := by
                intro row hrow hE0
                have jn155 : ∀ (x : Int), (x = if row < (tCnt kind (I 3) (I 4)) then dn else -1) → G X (gR 4) RX8 9 cX8_worksRules (mH mo ad I (uN (uN (uN A 22 pl) 31 f) 33 g)) 0 0 155 [some (.ref mo), some (.int (iI kind)), some (.int (iI shift)), some (.int (iI (tCnt kind (I 3) (I 4)))), some (.long (lI la)), none, some (.int (iI dn)), some (.int (iI c)), some (.int (iI row))] [.int (iI x), .int (iI c), .ref (ad 33)] := by
                  intro x hx
                  refine mm_ast33 (pc := 155) (f := g) (A1 := (uN (uN (uN A 22 pl) 31 f) 33 (uZ g c x))) ok (by omega) rfl (by funext j; by_cases e0 : j = 33; (subst e0; rfl); simp only [uN, if_neg e0]) dX8_worksRules_155 ?_
                  have jn186 : ∀ (dn2 la2 : Int) (f2 g2 : Int → Int), (dn2 = (eRed (tCnt kind (I 3) (I 4)) (mRul A (I 3) (I 4) kind shift) (c + 1).toNat).2.1 ∧ la2 = (eRed (tCnt kind (I 3) (I 4)) (mRul A (I 3) (I 4) kind shift) (c + 1).toNat).2.2.2.1) → (eOn (tCnt kind (I 3) (I 4)) 8 9 f2 (eRed (tCnt kind (I 3) (I 4)) (mRul A (I 3) (I 4) kind shift) (c + 1).toNat).1) → (∀ k : Int, 0 ≤ k → k < c + 1 → g2 k = (eRed (tCnt kind (I 3) (I 4)) (mRul A (I 3) (I 4) kind shift) (c + 1).toNat).2.2.2.2 k) → G X (gR 4) RX8 9 cX8_worksRules (mH mo ad I (uN (uN (uN A 22 pl) 31 f2) 33 g2)) 0 0 186 [some (.ref mo), some (.int (iI kind)), some (.int (iI shift)), some (.int (iI (tCnt kind (I 3) (I 4)))), some (.long (lI la2)), none, some (.int (iI dn2)), some (.int (iI c)), none] [] := by
                    intro dn2 la2 f2 g2 hr2 hf2 hg2
                    refine ga_iinc (pc := 186) (L1 := [some (.ref mo), some (.int (iI kind)), some (.int (iI shift)), some (.int (iI (tCnt kind (I 3) (I 4)))), some (.long (lI la2)), none, some (.int (iI dn2)), some (.int (iI (c + 1))), none]) dX8_worksRules_186 rfl rfl (by decide) rfl ?_
                    refine ga_goto (pc := 189) (tgt := 89) dX8_worksRules_189 rfl ?_
                    exact ih89 (c + 1) dn2 la2 f2 g2 (by omega) (hr2) (hf2) (hg2) (by omega)
                  refine ga_iload (pc := 156) dX8_worksRules_156 rfl ?_
                  refine ga_iload_n (pc := 158) dX8_worksRules_158 rfl ?_
                  refine ga_icmp_ge (pc := 159) (tgt := 186) dX8_worksRules_159 rfl (by omega) (by omega) (fun c159 => ?_) (fun c159 => ?_)
                  · skip
                    refine ga_kill (pc := 186) 8 (L1 := [some (.ref mo), some (.int (iI kind)), some (.int (iI shift)), some (.int (iI (tCnt kind (I 3) (I 4)))), some (.long (lI la)), none, some (.int (iI dn)), some (.int (iI c)), none]) rfl ?_
                    exact jn186 dn la f (uZ g c x) (by rw [eRed_s _ _ hc.1, eStep_n (by omega)]; exact hr) (by rw [eRed_s _ _ hc.1, eStep_n (by omega)]; exact hf) (fun k k0 k1 => by rw [eRed_s _ _ hc.1, eStep_n (by omega)]; dsimp only; unfold uZ; split; (rw [hx]; first | rw [if_pos (by omega)] | rw [if_neg (by omega)]); exact hg k k0 (by omega))
                  · skip
                    refine ga_aload_n (pc := 162) dX8_worksRules_162 rfl ?_
                    refine ga_iload (pc := 163) dX8_worksRules_163 rfl ?_
                    refine ga_iload (pc := 165) dX8_worksRules_165 rfl ?_
                    refine k_X8_swapsRules (pc := 167) (a := row) (b := dn) (H := (tCnt kind (I 3) (I 4))) (T := (eRed (tCnt kind (I 3) (I 4)) (mRul A (I 3) (I 4) kind shift) c.toNat).1) ok (show (0 ≤ row ∧ row < (tCnt kind (I 3) (I 4))) ∧ (0 ≤ dn ∧ dn < (tCnt kind (I 3) (I 4))) ∧ (tCnt kind (I 3) (I 4)) ≤ 7 from by first | exact h1 | omega) (show eOn (tCnt kind (I 3) (I 4)) 8 9 (f) (eRed (tCnt kind (I 3) (I 4)) (mRul A (I 3) (I 4) kind shift) c.toNat).1 from hf) ⟨Nat.le_of_ble_eq_true rfl, Nat.le_of_ble_eq_true rfl⟩ (Nat.le_of_ble_eq_true rfl) dX8_worksRules_167 (fun I167 A167 hp167 => ?_)
                    obtain ⟨eI167, f3, rfl, hf3⟩ := hp167
                    rw [eI167]
                    refine ga_aload_n (pc := 170) dX8_worksRules_170 rfl ?_
                    refine ga_iload (pc := 171) dX8_worksRules_171 rfl ?_
                    refine ga_iload_n (pc := 173) dX8_worksRules_173 rfl ?_
                    refine ga_iload (pc := 174) dX8_worksRules_174 rfl ?_
                    refine ga_lload (pc := 176) dX8_worksRules_176 rfl ?_
                    refine k_X8_clearsRules (pc := 178) (ro := dn) (H := (tCnt kind (I 3) (I 4))) (c := c) (de := la) (T := (eSw (eRed (tCnt kind (I 3) (I 4)) (mRul A (I 3) (I 4) kind shift) c.toNat).1 row dn)) ok (show (0 ≤ dn ∧ dn < (tCnt kind (I 3) (I 4))) ∧ (0 ≤ c ∧ c ≤ 8) ∧ (tCnt kind (I 3) (I 4)) ≤ 7 from by omega) (show la ≠ 0 ∧ z40 la from by rw [hr.2]; exact hsc.2.1) (show eOn (tCnt kind (I 3) (I 4)) 8 9 (f3) (eSw (eRed (tCnt kind (I 3) (I 4)) (mRul A (I 3) (I 4) kind shift) c.toNat).1 row dn) from hf3) (show ∀ p q : Int, 0 ≤ p → p < (tCnt kind (I 3) (I 4)) → p ≠ dn → 0 ≤ q → q ≤ 9 → z62 ((eSw (eRed (tCnt kind (I 3) (I 4)) (mRul A (I 3) (I 4) kind shift) c.toNat).1 row dn) dn c * (eSw (eRed (tCnt kind (I 3) (I 4)) (mRul A (I 3) (I 4) kind shift) c.toNat).1 row dn) p q) ∧ z62 ((eSw (eRed (tCnt kind (I 3) (I 4)) (mRul A (I 3) (I 4) kind shift) c.toNat).1 row dn) p c * (eSw (eRed (tCnt kind (I 3) (I 4)) (mRul A (I 3) (I 4) kind shift) c.toNat).1 row dn) dn q) from fun p q p0 p1 p2 q0 q1 => by rw [hE0, hr.1]; exact hsc.2.2 (by omega) (by rw [← hE0]; omega) p q p0 p1 (by rw [← hr.1]; exact p2) q0 q1) ⟨Nat.le_of_ble_eq_true rfl, Nat.le_of_ble_eq_true rfl⟩ (Nat.le_of_ble_eq_true rfl) dX8_worksRules_178 (fun r178 I178 A178 hp178 => ?_)
                    obtain ⟨er178, eI178, f4, rfl, hf4⟩ := hp178
                    rw [eI178, er178]
                    refine ga_lstore (pc := 181) (L1 := [some (.ref mo), some (.int (iI kind)), some (.int (iI shift)), some (.int (iI (tCnt kind (I 3) (I 4)))), some (.long (lI (eSw (eRed (tCnt kind (I 3) (I 4)) (mRul A (I 3) (I 4) kind shift) c.toNat).1 row dn dn c))), none, some (.int (iI dn)), some (.int (iI c)), some (.int (iI row))]) dX8_worksRules_181 rfl (by decide) rfl ?_
                    refine ga_iinc (pc := 183) (L1 := [some (.ref mo), some (.int (iI kind)), some (.int (iI shift)), some (.int (iI (tCnt kind (I 3) (I 4)))), some (.long (lI (eSw (eRed (tCnt kind (I 3) (I 4)) (mRul A (I 3) (I 4) kind shift) c.toNat).1 row dn dn c))), none, some (.int (iI (dn + 1))), some (.int (iI c)), some (.int (iI row))]) dX8_worksRules_183 rfl rfl (by decide) rfl ?_
                    refine ga_kill (pc := 186) 8 (L1 := [some (.ref mo), some (.int (iI kind)), some (.int (iI shift)), some (.int (iI (tCnt kind (I 3) (I 4)))), some (.long (lI (eSw (eRed (tCnt kind (I 3) (I 4)) (mRul A (I 3) (I 4) kind shift) c.toNat).1 row dn dn c))), none, some (.int (iI (dn + 1))), some (.int (iI c)), none]) rfl ?_
                    refine ga_heq (pc := 186) (h1 := mH mo ad I (uN (uN (uN A 22 pl) 31 f4) 33 (uZ g c x))) (congr (congrArg (mH mo ad) (rfl)) (by funext j; by_cases e0 : j = 22; (subst e0; rfl); by_cases e1 : j = 31; (subst e1; rfl); by_cases e2 : j = 33; (subst e2; rfl); simp only [uN, if_neg e0, if_neg e1, if_neg e2])) ?_
                    exact jn186 (dn + 1) (eSw (eRed (tCnt kind (I 3) (I 4)) (mRul A (I 3) (I 4) kind shift) c.toNat).1 row dn dn c) f4 (uZ g c x) (by rw [eRed_s _ _ hc.1, eStep_y (by omega), ← hE0, ← hr.1, ← hr.2]; exact ⟨rfl, rfl⟩) (by rw [eRed_s _ _ hc.1, eStep_y (by omega), ← hE0, ← hr.1, ← hr.2]; exact hf4) (fun k k0 k1 => by rw [eRed_s _ _ hc.1, eStep_y (by omega), ← hE0, ← hr.1, ← hr.2]; dsimp only; unfold uZ; split; (rw [hx]; first | rw [if_pos (by omega)] | rw [if_neg (by omega)]); exact hg k k0 (by omega))
                refine ga_aload_n (pc := 137) dX8_worksRules_137 rfl ?_
                refine mm_g33 (pc := 138) dX8_worksRules_138 ?_
                refine ga_iload (pc := 141) dX8_worksRules_141 rfl ?_
                refine ga_iload (pc := 143) dX8_worksRules_143 rfl ?_
                refine ga_iload_n (pc := 145) dX8_worksRules_145 rfl ?_
                refine ga_icmp_ge (pc := 146) (tgt := 154) dX8_worksRules_146 rfl (by omega) (by omega) (fun c146 => ?_) (fun c146 => ?_)
                · skip
                  refine ga_iconst (pc := 154) dX8_worksRules_154 ?_
                  exact jn155 (-1) (by first | rw [if_pos (by omega)] | rw [if_neg (by omega)])
                · skip
                  refine ga_iload (pc := 149) dX8_worksRules_149 rfl ?_
                  refine ga_goto (pc := 151) (tgt := 155) dX8_worksRules_151 rfl ?_
                  exact jn155 dn (by first | rw [if_pos (by omega)] | rw [if_neg (by omega)])
              have lp107 : ∀ (N107 : Nat) (row : Int), (dn ≤ row ∧ row ≤ (tCnt kind (I 3) (I 4))) → (zFind (eRed (tCnt kind (I 3) (I 4)) (mRul A (I 3) (I 4) kind shift) c.toNat).1 (tCnt kind (I 3) (I 4)) c ((tCnt kind (I 3) (I 4)) - row).toNat row = eRow (tCnt kind (I 3) (I 4)) c (eRed (tCnt kind (I 3) (I 4)) (mRul A (I 3) (I 4) kind shift) c.toNat)) → ((tCnt kind (I 3) (I 4)) - row).toNat < N107 → G X (gR 4) RX8 9 cX8_worksRules (mH mo ad I (uN (uN (uN A 22 pl) 31 f) 33 g)) 0 0 107 [some (.ref mo), some (.int (iI kind)), some (.int (iI shift)), some (.int (iI (tCnt kind (I 3) (I 4)))), some (.long (lI la)), none, some (.int (iI dn)), some (.int (iI c)), some (.int (iI row))] [] := by
                intro N107
                induction N107 with
                | zero => intro row hrow hfi hN107; exact absurd hN107 (Nat.not_lt_zero _)
                | succ N107 ih107 =>
                  intro row hrow hfi hN107
                  refine ga_iload (pc := 107) dX8_worksRules_107 rfl ?_
                  refine ga_iload_n (pc := 109) dX8_worksRules_109 rfl ?_
                  refine ga_icmp_ge (pc := 110) (tgt := 137) dX8_worksRules_110 rfl (by omega) (by omega) (fun c110 => ?_) (fun c110 => ?_)
                  · skip
                    exact jn137 row (by omega) (by rw [← hfi, zFind_x (by omega)])
                  · skip
                    refine ga_aload_n (pc := 113) dX8_worksRules_113 rfl ?_
                    refine mm_g31 (pc := 114) dX8_worksRules_114 ?_
                    refine ga_bipush (pc := 117) dX8_worksRules_117 rfl ?_
                    refine ga_iload (pc := 119) dX8_worksRules_119 rfl ?_
                    refine ga_imul (pc := 121) dX8_worksRules_121 ?_
                    refine ga_iload (pc := 122) dX8_worksRules_122 rfl ?_
                    refine ga_iadd (pc := 124) dX8_worksRules_124 ?_
                    have hsr := hsc.1 row c (by omega) (by omega) (by omega) (by omega)
                    refine mm_ald31 (pc := 125) (x := (eRed (tCnt kind (I 3) (I 4)) (mRul A (I 3) (I 4) kind shift) c.toNat).1 row c) ok (by omega) (hf row c (by omega) (by omega) (by omega) (by omega)) dX8_worksRules_125 ?_
                    refine ga_lconst (pc := 126) 0 dX8_worksRules_126 rfl ?_
                    refine ga_lcmp (pc := 127) dX8_worksRules_127 (by omega) (by omega) ?_
                    refine ga_ifc_ne (pc := 128) (tgt := 137) dX8_worksRules_128 rfl (fun c128 => ?_) (fun c128 => ?_)
                    · skip
                      exact jn137 row (by omega) (by rw [← hfi, zFind_x (by omega)])
                    · skip
                      refine ga_iinc (pc := 131) (L1 := [some (.ref mo), some (.int (iI kind)), some (.int (iI shift)), some (.int (iI (tCnt kind (I 3) (I 4)))), some (.long (lI la)), none, some (.int (iI dn)), some (.int (iI c)), some (.int (iI (row + 1)))]) dX8_worksRules_131 rfl rfl (by decide) rfl ?_
                      refine ga_goto (pc := 134) (tgt := 107) dX8_worksRules_134 rfl ?_
                      exact ih107 (row + 1) (by omega) (by rw [← hfi, zFind_t (r := row) (by omega)]) (by omega)
              exact lp107 _ dn (by omega) (by unfold eRow; rw [← hr.1]) (Nat.lt_succ_self _)
        exact lp89 _ 0 0 1 f (A 33) (by omega) (⟨rfl, rfl⟩) (fun a q a0 a1 q0 q1 => hf a q a0 q0 q1 (by omega)) (fun k k0 k1 => by omega) (Nat.lt_succ_self _)
      · skip
        refine ga_iconst (pc := 15) dX8_worksRules_15 ?_
        refine ga_istore (pc := 16) (L1 := [some (.ref mo), some (.int (iI kind)), some (.int (iI shift)), some (.int (iI (tCnt kind (I 3) (I 4)))), some (.int (iI u)), some (.int (iI 0)), none, none, none]) dX8_worksRules_16 rfl (by decide) rfl ?_
        have lp18 : ∀ (N18 : Nat) (p : Int) (f : Int → Int), (0 ≤ p ∧ p ≤ 9) → (∀ a q : Int, 0 ≤ a → 0 ≤ q → q ≤ 8 → (a < u ∨ (a = u ∧ q < p)) → f (9 * a + q) = (mRul A (I 3) (I 4) kind shift) a q) → (9 - p).toNat < N18 → G X (gR 4) RX8 9 cX8_worksRules (mH mo ad I (uN (uN A 22 pl) 31 f)) 0 0 18 [some (.ref mo), some (.int (iI kind)), some (.int (iI shift)), some (.int (iI (tCnt kind (I 3) (I 4)))), some (.int (iI u)), some (.int (iI p)), none, none, none] [] := by
          intro N18
          induction N18 with
          | zero => intro p f hp hf hN18; exact absurd hN18 (Nat.not_lt_zero _)
          | succ N18 ih18 =>
            intro p f hp hf hN18
            refine ga_iload (pc := 18) dX8_worksRules_18 rfl ?_
            refine ga_bipush (pc := 20) dX8_worksRules_20 rfl ?_
            refine ga_icmp_ge (pc := 22) (tgt := 74) dX8_worksRules_22 rfl (by omega) (by omega) (fun c22 => ?_) (fun c22 => ?_)
            · skip
              refine ga_iinc (pc := 74) (L1 := [some (.ref mo), some (.int (iI kind)), some (.int (iI shift)), some (.int (iI (tCnt kind (I 3) (I 4)))), some (.int (iI (u + 1))), some (.int (iI p)), none, none, none]) dX8_worksRules_74 rfl rfl (by decide) rfl ?_
              refine ga_goto (pc := 77) (tgt := 9) dX8_worksRules_77 rfl ?_
              refine ga_kill (pc := 9) 5 (L1 := [some (.ref mo), some (.int (iI kind)), some (.int (iI shift)), some (.int (iI (tCnt kind (I 3) (I 4)))), some (.int (iI (u + 1))), none, none, none, none]) rfl ?_
              exact ih9 (u + 1) f (by omega) (fun a q a0 q0 q1 h => hf a q a0 q0 q1 (by omega)) (by omega)
            · skip
              have hup : 0 ≤ tPlc kind (I 3) (I 4) u ∧ tPlc kind (I 3) (I 4) u < I 3 * I 4 := tPlc_r hmn (by omega) (by omega)
              have hplu := hpl u (by omega) (by omega)
              have htr := mTak_r (A := A) he5 (n := I 4) (kind := kind) (shape := kind) (shift := shift) (p := p) (pl := pl u) h1.2 (k := (I 3 * I 4).toNat) (by omega)
              have jn67 : ∀ (x : Int), (x = (mRul A (I 3) (I 4) kind shift) u p) → G X (gR 4) RX8 9 cX8_worksRules (mH mo ad I (uN (uN A 22 pl) 31 f)) 0 0 67 [some (.ref mo), some (.int (iI kind)), some (.int (iI shift)), some (.int (iI (tCnt kind (I 3) (I 4)))), some (.int (iI u)), some (.int (iI p)), none, none, none] [.long (lI x), .int (iI ((9 * u) + p)), .ref (ad 31)] := by
                intro x hx
                refine mm_ast31 (pc := 67) (f := f) (A1 := (uN (uN A 22 pl) 31 (uZ f ((9 * u) + p) x))) ok (by omega) rfl (by funext j; by_cases e0 : j = 31; (subst e0; rfl); simp only [uN, if_neg e0]) dX8_worksRules_67 ?_
                refine ga_iinc (pc := 68) (L1 := [some (.ref mo), some (.int (iI kind)), some (.int (iI shift)), some (.int (iI (tCnt kind (I 3) (I 4)))), some (.int (iI u)), some (.int (iI (p + 1))), none, none, none]) dX8_worksRules_68 rfl rfl (by decide) rfl ?_
                refine ga_goto (pc := 71) (tgt := 18) dX8_worksRules_71 rfl ?_
                exact ih18 (p + 1) (uZ f ((9 * u) + p) x) (by omega) (fun a q a0 q0 q1 h => by unfold uZ; by_cases e : a = u ∧ q = p; (rw [if_pos (by omega), e.1, e.2]; exact hx); rw [if_neg (by omega)]; exact hf a q a0 q0 q1 (by omega)) (by omega)
              refine ga_aload_n (pc := 25) dX8_worksRules_25 rfl ?_
              refine mm_g31 (pc := 26) dX8_worksRules_26 ?_
              refine ga_bipush (pc := 29) dX8_worksRules_29 rfl ?_
              refine ga_iload (pc := 31) dX8_worksRules_31 rfl ?_
              refine ga_imul (pc := 33) dX8_worksRules_33 ?_
              refine ga_iload (pc := 34) dX8_worksRules_34 rfl ?_
              refine ga_iadd (pc := 36) dX8_worksRules_36 ?_
              refine ga_iload (pc := 37) dX8_worksRules_37 rfl ?_
              refine ga_aload_n (pc := 39) dX8_worksRules_39 rfl ?_
              refine mm_g3 (pc := 40) (z := I 3) rfl dX8_worksRules_40 ?_
              refine ga_aload_n (pc := 43) dX8_worksRules_43 rfl ?_
              refine mm_g4 (pc := 44) (z := I 4) rfl dX8_worksRules_44 ?_
              refine ga_imul (pc := 47) dX8_worksRules_47 ?_
              refine ga_icmp_ge (pc := 48) (tgt := 66) dX8_worksRules_48 rfl (by omega) (by omega) (fun c48 => ?_) (fun c48 => ?_)
              · skip
                refine ga_lconst (pc := 66) 0 dX8_worksRules_66 rfl ?_
                exact jn67 0 (by unfold mRul; first | (rw [if_neg (by omega)]; done) | (rw [if_pos (by omega), hplu]))
              · skip
                refine ga_aload_n (pc := 51) dX8_worksRules_51 rfl ?_
                refine ga_iload_n (pc := 52) dX8_worksRules_52 rfl ?_
                refine ga_iload_n (pc := 53) dX8_worksRules_53 rfl ?_
                refine ga_iload_n (pc := 54) dX8_worksRules_54 rfl ?_
                refine ga_iload (pc := 55) dX8_worksRules_55 rfl ?_
                refine ga_iload (pc := 57) dX8_worksRules_57 rfl ?_
                refine k_X8_takenBy (pc := 59) (kind := kind) (shape := kind) (shift := shift) (p := p) (u := u) (z := mTak A (I 4) kind kind shift p (pl u) (I 3 * I 4).toNat) ok (show (1 ≤ I 3 ∧ I 3 ≤ 3) ∧ 1 ≤ I 4 ∧ I 4 ≤ 3 from by first | exact hm | omega) (show (0 ≤ kind ∧ kind ≤ 6) ∧ (0 ≤ kind ∧ kind ≤ 6) ∧ (0 ≤ p ∧ p < I 3 * I 4) ∧ 0 ≤ u ∧ u < 9 from by omega) (show 0 ≤ pl u ∧ pl u < I 3 * I 4 from by show 0 ≤ pl u ∧ pl u < I 3 * I 4; rw [hplu]; exact hup) (rfl) ⟨Nat.le_of_ble_eq_true rfl, Nat.le_of_ble_eq_true rfl⟩ (Nat.le_of_ble_eq_true rfl) dX8_worksRules_59 ?_
                refine ga_i2l (pc := 62) dX8_worksRules_62 (by omega) ?_
                refine ga_goto (pc := 63) (tgt := 67) dX8_worksRules_63 rfl ?_
                exact jn67 (mTak A (I 4) kind kind shift p (pl u) (I 3 * I 4).toNat) (by unfold mRul; first | (rw [if_neg (by omega)]; done) | (rw [if_pos (by omega), hplu]))
        exact lp18 _ 0 f (by omega) (fun a q a0 q0 q1 h => hf a q a0 q0 q1 (by omega)) (Nat.lt_succ_self _)
  exact lp9 _ 0 (A 31) (by omega) (fun a q a0 q0 q1 h => by omega) (Nat.lt_succ_self _)
theorem k_X8_worksRules {X : ga_X} {nL : Nat} {cc : ByteArray} {mo : Nat} {ad : Nat → Nat} {I : Nat → Int} {A : Nat → Int → Int} {d pc : Nat} {L : List (Option Value)} {st : List Value} {kind shift : Int}  (ok : mOk mo ad) (hm : (1 ≤ I 3 ∧ I 3 ≤ 3) ∧ 1 ≤ I 4 ∧ I 4 ≤ 3) (he5 : tEn (A 0)) (h1 : (0 ≤ kind ∧ kind ≤ 6) ∧ -2 ≤ shift ∧ shift ≤ 2) (hft : zFit (I 3) (I 4) kind) (hsf : mSafeR (I 3) (I 4) A)  (hR : 4 + 1 ≤ d ∧ 19 + 9 + 64 * 4 ≤ 64 * d) (hs : (st.map fun v => v.category).sum ≤ 8) (dd : decode cc pc = .ok (.invokevirtual 293, 3)) (kk : ∀ (r : Int) (I1 : Nat → Int) (A1 : Nat → Int → Int), (r = (zRu (I 3) (I 4) A kind shift).2.2.2.1 ∧ I1 = I ∧ ∃ p9 f9 g9 l9, A1 = uN (uN (uN (uN A 22 p9) 31 f9) 33 g9) 32 l9 ∧ eOn (tCnt kind (I 3) (I 4)) 8 9 f9 (zRu (I 3) (I 4) A kind shift).1 ∧ (∀ k : Int, 0 ≤ k → k < I 3 * I 4 → g9 k = (zRu (I 3) (I 4) A kind shift).2.2.2.2 k) ∧ ∀ k : Int, 0 ≤ k → k < I 3 * I 4 → l9 k = mLf A (I 3) (I 4) (zRu (I 3) (I 4) A kind shift) k) → G X (gR d) RX8 nL cc (mH mo ad I1 A1) 0 0 (pc + 3) L (.long (lI r) :: st)) : G X (gR d) RX8 nL cc (mH mo ad I A) 0 0 pc L (.int (iI shift) :: .int (iI kind) :: .ref mo :: st) :=
  mm_run ok (m_X8_worksRules _ _ mo ad I A kind shift hm he5 h1 hft hsf) (lw_V q1947 q1949 qs77 q113 q1950) rfl (show ga_nn' yX8_worksRules 2 from (by unfold ga_nn'; decide +kernel)) hR hs dd rfl (fun v I1 A1 hp => by
    obtain ⟨r, rfl, hp⟩ := hp
    exact kk r I1 A1 hp)
