/-! THE REFERENCE: a ratio of any two numbers -/
abbrev zLes (a b : Int) : Prop := (a < 0 ∧ 0 ≤ b) ∨ (0 ≤ a ∧ b < 0)
def zUp (a b : Int) : Int := ((a.natAbs / Int.gcd a b : Nat) : Int)
def zDo (a b : Int) : Int := ((b.natAbs / Int.gcd a b : Nat) : Int)
def zRat (a b part : Int) : Int := if 0 ≤ part ∧ part ≤ 1 then (if b = 0 then -4000000000000000015 else if zDo a b = 9223372036854775808 ∨ (¬ zLes a b ∧ zUp a b = 9223372036854775808) then -4000000000000000016 else if part = 1 then zDo a b else if zLes a b then -zUp a b else zUp a b) else -4000000000000000001
theorem zg_n (p q : Int) : Int.gcd q (p.tmod q) = Int.gcd p q := by
  show Nat.gcd q.natAbs (p.tmod q).natAbs = Nat.gcd p.natAbs q.natAbs
  rw [Int.natAbs_tmod, Nat.gcd_comm p.natAbs q.natAbs, Nat.gcd_comm q.natAbs (p.natAbs % q.natAbs), Nat.gcd_rec q.natAbs p.natAbs]
theorem zg_m {p q : Int} (h0 : p ≤ 0) (h1 : q < 0) : q < p.tmod q ∧ p.tmod q ≤ 0 := by
  have e : p.tmod q = -((-p).tmod (-q)) := by rw [Int.tmod_neg, Int.neg_tmod, Int.neg_neg]
  have := zg_r (p := -p) (q := -q) (by omega) (by omega)
  omega
theorem zUp_r {a b : Int} (h : zI64 a) : 0 ≤ zUp a b ∧ zUp a b ≤ 9223372036854775808 := by
  have := Nat.div_le_self a.natAbs (Int.gcd a b)
  unfold zUp
  generalize a.natAbs / Int.gcd a b = z at *
  omega
theorem zDo_r {a b : Int} (h : zI64 b) : 0 ≤ zDo a b ∧ zDo a b ≤ 9223372036854775808 := by
  have := Nat.div_le_self b.natAbs (Int.gcd a b)
  unfold zDo
  generalize b.natAbs / Int.gcd a b = z at *
  omega
theorem zgb {a b : Int} (hb : b ≠ 0) (h : zI64 b) : 0 < (Int.gcd a b : Int) ∧ (Int.gcd a b : Int) ≤ 9223372036854775808 := by
  have h1 : 0 < Int.gcd a b := Int.gcd_pos_of_ne_zero_right _ hb
  have h3 : Int.gcd a b ≤ b.natAbs := Nat.le_of_dvd (by omega) (Nat.gcd_dvd_right _ _)
  omega
theorem zTd {p : Int} {x g : Nat} (h : p = -(x : Int)) : p.tdiv (g : Int) = -((x / g : Nat) : Int) := by
  rw [h, Int.neg_tdiv, Int.tdiv_eq_ediv_of_nonneg (by omega)]
  rfl
theorem zUp_g {a b : Int} (h : zI64 a) (hg : (Int.gcd a b : Int) = 9223372036854775808) : zUp a b = if a = 0 then 0 else 1 := by
  unfold zUp
  have e : Int.gcd a b = 9223372036854775808 := by omega
  have hd : Int.gcd a b ∣ a.natAbs := Nat.gcd_dvd_left _ _
  rw [e] at hd ⊢
  split
  · rename_i z; subst z; rfl
  · have := Nat.le_of_dvd (by omega) hd
    rw [show a.natAbs = 9223372036854775808 by omega]
    rfl
theorem zDo_g {a b : Int} (hb : b ≠ 0) (h : zI64 b) (hg : (Int.gcd a b : Int) = 9223372036854775808) : zDo a b = 1 := by
  unfold zDo
  have e : Int.gcd a b = 9223372036854775808 := by omega
  have hd : Int.gcd a b ∣ b.natAbs := Nat.gcd_dvd_right _ _
  rw [e] at hd ⊢
  have := Nat.le_of_dvd (by omega) hd
  rw [show b.natAbs = 9223372036854775808 by omega]
  rfl
set_option maxHeartbeats 4000000 in
set_option maxRecDepth 100000 in
theorem m_X8_ratio (l : Launch) (D : ga_G) (mo : Nat) (ad : Nat → Nat) (I : Nat → Int) (A : Nat → Int → Int) (a b part : Int) (h1 : (-9223372036854775808 ≤ a ∧ a < 9223372036854775808) ∧ (-9223372036854775808 ≤ b ∧ b < 9223372036854775808) ∧ (-2147483648 ≤ part ∧ part < 2147483648)) : mM l D yX8_ratio (ws_ yX8_ratio cX8_ratio 17 (some .long)) (gR 1) [.long (lI a), .long (lI b), .int (iI part)] mo ad I A (mL (fun r I1 A1 => r = (zRat a b part) ∧ I1 = I ∧ A1 = A)) := by
  refine mm_met 11 rfl (Nat.le_of_ble_eq_true rfl) (L0 := [some (.ref mo), some (.long (lI a)), none, some (.long (lI b)), none, some (.int (iI part)), none, none, none, none, none, none, none, none, none, none, none]) rfl (fun X ok hE => ?_)
  refine ga_iload (pc := 0) dX8_ratio_0 rfl ?_
  refine ga_i2l (pc := 2) dX8_ratio_2 (by omega) ?_
  refine ga_lconst (pc := 3) 0 dX8_ratio_3 rfl ?_
  refine ga_lconst (pc := 4) 1 dX8_ratio_4 rfl ?_
  refine k_X8_in (pc := 5) (a := part) (b := 0) (c := 1) (by omega) (rfl) ⟨Nat.le_of_ble_eq_true rfl, Nat.le_of_ble_eq_true rfl⟩ ⟨Nat.le_of_ble_eq_true rfl, Nat.le_of_ble_eq_true rfl⟩ (Nat.le_of_ble_eq_true rfl) dX8_ratio_5 ?_
  refine ga_ifb_ne (pc := 8) (tgt := 16) dX8_ratio_8 rfl (fun c8 => ?_) (fun c8 => ?_)
  · skip
    refine ga_lload_n (pc := 16) dX8_ratio_16 rfl ?_
    refine ga_lconst (pc := 17) 0 dX8_ratio_17 rfl ?_
    refine ga_lcmp (pc := 18) dX8_ratio_18 (by omega) (by omega) ?_
    refine ga_ifc_ne (pc := 19) (tgt := 28) dX8_ratio_19 rfl (fun c19 => ?_) (fun c19 => ?_)
    · skip
      have hg := zgb (a := a) (b := b) (by omega) h1.2.1
      have hur := zUp_r (a := a) (b := b) h1.1
      have hdr := zDo_r (a := a) (b := b) h1.2.1
      have jn40 : ∀ (p : Int), (p = -(a.natAbs : Int)) → G X (gR 1) RX8 17 cX8_ratio (mH mo ad I A) 0 0 40 [some (.ref mo), some (.long (lI a)), none, some (.long (lI b)), none, some (.int (iI part)), none, none, none, none, none, none, none, none, none, none, none] [.long (lI p)] := by
        intro p hp
        refine ga_lstore (pc := 40) (L1 := [some (.ref mo), some (.long (lI a)), none, some (.long (lI b)), none, some (.int (iI part)), some (.long (lI p)), none, none, none, none, none, none, none, none, none, none]) dX8_ratio_40 rfl (by decide) rfl ?_
        have jn54 : ∀ (q : Int), (q = -(b.natAbs : Int)) → G X (gR 1) RX8 17 cX8_ratio (mH mo ad I A) 0 0 54 [some (.ref mo), some (.long (lI a)), none, some (.long (lI b)), none, some (.int (iI part)), some (.long (lI p)), none, none, none, none, none, none, none, none, none, none] [.long (lI q)] := by
          intro q hq
          refine ga_lstore (pc := 54) (L1 := [some (.ref mo), some (.long (lI a)), none, some (.long (lI b)), none, some (.int (iI part)), some (.long (lI p)), none, some (.long (lI q)), none, none, none, none, none, none, none, none]) dX8_ratio_54 rfl (by decide) rfl ?_
          refine ga_lload (pc := 56) dX8_ratio_56 rfl ?_
          refine ga_lstore (pc := 58) (L1 := [some (.ref mo), some (.long (lI a)), none, some (.long (lI b)), none, some (.int (iI part)), some (.long (lI p)), none, some (.long (lI q)), none, some (.long (lI p)), none, none, none, none, none, none]) dX8_ratio_58 rfl (by decide) rfl ?_
          refine ga_lload (pc := 60) dX8_ratio_60 rfl ?_
          refine ga_lstore (pc := 62) (L1 := [some (.ref mo), some (.long (lI a)), none, some (.long (lI b)), none, some (.int (iI part)), some (.long (lI p)), none, some (.long (lI q)), none, some (.long (lI p)), none, some (.long (lI q)), none, none, none, none]) dX8_ratio_62 rfl (by decide) rfl ?_
          have jn89 : ∀ (by9 : Int), (by9 = -(Int.gcd a b : Int)) → G X (gR 1) RX8 17 cX8_ratio (mH mo ad I A) 0 0 89 [some (.ref mo), some (.long (lI a)), none, some (.long (lI b)), none, some (.int (iI part)), some (.long (lI p)), none, some (.long (lI q)), none, some (.long (lI by9)), none, none, none, none, none, none] [] := by
            intro by9 hbg
            have jn121 : ∀ (up : Int), (up = -zUp a b) → G X (gR 1) RX8 17 cX8_ratio (mH mo ad I A) 0 0 121 [some (.ref mo), some (.long (lI a)), none, some (.long (lI b)), none, some (.int (iI part)), some (.long (lI p)), none, some (.long (lI q)), none, some (.long (lI by9)), none, none, none, none, none, none] [.long (lI up)] := by
              intro up hup
              refine ga_lstore (pc := 121) (L1 := [some (.ref mo), some (.long (lI a)), none, some (.long (lI b)), none, some (.int (iI part)), some (.long (lI p)), none, some (.long (lI q)), none, some (.long (lI by9)), none, some (.long (lI up)), none, none, none, none]) dX8_ratio_121 rfl (by decide) rfl ?_
              have jn155 : ∀ (dn : Int), (dn = -zDo a b) → G X (gR 1) RX8 17 cX8_ratio (mH mo ad I A) 0 0 155 [some (.ref mo), some (.long (lI a)), none, some (.long (lI b)), none, some (.int (iI part)), some (.long (lI p)), none, some (.long (lI q)), none, some (.long (lI by9)), none, some (.long (lI up)), none, none, none, none] [.long (lI dn)] := by
                intro dn hdn
                refine ga_lstore (pc := 155) (L1 := [some (.ref mo), some (.long (lI a)), none, some (.long (lI b)), none, some (.int (iI part)), some (.long (lI p)), none, some (.long (lI q)), none, some (.long (lI by9)), none, some (.long (lI up)), none, some (.long (lI dn)), none, none]) dX8_ratio_155 rfl (by decide) rfl ?_
                have jn168 : ∀ (x : Int), (x = if a < 0 then 1 else 0) → G X (gR 1) RX8 17 cX8_ratio (mH mo ad I A) 0 0 168 [some (.ref mo), some (.long (lI a)), none, some (.long (lI b)), none, some (.int (iI part)), none, none, none, none, none, none, some (.long (lI up)), none, some (.long (lI dn)), none, none] [.int (iI x)] := by
                  intro x hx
                  have jn179 : ∀ (y : Int), (y = if b < 0 then 1 else 0) → G X (gR 1) RX8 17 cX8_ratio (mH mo ad I A) 0 0 179 [some (.ref mo), some (.long (lI a)), none, some (.long (lI b)), none, some (.int (iI part)), none, none, none, none, none, none, some (.long (lI up)), none, some (.long (lI dn)), none, none] [.int (iI y), .int (iI x)] := by
                    intro y hy
                    have jn187 : ∀ (ls : Int), (ls = if zLes a b then 1 else 0) → (0 ≤ ls ∧ ls ≤ 1) → G X (gR 1) RX8 17 cX8_ratio (mH mo ad I A) 0 0 187 [some (.ref mo), some (.long (lI a)), none, some (.long (lI b)), none, some (.int (iI part)), none, none, none, none, none, none, some (.long (lI up)), none, some (.long (lI dn)), none, none] [.int (iI ls)] := by
                      intro ls hls hlr
                      refine ga_istore (pc := 187) (L1 := [some (.ref mo), some (.long (lI a)), none, some (.long (lI b)), none, some (.int (iI part)), none, none, none, none, none, none, some (.long (lI up)), none, some (.long (lI dn)), none, some (.int (iI ls))]) dX8_ratio_187 rfl (by decide) rfl ?_
                      have jn218 : (¬ (zDo a b = 9223372036854775808 ∨ (¬ zLes a b ∧ zUp a b = 9223372036854775808))) → G X (gR 1) RX8 17 cX8_ratio (mH mo ad I A) 0 0 218 [some (.ref mo), some (.long (lI a)), none, some (.long (lI b)), none, some (.int (iI part)), none, none, none, none, none, none, some (.long (lI up)), none, some (.long (lI dn)), none, some (.int (iI ls))] [] := by
                        intro hok
                        refine ga_iload (pc := 218) dX8_ratio_218 rfl ?_
                        refine ga_iconst (pc := 220) dX8_ratio_220 ?_
                        refine ga_icmp_ne (pc := 221) (tgt := 230) dX8_ratio_221 rfl (by omega) (by omega) (fun c221 => ?_) (fun c221 => ?_)
                        · skip
                          refine ga_iload (pc := 230) dX8_ratio_230 rfl ?_
                          refine ga_if_eq (pc := 232) (tgt := 240) dX8_ratio_232 rfl (by omega) (fun c232 => ?_) (fun c232 => ?_)
                          · skip
                            refine ga_lload (pc := 240) dX8_ratio_240 rfl ?_
                            refine ga_lneg (pc := 242) dX8_ratio_242 ?_
                            exact mm_lret hE dX8_ratio_243 (⟨_, rfl, by unfold zRat; rw [if_pos (by omega), if_neg (by omega), if_neg hok]; revert hls; (repeat' split) <;> omega, rfl, rfl⟩)
                          · skip
                            refine ga_lload (pc := 235) dX8_ratio_235 rfl ?_
                            refine ga_goto (pc := 237) (tgt := 243) dX8_ratio_237 rfl ?_
                            exact mm_lret hE dX8_ratio_243 (⟨_, rfl, by unfold zRat; rw [if_pos (by omega), if_neg (by omega), if_neg hok]; revert hls; (repeat' split) <;> omega, rfl, rfl⟩)
                        · skip
                          refine ga_lload (pc := 224) dX8_ratio_224 rfl ?_
                          refine ga_lneg (pc := 226) dX8_ratio_226 ?_
                          refine ga_goto (pc := 227) (tgt := 243) dX8_ratio_227 rfl ?_
                          exact mm_lret hE dX8_ratio_243 (⟨_, rfl, by unfold zRat; rw [if_pos (by omega), if_neg (by omega), if_neg hok]; revert hls; (repeat' split) <;> omega, rfl, rfl⟩)
                      refine ga_lload (pc := 189) dX8_ratio_189 rfl ?_
                      refine ga_ldc2 (pc := 191) (-9223372036854775808) dX8_ratio_191 q2022 rfl ?_
                      refine ga_lcmp (pc := 194) dX8_ratio_194 (by omega) (by omega) ?_
                      refine ga_ifc_eq (pc := 195) (tgt := 212) dX8_ratio_195 rfl (fun c195 => ?_) (fun c195 => ?_)
                      · skip
                        refine ga_bipush (pc := 212) dX8_ratio_212 rfl ?_
                        refine k_X8_told (pc := 214) (a := (-16)) (by omega) (rfl) ⟨Nat.le_of_ble_eq_true rfl, Nat.le_of_ble_eq_true rfl⟩ ⟨Nat.le_of_ble_eq_true rfl, Nat.le_of_ble_eq_true rfl⟩ (Nat.le_of_ble_eq_true rfl) dX8_ratio_214 ?_
                        exact mm_lret hE dX8_ratio_217 (⟨_, rfl, by unfold zRat; rw [if_pos (by omega), if_neg (by omega), if_pos (by revert hls; split <;> omega)]; rfl, rfl, rfl⟩)
                      · skip
                        refine ga_iload (pc := 198) dX8_ratio_198 rfl ?_
                        refine ga_if_ne (pc := 200) (tgt := 218) dX8_ratio_200 rfl (by omega) (fun c200 => ?_) (fun c200 => ?_)
                        · skip
                          exact jn218 (by revert hls; split <;> omega)
                        · skip
                          refine ga_lload (pc := 203) dX8_ratio_203 rfl ?_
                          refine ga_ldc2 (pc := 205) (-9223372036854775808) dX8_ratio_205 q2022 rfl ?_
                          refine ga_lcmp (pc := 208) dX8_ratio_208 (by omega) (by omega) ?_
                          refine ga_ifc_ne (pc := 209) (tgt := 218) dX8_ratio_209 rfl (fun c209 => ?_) (fun c209 => ?_)
                          · skip
                            exact jn218 (by revert hls; split <;> omega)
                          · skip
                            refine ga_bipush (pc := 212) dX8_ratio_212 rfl ?_
                            refine k_X8_told (pc := 214) (a := (-16)) (by omega) (rfl) ⟨Nat.le_of_ble_eq_true rfl, Nat.le_of_ble_eq_true rfl⟩ ⟨Nat.le_of_ble_eq_true rfl, Nat.le_of_ble_eq_true rfl⟩ (Nat.le_of_ble_eq_true rfl) dX8_ratio_214 ?_
                            exact mm_lret hE dX8_ratio_217 (⟨_, rfl, by unfold zRat; rw [if_pos (by omega), if_neg (by omega), if_pos (by revert hls; split <;> omega)]; rfl, rfl, rfl⟩)
                    refine ga_icmp_eq (pc := 179) (tgt := 186) dX8_ratio_179 rfl (by omega) (by omega) (fun c179 => ?_) (fun c179 => ?_)
                    · skip
                      refine ga_iconst (pc := 186) dX8_ratio_186 ?_
                      exact jn187 0 (by (repeat' split) <;> first | rfl | (exfalso; revert hx hy; (repeat' split) <;> omega)) (by omega)
                    · skip
                      refine ga_iconst (pc := 182) dX8_ratio_182 ?_
                      refine ga_goto (pc := 183) (tgt := 187) dX8_ratio_183 rfl ?_
                      exact jn187 1 (by (repeat' split) <;> first | rfl | (exfalso; revert hx hy; (repeat' split) <;> omega)) (by omega)
                  refine ga_lload_n (pc := 168) dX8_ratio_168 rfl ?_
                  refine ga_lconst (pc := 169) 0 dX8_ratio_169 rfl ?_
                  refine ga_lcmp (pc := 170) dX8_ratio_170 (by omega) (by omega) ?_
                  refine ga_ifc_ge (pc := 171) (tgt := 178) dX8_ratio_171 rfl (fun c171 => ?_) (fun c171 => ?_)
                  · skip
                    refine ga_iconst (pc := 178) dX8_ratio_178 ?_
                    exact jn179 0 (by first | (rw [if_pos (by omega)]; done) | rw [if_neg (by omega)])
                  · skip
                    refine ga_iconst (pc := 174) dX8_ratio_174 ?_
                    refine ga_goto (pc := 175) (tgt := 179) dX8_ratio_175 rfl ?_
                    exact jn179 1 (by first | (rw [if_pos (by omega)]; done) | rw [if_neg (by omega)])
                refine ga_lload_n (pc := 157) dX8_ratio_157 rfl ?_
                refine ga_lconst (pc := 158) 0 dX8_ratio_158 rfl ?_
                refine ga_lcmp (pc := 159) dX8_ratio_159 (by omega) (by omega) ?_
                refine ga_ifc_ge (pc := 160) (tgt := 167) dX8_ratio_160 rfl (fun c160 => ?_) (fun c160 => ?_)
                · skip
                  refine ga_iconst (pc := 167) dX8_ratio_167 ?_
                  refine ga_kill (pc := 168) 6 (L1 := [some (.ref mo), some (.long (lI a)), none, some (.long (lI b)), none, some (.int (iI part)), none, none, some (.long (lI q)), none, some (.long (lI by9)), none, some (.long (lI up)), none, some (.long (lI dn)), none, none]) rfl ?_
                  refine ga_kill (pc := 168) 8 (L1 := [some (.ref mo), some (.long (lI a)), none, some (.long (lI b)), none, some (.int (iI part)), none, none, none, none, some (.long (lI by9)), none, some (.long (lI up)), none, some (.long (lI dn)), none, none]) rfl ?_
                  refine ga_kill (pc := 168) 10 (L1 := [some (.ref mo), some (.long (lI a)), none, some (.long (lI b)), none, some (.int (iI part)), none, none, none, none, none, none, some (.long (lI up)), none, some (.long (lI dn)), none, none]) rfl ?_
                  exact jn168 0 (by first | (rw [if_pos (by omega)]; done) | rw [if_neg (by omega)])
                · skip
                  refine ga_iconst (pc := 163) dX8_ratio_163 ?_
                  refine ga_goto (pc := 164) (tgt := 168) dX8_ratio_164 rfl ?_
                  refine ga_kill (pc := 168) 6 (L1 := [some (.ref mo), some (.long (lI a)), none, some (.long (lI b)), none, some (.int (iI part)), none, none, some (.long (lI q)), none, some (.long (lI by9)), none, some (.long (lI up)), none, some (.long (lI dn)), none, none]) rfl ?_
                  refine ga_kill (pc := 168) 8 (L1 := [some (.ref mo), some (.long (lI a)), none, some (.long (lI b)), none, some (.int (iI part)), none, none, none, none, some (.long (lI by9)), none, some (.long (lI up)), none, some (.long (lI dn)), none, none]) rfl ?_
                  refine ga_kill (pc := 168) 10 (L1 := [some (.ref mo), some (.long (lI a)), none, some (.long (lI b)), none, some (.int (iI part)), none, none, none, none, none, none, some (.long (lI up)), none, some (.long (lI dn)), none, none]) rfl ?_
                  exact jn168 1 (by first | (rw [if_pos (by omega)]; done) | rw [if_neg (by omega)])
              refine ga_lload (pc := 123) dX8_ratio_123 rfl ?_
              refine ga_ldc2 (pc := 125) (-9223372036854775808) dX8_ratio_125 q2022 rfl ?_
              refine ga_lcmp (pc := 128) dX8_ratio_128 (by omega) (by omega) ?_
              refine ga_ifc_ne (pc := 129) (tgt := 149) dX8_ratio_129 rfl (fun c129 => ?_) (fun c129 => ?_)
              · skip
                refine ga_lload (pc := 149) dX8_ratio_149 rfl ?_
                refine ga_lload (pc := 151) dX8_ratio_151 rfl ?_
                refine ga_lneg (pc := 153) dX8_ratio_153 ?_
                refine ga_ldiv (pc := 154) dX8_ratio_154 (by omega) (by omega) (by omega) ?_
                exact jn155 (q.tdiv (-by9)) (by first | omega | (rw [show -by9 = (Int.gcd a b : Int) by omega]; exact zTd hq))
              · skip
                have hdg := zDo_g (a := a) (b := b) (by omega) h1.2.1 (by omega)
                refine ga_lload (pc := 132) dX8_ratio_132 rfl ?_
                refine ga_lconst (pc := 134) 0 dX8_ratio_134 rfl ?_
                refine ga_lcmp (pc := 135) dX8_ratio_135 (by omega) (by omega) ?_
                refine ga_ifc_ne (pc := 136) (tgt := 143) dX8_ratio_136 rfl (fun c136 => ?_) (fun c136 => ?_)
                · skip
                  refine ga_ldc2 (pc := 143) (-1) dX8_ratio_143 q2023 rfl ?_
                  refine ga_goto (pc := 146) (tgt := 155) dX8_ratio_146 rfl ?_
                  exact jn155 (-1) (by first | omega | (rw [show -by9 = (Int.gcd a b : Int) by omega]; exact zTd hq))
                · skip
                  refine ga_lconst (pc := 139) 0 dX8_ratio_139 rfl ?_
                  refine ga_goto (pc := 140) (tgt := 155) dX8_ratio_140 rfl ?_
                  exact jn155 0 (by first | omega | (rw [show -by9 = (Int.gcd a b : Int) by omega]; exact zTd hq))
            refine ga_lload (pc := 89) dX8_ratio_89 rfl ?_
            refine ga_ldc2 (pc := 91) (-9223372036854775808) dX8_ratio_91 q2022 rfl ?_
            refine ga_lcmp (pc := 94) dX8_ratio_94 (by omega) (by omega) ?_
            refine ga_ifc_ne (pc := 95) (tgt := 115) dX8_ratio_95 rfl (fun c95 => ?_) (fun c95 => ?_)
            · skip
              refine ga_lload (pc := 115) dX8_ratio_115 rfl ?_
              refine ga_lload (pc := 117) dX8_ratio_117 rfl ?_
              refine ga_lneg (pc := 119) dX8_ratio_119 ?_
              refine ga_ldiv (pc := 120) dX8_ratio_120 (by omega) (by omega) (by omega) ?_
              exact jn121 (p.tdiv (-by9)) (by first | (rw [if_pos (by omega)] at hug; omega) | (rw [if_neg (by omega)] at hug; omega) | (rw [show -by9 = (Int.gcd a b : Int) by omega]; exact zTd hp))
            · skip
              have hug := zUp_g (b := b) h1.1 (by omega)
              refine ga_lload (pc := 98) dX8_ratio_98 rfl ?_
              refine ga_lconst (pc := 100) 0 dX8_ratio_100 rfl ?_
              refine ga_lcmp (pc := 101) dX8_ratio_101 (by omega) (by omega) ?_
              refine ga_ifc_ne (pc := 102) (tgt := 109) dX8_ratio_102 rfl (fun c102 => ?_) (fun c102 => ?_)
              · skip
                refine ga_ldc2 (pc := 109) (-1) dX8_ratio_109 q2023 rfl ?_
                refine ga_goto (pc := 112) (tgt := 121) dX8_ratio_112 rfl ?_
                exact jn121 (-1) (by first | (rw [if_pos (by omega)] at hug; omega) | (rw [if_neg (by omega)] at hug; omega) | (rw [show -by9 = (Int.gcd a b : Int) by omega]; exact zTd hp))
              · skip
                refine ga_lconst (pc := 105) 0 dX8_ratio_105 rfl ?_
                refine ga_goto (pc := 106) (tgt := 121) dX8_ratio_106 rfl ?_
                exact jn121 0 (by first | (rw [if_pos (by omega)] at hug; omega) | (rw [if_neg (by omega)] at hug; omega) | (rw [show -by9 = (Int.gcd a b : Int) by omega]; exact zTd hp))
          have lp64 : ∀ (N64 : Nat) (by9 re : Int), (-9223372036854775808 ≤ by9 ∧ by9 ≤ 0) → (-9223372036854775808 ≤ re ∧ re ≤ 0) → (Int.gcd by9 re = Int.gcd a b) → re.natAbs < N64 → G X (gR 1) RX8 17 cX8_ratio (mH mo ad I A) 0 0 64 [some (.ref mo), some (.long (lI a)), none, some (.long (lI b)), none, some (.int (iI part)), some (.long (lI p)), none, some (.long (lI q)), none, some (.long (lI by9)), none, some (.long (lI re)), none, none, none, none] [] := by
            intro N64
            induction N64 with
            | zero => intro by9 re hb9 hre hgg hN64; exact absurd hN64 (Nat.not_lt_zero _)
            | succ N64 ih64 =>
              intro by9 re hb9 hre hgg hN64
              refine ga_lload (pc := 64) dX8_ratio_64 rfl ?_
              refine ga_lconst (pc := 66) 0 dX8_ratio_66 rfl ?_
              refine ga_lcmp (pc := 67) dX8_ratio_67 (by omega) (by omega) ?_
              refine ga_ifc_eq (pc := 68) (tgt := 89) dX8_ratio_68 rfl (fun c68 => ?_) (fun c68 => ?_)
              · skip
                refine ga_kill (pc := 89) 12 (L1 := [some (.ref mo), some (.long (lI a)), none, some (.long (lI b)), none, some (.int (iI part)), some (.long (lI p)), none, some (.long (lI q)), none, some (.long (lI by9)), none, none, none, none, none, none]) rfl ?_
                exact jn89 by9 (by have z : Int.gcd by9 re = by9.natAbs := (by rw [show re = 0 by omega]; exact Int.gcd_zero_right _); omega)
              · skip
                refine ga_lload (pc := 71) dX8_ratio_71 rfl ?_
                refine ga_lload (pc := 73) dX8_ratio_73 rfl ?_
                have htm := zg_m (p := by9) (q := re) hb9.2 (by omega)
                have hgn := zg_n by9 re
                refine ga_lrem (pc := 75) dX8_ratio_75 (by omega) (by omega) (by omega) ?_
                refine ga_lstore (pc := 76) (L1 := [some (.ref mo), some (.long (lI a)), none, some (.long (lI b)), none, some (.int (iI part)), some (.long (lI p)), none, some (.long (lI q)), none, some (.long (lI by9)), none, some (.long (lI re)), none, some (.long (lI (by9.tmod re))), none, none]) dX8_ratio_76 rfl (by decide) rfl ?_
                refine ga_lload (pc := 78) dX8_ratio_78 rfl ?_
                refine ga_lstore (pc := 80) (L1 := [some (.ref mo), some (.long (lI a)), none, some (.long (lI b)), none, some (.int (iI part)), some (.long (lI p)), none, some (.long (lI q)), none, some (.long (lI re)), none, some (.long (lI re)), none, some (.long (lI (by9.tmod re))), none, none]) dX8_ratio_80 rfl (by decide) rfl ?_
                refine ga_lload (pc := 82) dX8_ratio_82 rfl ?_
                refine ga_lstore (pc := 84) (L1 := [some (.ref mo), some (.long (lI a)), none, some (.long (lI b)), none, some (.int (iI part)), some (.long (lI p)), none, some (.long (lI q)), none, some (.long (lI re)), none, some (.long (lI (by9.tmod re))), none, some (.long (lI (by9.tmod re))), none, none]) dX8_ratio_84 rfl (by decide) rfl ?_
                refine ga_goto (pc := 86) (tgt := 64) dX8_ratio_86 rfl ?_
                refine ga_kill (pc := 64) 14 (L1 := [some (.ref mo), some (.long (lI a)), none, some (.long (lI b)), none, some (.int (iI part)), some (.long (lI p)), none, some (.long (lI q)), none, some (.long (lI re)), none, some (.long (lI (by9.tmod re))), none, none, none, none]) rfl ?_
                exact ih64 re (by9.tmod re) (by omega) (by omega) (by rw [hgn]; exact hgg) (by omega)
          exact lp64 _ p q (by omega) (by omega) (by rw [hp, hq, Int.neg_gcd, Int.gcd_neg]; show Nat.gcd _ _ = Nat.gcd _ _; rw [Int.natAbs_natCast, Int.natAbs_natCast]) (Nat.lt_succ_self _)
        refine ga_lload_n (pc := 42) dX8_ratio_42 rfl ?_
        refine ga_lconst (pc := 43) 0 dX8_ratio_43 rfl ?_
        refine ga_lcmp (pc := 44) dX8_ratio_44 (by omega) (by omega) ?_
        refine ga_ifc_ge (pc := 45) (tgt := 52) dX8_ratio_45 rfl (fun c45 => ?_) (fun c45 => ?_)
        · skip
          refine ga_lload_n (pc := 52) dX8_ratio_52 rfl ?_
          refine ga_lneg (pc := 53) dX8_ratio_53 ?_
          exact jn54 (-b) (by omega)
        · skip
          refine ga_lload_n (pc := 48) dX8_ratio_48 rfl ?_
          refine ga_goto (pc := 49) (tgt := 54) dX8_ratio_49 rfl ?_
          exact jn54 b (by omega)
      refine ga_lload_n (pc := 28) dX8_ratio_28 rfl ?_
      refine ga_lconst (pc := 29) 0 dX8_ratio_29 rfl ?_
      refine ga_lcmp (pc := 30) dX8_ratio_30 (by omega) (by omega) ?_
      refine ga_ifc_ge (pc := 31) (tgt := 38) dX8_ratio_31 rfl (fun c31 => ?_) (fun c31 => ?_)
      · skip
        refine ga_lload_n (pc := 38) dX8_ratio_38 rfl ?_
        refine ga_lneg (pc := 39) dX8_ratio_39 ?_
        exact jn40 (-a) (by omega)
      · skip
        refine ga_lload_n (pc := 34) dX8_ratio_34 rfl ?_
        refine ga_goto (pc := 35) (tgt := 40) dX8_ratio_35 rfl ?_
        exact jn40 a (by omega)
    · skip
      refine ga_bipush (pc := 22) dX8_ratio_22 rfl ?_
      refine k_X8_told (pc := 24) (a := (-15)) (by omega) (rfl) ⟨Nat.le_of_ble_eq_true rfl, Nat.le_of_ble_eq_true rfl⟩ ⟨Nat.le_of_ble_eq_true rfl, Nat.le_of_ble_eq_true rfl⟩ (Nat.le_of_ble_eq_true rfl) dX8_ratio_24 ?_
      exact mm_lret hE dX8_ratio_27 (⟨_, rfl, by unfold zRat; rw [if_pos (by omega), if_pos (by omega)]; rfl, rfl, rfl⟩)
  · skip
    refine ga_iconst (pc := 11) dX8_ratio_11 ?_
    refine k_X8_told (pc := 12) (a := (-1)) (by omega) (rfl) ⟨Nat.le_of_ble_eq_true rfl, Nat.le_of_ble_eq_true rfl⟩ ⟨Nat.le_of_ble_eq_true rfl, Nat.le_of_ble_eq_true rfl⟩ (Nat.le_of_ble_eq_true rfl) dX8_ratio_12 ?_
    exact mm_lret hE dX8_ratio_15 (⟨_, rfl, by unfold zRat; rw [if_neg (by omega)]; rfl, rfl, rfl⟩)
