/-! THE CLASS: what it answers of an equation, in the reference's words -/
def cSam (J : Nat → Int) (B : Nat → Int → Int) (J1 : Nat → Int) (B1 : Nat → Int → Int) : Prop := (∀ k : Nat, k ∉ [16, 17, 20, 21, 22, 23, 24, 37, 38, 39] → J1 k = J k) ∧ ∀ k : Nat, k ∉ [10, 11] → B1 k = B k
theorem cSam.refl (J : Nat → Int) (B : Nat → Int → Int) : cSam J B J B := ⟨fun _ _ => rfl, fun _ _ => rfl⟩
theorem cSam.trans {J J1 J2 : Nat → Int} {B B1 B2 : Nat → Int → Int} (h : cSam J B J1 B1) (g : cSam J1 B1 J2 B2) : cSam J B J2 B2 := ⟨fun k hk => (g.1 k hk).trans (h.1 k hk), fun k hk => (g.2 k hk).trans (h.2 k hk)⟩
theorem cSam.uJ {J J1 : Nat → Int} {B B1 : Nat → Int → Int} (h : cSam J B J1 B1) {k : Nat} {z : Int} (hk : k ∈ [16, 17, 20, 21, 22, 23, 24, 37, 38, 39]) : cSam J B (uN J1 k z) B1 := ⟨fun j hj => (uN_n J1 z (fun q => hj (by rw [q]; exact hk))).trans (h.1 j hj), h.2⟩
theorem cSam.uB {J J1 : Nat → Int} {B B1 : Nat → Int → Int} (h : cSam J B J1 B1) {k : Nat} {f : Int → Int} (hk : k ∈ [10, 11]) : cSam J B J1 (uN B1 k f) := ⟨h.1, fun j hj => (uN_n B1 f (fun q => hj (by rw [q]; exact hk))).trans (h.2 j hj)⟩
theorem cSt.sam {H W : Int} {S : eS} {J J1 : Nat → Int} {B B1 : Nat → Int → Int} (h : cSt H W S J B J1 B1) : cSam J B J1 B1 := by
  obtain ⟨rfl, f, g, rfl, -, -⟩ := h
  exact ((((((cSam.refl J B).uJ (by decide)).uJ (by decide)).uJ (by decide)).uJ (by decide)).uJ (by decide)).uB (by decide) |>.uB (by decide)
theorem eqS {m n kd sh : Int} (E : Nat → Int → Int) : zSy m n E kd kd sh 0 = eRed (m * n) (mSys E m n kd kd sh 0) (tCnt kd m n).toNat := by
  unfold zSy zH zW
  rw [Int.zero_mul, Int.sub_zero, if_pos rfl, Int.sub_zero]
/-- all that is asked of an equation that fits -/
theorem eqD {m n kd sh : Int} {B E : Nat → Int → Int} (hm : (1 ≤ m ∧ m ≤ 3) ∧ 1 ≤ n ∧ n ≤ 3) (hk : 0 ≤ kd ∧ kd ≤ 6) (hl : m = n ∨ kd < 2) (hu : zUn kd m n ≤ 6) (hR : tRel m n B E) (hE : tEn (E 0)) (hs : -2 ≤ sh ∧ sh ≤ 2) :
    xUn kd 0 m n = tCnt kd m n ∧ (0 ≤ xUn kd 0 m n ∧ xUn kd 0 m n ≤ 6) ∧ (∀ p q : Int, 0 ≤ p → p < m * n → 0 ≤ q → q ≤ xUn kd 0 m n → cTs kd kd 0 sh m n (xUn kd 0 m n) 0 (B 0) (B 1) (B 2) p q = mSys E m n kd kd sh 0 p q) ∧ eSafe (m * n) (xUn kd 0 m n) (mSys E m n kd kd sh 0) ∧ zFit m n kd ∧ eRed (m * n) (mSys E m n kd kd sh 0) (xUn kd 0 m n).toNat = zSy m n E kd kd sh 0 := by
  have hlk : zLike m n kd := by unfold zLike; omega
  have hx := xSys (sh := sh) (fr := 0) (kx := kd) ⟨hk, Or.inl ⟨rfl, rfl⟩⟩ hm hlk hR ⟨Int.le_refl _, by omega⟩
  have e0 : xShp kd kd = kd := if_neg (by omega)
  have eW : zW kd m n 0 = tCnt kd m n := by unfold zW; rw [if_pos rfl, Int.sub_zero]
  have eH : zH m n 0 = m * n := by unfold zH; rw [Int.zero_mul, Int.sub_zero]
  rw [e0, eW, eH] at hx
  have hc := w_cntr hm hk hlk
  have h6 : tCnt kd m n ≤ 6 := by rw [w_cnt hk hm hlk]; exact hu
  have hsf := w_safe hm hE kd kd sh 0 hk (Or.inl rfl) hlk hs ⟨Int.le_refl _, by omega⟩ (fun z => absurd rfl z) (by rw [eW]; exact h6)
  rw [eW, eH] at hsf
  refine ⟨hx.1, by rw [hx.1]; exact ⟨hc.1, h6⟩, fun p q p0 p1 q0 q1 => hx.2 p q p0 p1 q0 q1, by rw [hx.1]; exact hsf, ⟨hlk, h6⟩, by rw [hx.1, ← eqS]⟩
theorem zFit_i {m n kd : Int} (hm : (1 ≤ m ∧ m ≤ 3) ∧ 1 ≤ n ∧ n ≤ 3) (hk : 0 ≤ kd ∧ kd ≤ 6) : zFit m n kd ↔ (m = n ∨ kd < 2) ∧ zUn kd m n ≤ 6 := by
  unfold zFit zLike
  constructor
  · intro h
    have hl : zLike m n kd := h.1
    rw [w_cnt hk hm hl] at h
    exact ⟨by omega, h.2⟩
  · intro h
    have hl : zLike m n kd := by unfold zLike; omega
    rw [w_cnt hk hm hl]
    exact ⟨by omega, h.2⟩
def w_coB : Bool := decide (∀ (kd : Fin 7) (m n : Fin 4) (i j : Fin 3), 1 ≤ m.val → 1 ≤ n.val → (kd.val ≤ 1 ∨ n.val = m.val) → i.val < m.val → j.val < n.val → ((zCo kd.val n.val i.val j.val).natAbs : Int) ≤ tCnt kd.val m.val n.val)
theorem w_coB_t : w_coB = true := by decide +kernel
theorem w_co {kd m n i j : Int} (hk : 0 ≤ kd ∧ kd ≤ 6) (hmn : (1 ≤ m ∧ m ≤ 3) ∧ 1 ≤ n ∧ n ≤ 3) (hl : zLike m n kd) (hi : 0 ≤ i ∧ i < m) (hj : 0 ≤ j ∧ j < n) : ((zCo kd n i j).natAbs : Int) ≤ tCnt kd m n := by
  have h := of_decide_eq_true w_coB_t ⟨kd.toNat, by omega⟩ ⟨m.toNat, by omega⟩ ⟨n.toNat, by omega⟩ ⟨i.toNat, by omega⟩ ⟨j.toNat, by omega⟩
  have e1 : ((kd.toNat : Nat) : Int) = kd := by omega
  have e2 : ((m.toNat : Nat) : Int) = m := by omega
  have e3 : ((n.toNat : Nat) : Int) = n := by omega
  have e5 : ((i.toNat : Nat) : Int) = i := by omega
  have e6 : ((j.toNat : Nat) : Int) = j := by omega
  dsimp only at h
  rw [e1, e2, e3, e5, e6] at h
  exact h (by omega) (by omega) (by omega) (by omega) (by omega)
/-- the reference's sum has but one term -/
theorem zShs_co {kd m n i j c : Int} {S : eS} (hk : 0 ≤ kd ∧ kd ≤ 6) (hmn : (1 ≤ m ∧ m ≤ 3) ∧ 1 ≤ n ∧ n ≤ 3) (hl : zLike m n kd) (hi : 0 ≤ i ∧ i < m) (hj : 0 ≤ j ∧ j < n) : zShs m n kd S (tCnt kd m n) i j c = (if zCo kd n i j = 0 then 0 else (if zCo kd n i j < 0 then -1 else 1) * (if S.2.2.2.2 ((zCo kd n i j).natAbs - 1) < 0 then (if ((zCo kd n i j).natAbs : Int) - 1 = c then S.2.2.2.1 else 0) else if c < 0 then S.1 (S.2.2.2.2 ((zCo kd n i j).natAbs - 1)) (tCnt kd m n) else -S.1 (S.2.2.2.2 ((zCo kd n i j).natAbs - 1)) c)) := by
  have hc := w_cntr hmn hk hl
  have hco := w_co hk hmn hl hi hj
  have hsg : ∀ u : Int, 0 ≤ u → u < ((tCnt kd m n).toNat : Nat) → zSh kd i j ((tPlc kd m n u).tdiv n) ((tPlc kd m n u).tmod n) = w_sg (zCo kd n i j) u := fun u u0 u1 => (w_code hk hmn hl ⟨u0, by omega⟩ hi hj (by omega)).symm
  unfold zShs
  by_cases h0 : zCo kd n i j = 0
  · rw [if_pos h0]
    refine w_zs0 _ fun u u0 u1 => ?_
    rw [hsg u u0 u1, h0]
    unfold w_sg
    rw [if_neg (by omega), if_neg (by omega), Int.zero_mul]
  · rw [if_neg h0]
    rw [w_zs1 (y := (zCo kd n i j).natAbs - 1) _ (by omega) (by omega) fun u u0 u1 un => by
      rw [hsg u u0 u1]
      unfold w_sg
      rw [if_neg (by omega), if_neg (by omega), Int.zero_mul], hsg _ (by omega) (by omega)]
    congr 1
    unfold w_sg
    by_cases h1 : zCo kd n i j < 0
    · rw [if_pos h1, if_neg (by omega), if_pos (by omega)]
    · rw [if_neg h1, if_pos (by omega)]
theorem zPart_00 {d part : Int} (hd : d ≠ 0) (hp : part = 0 ∨ part = 1) : zPart 0 d part = part := by
  unfold zPart
  rw [Int.gcd_zero_left]
  rcases hp with rfl | rfl
  · rw [if_pos rfl, Int.zero_tdiv]
  · rw [if_neg (by decide)]
    split
    · rw [show -((d.natAbs : Nat) : Int) = d by omega]; exact Int.tdiv_self hd
    · rw [show ((d.natAbs : Nat) : Int) = d by omega]; exact Int.tdiv_self hd
theorem zPart_dd {d part : Int} (hd : d ≠ 0) (hp : part = 0 ∨ part = 1) : zPart d d part = 1 := by
  unfold zPart
  rw [Int.gcd_self]
  rcases hp with rfl | rfl
  · rw [if_pos rfl]
    split
    · rw [show -((d.natAbs : Nat) : Int) = d by omega]; exact Int.tdiv_self hd
    · rw [show ((d.natAbs : Nat) : Int) = d by omega]; exact Int.tdiv_self hd
  · rw [if_neg (by decide)]
    split
    · rw [show -((d.natAbs : Nat) : Int) = d by omega]; exact Int.tdiv_self hd
    · rw [show ((d.natAbs : Nat) : Int) = d by omega]; exact Int.tdiv_self hd
theorem zPart_dn {d part : Int} (hd : d ≠ 0) (hp : part = 0 ∨ part = 1) : zPart (-d) d part = if part = 0 then -1 else 1 := by
  have h := zPart_dd hd hp
  unfold zPart at h ⊢
  rw [Int.neg_gcd]
  rcases hp with rfl | rfl
  · rw [if_pos rfl] at h ⊢
    rw [if_pos rfl, Int.neg_tdiv, h]
  · rw [if_neg (show ¬ (1 : Int) = 0 by decide)] at h ⊢
    rw [if_neg (show ¬ (1 : Int) = 0 by decide), h]
/-- what the class tells of a solution is what the reference tells -/
theorem cBn_sol {kd m n i j part : Int} {S : eS} {f g : Int → Int} (hk : 0 ≤ kd ∧ kd ≤ 6) (hmn : (1 ≤ m ∧ m ≤ 3) ∧ 1 ≤ n ∧ n ≤ 3) (hl : zLike m n kd) (hi : 0 ≤ i ∧ i < m) (hj : 0 ≤ j ∧ j < n) (hf : eOn (m * n) (tCnt kd m n) 10 f S.1) (hg : ∀ k : Int, 0 ≤ k → k < tCnt kd m n → g k = S.2.2.2.2 k) (hld : ∀ k : Int, S.2.2.2.2 k < m * n) (hd : S.2.2.2.1 ≠ 0) (hp : part = 0 ∨ part = 1) : cBn g f S.2.2.2.1 (zCo kd n i j) (tCnt kd m n) 0 part = zPart (zShs m n kd S (tCnt kd m n) i j (-1)) S.2.2.2.1 part := by
  have hc := w_cntr hmn hk hl
  have hco := w_co hk hmn hl hi hj
  rw [zShs_co hk hmn hl hi hj]
  generalize zCo kd n i j = co at hco ⊢
  generalize hK : ((co.natAbs : Int) - 1) = K
  unfold cBn
  rw [hK]
  by_cases h0 : co = 0
  · rw [if_pos h0, if_pos h0, zPart_00 hd hp]
  · rw [if_neg h0, if_neg h0, hg K (by omega) (by omega)]
    by_cases h1 : S.2.2.2.2 K < 0
    · rw [if_pos (Or.inl h1), if_pos h1, if_neg (show ¬ K = -1 by omega), Int.mul_zero, zPart_00 hd hp]
    · rw [if_neg h1, if_pos (show (-1 : Int) < 0 by decide), hf _ _ (by omega) (hld K) hc.1 (Int.le_refl _)]
      by_cases h2 : S.1 (S.2.2.2.2 K) (tCnt kd m n) = 0
      · rw [if_pos (Or.inr h2), h2, Int.mul_zero, zPart_00 hd hp]
      · rw [if_neg (show ¬ (S.2.2.2.2 K < 0 ∨ S.1 (S.2.2.2.2 K) (tCnt kd m n) = 0) by omega)]
        by_cases h3 : co < 0
        · rw [if_neg (show ¬ (co < 0 ↔ (0 : Int) = 1) by omega), if_pos h3, Int.neg_one_mul]
        · rw [if_pos (show (co < 0 ↔ (0 : Int) = 1) by omega), if_neg h3, Int.one_mul]
theorem cBn_bas {kd m n i j u part : Int} {S : eS} {f g : Int → Int} (hk : 0 ≤ kd ∧ kd ≤ 6) (hmn : (1 ≤ m ∧ m ≤ 3) ∧ 1 ≤ n ∧ n ≤ 3) (hl : zLike m n kd) (hi : 0 ≤ i ∧ i < m) (hj : 0 ≤ j ∧ j < n) (hf : eOn (m * n) (tCnt kd m n) 10 f S.1) (hg : ∀ k : Int, 0 ≤ k → k < tCnt kd m n → g k = S.2.2.2.2 k) (hld : ∀ k : Int, S.2.2.2.2 k < m * n) (hd : S.2.2.2.1 ≠ 0) (hp : part = 0 ∨ part = 1) (hu : 0 ≤ u ∧ u < tCnt kd m n) (hlu : S.2.2.2.2 u < 0) : (if ((zCo kd n i j).natAbs : Int) = u + 1 then (if part = 1 ∨ 0 < zCo kd n i j then 1 else -1) else cBn g f S.2.2.2.1 (zCo kd n i j) u 1 part) = zPart (zShs m n kd S (tCnt kd m n) i j u) S.2.2.2.1 part := by
  have hc := w_cntr hmn hk hl
  have hco := w_co hk hmn hl hi hj
  rw [zShs_co hk hmn hl hi hj]
  generalize zCo kd n i j = co at hco ⊢
  generalize hK : ((co.natAbs : Int) - 1) = K
  by_cases he : (co.natAbs : Int) = u + 1
  · have hKu : K = u := by omega
    rw [if_pos he, if_neg (show ¬ co = 0 by omega), hKu, if_pos hlu, if_pos rfl]
    by_cases h3 : co < 0
    · rw [if_pos h3, Int.neg_one_mul, zPart_dn hd hp]
      rcases hp with rfl | rfl
      · rw [if_neg (show ¬ ((0 : Int) = 1 ∨ 0 < co) by omega), if_pos rfl]
      · rw [if_pos (Or.inl rfl), if_neg (show ¬ (1 : Int) = 0 by decide)]
    · rw [if_neg h3, Int.one_mul, zPart_dd hd hp, if_pos (show part = 1 ∨ 0 < co by omega)]
  · rw [if_neg he]
    unfold cBn
    rw [hK]
    by_cases h0 : co = 0
    · rw [if_pos h0, if_pos h0, zPart_00 hd hp]
    · rw [if_neg h0, if_neg h0, hg K (by omega) (by omega)]
      by_cases h1 : S.2.2.2.2 K < 0
      · rw [if_pos (Or.inl h1), if_pos h1, if_neg (show ¬ K = u by omega), Int.mul_zero, zPart_00 hd hp]
      · rw [if_neg h1, if_neg (show ¬ u < 0 by omega), hf _ _ (by omega) (hld K) hu.1 (by omega)]
        by_cases h2 : S.1 (S.2.2.2.2 K) u = 0
        · rw [if_pos (Or.inr h2), h2, Int.neg_zero, Int.mul_zero, zPart_00 hd hp]
        · rw [if_neg (show ¬ (S.2.2.2.2 K < 0 ∨ S.1 (S.2.2.2.2 K) u = 0) by omega)]
          by_cases h3 : co < 0
          · rw [if_pos (show (co < 0 ↔ (1 : Int) = 1) by omega), if_pos h3, Int.neg_mul_neg, Int.one_mul]
          · rw [if_neg (show ¬ (co < 0 ↔ (1 : Int) = 1) by omega), if_neg h3, Int.one_mul]
/-- how many are free -/
def nFr (led : Int → Int) : Nat → Int
  | 0 => 0
  | k + 1 => nFr led k + (if led k < 0 then 1 else 0)
theorem nFr_c {f g : Int → Int} : ∀ n : Nat, (∀ u : Int, 0 ≤ u → u < n → f u = g u) → nFr f n = nFr g n := by
  intro n
  induction n with
  | zero => intro _; rfl
  | succ n ih => intro h; show nFr f n + _ = nFr g n + _; rw [ih fun u u0 u1 => h u u0 (by omega), h n (by omega) (by omega)]
theorem eRed_free (H : Int) (T : Int → Int → Int) (hH : 0 ≤ H) : ∀ c : Nat, (eRed H T c).2.1 = c - nFr (eRed H T c).2.2.2.2 c := by
  intro c
  induction c with
  | zero => rfl
  | succ c ih =>
    have hr := eRed_r H T hH c
    show (eStep H c (eRed H T c)).2.1 = ((c + 1 : Nat) : Int) - (nFr (eStep H c (eRed H T c)).2.2.2.2 c + (if (eStep H c (eRed H T c)).2.2.2.2 c < 0 then 1 else 0))
    by_cases h : eRow H c (eRed H T c) = H
    · rw [eStep_n h]
      show (eRed H T c).2.1 = ((c + 1 : Nat) : Int) - (nFr (uZ (eRed H T c).2.2.2.2 c (-1)) c + (if uZ (eRed H T c).2.2.2.2 c (-1) c < 0 then 1 else 0))
      rw [if_pos (show uZ (eRed H T c).2.2.2.2 c (-1) c < 0 by rw [uZ_s]; decide), nFr_c (g := (eRed H T c).2.2.2.2) c fun u u0 u1 => uZ_n _ _ (by omega), ih]
      omega
    · rw [eStep_y h]
      show (eRed H T c).2.1 + 1 = ((c + 1 : Nat) : Int) - (nFr (uZ (eRed H T c).2.2.2.2 c (eRed H T c).2.1) c + (if uZ (eRed H T c).2.2.2.2 c (eRed H T c).2.1 c < 0 then 1 else 0))
      rw [if_neg (show ¬ uZ (eRed H T c).2.2.2.2 c (eRed H T c).2.1 c < 0 by rw [uZ_s]; omega), nFr_c (g := (eRed H T c).2.2.2.2) c fun u u0 u1 => uZ_n _ _ (by omega), ih]
      omega
def zBc (v : Int) : Int :=
  let a := v - zand (zushr v 1) 1431655765
  let b := zand a 858993459 + zand (zushr a 2) 858993459
  let c := zand (b + zushr b 4) 252645135
  let d := c + zushr c 8
  let e := d + zushr d 16
  zand e 63
def zFb (b : Nat → Bool) : Nat → Int
  | 0 => 0
  | k + 1 => zor (zFb b k) (if b k then zshl 1 k else 0)
def nFb (b : Nat → Bool) : Nat → Int
  | 0 => 0
  | k + 1 => nFb b k + (if b k then 1 else 0)
theorem zFb_e (led : Int → Int) : ∀ n : Nat, zFr led n = zFb (fun k => decide (led k < 0)) n ∧ nFr led n = nFb (fun k => decide (led k < 0)) n := by
  intro n
  induction n with
  | zero => exact ⟨rfl, rfl⟩
  | succ n ih =>
    constructor
    · show zor (zFr led n) (if led n < 0 then zshl 1 n else 0) = zor (zFb _ n) (if decide (led n < 0) = true then zshl 1 n else 0)
      rw [ih.1]
      by_cases h : led n < 0
      · rw [if_pos h, decide_eq_true h, if_pos rfl]
      · rw [if_neg h, decide_eq_false h, if_neg (by decide)]
    · show nFr led n + (if led n < 0 then 1 else 0) = nFb _ n + (if decide (led n < 0) = true then 1 else 0)
      rw [ih.2]
      by_cases h : led n < 0
      · rw [if_pos h, decide_eq_true h, if_pos rfl]
      · rw [if_neg h, decide_eq_false h, if_neg (by decide)]
theorem zFb_c {f g : Nat → Bool} : ∀ n : Nat, (∀ k, k < n → f k = g k) → zFb f n = zFb g n ∧ nFb f n = nFb g n := by
  intro n
  induction n with
  | zero => intro _; exact ⟨rfl, rfl⟩
  | succ n ih =>
    intro h
    have := ih fun k hk => h k (by omega)
    exact ⟨by show zor (zFb f n) _ = zor (zFb g n) _; rw [this.1, h n (by omega)], by show nFb f n + _ = nFb g n + _; rw [this.2, h n (by omega)]⟩
def w_bcB : Bool := decide (∀ (n : Fin 7) (b : Fin 64), zBc (zFb (fun k => b.val.testBit k) n.val) = nFb (fun k => b.val.testBit k) n.val)
theorem w_bcB_t : w_bcB = true := by decide +kernel
theorem w_bits (f : Nat → Bool) : ∀ n : Nat, ∃ b, b < 2 ^ n ∧ ∀ k, k < n → Nat.testBit b k = f k := by
  intro n
  induction n with
  | zero => exact ⟨0, by decide, fun k hk => by omega⟩
  | succ n ih =>
    obtain ⟨b, hb, h⟩ := ih
    refine ⟨b + (if f n then 2 ^ n else 0), by rw [Nat.pow_succ]; split <;> omega, fun k hk => ?_⟩
    split
    · rename_i hf
      rw [Nat.add_comm]
      by_cases e : k = n
      · rw [e, Nat.testBit_two_pow_add_eq, Nat.testBit_lt_two_pow hb, hf]; rfl
      · rw [Nat.testBit_two_pow_add_gt (by omega)]; exact h k (by omega)
    · rename_i hf
      by_cases e : k = n
      · rw [e, Nat.add_zero, Nat.testBit_lt_two_pow hb]; simpa using hf
      · exact h k (by omega)
theorem zBc_fr {led : Int → Int} {n : Nat} (hn : n ≤ 6) : zBc (zFr led n) = nFr led n := by
  obtain ⟨b, hb, h⟩ := w_bits (fun k => decide (led k < 0)) n
  have h64 : b < 64 := Nat.lt_of_lt_of_le hb (Nat.pow_le_pow_right (by decide) hn)
  have e := of_decide_eq_true w_bcB_t ⟨n, by omega⟩ ⟨b, h64⟩
  dsimp only at e
  have c := zFb_c n h
  rw [(zFb_e led n).1, (zFb_e led n).2, ← c.1, ← c.2]
  exact e
