/-! THE SYSTEM's entries: the sum at a place, unknown by unknown -/
theorem w_dsum (m n : Int) (hmn : (1 ≤ m ∧ m ≤ 3) ∧ 1 ≤ n ∧ n ≤ 3) (s a r : Int → Int → Int) (sh i j : Int) (hi : 0 ≤ i ∧ i < m) (hj : 0 ≤ j ∧ j < n) :
    zsum (fun q => s (q.tdiv n) (q.tmod n) * ((if j = q.tmod n then a i (q.tdiv n) else 0) + (if i = q.tdiv n ∧ j = q.tmod n then sh else 0) + (if i = q.tdiv n then r (q.tmod n) j else 0))) (m * n).toNat
      = s i j * sh + zsum (fun k => s k j * a i k) m.toNat + zsum (fun k => s i k * r k j) n.toNat := by
  obtain ⟨⟨h1, h2⟩, h3, h4⟩ := hmn
  rcases (by omega : m = 1 ∨ m = 2 ∨ m = 3) with rfl | rfl | rfl <;> rcases (by omega : n = 1 ∨ n = 2 ∨ n = 3) with rfl | rfl | rfl <;>
    rcases (by omega : i = 0 ∨ i = 1 ∨ i = 2) with rfl | rfl | rfl <;> rcases (by omega : j = 0 ∨ j = 1 ∨ j = 2) with rfl | rfl | rfl <;>
    first | omega | (simp [zsum]; try grind)
theorem w_tak {E : Nat → Int → Int} {m n kind shape shift p pl : Int} (hmn : (1 ≤ m ∧ m ≤ 3) ∧ 1 ≤ n ∧ n ≤ 3) (hp : 0 ≤ p ∧ p < m * n) : mTak E n kind shape shift p pl (m * n).toNat = zSh shape (p.tdiv n) (p.tmod n) (pl.tdiv n) (pl.tmod n) * shift + zsum (fun k => zSh shape k (p.tmod n) (pl.tdiv n) (pl.tmod n) * mE E 0 (p.tdiv n) k) m.toNat + zsum (fun k => zSh shape (p.tdiv n) k (pl.tdiv n) (pl.tmod n) * mRight E kind k (p.tmod n)) n.toNat := by
  have d := dm_r hmn hp
  exact w_dsum m n hmn (fun k l => zSh shape k l (pl.tdiv n) (pl.tmod n)) (mE E 0) (mRight E kind) shift (p.tdiv n) (p.tmod n) d.1 d.2.1
/-- the class's codes are the reference's places -/
def w_sg (co u : Int) : Int := if co = u + 1 then 1 else if co = -(u + 1) then -1 else 0
def w_codeB : Bool := decide (∀ (kd : Fin 7) (m n : Fin 4) (u : Fin 9), 1 ≤ m.val → 1 ≤ n.val → (kd.val ≤ 1 ∨ n.val = m.val) → (u.val : Int) < tCnt kd.val m.val n.val → ∀ (i j : Fin 3), i.val < m.val → j.val < n.val → w_sg (zCo kd.val n.val i.val j.val) u.val = zSh kd.val i.val j.val ((tPlc kd.val m.val n.val u.val).tdiv n.val) ((tPlc kd.val m.val n.val u.val).tmod n.val))
theorem w_codeB_t : w_codeB = true := by decide +kernel
theorem w_code {kd m n u i j : Int} (hk : 0 ≤ kd ∧ kd ≤ 6) (hmn : (1 ≤ m ∧ m ≤ 3) ∧ 1 ≤ n ∧ n ≤ 3) (hl : zLike m n kd) (hu : 0 ≤ u ∧ u < tCnt kd m n) (hi : 0 ≤ i ∧ i < m) (hj : 0 ≤ j ∧ j < n) (hu9 : u < 9) : w_sg (zCo kd n i j) u = zSh kd i j ((tPlc kd m n u).tdiv n) ((tPlc kd m n u).tmod n) := by
  have h := of_decide_eq_true w_codeB_t ⟨kd.toNat, by omega⟩ ⟨m.toNat, by omega⟩ ⟨n.toNat, by omega⟩ ⟨u.toNat, by omega⟩
  have e1 : ((kd.toNat : Nat) : Int) = kd := by omega
  have e2 : ((m.toNat : Nat) : Int) = m := by omega
  have e3 : ((n.toNat : Nat) : Int) = n := by omega
  have e4 : ((u.toNat : Nat) : Int) = u := by omega
  have e5 : ((i.toNat : Nat) : Int) = i := by omega
  have e6 : ((j.toNat : Nat) : Int) = j := by omega
  dsimp only at h
  rw [e1, e2, e3, e4] at h
  have h := h (by omega) (by omega) (by omega) hu.2 ⟨i.toNat, by omega⟩ ⟨j.toNat, by omega⟩
  dsimp only at h
  rw [e5, e6] at h
  exact h (by omega) (by omega)
def w_cntB : Bool := decide (∀ (kd : Fin 7) (m n : Fin 4), 1 ≤ m.val → 1 ≤ n.val → (kd.val ≤ 1 ∨ n.val = m.val) → tCnt kd.val m.val n.val = zUn kd.val m.val n.val)
theorem w_cntB_t : w_cntB = true := by decide +kernel
theorem w_cnt {kd m n : Int} (hk : 0 ≤ kd ∧ kd ≤ 6) (hmn : (1 ≤ m ∧ m ≤ 3) ∧ 1 ≤ n ∧ n ≤ 3) (hl : zLike m n kd) : tCnt kd m n = zUn kd m n := by
  have h := of_decide_eq_true w_cntB_t ⟨kd.toNat, by omega⟩ ⟨m.toNat, by omega⟩ ⟨n.toNat, by omega⟩
  have e1 : ((kd.toNat : Nat) : Int) = kd := by omega
  have e2 : ((m.toNat : Nat) : Int) = m := by omega
  have e3 : ((n.toNat : Nat) : Int) = n := by omega
  dsimp only at h
  rw [e1, e2, e3] at h
  exact h (by omega) (by omega) (by omega)
def w_plB : Bool := decide (∀ (m n : Fin 4) (u : Fin 9), 1 ≤ m.val → 1 ≤ n.val → u.val < m.val * n.val → tPlc 0 m.val n.val u.val = u.val)
theorem w_plB_t : w_plB = true := by decide +kernel
theorem w_pl {m n u : Int} (hmn : (1 ≤ m ∧ m ≤ 3) ∧ 1 ≤ n ∧ n ≤ 3) (hu : 0 ≤ u ∧ u < m * n) : tPlc 0 m n u = u := by
  have hm := mn_r hmn
  have h := of_decide_eq_true w_plB_t ⟨m.toNat, by omega⟩ ⟨n.toNat, by omega⟩ ⟨u.toNat, by omega⟩
  have e2 : ((m.toNat : Nat) : Int) = m := by omega
  have e3 : ((n.toNat : Nat) : Int) = n := by omega
  have e4 : ((u.toNat : Nat) : Int) = u := by omega
  dsimp only at h
  rw [e2, e3, e4] at h
  exact h (by omega) (by omega) (by have : ((m.toNat * n.toNat : Nat) : Int) = m * n := by rw [Int.natCast_mul, e2, e3]
                                    omega)
/-- bounds of the entries -/
def w_bd9 (shape m n i j k l : Int) : Nat := 5 * (zsum (fun x => (zSh shape x j k l).natAbs) m.toNat).natAbs + 5 * (zsum (fun x => (zSh shape i x k l).natAbs) n.toNat).natAbs + 2 * (zSh shape i j k l).natAbs
theorem w_zabs {f g : Int → Int} : ∀ n : Nat, (∀ x : Int, 0 ≤ x → x < n → (g x).natAbs ≤ 5) → (zsum (fun x => f x * g x) n).natAbs ≤ 5 * (zsum (fun x => ((f x).natAbs : Int)) n).natAbs ∧ 0 ≤ zsum (fun x => ((f x).natAbs : Int)) n := by
  intro n
  induction n with
  | zero => intro _; exact ⟨Nat.zero_le _, Int.le_refl _⟩
  | succ n ih =>
    intro h
    have ih := ih fun x h0 h1 => h x h0 (by omega)
    have h1 : (f n * g n).natAbs ≤ 5 * (f n).natAbs := by rw [Int.natAbs_mul, Nat.mul_comm]; exact Nat.mul_le_mul_right _ (h _ (by omega) (by omega))
    show (zsum (fun x => f x * g x) n + f n * g n).natAbs ≤ 5 * (zsum (fun x => ((f x).natAbs : Int)) n + ((f n).natAbs : Int)).natAbs ∧ 0 ≤ zsum (fun x => ((f x).natAbs : Int)) n + ((f n).natAbs : Int)
    omega
theorem w_m5 {E : Nat → Int → Int} (hE : tEn (E 0)) {t i j : Int} (ht : t = 0 ∨ t = 1) (hi : 0 ≤ i ∧ i < 3) (hj : 0 ≤ j ∧ j < 3) : -5 ≤ mE E t i j ∧ mE E t i j ≤ 5 := (hE (9 * t + 3 * i + j)).2 (by omega)
theorem w_r5 {E : Nat → Int → Int} (hE : tEn (E 0)) {kind i j : Int} (hi : 0 ≤ i ∧ i < 3) (hj : 0 ≤ j ∧ j < 3) : -5 ≤ mRight E kind i j ∧ mRight E kind i j ≤ 5 := by
  have h1 := w_m5 hE (Or.inr rfl) hi hj
  have h2 := w_m5 hE (Or.inl rfl) hi hj
  have h3 := w_m5 hE (Or.inl rfl) hj hi
  unfold mRight
  (repeat' split) <;> omega
theorem w_ent {E : Nat → Int → Int} (hE : tEn (E 0)) {m n kind shape shift p pl : Int} (hmn : (1 ≤ m ∧ m ≤ 3) ∧ 1 ≤ n ∧ n ≤ 3) (hp : 0 ≤ p ∧ p < m * n) (hs : -2 ≤ shift ∧ shift ≤ 2) : (mTak E n kind shape shift p pl (m * n).toNat).natAbs ≤ w_bd9 shape m n (p.tdiv n) (p.tmod n) (pl.tdiv n) (pl.tmod n) := by
  have d := dm_r hmn hp
  rw [w_tak hmn hp]
  have a := (w_zabs (f := fun k => zSh shape k (p.tmod n) (pl.tdiv n) (pl.tmod n)) (g := fun k => mE E 0 (p.tdiv n) k) m.toNat fun x h0 h1 => by have := w_m5 hE (t := 0) (Or.inl rfl) (i := p.tdiv n) (j := x) (by omega) (by omega); omega).1
  have b := (w_zabs (f := fun k => zSh shape (p.tdiv n) k (pl.tdiv n) (pl.tmod n)) (g := fun k => mRight E kind k (p.tmod n)) n.toNat fun x h0 h1 => by have := w_r5 hE (kind := kind) (i := x) (j := p.tmod n) (by omega) (by omega); omega).1
  have c : (zSh shape (p.tdiv n) (p.tmod n) (pl.tdiv n) (pl.tmod n) * shift).natAbs ≤ 2 * (zSh shape (p.tdiv n) (p.tmod n) (pl.tdiv n) (pl.tmod n)).natAbs := by
    rw [Int.natAbs_mul, Nat.mul_comm]
    exact Nat.mul_le_mul_right _ (by omega)
  unfold w_bd9
  omega
/-- where an entry of a system stands in the tables of bounds -/
def w_κ (shape m n u : Int) : Int := 3 * (tPlc shape m n u).tdiv n + (tPlc shape m n u).tmod n
def w_B (shape : Int) : Int → Int → Nat := if shape < 4 then w_BP else w_BE
def w_entB : Bool := decide (∀ (sh : Fin 7) (m n : Fin 4) (p u : Fin 9), (sh.val = 0 ∨ 4 ≤ sh.val) → 1 ≤ m.val → 1 ≤ n.val → (sh.val ≤ 1 ∨ n.val = m.val) → p.val < m.val * n.val → (u.val : Int) < tCnt sh.val m.val n.val → w_bd9 sh.val m.val n.val ((p.val : Int).tdiv n.val) ((p.val : Int).tmod n.val) ((tPlc sh.val m.val n.val u.val).tdiv n.val) ((tPlc sh.val m.val n.val u.val).tmod n.val) ≤ w_B sh.val (3 * (p.val : Int).tdiv n.val + (p.val : Int).tmod n.val) (w_κ sh.val m.val n.val u.val))
theorem w_entB_t : w_entB = true := by decide +kernel
/-! THE SYSTEMS keep the bounds -/
theorem w_tPl {s n : Int} (hs : s ≠ 4 ∧ s ≠ 5 ∧ s ≠ 6) (f : Int → Int) : ∀ k : Nat, tPl s n f k = tPl 0 n f k := by
  intro k
  induction k with
  | zero => rfl
  | succ k ih =>
    show (if zIsU s _ _ then _ else _) = (if zIsU 0 _ _ then _ else _)
    rw [if_pos (show zIsU s _ _ by unfold zIsU; omega), if_pos (show zIsU 0 _ _ by unfold zIsU; omega), ih]
theorem w_sh0 {s : Int} (hs : s ≠ 4 ∧ s ≠ 5 ∧ s ≠ 6) : tCnt s = tCnt 0 ∧ tPlc s = tPlc 0 ∧ zSh s = zSh 0 := by
  refine ⟨?_, ?_, ?_⟩
  · funext m n; unfold tCnt; rw [w_tPl hs]
  · funext m n; unfold tPlc; rw [w_tPl hs]
  · funext i j k l; unfold zSh; rw [if_neg hs.1, if_neg hs.2.1, if_neg hs.2.2]; rfl
theorem w_sys0 {s : Int} (hs : s ≠ 4 ∧ s ≠ 5 ∧ s ≠ 6) (E : Nat → Int → Int) (m n kind shift first : Int) : mSys E m n kind s shift first = mSys E m n kind 0 shift first := by
  obtain ⟨h1, h2, h3⟩ := w_sh0 hs
  unfold mSys mTak
  rw [h1, h2, h3]
theorem w_cnt0 {m n : Int} (hmn : (1 ≤ m ∧ m ≤ 3) ∧ 1 ≤ n ∧ n ≤ 3) : tCnt 0 m n = m * n := by
  rw [w_cnt (by omega) hmn (by unfold zLike; omega)]
  rfl
def w_entP : Bool := decide (∀ (m n f : Fin 4) (p q : Fin 9), 1 ≤ m.val → 1 ≤ n.val → f.val < m.val → p.val < (m.val - f.val) * n.val → q.val < (m.val - f.val) * n.val → w_bd9 0 m.val n.val (((p.val : Int) + f.val * n.val).tdiv n.val) (((p.val : Int) + f.val * n.val).tmod n.val) (((q.val : Int) + f.val * n.val).tdiv n.val) (((q.val : Int) + f.val * n.val).tmod n.val) ≤ w_b (3 * (p.val : Int).tdiv n.val + (p.val : Int).tmod n.val) (3 * (q.val : Int).tdiv n.val + (q.val : Int).tmod n.val))
theorem w_entP_t : w_entP = true := by decide +kernel
theorem w_entQ {m n f p q : Int} (hmn : (1 ≤ m ∧ m ≤ 3) ∧ 1 ≤ n ∧ n ≤ 3) (hf : 0 ≤ f ∧ f < m) (hp : 0 ≤ p ∧ p < (m - f) * n) (hq : 0 ≤ q ∧ q < (m - f) * n) : w_bd9 0 m n ((p + f * n).tdiv n) ((p + f * n).tmod n) ((q + f * n).tdiv n) ((q + f * n).tmod n) ≤ w_b (3 * p.tdiv n + p.tmod n) (3 * q.tdiv n + q.tmod n) := by
  have hx : (m - f) * n ≤ 9 := (mn_r (m := m - f) (n := n) ⟨by omega, hmn.2⟩).2
  have h := of_decide_eq_true w_entP_t ⟨m.toNat, by omega⟩ ⟨n.toNat, by omega⟩ ⟨f.toNat, by omega⟩ ⟨p.toNat, by omega⟩ ⟨q.toNat, by omega⟩
  have e1 : ((m.toNat : Nat) : Int) = m := by omega
  have e2 : ((n.toNat : Nat) : Int) = n := by omega
  have e3 : ((f.toNat : Nat) : Int) = f := by omega
  have e4 : ((p.toNat : Nat) : Int) = p := by omega
  have e5 : ((q.toNat : Nat) : Int) = q := by omega
  have e6 : (((m.toNat - f.toNat) * n.toNat : Nat) : Int) = (m - f) * n := by rw [Int.natCast_mul, e2]; congr 1; omega
  dsimp only at h
  rw [e1, e2, e3, e4, e5] at h
  exact h (by omega) (by omega) (by omega) (by omega) (by omega)
abbrev w_ρ (n p : Int) : Int := 3 * p.tdiv n + p.tmod n
theorem w_ρ_i {m n p q : Int} (hmn : (1 ≤ m ∧ m ≤ 3) ∧ 1 ≤ n ∧ n ≤ 3) (hp : 0 ≤ p ∧ p < m * n) (hq : 0 ≤ q ∧ q < m * n) (h : w_ρ n p = w_ρ n q) : p = q := by
  have d1 := dm_r hmn hp
  have d2 := dm_r hmn hq
  unfold w_ρ at h
  have e1 : p.tdiv n = q.tdiv n := by omega
  have e2 : p.tmod n = q.tmod n := by omega
  rw [d1.2.2, d2.2.2, e1, e2]
theorem w_ρ_r {m n p : Int} (hmn : (1 ≤ m ∧ m ≤ 3) ∧ 1 ≤ n ∧ n ≤ 3) (hp : 0 ≤ p ∧ p < m * n) : 0 ≤ w_ρ n p ∧ w_ρ n p ≤ 8 ∧ (n ≤ 2 → w_ρ n p ≠ 2 ∧ w_ρ n p ≠ 5 ∧ w_ρ n p ≠ 8) ∧ (m ≤ 2 → w_ρ n p ≤ 5) := by
  have d1 := dm_r hmn hp
  unfold w_ρ
  omega
theorem w_Ce {E : Nat → Int → Int} (hE : tEn (E 0)) (i j : Int) : (mE E 2 i j).natAbs ≤ 50 := by
  have : -50 ≤ mE E 2 i j ∧ mE E 2 i j ≤ 50 := (hE _).1
  omega
/-- a system of full shape -/
theorem w_gP {E : Nat → Int → Int} (hE : tEn (E 0)) {m n kind shift first : Int} (hmn : (1 ≤ m ∧ m ≤ 3) ∧ 1 ≤ n ∧ n ≤ 3) (hs : -2 ≤ shift ∧ shift ≤ 2) (hf : 0 ≤ first ∧ first < m) (h6 : zW 0 m n first ≤ 6) :
    w_G (zH m n first) (zW 0 m n first) (zW 0 m n first + 1) (mSys E m n kind 0 shift first) w_BP (w_ρ n) (fun q => if q < zW 0 m n first then w_ρ n q else 9) (if n = 3 then [0, 1, 2, 3, 4, 5] else [0, 1, 3, 4, 6, 7]) (if n = 3 then [0, 1, 2, 3, 4, 5, 9] else [0, 1, 3, 4, 6, 7, 9]) w_N1 := by
  have hm : (1 ≤ m - first ∧ m - first ≤ 3) ∧ 1 ≤ n ∧ n ≤ 3 := ⟨by omega, hmn.2⟩
  have e0 : (if first = 0 then 0 else first * n) = first * n := by split; (rename_i h; rw [h]; omega); rfl
  have eW : zW 0 m n first = (m - first) * n := by unfold zW; rw [w_cnt0 hmn, e0, Int.sub_mul]
  have eH : zH m n first = (m - first) * n := by unfold zH; rw [Int.sub_mul]
  have hr := mn_r hm
  have h36 : n = 3 → m - first ≤ 2 := by
    intro h
    subst h
    omega
  rw [eH]
  rw [eW] at h6 ⊢
  have hin : ∀ p, 0 ≤ p → p < (m - first) * n → w_ρ n p ∈ (if n = 3 then [0, 1, 2, 3, 4, 5] else [0, 1, 3, 4, 6, 7] : List Int) := by
    intro p h0 h1
    have := w_ρ_r hm ⟨h0, h1⟩
    split
    · rename_i q
      have := this.2.2.2 (h36 q)
      simp only [List.mem_cons, List.not_mem_nil, or_false]; omega
    · have := this.2.2.1 (by omega)
      simp only [List.mem_cons, List.not_mem_nil, or_false]; omega
  have hin9 : ∀ x : Int, x ∈ (if n = 3 then [0, 1, 2, 3, 4, 5] else [0, 1, 3, 4, 6, 7] : List Int) → x ∈ (if n = 3 then [0, 1, 2, 3, 4, 5, 9] else [0, 1, 3, 4, 6, 7, 9] : List Int) := by
    intro x
    split <;> (simp only [List.mem_cons, List.not_mem_nil, or_false]; omega)
  refine w_G.mk (hB := ?_) (hW := by omega) (hρ := hin) (iρ := fun p h0 h1 q h2 h3 h => w_ρ_i hm ⟨h0, h1⟩ ⟨h2, h3⟩ h) (hκ := ?_) (iκ := ?_) (h9 := ?_) (hR := by split <;> decide) (hC := by split <;> decide) (ck := by split; exact w_c1; exact w_c1') (mo := fun k => by unfold w_N1; decide)
  · intro p h0 h1 q h2 h3
    unfold mSys
    rw [w_cnt0 hmn, e0]
    have eS : m * n - first * n = (m - first) * n := by rw [Int.sub_mul]
    have hpm : 0 ≤ p + first * n ∧ p + first * n < m * n := by
      have : 0 ≤ first * n := Int.mul_nonneg hf.1 (by omega)
      omega
    rw [eS]
    by_cases hq : q < (m - first) * n
    · rw [if_pos hq]
      rw [if_pos hq]
      have hqm : 0 ≤ q + first * n ∧ q + first * n < m * n := by
        have : 0 ≤ first * n := Int.mul_nonneg hf.1 (by omega)
        omega
      have h := w_ent hE (kind := kind) (shape := 0) (pl := tPlc 0 m n (q + first * n)) hmn hpm hs
      rw [w_pl hmn hqm] at h ⊢
      refine Nat.le_trans h (Nat.le_trans (w_entQ hmn hf ⟨h0, h1⟩ ⟨h2, hq⟩) ?_)
      have e9 : ¬ (3 * q.tdiv n + q.tmod n = 9) := fun z => by have := (w_ρ_r hm ⟨h2, hq⟩).2.1; have z : w_ρ n q = 9 := z; omega
      unfold w_BP
      rw [if_neg e9]
      exact Nat.le_refl _
    · rw [if_neg hq]
      rw [if_neg hq]
      exact w_Ce hE _ _
  · intro q h0 h1
    by_cases hq : q < (m - first) * n
    · rw [if_pos hq]
      exact hin9 _ (hin q h0 hq)
    · rw [if_neg hq]
      split <;> decide
  · intro p h0 h1 q h2 h3
    rw [if_pos h1]
    by_cases hq : q < (m - first) * n
    · rw [if_pos hq]
      exact fun h => w_ρ_i hm ⟨h0, h1⟩ ⟨h2, hq⟩ h
    · rw [if_neg hq]
      intro h
      have := w_ρ_r hm ⟨h0, h1⟩
      omega
  · intro q h0 h1
    rw [if_pos h1]
    have := w_ρ_r hm ⟨h0, h1⟩
    omega
/-! the shapes of square tables -/
def w_kB : Bool := decide (∀ (sh : Fin 7) (m : Fin 4) (u : Fin 9), 4 ≤ sh.val → 1 ≤ m.val → (u.val : Int) < tCnt sh.val m.val m.val → w_κ sh.val m.val m.val u.val ∈ ([0, 1, 2, 4, 5, 8] : List Int) ∧ ∀ v : Fin 9, (v.val : Int) < tCnt sh.val m.val m.val → w_κ sh.val m.val m.val u.val = w_κ sh.val m.val m.val v.val → u = v)
theorem w_kB_t : w_kB = true := by decide +kernel
theorem w_kr {sh m u : Int} (hs : 4 ≤ sh ∧ sh ≤ 6) (hm : 1 ≤ m ∧ m ≤ 3) (hu : 0 ≤ u ∧ u < tCnt sh m m ∧ u < 9) : w_κ sh m m u ∈ ([0, 1, 2, 4, 5, 8] : List Int) := by
  have h := of_decide_eq_true w_kB_t ⟨sh.toNat, by omega⟩ ⟨m.toNat, by omega⟩ ⟨u.toNat, by omega⟩
  have e1 : ((sh.toNat : Nat) : Int) = sh := by omega
  have e2 : ((m.toNat : Nat) : Int) = m := by omega
  have e3 : ((u.toNat : Nat) : Int) = u := by omega
  dsimp only at h
  rw [e1, e2, e3] at h
  exact (h (by omega) (by omega) hu.2.1).1
theorem w_ki {sh m u v : Int} (hs : 4 ≤ sh ∧ sh ≤ 6) (hm : 1 ≤ m ∧ m ≤ 3) (hu : 0 ≤ u ∧ u < tCnt sh m m ∧ u < 9) (hv : 0 ≤ v ∧ v < tCnt sh m m ∧ v < 9) (q : w_κ sh m m u = w_κ sh m m v) : u = v := by
  have h := of_decide_eq_true w_kB_t ⟨sh.toNat, by omega⟩ ⟨m.toNat, by omega⟩ ⟨u.toNat, by omega⟩
  have e1 : ((sh.toNat : Nat) : Int) = sh := by omega
  have e2 : ((m.toNat : Nat) : Int) = m := by omega
  have e3 : ((u.toNat : Nat) : Int) = u := by omega
  have e4 : ((v.toNat : Nat) : Int) = v := by omega
  dsimp only at h
  rw [e1, e2, e3] at h
  have h := (h (by omega) (by omega) hu.2.1).2 ⟨v.toNat, by omega⟩
  dsimp only at h
  rw [e4] at h
  have := congrArg Fin.val (h hv.2.1 q)
  dsimp only at this
  omega
theorem w_entE {sh m p u : Int} (hs : 4 ≤ sh ∧ sh ≤ 6) (hm : 1 ≤ m ∧ m ≤ 3) (hp : 0 ≤ p ∧ p < m * m) (hu : 0 ≤ u ∧ u < tCnt sh m m ∧ u < 9) : w_bd9 sh m m (p.tdiv m) (p.tmod m) ((tPlc sh m m u).tdiv m) ((tPlc sh m m u).tmod m) ≤ w_BE (w_ρ m p) (w_κ sh m m u) := by
  have hx := (mn_r (m := m) (n := m) ⟨hm, hm⟩).2
  have h := of_decide_eq_true w_entB_t ⟨sh.toNat, by omega⟩ ⟨m.toNat, by omega⟩ ⟨m.toNat, by omega⟩ ⟨p.toNat, by omega⟩ ⟨u.toNat, by omega⟩
  have e1 : ((sh.toNat : Nat) : Int) = sh := by omega
  have e2 : ((m.toNat : Nat) : Int) = m := by omega
  have e3 : ((u.toNat : Nat) : Int) = u := by omega
  have e4 : ((p.toNat : Nat) : Int) = p := by omega
  have e5 : ((m.toNat * m.toNat : Nat) : Int) = m * m := by rw [Int.natCast_mul, e2]
  dsimp only at h
  rw [e1, e2, e3, e4] at h
  have h := h (Or.inr (by omega)) (by omega) (by omega) (Or.inr rfl) (by omega) hu.2.1
  unfold w_B at h
  rw [if_neg (by omega)] at h
  exact h
/-- a system of an own shape -/
theorem w_gE {E : Nat → Int → Int} (hE : tEn (E 0)) {m kind sh shift : Int} (hm : 1 ≤ m ∧ m ≤ 3) (hs : -2 ≤ shift ∧ shift ≤ 2) (hsh : 4 ≤ sh ∧ sh ≤ 6) :
    w_G (zH m m 0) (zW sh m m 0) (zW sh m m 0 + 1) (mSys E m m kind sh shift 0) w_BE (w_ρ m) (fun q => if q < zW sh m m 0 then w_κ sh m m q else 9) [0, 1, 2, 3, 4, 5, 6, 7, 8] [0, 1, 2, 4, 5, 8, 9] w_N1 := by
  have hmn : (1 ≤ m ∧ m ≤ 3) ∧ 1 ≤ m ∧ m ≤ 3 := ⟨hm, hm⟩
  have eW : zW sh m m 0 = tCnt sh m m := by unfold zW; rw [if_pos rfl, Int.sub_zero]
  have eH : zH m m 0 = m * m := by unfold zH; omega
  have hr := mn_r hmn
  have hw : 0 ≤ tCnt sh m m ∧ tCnt sh m m ≤ 9 := by
    have h1 := w_cnt (kd := sh) (by omega) hmn (Or.inr rfl)
    rw [h1]
    unfold zUn
    rcases (by omega : m = 1 ∨ m = 2 ∨ m = 3) with rfl | rfl | rfl <;> rcases (by omega : sh = 4 ∨ sh = 5 ∨ sh = 6) with rfl | rfl | rfl <;> decide
  rw [eH, eW]
  have h9 : ∀ q, 0 ≤ q → q < tCnt sh m m → w_κ sh m m q ≠ 9 ∧ w_κ sh m m q ∈ ([0, 1, 2, 4, 5, 8, 9] : List Int) := by
    intro q h0 h1
    have h := w_kr hsh hm (u := q) ⟨h0, h1, by omega⟩
    simp only [List.mem_cons, List.not_mem_nil, or_false] at h ⊢
    omega
  refine w_G.mk (hB := ?_) (hW := by omega) (hρ := ?_) (iρ := fun p h0 h1 q h2 h3 h => w_ρ_i hmn ⟨h0, h1⟩ ⟨h2, h3⟩ h) (hκ := ?_) (iκ := ?_) (h9 := ?_) (hR := by decide) (hC := by decide) (ck := w_c2) (mo := fun k => by unfold w_N1; decide)
  · intro p h0 h1 q h2 h3
    unfold mSys
    rw [if_pos rfl, Int.sub_zero, Int.zero_mul, Int.add_zero]
    by_cases hq : q < tCnt sh m m
    · rw [if_pos hq, if_pos hq, Int.add_zero]
      exact Nat.le_trans (w_ent hE hmn ⟨h0, h1⟩ hs) (w_entE hsh hm ⟨h0, h1⟩ ⟨h2, hq, by omega⟩)
    · rw [if_neg hq, if_neg hq]
      exact w_Ce hE _ _
  · intro p h0 h1
    have := w_ρ_r hmn ⟨h0, h1⟩
    simp only [List.mem_cons, List.not_mem_nil, or_false]
    omega
  · intro q h0 h1
    by_cases hq : q < tCnt sh m m
    · rw [if_pos hq]; exact (h9 q h0 hq).2
    · rw [if_neg hq]; decide
  · intro p h0 h1 q h2 h3
    rw [if_pos h1]
    by_cases hq : q < tCnt sh m m
    · rw [if_pos hq]; exact fun h => w_ki hsh hm ⟨h0, h1, by omega⟩ ⟨h2, hq, by omega⟩ h
    · rw [if_neg hq]; exact fun h => absurd h (h9 p h0 h1).1
  · intro q h0 h1
    rw [if_pos h1]
    exact (h9 q h0 h1).1
theorem w_safe {m n : Int} {E : Nat → Int → Int} (hmn : (1 ≤ m ∧ m ≤ 3) ∧ 1 ≤ n ∧ n ≤ 3) (hE : tEn (E 0)) : mSafe m n E := by
  intro kind shape shift first hk hsh hl hs hf hfs hw c h0 h1
  have hH : 0 ≤ zH m n first := by
    unfold zH
    rw [← Int.sub_mul]
    exact Int.mul_nonneg (by omega) (by omega)
  obtain ⟨σ, cs, V⟩ := w_Vn (zH m n first) hH (mSys E m n kind shape shift first) c.toNat
  rw [show ((c.toNat : Nat) : Int) = c by omega] at V
  by_cases hx : shape ≠ 4 ∧ shape ≠ 5 ∧ shape ≠ 6
  · have eW : zW shape m n first = zW 0 m n first := by unfold zW; rw [(w_sh0 hx).1]
    rw [eW] at hw h1 ⊢
    have g := w_gP hE hmn hs hf hw (kind := kind)
    rw [w_sys0 hx] at V ⊢
    have F := w_fit g w_S1 V ⟨h0, h1⟩
    exact ⟨fun p q p0 p1 q0 q1 => F.1 p q p0 p1 q0 (by omega), F.2.1, fun a b p q p0 p1 pn q0 q1 => F.2.2 a b p q p0 p1 pn q0 (by omega)⟩
  · have hf0 : first = 0 := by
      rcases Int.decEq first 0 with q | q
      · have := hfs q; omega
      · exact q
    subst hf0
    have hsk : shape = kind := by omega
    have hmm : n = m := by rcases hl with q | q <;> omega
    subst hmm
    have g := w_gE hE hmn.1 hs (kind := kind) (sh := shape) (by omega)
    have F := w_fit g w_S1 V ⟨h0, h1⟩
    exact ⟨fun p q p0 p1 q0 q1 => F.1 p q p0 p1 q0 (by omega), F.2.1, fun a b p q p0 p1 pn q0 q1 => F.2.2 a b p q p0 p1 pn q0 (by omega)⟩
