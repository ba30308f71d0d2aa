/-! THE WITNESS: two systems that say one thing -/
theorem w_zadd {f g : Int → Int} (n : Nat) : zsum (fun x => f x + g x) n = zsum f n + zsum g n := by
  have := w_zsl (f := f) (g := g) (k := fun x => f x + g x) (a := 1) (b := 1) n fun x _ _ => by omega
  omega
theorem w_zmul {f : Int → Int} (a : Int) (n : Nat) : zsum (fun x => a * f x) n = a * zsum f n := by
  have := w_zsl (f := f) (g := f) (k := fun x => a * f x) (a := a) (b := 0) n fun x _ _ => by omega
  omega
theorem w_zcomm {f : Int → Int → Int} (n : Nat) : ∀ k : Nat, zsum (fun x => zsum (fun y => f x y) n) k = zsum (fun y => zsum (fun x => f x y) k) n := by
  intro k
  induction k with
  | zero => exact (w_zs0 n fun _ _ _ => rfl).symm
  | succ k ih =>
    show zsum (fun x => zsum (fun y => f x y) n) k + zsum (fun y => f k y) n = zsum (fun y => zsum (fun x => f x y) k + f k y) n
    rw [ih, w_zadd]
theorem w_lam {T0 : Int → Int → Int} {H : Nat} : ∀ (ps : List Int), (∀ p ∈ ps, 0 ≤ p ∧ p < H) → ∀ G : List (Int → Int) → Int, ∃ lam : Int → Int, ∀ j, w_ex j G (ps.map T0) = zsum (fun p => lam p * T0 p j) H := by
  intro ps
  induction ps with
  | nil => intro _ G; exact ⟨fun _ => 0, fun j => (w_zs0 H fun x _ _ => by show (0 : Int) * T0 x j = 0; omega).symm⟩
  | cons p ps ih =>
    intro h G
    obtain ⟨lam, hl⟩ := ih (fun q hq => h q (List.mem_cons_of_mem _ hq)) (fun x => G (T0 p :: x))
    have hp := h p (List.mem_cons_self ..)
    refine ⟨fun x => (if x = p then G (ps.map T0) else 0) - lam x, fun j => ?_⟩
    have e := w_zsl (k := fun x => ((if x = p then G (ps.map T0) else 0) - lam x) * T0 x j) (f := fun x => if x = p then G (ps.map T0) * T0 x j else 0) (g := fun x => lam x * T0 x j) (a := 1) (b := -1) H fun x _ _ => by
      by_cases q : x = p
      · rw [if_pos q, if_pos q]; grind
      · rw [if_neg q, if_neg q]; grind
    rw [w_zs1 (y := p) H hp.1 hp.2 fun x _ _ xn => if_neg xn, if_pos rfl] at e
    show T0 p j * G (ps.map T0) - w_ex j (fun x => G (T0 p :: x)) (ps.map T0) = zsum (fun x => ((if x = p then G (ps.map T0) else 0) - lam x) * T0 x j) H
    rw [hl, e, Int.mul_comm (T0 p j)]
    omega
/-- what C leaves by the rows -/
def w_lf (N : Nat) (C : Int → Int) (s : eS) (p : Int) : Int := s.2.2.2.1 * C p - zsum (fun q => if s.2.2.2.2 q < 0 then 0 else C q * s.1 (s.2.2.2.2 q) p) N
section WW
variable {W : Int} {N : Nat} {T0 : Int → Int → Int} {C : Int → Int} {σ : Int → Int} {cs : List Int}
theorem w_lf_R (V : w_V W T0 N (eRed W T0 N) σ cs) (p : Int) : w_lf N C (eRed W T0 N) p = w_R cs ((w_I σ (eRed W T0 N).2.1.toNat).map T0) C p := by
  have := w_b9 V (N := N) (fun x hx => (V.led x hx).2.2) C p
  unfold w_lf
  omega
/-- a place where C leaves something gives a vector that is nothing against each row -/
def w_zv (s : eS) (f : Int) : Int → Int := fun y => if y = f then s.2.2.2.1 else if s.2.2.2.2 y < 0 then 0 else -s.1 (s.2.2.2.2 y) f
theorem w_zv_f (V : w_V W T0 N (eRed W T0 N) σ cs) {f : Int} (hf : w_lf N C (eRed W T0 N) f ≠ 0) : f ∉ cs := fun h => hf (by rw [w_lf_R V, w_Rz _ _ f h])
theorem w_zv_0 (V : w_V W T0 N (eRed W T0 N) σ cs) {f : Int} (f0 : 0 ≤ f) (f1 : f < N) (hf : f ∉ cs) {q : Int} (h0 : 0 ≤ q) (h1 : q < W) : zsum (fun y => T0 q y * w_zv (eRed W T0 N) f y) N = 0 :=
  w_dep V (fun x hx => (V.led x hx).2.2) f0 f1 f1 hf h0 h1
theorem w_zv_C (V : w_V W T0 N (eRed W T0 N) σ cs) {f : Int} (f0 : 0 ≤ f) (f1 : f < N) (hf : f ∉ cs) : zsum (fun y => C y * w_zv (eRed W T0 N) f y) N = w_lf N C (eRed W T0 N) f := by
  have hl := V.unl f hf
  unfold w_lf w_zv
  rw [w_zsl (f := fun y => if y = f then C y * (eRed W T0 N).2.2.2.1 else 0) (g := fun y => if (eRed W T0 N).2.2.2.2 y < 0 then 0 else C y * (eRed W T0 N).1 ((eRed W T0 N).2.2.2.2 y) f) (a := 1) (b := -1) N fun y y0 y1 => ?_, w_zs1 (y := f) N f0 f1 fun y _ _ yn => if_neg yn, if_pos rfl, Int.mul_comm (C f)]
  · omega
  · by_cases z : y = f
    · rw [if_pos z, if_pos z, z, if_pos (by omega)]; omega
    · rw [if_neg z, if_neg z]
      split
      · omega
      · rw [Int.mul_neg]; omega
/-- C is solved by the columns: it leaves nothing -/
theorem w_dual (hW : 0 ≤ W) {A : Int → Int → Int} (hA : ∀ p u : Int, 0 ≤ p → p < N → 0 ≤ u → u < W → A p u = T0 u p) (hC : ∀ p : Int, 0 ≤ p → p < N → A p W = C p) : (∀ i : Int, (eRed N A W.toNat).2.1 ≤ i → i < N → (eRed N A W.toNat).1 i W = 0) ↔ ∀ p : Int, 0 ≤ p → p < N → w_lf N C (eRed W T0 N) p = 0 := by
  obtain ⟨σ0, cs0, V0⟩ := w_Vn W hW T0 N
  obtain ⟨σa, csa, Va⟩ := w_Vn N (by omega) A W.toNat
  have eW : ((W.toNat : Nat) : Int) = W := by omega
  constructor
  · intro hs f f0 f1
    apply Classical.byContradiction
    intro hf
    have hfc := w_zv_f V0 hf
    obtain ⟨X, hX⟩ : ∃ X : Int → Int, X = fun u => if (eRed N A W.toNat).2.2.2.2 u < 0 then 0 else (eRed N A W.toNat).1 ((eRed N A W.toNat).2.2.2.2 u) W := ⟨_, rfl⟩
    have h1 : ∀ p : Int, 0 ≤ p → p < N → (eRed N A W.toNat).2.2.2.1 * C p = zsum (fun u => T0 u p * X u) W.toNat := by
      intro p p0 p1
      have := w_solves Va (N := W.toNat) (fun x hx => (Va.led x hx).2.2) hs p0 p1
      rw [hC p p0 p1] at this
      rw [this]
      refine w_zsc _ fun u u0 u1 => ?_
      rw [hX]
      dsimp only
      split
      · omega
      · rw [hA p u p0 p1 u0 (by omega)]
    have h2 : (eRed N A W.toNat).2.2.2.1 * w_lf N C (eRed W T0 N) f = 0 := by
      rw [← w_zv_C V0 f0 f1 hfc, ← w_zmul]
      rw [w_zsc (g := fun p => zsum (fun u => T0 u p * X u * w_zv (eRed W T0 N) f p) W.toNat) N fun p p0 p1 => by
        rw [← Int.mul_assoc, h1 p p0 p1, Int.mul_comm, ← w_zmul]
        exact w_zsc _ fun u _ _ => Int.mul_comm _ _]
      rw [w_zcomm]
      refine w_zs0 _ fun u u0 u1 => ?_
      rw [w_zsc (g := fun p => X u * (T0 u p * w_zv (eRed W T0 N) f p)) N fun p _ _ => by grind, w_zmul, w_zv_0 V0 f0 f1 hfc u0 (by omega), Int.mul_zero]
    rcases Int.mul_eq_zero.mp h2 with z | z
    · exact Va.nz z
    · exact hf z
  · intro hl i i0 i1
    have hra := Va.rk
    have e : (eRed N A W.toNat).1 i = fun j => w_ex j (w_dt csa) ((σa i :: w_I σa (eRed N A W.toNat).2.1.toNat).map A) := funext fun j => Va.low i i0 i1 j
    obtain ⟨lam, hlam⟩ := w_lam (T0 := A) (H := N) (σa i :: w_I σa (eRed N A W.toNat).2.1.toNat) (fun p hp => by
      rcases List.mem_cons.mp hp with z | z
      · rw [z]; exact Va.rg i (by omega) i1
      · exact w_Ir Va (by omega) p z) (w_dt csa)
    have el : ∀ j, (eRed N A W.toNat).1 i j = zsum (fun p => lam p * A p j) N := fun j => by rw [e]; exact hlam j
    have h1 : ∀ u, 0 ≤ u → u < W → zsum (fun p => T0 u p * lam p) N = 0 := by
      intro u u0 u1
      rw [w_zsc (g := fun p => lam p * A p u) N fun p p0 p1 => by rw [hA p u p0 p1 u0 u1, Int.mul_comm], ← el]
      by_cases q : u ∈ csa
      · rw [Va.low i i0 i1, w_Rz _ _ u q]
      · exact Va.fr u u0 (by omega) q i i0 i1
    have h2 : (eRed N A W.toNat).1 i W = zsum (fun p => C p * lam p) N := by
      rw [el]
      exact w_zsc N fun p p0 p1 => by rw [hC p p0 p1, Int.mul_comm]
    rw [h2]
    have h3 : (eRed W T0 N).2.2.2.1 * zsum (fun p => C p * lam p) N = 0 := by
      rw [← w_zmul]
      rw [w_zsc (g := fun p => zsum (fun q => (if (eRed W T0 N).2.2.2.2 q < 0 then 0 else C q * (eRed W T0 N).1 ((eRed W T0 N).2.2.2.2 q) p) * lam p) N) N fun p p0 p1 => by
        have := hl p p0 p1
        unfold w_lf at this
        rw [← Int.mul_assoc, show (eRed W T0 N).2.2.2.1 * C p = zsum (fun q => if (eRed W T0 N).2.2.2.2 q < 0 then 0 else C q * (eRed W T0 N).1 ((eRed W T0 N).2.2.2.2 q) p) N by omega, Int.mul_comm, ← w_zmul]
        exact w_zsc _ fun u _ _ => Int.mul_comm _ _]
      rw [w_zcomm]
      refine w_zs0 _ fun q q0 q1 => ?_
      by_cases k : (eRed W T0 N).2.2.2.2 q < 0
      · exact w_zs0 _ fun p _ _ => by rw [if_pos k, Int.zero_mul]
      · have l := (V0.led q ((w_led_i V0 q).mpr k)).1
        have hr0 := V0.rk
        have f := w_fT V0 (w_L1_zs lam N) h1 (i := (eRed W T0 N).2.2.2.2 q) l.1 (by omega)
        rw [w_zsc (g := fun p => C q * ((eRed W T0 N).1 ((eRed W T0 N).2.2.2.2 q) p * lam p)) N fun p _ _ => by rw [if_neg k]; grind, w_zmul, f, Int.mul_zero]
    rcases Int.mul_eq_zero.mp h3 with z | z
    · exact absurd z V0.nz
    · exact z
/-- the reference's rows, C below them, and a column that asks for 1 there -/
def w_T1 (W N : Int) (T0 : Int → Int → Int) (C : Int → Int) : Int → Int → Int := fun p q => if q = N then (if p = W then 1 else 0) else if p = W then C q else T0 p q
theorem w_wit (hW : 0 ≤ W) {f : Int} (f0 : 0 ≤ f) (f1 : f < N) (hf : w_lf N C (eRed W T0 N) f ≠ 0) (hlt : ∀ p, 0 ≤ p → p < f → w_lf N C (eRed W T0 N) p = 0) {x : Int} (x0 : 0 ≤ x) (x1 : x < N) :
    w_lf N C (eRed W T0 N) f * (if (eRed (W + 1) (w_T1 W N T0 C) N).2.2.2.2 x < 0 then 0 else (eRed (W + 1) (w_T1 W N T0 C) N).1 ((eRed (W + 1) (w_T1 W N T0 C) N).2.2.2.2 x) N) = (eRed (W + 1) (w_T1 W N T0 C) N).2.2.2.1 * w_zv (eRed W T0 N) f x := by
  obtain ⟨σ0, cs0, V0⟩ := w_Vn W hW T0 N
  obtain ⟨σ1, cs1, V1⟩ := w_Vn (W + 1) (by omega) (w_T1 W N T0 C) N
  have hfc := w_zv_f V0 hf
  have eT : ∀ q y : Int, y < N → q < W → w_T1 W N T0 C q y = T0 q y := fun q y hy hq => by unfold w_T1; rw [if_neg (by omega), if_neg (by omega)]
  have eC : ∀ y : Int, y < N → w_T1 W N T0 C W y = C y := fun y hy => by unfold w_T1; rw [if_neg (by omega), if_pos rfl]
  have eN : ∀ q, w_T1 W N T0 C q N = if q = W then 1 else 0 := fun q => by unfold w_T1; rw [if_pos rfl]
  -- a vector against all rows
  have hz : ∀ q, 0 ≤ q → q < W + 1 → w_lf N C (eRed W T0 N) f * w_T1 W N T0 C q N = zsum (fun y => w_T1 W N T0 C q y * w_zv (eRed W T0 N) f y) N := by
    intro q q0 q1
    rw [eN]
    by_cases k : q = W
    · rw [if_pos k, k, ← w_zv_C V0 f0 f1 hfc, Int.mul_one]
      exact w_zsc N fun y y0 y1 => by rw [eC y y1]
    · rw [if_neg k, Int.mul_zero, ← w_zv_0 V0 f0 f1 hfc q0 (by omega)]
      exact w_zsc N fun y y0 y1 => by rw [eT q y y1 (by omega)]
  have hlow : ∀ i, (eRed (W + 1) (w_T1 W N T0 C) N).2.1 ≤ i → i < W + 1 → (eRed (W + 1) (w_T1 W N T0 C) N).1 i N = 0 := fun i i0 i1 => w_solved V1 (N := N) (Int.le_refl _) hf hz i0 i1
  have hN1 : ∀ x ∈ cs1, x < N := fun x hx => (V1.led x hx).2.2
  have hy : ∀ q, 0 ≤ q → q < W + 1 → (eRed (W + 1) (w_T1 W N T0 C) N).2.2.2.1 * w_T1 W N T0 C q N = zsum (fun y => w_T1 W N T0 C q y * (if (eRed (W + 1) (w_T1 W N T0 C) N).2.2.2.2 y < 0 then 0 else (eRed (W + 1) (w_T1 W N T0 C) N).1 ((eRed (W + 1) (w_T1 W N T0 C) N).2.2.2.2 y) N)) N := by
    intro q q0 q1
    rw [w_solves V1 hN1 hlow q0 q1]
    refine w_zsc N fun y _ _ => ?_
    split
    · omega
    · rfl
  -- where nothing leads, the vector is nothing
  have hsup : ∀ y : Int, 0 ≤ y → y < N → y ∉ cs1 → w_zv (eRed W T0 N) f y = 0 := by
    intro y y0 y1 hyc
    obtain ⟨σx, csx, Vx⟩ := w_Vn (W + 1) (by omega) (w_T1 W N T0 C) (y.toNat + 1)
    have ec : ((y.toNat + 1 : Nat) : Int) = y + 1 := by omega
    have hyx : y ∉ csx := by
      intro z
      have := (w_led_i Vx y).mp z
      have e := w_ledS (W + 1) (w_T1 W N T0 C) (y.toNat + 1) (x := y) (by omega) (N - (y.toNat + 1))
      rw [show y.toNat + 1 + (N - (y.toNat + 1)) = N by omega] at e
      rw [← e] at this
      exact hyc ((w_led_i V1 y).mpr this)
    have hNx : ∀ x ∈ csx, x < N := fun x hx => by have := (Vx.led x hx).2.2; omega
    obtain ⟨ω, hω⟩ : ∃ ω : Int → Int, ω = w_zv (eRed (W + 1) (w_T1 W N T0 C) (y.toNat + 1)) y := ⟨_, rfl⟩
    have hd : ∀ q, 0 ≤ q → q < W + 1 → zsum (fun x => w_T1 W N T0 C q x * ω x) N = 0 := fun q q0 q1 => by rw [hω]; exact w_dep Vx hNx y0 (by omega) y1 hyx q0 q1
    have hd0 : ∀ q, 0 ≤ q → q < W → zsum (fun x => T0 q x * ω x) N = 0 := fun q q0 q1 => by
      rw [← hd q q0 (by omega)]
      exact w_zsc N fun x _ x1 => by rw [eT q x x1 q1]
    have ωy : ω y = (eRed (W + 1) (w_T1 W N T0 C) (y.toNat + 1)).2.2.2.1 := by rw [hω]; exact if_pos rfl
    have ωn : ω y ≠ 0 := by rw [ωy]; exact Vx.nz
    have ωg : ∀ x, y < x → ω x = 0 := by
      intro x hx
      rw [hω]
      unfold w_zv
      rw [if_neg (by omega), if_pos]
      have : x ∉ csx := fun z => by have := (Vx.led x z).2.2; omega
      rw [Vx.unl x this]
      decide
    have key : ∀ v : Int → Int, zsum (fun x => v x * ω x) N = 0 → (∀ x : Int, 0 ≤ x → x < y → v x = 0) → v y = 0 := by
      intro v hv hv0
      rw [w_zs1 (y := y) N y0 y1 fun x x0 x1 xn => by
        by_cases k : x < y
        · rw [hv0 x x0 k, Int.zero_mul]
        · rw [ωg x (by omega), Int.mul_zero]] at hv
      rcases Int.mul_eq_zero.mp hv with z | z
      · exact z
      · exact absurd z ωn
    unfold w_zv
    by_cases k : y = f
    · exfalso
      refine hf ?_
      rw [← k]
      refine key _ ?_ fun x x0 x1 => hlt x x0 (by omega)
      have hin : w_In (C :: (w_I σ0 (eRed W T0 N).2.1.toNat).map T0) (fun p => w_lf N C (eRed W T0 N) p) := by
        rw [show (fun p => w_lf N C (eRed W T0 N) p) = w_R cs0 ((w_I σ0 (eRed W T0 N).2.1.toNat).map T0) C from funext fun p => w_lf_R V0 p]
        exact w_Rin _ _ _
      refine hin _ (w_L1_zs ω N) fun p hp => ?_
      rcases List.mem_cons.mp hp with z | z
      · rw [z, ← hd W hW (by omega)]
        exact w_zsc N fun x _ x1 => by rw [eC x x1]
      · obtain ⟨q, hq, e⟩ := List.mem_map.mp z
        have hr0 := V0.rk
        have := w_Ir V0 (n := (eRed W T0 N).2.1.toNat) (by omega) q hq
        rw [← e]
        exact hd0 q this.1 this.2
    · rw [if_neg k]
      split
      · rfl
      · rename_i hl
        exfalso
        obtain ⟨σy, csy, Vy⟩ := w_Vn W hW T0 y.toNat
        have ey : ((y.toNat : Nat) : Int) = y := by omega
        have e := w_ledS W T0 (y.toNat + 1) (x := y) (by omega) (N - (y.toNat + 1))
        rw [show y.toNat + 1 + (N - (y.toNat + 1)) = N by omega] at e
        have hrow : eRow W y (eRed W T0 y.toNat) ≠ W := by
          intro z
          apply hl
          rw [e]
          show (eStep W ((y.toNat : Nat) : Int) (eRed W T0 y.toNat)).2.2.2.2 y < 0
          rw [ey, eStep_n z]
          show uZ _ y (-1) y < 0
          rw [uZ_s]
          decide
        have hr := Vy.rk
        have hr0 := zFind_r (eRed W T0 y.toNat).1 W y (W - (eRed W T0 y.toNat).2.1).toNat (eRed W T0 y.toNat).2.1
        have hr1 : (eRed W T0 y.toNat).2.1 ≤ eRow W y (eRed W T0 y.toNat) ∧ eRow W y (eRed W T0 y.toNat) ≤ W := ⟨hr0.1, hr0.2 hr.2⟩
        have hne : (eRed W T0 y.toNat).1 (eRow W y (eRed W T0 y.toNat)) y ≠ 0 := zFind_n _ _ (by omega) (show eRow W y (eRed W T0 y.toNat) < W by omega)
        refine hne (key _ (w_fT Vy (w_L1_zs ω N) hd0 (by omega) (by omega)) fun x x0 x1 => ?_)
        by_cases q : x ∈ csy
        · rw [Vy.low _ hr1.1 (by omega), w_Rz _ _ x q]
        · exact Vy.fr x x0 (by omega) q _ hr1.1 (by omega)
  have h := w_one V1 hN1 (w := fun x => w_lf N C (eRed W T0 N) f * (if (eRed (W + 1) (w_T1 W N T0 C) N).2.2.2.2 x < 0 then 0 else (eRed (W + 1) (w_T1 W N T0 C) N).1 ((eRed (W + 1) (w_T1 W N T0 C) N).2.2.2.2 x) N) - (eRed (W + 1) (w_T1 W N T0 C) N).2.2.2.1 * w_zv (eRed W T0 N) f x) (fun y y0 y1 hyc => by
    rw [hsup y y0 y1 hyc, V1.unl y hyc, if_pos (by decide)]; omega) (fun q q0 q1 => by
    rw [w_zsl (f := fun y => w_T1 W N T0 C q y * (if (eRed (W + 1) (w_T1 W N T0 C) N).2.2.2.2 y < 0 then 0 else (eRed (W + 1) (w_T1 W N T0 C) N).1 ((eRed (W + 1) (w_T1 W N T0 C) N).2.2.2.2 y) N)) (g := fun y => w_T1 W N T0 C q y * w_zv (eRed W T0 N) f y) (a := w_lf N C (eRed W T0 N) f) (b := -(eRed (W + 1) (w_T1 W N T0 C) N).2.2.2.1) N fun y _ _ => by grind, ← hy q q0 q1, ← hz q q0 q1]
    grind) x0 x1
  omega
end WW
/-! THE RULES keep the bounds -/
def w_DT (m n W : Int) (T0 : Int → Int → Int) (C : Int → Int) (B : Int → Int → Nat) (ρ : Int → Int) (R K : List Int) : Prop :=
  (∀ u p, 0 ≤ u → u < W → 0 ≤ p → p < m * n → (T0 u p).natAbs ≤ B (w_ρ n p) (ρ u)) ∧ (∀ u p, 0 ≤ u → u < W → m * n ≤ p → T0 u p = 0) ∧ (∀ p : Int, (C p).natAbs ≤ 50) ∧ (∀ p, B p 9 = 50) ∧ (∀ u, 0 ≤ u → u < W → ρ u ∈ R ∧ ρ u ≠ 9) ∧ (∀ u v, 0 ≤ u → u < W → 0 ≤ v → v < W → ρ u = ρ v → u = v) ∧ (∀ p, 0 ≤ p → p < m * n → w_ρ n p ∈ K) ∧ (9 : Int) ∈ R ∧ (9 : Int) ∈ K ∧ R.Nodup ∧ K.Nodup ∧ w_chk (w_BT B) R K (w_M w_N2) = true
section WD
variable {m n W : Int} {T0 : Int → Int → Int} {C : Int → Int} {B : Int → Int → Nat} {ρ : Int → Int} {R K : List Int}
theorem w_κ9 (hmn : (1 ≤ m ∧ m ≤ 3) ∧ 1 ≤ n ∧ n ≤ 3) {p q : Int} (h0 : 0 ≤ p) (h1 : p < m * n) (h2 : 0 ≤ q) (h : (if p < m * n then w_ρ n p else 9) = if q < m * n then w_ρ n q else 9) : p = q := by
  rw [if_pos h1] at h
  by_cases hq : q < m * n
  · rw [if_pos hq] at h
    exact w_ρ_i hmn ⟨h0, h1⟩ ⟨h2, hq⟩ h
  · rw [if_neg hq] at h
    have := w_ρ_r hmn ⟨h0, h1⟩
    omega
theorem w_gT1 (hmn : (1 ≤ m ∧ m ≤ 3) ∧ 1 ≤ n ∧ n ≤ 3) (hW : 0 ≤ W) (d : w_DT m n W T0 C B ρ R K) : w_G (W + 1) (m * n) (m * n + 1) (w_T1 W (m * n) T0 C) (w_BT B) (fun u => if u < W then ρ u else 9) (fun p => if p < m * n then w_ρ n p else 9) R K w_N2 := by
  obtain ⟨d1, d2, d3, d4, d5, d6, d7, d8, d9, d10, d11, d12⟩ := d
  have hr := mn_r hmn
  refine w_G.mk (hB := ?_) (hW := by omega) (hρ := ?_) (iρ := ?_) (hκ := ?_) (iκ := fun p h0 h1 q h2 h3 h => w_κ9 hmn h0 h1 h2 h) (h9 := ?_) (hR := d10) (hC := d11) (ck := d12) (mo := fun k => Nat.le_refl _)
  · intro p p0 p1 q q0 q1
    unfold w_T1 w_BT
    by_cases hq : q < m * n
    · have hρ9 := w_ρ_r hmn ⟨q0, hq⟩
      rw [if_neg (show ¬ q = m * n by omega), if_pos hq, if_neg (show ¬ w_ρ n q = 9 by omega)]
      by_cases hp : p < W
      · rw [if_neg (show ¬ p = W by omega), if_pos hp]
        exact d1 p q p0 hp q0 hq
      · rw [if_pos (show p = W by omega), if_neg hp, d4]
        exact d3 q
    · rw [if_pos (show q = m * n by omega), if_neg hq, if_pos rfl]
      by_cases hp : p < W
      · rw [if_neg (show ¬ p = W by omega), if_pos hp, if_neg (d5 p p0 hp).2]
        exact Nat.le_refl _
      · rw [if_pos (show p = W by omega), if_neg hp, if_pos rfl]
        exact Nat.le_refl _
  · intro p p0 p1
    by_cases hp : p < W
    · rw [if_pos hp]; exact (d5 p p0 hp).1
    · rw [if_neg hp]; exact d8
  · intro p p0 p1 q q0 q1
    by_cases hp : p < W
    · rw [if_pos hp]
      by_cases hq : q < W
      · rw [if_pos hq]; exact d6 p q p0 hp q0 hq
      · rw [if_neg hq]; exact fun h => absurd h (d5 p p0 hp).2
    · rw [if_neg hp]
      by_cases hq : q < W
      · rw [if_pos hq]; exact fun h => absurd h.symm (d5 q q0 hq).2
      · omega
  · intro q q0 q1
    by_cases hq : q < m * n
    · rw [if_pos hq]; exact d7 q q0 hq
    · rw [if_neg hq]; exact d9
  · intro q q0 q1
    rw [if_pos q1]
    have := w_ρ_r hmn ⟨q0, q1⟩
    omega
theorem w_gT0 (hmn : (1 ≤ m ∧ m ≤ 3) ∧ 1 ≤ n ∧ n ≤ 3) (d : w_DT m n W T0 C B ρ R K) : w_G W (m * n) 10 T0 (w_BT B) ρ (fun p => if p < m * n then w_ρ n p else 9) R K w_N2 := by
  obtain ⟨d1, d2, d3, d4, d5, d6, d7, d8, d9, d10, d11, d12⟩ := d
  have hr := mn_r hmn
  refine w_G.mk (hB := ?_) (hW := by omega) (hρ := fun p p0 p1 => (d5 p p0 p1).1) (iρ := fun p p0 p1 q q0 q1 => d6 p q p0 p1 q0 q1) (hκ := ?_) (iκ := fun p h0 h1 q h2 h3 h => w_κ9 hmn h0 h1 h2 h) (h9 := ?_) (hR := d10) (hC := d11) (ck := d12) (mo := fun k => Nat.le_refl _)
  · intro p p0 p1 q q0 q1
    by_cases hq : q < m * n
    · have hρ9 := w_ρ_r hmn ⟨q0, hq⟩
      unfold w_BT
      rw [if_pos hq, if_neg (show ¬ w_ρ n q = 9 by omega)]
      exact d1 p q p0 p1 q0 hq
    · rw [d2 p q p0 p1 (by omega)]
      exact Nat.zero_le _
  · intro q q0 q1
    by_cases hq : q < m * n
    · rw [if_pos hq]; exact d7 q q0 hq
    · rw [if_neg hq]; exact d9
  · intro q q0 q1
    rw [if_pos q1]
    have := w_ρ_r hmn ⟨q0, q1⟩
    omega
theorem w_rowH {H c : Int} {s : eS} (hr : s.2.1 ≤ H) (h : ∀ i, s.2.1 ≤ i → i < H → s.1 i c = 0) : eRow H c s = H := by
  have h0 := zFind_r s.1 H c (H - s.2.1).toNat s.2.1
  apply Classical.byContradiction
  intro q
  have h1 : eRow H c s < H := by have := h0.2 hr; unfold eRow at q ⊢; omega
  exact zFind_n _ _ (by omega) h1 (h _ h0.1 h1)
theorem w_zsB {f : Int → Int} {b : Int} : ∀ k : Nat, (∀ x : Int, 0 ≤ x → x < k → -b ≤ f x ∧ f x ≤ b) → -(k * b) ≤ zsum f k ∧ zsum f k ≤ k * b := by
  intro k
  induction k with
  | zero => intro _; show -(((0 : Nat) : Int) * b) ≤ 0 ∧ (0 : Int) ≤ ((0 : Nat) : Int) * b; simp
  | succ k ih =>
    intro h
    have h1 := ih fun x x0 x1 => h x x0 (by omega)
    have h2 := h k (by omega) (by omega)
    have e : (((k + 1 : Nat) : Int)) * b = k * b + b := by rw [Int.natCast_add, Int.add_mul]; simp
    show -(((k + 1 : Nat) : Int) * b) ≤ zsum f k + f k ∧ zsum f k + f k ≤ _
    rw [e]
    omega
/-- no entry of the rules is too great, and what C leaves neither -/
theorem w_ruleFit (hmn : (1 ≤ m ∧ m ≤ 3) ∧ 1 ≤ n ∧ n ≤ 3) (hW : 0 ≤ W ∧ W ≤ 6) (d : w_DT m n W T0 C B ρ R K) {c : Int} (c0 : 0 ≤ c) (c1 : c ≤ m * n) : eFit W 9 c (eRed W T0 c.toNat) := by
  obtain ⟨σ, cs, V⟩ := w_Vn W hW.1 T0 c.toNat
  rw [show ((c.toNat : Nat) : Int) = c by omega] at V
  have g := w_gT0 hmn d
  have F := w_fit g (w_S2 (by omega)) V ⟨c0, c1⟩
  refine ⟨fun p q p0 p1 q0 q1 => F.1 p q p0 p1 q0 (by omega), F.2.1, fun a b p q p0 p1 pn q0 q1 => ?_⟩
  by_cases hc : c < m * n
  · exact F.2.2 hc b p q p0 p1 pn q0 (by omega)
  · exfalso
    have hz : ∀ i, (eRed W T0 c.toNat).2.1 ≤ i → i < W → (eRed W T0 c.toNat).1 i c = 0 := by
      intro i i0 i1
      have hr := V.rk
      exact w_fT V (w_L1_at c) (fun q q0 q1 => d.2.1 q c q0 q1 (by omega)) (by omega) i1
    have := w_rowH V.rk.2 hz
    omega
theorem w_lfFit (hmn : (1 ≤ m ∧ m ≤ 3) ∧ 1 ≤ n ∧ n ≤ 3) (hW : 0 ≤ W ∧ W ≤ 6) (d : w_DT m n W T0 C B ρ R K) {p : Int} (p0 : 0 ≤ p) (p1 : p < m * n) : z62 (w_lf (m * n).toNat C (eRed W T0 (m * n).toNat) p) ∧ z40 (w_lf (m * n).toNat C (eRed W T0 (m * n).toNat) p) := by
  have hr := mn_r hmn
  obtain ⟨σ, cs, V⟩ := w_Vn W hW.1 T0 (m * n).toNat
  rw [show (((m * n).toNat : Nat) : Int) = m * n by omega] at V
  have g := w_gT0 hmn d
  have hk := V.rk
  have bN : ∀ (k : Nat) (b : Bool), (k : Int) ≤ 6 → w_N2 k b = 321385200 := fun k b h => by unfold w_N2; rw [if_neg (by omega)]
  have hC : ∀ q : Int, (C q).natAbs ≤ 50 := d.2.2.1
  have mulb : ∀ x y : Int, x.natAbs ≤ 321385200 → y.natAbs ≤ 50 → (x * y).natAbs ≤ 321385200 * 50 := fun x y hx hy => by rw [Int.natAbs_mul]; exact Nat.mul_le_mul hx hy
  have h1 := mulb _ _ (by have := w_bd g V (Int.le_refl _); rw [bN _ _ (by omega)] at this; exact this) (hC p)
  have h2 := w_zsB (f := fun q => if (eRed W T0 (m * n).toNat).2.2.2.2 q < 0 then 0 else C q * (eRed W T0 (m * n).toNat).1 ((eRed W T0 (m * n).toNat).2.2.2.2 q) p) (b := 16069260000) (m * n).toNat fun q q0 q1 => by
    split
    · omega
    · rename_i hl
      have l := (V.led q ((w_led_i V q).mpr hl)).1
      have h3 := w_bt g V (Int.le_refl _) l.1 l.2 (j := p) ⟨p0, by omega⟩
      rw [bN _ _ (by omega)] at h3
      have := mulb _ _ h3 (hC q)
      rw [Int.mul_comm] at this
      omega
  unfold w_lf z62 z40
  have h4 : (((m * n).toNat : Nat) : Int) * 16069260000 ≤ 9 * 16069260000 := Int.mul_le_mul_of_nonneg_right (by omega) (by decide)
  omega
end WD
/-- the data of an equation -/
theorem w_DTe {E : Nat → Int → Int} (hE : tEn (E 0)) {m n kind shift : Int} (hmn : (1 ≤ m ∧ m ≤ 3) ∧ 1 ≤ n ∧ n ≤ 3) (hk : 0 ≤ kind ∧ kind ≤ 6) (hs : -2 ≤ shift ∧ shift ≤ 2) (hf : zFit m n kind) : ∃ (B : Int → Int → Nat) (ρ : Int → Int) (R K : List Int), w_DT m n (tCnt kind m n) (mRul E m n kind shift) (mCe E n) B ρ R K := by
  have hr := mn_r hmn
  obtain ⟨hl, h6⟩ := hf
  have hC : ∀ p : Int, (mCe E n p).natAbs ≤ 50 := fun p => w_Ce hE _ _
  have hz : ∀ u p, 0 ≤ u → u < tCnt kind m n → m * n ≤ p → mRul E m n kind shift u p = 0 := fun u p _ _ hp => by unfold mRul; rw [if_neg (by omega)]
  by_cases hx : kind ≠ 4 ∧ kind ≠ 5 ∧ kind ≠ 6
  · have e := w_sh0 hx
    have hc : tCnt kind m n = m * n := by rw [e.1, w_cnt0 hmn]
    rw [hc] at h6 hz ⊢
    have h36 : n = 3 → m ≤ 2 := by intro h; subst h; omega
    refine ⟨w_BP, w_ρ n, if n = 3 then [0, 1, 2, 3, 4, 5, 9] else [0, 1, 3, 4, 6, 7, 9], if n = 3 then [0, 1, 2, 3, 4, 5, 9] else [0, 1, 3, 4, 6, 7, 9], ?_, hz, hC, fun p => rfl, ?_, fun u v u0 u1 v0 v1 h => w_ρ_i hmn ⟨u0, u1⟩ ⟨v0, v1⟩ h, ?_, by split <;> decide, by split <;> decide, by split <;> decide, by split <;> decide, by split; exact w_c3; exact w_c3'⟩
    · intro u p u0 u1 p0 p1
      unfold mRul
      rw [if_pos p1]
      have h := w_ent hE (kind := kind) (shape := kind) (pl := tPlc kind m n u) hmn ⟨p0, p1⟩ hs
      rw [e.2.1, w_pl hmn ⟨u0, u1⟩] at h ⊢
      refine Nat.le_trans h ?_
      have h2 := w_entQ (f := 0) hmn (by omega) (p := p) (q := u) (by rw [Int.sub_zero]; exact ⟨p0, p1⟩) (by rw [Int.sub_zero]; exact ⟨u0, u1⟩)
      rw [Int.zero_mul, Int.add_zero, Int.add_zero] at h2
      have e9 : ¬ (w_ρ n u = 9) := by have := w_ρ_r hmn ⟨u0, u1⟩; omega
      unfold w_BP
      rw [if_neg e9, show w_bd9 kind = w_bd9 0 by funext a b c d x f; unfold w_bd9; rw [e.2.2]]
      exact h2
    · intro u u0 u1
      have := w_ρ_r hmn ⟨u0, u1⟩
      refine ⟨?_, by omega⟩
      split
      · rename_i q; have := this.2.2.2 (h36 q); simp only [List.mem_cons, List.not_mem_nil, or_false]; omega
      · have := this.2.2.1 (by omega); simp only [List.mem_cons, List.not_mem_nil, or_false]; omega
    · intro p p0 p1
      have := w_ρ_r hmn ⟨p0, p1⟩
      split
      · rename_i q; have := this.2.2.2 (h36 q); simp only [List.mem_cons, List.not_mem_nil, or_false]; omega
      · have := this.2.2.1 (by omega); simp only [List.mem_cons, List.not_mem_nil, or_false]; omega
  · have hmm : n = m := by rcases hl with q | q <;> omega
    subst hmm
    have hsh : 4 ≤ kind ∧ kind ≤ 6 := by omega
    have hm := hmn.1
    refine ⟨w_BE, w_κ kind n n, [0, 1, 2, 4, 5, 8, 9], [0, 1, 2, 3, 4, 5, 6, 7, 8, 9], ?_, hz, hC, fun p => rfl, ?_, fun u v u0 u1 v0 v1 h => w_ki hsh hm ⟨u0, u1, by omega⟩ ⟨v0, v1, by omega⟩ h, ?_, by decide, by decide, by decide, by decide, w_c4⟩
    · intro u p u0 u1 p0 p1
      unfold mRul
      rw [if_pos p1]
      exact Nat.le_trans (w_ent hE hmn ⟨p0, p1⟩ hs) (w_entE hsh hm ⟨p0, p1⟩ ⟨u0, u1, by omega⟩)
    · intro u u0 u1
      have h := w_kr hsh hm (u := u) ⟨u0, u1, by omega⟩
      simp only [List.mem_cons, List.not_mem_nil, or_false] at h ⊢
      omega
    · intro p p0 p1
      have := w_ρ_r hmn ⟨p0, p1⟩
      simp only [List.mem_cons, List.not_mem_nil, or_false]
      omega
theorem w_cntr {m n kind : Int} (hmn : (1 ≤ m ∧ m ≤ 3) ∧ 1 ≤ n ∧ n ≤ 3) (hk : 0 ≤ kind ∧ kind ≤ 6) (hl : zLike m n kind) : 0 ≤ tCnt kind m n ∧ tCnt kind m n ≤ 9 := by
  obtain ⟨⟨m1, m2⟩, n1, n2⟩ := hmn
  rw [w_cnt hk ⟨⟨m1, m2⟩, n1, n2⟩ hl]
  unfold zUn
  rcases (by omega : m = 1 ∨ m = 2 ∨ m = 3) with rfl | rfl | rfl <;> rcases (by omega : n = 1 ∨ n = 2 ∨ n = 3) with rfl | rfl | rfl <;> ((repeat' split) <;> decide)
theorem w_safeR {m n : Int} {E : Nat → Int → Int} (hmn : (1 ≤ m ∧ m ≤ 3) ∧ 1 ≤ n ∧ n ≤ 3) (hE : tEn (E 0)) : mSafeR m n E := by
  intro kind shift hk hs hf
  obtain ⟨B, ρ, R, K, d⟩ := w_DTe hE hmn hk hs hf
  have hw := w_cntr hmn hk hf.1
  exact ⟨fun c c0 c1 => w_ruleFit hmn ⟨hw.1, hf.2⟩ d c0 c1, fun p p0 p1 => (w_lfFit hmn ⟨hw.1, hf.2⟩ d p0 p1).1⟩
