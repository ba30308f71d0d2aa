/-! DETERMINANTS by expansion, over lists of columns and lists of rows; what does not fit in length is 0 -/
def w_ex (c : Int) (F : List (Int → Int) → Int) : List (Int → Int) → Int
  | [] => 0
  | r :: l => r c * F l - w_ex c (fun x => F (r :: x)) l
def w_dt : List Int → List (Int → Int) → Int
  | [], [] => 1
  | [], _ :: _ => 0
  | c :: cs, l => w_ex c (w_dt cs) l
theorem w_exlin (c : Int) (a b : Int) : ∀ (l : List (Int → Int)) (F F1 F2 : List (Int → Int) → Int), (∀ x, F x = a * F1 x + b * F2 x) → w_ex c F l = a * w_ex c F1 l + b * w_ex c F2 l := by
  intro l
  induction l with
  | nil => intro F F1 F2 _; simp only [w_ex]; omega
  | cons r l ih =>
    intro F F1 F2 h
    simp only [w_ex]
    rw [h l, ih (fun x => F (r :: x)) (fun x => F1 (r :: x)) (fun x => F2 (r :: x)) (fun x => h (r :: x))]
    grind
theorem w_exneg (c : Int) (l : List (Int → Int)) (F F1 : List (Int → Int) → Int) (h : ∀ x, F x = - F1 x) : w_ex c F l = - w_ex c F1 l := by
  rw [w_exlin c (-1) 0 l F F1 F1 (fun x => by rw [h]; omega)]; omega
theorem w_exzero (c : Int) (l : List (Int → Int)) (F : List (Int → Int) → Int) (h : ∀ x, F x = 0) : w_ex c F l = 0 := by
  rw [w_exlin c 0 0 l F F F (fun x => by rw [h]; omega)]; omega
/-- rows -/
def w_AS (F : List (Int → Int) → Int) : Prop := ∀ (A : List (Int → Int)) (r s : Int → Int) (B : List (Int → Int)), F (A ++ r :: s :: B) = - F (A ++ s :: r :: B)
def w_LN (F : List (Int → Int) → Int) : Prop := ∀ (A : List (Int → Int)) (x y z : Int → Int) (B : List (Int → Int)) (a b : Int), (∀ c, z c = a * x c + b * y c) → F (A ++ z :: B) = a * F (A ++ x :: B) + b * F (A ++ y :: B)
theorem w_AS.cons {F : List (Int → Int) → Int} (h : w_AS F) (r : Int → Int) : w_AS (fun x => F (r :: x)) := fun A x y B => h (r :: A) x y B
theorem w_LN.cons {F : List (Int → Int) → Int} (h : w_LN F) (r : Int → Int) : w_LN (fun x => F (r :: x)) := fun A x y z B a b hz => h (r :: A) x y z B a b hz
theorem w_exAS (c : Int) : ∀ (A : List (Int → Int)) (F : List (Int → Int) → Int), w_AS F → ∀ (r s : Int → Int) (B : List (Int → Int)), w_ex c F (A ++ r :: s :: B) = - w_ex c F (A ++ s :: r :: B) := by
  intro A
  induction A with
  | nil =>
    intro F h r s B
    simp only [w_ex, List.nil_append]
    rw [w_exneg c B (fun x => F (r :: s :: x)) (fun x => F (s :: r :: x)) (fun x => h [] r s x)]
    omega
  | cons a A ih =>
    intro F h r s B
    simp only [w_ex, List.cons_append]
    rw [h A r s B, ih _ (h.cons a) r s B]
    grind
theorem w_exLN (c : Int) : ∀ (A : List (Int → Int)) (F : List (Int → Int) → Int), w_LN F → ∀ (x y z : Int → Int) (B : List (Int → Int)) (a b : Int), (∀ c, z c = a * x c + b * y c) → w_ex c F (A ++ z :: B) = a * w_ex c F (A ++ x :: B) + b * w_ex c F (A ++ y :: B) := by
  intro A
  induction A with
  | nil =>
    intro F h x y z B a b hz
    simp only [w_ex, List.nil_append]
    rw [w_exlin c a b B (fun l => F (z :: l)) (fun l => F (x :: l)) (fun l => F (y :: l)) (fun l => h [] x y z l a b hz), hz]
    grind
  | cons p A ih =>
    intro F h x y z B a b hz
    simp only [w_ex, List.cons_append]
    rw [h A x y z B a b hz, ih _ (h.cons p) x y z B a b hz]
    grind
theorem w_dt_AS : ∀ cs : List Int, w_AS (w_dt cs) := by
  intro cs
  induction cs with
  | nil => intro A r s B; cases A <;> simp [w_dt]
  | cons c cs ih => intro A r s B; exact w_exAS c A _ ih r s B
theorem w_dt_LN : ∀ cs : List Int, w_LN (w_dt cs) := by
  intro cs
  induction cs with
  | nil => intro A x y z B a b _; cases A <;> simp [w_dt]
  | cons c cs ih => intro A x y z B a b hz; exact w_exLN c A _ ih x y z B a b hz
/-- two rows alike: nothing -/
theorem w_AS.eq2 {F : List (Int → Int) → Int} (h : w_AS F) (r : Int → Int) (C : List (Int → Int)) : ∀ (B A : List (Int → Int)), F (A ++ r :: (B ++ r :: C)) = 0 := by
  intro B
  induction B with
  | nil => intro A; have := h A r r C; simp only [List.nil_append]; omega
  | cons b B ih =>
    intro A
    have e := h A r b (B ++ r :: C)
    have i := ih (A ++ [b])
    simp only [List.append_assoc, List.cons_append, List.nil_append] at i
    rw [List.cons_append, e, i]; rfl
theorem w_AS.mem {F : List (Int → Int) → Int} (h : w_AS F) {r : Int → Int} {l : List (Int → Int)} (hr : r ∈ l) : F (r :: l) = 0 := by
  obtain ⟨B, C, rfl⟩ := List.append_of_mem hr
  exact h.eq2 r C B []
/-- columns -/
theorem w_exex (c d : Int) : ∀ (l : List (Int → Int)) (F : List (Int → Int) → Int), w_ex c (w_ex d F) l = - w_ex d (w_ex c F) l := by
  intro l
  induction l with
  | nil => intro F; rfl
  | cons r l ih =>
    intro F
    have e : ∀ (a b : Int), w_ex a (fun x => w_ex b F (r :: x)) l = r b * w_ex a F l - w_ex a (w_ex b (fun x => F (r :: x))) l := by
      intro a b
      rw [w_exlin a (r b) (-1) l _ F (w_ex b (fun x => F (r :: x))) (fun x => by simp only [w_ex]; omega)]; omega
    show r c * w_ex d F l - w_ex c (fun x => w_ex d F (r :: x)) l = -(r d * w_ex c F l - w_ex d (fun x => w_ex c F (r :: x)) l)
    rw [e c d, e d c, ih (fun x => F (r :: x))]
    omega
theorem w_dt_swap (c d : Int) (cs : List Int) (l : List (Int → Int)) : w_dt (c :: d :: cs) l = - w_dt (d :: c :: cs) l := w_exex c d l (w_dt cs)
theorem w_dt_perm {cs ds : List Int} (h : cs.Perm ds) : (∀ l, w_dt cs l = w_dt ds l) ∨ ∀ l, w_dt cs l = - w_dt ds l := by
  induction h with
  | nil => exact Or.inl fun _ => rfl
  | cons c _ ih =>
    rcases ih with ih | ih
    · exact Or.inl fun l => by show w_ex c _ l = w_ex c _ l; rw [show w_dt _ = w_dt _ from funext ih]
    · exact Or.inr fun l => w_exneg c l _ _ ih
  | swap c d l => exact Or.inr fun x => w_dt_swap _ _ _ x
  | trans _ _ i1 i2 =>
    rcases i1 with i1 | i1 <;> rcases i2 with i2 | i2
    · exact Or.inl fun l => (i1 l).trans (i2 l)
    · exact Or.inr fun l => (i1 l).trans (i2 l)
    · exact Or.inr fun l => by rw [i1, i2]
    · exact Or.inl fun l => by rw [i1, i2]; omega
theorem w_dt_mem {c : Int} {cs : List Int} (h : c ∈ cs) (l : List (Int → Int)) : w_dt (c :: cs) l = 0 := by
  have p : cs.Perm (c :: cs.erase c) := List.perm_cons_erase h
  have e := w_dt_swap c c (cs.erase c) l
  rcases w_dt_perm (p.cons c) with q | q
  · rw [q]; omega
  · rw [q]; omega
/-- a row that has nothing in the columns -/
theorem w_exZ (c : Int) (v : Int → Int) (hv : v c = 0) : ∀ (A : List (Int → Int)) (F : List (Int → Int) → Int) (B : List (Int → Int)), (∀ A B, F (A ++ v :: B) = 0) → w_ex c F (A ++ v :: B) = 0 := by
  intro A
  induction A with
  | nil =>
    intro F B h
    simp only [List.nil_append, w_ex]
    rw [hv, w_exzero c B _ (fun x => by have := h [] x; simpa using this)]; omega
  | cons a A ih =>
    intro F B h
    simp only [List.cons_append, w_ex]
    rw [h A B, ih _ B (fun A B => h (a :: A) B)]; omega
theorem w_dt_Z {v : Int → Int} : ∀ (cs : List Int), (∀ c ∈ cs, v c = 0) → ∀ A B : List (Int → Int), w_dt cs (A ++ v :: B) = 0 := by
  intro cs
  induction cs with
  | nil => intro _ A B; cases A <;> rfl
  | cons c cs ih => intro h A B; exact w_exZ c v (h c (List.mem_cons_self ..)) A _ B (ih fun c hc => h c (List.mem_cons_of_mem _ hc))
theorem w_dt_Z0 {v : Int → Int} {cs : List Int} (h : ∀ c ∈ cs, v c = 0) (B : List (Int → Int)) : w_dt cs (v :: B) = 0 := w_dt_Z cs h [] B
/-- a first row that has nothing in all columns but the first -/
theorem w_dt_Z1 {v : Int → Int} {cs : List Int} (h : ∀ c ∈ cs, v c = 0) (j : Int) (P : List (Int → Int)) : w_dt (j :: cs) (v :: P) = v j * w_dt cs P := by
  show v j * w_dt cs P - w_ex j (fun x => w_dt cs (v :: x)) P = _
  rw [w_exzero j P _ (fun x => w_dt_Z0 h x)]; omega
theorem w_dt_Z2 {u v : Int → Int} {cs : List Int} (hu : ∀ c ∈ cs, u c = 0) (hv : ∀ c ∈ cs, v c = 0) (j c : Int) (P : List (Int → Int)) : w_dt (j :: c :: cs) (u :: v :: P) = (u j * v c - u c * v j) * w_dt cs P := by
  show u j * w_dt (c :: cs) (v :: P) - (v j * w_dt (c :: cs) (u :: P) - w_ex j (fun x => w_dt (c :: cs) (u :: v :: x)) P) = _
  rw [w_exzero j P _ (fun x => by rw [w_dt_Z1 hu, w_dt_Z0 hv]; omega), w_dt_Z1 hu, w_dt_Z1 hv]
  grind
/-- v is put together by rows of P -/
def w_L1 (f : (Int → Int) → Int) : Prop := ∀ (x y z : Int → Int) (a b : Int), (∀ c, z c = a * x c + b * y c) → f z = a * f x + b * f y
theorem w_LN.one {F : List (Int → Int) → Int} (h : w_LN F) (B : List (Int → Int)) : w_L1 (fun v => F (v :: B)) := fun x y z a b hz => h [] x y z B a b hz
def w_In (P : List (Int → Int)) (v : Int → Int) : Prop := ∀ f : (Int → Int) → Int, w_L1 f → (∀ p ∈ P, f p = 0) → f v = 0
theorem w_In.lin {P : List (Int → Int)} {x y z : Int → Int} (a b : Int) (hx : w_In P x) (hy : w_In P y) (hz : ∀ c, z c = a * x c + b * y c) : w_In P z := by
  intro f hf h
  rw [hf x y z a b hz, hx f hf h, hy f hf h]; omega
theorem w_In.mem {P : List (Int → Int)} {p : Int → Int} (h : p ∈ P) : w_In P p := fun _ _ q => q p h
theorem w_In.sub {P P1 : List (Int → Int)} {v : Int → Int} (h : w_In P v) (hs : ∀ p ∈ P, p ∈ P1) : w_In P1 v := fun f hf q => h f hf fun p hp => q p (hs p hp)
theorem w_In.zero {P : List (Int → Int)} {v : Int → Int} (h : ∀ c, v c = 0) : w_In P v := by
  intro f hf _
  have := hf v v v 0 0 (fun c => by rw [h]; omega)
  omega
theorem w_In.x {P1 : List (Int → Int)} : ∀ (P : List (Int → Int)) (G : List (Int → Int) → Int), (∀ p ∈ P, p ∈ P1) → w_In P1 (fun j => w_ex j G P) := by
  intro P
  induction P with
  | nil => intro G _; exact w_In.zero fun _ => rfl
  | cons p P ih =>
    intro G h
    refine w_In.lin (G P) (-1) (w_In.mem (h p (List.mem_cons_self ..))) (ih (fun x => G (p :: x)) fun q hq => h q (List.mem_cons_of_mem _ hq)) fun c => ?_
    simp only [w_ex]
    grind
theorem w_In.d (cs : List Int) (P : List (Int → Int)) : w_In P (fun j => w_dt (j :: cs) P) := w_In.x P (w_dt cs) fun _ h => h
/-- the row of q, freed of the columns cs by the rows P -/
def w_R (cs : List Int) (P : List (Int → Int)) (q : Int → Int) : Int → Int := fun j => w_dt (j :: cs) (q :: P)
theorem w_Rz {cs : List Int} (P : List (Int → Int)) (q : Int → Int) : ∀ c ∈ cs, w_R cs P q c = 0 := fun c hc => w_dt_mem hc _
theorem w_Rin (cs : List Int) (P : List (Int → Int)) (q : Int → Int) : w_In (q :: P) (w_R cs P q) := w_In.d cs (q :: P)
theorem w_RF {cs : List Int} {P : List (Int → Int)} {q : Int → Int} {F : List (Int → Int) → Int} (hF : w_LN F) (A B : List (Int → Int)) (h : ∀ p ∈ P, F (A ++ p :: B) = 0) : F (A ++ w_R cs P q :: B) = w_dt cs P * F (A ++ q :: B) := by
  have e : w_In P (fun j => w_ex j (fun x => w_dt cs (q :: x)) P) := w_In.x P _ fun _ h => h
  rw [hF A q (fun j => w_ex j (fun x => w_dt cs (q :: x)) P) (w_R cs P q) B (w_dt cs P) (-1) (fun c => by
    show q c * w_dt cs P - _ = _
    grind)]
  have z : F (A ++ (fun j => w_ex j (fun x => w_dt cs (q :: x)) P) :: B) = 0 := e (fun v => F (A ++ v :: B)) (fun x y z a b hz => hF A x y z B a b hz) h
  rw [z]; omega
/-- two steps are one minor -/
theorem w_dt_step {cs : List Int} {P : List (Int → Int)} (hd : w_dt cs P ≠ 0) (p q : Int → Int) (c j : Int) : w_dt cs P * w_dt (j :: c :: cs) (q :: p :: P) = w_R cs P p c * w_R cs P q j - w_R cs P q c * w_R cs P p j := by
  have h1 := w_RF (cs := cs) (P := P) (q := q) (w_dt_LN (j :: c :: cs)) [] (p :: P) (fun x hx => (w_dt_AS _).mem (List.mem_cons_of_mem _ hx))
  have h2 := w_RF (cs := cs) (P := P) (q := p) (w_dt_LN (j :: c :: cs)) [w_R cs P q] P (fun x hx => by
    have := w_dt_AS (j :: c :: cs) [] (w_R cs P q) x P
    simp only [List.nil_append, List.cons_append] at this ⊢
    rw [this, (w_dt_AS _).mem (List.mem_cons_of_mem _ hx)]; omega)
  have h3 := w_dt_Z2 (cs := cs) (w_Rz P q) (w_Rz P p) j c P
  simp only [List.nil_append, List.cons_append] at h1 h2
  rw [h3] at h2
  rw [h1] at h2
  have h4 : w_dt cs P * (w_R cs P q j * w_R cs P p c - w_R cs P q c * w_R cs P p j) = w_dt cs P * (w_dt cs P * w_dt (j :: c :: cs) (q :: p :: P)) := by grind
  have h5 := Int.eq_of_mul_eq_mul_left hd h4
  rw [← h5]
  grind
/-- what is put together by the rows, and has nothing in the columns, is nothing -/
theorem w_dt_uniq {cs : List Int} {P : List (Int → Int)} (hd : w_dt cs P ≠ 0) {v : Int → Int} (hv : w_In P v) (hz : ∀ c ∈ cs, v c = 0) (j : Int) : v j = 0 := by
  have h1 := hv _ ((w_dt_LN (j :: cs)).one P) (fun p hp => (w_dt_AS _).mem hp)
  rw [w_dt_Z1 hz] at h1
  rcases Int.mul_eq_zero.mp h1 with h | h
  · exact h
  · exact absurd h hd
theorem zFind_z {T : Int → Int → Int} {H c : Int} : ∀ (f : Nat) (r : Int), zFind T H c f r = H → ∀ i, r ≤ i → i < H → T i c = 0 := by
  intro f
  induction f with
  | zero => intro r h i h0 h1; have : r = H := h; omega
  | succ f ih =>
    intro r h i h0 h1
    unfold zFind at h
    split at h
    · rename_i q
      by_cases e : i = r
      · rw [e]; exact q.2
      · exact ih (r + 1) h i (by omega) h1
    · omega
theorem w_none {H c : Int} {s : eS} (h : eRow H c s = H) (i : Int) (h0 : s.2.1 ≤ i) (h1 : i < H) : s.1 i c = 0 := zFind_z _ _ h i h0 h1
/-! THE ELIMINATION's entries are minors -/
/-- rows that lead, the last one first -/
def w_I (σ : Int → Int) : Nat → List Int
  | 0 => []
  | n + 1 => σ n :: w_I σ n
theorem w_I_c {σ τ : Int → Int} : ∀ n : Nat, (∀ i : Int, 0 ≤ i → i < n → σ i = τ i) → w_I σ n = w_I τ n := by
  intro n
  induction n with
  | zero => intro _; rfl
  | succ n ih => intro h; show σ n :: _ = τ n :: _; rw [h n (by omega) (by omega), ih fun i h0 h1 => h i h0 (by omega)]
def w_V (H : Int) (T0 : Int → Int → Int) (c : Int) (s : eS) (σ : Int → Int) (cs : List Int) : Prop :=
  ((cs.length : Int) = s.2.1) ∧ (0 ≤ s.2.1 ∧ s.2.1 ≤ H) ∧ (s.2.2.2.1 = w_dt cs ((w_I σ s.2.1.toNat).map T0)) ∧ (s.2.2.2.1 ≠ 0) ∧ (∀ i, s.2.1 ≤ i → i < H → ∀ j, s.1 i j = w_R cs ((w_I σ s.2.1.toNat).map T0) (T0 (σ i)) j) ∧ (∀ t, 0 ≤ t → t < s.2.1 → w_In ((w_I σ s.2.1.toNat).map T0) (s.1 t)) ∧ (∀ t, 0 ≤ t → t < s.2.1 → ∀ x ∈ cs, s.1 t x = if s.2.2.2.2 x = t then s.2.2.2.1 else 0) ∧ (∀ x ∈ cs, (0 ≤ s.2.2.2.2 x ∧ s.2.2.2.2 x < s.2.1) ∧ 0 ≤ x ∧ x < c) ∧ (∀ x ∈ cs, ∀ y ∈ cs, s.2.2.2.2 x = s.2.2.2.2 y → x = y) ∧ (∀ t, 0 ≤ t → t < s.2.1 → ∃ x ∈ cs, s.2.2.2.2 x = t) ∧ (∀ x, x ∉ cs → s.2.2.2.2 x = -1) ∧ (∀ x, 0 ≤ x → x < c → x ∉ cs → ∀ i, s.2.1 ≤ i → i < H → s.1 i x = 0) ∧ (cs.Nodup) ∧ (∀ i, 0 ≤ i → i < H → 0 ≤ σ i ∧ σ i < H) ∧ (∀ i j, 0 ≤ i → i < H → 0 ≤ j → j < H → σ i = σ j → i = j) ∧ (∀ i, 0 ≤ i → i < H → ∃ j, 0 ≤ j ∧ j < H ∧ σ j = i)
theorem w_V.len {H : Int} {T0 : Int → Int → Int} {c : Int} {s : eS} {σ : Int → Int} {cs : List Int} (h : w_V H T0 c s σ cs) : (cs.length : Int) = s.2.1 := h.1
theorem w_V.rk {H : Int} {T0 : Int → Int → Int} {c : Int} {s : eS} {σ : Int → Int} {cs : List Int} (h : w_V H T0 c s σ cs) : 0 ≤ s.2.1 ∧ s.2.1 ≤ H := h.2.1
theorem w_V.dv {H : Int} {T0 : Int → Int → Int} {c : Int} {s : eS} {σ : Int → Int} {cs : List Int} (h : w_V H T0 c s σ cs) : s.2.2.2.1 = w_dt cs ((w_I σ s.2.1.toNat).map T0) := h.2.2.1
theorem w_V.nz {H : Int} {T0 : Int → Int → Int} {c : Int} {s : eS} {σ : Int → Int} {cs : List Int} (h : w_V H T0 c s σ cs) : s.2.2.2.1 ≠ 0 := h.2.2.2.1
theorem w_V.low {H : Int} {T0 : Int → Int → Int} {c : Int} {s : eS} {σ : Int → Int} {cs : List Int} (h : w_V H T0 c s σ cs) : ∀ i, s.2.1 ≤ i → i < H → ∀ j, s.1 i j = w_R cs ((w_I σ s.2.1.toNat).map T0) (T0 (σ i)) j := h.2.2.2.2.1
theorem w_V.top {H : Int} {T0 : Int → Int → Int} {c : Int} {s : eS} {σ : Int → Int} {cs : List Int} (h : w_V H T0 c s σ cs) : ∀ t, 0 ≤ t → t < s.2.1 → w_In ((w_I σ s.2.1.toNat).map T0) (s.1 t) := h.2.2.2.2.2.1
theorem w_V.piv {H : Int} {T0 : Int → Int → Int} {c : Int} {s : eS} {σ : Int → Int} {cs : List Int} (h : w_V H T0 c s σ cs) : ∀ t, 0 ≤ t → t < s.2.1 → ∀ x ∈ cs, s.1 t x = if s.2.2.2.2 x = t then s.2.2.2.1 else 0 := h.2.2.2.2.2.2.1
theorem w_V.led {H : Int} {T0 : Int → Int → Int} {c : Int} {s : eS} {σ : Int → Int} {cs : List Int} (h : w_V H T0 c s σ cs) : ∀ x ∈ cs, (0 ≤ s.2.2.2.2 x ∧ s.2.2.2.2 x < s.2.1) ∧ 0 ≤ x ∧ x < c := h.2.2.2.2.2.2.2.1
theorem w_V.one {H : Int} {T0 : Int → Int → Int} {c : Int} {s : eS} {σ : Int → Int} {cs : List Int} (h : w_V H T0 c s σ cs) : ∀ x ∈ cs, ∀ y ∈ cs, s.2.2.2.2 x = s.2.2.2.2 y → x = y := h.2.2.2.2.2.2.2.2.1
theorem w_V.onto {H : Int} {T0 : Int → Int → Int} {c : Int} {s : eS} {σ : Int → Int} {cs : List Int} (h : w_V H T0 c s σ cs) : ∀ t, 0 ≤ t → t < s.2.1 → ∃ x ∈ cs, s.2.2.2.2 x = t := h.2.2.2.2.2.2.2.2.2.1
theorem w_V.unl {H : Int} {T0 : Int → Int → Int} {c : Int} {s : eS} {σ : Int → Int} {cs : List Int} (h : w_V H T0 c s σ cs) : ∀ x, x ∉ cs → s.2.2.2.2 x = -1 := h.2.2.2.2.2.2.2.2.2.2.1
theorem w_V.fr {H : Int} {T0 : Int → Int → Int} {c : Int} {s : eS} {σ : Int → Int} {cs : List Int} (h : w_V H T0 c s σ cs) : ∀ x, 0 ≤ x → x < c → x ∉ cs → ∀ i, s.2.1 ≤ i → i < H → s.1 i x = 0 := h.2.2.2.2.2.2.2.2.2.2.2.1
theorem w_V.nd {H : Int} {T0 : Int → Int → Int} {c : Int} {s : eS} {σ : Int → Int} {cs : List Int} (h : w_V H T0 c s σ cs) : cs.Nodup := h.2.2.2.2.2.2.2.2.2.2.2.2.1
theorem w_V.rg {H : Int} {T0 : Int → Int → Int} {c : Int} {s : eS} {σ : Int → Int} {cs : List Int} (h : w_V H T0 c s σ cs) : ∀ i, 0 ≤ i → i < H → 0 ≤ σ i ∧ σ i < H := h.2.2.2.2.2.2.2.2.2.2.2.2.2.1
theorem w_V.inj {H : Int} {T0 : Int → Int → Int} {c : Int} {s : eS} {σ : Int → Int} {cs : List Int} (h : w_V H T0 c s σ cs) : ∀ i j, 0 ≤ i → i < H → 0 ≤ j → j < H → σ i = σ j → i = j := h.2.2.2.2.2.2.2.2.2.2.2.2.2.2.1
theorem w_V.sur {H : Int} {T0 : Int → Int → Int} {c : Int} {s : eS} {σ : Int → Int} {cs : List Int} (h : w_V H T0 c s σ cs) : ∀ i, 0 ≤ i → i < H → ∃ j, 0 ≤ j ∧ j < H ∧ σ j = i := h.2.2.2.2.2.2.2.2.2.2.2.2.2.2.2
theorem w_V.mk {H : Int} {T0 : Int → Int → Int} {c : Int} {s : eS} {σ : Int → Int} {cs : List Int} (len : (cs.length : Int) = s.2.1) (rk : 0 ≤ s.2.1 ∧ s.2.1 ≤ H) (dv : s.2.2.2.1 = w_dt cs ((w_I σ s.2.1.toNat).map T0)) (nz : s.2.2.2.1 ≠ 0) (low : ∀ i, s.2.1 ≤ i → i < H → ∀ j, s.1 i j = w_R cs ((w_I σ s.2.1.toNat).map T0) (T0 (σ i)) j) (top : ∀ t, 0 ≤ t → t < s.2.1 → w_In ((w_I σ s.2.1.toNat).map T0) (s.1 t)) (piv : ∀ t, 0 ≤ t → t < s.2.1 → ∀ x ∈ cs, s.1 t x = if s.2.2.2.2 x = t then s.2.2.2.1 else 0) (led : ∀ x ∈ cs, (0 ≤ s.2.2.2.2 x ∧ s.2.2.2.2 x < s.2.1) ∧ 0 ≤ x ∧ x < c) (one : ∀ x ∈ cs, ∀ y ∈ cs, s.2.2.2.2 x = s.2.2.2.2 y → x = y) (onto : ∀ t, 0 ≤ t → t < s.2.1 → ∃ x ∈ cs, s.2.2.2.2 x = t) (unl : ∀ x, x ∉ cs → s.2.2.2.2 x = -1) (fr : ∀ x, 0 ≤ x → x < c → x ∉ cs → ∀ i, s.2.1 ≤ i → i < H → s.1 i x = 0) (nd : cs.Nodup) (rg : ∀ i, 0 ≤ i → i < H → 0 ≤ σ i ∧ σ i < H) (inj : ∀ i j, 0 ≤ i → i < H → 0 ≤ j → j < H → σ i = σ j → i = j) (sur : ∀ i, 0 ≤ i → i < H → ∃ j, 0 ≤ j ∧ j < H ∧ σ j = i) : w_V H T0 c s σ cs := ⟨len, rk, dv, nz, low, top, piv, led, one, onto, unl, fr, nd, rg, inj, sur⟩
theorem w_V0 (H : Int) (hH : 0 ≤ H) (T0 : Int → Int → Int) : w_V H T0 0 (eRed H T0 0) (fun i => i) [] := w_V.mk
  (len := rfl)
  (rk := ⟨Int.le_refl _, hH⟩)
  (dv := rfl)
  (nz := by show (1 : Int) ≠ 0; decide)
  (low := by
    intro i _ _ j
    show T0 i j = T0 i j * 1 - 0
    omega)
  (top := fun t h0 h1 => by have : t < 0 := h1; omega)
  (piv := fun t h0 h1 => by have : t < 0 := h1; omega)
  (led := fun x h => by cases h)
  (one := fun x h => by cases h)
  (onto := fun t h0 h1 => by have : t < 0 := h1; omega)
  (unl := fun _ _ => rfl)
  (fr := fun x h0 h1 => by omega)
  (nd := List.nodup_nil)
  (rg := fun i h0 h1 => ⟨h0, h1⟩)
  (inj := fun i j _ _ _ _ h => h)
  (sur := fun i h0 h1 => ⟨i, h0, h1, rfl⟩)
/-- a row that leads, freed once more -/
theorem w_top {cs : List Int} {P : List (Int → Int)} {p v : Int → Int} {led : Int → Int} {c t x d' : Int} (hd : w_dt cs P ≠ 0) (hc : c ∉ cs) (hd' : d' = w_R cs P p c) (hn : d' ≠ 0) (hv : w_In P v) (hx : x ∈ cs) (hxt : led x = t) (hone : ∀ x ∈ cs, ∀ y ∈ cs, led x = led y → x = y) (hp : ∀ x ∈ cs, v x = if led x = t then w_dt cs P else 0) :
    ∃ e : Int, (e = 1 ∨ e = -1) ∧ (∀ j, (d' * v j - v c * w_R cs P p j).tdiv (w_dt cs P) = e * w_dt (j :: (c :: cs).erase x) (p :: P)) ∧ e * w_dt (x :: (c :: cs).erase x) (p :: P) = d' := by
  have hxc : x ∈ c :: cs := List.mem_cons_of_mem _ hx
  have hp1 : (c :: cs).Perm (x :: (c :: cs).erase x) := List.perm_cons_erase hxc
  have hcx : c ≠ x := fun q => hc (q ▸ hx)
  obtain ⟨e, he, hE⟩ : ∃ e : Int, (e = 1 ∨ e = -1) ∧ e * w_dt (x :: (c :: cs).erase x) (p :: P) = d' := by
    rcases w_dt_perm hp1 with q | q
    · exact ⟨1, Or.inl rfl, by rw [← q, hd']; show 1 * w_R cs P p c = _; omega⟩
    · refine ⟨-1, Or.inr rfl, ?_⟩
      have := q (p :: P)
      rw [hd']
      show _ = w_dt (c :: cs) (p :: P)
      omega
  refine ⟨e, he, fun j => ?_, hE⟩
  have hin : w_In (p :: P) (fun j => (d' * v j - v c * w_R cs P p j) - w_dt cs P * (e * w_dt (j :: (c :: cs).erase x) (p :: P))) := by
    have i1 : w_In (p :: P) v := hv.sub fun _ h => List.mem_cons_of_mem _ h
    have i2 : w_In (p :: P) (fun j => d' * v j - v c * w_R cs P p j) := w_In.lin d' (-v c) i1 (w_Rin cs P p) fun j => by grind
    exact w_In.lin 1 (-(w_dt cs P * e)) i2 (w_In.d ((c :: cs).erase x) (p :: P)) fun j => by grind
  have hnd : w_dt (c :: cs) (p :: P) ≠ 0 := by rw [hd'] at hn; exact hn
  have hz : ∀ y ∈ c :: cs, (d' * v y - v c * w_R cs P p y) - w_dt cs P * (e * w_dt (y :: (c :: cs).erase x) (p :: P)) = 0 := by
    intro y hy
    by_cases hyx : y = x
    · subst hyx
      rw [hE, w_Rz P p y hx, hp y hx, if_pos hxt]
      grind
    · have m : y ∈ (c :: cs).erase x := (List.mem_erase_of_ne hyx).mpr hy
      rw [w_dt_mem m]
      rcases List.mem_cons.mp hy with hy | hy
      · subst hy
        rw [← hd']
        grind
      · rw [w_Rz P p y hy, hp y hy, if_neg (fun q => hyx (hone y hy x hx (q.trans hxt.symm)))]
        grind
  have hu := w_dt_uniq hnd hin hz j
  rw [show d' * v j - v c * w_R cs P p j = w_dt cs P * (e * w_dt (j :: (c :: cs).erase x) (p :: P)) by omega]
  exact Int.mul_tdiv_cancel_left _ hd
theorem w_Vs {H : Int} {T0 : Int → Int → Int} {c : Int} {s : eS} {σ : Int → Int} {cs : List Int} (hc : 0 ≤ c) (V : w_V H T0 c s σ cs) : ∃ (τ : Int → Int) (ds : List Int), w_V H T0 (c + 1) (eStep H c s) τ ds ∧ ((eRow H c s = H ∧ ds = cs ∧ τ = σ) ∨ (eRow H c s < H ∧ ds = c :: cs ∧ (∀ i, 0 ≤ i → i < s.2.1 → τ i = σ i))) := by
  have hk0 := V.rk.1
  have hr0 := zFind_r s.1 H c (H - s.2.1).toNat s.2.1
  have hr1 : s.2.1 ≤ eRow H c s ∧ eRow H c s ≤ H := ⟨hr0.1, hr0.2 V.rk.2⟩
  have hcn : c ∉ cs := fun q => by have := (V.led c q).2.2; omega
  by_cases h : eRow H c s = H
  · refine ⟨σ, cs, ?_, Or.inl ⟨h, rfl, rfl⟩⟩
    rw [eStep_n h]
    have hled : ∀ x, uZ s.2.2.2.2 c (-1) x = s.2.2.2.2 x := fun x => by
      unfold uZ
      split
      · rename_i q; rw [q, V.unl c hcn]
      · rfl
    have hu : uZ s.2.2.2.2 c (-1) = s.2.2.2.2 := funext hled
    rw [hu]
    refine w_V.mk V.len V.rk V.dv V.nz V.low V.top V.piv (fun x hx => ⟨(V.led x hx).1, (V.led x hx).2.1, by have := (V.led x hx).2.2; show x < c + 1; omega⟩) V.one V.onto V.unl ?_ V.nd V.rg V.inj V.sur
    intro x h0 h1 hx i hi1 hi2
    by_cases q : x = c
    · subst q
      exact w_none h i hi1 hi2
    · exact V.fr x h0 (by omega) hx i hi1 hi2
  · have hlt : eRow H c s < H := by omega
    have hne : s.1 (eRow H c s) c ≠ 0 := zFind_n _ _ (by omega) hlt
    obtain ⟨r, hr⟩ : ∃ r, r = eRow H c s := ⟨_, rfl⟩
    obtain ⟨k, hk⟩ : ∃ k, k = s.2.1 := ⟨_, rfl⟩
    obtain ⟨d, hdd⟩ : ∃ d, d = s.2.2.2.1 := ⟨_, rfl⟩
    refine ⟨fun i => if i = k then σ r else if i = r then σ k else σ i, c :: cs, ?_, Or.inr ⟨hlt, rfl, ?_⟩⟩
    · rw [eStep_y h, ← hr, ← hk, ← hdd]
      rw [← hr] at hr1 hlt hne h
      rw [← hk] at hr1 hk0
      have Vl := V.len; have Vr := V.rk; have Vd := V.dv; have Vz := V.nz; have Vlow := V.low; have Vtop := V.top; have Vpiv := V.piv; have Vled := V.led; have Vonto := V.onto; have Vfr := V.fr
      rw [← hk] at Vl Vr Vd Vlow Vtop Vpiv Vled Vonto Vfr
      rw [← hdd] at Vd Vz Vpiv
      obtain ⟨P, hP⟩ : ∃ P, P = (w_I σ k.toNat).map T0 := ⟨_, rfl⟩
      rw [← hP] at Vd Vlow Vtop
      obtain ⟨τ, hτ⟩ : ∃ τ : Int → Int, τ = fun i => if i = k then σ r else if i = r then σ k else σ i := ⟨_, rfl⟩
      rw [← hτ]
      have hτk : τ k = σ r := by rw [hτ]; exact if_pos rfl
      have hτl : ∀ i, i < k → τ i = σ i := fun i hi => by rw [hτ]; dsimp only; rw [if_neg (by omega), if_neg (by omega)]
      have hP' : (w_I τ (k + 1).toNat).map T0 = T0 (σ r) :: P := by
        rw [show (k + 1).toNat = k.toNat + 1 by omega]
        show T0 (τ (k.toNat : Nat)) :: _ = _
        rw [show ((k.toNat : Nat) : Int) = k by omega, hτk, w_I_c k.toNat (fun i h0 h1 => hτl i (by omega)), hP]
      have hT1 : ∀ i, k ≤ i → i < H → ∀ j, eSw s.1 r k i j = w_R cs P (T0 (τ i)) j := by
        intro i h0 h1 j
        rw [hτ]
        unfold eSw
        dsimp only
        by_cases e1 : i = r
        · by_cases e2 : i = k
          · rw [if_pos e1, if_pos e2, Vlow k (Int.le_refl _) (by omega), ← e1, e2]
          · rw [if_pos e1, if_neg e2, if_pos e1, Vlow k (Int.le_refl _) (by omega)]
        · by_cases e2 : i = k
          · rw [if_neg e1, if_pos e2, if_pos e2, Vlow r hr1.1 hlt]
          · rw [if_neg e1, if_neg e2, if_neg e2, if_neg e1, Vlow i h0 h1]
      have hT0 : ∀ i, i < k → ∀ j, eSw s.1 r k i j = s.1 i j := by
        intro i h0 j
        unfold eSw
        rw [if_neg (by omega), if_neg (by omega)]
      have hpk : ∀ j, eSw s.1 r k k j = w_R cs P (T0 (σ r)) j := fun j => by rw [hT1 k (Int.le_refl _) (by omega), hτk]
      obtain ⟨d', hd'⟩ : ∃ d', d' = eSw s.1 r k k c := ⟨_, rfl⟩
      have hd1 : d' = w_R cs P (T0 (σ r)) c := by rw [hd', hpk]
      have hdn : d' ≠ 0 := by rw [hd1, ← Vlow r hr1.1 hlt]; exact hne
      have hdP : w_dt cs P ≠ 0 := by rw [← Vd]; exact Vz
      have hlow : ∀ i, k + 1 ≤ i → i < H → ∀ j, eCl (eSw s.1 r k) k c d i j = w_R (c :: cs) (T0 (σ r) :: P) (T0 (τ i)) j := by
        intro i h0 h1 j
        unfold eCl
        rw [if_neg (by omega), hpk, hpk, hT1 i (by omega) h1, hT1 i (by omega) h1, ← w_dt_step hdP, Vd]
        exact Int.mul_tdiv_cancel_left _ hdP
      have htopk : ∀ j, eCl (eSw s.1 r k) k c d k j = w_R cs P (T0 (σ r)) j := fun j => by unfold eCl; rw [if_pos rfl, hpk]
      have htop : ∀ t, 0 ≤ t → t < k → ∃ x ∈ cs, s.2.2.2.2 x = t ∧ ∃ e : Int, (e = 1 ∨ e = -1) ∧ (∀ j, eCl (eSw s.1 r k) k c d t j = e * w_dt (j :: (c :: cs).erase x) (T0 (σ r) :: P)) ∧ e * w_dt (x :: (c :: cs).erase x) (T0 (σ r) :: P) = d' := by
        intro t h0 h1
        obtain ⟨x, hx, hxt⟩ := Vonto t h0 h1
        obtain ⟨e, he, h2, h3⟩ := w_top (led := s.2.2.2.2) (t := t) hdP hcn hd1 hdn (Vtop t h0 h1) hx hxt V.one (fun y hy => by rw [Vpiv t h0 h1 y hy, Vd])
        refine ⟨x, hx, hxt, e, he, fun j => ?_, h3⟩
        rw [← h2 j]
        unfold eCl
        rw [if_neg (by omega), hpk, hpk, hT0 t h1, hT0 t h1, Vd, ← hd1]
      have hin : ∀ x, x ∈ c :: cs → x ≠ c → x ∈ cs := fun x hx hn => (List.mem_cons.mp hx).resolve_left hn
      have hledc : uZ s.2.2.2.2 c k c = k := uZ_s _ _ _
      have hledn : ∀ x, x ≠ c → uZ s.2.2.2.2 c k x = s.2.2.2.2 x := fun x hx => uZ_n _ _ hx
      exact w_V.mk
        (len := by show ((c :: cs).length : Int) = k + 1; rw [List.length_cons]; omega)
        (rk := ⟨by show 0 ≤ k + 1; omega, by show k + 1 ≤ H; omega⟩)
        (dv := by show eSw s.1 r k k c = w_dt (c :: cs) ((w_I τ (k + 1).toNat).map T0); rw [hP', ← hd', hd1]; rfl)
        (nz := by show eSw s.1 r k k c ≠ 0; rw [← hd']; exact hdn)
        (low := fun i h0 h1 j => by show eCl (eSw s.1 r k) k c d i j = w_R (c :: cs) ((w_I τ (k + 1).toNat).map T0) (T0 (τ i)) j; rw [hP']; exact hlow i h0 h1 j)
        (top := by
          intro t h0 h1
          have h1 : t < k + 1 := h1
          show w_In ((w_I τ (k + 1).toNat).map T0) (eCl (eSw s.1 r k) k c d t)
          rw [hP']
          by_cases q : t = k
          · subst q
            rw [show eCl (eSw s.1 r t) t c d t = w_R cs P (T0 (σ r)) from funext htopk]
            exact w_Rin _ _ _
          · obtain ⟨x, hx, hxt, e, he, h2, h3⟩ := htop t h0 (by omega)
            exact w_In.lin e 0 (w_In.d ((c :: cs).erase x) (T0 (σ r) :: P)) (w_In.d ((c :: cs).erase x) (T0 (σ r) :: P)) fun j => by rw [h2]; omega)
        (piv := by
          intro t h0 h1 y hy
          have h1 : t < k + 1 := h1
          show eCl (eSw s.1 r k) k c d t y = if uZ s.2.2.2.2 c k y = t then eSw s.1 r k k c else 0
          rw [← hd']
          by_cases q : t = k
          · subst q
            rw [htopk]
            by_cases qy : y = c
            · subst qy
              rw [hledc, if_pos rfl, hd1]
            · rw [hledn y qy, if_neg (by have := (Vled y (hin y hy qy)).1.2; omega), w_Rz _ _ y (hin y hy qy)]
          · obtain ⟨x, hx, hxt, e, he, h2, h3⟩ := htop t h0 (by omega)
            rw [h2]
            by_cases qy : y = x
            · subst qy
              rw [h3, hledn y (fun z => hcn (z ▸ hx)), if_pos hxt]
            · rw [w_dt_mem ((List.mem_erase_of_ne qy).mpr hy), Int.mul_zero]
              by_cases qc : y = c
              · subst qc
                rw [hledc, if_neg (by omega)]
              · rw [hledn y qc, if_neg (fun z => qy (V.one y (hin y hy qc) x hx (z.trans hxt.symm)))])
        (led := by
          intro x hx
          show (0 ≤ uZ s.2.2.2.2 c k x ∧ uZ s.2.2.2.2 c k x < k + 1) ∧ 0 ≤ x ∧ x < c + 1
          by_cases q : x = c
          · subst q; rw [hledc]; omega
          · rw [hledn x q]
            have := Vled x (hin x hx q)
            omega)
        (one := by
          intro x hx y hy
          show uZ s.2.2.2.2 c k x = uZ s.2.2.2.2 c k y → x = y
          by_cases q : x = c
          · by_cases q2 : y = c
            · intro _; rw [q, q2]
            · rw [q, hledc, hledn y q2]
              have := Vled y (hin y hy q2)
              omega
          · rw [hledn x q]
            by_cases q2 : y = c
            · rw [q2, hledc]
              have := Vled x (hin x hx q)
              omega
            · rw [hledn y q2]
              exact V.one x (hin x hx q) y (hin y hy q2))
        (onto := by
          intro t h0 h1
          have h1 : t < k + 1 := h1
          show ∃ x ∈ c :: cs, uZ s.2.2.2.2 c k x = t
          by_cases q : t = k
          · exact ⟨c, List.mem_cons_self .., by rw [hledc, q]⟩
          · obtain ⟨x, hx, hxt⟩ := Vonto t h0 (by omega)
            exact ⟨x, List.mem_cons_of_mem _ hx, by rw [hledn x (fun z => hcn (z ▸ hx))]; exact hxt⟩)
        (unl := by
          intro x hx
          show uZ s.2.2.2.2 c k x = -1
          rw [hledn x (fun z => hx (z ▸ List.mem_cons_self ..))]
          exact V.unl x fun z => hx (List.mem_cons_of_mem _ z))
        (fr := by
          intro x h0 h1 hx i hi1 hi2
          have hi1 : k + 1 ≤ i := hi1
          show eCl (eSw s.1 r k) k c d i x = 0
          have hxc : x ≠ c := fun z => hx (z ▸ List.mem_cons_self ..)
          have hxs : x ∉ cs := fun z => hx (List.mem_cons_of_mem _ z)
          have z : ∀ i, k ≤ i → i < H → eSw s.1 r k i x = 0 := by
            intro i h2 h3
            unfold eSw
            split
            · exact Vfr x h0 (by omega) hxs k (Int.le_refl _) (by omega)
            · split
              · exact Vfr x h0 (by omega) hxs r hr1.1 hlt
              · exact Vfr x h0 (by omega) hxs i h2 h3
          unfold eCl
          rw [if_neg (by omega), z i (by omega) hi2, z k (Int.le_refl _) (by omega)]
          simp)
        (nd := List.nodup_cons.mpr ⟨hcn, V.nd⟩)
        (rg := by
          intro i h0 h1
          rw [hτ]
          dsimp only
          split
          · exact V.rg r (by omega) hlt
          · split
            · exact V.rg k (by omega) (by omega)
            · exact V.rg i h0 h1)
        (inj := by
          intro i j h0 h1 h2 h3
          have q : ∀ i, τ i = σ (if i = k then r else if i = r then k else i) := by
            intro i
            rw [hτ]
            dsimp only
            split
            · rfl
            · split <;> rfl
          rw [q i, q j]
          intro e
          have := V.inj _ _ (by split <;> (try split) <;> omega) (by split <;> (try split) <;> omega) (by split <;> (try split) <;> omega) (by split <;> (try split) <;> omega) e
          split at this <;> split at this <;> (try split at this) <;> (try split at this) <;> omega)
        (sur := by
          intro i h0 h1
          obtain ⟨j, j0, j1, hj⟩ := V.sur i h0 h1
          rw [hτ]
          by_cases a1 : j = k
          · exact ⟨r, by omega, hlt, by dsimp only; split; (rename_i z; rw [← hj, a1, ← z]); rw [if_pos rfl, ← hj, a1]⟩
          · by_cases a2 : j = r
            · exact ⟨k, by omega, by omega, by dsimp only; rw [if_pos rfl, ← hj, a2]⟩
            · exact ⟨j, j0, j1, by dsimp only; rw [if_neg a1, if_neg a2, hj]⟩)
    · intro i h0 h1
      dsimp only
      rw [← hr] at hr1
      rw [if_neg (by omega), if_neg (by omega)]
theorem w_Vn (H : Int) (hH : 0 ≤ H) (T0 : Int → Int → Int) : ∀ n : Nat, ∃ (σ : Int → Int) (cs : List Int), w_V H T0 n (eRed H T0 n) σ cs := by
  intro n
  induction n with
  | zero => exact ⟨_, _, w_V0 H hH T0⟩
  | succ n ih =>
    obtain ⟨σ, cs, V⟩ := ih
    obtain ⟨τ, ds, V1, _⟩ := w_Vs (by omega) V
    exact ⟨τ, ds, by exact_mod_cast V1⟩
/-! BOUNDS: permanents of a table of bounds -/
def w_px (f : Int → Nat) (F : List Int → Nat) : List Int → Nat
  | [] => 0
  | r :: l => (if f r = 0 then 0 else f r * F l) + w_px f (fun x => F (r :: x)) l
def w_pm (B : Int → Int → Nat) : List Int → List Int → Nat
  | [], [] => 1
  | [], _ :: _ => 0
  | c :: cs, l => w_px (fun p => B p c) (w_pm B cs) l
theorem w_px_c (f : Int → Nat) (F : List Int → Nat) (r : Int) (l : List Int) : w_px f F (r :: l) = f r * F l + w_px f (fun x => F (r :: x)) l := by
  show (if f r = 0 then 0 else f r * F l) + _ = _
  split
  · rename_i h; rw [h]; omega
  · rfl
theorem w_px_lin (f : Int → Nat) (a : Nat) : ∀ (l : List Int) (F G K : List Int → Nat), (∀ x, K x = a * F x + G x) → w_px f K l = a * w_px f F l + w_px f G l := by
  intro l
  induction l with
  | nil => intro F G K _; rfl
  | cons r l ih =>
    intro F G K h
    rw [w_px_c, w_px_c, w_px_c, h l, ih (fun x => F (r :: x)) (fun x => G (r :: x)) (fun x => K (r :: x)) (fun x => h (r :: x))]
    grind
theorem w_px_px (f g : Int → Nat) : ∀ (l : List Int) (F : List Int → Nat), w_px f (w_px g F) l = w_px g (w_px f F) l := by
  intro l
  induction l with
  | nil => intro F; rfl
  | cons r l ih =>
    intro F
    have e : ∀ (f g : Int → Nat), w_px f (fun x => w_px g F (r :: x)) l = g r * w_px f F l + w_px f (w_px g (fun x => F (r :: x))) l := by
      intro f g
      exact w_px_lin f (g r) l F _ _ (fun x => w_px_c g F r x)
    rw [w_px_c, w_px_c, e f g, e g f, ih (fun x => F (r :: x))]
    omega
theorem w_px_perm (f : Int → Nat) {l l1 : List Int} (h : l.Perm l1) : ∀ F : List Int → Nat, (∀ x y : List Int, x.Perm y → F x = F y) → w_px f F l = w_px f F l1 := by
  induction h with
  | nil => intro F _; rfl
  | cons r h ih => intro F hF; rw [w_px_c, w_px_c, hF _ _ h, ih (fun x => F (r :: x)) (fun x y q => hF _ _ (q.cons r))]
  | swap r s l =>
    intro F hF
    rw [w_px_c, w_px_c, w_px_c, w_px_c, show (fun x => F (r :: s :: x)) = fun x => F (s :: r :: x) from funext fun x => hF _ _ (List.Perm.swap s r x)]
    omega
  | trans _ _ i1 i2 => intro F hF; rw [i1 F hF, i2 F hF]
theorem w_pm_rows (B : Int → Int → Nat) : ∀ (cs l l1 : List Int), l.Perm l1 → w_pm B cs l = w_pm B cs l1 := by
  intro cs
  induction cs with
  | nil =>
    intro l l1 h
    have := h.length_eq
    cases l <;> cases l1 <;> simp [w_pm] at this ⊢
  | cons c cs ih => intro l l1 h; exact w_px_perm _ h _ fun x y q => ih x y q
theorem w_pm_cols (B : Int → Int → Nat) {cs ds : List Int} (h : cs.Perm ds) : ∀ l, w_pm B cs l = w_pm B ds l := by
  induction h with
  | nil => intro l; rfl
  | cons c h ih => intro l; show w_px _ _ l = w_px _ _ l; rw [show w_pm B _ = w_pm B _ from funext ih]
  | swap c d cs => intro l; exact w_px_px _ _ l _
  | trans _ _ i1 i2 => intro l; rw [i1, i2]
theorem w_px_abs (T : Int → Int → Int) (B : Int → Int → Nat) (ρ : Int → Int) (κ : Int) (c : Int) : ∀ (l : List Int) (F : List (Int → Int) → Int) (G : List Int → Nat), (∀ p ∈ l, (T p c).natAbs ≤ B (ρ p) κ) → (∀ x : List Int, (∀ p ∈ x, p ∈ l) → (F (x.map T)).natAbs ≤ G (x.map ρ)) → (w_ex c F (l.map T)).natAbs ≤ w_px (fun p => B p κ) G (l.map ρ) := by
  intro l
  induction l with
  | nil => intro F G _ _; exact Nat.le_refl _
  | cons r l ih =>
    intro F G hT hF
    show (T r c * F (l.map T) - w_ex c (fun x => F (T r :: x)) (l.map T)).natAbs ≤ _
    rw [List.map_cons, w_px_c]
    refine Nat.le_trans (Int.natAbs_sub_le _ _) (Nat.add_le_add ?_ ?_)
    · rw [Int.natAbs_mul]
      exact Nat.mul_le_mul (hT r (List.mem_cons_self ..)) (hF l fun p hp => List.mem_cons_of_mem _ hp)
    · refine ih (fun x => F (T r :: x)) (fun x => G (ρ r :: x)) (fun p hp => hT p (List.mem_cons_of_mem _ hp)) fun x hx => ?_
      have := hF (r :: x) fun p hp => by
        rcases List.mem_cons.mp hp with q | q
        · exact q ▸ List.mem_cons_self ..
        · exact List.mem_cons_of_mem _ (hx p q)
      exact this
theorem w_abs (T : Int → Int → Int) (B : Int → Int → Nat) (ρ κ : Int → Int) : ∀ (cs l : List Int), (∀ p ∈ l, ∀ c ∈ cs, (T p c).natAbs ≤ B (ρ p) (κ c)) → (w_dt cs (l.map T)).natAbs ≤ w_pm B (cs.map κ) (l.map ρ) := by
  intro cs
  induction cs with
  | nil => intro l _; cases l <;> exact Nat.le_refl _
  | cons c cs ih =>
    intro l h
    exact w_px_abs T B ρ (κ c) c l _ _ (fun p hp => h p hp c (List.mem_cons_self ..)) fun x hx => ih x fun p hp d hd => h p (hx p hp) d (List.mem_cons_of_mem _ hd)
/-- all sublists -/
def w_sub : List Int → List (List Int)
  | [] => [[]]
  | a :: l => w_sub l ++ (w_sub l).map (a :: ·)
theorem w_sub_f (q : Int → Bool) : ∀ l : List Int, l.filter q ∈ w_sub l := by
  intro l
  induction l with
  | nil => exact List.mem_cons_self ..
  | cons a l ih =>
    rw [List.filter_cons]
    show _ ∈ w_sub l ++ (w_sub l).map (a :: ·)
    split
    · exact List.mem_append_right _ (List.mem_map.mpr ⟨_, ih, rfl⟩)
    · exact List.mem_append_left _ ih
theorem w_sub_m {l x : List Int} (hx : x.Nodup) (hl : l.Nodup) (h : ∀ p ∈ x, p ∈ l) : ∃ y ∈ w_sub l, x.Perm y :=
  ⟨_, w_sub_f (fun a => decide (a ∈ x)) l, (List.perm_ext_iff_of_nodup hx (hl.filter _)).mpr fun a => by simp only [List.mem_filter, decide_eq_true_eq]; exact ⟨fun z => ⟨h a z, z⟩, fun z => z.2⟩⟩
/-- a bound for each minor of a table of bounds, by its size and by a mark of its columns (rows) -/
def w_chk (B : Int → Int → Nat) (R C : List Int) (M : List Int → List Int → Nat) : Bool := (w_sub R).all fun x => (w_sub C).all fun y => if x.length = y.length then decide (w_pm B y x ≤ M y x) else true
theorem w_chk_m {B : Int → Int → Nat} {R C : List Int} {M : List Int → List Int → Nat} (h : w_chk B R C M = true) (hR : R.Nodup) (hC : C.Nodup) (hM : ∀ y y1 x x1 : List Int, y.Perm y1 → x.Perm x1 → M y x = M y1 x1) {cs ps : List Int} (hl : ps.length = cs.length) (hc : cs.Nodup) (hp : ps.Nodup) (hc1 : ∀ c ∈ cs, c ∈ C) (hp1 : ∀ p ∈ ps, p ∈ R) : w_pm B cs ps ≤ M cs ps := by
  obtain ⟨y, hy, py⟩ := w_sub_m hc hC hc1
  obtain ⟨x, hx, px⟩ := w_sub_m hp hR hp1
  rw [hM cs y ps x py px, w_pm_rows B cs ps x px, w_pm_cols B py]
  have := List.all_eq_true.mp (List.all_eq_true.mp h x hx) y hy
  rw [if_pos (by rw [← px.length_eq, ← py.length_eq]; exact hl)] at this
  exact of_decide_eq_true this
def w_b (p q : Int) : Nat := (if p.tmod 3 = q.tmod 3 then 5 else 0) + (if p.tdiv 3 = q.tdiv 3 then 5 else 0) + (if p = q then 2 else 0)
def w_BP (p q : Int) : Nat := if q = 9 then 50 else w_b p q
def w_BE (p q : Int) : Nat := if q = 9 then 50 else if q.tdiv 3 = q.tmod 3 then w_b p q else w_b p q + w_b p (3 * q.tmod 3 + q.tdiv 3)
def w_BT (B : Int → Int → Nat) (q p : Int) : Nat := if p = 9 then (if q = 9 then 1 else 0) else B p q
def w_N1 (_ : Nat) (b : Bool) : Nat := if b then 6332262400 else 22385984
def w_N2 (k : Nat) (_ : Bool) : Nat := if 7 ≤ k then 6332262400 else 321385200
def w_M (N : Nat → Bool → Nat) (y _ : List Int) : Nat := N y.length (decide ((9 : Int) ∈ y))
set_option maxRecDepth 100000
theorem w_M_p (N : Nat → Bool → Nat) (y y1 x x1 : List Int) (h : y.Perm y1) (_ : x.Perm x1) : w_M N y x = w_M N y1 x1 := by
  unfold w_M
  rw [h.length_eq, show decide ((9 : Int) ∈ y) = decide ((9 : Int) ∈ y1) from decide_eq_decide.mpr h.mem_iff]
theorem w_I_l (σ : Int → Int) : ∀ n : Nat, (w_I σ n).length = n := by
  intro n
  induction n with
  | zero => rfl
  | succ n ih => show (_ :: w_I σ n).length = _; rw [List.length_cons, ih]
theorem w_I_m (σ : Int → Int) {p : Int} : ∀ n : Nat, p ∈ w_I σ n → ∃ i : Int, 0 ≤ i ∧ i < n ∧ p = σ i := by
  intro n
  induction n with
  | zero => intro h; cases h
  | succ n ih =>
    intro h
    rcases List.mem_cons.mp h with h | h
    · exact ⟨n, by omega, by omega, h⟩
    · obtain ⟨i, h0, h1, h2⟩ := ih h
      exact ⟨i, h0, by omega, h2⟩
theorem w_I_n {σ : Int → Int} {H : Int} (hi : ∀ i j, 0 ≤ i → i < H → 0 ≤ j → j < H → σ i = σ j → i = j) : ∀ n : Nat, (n : Int) ≤ H → (w_I σ n).Nodup := by
  intro n
  induction n with
  | zero => intro _; exact List.nodup_nil
  | succ n ih =>
    intro h
    refine List.nodup_cons.mpr ⟨fun q => ?_, ih (by omega)⟩
    obtain ⟨i, h0, h1, h2⟩ := w_I_m σ n q
    have := hi _ _ (by omega) (by omega) h0 (by omega) h2
    omega
theorem w_nodup_map {f : Int → Int} : ∀ l : List Int, l.Nodup → (∀ x ∈ l, ∀ y ∈ l, f x = f y → x = y) → (l.map f).Nodup := by
  intro l
  induction l with
  | nil => intro _ _; exact List.nodup_nil
  | cons a l ih =>
    intro h hf
    have h' := List.nodup_cons.mp h
    rw [List.map_cons]
    refine List.nodup_cons.mpr ⟨fun q => ?_, ih h'.2 fun x hx y hy => hf x (List.mem_cons_of_mem _ hx) y (List.mem_cons_of_mem _ hy)⟩
    obtain ⟨b, hb, e⟩ := List.mem_map.mp q
    exact h'.1 (hf b (List.mem_cons_of_mem _ hb) a (List.mem_cons_self ..) e ▸ hb)
/-- what is given of a start: a table of bounds that it keeps, places in the table, a bound for each size of minor -/
def w_G (H W Q : Int) (T0 : Int → Int → Int) (B : Int → Int → Nat) (ρ κ : Int → Int) (R C : List Int) (N : Nat → Bool → Nat) : Prop :=
  (∀ p, 0 ≤ p → p < H → ∀ q, 0 ≤ q → q < Q → (T0 p q).natAbs ≤ B (ρ p) (κ q)) ∧ (0 ≤ W ∧ W ≤ Q) ∧ (∀ p, 0 ≤ p → p < H → ρ p ∈ R) ∧ (∀ p, 0 ≤ p → p < H → ∀ q, 0 ≤ q → q < H → ρ p = ρ q → p = q) ∧ (∀ q, 0 ≤ q → q < Q → κ q ∈ C) ∧ (∀ p, 0 ≤ p → p < W → ∀ q, 0 ≤ q → q < Q → κ p = κ q → p = q) ∧ (∀ q, 0 ≤ q → q < W → κ q ≠ 9) ∧ (R.Nodup) ∧ (C.Nodup) ∧ (w_chk B R C (w_M N) = true) ∧ (∀ k, N k false ≤ N k true)
theorem w_G.hB {H W Q : Int} {T0 : Int → Int → Int} {B : Int → Int → Nat} {ρ κ : Int → Int} {R C : List Int} {N : Nat → Bool → Nat} (h : w_G H W Q T0 B ρ κ R C N) : ∀ p, 0 ≤ p → p < H → ∀ q, 0 ≤ q → q < Q → (T0 p q).natAbs ≤ B (ρ p) (κ q) := h.1
theorem w_G.hW {H W Q : Int} {T0 : Int → Int → Int} {B : Int → Int → Nat} {ρ κ : Int → Int} {R C : List Int} {N : Nat → Bool → Nat} (h : w_G H W Q T0 B ρ κ R C N) : 0 ≤ W ∧ W ≤ Q := h.2.1
theorem w_G.hρ {H W Q : Int} {T0 : Int → Int → Int} {B : Int → Int → Nat} {ρ κ : Int → Int} {R C : List Int} {N : Nat → Bool → Nat} (h : w_G H W Q T0 B ρ κ R C N) : ∀ p, 0 ≤ p → p < H → ρ p ∈ R := h.2.2.1
theorem w_G.iρ {H W Q : Int} {T0 : Int → Int → Int} {B : Int → Int → Nat} {ρ κ : Int → Int} {R C : List Int} {N : Nat → Bool → Nat} (h : w_G H W Q T0 B ρ κ R C N) : ∀ p, 0 ≤ p → p < H → ∀ q, 0 ≤ q → q < H → ρ p = ρ q → p = q := h.2.2.2.1
theorem w_G.hκ {H W Q : Int} {T0 : Int → Int → Int} {B : Int → Int → Nat} {ρ κ : Int → Int} {R C : List Int} {N : Nat → Bool → Nat} (h : w_G H W Q T0 B ρ κ R C N) : ∀ q, 0 ≤ q → q < Q → κ q ∈ C := h.2.2.2.2.1
theorem w_G.iκ {H W Q : Int} {T0 : Int → Int → Int} {B : Int → Int → Nat} {ρ κ : Int → Int} {R C : List Int} {N : Nat → Bool → Nat} (h : w_G H W Q T0 B ρ κ R C N) : ∀ p, 0 ≤ p → p < W → ∀ q, 0 ≤ q → q < Q → κ p = κ q → p = q := h.2.2.2.2.2.1
theorem w_G.h9 {H W Q : Int} {T0 : Int → Int → Int} {B : Int → Int → Nat} {ρ κ : Int → Int} {R C : List Int} {N : Nat → Bool → Nat} (h : w_G H W Q T0 B ρ κ R C N) : ∀ q, 0 ≤ q → q < W → κ q ≠ 9 := h.2.2.2.2.2.2.1
theorem w_G.hR {H W Q : Int} {T0 : Int → Int → Int} {B : Int → Int → Nat} {ρ κ : Int → Int} {R C : List Int} {N : Nat → Bool → Nat} (h : w_G H W Q T0 B ρ κ R C N) : R.Nodup := h.2.2.2.2.2.2.2.1
theorem w_G.hC {H W Q : Int} {T0 : Int → Int → Int} {B : Int → Int → Nat} {ρ κ : Int → Int} {R C : List Int} {N : Nat → Bool → Nat} (h : w_G H W Q T0 B ρ κ R C N) : C.Nodup := h.2.2.2.2.2.2.2.2.1
theorem w_G.ck {H W Q : Int} {T0 : Int → Int → Int} {B : Int → Int → Nat} {ρ κ : Int → Int} {R C : List Int} {N : Nat → Bool → Nat} (h : w_G H W Q T0 B ρ κ R C N) : w_chk B R C (w_M N) = true := h.2.2.2.2.2.2.2.2.2.1
theorem w_G.mo {H W Q : Int} {T0 : Int → Int → Int} {B : Int → Int → Nat} {ρ κ : Int → Int} {R C : List Int} {N : Nat → Bool → Nat} (h : w_G H W Q T0 B ρ κ R C N) : ∀ k, N k false ≤ N k true := h.2.2.2.2.2.2.2.2.2.2
theorem w_G.mk {H W Q : Int} {T0 : Int → Int → Int} {B : Int → Int → Nat} {ρ κ : Int → Int} {R C : List Int} {N : Nat → Bool → Nat} (hB : ∀ p, 0 ≤ p → p < H → ∀ q, 0 ≤ q → q < Q → (T0 p q).natAbs ≤ B (ρ p) (κ q)) (hW : 0 ≤ W ∧ W ≤ Q) (hρ : ∀ p, 0 ≤ p → p < H → ρ p ∈ R) (iρ : ∀ p, 0 ≤ p → p < H → ∀ q, 0 ≤ q → q < H → ρ p = ρ q → p = q) (hκ : ∀ q, 0 ≤ q → q < Q → κ q ∈ C) (iκ : ∀ p, 0 ≤ p → p < W → ∀ q, 0 ≤ q → q < Q → κ p = κ q → p = q) (h9 : ∀ q, 0 ≤ q → q < W → κ q ≠ 9) (hR : R.Nodup) (hC : C.Nodup) (ck : w_chk B R C (w_M N) = true) (mo : ∀ k, N k false ≤ N k true) : w_G H W Q T0 B ρ κ R C N := ⟨hB, hW, hρ, iρ, hκ, iκ, h9, hR, hC, ck, mo⟩
section WB
variable {H W Q : Int} {T0 : Int → Int → Int} {B : Int → Int → Nat} {ρ κ : Int → Int} {R C : List Int} {N : Nat → Bool → Nat} {c : Int} {s : eS} {σ : Int → Int} {cs : List Int}
theorem w_minor (g : w_G H W Q T0 B ρ κ R C N) {ps ds : List Int} (hl : ps.length = ds.length) (hp : ps.Nodup) (hd : ds.Nodup) (hp1 : ∀ p ∈ ps, 0 ≤ p ∧ p < H) (hd1 : ∀ x ∈ ds, 0 ≤ x ∧ x < Q) (hd2 : ∀ x ∈ ds, ∀ y ∈ ds, κ x = κ y → x = y) : (w_dt ds (ps.map T0)).natAbs ≤ N ds.length (decide ((9 : Int) ∈ ds.map κ)) := by
  refine Nat.le_trans (w_abs T0 B ρ κ ds ps fun p h x hx => g.hB p (hp1 p h).1 (hp1 p h).2 x (hd1 x hx).1 (hd1 x hx).2) ?_
  have := w_chk_m g.ck g.hR g.hC (fun y y1 x x1 => w_M_p N y y1 x x1) (cs := ds.map κ) (ps := ps.map ρ) (by rw [List.length_map, List.length_map]; exact hl) (w_nodup_map ds hd hd2) (w_nodup_map ps hp fun x hx y hy => g.iρ x (hp1 x hx).1 (hp1 x hx).2 y (hp1 y hy).1 (hp1 y hy).2)
    (fun y hy => by obtain ⟨x, hx, e⟩ := List.mem_map.mp hy; exact e ▸ g.hκ x (hd1 x hx).1 (hd1 x hx).2) (fun y hy => by obtain ⟨x, hx, e⟩ := List.mem_map.mp hy; exact e ▸ g.hρ x (hp1 x hx).1 (hp1 x hx).2)
  unfold w_M at this
  rw [List.length_map] at this
  exact this
theorem w_9 (g : w_G H W Q T0 B ρ κ R C N) {ds : List Int} (hd : ∀ x ∈ ds, 0 ≤ x ∧ x < W) : decide ((9 : Int) ∈ ds.map κ) = false := by
  apply decide_eq_false
  intro h
  obtain ⟨x, hx, e⟩ := List.mem_map.mp h
  exact g.h9 x (hd x hx).1 (hd x hx).2 e
/-- a minor of leading columns and one more -/
theorem w_minor1 (g : w_G H W Q T0 B ρ κ R C N) {ps ds : List Int} {j : Int} (hj : 0 ≤ j ∧ j < Q) (hjd : j ∉ ds) (hl : ps.length = ds.length + 1) (hp : ps.Nodup) (hd : ds.Nodup) (hp1 : ∀ p ∈ ps, 0 ≤ p ∧ p < H) (hd1 : ∀ x ∈ ds, 0 ≤ x ∧ x < W) : (w_dt (j :: ds) (ps.map T0)).natAbs ≤ N (ds.length + 1) (decide (W ≤ j)) := by
  have h := w_minor g (ps := ps) (ds := j :: ds) hl hp (List.nodup_cons.mpr ⟨hjd, hd⟩) hp1 (fun x hx => by
    rcases List.mem_cons.mp hx with q | q
    · rw [q]; exact hj
    · have := hd1 x q; have := g.hW; omega) (fun x hx y hy e => by
    rcases List.mem_cons.mp hx with q | q
    · rcases List.mem_cons.mp hy with q2 | q2
      · rw [q, q2]
      · exact (g.iκ y (hd1 y q2).1 (hd1 y q2).2 x (by omega) (by omega) e.symm).symm
    · exact g.iκ x (hd1 x q).1 (hd1 x q).2 y (by rcases List.mem_cons.mp hy with q2 | q2; (rw [q2]; exact hj.1); exact (hd1 y q2).1) (by rcases List.mem_cons.mp hy with q2 | q2; (rw [q2]; exact hj.2); (have := hd1 y q2; have := g.hW; omega)) e)
  rw [List.length_cons] at h
  refine Nat.le_trans h ?_
  by_cases q : W ≤ j
  · rw [decide_eq_true q]
    cases decide ((9 : Int) ∈ (j :: ds).map κ)
    · exact g.mo _
    · exact Nat.le_refl _
  · rw [decide_eq_false q, w_9 g (ds := j :: ds) (fun x hx => by
      rcases List.mem_cons.mp hx with q2 | q2
      · omega
      · exact hd1 x q2)]
    exact Nat.le_refl _
theorem w_dom (V : w_V H T0 c s σ cs) (hc : c ≤ W) : ∀ x ∈ cs, 0 ≤ x ∧ x < W := fun x hx => by have := (V.led x hx).2; omega
theorem w_Ir (V : w_V H T0 c s σ cs) {n : Nat} (hn : (n : Int) ≤ H) : ∀ p ∈ w_I σ n, 0 ≤ p ∧ p < H := fun p hp => by
  obtain ⟨i, h0, h1, h2⟩ := w_I_m σ n hp
  rw [h2]
  exact V.rg i h0 (by omega)
theorem w_bd (g : w_G H W Q T0 B ρ κ R C N) (V : w_V H T0 c s σ cs) (hc : c ≤ W) : s.2.2.2.1.natAbs ≤ N s.2.1.toNat false := by
  have hr := V.rk
  rw [V.dv]
  have h := w_minor g (ps := w_I σ s.2.1.toNat) (ds := cs) (by rw [w_I_l]; have := V.len; omega) (w_I_n V.inj _ (by omega)) V.nd (w_Ir V (by omega)) (fun x hx => by have := w_dom V hc x hx; have := g.hW; omega) (fun x hx y hy e => g.iκ x (w_dom V hc x hx).1 (w_dom V hc x hx).2 y (w_dom V hc y hy).1 (by have := w_dom V hc y hy; have := g.hW; omega) e)
  rw [w_9 g (w_dom V hc)] at h
  have := V.len
  rw [show cs.length = s.2.1.toNat by omega] at h
  exact h
theorem w_bl (g : w_G H W Q T0 B ρ κ R C N) (V : w_V H T0 c s σ cs) (hc : c ≤ W) {i j : Int} (h0 : s.2.1 ≤ i) (h1 : i < H) (hj : 0 ≤ j ∧ j < Q) : (s.1 i j).natAbs ≤ N (s.2.1.toNat + 1) (decide (W ≤ j)) := by
  have hr := V.rk
  have hlen := V.len
  rw [V.low i h0 h1]
  by_cases q : j ∈ cs
  · rw [w_Rz _ _ j q]
    exact Nat.zero_le _
  · have h := w_minor1 g (ps := σ i :: w_I σ s.2.1.toNat) (ds := cs) hj q (by rw [List.length_cons, w_I_l]; omega) (List.nodup_cons.mpr ⟨fun z => by
      obtain ⟨t, t0, t1, e⟩ := w_I_m σ _ z
      have := V.inj i t (by omega) h1 t0 (by omega) e
      omega, w_I_n V.inj _ (by omega)⟩) V.nd (fun p hp => by
      rcases List.mem_cons.mp hp with z | z
      · rw [z]; exact V.rg i (by omega) h1
      · exact w_Ir V (by omega) p z) (w_dom V hc)
    rw [show cs.length = s.2.1.toNat by omega] at h
    exact h
/-- a row that leads: it is, but for its sign, a minor -/
theorem w_topm (V : w_V H T0 c s σ cs) {t : Int} (h0 : 0 ≤ t) (h1 : t < s.2.1) {x : Int} (hx : x ∈ cs) (hxt : s.2.2.2.2 x = t) : ∃ e : Int, (e = 1 ∨ e = -1) ∧ ∀ j, s.1 t j = e * w_dt (j :: cs.erase x) ((w_I σ s.2.1.toNat).map T0) := by
  have hn : w_dt cs ((w_I σ s.2.1.toNat).map T0) ≠ 0 := by rw [← V.dv]; exact V.nz
  have hp1 : cs.Perm (x :: cs.erase x) := List.perm_cons_erase hx
  obtain ⟨e, he, hE⟩ : ∃ e : Int, (e = 1 ∨ e = -1) ∧ e * w_dt (x :: cs.erase x) ((w_I σ s.2.1.toNat).map T0) = s.2.2.2.1 := by
    rcases w_dt_perm hp1 with q | q
    · exact ⟨1, Or.inl rfl, by rw [← q, V.dv]; omega⟩
    · exact ⟨-1, Or.inr rfl, by rw [V.dv, q]; omega⟩
  refine ⟨e, he, fun j => ?_⟩
  have hin : w_In ((w_I σ s.2.1.toNat).map T0) (fun j => s.1 t j - e * w_dt (j :: cs.erase x) ((w_I σ s.2.1.toNat).map T0)) := w_In.lin 1 (-e) (V.top t h0 h1) (w_In.d (cs.erase x) _) fun j => by grind
  have hz : ∀ y ∈ cs, s.1 t y - e * w_dt (y :: cs.erase x) ((w_I σ s.2.1.toNat).map T0) = 0 := by
    intro y hy
    rw [V.piv t h0 h1 y hy]
    by_cases q : y = x
    · subst q
      rw [if_pos hxt, hE]; omega
    · rw [if_neg (fun z => q (V.one y hy x hx (z.trans hxt.symm))), w_dt_mem ((List.mem_erase_of_ne q).mpr hy)]; omega
  have := w_dt_uniq hn hin hz j
  omega
theorem w_bt (g : w_G H W Q T0 B ρ κ R C N) (V : w_V H T0 c s σ cs) (hc : c ≤ W) {t j : Int} (h0 : 0 ≤ t) (h1 : t < s.2.1) (hj : 0 ≤ j ∧ j < Q) : (s.1 t j).natAbs ≤ N s.2.1.toNat (decide (W ≤ j)) := by
  have hr := V.rk
  have hlen := V.len
  by_cases q : j ∈ cs
  · rw [V.piv t h0 h1 j q]
    have := w_dom V hc j q
    rw [decide_eq_false (by omega)]
    split
    · exact w_bd g V hc
    · exact Nat.zero_le _
  · obtain ⟨x, hx, hxt⟩ := V.onto t h0 h1
    obtain ⟨e, he, hE⟩ := w_topm V h0 h1 hx hxt
    rw [hE, Int.natAbs_mul, show e.natAbs = 1 by rcases he with rfl | rfl <;> rfl, Nat.one_mul]
    have hel : (cs.erase x).length + 1 = cs.length := by have := List.length_erase_of_mem hx; have : 0 < cs.length := List.length_pos_of_mem hx; omega
    have h := w_minor1 g (ps := w_I σ s.2.1.toNat) (ds := cs.erase x) hj (fun z => q (List.mem_of_mem_erase z)) (by rw [w_I_l]; omega) (w_I_n V.inj _ (by omega)) (V.nd.erase x) (w_Ir V (by omega)) (fun y hy => w_dom V hc y (List.mem_of_mem_erase hy))
    rw [show (cs.erase x).length + 1 = s.2.1.toNat by omega] at h
    exact h
end WB
theorem w_nat {x : Int} {n : Nat} (h : x.natAbs ≤ n) : -(n : Int) ≤ x ∧ x ≤ n := by omega
theorem w_z40 {x : Int} {n : Nat} (h : x.natAbs ≤ n) (hn : n < 1099511627776) : z40 x := by unfold z40; omega
theorem w_z62 {x y : Int} {n m : Nat} (hx : x.natAbs ≤ n) (hy : y.natAbs ≤ m) (hn : n * m < 4611686018427387904) : z62 (x * y) := by
  have h : (x * y).natAbs ≤ n * m := by rw [Int.natAbs_mul]; exact Nat.mul_le_mul hx hy
  unfold z62
  omega
/-- what the bounds must be for the elimination to be safe -/
def w_S (H : Int) (N : Nat → Bool → Nat) : Prop :=
  (∀ (k : Nat) (b : Bool), (k : Int) ≤ H → N k b < 1099511627776) ∧ (∀ (k : Nat) (b : Bool), (k : Int) + 1 ≤ H → N (k + 1) false * N k b < 4611686018427387904 ∧ N k false * N (k + 1) b < 4611686018427387904) ∧ (∀ (k : Nat) (b : Bool), (k : Int) + 2 ≤ H → N (k + 1) false * N (k + 1) b < 4611686018427387904)
theorem w_S.a {H : Int} {N : Nat → Bool → Nat} (h : w_S H N) : ∀ (k : Nat) (b : Bool), (k : Int) ≤ H → N k b < 1099511627776 := h.1
theorem w_S.b {H : Int} {N : Nat → Bool → Nat} (h : w_S H N) : ∀ (k : Nat) (b : Bool), (k : Int) + 1 ≤ H → N (k + 1) false * N k b < 4611686018427387904 ∧ N k false * N (k + 1) b < 4611686018427387904 := h.2.1
theorem w_S.c {H : Int} {N : Nat → Bool → Nat} (h : w_S H N) : ∀ (k : Nat) (b : Bool), (k : Int) + 2 ≤ H → N (k + 1) false * N (k + 1) b < 4611686018427387904 := h.2.2
theorem w_S.mk {H : Int} {N : Nat → Bool → Nat} (a : ∀ (k : Nat) (b : Bool), (k : Int) ≤ H → N k b < 1099511627776) (b : ∀ (k : Nat) (b : Bool), (k : Int) + 1 ≤ H → N (k + 1) false * N k b < 4611686018427387904 ∧ N k false * N (k + 1) b < 4611686018427387904) (c : ∀ (k : Nat) (b : Bool), (k : Int) + 2 ≤ H → N (k + 1) false * N (k + 1) b < 4611686018427387904) : w_S H N := ⟨a, b, c⟩
theorem w_fit {H W Q : Int} {T0 : Int → Int → Int} {B : Int → Int → Nat} {ρ κ : Int → Int} {R C : List Int} {N : Nat → Bool → Nat} {c : Int} {s : eS} {σ : Int → Int} {cs : List Int} (g : w_G H W Q T0 B ρ κ R C N) (S : w_S H N) (V : w_V H T0 c s σ cs) (hc : 0 ≤ c ∧ c ≤ W) : (∀ p q : Int, 0 ≤ p → p < H → 0 ≤ q → q < Q → z40 (s.1 p q)) ∧ (s.2.2.2.1 ≠ 0 ∧ z40 s.2.2.2.1) ∧ (c < W → eRow H c s < H → ∀ p q : Int, 0 ≤ p → p < H → p ≠ s.2.1 → 0 ≤ q → q < Q → z62 (eSw s.1 (eRow H c s) s.2.1 s.2.1 c * eSw s.1 (eRow H c s) s.2.1 p q) ∧ z62 (eSw s.1 (eRow H c s) s.2.1 p c * eSw s.1 (eRow H c s) s.2.1 s.2.1 q)) := by
  have hr := V.rk
  refine ⟨fun p q h0 h1 h2 h3 => ?_, ⟨V.nz, w_z40 (w_bd g V hc.2) (S.a _ _ (by omega))⟩, fun hcw hrow p q h0 h1 hp h2 h3 => ?_⟩
  · by_cases k : p < s.2.1
    · exact w_z40 (w_bt g V hc.2 h0 k ⟨h2, h3⟩) (S.a _ _ (by omega))
    · exact w_z40 (w_bl g V hc.2 (by omega) h1 ⟨h2, h3⟩) (S.a _ _ (by omega))
  · have hr0 := zFind_r s.1 H c (H - s.2.1).toNat s.2.1
    have hr1 : s.2.1 ≤ eRow H c s := hr0.1
    have hQ := g.hW
    have low : ∀ i j, s.2.1 ≤ i → i < H → 0 ≤ j → j < Q → (eSw s.1 (eRow H c s) s.2.1 i j).natAbs ≤ N (s.2.1.toNat + 1) (decide (W ≤ j)) := by
      intro i j i0 i1 j0 j1
      unfold eSw
      split
      · exact w_bl g V hc.2 (Int.le_refl _) (by omega) ⟨j0, j1⟩
      · split
        · exact w_bl g V hc.2 hr1 hrow ⟨j0, j1⟩
        · exact w_bl g V hc.2 i0 i1 ⟨j0, j1⟩
    have hb := low s.2.1 c (Int.le_refl _) (by omega) hc.1 (by omega)
    have hk := low s.2.1 q (Int.le_refl _) (by omega) h2 h3
    rw [decide_eq_false (show ¬ W ≤ c by omega)] at hb
    by_cases k : p < s.2.1
    · have e : ∀ j, eSw s.1 (eRow H c s) s.2.1 p j = s.1 p j := fun j => by unfold eSw; rw [if_neg (by omega), if_neg (by omega)]
      have t1 := w_bt g V hc.2 h0 k (j := q) ⟨h2, h3⟩
      have t2 := w_bt g V hc.2 h0 k (j := c) ⟨hc.1, by omega⟩
      rw [decide_eq_false (show ¬ W ≤ c by omega)] at t2
      rw [e, e]
      have z := S.b s.2.1.toNat (decide (W ≤ q)) (by omega)
      exact ⟨w_z62 hb t1 z.1, w_z62 t2 hk z.2⟩
    · have l1 := low p q (by omega) h1 h2 h3
      have l2 := low p c (by omega) h1 hc.1 (by omega)
      rw [decide_eq_false (show ¬ W ≤ c by omega)] at l2
      have z := S.c s.2.1.toNat (decide (W ≤ q)) (by omega)
      exact ⟨w_z62 hb l1 z, w_z62 l2 hk z⟩
theorem w_S1 {H : Int} : w_S H w_N1 := ⟨fun k b _ => by cases b <;> simp [w_N1], fun k b _ => by cases b <;> simp [w_N1], fun k b _ => by cases b <;> simp [w_N1]⟩
theorem w_S2 {H : Int} (hH : H ≤ 7) : w_S H w_N2 := by
  have e : ∀ k b, w_N2 k b = if 7 ≤ k then 6332262400 else 321385200 := fun _ _ => rfl
  refine ⟨fun k b h => ?_, fun k b h => ?_, fun k b h => ?_⟩
  · rw [e]; split <;> decide
  · rw [e, e, e, e, if_neg (show ¬ 7 ≤ k by omega)]
    constructor <;> split <;> decide
  · rw [e, e, if_neg (show ¬ 7 ≤ k + 1 by omega)]
    decide
/-! WHAT THE ELIMINATION SAYS: solutions, dependent columns -/
theorem w_zs0 {f : Int → Int} : ∀ n : Nat, (∀ x : Int, 0 ≤ x → x < n → f x = 0) → zsum f n = 0 := by
  intro n
  induction n with
  | zero => intro _; rfl
  | succ n ih => intro h; show zsum f n + f n = 0; rw [ih fun x h0 h1 => h x h0 (by omega), h n (by omega) (by omega)]; rfl
theorem w_zsc {f g : Int → Int} : ∀ n : Nat, (∀ x : Int, 0 ≤ x → x < n → f x = g x) → zsum f n = zsum g n := by
  intro n
  induction n with
  | zero => intro _; rfl
  | succ n ih => intro h; show zsum f n + f n = zsum g n + g n; rw [ih fun x h0 h1 => h x h0 (by omega), h n (by omega) (by omega)]
theorem w_zsl {f g k : Int → Int} {a b : Int} : ∀ n : Nat, (∀ x : Int, 0 ≤ x → x < n → k x = a * f x + b * g x) → zsum k n = a * zsum f n + b * zsum g n := by
  intro n
  induction n with
  | zero => intro _; show (0 : Int) = a * 0 + b * 0; omega
  | succ n ih =>
    intro h
    show zsum k n + k n = a * (zsum f n + f n) + b * (zsum g n + g n)
    rw [ih fun x h0 h1 => h x h0 (by omega), h n (by omega) (by omega)]
    grind
theorem w_zs1 {f : Int → Int} {y : Int} : ∀ n : Nat, 0 ≤ y → y < n → (∀ x : Int, 0 ≤ x → x < n → x ≠ y → f x = 0) → zsum f n = f y := by
  intro n
  induction n with
  | zero => intro h0 h1; omega
  | succ n ih =>
    intro h0 h1 h
    show zsum f n + f n = f y
    by_cases q : y = n
    · rw [w_zs0 n fun x x0 x1 => h x x0 (by omega) (by omega), q]; omega
    · rw [ih h0 (by omega) fun x x0 x1 xn => h x x0 (by omega) xn, h n (by omega) (by omega) (by omega)]; omega
theorem w_L1_zs (X : Int → Int) (n : Nat) : w_L1 (fun v => zsum (fun x => v x * X x) n) := fun x y z a b h => w_zsl n fun c _ _ => by rw [h]; grind
theorem w_L1_at (j : Int) : w_L1 (fun v => v j) := fun x y z a b h => h j
theorem w_L1.lin {f g : (Int → Int) → Int} (hf : w_L1 f) (hg : w_L1 g) (p q : Int) : w_L1 (fun v => p * f v + q * g v) := fun x y z a b h => by
  show p * f z + q * g z = _
  rw [hf x y z a b h, hg x y z a b h]
  grind
theorem w_Inz {P : List (Int → Int)} {g : Int → Int → Int} : ∀ n : Nat, (∀ x : Int, 0 ≤ x → x < n → w_In P (g x)) → w_In P (fun j => zsum (fun x => g x j) n) := by
  intro n
  induction n with
  | zero => intro _; exact w_In.zero fun _ => rfl
  | succ n ih => intro h; exact w_In.lin 1 1 (ih fun x h0 h1 => h x h0 (by omega)) (h n (by omega) (by omega)) fun c => by show zsum _ n + g n c = _; omega
section WL
variable {H : Int} {T0 : Int → Int → Int} {c : Int} {s : eS} {σ : Int → Int} {cs : List Int}
theorem w_led_i (V : w_V H T0 c s σ cs) (x : Int) : x ∈ cs ↔ ¬ s.2.2.2.2 x < 0 := by
  constructor
  · intro h; have := (V.led x h).1; omega
  · intro h
    apply Classical.byContradiction
    intro q
    rw [V.unl x q] at h
    omega
/-- any row by the rows that lead, and what is left of it -/
theorem w_b9 (V : w_V H T0 c s σ cs) {N : Nat} (hN : ∀ x ∈ cs, x < N) (v : Int → Int) (j : Int) : s.2.2.2.1 * v j = w_R cs ((w_I σ s.2.1.toNat).map T0) v j + zsum (fun x => if s.2.2.2.2 x < 0 then 0 else v x * s.1 (s.2.2.2.2 x) j) N := by
  have hn : w_dt cs ((w_I σ s.2.1.toNat).map T0) ≠ 0 := by rw [← V.dv]; exact V.nz
  have i1 : w_In ((w_I σ s.2.1.toNat).map T0) (fun j => w_ex j (fun x => w_dt cs (v :: x)) ((w_I σ s.2.1.toNat).map T0)) := w_In.x _ _ fun _ h => h
  have i2 : w_In ((w_I σ s.2.1.toNat).map T0) (fun j => zsum (fun x => (fun x j => if s.2.2.2.2 x < 0 then 0 else v x * s.1 (s.2.2.2.2 x) j) x j) N) := by
    refine w_Inz N fun x h0 h1 => ?_
    by_cases q : s.2.2.2.2 x < 0
    · exact w_In.zero fun j => by rw [if_pos q]
    · have l := (V.led x ((w_led_i V x).mpr q)).1
      exact w_In.lin (v x) 0 (V.top _ l.1 l.2) (V.top _ l.1 l.2) fun j => by rw [if_neg q]; omega
  have i3 : w_In ((w_I σ s.2.1.toNat).map T0) (fun j => (s.2.2.2.1 * v j - w_R cs ((w_I σ s.2.1.toNat).map T0) v j) - zsum (fun x => if s.2.2.2.2 x < 0 then 0 else v x * s.1 (s.2.2.2.2 x) j) N) := by
    refine w_In.lin 1 (-1) i1 i2 fun j => ?_
    have : w_R cs ((w_I σ s.2.1.toNat).map T0) v j = v j * w_dt cs ((w_I σ s.2.1.toNat).map T0) - w_ex j (fun x => w_dt cs (v :: x)) ((w_I σ s.2.1.toNat).map T0) := rfl
    rw [this, ← V.dv, Int.mul_comm (v j)]
    show _ = 1 * _ + -1 * zsum (fun x => if s.2.2.2.2 x < 0 then 0 else v x * s.1 (s.2.2.2.2 x) j) N
    omega
  have := w_dt_uniq hn i3 (fun y hy => by
    have ly := V.led y hy
    rw [w_Rz _ v y hy, w_zs1 (y := y) N ly.2.1 (hN y hy) (fun x x0 x1 xn => ?_)]
    · rw [if_neg (by omega), V.piv _ ly.1.1 ly.1.2 y hy, if_pos rfl, Int.mul_comm]
      omega
    · split
      · rfl
      · rename_i q
        have hx := (w_led_i V x).mpr q
        have lx := (V.led x hx).1
        rw [V.piv _ lx.1 lx.2 y hy, if_neg (fun z => xn (V.one y hy x hx z).symm), Int.mul_zero]) j
  omega
/-- a linear thing that is nothing at each row of the start is nothing at each row -/
theorem w_fT (V : w_V H T0 c s σ cs) {f : (Int → Int) → Int} (hf : w_L1 f) (h : ∀ q, 0 ≤ q → q < H → f (T0 q) = 0) {i : Int} (h0 : 0 ≤ i) (h1 : i < H) : f (s.1 i) = 0 := by
  have hr := V.rk
  have hP : ∀ p ∈ (w_I σ s.2.1.toNat).map T0, f p = 0 := by
    intro p hp
    obtain ⟨x, hx, e⟩ := List.mem_map.mp hp
    have := w_Ir V (n := s.2.1.toNat) (by omega) x hx
    rw [← e]
    exact h x this.1 this.2
  by_cases q : i < s.2.1
  · exact V.top i h0 q f hf hP
  · have e : s.1 i = w_R cs ((w_I σ s.2.1.toNat).map T0) (T0 (σ i)) := funext fun j => V.low i (by omega) h1 j
    rw [e]
    refine w_Rin cs _ _ f hf fun p hp => ?_
    rcases List.mem_cons.mp hp with z | z
    · have := V.rg i h0 h1
      rw [z]
      exact h _ this.1 this.2
    · exact hP p z
/-- what is left of a row of the start at a column where nothing is left below -/
theorem w_Rq (V : w_V H T0 c s σ cs) {j : Int} (hz : ∀ i, s.2.1 ≤ i → i < H → s.1 i j = 0) {q : Int} (h0 : 0 ≤ q) (h1 : q < H) : w_R cs ((w_I σ s.2.1.toNat).map T0) (T0 q) j = 0 := by
  obtain ⟨i, i0, i1, e⟩ := V.sur q h0 h1
  by_cases k : i < s.2.1
  · have m : T0 q ∈ (w_I σ s.2.1.toNat).map T0 := by
      refine List.mem_map.mpr ⟨q, ?_, rfl⟩
      have : ∀ n : Nat, i < n → σ i ∈ w_I σ n := by
        intro n
        induction n with
        | zero => intro h; omega
        | succ n ih =>
          intro h
          by_cases z : i = n
          · rw [z]; exact List.mem_cons_self ..
          · exact List.mem_cons_of_mem _ (ih (by omega))
      rw [← e]
      exact this _ (by omega)
    exact (w_dt_AS _).mem m
  · rw [← e, ← V.low i (by omega) i1]
    exact hz i (by omega) i1
/-- what leads solves the system -/
theorem w_solves (V : w_V H T0 c s σ cs) {N : Nat} (hN : ∀ x ∈ cs, x < N) {j : Int} (hz : ∀ i, s.2.1 ≤ i → i < H → s.1 i j = 0) {q : Int} (h0 : 0 ≤ q) (h1 : q < H) : s.2.2.2.1 * T0 q j = zsum (fun x => if s.2.2.2.2 x < 0 then 0 else T0 q x * s.1 (s.2.2.2.2 x) j) N := by
  have h := w_b9 V hN (T0 q) j
  rw [w_Rq V hz h0 h1] at h
  omega
/-- a system that can be solved leaves nothing below -/
theorem w_solved (V : w_V H T0 c s σ cs) {N : Nat} (hN : (N : Int) ≤ c) {j D : Int} {X : Int → Int} (hD : D ≠ 0) (h : ∀ q, 0 ≤ q → q < H → D * T0 q j = zsum (fun x => T0 q x * X x) N) {i : Int} (h0 : s.2.1 ≤ i) (h1 : i < H) : s.1 i j = 0 := by
  have hr := V.rk
  have e := w_fT V ((w_L1_at j).lin (w_L1_zs X N) D (-1)) (fun q q0 q1 => by have := h q q0 q1; omega) (i := i) (by omega) h1
  rw [w_zs0 N fun x x0 x1 => by
    by_cases q : x ∈ cs
    · rw [V.low i h0 h1, w_Rz _ _ x q, Int.zero_mul]
    · rw [V.fr x x0 (by omega) q i h0 h1, Int.zero_mul]] at e
  have : D * s.1 i j = 0 := by omega
  rcases Int.mul_eq_zero.mp this with z | z
  · exact absurd z hD
  · exact z
/-- a column that doesn't lead hangs on those that lead -/
theorem w_dep (V : w_V H T0 c s σ cs) {N : Nat} (hN : ∀ x ∈ cs, x < N) {x : Int} (x0 : 0 ≤ x) (x1 : x < c) (xN : x < N) (hx : x ∉ cs) {q : Int} (h0 : 0 ≤ q) (h1 : q < H) : zsum (fun y => T0 q y * (if y = x then s.2.2.2.1 else if s.2.2.2.2 y < 0 then 0 else -s.1 (s.2.2.2.2 y) x)) N = 0 := by
  have h := w_solves V hN (V.fr x x0 x1 hx) h0 h1
  have hl := V.unl x hx
  rw [w_zsl (f := fun y => if y = x then T0 q y * s.2.2.2.1 else 0) (g := fun y => if s.2.2.2.2 y < 0 then 0 else T0 q y * s.1 (s.2.2.2.2 y) x) (a := 1) (b := -1) N fun y y0 y1 => ?_, ← h, w_zs1 (y := x) N x0 xN fun y _ _ yn => if_neg yn, if_pos rfl, Int.mul_comm s.2.2.2.1]
  · omega
  · by_cases z : y = x
    · rw [if_pos z, if_pos z, z, if_pos (by omega)]; omega
    · rw [if_neg z, if_neg z]
      split
      · omega
      · rw [Int.mul_neg]; omega
/-- what lies in leading columns alone and is nothing against each row is nothing -/
theorem w_one (V : w_V H T0 c s σ cs) {N : Nat} (hN : ∀ x ∈ cs, x < N) {w : Int → Int} (hw : ∀ x : Int, 0 ≤ x → x < N → x ∉ cs → w x = 0) (h : ∀ q, 0 ≤ q → q < H → zsum (fun x => T0 q x * w x) N = 0) {x : Int} (x0 : 0 ≤ x) (x1 : x < N) : w x = 0 := by
  by_cases hx : x ∈ cs
  · have l := V.led x hx
    have hr := V.rk
    have e := w_fT V (w_L1_zs w N) h (i := s.2.2.2.2 x) l.1.1 (by omega)
    rw [w_zs1 (y := x) N x0 x1 fun y y0 y1 yn => ?_] at e
    · rw [V.piv _ l.1.1 l.1.2 x hx, if_pos rfl] at e
      rcases Int.mul_eq_zero.mp e with z | z
      · exact absurd z V.nz
      · exact z
    · by_cases hy : y ∈ cs
      · rw [V.piv _ l.1.1 l.1.2 y hy, if_neg (fun z => yn (V.one y hy x hx z)), Int.zero_mul]
      · rw [hw y y0 y1 hy, Int.mul_zero]
  · exact hw x x0 x1 hx
end WL
/-- which row a column leads doesn't change any more -/
theorem w_ledS (H : Int) (T : Int → Int → Int) (c : Nat) {x : Int} (hx : x < c) : ∀ k : Nat, (eRed H T (c + k)).2.2.2.2 x = (eRed H T c).2.2.2.2 x := by
  intro k
  induction k with
  | zero => rfl
  | succ k ih =>
    rw [← ih]
    show (eStep H ((c + k : Nat) : Int) (eRed H T (c + k))).2.2.2.2 x = _
    unfold eStep
    split
    · exact uZ_n _ _ (by omega)
    · exact uZ_n _ _ (by omega)
