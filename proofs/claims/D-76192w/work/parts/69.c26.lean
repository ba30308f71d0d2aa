/-! ROWS of System.arraycopy -/
def zcp (f g : Int → Int) (s d n : Int) : Int → Int := fun x => if d ≤ x ∧ x < d + n then f (s + (x - d)) else g x
theorem zcp_v {mk : Int → Int64} {f g : Int → Int} {s d n : Int} (hs : 0 ≤ s) (hd : 0 ≤ d) (hn : 0 ≤ n) : va_cpy (fun j : Nat => mk (f j)) (fun j : Nat => mk (g j)) s.toNat d.toNat n.toNat = fun j : Nat => mk (zcp f g s d n j) := by
  funext k
  unfold va_cpy zcp
  by_cases h : d ≤ (k : Int) ∧ (k : Int) < d + n
  · rw [if_pos (by omega), if_pos h]
    show mk (f ((s.toNat + (k - d.toNat) : Nat) : Int)) = mk (f (s + ((k : Int) - d)))
    rw [show ((s.toNat + (k - d.toNat) : Nat) : Int) = s + ((k : Int) - d) by omega]
  · rw [if_neg (by omega), if_neg h]
section GACP
variable {X : ga_X} {R : Room} {own : String} {nL : Nat} {cc : ByteArray} {h : ga_H} {k n pc : Nat} {L : List (Option Value)} {st : List Value}
theorem ga_copyL {a0 a n0 n1 idx : Nat} {f g : Int → Int} {zs zd zn : Int} (ha0 : h a0 = some (aL n0 f)) (ha : h a = some (aL n1 g)) (h1 : 0 ≤ zs ∧ 0 ≤ zd ∧ 0 ≤ zn ∧ zs + zn ≤ n0 ∧ zd + zn ≤ n1) (hN : n0 ≤ 2147483647 ∧ n1 ≤ 2147483647) (hq1 : Cond.methodLink own idx arraycopyName ∈ lw_all) (hq2 : Cond.native arraycopyName ∈ lw_all) (hq3 : Cond.static arraycopyName ∈ lw_all) (hq4 : Cond.initialized "java/lang/System" ∈ lw_all) (hfr : 1 ≤ R.frames) (hlo : (st.map fun v => v.category).sum + (nativeFrameWords "java/lang/System" "arraycopy" 5 + 11) ≤ R.locals) (d : decode cc pc = .ok (.invokestatic idx, 3))
    (kk : G X R own nL cc (ga_u h a (aL n1 (zcp f g zs zd zn))) k n (pc + 3) L st) : G X R own nL cc h k n pc L (.int (iI zn) :: .int (iI zd) :: .ref a :: .int (iI zs) :: .ref a0 :: st) := by
  intro H locs ls T0 I hl
  obtain ⟨c0, e0, r0, -⟩ := I.1 a0 _ ha0
  obtain ⟨c1, e1, r1, r1b⟩ := I.1 a _ ha
  intro T hT X1
  have hts := T0.2.2.2.2.1
  obtain ⟨-, k0, hk0, cm0, hkk0⟩ := r0 n0 (fun j => .long (lI (f j)))
  obtain ⟨-, k1, hk1, cm1, hkk1⟩ := r1 n1 (fun j => .long (lI (g j)))
  have nz : ∀ z : Int, 0 ≤ z → z ≤ 2147483647 → ¬ iI z < 0 := fun z z0 z1 => by rw [← iI_0, iI_lt (by omega) (by omega)]; omega
  have nc : ∀ z : Int, 0 ≤ z → z ≤ 2147483647 → (iI z).toNatClampNeg = z.toNat := fun z z0 z1 => iI_cl z0 (by omega)
  have nt : ∀ z : Int, 0 ≤ z → z ≤ 2147483647 → (iI z).toInt = z := fun z z0 z1 => iI_t ⟨by omega, by omega⟩
  obtain ⟨vm', X', step⟩ := X1.arraycopy T0.1 T0.2.2.2.1 (hts _ hq1) (hts _ hq2) (hts _ hq3) (hts _ hq4) (src := a0) (dst := a) (cs := vp_cell c0 (n0, .inr (.inl (fun j : Nat => lI (f j))))) (cd := vp_cell c1 (n1, .inr (.inl (fun j : Nat => lI (g j))))) (srcPos := iI zs) (destPos := iI zd) (n := iI zn) (by rw [hT]; exact e0) (by rw [hT]; exact e1)
    (fun _ h => by cases h) (fun _ h => by cases h) (fun h => by cases h) (fun h => by cases h) hk0 hk1 hkk0 hkk1 (by simp [refKind]) (nz _ (by omega) (by omega)) (nz _ (by omega) (by omega)) (nz _ (by omega) (by omega))
    (by rw [nt zs (by omega) (by omega), nt zn (by omega) (by omega)]; show ¬ _ > ((arrV c0 n0 (fun j => .long (lI (f j)))).slots.size : Int); rw [arrV_size]; omega)
    (by rw [nt zd (by omega) (by omega), nt zn (by omega) (by omega)]; show ¬ _ > ((arrV c1 n1 (fun j => .long (lI (g j)))).slots.size : Int); rw [arrV_size]; omega)
    (fun vm₁ _ i hi => by
      have e : (vp_cell c0 (n0, .inr (.inl (fun j : Nat => lI (f j))))).slots.getD ((iI zs).toNatClampNeg + i) .null = .long (lI (f ((iI zs).toNatClampNeg + i : Nat))) := by
        show (arrV c0 n0 (fun j => .long (lI (f j)))).slots.getD _ _ = _
        rw [nc zn (by omega) (by omega)] at hi
        rw [Array.getD_eq_getD_getElem?, arrV_read _ _ (by rw [nc zs (by omega) (by omega)]; omega)]
        rfl
      refine ⟨?_, ?_⟩
      · rw [e]; rfl
      · rw [e]; exact trivial)
    (g := F0 (ga_m X) pc ls (.int (iI zn) :: .int (iI zd) :: .ref a :: .int (iI zs) :: .ref a0 :: st)) rfl (by rw [T0.2.2.1]; exact hl.1) (rest := st) rfl (by rw [T0.2.1]; exact d) hfr (by show 2 * 0 + _ + _ ≤ _; omega)
  have e2 : copied (vp_cell c0 (n0, .inr (.inl (fun j : Nat => lI (f j))))) (vp_cell c1 (n1, .inr (.inl (fun j : Nat => lI (g j))))) (iI zs) (iI zd) (iI zn) = vp_cell c1 (n1, .inr (.inl (fun j : Nat => lI (zcp f g zs zd zn j)))) := by
    have := va_copied (fun z => .long z) c0 c1 (fun j : Nat => lI (f j)) (fun j : Nat => lI (g j)) (n0 := n0) (n1 := n1) (sp := (iI zs).toNatClampNeg) (dp := (iI zd).toNatClampNeg) (n := (iI zn).toNatClampNeg) (by rw [nc zs (by omega) (by omega), nc zn (by omega) (by omega)]; omega)
    refine Eq.trans this ?_
    rw [nc zs (by omega) (by omega), nc zd (by omega) (by omega), nc zn (by omega) (by omega), zcp_v (mk := lI) (by omega) (by omega) (by omega)]
    rfl
  rw [e2] at X' step
  have hlt : a < H.size := (Array.getElem?_eq_some_iff.mp e1).1
  have hheap : ((T.setVm vm').setCell a (vp_cell c1 (n1, .inr (.inl (fun j : Nat => lI (zcp f g zs zd zn j)))))).heap = H.setIfInBounds a (vp_cell c1 (n1, .inr (.inl (fun j : Nat => lI (zcp f g zs zd zn j))))) := by rw [← hT]; rfl
  obtain ⟨t, a1, b1⟩ := kk (H.setIfInBounds a (vp_cell c1 (n1, .inr (.inl (fun j : Nat => lI (zcp f g zs zd zn j)))))) _ ls T0 (by
    have hA : ga_AA X a := I.2.1 a (by rw [ha]; exact fun q => nomatch q)
    have oq : ∀ q : Nat, q ≠ a → (H.setIfInBounds a (vp_cell c1 (n1, .inr (.inl (fun j : Nat => lI (zcp f g zs zd zn j))))))[q]? = H[q]? := fun q hq => by simp [Array.getElem?_setIfInBounds, Ne.symm hq]
    refine ⟨I.1.upd ⟨c1, by simp [Array.getElem?_setIfInBounds, hlt], r1, r1b⟩ oq, fun b hb => ?_, by simpa using I.2.2.1, fun q g1 g2 => ?_, fun q hq => ?_⟩
    · by_cases hba : b = a
      · rw [hba]; exact hA
      · rw [ga_un hba] at hb
        exact I.2.1 b hb
    · rw [oq q (fun e => g2 (by rw [e]; exact hA))]
      exact I.2.2.2.1 q g1 g2
    · rcases List.mem_append.mp hq with z | z
      · exact I.2.2.2.2 q z
      · obtain ⟨y, -, hy⟩ := List.mem_map.mp z
        rw [← hy]
        exact hA) hl _ hheap X'
  exact ⟨t, step t a1, b1⟩
end GACP
