/-! THE CLASS: contracts of its methods that make no cell and throw nothing -/
abbrev cP (h1 : ga_H) (ad : Nat → Nat) (Q : Nat → Int → Option Nat) (Z : ga_H) (P : (Nat → Int) → (Nat → Int → Int) → Prop) : Prop := ∃ (J1 : Nat → Int) (B1 : Nat → Int → Int), cOn h1 ad J1 B1 Q Z ∧ P J1 B1
def cM (l : Launch) (D : ga_G) (y : MethodName) (ws : List Cond) (rm : Room) (As : List Value) (ad : Nat → Nat) (J : Nat → Int) (B : Nat → Int → Int) (Q : Nat → Int → Option Nat) (Z : ga_H) (post : Option Value → (Nat → Int) → (Nat → Int → Int) → Prop) : Prop :=
  ∀ h : ga_H, cOn h ad J B Q Z → ga_M l D y ws rm As h (fun v h1 => cP h1 ad Q Z (post v)) pX0 0 0
section CMR
variable {X : ga_X} {R : Room} {own : String} {nL : Nat} {cc : ByteArray} {h h0 : ga_H} {ad : Nat → Nat} {J : Nat → Int} {B : Nat → Int → Int} {Q : Nat → Int → Option Nat} {Z : ga_H} {k n pc : Nat} {L : List (Option Value)} {st : List Value} {post : Option Value → (Nat → Int) → (Nat → Int → Int) → Prop} {y : MethodName} {et : List ExceptionTableEntry}
theorem cc_iret {z : Int} (hc : cOn h ad J B Q Z) (hE : ga_End X y (some .int) et h0 (fun v h1 => cP h1 ad Q Z (post v)) pX0 0 0) (d : decode cc pc = .ok (.ireturn, 1)) (hp : post (some (.int (iI z))) J B) : G X R own nL cc h 0 0 pc L [.int (iI z)] := ga_iret hE d (Nat.le_refl _) (Nat.le_refl _) ⟨J, B, hc, hp⟩
theorem cc_zret {z : Int} (hc : cOn h ad J B Q Z) (hE : ga_End X y (some .boolean) et h0 (fun v h1 => cP h1 ad Q Z (post v)) pX0 0 0) (d : decode cc pc = .ok (.ireturn, 1)) (hz : z = 0 ∨ z = 1) (hp : post (some (.int (iI z))) J B) : G X R own nL cc h 0 0 pc L [.int (iI z)] := ga_zret hE d (Nat.le_refl _) (Nat.le_refl _) hz ⟨J, B, hc, hp⟩
theorem cc_lret {z : Int} (hc : cOn h ad J B Q Z) (hE : ga_End X y (some .long) et h0 (fun v h1 => cP h1 ad Q Z (post v)) pX0 0 0) (d : decode cc pc = .ok (.lreturn, 1)) (hp : post (some (.long (lI z))) J B) : G X R own nL cc h 0 0 pc L [.long (lI z)] := ga_lret hE d (Nat.le_refl _) (Nat.le_refl _) ⟨J, B, hc, hp⟩
theorem cc_vret (hc : cOn h ad J B Q Z) (hE : ga_End X y none et h0 (fun v h1 => cP h1 ad Q Z (post v)) pX0 0 0) (d : decode cc pc = .ok (.return_, 1)) (hp : post none J B) : G X R own nL cc h 0 0 pc L [] := ga_vret hE d (Nat.le_refl _) (Nat.le_refl _) ⟨J, B, hc, hp⟩
theorem cc_aret {o : Option Nat} {rt : FieldType} (hc : cOn h ad J B Q Z) (hE : ga_End X y (some rt) et h0 (fun v h1 => cP h1 ad Q Z (post v)) pX0 0 0) (hrt : (∃ c, rt = .object c) ∨ ∃ t, rt = .array t) (d : decode cc pc = .ok (.areturn, 1)) (hp : post (some (va_rf o)) J B) : G X R own nL cc h 0 0 pc L [va_rf o] := ga_aret hE hrt d (Nat.le_refl _) (Nat.le_refl _) ⟨J, B, hc, hp⟩
theorem cc_met {l : Launch} {D : ga_G} {rm : Room} {As : List Value} {maxL : Nat} {ret : Option FieldType} (j : Nat) {L0 : List (Option Value)} (hn : plainName y.cls = true) (ho : y.cls = own) (hlen : (lg_sl As).length ≤ maxL) (hL0 : ga_L0 As ++ List.replicate j none = L0)
    (body : ∀ (X : ga_X) (h : ga_H), cOn h ad J B Q Z → ga_End X y ret [] h (fun v h1 => cP h1 ad Q Z (post v)) pX0 0 0 → G X rm own maxL cc h 0 0 0 L0 []) : cM l D y (ws_ y cc maxL ret) rm As ad J B Q Z post := fun h hc =>
  ga_met j hn ho hlen hL0 (fun X _ _ hE => body X h hc hE)
/-- a call of a method of the object itself -/
theorem cc_run {bytes : ByteArray} {maxL dc idx : Nat} {ret : Option FieldType} {As rest st0 : List Value} (hc : cOn h ad J B Q Z) (hM : cM (ga_la X) (ga_D X) y (ws_ y bytes maxL ret) (gR dc) (.ref (ad 0) :: As) ad J B Q Z post) (hV : GoodIn lw_all (wsV own idx RX0 y (ws_ y bytes maxL ret))) (hC : y.cls = RX0) (hy : ga_nn' y As.length) (hR : dc + 1 ≤ R.frames ∧ 19 + maxL + 64 * dc ≤ R.locals) (hk : k ≤ R.cells ∧ n ≤ R.slots) (hs : (rest.map fun v => v.category).sum ≤ 8) (dd : decode cc pc = .ok (.invokevirtual idx, 3)) (hst : st0 = As.reverse ++ .ref (ad 0) :: rest)
    (kk : ∀ (v : Option Value) (h : ga_H) (J1 : Nat → Int) (B1 : Nat → Int → Int), cOn h ad J1 B1 Q Z → post v J1 B1 → G X R own nL cc h k n (pc + 3) L (v.toList ++ rest)) : G X R own nL cc h k n pc L st0 :=
  ga_go (ga_runV (mc := 0) (ms := 0) (C := RX0) (T := TX0) (N := 29) (hM h hc) hV hC hy ⟨rfl, rfl⟩ ⟨hR.1, by show 8 + (maxL + 11) + 64 * dc ≤ _; omega⟩ hk (hc.1 0 (by decide)) rfl hs dd hst) (fun _ _ _ z => z.elim) (fun v h1 hp => by obtain ⟨J1, B1, hc1, hp⟩ := hp; exact kk v h1 J1 B1 hc1 hp)
end CMR
/-! methods of the JDK's classes -/
section VXF
variable {l : Launch}
theorem vx_ofF {y : MethodName} {ws ws' : List Cond} {rm : Room} {Pc : Array Value → State → Prop} {Qc : Array Value → State → Outcome → State → Prop} {XC : String → Addr → State → State → Prop} {mc ms : Nat} {free : Addr → Prop} {cc : ByteArray} {maxL : Nat} {ret : Option FieldType}
    (hy : plainFor y = true) (hw : ws = Cond.code y cc maxL ret :: ws')
    (body : ∀ p e s m args below meth c s₁, BodyLoose p l y (headSpec ws rm) cc maxL ret e s m args below meth c s₁ → c.maxLocals = maxL → (∀ x ∈ c.exceptionTable.toList, False) → Pc args s →
      W p l e (headSpec ws rm).room s m args below meth c s.heap [] 0 0 (vx_MQ below Qc XC args s mc ms free) (entryFrame m args maxL)) : vx_Met l y ws rm Pc Qc XC mc ms free := by
  refine MetFree.of_bodySF (code := cc) (maxLocals := maxL) (ret := ret) hy ?_ ?_
  · intro args s m h hn
    obtain ⟨meth, c, h1, h2, h3, h4, h5, h6, -, -⟩ := Cond.code_spec hn (atoms_spec (ws := ws) h _ (by rw [hw]; exact List.mem_cons_self))
    exact ⟨meth, c, h1, h2, h3, h4, h5, h6⟩
  · intro p e s m args below meth c s₁ B hml hP _
    have hh0 : s₁.heap = s.heap := by rw [B.state]; rfl
    have ht : ∀ x ∈ c.exceptionTable.toList, False := by
      obtain ⟨meth9, c9, h1, h2, -, -, -, -, h7, -⟩ := Cond.code_spec B.named (atoms_spec (ws := ws) B.pre _ (by rw [hw]; exact List.mem_cons_self))
      cases Option.some.inj (h1.symm.trans B.method)
      cases Option.some.inj (h2.symm.trans (Stand.of_body B).code)
      intro x hx
      rw [Array.isEmpty_iff.mp h7] at hx
      cases hx
    obtain ⟨t, a1, o, b1, b2, b3⟩ := body p e s m args below meth c s₁ B hml ht hP s₁ hh0 (Stand.of_body B)
    exact ⟨t, o, a1, b1, b2, b3⟩
theorem ga_metF {D : ga_G} {own : String} {cc : ByteArray} {h : ga_H} {y : MethodName} {rm : Room} {As : List Value} {post : Option Value → ga_H → Prop} {px : String → Addr → ga_H → Prop} {mc ms maxL : Nat} {ret : Option FieldType} (j : Nat) {L0 : List (Option Value)} (hy : plainFor y = true) (ho : y.cls = own) (hlen : (lg_sl As).length ≤ maxL) (hL0 : ga_L0 As ++ List.replicate j none = L0)
    (body : ∀ X : ga_X, ga_D X = D → ga_la X = l → ga_End X y ret [] h post px mc ms → G X rm own maxL cc h 0 0 0 L0 []) : ga_M l D y (ws_ y cc maxL ret) rm As h post px mc ms := by
  intro hst sz
  refine vx_ofF (cc := cc) (maxL := maxL) (ret := ret) hy rfl ?_
  intro p e s m args below meth c s₁ B hml htab hv
  obtain ⟨rfl, hsz, hw, hK, hZ⟩ := hv
  subst hsz
  have hts := atoms_spec (ws := ws_ y cc maxL ret) B.pre
  have hts : ∀ w ∈ lw_all, w.before _ s = true := fun w h => hts w (List.mem_cons_of_mem _ h)
  have hown : s.vm.findClass own = some m.cls := by rw [← ho]; exact findClass_of_methodNamed B.named
  rw [lg_entry_eq]
  have htab' : c.exceptionTable.toList = [] := List.eq_nil_iff_forall_not_mem.mpr fun x hx => htab x hx
  exact body (p, l, e, s, m, As.toArray, below, meth, c, D, ga_A h s.heap.size, vx_MQ below (ga_Q D h s.heap.size post) (ga_XC D h s.heap.size px) As.toArray s mc ms (ga_A h s.heap.size)) rfl rfl ⟨B.returns, rfl, rfl, (name_of_methodNamed B.named B.method).1, htab'⟩ s.heap [] _ ⟨B.exec, B.bytes, hml, hown, hts, hK, fun q hq => Or.inr hq, hZ, hst, B.notSynchronized⟩ ⟨hw, fun a ha => Or.inl ha, va_S.rf⟩ (ga_entry hL0 hlen)
end VXF
/-- a static method of a nest mate that reads no cell -/
theorem ps_runN {X : ga_X} {R : Room} {own : String} {nL : Nat} {cc : ByteArray} {h : ga_H} {k n pc : Nat} {L : List (Option Value)} {host : String} {y : MethodName} {bytes : ByteArray} {maxL dc idx : Nat} {ret : Option FieldType} {As rest st0 : List Value} {v : Option Value} (hM : pS (ga_la X) (ga_D X) y (ws_ y bytes maxL ret) (gR dc) As v) (hl : Cond.methodLinkNest own idx y host ∈ ga_nw) (hst9 : Cond.static y ∈ lw_all) (hini : Cond.initialized y.cls ∈ lw_all) (hco : Cond.code y bytes maxL ret ∈ lw_all) (hy : ga_nn' y As.length) (hR : dc + 1 ≤ R.frames ∧ 19 + maxL + 64 * dc ≤ R.locals) (hk : k ≤ R.cells ∧ n ≤ R.slots) (hs : (rest.map fun v => v.category).sum ≤ 8) (dd : decode cc pc = .ok (.invokestatic idx, 3)) (hst : st0 = As.reverse ++ rest)
    (kk : G X R own nL cc h k n (pc + 3) L (v.toList ++ rest)) : G X R own nL cc h k n pc L st0 :=
  ga_go (ga_runSN (mc := 0) (ms := 0) (hM h) hl hst9 hini hco hy ⟨rfl, rfl⟩ ⟨hR.1, by show 8 + (maxL + 11) + 64 * dc ≤ _; omega⟩ hk hs dd hst) (fun _ _ _ z => z.elim) (fun v h1 hp => by obtain ⟨rfl, rfl⟩ := hp; exact kk)
/-- a method that only reads: its answer -/
abbrev rM (l : Launch) (D : ga_G) (y : MethodName) (ws : List Cond) (rm : Room) (As : List Value) (h : ga_H) (v : Option Value) : Prop := ga_M l D y ws rm As h (fun w h1 => w = v ∧ h1 = h) pX0 0 0
section RMR
variable {X : ga_X} {R : Room} {own : String} {nL : Nat} {cc : ByteArray} {h : ga_H} {k n pc : Nat} {L : List (Option Value)} {y : MethodName} {bytes : ByteArray} {maxL dc idx b ci : Nat} {fs : List Value} {C : String} {T : u_T} {N : Nat} {ret : Option FieldType} {As rest st0 : List Value} {v : Option Value}
theorem rm_run (hM : rM (ga_la X) (ga_D X) y (ws_ y bytes maxL ret) (gR dc) (.ref b :: As) h v) (hV : GoodIn lw_all (wsV own idx C y (ws_ y bytes maxL ret))) (hC : y.cls = C) (hy : ga_nn' y As.length) (hR : dc + 1 ≤ R.frames ∧ 19 + maxL + 64 * dc ≤ R.locals) (hk : k ≤ R.cells ∧ n ≤ R.slots) (hb : h b = some (oE ci fs)) (hc : ga_Cl[ci]? = some (C, T, N)) (hs : (rest.map fun v => v.category).sum ≤ 8) (dd : decode cc pc = .ok (.invokevirtual idx, 3)) (hst : st0 = As.reverse ++ .ref b :: rest)
    (kk : G X R own nL cc h k n (pc + 3) L (v.toList ++ rest)) : G X R own nL cc h k n pc L st0 :=
  ga_go (ga_runV (mc := 0) (ms := 0) (C := C) (T := T) (N := N) hM hV hC hy ⟨rfl, rfl⟩ ⟨hR.1, by show 8 + (maxL + 11) + 64 * dc ≤ _; omega⟩ hk hb hc hs dd hst) (fun _ _ _ z => z.elim) (fun v h1 hp => by obtain ⟨rfl, rfl⟩ := hp; exact kk)
theorem rm_runN {host : String} (hM : rM (ga_la X) (ga_D X) y (ws_ y bytes maxL ret) (gR dc) (.ref b :: As) h v) (hl : Cond.methodLinkNest own idx y host ∈ ga_nw) (hi : Cond.instanceMethod y ∈ lw_all) (hse : Cond.selects C y y ∈ lw_all) (hini : Cond.initialized y.cls ∈ lw_all) (hco : Cond.code y bytes maxL ret ∈ lw_all) (hy : ga_nn' y As.length) (hR : dc + 1 ≤ R.frames ∧ 19 + maxL + 64 * dc ≤ R.locals) (hk : k ≤ R.cells ∧ n ≤ R.slots) (hb : h b = some (oE ci fs)) (hc : ga_Cl[ci]? = some (C, T, N)) (hs : (rest.map fun v => v.category).sum ≤ 8) (dd : decode cc pc = .ok (.invokevirtual idx, 3)) (hst : st0 = As.reverse ++ .ref b :: rest)
    (kk : G X R own nL cc h k n (pc + 3) L (v.toList ++ rest)) : G X R own nL cc h k n pc L st0 :=
  ga_go (ga_runVN (mc := 0) (ms := 0) (C := C) (T := T) (N := N) hM hl hi hse hini hco hy ⟨rfl, rfl⟩ ⟨hR.1, by show 8 + (maxL + 11) + 64 * dc ≤ _; omega⟩ hk hb hc hs dd hst) (fun _ _ _ z => z.elim) (fun v h1 hp => by obtain ⟨rfl, rfl⟩ := hp; exact kk)
theorem rm_runS (hM : rM (ga_la X) (ga_D X) y (ws_ y bytes maxL ret) (gR dc) As h v) (hV : GoodIn lw_all (va_wsS own idx y (ws_ y bytes maxL ret))) (hy : ga_nn' y As.length) (hR : dc + 1 ≤ R.frames ∧ 19 + maxL + 64 * dc ≤ R.locals) (hk : k ≤ R.cells ∧ n ≤ R.slots) (hs : (rest.map fun v => v.category).sum ≤ 8) (dd : decode cc pc = .ok (.invokestatic idx, 3)) (hst : st0 = As.reverse ++ rest)
    (kk : G X R own nL cc h k n (pc + 3) L (v.toList ++ rest)) : G X R own nL cc h k n pc L st0 :=
  ga_go (ga_runS (mc := 0) (ms := 0) hM hV hy ⟨rfl, rfl⟩ ⟨hR.1, by show 8 + (maxL + 11) + 64 * dc ≤ _; omega⟩ hk hs dd hst) (fun _ _ _ z => z.elim) (fun v h1 hp => by obtain ⟨rfl, rfl⟩ := hp; exact kk)
end RMR
