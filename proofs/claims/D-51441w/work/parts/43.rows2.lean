/-! COPIES OF ARRAYS, arrays of arrays, exceptions caught -/
set_option maxRecDepth 100000
section COPY
variable {G : kx_G} {l : Launch} {p : Program} {e : Env} {R : Room} {s : State} {m : MethodId} {args : Array Value} {below : List Frame} {meth : Method} {c : Code} {cc : ByteArray} {own : String} {nL : Nat} {ret : Option FieldType} {nm : String} {hh : List (Nat × Nat × Nat × Nat)} {Q : State → Prop} {pc : Nat} {lv : List (Nat × Value)} {rest : List Value} {σ : kx_H} {k n : Nat}
def kx_acw (own : String) (index : Nat) : Prop := Cond.methodLink own index arraycopyName ∈ lw_all ∧ Cond.native arraycopyName ∈ lw_all ∧ Cond.static arraycopyName ∈ lw_all ∧ Cond.initialized "java/lang/System" ∈ lw_all
theorem ri_copyi (C : kx_C G l p e R s m args below meth c cc own nL ret nm hh) {index : Nat} {ts td : kx_T} {a0 a1 n0 n1 : Nat} {f g : Nat → Int32} {ty : FieldType} (i x y z : Nat) (hi : (kx_tys G.2.1)[i]? = some (G.2.1 i, ty)) (hp : refKind ty = false) (hw4 : kx_acw own index)
    (hs : σ ts = some (a0, .inl (G.2.1 i, n0, .inl f))) (ht : σ td = some (a1, .inl (G.2.1 i, n1, .inl g))) (hb : x + z ≤ n0 ∧ y + z ≤ n1 ∧ n0 < 2147483648 ∧ n1 < 2147483648) (hfit : ∀ j, j < z → fits ty (.int (f (x + j))) = true)
    (hR : 1 ≤ R.frames ∧ (rest.map fun v => v.category).sum + (nativeFrameWords "java/lang/System" "arraycopy" 5 + 11) ≤ R.locals) (d : decode cc pc = .ok (.invokestatic index, 3))
    (kk : ∀ τ, τ = kx_up σ td (a1, .inl (G.2.1 i, n1, .inl (va_cpy f g x y z))) → kx_V G l p e R s m args below meth c nL Q (pc + 3) lv rest τ k n) : kx_V G l p e R s m args below meth c nL Q pc lv (.int (nI z) :: .int (nI y) :: .ref a1 :: .int (nI x) :: .ref a0 :: rest) σ k n := by
  intro H locs ls hw hS hl
  obtain ⟨⟨ws, hP, hD, hm⟩, hu⟩ := id hw
  obtain ⟨q0, he0⟩ := List.getElem?_of_mem (hm ts _ hs)
  obtain ⟨q1, he1⟩ := List.getElem?_of_mem (hm td _ ht)
  have cx : (nI x).toNatClampNeg = x := nI_clamp (by omega)
  have cy : (nI y).toNatClampNeg = y := nI_clamp (by omega)
  have cz : (nI z).toNatClampNeg = z := nI_clamp (by omega)
  refine va_copyi C.hx C.hb (by rw [C.ml]; exact hl.1.symm) C.ow (C.ts _ hw4.1) (C.ts _ hw4.2.1) (C.ts _ hw4.2.2.1) (C.ts _ hw4.2.2.2) C.hK hP hD hS q0 q1 i i he0 he1 hi hi hp (nI_pos (by omega)) (nI_pos (by omega)) (nI_pos (by omega)) (by rw [cx, cz]; exact hb.1) (by rw [cy, cz]; exact hb.2.1) (fun j hj => by rw [cz] at hj; rw [cx]; exact hfit j hj) hR.1 hR.2 d fun H1 locs1 hP1 hD1 hS1 => ?_
  rw [cx, cy, cz] at hP1 hD1
  exact kk _ rfl H1 locs1 ls (kx_wo.set hm hu he1 ht hP1 hD1) hS1 hl
theorem ri_copyq (C : kx_C G l p e R s m args below meth c cc own nL ret nm hh) {index : Nat} {ts td : kx_T} {a0 a1 n0 n1 : Nat} {f g : Nat → Option Nat} {Cn : String} (x y z : Nat) (hw4 : kx_acw own index) (hca : Cond.castable Cn "java/lang/Object" ∈ lw_tbl)
    (hs : σ ts = some (a0, kx_aq G n0 f)) (ht : σ td = some (a1, kx_aq G n1 g)) (hb : x + z ≤ n0 ∧ y + z ≤ n1 ∧ n0 < 2147483648 ∧ n1 < 2147483648) (hel : ∀ j, j < z → ∀ o, f (x + j) = some o → kx_Rc G s σ o Cn)
    (hR : 1 ≤ R.frames ∧ (rest.map fun v => v.category).sum + (nativeFrameWords "java/lang/System" "arraycopy" 5 + 11) ≤ R.locals) (d : decode cc pc = .ok (.invokestatic index, 3))
    (kk : ∀ τ, τ = kx_up σ td (a1, kx_aq G n1 (va_cpy f g x y z)) → kx_V G l p e R s m args below meth c nL Q (pc + 3) lv rest τ k n) : kx_V G l p e R s m args below meth c nL Q pc lv (.int (nI z) :: .int (nI y) :: .ref a1 :: .int (nI x) :: .ref a0 :: rest) σ k n := by
  intro H locs ls hw hS hl
  obtain ⟨⟨ws, hP, hD, hm⟩, hu⟩ := id hw
  obtain ⟨q0, he0⟩ := List.getElem?_of_mem (hm ts _ hs)
  obtain ⟨q1, he1⟩ := List.getElem?_of_mem (hm td _ ht)
  have cx : (nI x).toNatClampNeg = x := nI_clamp (by omega)
  have cy : (nI y).toNatClampNeg = y := nI_clamp (by omega)
  have cz : (nI z).toNatClampNeg = z := nI_clamp (by omega)
  have hcab : (Cond.castable Cn "java/lang/Object").before args s = true := va_Nw.use rfl (C.st.nw hca rfl)
  obtain ⟨c3, c4, hc3, hc4, hasg⟩ := Cond.castable_spec hcab
  refine va_copyq C.hx C.hb (by rw [C.ml]; exact hl.1.symm) C.ow (C.ts _ hw4.1) (C.ts _ hw4.2.1) (C.ts _ hw4.2.2.1) (C.ts _ hw4.2.2.2) C.hK hP hD hS q0 q1 3 3 (C := Cn) he0 he1 rfl rfl (nI_pos (by omega)) (nI_pos (by omega)) (nI_pos (by omega)) (by rw [cx, cz]; exact hb.1) (by rw [cy, cz]; exact hb.2.1) (fun j hj o ho => by rw [cz] at hj; rw [cx] at ho; exact hel j hj o ho H locs hw hS) (fun comp c0 g1 g2 => by cases g1.symm.trans hc4; cases g2.symm.trans hc3; exact hasg) hR.1 hR.2 d fun H1 locs1 hP1 hD1 hS1 => ?_
  rw [cx, cy, cz] at hP1 hD1
  exact kk _ rfl H1 locs1 ls (kx_wo.set hm hu he1 ht hP1 hD1) hS1 hl
/-- caught by a row of the table that the ones ahead of it let pass -/
theorem ri_catch (C : kx_C G l p e R s m args below meth c cc own nL ret nm hh) {E name : String} {q : Nat} {st : List Value} (pre : List ExceptionTableEntry) (x : ExceptionTableEntry) (suf : List ExceptionTableEntry) (hsplit : tableOf hh = pre ++ x :: suf)
    (hpass : ∀ z ∈ pre, covers z pc = false ∨ (z.catchType ≠ 0 ∧ ∃ nme : String, Cond.classLink own z.catchType nme ∈ lw_all ∧ (E, nme) ∈ kx_nc)) (hx : covers x pc = true) (h0 : x.catchType ≠ 0) (hlk : Cond.classLink own x.catchType name ∈ lw_all) (hca : Cond.castable E name ∈ lw_tbl)
    (kk : kx_V G l p e R s m args below meth c nL Q x.handlerPc lv [.ref q] σ k n) : kx_X G l p e R s m args below meth c nL Q pc lv st σ k n E q := by
  intro H locs ls ce hw hS hl hce hcv hcl
  refine vx_catch C.ow pre x suf (C.ht.trans hsplit) (fun z hz => ?_) hx h0 (C.ts _ hlk) (va_Nw.use rfl (C.st.nw hca rfl)) hce hcv hcl (kk H locs ls hw hS hl)
  rcases hpass z hz with h | ⟨g0, nme, g1, g2⟩
  · exact Or.inl h
  · exact Or.inr ⟨g0, nme, C.ts _ g1, C.st.2.2.2.2.2.2.2.2.1 (E, nme) g2⟩
/-- an array of arrays of ints -/
theorem ri_newm (C : kx_C G l p e R s m args below meth c cc own nL ret nm hh) {index : Nat} (t : kx_T) {z : Int32} (N' : Nat) (d : decode cc pc = .ok (.anewarray index, 3)) (hlk : Cond.classLink own index "[I" ∈ lw_all) (hz : z = nI N') (hN : N' ≤ 1000000)
    (hk : k + 1 ≤ R.cells) (hn : n + N' ≤ R.slots) (kk : ∀ (q : Nat) (τ : kx_H), τ = kx_up σ t (q, kx_am G N' (fun _ => none)) → (∀ u x, σ u = some x → x.1 ≠ q) → kx_V G l p e R s m args below meth c nL Q (pc + 3) lv (.ref q :: rest) τ (k + 1) (n + N')) : kx_V G l p e R s m args below meth c nL Q pc lv (.int z :: rest) σ k n := by
  intro H locs ls hw hS hl
  obtain ⟨⟨ws, hP, hD, hm⟩, hu⟩ := hw
  subst hz
  have hcl : (nI N').toNatClampNeg = N' := nI_clamp (by omega)
  refine W.anewA C.hx C.hb (t := .int) C.ow (C.ts _ hlk) C.st.2.2.2.2.2.2.2.2.2.2.1.2 rfl d rfl (nI_pos (by omega)) (by rw [hcl]; omega) hk (by rw [hcl]; exact hn) fun cA kA comp f1 f2 f3 f4 => ?_
  rw [hcl]
  have hcA : cA = G.2.1 5 := Option.some.inj (f1.symm.trans (C.hK.2 5 _ rfl).2)
  subst hcA
  generalize hH1 : H.push ({ cls := G.2.1 5, slots := Array.replicate N' .null, vm := .none } : Cell) = H1
  have z1 : H1.size = H.size + 1 := by rw [← hH1, Array.size_push]
  have e1 : H1[H.size]? = some (arrV (G.2.1 5) N' (fun _ => .null)) := by rw [← hH1, Array.getElem?_push_size, ← arrV_new]
  have o1 : ∀ q : Nat, q < H.size → H1[q]? = H[q]? := fun q hq => by rw [← hH1, Array.getElem?_push, if_neg (Nat.ne_of_lt hq)]
  have hk1 : ∀ (k : Nat) (x : Nat × va_E), ws[k]? = some x → H1[x.1]? = H[x.1]? := fun k x hx => o1 x.1 ((hP k x hx).lt)
  have hP1 : va_P G.1 kx_cl (ws ++ [(H.size, kx_am G N' (fun _ => none))]) H1 := (hP.kept hk1).app (fun k x hx => by
    have hz : k < 1 := (List.getElem?_eq_some_iff.mp hx).1
    rw [show k = 0 by omega] at hx
    cases hx
    show H1[H.size]? = some (vp_cell _ _)
    rw [vp_cell_q]
    exact e1)
  have hD1 : va_D (kx_A G) (ws ++ [(H.size, kx_am G N' (fun _ => none))]) := hD.push hP rfl (C.hA _ hS.1)
  obtain ⟨g1, g2⟩ := kx_wo.push (t := t) hm hu hP1 hD1
  exact kk H.size _ rfl g2 H1 locs ls g1 ⟨Nat.le_trans hS.1 (by omega), fun x h1 h2 => (o1 x (Nat.lt_of_lt_of_le h1 hS.1)).trans (hS.2.1 x h1 h2), hS.2.2⟩ hl
theorem ri_aaloadm (C : kx_C G l p e R s m args below meth c cc own nL ret nm hh) {t : kx_T} {a N j : Nat} {f : Nat → Option Nat} {i : Int32} (d : decode cc pc = .ok (.aaload, 1)) (ho : σ t = some (a, kx_am G N f)) (hi : i = nI j) (hj : j < N ∧ N < 2147483648)
    (kk : kx_V G l p e R s m args below meth c nL Q (pc + 1) lv (va_rf (f j) :: rest) σ k n) : kx_V G l p e R s m args below meth c nL Q pc lv (.int i :: .ref a :: rest) σ k n := by
  intro H locs ls hw hS hl
  obtain ⟨hin, h2⟩ := kx_in hi hj
  have hP := hw.at ho
  refine W.aald (v := va_rf (f j)) (ty := .array .int) C.hx C.hb (hP 0 _ rfl) ((C.hK.2 5 _ rfl).1 N (fun j => va_rf (f j))) rfl (fun q => by cases q) (by show ¬ (i < 0 ∨ (arrV _ _ _).slots.size ≤ _); rw [arrV_size]; exact hin) (by show (arrV _ _ _).slots[_]? = _; rw [h2]; exact arrV_read _ _ hj.1) rfl rfl d (kk H locs ls hw hS hl)
theorem kx_asgI (C : kx_C G l p e R s m args below meth c cc own nL ret nm hh) : ∃ (comp : ClassId) (kA kI : Class), s.vm.classes[G.2.1 5]? = some kA ∧ kA.kind = .array comp (.array .int) ∧ s.vm.classes[comp]? = some kI ∧ comp = G.2.1 0 ∧ s.vm.assignable comp comp = true := by
  obtain ⟨comp, c5, k5, h1, -, h3, h4, h5⟩ := arrayOverA_spec C.st.2.2.2.2.2.2.2.2.2.2.1.2
  have e5 : c5 = G.2.1 5 := Option.some.inj (h5.symm.trans (C.hK.2 5 _ rfl).2)
  have e0 : comp = G.2.1 0 := Option.some.inj (h1.symm.trans (C.hK.2 0 _ rfl).2)
  subst e5
  obtain ⟨kI, hkI, -⟩ := Vm.findClass_spec h1
  refine ⟨comp, k5, kI, h3, h4, hkI, e0, ?_⟩
  show s.vm.assignableAux (255 + 1) comp comp = true
  unfold Vm.assignableAux
  rw [beq_self_eq_true, Bool.true_or]
theorem ri_aastorem (C : kx_C G l p e R s m args below meth c cc own nL ret nm hh) {t u : kx_T} {a N j x M : Nat} {f : Nat → Option Nat} {g : Nat → Int32} {i : Int32} (d : decode cc pc = .ok (.aastore, 1)) (ho : σ t = some (a, kx_am G N f)) (hx : σ u = some (x, kx_ai G M g)) (hi : i = nI j) (hj : j < N ∧ N < 2147483648)
    (kk : ∀ τ, τ = kx_up σ t (a, kx_am G N (va_up f j (some x))) → kx_V G l p e R s m args below meth c nL Q (pc + 1) lv rest τ k n) : kx_V G l p e R s m args below meth c nL Q pc lv (.ref x :: .int i :: .ref a :: rest) σ k n := by
  intro H locs ls hw hS hl
  obtain ⟨hin, h2⟩ := kx_in hi hj
  obtain ⟨⟨ws, hP, hD, hm⟩, hu⟩ := id hw
  obtain ⟨q0, he⟩ := List.getElem?_of_mem (hm t _ ho)
  obtain ⟨comp, kA, kI, r1, r2, r3, r4, r5⟩ := kx_asgI C
  have hxc : H[x]? = some (vp_cell (G.2.1 0) (M, .inl g)) := hw.at hx 0 _ rfl
  refine W.aast C.hx C.hb (hP q0 _ he) (fun q h => by cases h) (fun h => by cases h) r1 r2 rfl r3 ⟨fun q => hin (Or.inl q), by show _ < (arrV _ _ _).slots.size; rw [arrV_size, h2]; exact hj.1⟩ hxc (fun q h => by cases h) (by show s.vm.classes[G.2.1 0]? = some kI; rw [← r4]; exact r3) (by show s.vm.assignable (G.2.1 0) comp = true; rw [← r4]; exact r5) rfl rfl d fun H1 e z oq => ?_
  have hcell : H1[a]? = some (vp_cell (G.2.1 5) (N, .inr (.inr (.inr (.inr (va_up f j (some x))))))) := by
    rw [e, h2]
    rw [vp_cell_q, vp_cell_q, arrV_store]
    congr 2
    funext q
    by_cases hq : q = j
    · subst hq
      simp [updV, va_up, va_rf]
    · simp [updV, va_up, hq]
  have hP1 := hP.set hD he (e := kx_am G N (va_up f j (some x))) hcell oq
  exact kk _ rfl H1 _ ls (kx_wo.set hm hu he ho hP1 (hD.set he)) (hS.put z oq (hD.2 q0 _ he)) hl
end COPY
