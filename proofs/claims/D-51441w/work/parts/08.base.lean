/-! THE BASE: worlds by tags, contracts, rows of one instruction each (printed by gen/mkbase.py) -/
set_option maxRecDepth 100000
def kx_T0 : u_T := fun _ => ("", "", "", false)
abbrev kx_cl : List vw_C := [(RX1, TX1, 9), (RX2, TX2, 14), (RX3, TX3, 11), (RX4, TX4, 28), (RX6, TX6, 8), (RX7, TX7, 8), (RX8, TX8, 8), (RX10, TX10, 3), (RX11, TX11, 2), (RX12, TX12, 2), (RX13, TX13, 3), (RX14, TX14, 3), (RX16, TX16, 3), (RX17, TX17, 2), (RJ2, TJ2, 3), (RJ8, TJ8, 4), (RJ9, TJ9, 4), (RJ17, TJ17, 1), (RJ19, TJ19, 9), (RJ22, TJ22, 6), (RJ24, TJ24, 3), (RJ31, TJ31, 4), (RJ35, TJ35, 4), (RJ36, TJ36, 1), (RJ41, TJ41, 4), ("RoseProverbs$Heavier", kx_T0, 0), ("java/lang/IndexOutOfBoundsException", kx_T0, 0), ("java/lang/IllegalArgumentException", kx_T0, 0), ("java/lang/IllegalStateException", kx_T0, 0), ("java/util/NoSuchElementException", kx_T0, 0)]
-- class 0: X1 RoseProverbs 9
-- class 1: X2 RoseProverbs$Rose 14
-- class 2: X3 RoseProverbs$Proverb 11
-- class 3: X4 RoseProverbsModel 28
-- class 4: X6 RoseProverbs$Setup 8
-- class 5: X7 RoseProverbs$ParseException 8
-- class 6: X8 RoseProverbs$Script 8
-- class 7: X10 RoseProverbs$Script$1 3
-- class 8: X11 RoseProverbs$Script$1Coming 2
-- class 9: X12 RoseProverbs$Script$2 2
-- class 10: X13 RoseProverbs$Script$3 3
-- class 11: X14 RoseProverbs$Script$4 3
-- class 12: X16 RoseProverbs$Rose$Speakers 3
-- class 13: X17 RoseProverbs$Rose$Speakers$1 2
-- class 14: J2 java/util/ArrayList 3
-- class 15: J8 java/lang/StringBuilder 4
-- class 16: J9 java/lang/String 4
-- class 17: J17 java/lang/Integer 1
-- class 18: J19 java/util/TreeMap 9
-- class 19: J22 java/util/TreeMap$Entry 6
-- class 20: J24 java/util/ArrayDeque 3
-- class 21: J31 java/util/ArrayList$Itr 4
-- class 22: J35 java/util/PriorityQueue 4
-- class 23: J36 java/util/TreeMap$Values 1
-- class 24: J41 java/util/TreeMap$ValueIterator 4
-- class 25: X18 RoseProverbs$Heavier 0
-- class 26: J32 java/lang/IndexOutOfBoundsException 0
-- class 27: J6 java/lang/IllegalArgumentException 0
-- class 28: J30 java/lang/IllegalStateException 0
-- class 29: J29 java/util/NoSuchElementException 0
abbrev kx_G : Type := va_G × (Nat → ClassId) × Nat × (Nat → Nat)
abbrev kx_T : Type := Nat × Nat
abbrev kx_H : Type := kx_T → Option (Nat × va_E)
def kx_up (σ : kx_H) (t : kx_T) (x : Nat × va_E) : kx_H := fun u => if u = t then some x else σ u
def kx_ty : Nat → FieldType := fun k => match k with
  | 0 => .int
  | 1 => .byte
  | 2 => .short
  | 3 => .object "java/lang/Object"
  | 4 => .long
  | _ => .array .int
abbrev kx_tys (ac : Nat → ClassId) : List (ClassId × FieldType) := [(ac 0, .int), (ac 1, .byte), (ac 2, .short), (ac 3, .object "java/lang/Object"), (ac 4, .long), (ac 5, .array .int)]
/-- what may be written: all cells from the base on -/
def kx_A (G : kx_G) : Nat → Prop := fun q => G.2.2.1 ≤ q
/-- the heap holds the tagged cells, each at an address of its own, from the base on -/
def kx_wo (G : kx_G) (σ : kx_H) (H : Heap) : Prop :=
  (∃ ws : va_W, va_P G.1 kx_cl ws H ∧ va_D (kx_A G) ws ∧ ∀ t x, σ t = some x → x ∈ ws) ∧ ∀ t u a x y, σ t = some (a, x) → σ u = some (a, y) → t = u
theorem kx_up_s {σ : kx_H} {t : kx_T} {x : Nat × va_E} : kx_up σ t x t = some x := by simp [kx_up]
theorem kx_up_o {σ : kx_H} {t u : kx_T} {x : Nat × va_E} (h : u ≠ t) : kx_up σ t x u = σ u := by simp [kx_up, h]
theorem kx_up_u {σ : kx_H} {t : kx_T} {x y : Nat × va_E} : kx_up (kx_up σ t x) t y = kx_up σ t y := by
  funext u
  by_cases h : u = t <;> simp [kx_up, h]
theorem kx_up_i {σ : kx_H} {t : kx_T} {x : Nat × va_E} (h : σ t = some x) : kx_up σ t x = σ := by
  funext u
  by_cases hu : u = t
  · subst hu; simp [kx_up, h]
  · simp [kx_up, hu]
theorem kx_rs {σ τ : kx_H} {t : kx_T} {x : Nat × va_E} (e : τ = kx_up σ t x) : τ t = some x := by rw [e]; exact kx_up_s
theorem kx_ro {σ τ : kx_H} {t u : kx_T} {x y : Nat × va_E} (e : τ = kx_up σ t x) (h : σ u = some y) (hn : u ≠ t) : τ u = some y := by rw [e, kx_up_o hn]; exact h
theorem kx_ne2 {a b c d : Nat} (h : b ≠ d) : ((a, b) : kx_T) ≠ (c, d) := fun q => h (Prod.mk.inj q).2
theorem kx_ne1 {a b c d : Nat} (h : a ≠ c) : ((a, b) : kx_T) ≠ (c, d) := fun q => h (Prod.mk.inj q).1
/-- what is not in T stays -/
def kx_Fr (T : kx_T → Prop) (σ τ : kx_H) : Prop := ∀ t, ¬ T t → τ t = σ t
theorem kx_rf {σ τ : kx_H} {T : kx_T → Prop} {u : kx_T} {y : Nat × va_E} (e : kx_Fr T σ τ) (h : σ u = some y) (hn : ¬ T u) : τ u = some y := by rw [e u hn]; exact h
theorem kx_Fr.rf {T : kx_T → Prop} {σ : kx_H} : kx_Fr T σ σ := fun _ _ => rfl
theorem kx_Fr.tr {T : kx_T → Prop} {σ τ ρ : kx_H} (h : kx_Fr T σ τ) (h2 : kx_Fr T τ ρ) : kx_Fr T σ ρ := fun t ht => (h2 t ht).trans (h t ht)
theorem kx_Fr.mono {T S : kx_T → Prop} {σ τ : kx_H} (h : kx_Fr T σ τ) (hs : ∀ t, T t → S t) : kx_Fr S σ τ := fun t ht => h t (fun q => ht (hs t q))
theorem kx_Fr.up {T : kx_T → Prop} {σ : kx_H} {t : kx_T} {x : Nat × va_E} (ht : T t) : kx_Fr T σ (kx_up σ t x) := fun u hu => kx_up_o (fun e => hu (e ▸ ht))
theorem kx_wo.at {G : kx_G} {σ : kx_H} {H : Heap} {t : kx_T} {x : Nat × va_E} (h : kx_wo G σ H) (ht : σ t = some x) : va_P G.1 kx_cl [x] H := by
  obtain ⟨⟨ws, hP, hD, hm⟩, -⟩ := h
  obtain ⟨i, hi⟩ := List.getElem?_of_mem (hm t x ht)
  intro k q hk
  cases k with
  | zero => cases hk; exact hP i _ hi
  | succ k => simp at hk
theorem kx_wo.lt {G : kx_G} {σ : kx_H} {H : Heap} {t : kx_T} {x : Nat × va_E} (h : kx_wo G σ H) (ht : σ t = some x) : x.1 < H.size := (h.at ht 0 x rfl).lt
theorem kx_wo.set {G : kx_G} {σ : kx_H} {H1 : Heap} {t : kx_T} {a : Nat} {o o' : va_E} {ws : va_W} {i : Nat} (hm : ∀ t x, σ t = some x → x ∈ ws) (hu : ∀ t u a x y, σ t = some (a, x) → σ u = some (a, y) → t = u) (hi : ws[i]? = some (a, o)) (ht : σ t = some (a, o))
    (hP : va_P G.1 kx_cl (ws.set i (a, o')) H1) (hD : va_D (kx_A G) (ws.set i (a, o'))) : kx_wo G (kx_up σ t (a, o')) H1 := by
  have hl := (List.getElem?_eq_some_iff.mp hi).1
  refine ⟨⟨_, hP, hD, fun u x hx => ?_⟩, fun u v b x y hx hy => ?_⟩
  · by_cases e : u = t
    · subst e
      rw [kx_up_s] at hx
      cases hx
      exact List.mem_of_getElem? (List.getElem?_set_self hl)
    · rw [kx_up_o e] at hx
      obtain ⟨j, hj⟩ := List.getElem?_of_mem (hm u x hx)
      have hne : i ≠ j := by
        intro q
        subst q
        rw [hi] at hj
        cases hj
        exact e (hu _ _ _ _ _ hx ht)
      exact List.mem_of_getElem? ((List.getElem?_set_ne hne).trans hj)
  · by_cases e : u = t <;> by_cases f : v = t
    · rw [e, f]
    · subst e
      rw [kx_up_s] at hx
      rw [kx_up_o f] at hy
      cases hx
      exact (f (hu _ _ _ _ _ hy ht)).elim
    · subst f
      rw [kx_up_s] at hy
      rw [kx_up_o e] at hx
      cases hy
      exact (e (hu _ _ _ _ _ hx ht)).elim
    · rw [kx_up_o e] at hx
      rw [kx_up_o f] at hy
      exact hu _ _ _ _ _ hx hy
theorem kx_wo.push {G : kx_G} {σ : kx_H} {H1 : Heap} {t : kx_T} {q : Nat} {o : va_E} {ws : va_W} (hm : ∀ t x, σ t = some x → x ∈ ws) (hu : ∀ t u a x y, σ t = some (a, x) → σ u = some (a, y) → t = u)
    (hP : va_P G.1 kx_cl (ws ++ [(q, o)]) H1) (hD : va_D (kx_A G) (ws ++ [(q, o)])) : kx_wo G (kx_up σ t (q, o)) H1 ∧ ∀ u x, σ u = some x → x.1 ≠ q := by
  have hl : (ws ++ [(q, o)])[ws.length]? = some (q, o) := by simp
  have hf : ∀ u x, σ u = some x → x.1 ≠ q := by
    intro u x hx e
    obtain ⟨j, hj⟩ := List.getElem?_of_mem (hm u x hx)
    have hjl := (List.getElem?_eq_some_iff.mp hj).1
    have h1 : (ws ++ [(q, o)])[j]? = some x := by rw [List.getElem?_append_left hjl]; exact hj
    have := hD.1 _ _ _ _ h1 hl e
    omega
  refine ⟨⟨⟨_, hP, hD, fun u x hx => ?_⟩, fun u v b x y hx hy => ?_⟩, hf⟩
  · by_cases e : u = t
    · subst e
      rw [kx_up_s] at hx
      cases hx
      simp
    · rw [kx_up_o e] at hx
      exact List.mem_append_left _ (hm u x hx)
  · by_cases e : u = t <;> by_cases f : v = t
    · rw [e, f]
    · subst e
      rw [kx_up_s] at hx
      rw [kx_up_o f] at hy
      cases hx
      exact (hf _ _ hy rfl).elim
    · subst f
      rw [kx_up_s] at hy
      rw [kx_up_o e] at hx
      cases hy
      exact (hf _ _ hx rfl).elim
    · rw [kx_up_o e] at hx
      rw [kx_up_o f] at hy
      exact hu _ _ _ _ _ hx hy
/-- fewer tags -/
theorem kx_wo.sub {G : kx_G} {σ τ : kx_H} {H : Heap} (h : kx_wo G σ H) (hs : ∀ t x, τ t = some x → σ t = some x) : kx_wo G τ H := by
  obtain ⟨⟨ws, hP, hD, hm⟩, hu⟩ := h
  exact ⟨⟨ws, hP, hD, fun t x hx => hm t x (hs t x hx)⟩, fun t u a x y hx hy => hu t u a x y (hs _ _ hx) (hs _ _ hy)⟩
/-! locals by a list -/
def kx_lk : List (Nat × Value) → Nat → Option Value
  | [], _ => none
  | (j, v) :: r, i => bif Nat.beq j i then some v else kx_lk r i
theorem kx_lk_mem : ∀ {l : List (Nat × Value)} {i : Nat} {v : Value}, kx_lk l i = some v → ∃ q : Nat, l[q]? = some (i, v)
  | [], i, v, h => by simp [kx_lk] at h
  | (j, w) :: r, i, v, h => by
    unfold kx_lk at h
    cases hb : Nat.beq j i with
    | true =>
      rw [hb] at h
      have e := Nat.eq_of_beq_eq_true hb
      cases h
      exact ⟨0, by rw [e]; rfl⟩
    | false =>
      rw [hb] at h
      obtain ⟨q, hq⟩ := kx_lk_mem (l := r) h
      exact ⟨q + 1, hq⟩
theorem kx_lk_at {ls : Array Slot} {nL : Nat} {l : List (Nat × Value)} {i : Nat} {v : Value} (hl : lv_has ls nL l) (h : kx_lk l i = some v) : ls[i]? = some (.val v) := by
  obtain ⟨q, hq⟩ := kx_lk_mem h
  exact lv_at hl q hq
def kx_st : List (Nat × Value) → Nat → Value → List (Nat × Value)
  | [], i, v => [(i, v)]
  | (j, w) :: r, i, v => bif Nat.beq j i then kx_st r i v else bif (Nat.beq (j + 1) i && Nat.beq w.category 2) then kx_st r i v else (j, w) :: kx_st r i v
def kx_st2 : List (Nat × Value) → Nat → Value → List (Nat × Value)
  | [], i, v => [(i, v)]
  | (j, w) :: r, i, v => bif (Nat.beq j i || Nat.beq j (i + 1)) then kx_st2 r i v else bif (Nat.beq (j + 1) i && Nat.beq w.category 2) then kx_st2 r i v else (j, w) :: kx_st2 r i v
theorem kx_st_mem : ∀ {l : List (Nat × Value)} {i : Nat} {v : Value} {q : Nat × Value}, q ∈ kx_st l i v → q = (i, v) ∨ (q ∈ l ∧ q.1 ≠ i ∧ ¬ (q.1 + 1 = i ∧ q.2.category = 2))
  | [], i, v, q, h => by simp [kx_st] at h; exact Or.inl h
  | (j, w) :: r, i, v, q, h => by
    have rec' : q ∈ kx_st r i v → q = (i, v) ∨ (q ∈ (j, w) :: r ∧ q.1 ≠ i ∧ ¬ (q.1 + 1 = i ∧ q.2.category = 2)) := fun h => by
      rcases kx_st_mem h with h | ⟨h, h2⟩
      · exact Or.inl h
      · exact Or.inr ⟨List.mem_cons_of_mem _ h, h2⟩
    unfold kx_st at h
    cases hb : Nat.beq j i with
    | true => rw [hb] at h; exact rec' h
    | false =>
      rw [hb] at h
      cases hc : (Nat.beq (j + 1) i && Nat.beq w.category 2) with
      | true => rw [hc] at h; exact rec' h
      | false =>
        rw [hc] at h
        rcases List.mem_cons.mp h with h | h
        · subst h
          refine Or.inr ⟨List.mem_cons_self, Nat.ne_of_beq_eq_false hb, fun ⟨e1, e2⟩ => ?_⟩
          have e1' : j + 1 = i := e1
          have e2' : w.category = 2 := e2
          rw [← e1', e2', Nat.beq_refl] at hc
          simp at hc
        · exact rec' h
theorem kx_st2_mem : ∀ {l : List (Nat × Value)} {i : Nat} {v : Value} {q : Nat × Value}, q ∈ kx_st2 l i v → q = (i, v) ∨ (q ∈ l ∧ q.1 ≠ i ∧ q.1 ≠ i + 1 ∧ ¬ (q.1 + 1 = i ∧ q.2.category = 2))
  | [], i, v, q, h => by simp [kx_st2] at h; exact Or.inl h
  | (j, w) :: r, i, v, q, h => by
    have rec' : q ∈ kx_st2 r i v → q = (i, v) ∨ (q ∈ (j, w) :: r ∧ q.1 ≠ i ∧ q.1 ≠ i + 1 ∧ ¬ (q.1 + 1 = i ∧ q.2.category = 2)) := fun h => by
      rcases kx_st2_mem h with h | ⟨h, h2⟩
      · exact Or.inl h
      · exact Or.inr ⟨List.mem_cons_of_mem _ h, h2⟩
    unfold kx_st2 at h
    cases hb : (Nat.beq j i || Nat.beq j (i + 1)) with
    | true => rw [hb] at h; exact rec' h
    | false =>
      rw [hb] at h
      rw [Bool.or_eq_false_iff] at hb
      cases hc : (Nat.beq (j + 1) i && Nat.beq w.category 2) with
      | true => rw [hc] at h; exact rec' h
      | false =>
        rw [hc] at h
        rcases List.mem_cons.mp h with h | h
        · subst h
          refine Or.inr ⟨List.mem_cons_self, Nat.ne_of_beq_eq_false hb.1, Nat.ne_of_beq_eq_false hb.2, fun ⟨e1, e2⟩ => ?_⟩
          have e1' : j + 1 = i := e1
          have e2' : w.category = 2 := e2
          rw [← e1', e2', Nat.beq_refl] at hc
          simp at hc
        · exact rec' h
theorem kx_st_has {ls : Array Slot} {nL : Nat} {lv : List (Nat × Value)} {i : Nat} {v : Value} (h : lv_has ls nL ((i, v) :: lv.filter (fun q => !(q.1 == i) && !(q.1 + 1 == i && q.2.category == 2)))) : lv_has ls nL (kx_st lv i v) := by
  refine ⟨h.1, h.2.1, fun q hq => h.2.2 q ?_⟩
  rcases kx_st_mem hq with h | ⟨h, h1, h2⟩
  · rw [h]; exact List.mem_cons_self
  · refine List.mem_cons_of_mem _ (List.mem_filter.mpr ⟨h, ?_⟩)
    simp only [Bool.and_eq_true, Bool.not_eq_true', beq_eq_false_iff_ne, ne_eq, Bool.and_eq_false_iff, beq_iff_eq]
    refine ⟨h1, ?_⟩
    by_cases e : q.1 + 1 = i
    · exact Or.inr (fun e2 => h2 ⟨e, e2⟩)
    · exact Or.inl e
theorem kx_st2_has {ls : Array Slot} {nL : Nat} {lv : List (Nat × Value)} {i : Nat} {v : Value} (h : lv_has ls nL ((i, v) :: lv.filter (fun q => !(q.1 == i) && (!(q.1 == i + 1) && !(q.1 + 1 == i && q.2.category == 2))))) : lv_has ls nL (kx_st2 lv i v) := by
  refine ⟨h.1, h.2.1, fun q hq => h.2.2 q ?_⟩
  rcases kx_st2_mem hq with h | ⟨h, h1, h3, h2⟩
  · rw [h]; exact List.mem_cons_self
  · refine List.mem_cons_of_mem _ (List.mem_filter.mpr ⟨h, ?_⟩)
    simp only [Bool.and_eq_true, Bool.not_eq_true', beq_eq_false_iff_ne, ne_eq, Bool.and_eq_false_iff, beq_iff_eq]
    refine ⟨h1, h3, ?_⟩
    by_cases e : q.1 + 1 = i
    · exact Or.inr (fun e2 => h2 ⟨e, e2⟩)
    · exact Or.inl e
/-- all that lv' lists is had from lv -/
def kx_le (lv : List (Nat × Value)) : List (Nat × Value) → Prop
  | [] => True
  | q :: r => kx_lk lv q.1 = some q.2 ∧ kx_le lv r
theorem kx_le_has {ls : Array Slot} {nL : Nat} {lv : List (Nat × Value)} (hl : lv_has ls nL lv) : ∀ {lv' : List (Nat × Value)}, kx_le lv lv' → lv_has ls nL lv'
  | [], _ => ⟨hl.1, hl.2.1, fun q hq => by cases hq⟩
  | q :: r, h => ⟨hl.1, hl.2.1, fun z hz => by
      rcases List.mem_cons.mp hz with e | hz
      · subst e
        exact kx_lk_at hl h.1
      · exact (kx_le_has hl h.2).2.2 z hz⟩
/-- a 64 bit compare -/
abbrev kx_lc (x y : Int64) : Int32 := lg_cmp x y

/-! what holds of the static things, all through a run -/
/-- a fact that stays when classes are warmed and cells from the base on are written -/
def kx_Sb (A : Nat → Prop) (F : State → Prop) : Prop := (∀ s U : State, s.WarmedH U.vm → (∀ a : Nat, a < s.heap.size → ¬ A a → U.heap[a]? = s.heap[a]?) → F s → F U) ∧ ∀ s U : State, s.vm = U.vm → U.heap = s.heap → F s → F U
theorem kx_Sb.and {A : Nat → Prop} {F F' : State → Prop} (h : kx_Sb A F) (h' : kx_Sb A F') : kx_Sb A (fun U => F U ∧ F' U) :=
  ⟨fun s U hW hq hF => ⟨h.1 s U hW hq hF.1, h'.1 s U hW hq hF.2⟩, fun s U hv hh hF => ⟨h.2 s U hv hh hF.1, h'.2 s U hv hh hF.2⟩⟩
theorem kx_Sb.all {A : Nat → Prop} {α : Type} {P : α → Prop} {F : α → State → Prop} (h : ∀ x, P x → kx_Sb A (F x)) : kx_Sb A (fun U => ∀ x, P x → F x U) :=
  ⟨fun s U hW hq hF x hx => (h x hx).1 s U hW hq (hF x hx), fun s U hv hh hF x hx => (h x hx).2 s U hv hh (hF x hx)⟩
/-- by 'moved' and 'kept' -/
theorem kx_Sb.of {A : Nat → Prop} {F : State → Heap → Prop} (hm : ∀ u U H, u.vm.Alike U.vm → F u H → F U H) (hk : ∀ U H H1, (∀ a : Nat, a < H.size → ¬ A a → H1[a]? = H[a]?) → F U H → F U H1) : kx_Sb A (fun U => F U U.heap) :=
  ⟨fun s U hW hq hF => hm s U _ hW.alike (hk s _ _ hq hF), fun s U hv hh hF => by
    show F U U.heap
    rw [hh]
    exact hm s U _ (by rw [hv]; exact Vm.Alike.refl _) hF⟩
theorem kx_Sb.vm {A : Nat → Prop} {F : State → Prop} (hm : ∀ u U, u.vm.Alike U.vm → F u → F U) : kx_Sb A F :=
  ⟨fun s U hW _ hF => hm s U hW.alike hF, fun s U hv _ hF => hm s U (by rw [hv]; exact Vm.Alike.refl _) hF⟩
def kx_op (sa : Nat → Nat) : Option Nat := if sa 9 = 0 then none else some (sa 8)
def kx_zs (sa : Nat → Nat) : List (String × String × String × Value) := [
  ("java/lang/String", "COMPACT_STRINGS", "Z", .int 1),
  ("java/lang/Integer$IntegerCache", "high", "I", .int 127),
  ("java/lang/Integer$IntegerCache", "cache", "[Ljava/lang/Integer;", .ref (sa 2)),
  ("java/lang/Integer", "DigitOnes", "[B", .ref (sa 5)),
  ("java/lang/Integer", "DigitTens", "[B", .ref (sa 6)),
  ("RoseProverbs$Proverb", "ROSE", "LRoseProverbs$Round;", .ref (sa 0)),
  ("RoseProverbs$Proverb", "SEASONS", "LRoseProverbs$Round;", .ref (sa 1)),
  ("java/lang/CharacterDataLatin1", "instance", "Ljava/lang/CharacterDataLatin1;", .ref (sa 3)),
  ("java/lang/CharacterDataLatin1", "DIGITS", "[B", .ref (sa 4)),
  ("jdk/internal/util/Preconditions", "SIOOBE_FORMATTER", "Ljava/util/function/BiFunction;", va_rf (kx_op sa)),
  ("java/lang/Throwable", "UNASSIGNED_STACK", "[Ljava/lang/StackTraceElement;", .ref (sa 10)),
  ("java/lang/Throwable", "SUPPRESSED_SENTINEL", "Ljava/util/List;", .ref (sa 11))]
/-- the objects of one field that are known: class, field, descriptor, value, address -/
def kx_os (sa : Nat → Nat) : List (String × String × String × Value × Nat) := [
  ("RoseProverbs$Round", "size", "I", .int 16, sa 0),
  ("RoseProverbs$Round", "size", "I", .int 12, sa 1)]
def kx_dig (j : Nat) : Int32 := if 48 ≤ j ∧ j < 58 then nI (j - 48) else if 65 ≤ j ∧ j < 91 then nI (j - 55) else if 97 ≤ j ∧ j < 123 then nI (j - 87) else -1
def kx_arr (sa : Nat → Nat) : List (FieldType × Nat × Nat × (Nat → Value)) := [
  (.byte, sa 4, 256, fun j => .int (kx_dig j)),
  (.byte, sa 5, 100, fun j => .int (nI (48 + j % 10))),
  (.byte, sa 6, 100, fun j => .int (nI (48 + j / 10))),
  (.object "java/lang/Integer", sa 2, 256, fun j => .ref (sa (100 + j)))]
/-- the String constants: class, entry, text, bytes, hash -/
def kx_sk : List (String × Nat × String × List Int32 × Int32) := [
  ("RoseProverbs$Parser", 15, "", [], 0),
  ("RoseProverbs$Setup", 80, "proverb", [112, 114, 111, 118, 101, 114, 98], -308952756),
  ("RoseProverbs", 47, "rule", [114, 117, 108, 101], 3512060),
  ("RoseProverbs", 53, "rise", [114, 105, 115, 101], 3500745),
  ("RoseProverbs", 55, "fall", [102, 97, 108, 108], 3135355),
  ("RoseProverbs$Script", 30, "day", [100, 97, 121], 99228),
  ("RoseProverbs$Script", 36, "proverb", [112, 114, 111, 118, 101, 114, 98], -308952756),
  ("RoseProverbs$Script", 38, "forget", [102, 111, 114, 103, 101, 116], -1268784659),
  ("RoseProverbs$Script", 40, "weigh", [119, 101, 105, 103, 104], 113012092),
  ("RoseProverbsModel", 237, "proverb", [112, 114, 111, 118, 101, 114, 98], -308952756),
  ("RoseProverbsModel", 213, "rule", [114, 117, 108, 101], 3512060),
  ("RoseProverbsModel", 219, "rise", [114, 105, 115, 101], 3500745),
  ("RoseProverbsModel", 221, "fall", [102, 97, 108, 108], 3135355),
  ("RoseProverbsModel", 270, "day", [100, 97, 121], 99228),
  ("RoseProverbsModel", 272, "forget", [102, 111, 114, 103, 101, 116], -1268784659),
  ("RoseProverbsModel", 274, "weigh", [119, 101, 105, 103, 104], 113012092)]
/-- a String that is there from the start, at a, its bytes at v -/
def kx_Str (A : Nat → Prop) (a v : Nat) (bs : List Int32) (h : Int32) (U : State) (H : Heap) : Prop :=
  va_O "java/lang/String" a A U H ∧ va_OF "java/lang/String" "coder" "B" (.int 0) a A U H ∧ va_OF "java/lang/String" "value" "[B" (.ref v) a A U H ∧ va_T .byte v bs.length (fun j => .int (bs.getD j 0)) A U H ∧
  va_OF "java/lang/String" "hash" "I" (.int h) a A U H ∧ va_OF "java/lang/String" "hashIsZero" "Z" (.int (if h = 0 then 1 else 0)) a A U H
def kx_isNw : Cond → Bool
  | .fieldLinkNest .. => true
  | .methodLinkNest .. => true
  | .castable .. => true
  | .declares .. => true
  | .privateMethod .. => true
  | _ => false
def kx_nw : List Cond := lw_tbl.filter kx_isNw
theorem kx_nw_in {w : Cond} (h : w ∈ lw_tbl) (g : kx_isNw w = true) : w ∈ kx_nw := List.mem_filter.mpr ⟨h, g⟩
def kx_nc : List (String × String) := [("java/lang/IllegalArgumentException", "java/lang/IndexOutOfBoundsException"), ("java/lang/IllegalStateException", "java/lang/IndexOutOfBoundsException"), ("java/lang/IllegalStateException", "java/lang/IllegalArgumentException")]
/-- a method of an interface, as the class C has it -/
def kx_fwOk (C : String) (x y : MethodName) : Prop := Cond.declares x ∈ lw_tbl ∧ Cond.interfaceMethod x.cls x.cls x.name x.desc ∈ lw_tbl ∧ Cond.publicMethod y ∈ lw_tbl ∧ Cond.unhidden C x.name x.desc ∈ lw_tbl ∧ Cond.castable C x.cls ∈ lw_tbl ∧ (x.cls ≠ "java/lang/invoke/MethodHandle" ∧ x.cls ≠ "java/lang/invoke/VarHandle")
def kx_dw : List Cond := defaultWords_1.filter goodWord
/-- where a call on a Round lands in Ring's own method -/
def kx_ld : List (String × MethodName × MethodName) := [
  ("RoseProverbs$Round", ⟨"RoseProverbs$Round", "isBetween", "(III)Z"⟩, ⟨"RoseProverbs$Ring", "isBetween", "(III)Z"⟩),
  ("RoseProverbs$Round", ⟨"RoseProverbs$Ring", "steps", "(II)I"⟩, ⟨"RoseProverbs$Ring", "steps", "(II)I"⟩),
  ("RoseProverbs$Round", ⟨"RoseProverbs$Round", "steps", "(II)I"⟩, ⟨"RoseProverbs$Ring", "steps", "(II)I"⟩)]
def kx_St (G : kx_G) (U : State) : Prop :=
  (∀ x, x ∈ kx_zs G.2.2.2 → va_Z x.1 x.2.1 x.2.2.1 x.2.2.2 (kx_A G) U U.heap) ∧
  (∀ x, x ∈ kx_os G.2.2.2 → va_O x.1 x.2.2.2.2 (kx_A G) U U.heap ∧ va_OF x.1 x.2.1 x.2.2.1 x.2.2.2.1 x.2.2.2.2 (kx_A G) U U.heap) ∧
  (∀ x, x ∈ kx_arr G.2.2.2 → va_T x.1 x.2.1 x.2.2.1 x.2.2.2 (kx_A G) U U.heap) ∧
  va_O "java/lang/CharacterDataLatin1" (G.2.2.2 3) (kx_A G) U U.heap ∧
  vb_C (fun k => G.2.2.2 (100 + k)) (kx_A G) U U.heap ∧
  (∀ q : Nat × (String × Nat × String × List Int32 × Int32), kx_sk[q.1]? = some q.2 → vk_R q.2.1 q.2.2.1 q.2.2.2.1 (G.2.2.2 (20 + q.1)) U ∧ kx_Str (kx_A G) (G.2.2.2 (20 + q.1)) (G.2.2.2 (40 + q.1)) q.2.2.2.2.1 q.2.2.2.2.2 U U.heap) ∧
  (∀ w, w ∈ kx_nw → va_Nw w U) ∧
  (∀ q : String × MethodName × MethodName, kx_fwOk q.1 q.2.1 q.2.2 → va_Fw q.1 q.2.1 q.2.2 U) ∧
  (∀ x, x ∈ kx_nc → va_Nc x.1 x.2 U) ∧
  (∀ w, w ∈ kx_dw → w.before #[] U = true) ∧
  ((∀ q, q ∈ kx_ld → (Cond.landsInDefault q.1 q.2.1 q.2.2).before #[] U = true) ∧ (Cond.arrayOver (.array .int)).before #[] U = true) ∧
  (vx_Zq Bundle.tN "UNASSIGNED_STACK" Bundle.steD (kx_A G) U U.heap ∧ vx_Zq Bundle.tN "SUPPRESSED_SENTINEL" Bundle.listD (kx_A G) U U.heap) ∧
  va_Mi "[Ljava/lang/Object;" (G.2.2.2 7) U ∧ va_Dc U ∧ va_AO "java/lang/Object" U
theorem kx_Str_Sb {A : Nat → Prop} {a v : Nat} {bs : List Int32} {h : Int32} : kx_Sb A (fun U => kx_Str A a v bs h U U.heap) :=
  kx_Sb.of (fun _ _ _ hvm q => ⟨q.1.moved hvm, q.2.1.moved hvm, q.2.2.1.moved hvm, q.2.2.2.1.moved hvm, q.2.2.2.2.1.moved hvm, q.2.2.2.2.2.moved hvm⟩)
    (fun _ _ _ hk q => ⟨q.1.kept hk, q.2.1.kept hk, q.2.2.1.kept hk, q.2.2.2.1.kept hk, q.2.2.2.2.1.kept hk, q.2.2.2.2.2.kept hk⟩)
theorem kx_warmP {x : MethodName} {s U : State} (hW : s.WarmedH U.vm) (hZ : va_Nw (.privateMethod x) s) : va_Nw (.privateMethod x) U := va_tabs rfl (rfl : (s.setVm U.vm).vm = U.vm) (by rw [Cond.privateMethod_setVm hW.alike]; exact hZ)
theorem kx_Nw_Sb {A : Nat → Prop} {w : Cond} (h : kx_isNw w = true) : kx_Sb A (va_Nw w) := by
  have hg : w.onTables = true := by
    cases w <;> first | rfl | (simp [kx_isNw] at h)
  refine ⟨fun s U hW _ hF => ?_, fun s U hv _ hF => hF.same hg hv⟩
  cases w <;> first | exact hF.warmF hW | exact hF.warmM hW | exact hF.warmC hW | exact hF.warmD hW | exact kx_warmP hW hF | (simp [kx_isNw] at h)
theorem kx_good_Sb {A : Nat → Prop} {w : Cond} (hg : goodWord w = true) : kx_Sb A (fun U => w.before #[] U = true) :=
  ⟨fun s U hW _ hF => word_at hW (good_of_word hg) hF, fun s U hv _ hF => vx_ot_at (by rw [← hv]; exact State.WarmedH.refl _) hv (by simp [vx_ot, hg]) hF⟩
theorem kx_R_Sb {A : Nat → Prop} {own tx : String} {k a : Nat} : kx_Sb A (vk_R own k tx a) :=
  ⟨fun s U hW _ hF => hF.warm hW, fun s U hv _ hF => hF.same hv.symm⟩
theorem kx_AOA_moved {t : FieldType} {u U : State} (hvm : u.vm.Alike U.vm) (h : (Cond.arrayOver (.array t)).before #[] u = true) : (Cond.arrayOver (.array t)).before #[] U = true := by
  obtain ⟨comp, c, k, h1, h2, h3, h4, h5⟩ := arrayOverA_spec h
  obtain ⟨k', hk', he⟩ := hvm.2.2 _ _ h3
  have hi : (U.vm.classes.findIdx? fun (x : Class) => match x.kind with | .array component _ => component == comp | _ => false) = some c := by
    refine (va_idx_bare U.vm comp).symm.trans ?_
    first | rw [hvm.bare_eq] | rw [← hvm.bare_eq]
    exact (va_idx_bare u.vm comp).trans h2
  have hkind : k'.kind = .array comp (.array t) := by rw [he]; exact h4
  have f1 : U.vm.findClass (FieldType.array t).toString = some comp := by rw [hvm.findClass]; exact h1
  have f2 : U.vm.findClass ("[" ++ (FieldType.array t).toString) = some c := by rw [hvm.findClass]; exact h5
  unfold Cond.before Cond.holds
  simp only [Cond.value]
  rw [f1, Option.bind_some]
  refine (congrArg (fun o : Option Nat => (o.bind (fun c => (U.vm.classes[c]?).map fun (k : Class) => match k.kind with | .array _ ty => decide (ty = FieldType.array t) && decide (U.vm.findClass ("[" ++ (FieldType.array t).toString) = some c) | _ => false) == some true)) hi).trans ?_
  simp [hk', hkind, f2]
theorem kx_ld_vm {C : String} {x y : MethodName} {s U : State} (h : s.vm = U.vm) (hF : (Cond.landsInDefault C x y).before #[] s = true) : (Cond.landsInDefault C x y).before #[] U = true := by
  have e : (Cond.landsInDefault C x y).before #[] (s.setVm U.vm) = (Cond.landsInDefault C x y).before #[] (U.setVm U.vm) := rfl
  have h1 : s.setVm U.vm = s := by rw [← h]; rfl
  have h2 : U.setVm U.vm = U := rfl
  rw [h1, h2] at e
  rw [← e]; exact hF
theorem kx_ld_Sb {A : Nat → Prop} {C : String} {x y : MethodName} : kx_Sb A (fun U => (Cond.landsInDefault C x y).before #[] U = true) :=
  ⟨fun s U hW _ hF => kx_ld_vm (s := s.setVm U.vm) rfl ((Cond.landsInDefault_setVm (args := #[]) (args' := #[]) hW.alike (State.methodFound?_setVm hW.alike _ _ _)).trans hF), fun s U hv _ hF => kx_ld_vm hv hF⟩
theorem kx_St_Sb {G : kx_G} : kx_Sb (kx_A G) (kx_St G) := by
  unfold kx_St
  refine kx_Sb.and (kx_Sb.all fun x _ => kx_Sb.of (fun _ _ _ hvm q => q.moved hvm) (fun _ _ _ hk q => q.kept hk)) ?_
  refine kx_Sb.and (kx_Sb.all fun x _ => kx_Sb.and (kx_Sb.of (fun _ _ _ hvm q => q.moved hvm) (fun _ _ _ hk q => q.kept hk)) (kx_Sb.of (fun _ _ _ hvm q => q.moved hvm) (fun _ _ _ hk q => q.kept hk))) ?_
  refine kx_Sb.and (kx_Sb.all fun x _ => kx_Sb.of (fun _ _ _ hvm q => q.moved hvm) (fun _ _ _ hk q => q.kept hk)) ?_
  refine kx_Sb.and (kx_Sb.of (fun _ _ _ hvm q => q.moved hvm) (fun _ _ _ hk q => q.kept hk)) ?_
  refine kx_Sb.and (kx_Sb.of (fun _ _ _ hvm q => q.moved hvm) (fun _ _ _ hk q => q.kept hk)) ?_
  refine kx_Sb.and (kx_Sb.all fun x _ => kx_Sb.and kx_R_Sb kx_Str_Sb) ?_
  refine kx_Sb.and (kx_Sb.all fun x hx => kx_Nw_Sb (List.mem_filter.mp hx).2) ?_
  refine kx_Sb.and (kx_Sb.all fun x hx => kx_Sb.vm fun _ _ hvm q => q.moved hx.2.2.2.2.2 hvm) ?_
  refine kx_Sb.and (kx_Sb.all fun x hx => kx_Sb.vm fun _ _ hvm q => q.moved hvm) ?_
  refine kx_Sb.and (kx_Sb.all fun x hx => kx_good_Sb (List.mem_filter.mp hx).2) ?_
  refine kx_Sb.and (kx_Sb.and (kx_Sb.all fun x hx => kx_ld_Sb) (kx_Sb.vm fun _ _ hvm q => kx_AOA_moved hvm q)) ?_
  refine kx_Sb.and (kx_Sb.and (kx_Sb.of (fun _ _ _ hvm q => q.moved hvm) (fun _ _ _ hk q => q.kept hk)) (kx_Sb.of (fun _ _ _ hvm q => q.moved hvm) (fun _ _ _ hk q => q.kept hk))) ?_
  exact kx_Sb.and (kx_Sb.vm fun _ _ hvm q => q.moved hvm) (kx_Sb.and (kx_Sb.vm fun _ _ hvm q => q.moved hvm) (kx_Sb.vm fun _ _ hvm q => q.moved hvm))
/-! the state of a walk -/
def kx_C (G : kx_G) (l : Launch) (p : Program) (e : Env) (R : Room) (s : State) (m : MethodId) (args : Array Value) (below : List Frame) (meth : Method) (c : Code) (cc : ByteArray) (own : String) (nL : Nat) (ret : Option FieldType) (nm : String) (hh : List (Nat × Nat × Nat × Nat)) : Prop :=
  p.tables.exec = Jvm.exec ∧ c.code = cc ∧ meth.sig.returnType = ret ∧ c.maxLocals = nL ∧ s.vm.findClass own = some m.cls ∧ (∀ w ∈ lw_all, w.before args s = true) ∧ va_K G.1 kx_cl (kx_tys G.2.1) s ∧ kx_St G s ∧ meth.locks = false ∧ l.stackTraces = false ∧ G.2.2.1 ≤ s.heap.size ∧ meth.name = nm ∧ c.exceptionTable.toList = tableOf hh
/-- from here the frame's method comes to its end with Q: whatever the heap, as long as it holds the tagged cells; k cells and n slots are used -/
def kx_V (G : kx_G) (l : Launch) (p : Program) (e : Env) (R : Room) (s : State) (m : MethodId) (args : Array Value) (below : List Frame) (meth : Method) (c : Code) (nL : Nat) (Q : State → Prop) (pc : Nat) (lv : List (Nat × Value)) (st : List Value) (σ : kx_H) (k n : Nat) : Prop :=
  ∀ (H : Heap) (locs : List Loc) (ls : Array Slot), kx_wo G σ H → va_S (kx_A G) s.heap H locs → lv_has ls nL lv → W p l e R s m args below meth c H locs k n Q (F0 m pc ls st)
/-- the same, with the exception at q, of the class E, thrown at pc -/
def kx_X (G : kx_G) (l : Launch) (p : Program) (e : Env) (R : Room) (s : State) (m : MethodId) (args : Array Value) (below : List Frame) (meth : Method) (c : Code) (nL : Nat) (Q : State → Prop) (pc : Nat) (lv : List (Nat × Value)) (st : List Value) (σ : kx_H) (k n : Nat) (E : String) (q : Nat) : Prop :=
  ∀ (H : Heap) (locs : List Loc) (ls : Array Slot) (ce : Cell), kx_wo G σ H → va_S (kx_A G) s.heap H locs → lv_has ls nL lv → H[q]? = some ce → ce.vm = .none → s.vm.findClass E = some ce.cls → vx_W p l e R s m args below meth c H locs k n Q (F0 m pc ls st) q
section KXR
variable {G : kx_G} {l : Launch} {p : Program} {e : Env} {R : Room} {s : State} {m : MethodId} {args : Array Value} {below : List Frame} {meth : Method} {c : Code} {cc : ByteArray} {own : String} {nL : Nat} {ret : Option FieldType} {nm : String} {hh : List (Nat × Nat × Nat × Nat)} {Q : State → Prop} {pc : Nat} {lv : List (Nat × Value)} {rest : List Value} {σ : kx_H} {k n : Nat}
theorem kx_C.hx (C : kx_C G l p e R s m args below meth c cc own nL ret nm hh) : p.tables.exec = Jvm.exec := C.1
theorem kx_C.hb (C : kx_C G l p e R s m args below meth c cc own nL ret nm hh) : c.code = cc := C.2.1
theorem kx_C.hr (C : kx_C G l p e R s m args below meth c cc own nL ret nm hh) : meth.sig.returnType = ret := C.2.2.1
theorem kx_C.ml (C : kx_C G l p e R s m args below meth c cc own nL ret nm hh) : c.maxLocals = nL := C.2.2.2.1
theorem kx_C.ow (C : kx_C G l p e R s m args below meth c cc own nL ret nm hh) : s.vm.findClass own = some m.cls := C.2.2.2.2.1
theorem kx_C.ts (C : kx_C G l p e R s m args below meth c cc own nL ret nm hh) : ∀ w ∈ lw_all, w.before args s = true := C.2.2.2.2.2.1
theorem kx_C.hK (C : kx_C G l p e R s m args below meth c cc own nL ret nm hh) : va_K G.1 kx_cl (kx_tys G.2.1) s := C.2.2.2.2.2.2.1
theorem kx_C.st (C : kx_C G l p e R s m args below meth c cc own nL ret nm hh) : kx_St G s := C.2.2.2.2.2.2.2.1
theorem kx_C.lk (C : kx_C G l p e R s m args below meth c cc own nL ret nm hh) : meth.locks = false := C.2.2.2.2.2.2.2.2.1
theorem kx_C.tr (C : kx_C G l p e R s m args below meth c cc own nL ret nm hh) : l.stackTraces = false := C.2.2.2.2.2.2.2.2.2.1
theorem kx_C.ge (C : kx_C G l p e R s m args below meth c cc own nL ret nm hh) : G.2.2.1 ≤ s.heap.size := C.2.2.2.2.2.2.2.2.2.2.1
theorem kx_C.na (C : kx_C G l p e R s m args below meth c cc own nL ret nm hh) : meth.name = nm := C.2.2.2.2.2.2.2.2.2.2.2.1
theorem kx_C.ht (C : kx_C G l p e R s m args below meth c cc own nL ret nm hh) : c.exceptionTable.toList = tableOf hh := C.2.2.2.2.2.2.2.2.2.2.2.2
theorem kx_C.hA (C : kx_C G l p e R s m args below meth c cc own nL ret nm hh) : ∀ q, s.heap.size ≤ q → kx_A G q := fun q hq => Nat.le_trans C.ge hq
/-- fewer locals, in any order -/
theorem ri_lv (lv' : List (Nat × Value)) (h : kx_le lv lv') {st : List Value} (kk : kx_V G l p e R s m args below meth c nL Q pc lv' st σ k n) : kx_V G l p e R s m args below meth c nL Q pc lv st σ k n :=
  fun H locs ls hw hS hl => kk H locs ls hw hS (kx_le_has hl h)
/-- more cells and slots are said to be used -/
theorem ri_more {k' n' : Nat} {st : List Value} (h1 : k ≤ k') (h2 : n ≤ n') (kk : kx_V G l p e R s m args below meth c nL Q pc lv st σ k' n') : kx_V G l p e R s m args below meth c nL Q pc lv st σ k n :=
  fun H locs ls hw hS hl => W.widen h1 h2 (kk H locs ls hw hS hl)
/-- fewer tagged cells -/
theorem ri_less (τ : kx_H) (h : ∀ t x, τ t = some x → σ t = some x) {st : List Value} (kk : kx_V G l p e R s m args below meth c nL Q pc lv st τ k n) : kx_V G l p e R s m args below meth c nL Q pc lv st σ k n :=
  fun H locs ls hw hS hl => kk H locs ls (hw.sub h) hS hl
/-- two tags of one cell are one -/
theorem ri_uniq {st : List Value} (kk : (∀ t u a x y, σ t = some (a, x) → σ u = some (a, y) → t = u) → kx_V G l p e R s m args below meth c nL Q pc lv st σ k n) : kx_V G l p e R s m args below meth c nL Q pc lv st σ k n :=
  fun H locs ls hw hS hl => kk hw.2 H locs ls hw hS hl
/-- all cells lie from the base on -/
theorem ri_base {st : List Value} (kk : (∀ t a x, σ t = some (a, x) → G.2.2.1 ≤ a) → kx_V G l p e R s m args below meth c nL Q pc lv st σ k n) : kx_V G l p e R s m args below meth c nL Q pc lv st σ k n :=
  fun H locs ls hw hS hl => kk (fun t a x h => by
    obtain ⟨⟨ws, hP, hD, hm⟩, -⟩ := hw
    obtain ⟨i, hi⟩ := List.getElem?_of_mem (hm t _ h)
    exact hD.2 i _ hi) H locs ls hw hS hl

theorem ri_iconst (C : kx_C G l p e R s m args below meth c cc own nL ret nm hh) {z : Int} {v : Int32} (d : decode cc pc = .ok (.iconst z, 1)) (hv : Int32.ofInt z = v) (kk : kx_V G l p e R s m args below meth c nL Q (pc + 1) lv (.int v :: rest) σ k n) : kx_V G l p e R s m args below meth c nL Q pc lv (rest) σ k n :=
  fun H locs ls hw hS hl => lv_iconst C.hx C.hb d hv (kk H locs ls hw hS hl)
theorem ri_bipush (C : kx_C G l p e R s m args below meth c cc own nL ret nm hh) {z : Int} {v : Int32} (d : decode cc pc = .ok (.bipush z, 2)) (hv : (Int8.ofInt z).toInt32 = v) (kk : kx_V G l p e R s m args below meth c nL Q (pc + 2) lv (.int v :: rest) σ k n) : kx_V G l p e R s m args below meth c nL Q pc lv (rest) σ k n :=
  fun H locs ls hw hS hl => lv_bipush C.hx C.hb d hv (kk H locs ls hw hS hl)
theorem ri_sipush (C : kx_C G l p e R s m args below meth c cc own nL ret nm hh) {z : Int} {v : Int32} (d : decode cc pc = .ok (.sipush z, 3)) (hv : (Int16.ofInt z).toInt32 = v) (kk : kx_V G l p e R s m args below meth c nL Q (pc + 3) lv (.int v :: rest) σ k n) : kx_V G l p e R s m args below meth c nL Q pc lv (rest) σ k n :=
  fun H locs ls hw hS hl => lv_sipush C.hx C.hb d hv (kk H locs ls hw hS hl)
theorem ri_lconst (C : kx_C G l p e R s m args below meth c cc own nL ret nm hh) {z : Fin 2} {v : Int64} (d : decode cc pc = .ok (.lconst z, 1)) (hv : Int64.ofNat (z : Nat) = v) (kk : kx_V G l p e R s m args below meth c nL Q (pc + 1) lv (.long v :: rest) σ k n) : kx_V G l p e R s m args below meth c nL Q pc lv (rest) σ k n :=
  fun H locs ls hw hS hl => lv_lconst C.hx C.hb d hv (kk H locs ls hw hS hl)
theorem ri_iload_n (C : kx_C G l p e R s m args below meth c cc own nL ret nm hh) {j : Fin 4} {x : Int32} (d : decode cc pc = .ok (.iload_n j, 1)) (h : kx_lk lv (j : Nat) = some (.int x)) (kk : kx_V G l p e R s m args below meth c nL Q (pc + 1) lv (.int x :: rest) σ k n) : kx_V G l p e R s m args below meth c nL Q pc lv (rest) σ k n :=
  fun H locs ls hw hS hl => lv_iload_n C.hx C.hb d rfl (kx_lk_at hl h) (kk H locs ls hw hS hl)
theorem ri_iload (C : kx_C G l p e R s m args below meth c cc own nL ret nm hh) {i : Nat} {x : Int32} (d : decode cc pc = .ok (.iload i, 2)) (h : kx_lk lv i = some (.int x)) (kk : kx_V G l p e R s m args below meth c nL Q (pc + 2) lv (.int x :: rest) σ k n) : kx_V G l p e R s m args below meth c nL Q pc lv (rest) σ k n :=
  fun H locs ls hw hS hl => lv_iload C.hx C.hb d (kx_lk_at hl h) (kk H locs ls hw hS hl)
theorem ri_lload_n (C : kx_C G l p e R s m args below meth c cc own nL ret nm hh) {j : Fin 4} {x : Int64} (d : decode cc pc = .ok (.lload_n j, 1)) (h : kx_lk lv (j : Nat) = some (.long x)) (kk : kx_V G l p e R s m args below meth c nL Q (pc + 1) lv (.long x :: rest) σ k n) : kx_V G l p e R s m args below meth c nL Q pc lv (rest) σ k n :=
  fun H locs ls hw hS hl => lv_lload_n C.hx C.hb d rfl (kx_lk_at hl h) (kk H locs ls hw hS hl)
theorem ri_lload (C : kx_C G l p e R s m args below meth c cc own nL ret nm hh) {i : Nat} {x : Int64} (d : decode cc pc = .ok (.lload i, 2)) (h : kx_lk lv i = some (.long x)) (kk : kx_V G l p e R s m args below meth c nL Q (pc + 2) lv (.long x :: rest) σ k n) : kx_V G l p e R s m args below meth c nL Q pc lv (rest) σ k n :=
  fun H locs ls hw hS hl => lv_lload C.hx C.hb d (kx_lk_at hl h) (kk H locs ls hw hS hl)
theorem ri_fload_n (C : kx_C G l p e R s m args below meth c cc own nL ret nm hh) {j : Fin 4} {x : UInt32} (d : decode cc pc = .ok (.fload_n j, 1)) (h : kx_lk lv (j : Nat) = some (.float x)) (kk : kx_V G l p e R s m args below meth c nL Q (pc + 1) lv (.float x :: rest) σ k n) : kx_V G l p e R s m args below meth c nL Q pc lv (rest) σ k n :=
  fun H locs ls hw hS hl => lv_fload_n C.hx C.hb d rfl (kx_lk_at hl h) (kk H locs ls hw hS hl)
theorem ri_fload (C : kx_C G l p e R s m args below meth c cc own nL ret nm hh) {i : Nat} {x : UInt32} (d : decode cc pc = .ok (.fload i, 2)) (h : kx_lk lv i = some (.float x)) (kk : kx_V G l p e R s m args below meth c nL Q (pc + 2) lv (.float x :: rest) σ k n) : kx_V G l p e R s m args below meth c nL Q pc lv (rest) σ k n :=
  fun H locs ls hw hS hl => lv_fload C.hx C.hb d (kx_lk_at hl h) (kk H locs ls hw hS hl)
theorem ri_dload_n (C : kx_C G l p e R s m args below meth c cc own nL ret nm hh) {j : Fin 4} {x : UInt64} (d : decode cc pc = .ok (.dload_n j, 1)) (h : kx_lk lv (j : Nat) = some (.double x)) (kk : kx_V G l p e R s m args below meth c nL Q (pc + 1) lv (.double x :: rest) σ k n) : kx_V G l p e R s m args below meth c nL Q pc lv (rest) σ k n :=
  fun H locs ls hw hS hl => lv_dload_n C.hx C.hb d rfl (kx_lk_at hl h) (kk H locs ls hw hS hl)
theorem ri_dload (C : kx_C G l p e R s m args below meth c cc own nL ret nm hh) {i : Nat} {x : UInt64} (d : decode cc pc = .ok (.dload i, 2)) (h : kx_lk lv i = some (.double x)) (kk : kx_V G l p e R s m args below meth c nL Q (pc + 2) lv (.double x :: rest) σ k n) : kx_V G l p e R s m args below meth c nL Q pc lv (rest) σ k n :=
  fun H locs ls hw hS hl => lv_dload C.hx C.hb d (kx_lk_at hl h) (kk H locs ls hw hS hl)
theorem ri_aload_n (C : kx_C G l p e R s m args below meth c cc own nL ret nm hh) {j : Fin 4} {x : Nat} (d : decode cc pc = .ok (.aload_n j, 1)) (h : kx_lk lv (j : Nat) = some (.ref x)) (kk : kx_V G l p e R s m args below meth c nL Q (pc + 1) lv (.ref x :: rest) σ k n) : kx_V G l p e R s m args below meth c nL Q pc lv (rest) σ k n :=
  fun H locs ls hw hS hl => lv_aload_n C.hx C.hb d rfl (kx_lk_at hl h) (kk H locs ls hw hS hl)
theorem ri_aload (C : kx_C G l p e R s m args below meth c cc own nL ret nm hh) {i x : Nat} (d : decode cc pc = .ok (.aload i, 2)) (h : kx_lk lv i = some (.ref x)) (kk : kx_V G l p e R s m args below meth c nL Q (pc + 2) lv (.ref x :: rest) σ k n) : kx_V G l p e R s m args below meth c nL Q pc lv (rest) σ k n :=
  fun H locs ls hw hS hl => lv_aload C.hx C.hb d (kx_lk_at hl h) (kk H locs ls hw hS hl)
theorem ri_aload_nN (C : kx_C G l p e R s m args below meth c cc own nL ret nm hh) {j : Fin 4} (d : decode cc pc = .ok (.aload_n j, 1)) (h : kx_lk lv (j : Nat) = some .null) (kk : kx_V G l p e R s m args below meth c nL Q (pc + 1) lv (.null :: rest) σ k n) : kx_V G l p e R s m args below meth c nL Q pc lv (rest) σ k n :=
  fun H locs ls hw hS hl => lv_aload_nN C.hx C.hb d rfl (kx_lk_at hl h) (kk H locs ls hw hS hl)
theorem ri_aloadN (C : kx_C G l p e R s m args below meth c cc own nL ret nm hh) {i : Nat} (d : decode cc pc = .ok (.aload i, 2)) (h : kx_lk lv i = some .null) (kk : kx_V G l p e R s m args below meth c nL Q (pc + 2) lv (.null :: rest) σ k n) : kx_V G l p e R s m args below meth c nL Q pc lv (rest) σ k n :=
  fun H locs ls hw hS hl => lv_aloadN C.hx C.hb d (kx_lk_at hl h) (kk H locs ls hw hS hl)
theorem ri_aload_nQ (C : kx_C G l p e R s m args below meth c cc own nL ret nm hh) {j : Fin 4} {x : Option Nat} (d : decode cc pc = .ok (.aload_n j, 1)) (h : kx_lk lv (j : Nat) = some (va_rf x)) (kk : kx_V G l p e R s m args below meth c nL Q (pc + 1) lv (va_rf x :: rest) σ k n) : kx_V G l p e R s m args below meth c nL Q pc lv rest σ k n := by
  cases x with
  | none => exact ri_aload_nN C d h kk
  | some x => exact ri_aload_n C d h kk
theorem ri_aloadQ (C : kx_C G l p e R s m args below meth c cc own nL ret nm hh) {i : Nat} {x : Option Nat} (d : decode cc pc = .ok (.aload i, 2)) (h : kx_lk lv i = some (va_rf x)) (kk : kx_V G l p e R s m args below meth c nL Q (pc + 2) lv (va_rf x :: rest) σ k n) : kx_V G l p e R s m args below meth c nL Q pc lv rest σ k n := by
  cases x with
  | none => exact ri_aloadN C d h kk
  | some x => exact ri_aload C d h kk
theorem ri_istore_n (C : kx_C G l p e R s m args below meth c cc own nL ret nm hh) {j : Fin 4} {x : Int32} {lv' : List (Nat × Value)} (d : decode cc pc = .ok (.istore_n j, 1)) (hl' : kx_st lv (j : Nat) (.int x) = lv') (hn : (j : Nat) < nL) (kk : kx_V G l p e R s m args below meth c nL Q (pc + 1) lv' rest σ k n) : kx_V G l p e R s m args below meth c nL Q pc lv (.int x :: rest) σ k n :=
  fun H locs ls hw hS hl => lv_istore_n C.hx C.hb d rfl hl hn rfl (fun ls h => kk H locs ls hw hS (by subst hl'; exact kx_st_has h))
theorem ri_istore (C : kx_C G l p e R s m args below meth c cc own nL ret nm hh) {i : Nat} {x : Int32} {lv' : List (Nat × Value)} (d : decode cc pc = .ok (.istore i, 2)) (hl' : kx_st lv i (.int x) = lv') (hn : i < nL) (kk : kx_V G l p e R s m args below meth c nL Q (pc + 2) lv' rest σ k n) : kx_V G l p e R s m args below meth c nL Q pc lv (.int x :: rest) σ k n :=
  fun H locs ls hw hS hl => lv_istore C.hx C.hb d hl hn rfl (fun ls h => kk H locs ls hw hS (by subst hl'; exact kx_st_has h))
theorem ri_fstore_n (C : kx_C G l p e R s m args below meth c cc own nL ret nm hh) {j : Fin 4} {x : UInt32} {lv' : List (Nat × Value)} (d : decode cc pc = .ok (.fstore_n j, 1)) (hl' : kx_st lv (j : Nat) (.float x) = lv') (hn : (j : Nat) < nL) (kk : kx_V G l p e R s m args below meth c nL Q (pc + 1) lv' rest σ k n) : kx_V G l p e R s m args below meth c nL Q pc lv (.float x :: rest) σ k n :=
  fun H locs ls hw hS hl => lv_fstore_n C.hx C.hb d rfl hl hn rfl (fun ls h => kk H locs ls hw hS (by subst hl'; exact kx_st_has h))
theorem ri_fstore (C : kx_C G l p e R s m args below meth c cc own nL ret nm hh) {i : Nat} {x : UInt32} {lv' : List (Nat × Value)} (d : decode cc pc = .ok (.fstore i, 2)) (hl' : kx_st lv i (.float x) = lv') (hn : i < nL) (kk : kx_V G l p e R s m args below meth c nL Q (pc + 2) lv' rest σ k n) : kx_V G l p e R s m args below meth c nL Q pc lv (.float x :: rest) σ k n :=
  fun H locs ls hw hS hl => lv_fstore C.hx C.hb d hl hn rfl (fun ls h => kk H locs ls hw hS (by subst hl'; exact kx_st_has h))
theorem ri_astore_n (C : kx_C G l p e R s m args below meth c cc own nL ret nm hh) {j : Fin 4} {x : Nat} {lv' : List (Nat × Value)} (d : decode cc pc = .ok (.astore_n j, 1)) (hl' : kx_st lv (j : Nat) (.ref x) = lv') (hn : (j : Nat) < nL) (kk : kx_V G l p e R s m args below meth c nL Q (pc + 1) lv' rest σ k n) : kx_V G l p e R s m args below meth c nL Q pc lv (.ref x :: rest) σ k n :=
  fun H locs ls hw hS hl => lv_astore_n C.hx C.hb d rfl hl hn rfl (fun ls h => kk H locs ls hw hS (by subst hl'; exact kx_st_has h))
theorem ri_astore (C : kx_C G l p e R s m args below meth c cc own nL ret nm hh) {i : Nat} {x : Nat} {lv' : List (Nat × Value)} (d : decode cc pc = .ok (.astore i, 2)) (hl' : kx_st lv i (.ref x) = lv') (hn : i < nL) (kk : kx_V G l p e R s m args below meth c nL Q (pc + 2) lv' rest σ k n) : kx_V G l p e R s m args below meth c nL Q pc lv (.ref x :: rest) σ k n :=
  fun H locs ls hw hS hl => lv_astore C.hx C.hb d hl hn rfl (fun ls h => kk H locs ls hw hS (by subst hl'; exact kx_st_has h))
theorem ri_astore_nN (C : kx_C G l p e R s m args below meth c cc own nL ret nm hh) {j : Fin 4}  {lv' : List (Nat × Value)} (d : decode cc pc = .ok (.astore_n j, 1)) (hl' : kx_st lv (j : Nat) (.null) = lv') (hn : (j : Nat) < nL) (kk : kx_V G l p e R s m args below meth c nL Q (pc + 1) lv' rest σ k n) : kx_V G l p e R s m args below meth c nL Q pc lv (.null :: rest) σ k n :=
  fun H locs ls hw hS hl => lv_astore_nN C.hx C.hb d rfl hl hn rfl (fun ls h => kk H locs ls hw hS (by subst hl'; exact kx_st_has h))
theorem ri_astoreN (C : kx_C G l p e R s m args below meth c cc own nL ret nm hh) {i : Nat}  {lv' : List (Nat × Value)} (d : decode cc pc = .ok (.astore i, 2)) (hl' : kx_st lv i (.null) = lv') (hn : i < nL) (kk : kx_V G l p e R s m args below meth c nL Q (pc + 2) lv' rest σ k n) : kx_V G l p e R s m args below meth c nL Q pc lv (.null :: rest) σ k n :=
  fun H locs ls hw hS hl => lv_astoreN C.hx C.hb d hl hn rfl (fun ls h => kk H locs ls hw hS (by subst hl'; exact kx_st_has h))
theorem ri_lstore_n (C : kx_C G l p e R s m args below meth c cc own nL ret nm hh) {j : Fin 4} {x : Int64} {lv' : List (Nat × Value)} (d : decode cc pc = .ok (.lstore_n j, 1)) (hl' : kx_st2 lv (j : Nat) (.long x) = lv') (hn : (j : Nat) + 1 < nL) (kk : kx_V G l p e R s m args below meth c nL Q (pc + 1) lv' rest σ k n) : kx_V G l p e R s m args below meth c nL Q pc lv (.long x :: rest) σ k n :=
  fun H locs ls hw hS hl => lv_lstore_n C.hx C.hb d rfl hl hn rfl (fun ls h => kk H locs ls hw hS (by subst hl'; exact kx_st2_has h))
theorem ri_lstore (C : kx_C G l p e R s m args below meth c cc own nL ret nm hh) {i : Nat} {x : Int64} {lv' : List (Nat × Value)} (d : decode cc pc = .ok (.lstore i, 2)) (hl' : kx_st2 lv i (.long x) = lv') (hn : i + 1 < nL) (kk : kx_V G l p e R s m args below meth c nL Q (pc + 2) lv' rest σ k n) : kx_V G l p e R s m args below meth c nL Q pc lv (.long x :: rest) σ k n :=
  fun H locs ls hw hS hl => lv_lstore C.hx C.hb d hl hn rfl (fun ls h => kk H locs ls hw hS (by subst hl'; exact kx_st2_has h))
theorem ri_dstore_n (C : kx_C G l p e R s m args below meth c cc own nL ret nm hh) {j : Fin 4} {x : UInt64} {lv' : List (Nat × Value)} (d : decode cc pc = .ok (.dstore_n j, 1)) (hl' : kx_st2 lv (j : Nat) (.double x) = lv') (hn : (j : Nat) + 1 < nL) (kk : kx_V G l p e R s m args below meth c nL Q (pc + 1) lv' rest σ k n) : kx_V G l p e R s m args below meth c nL Q pc lv (.double x :: rest) σ k n :=
  fun H locs ls hw hS hl => lv_dstore_n C.hx C.hb d rfl hl hn rfl (fun ls h => kk H locs ls hw hS (by subst hl'; exact kx_st2_has h))
theorem ri_dstore (C : kx_C G l p e R s m args below meth c cc own nL ret nm hh) {i : Nat} {x : UInt64} {lv' : List (Nat × Value)} (d : decode cc pc = .ok (.dstore i, 2)) (hl' : kx_st2 lv i (.double x) = lv') (hn : i + 1 < nL) (kk : kx_V G l p e R s m args below meth c nL Q (pc + 2) lv' rest σ k n) : kx_V G l p e R s m args below meth c nL Q pc lv (.double x :: rest) σ k n :=
  fun H locs ls hw hS hl => lv_dstore C.hx C.hb d hl hn rfl (fun ls h => kk H locs ls hw hS (by subst hl'; exact kx_st2_has h))
theorem ri_astore_nQ (C : kx_C G l p e R s m args below meth c cc own nL ret nm hh) {j : Fin 4} {x : Option Nat} {lv' : List (Nat × Value)} (d : decode cc pc = .ok (.astore_n j, 1)) (hl' : kx_st lv (j : Nat) (va_rf x) = lv') (hn : (j : Nat) < nL) (kk : kx_V G l p e R s m args below meth c nL Q (pc + 1) lv' rest σ k n) : kx_V G l p e R s m args below meth c nL Q pc lv (va_rf x :: rest) σ k n := by
  cases x with
  | none => exact ri_astore_nN C d hl' hn kk
  | some x => exact ri_astore_n C d hl' hn kk
theorem ri_astoreQ (C : kx_C G l p e R s m args below meth c cc own nL ret nm hh) {i : Nat} {x : Option Nat} {lv' : List (Nat × Value)} (d : decode cc pc = .ok (.astore i, 2)) (hl' : kx_st lv i (va_rf x) = lv') (hn : i < nL) (kk : kx_V G l p e R s m args below meth c nL Q (pc + 2) lv' rest σ k n) : kx_V G l p e R s m args below meth c nL Q pc lv (va_rf x :: rest) σ k n := by
  cases x with
  | none => exact ri_astoreN C d hl' hn kk
  | some x => exact ri_astore C d hl' hn kk
theorem ri_iinc (C : kx_C G l p e R s m args below meth c cc own nL ret nm hh) {i : Nat} {z : Int} {x v : Int32} {lv' : List (Nat × Value)} (d : decode cc pc = .ok (.iinc i z, 3)) (h : kx_lk lv i = some (.int x)) (hv : x + Int32.ofInt z = v) (hl' : kx_st lv i (.int v) = lv') (hn : i < nL) (kk : kx_V G l p e R s m args below meth c nL Q (pc + 3) lv' rest σ k n) : kx_V G l p e R s m args below meth c nL Q pc lv rest σ k n := by
  intro H locs ls hw hS hl
  obtain ⟨q, hq⟩ := kx_lk_mem h
  exact lv_iinc C.hx C.hb d hl hq hv hn rfl (fun ls h => kk H locs ls hw hS (by subst hl'; exact kx_st_has h))
theorem ri_iadd (C : kx_C G l p e R s m args below meth c cc own nL ret nm hh) {x y : Int32} (d : decode cc pc = .ok (.iadd, 1))  (kk : kx_V G l p e R s m args below meth c nL Q (pc + 1) lv (.int (x + y) :: rest) σ k n) : kx_V G l p e R s m args below meth c nL Q pc lv (.int y :: .int x :: rest) σ k n :=
  fun H locs ls hw hS hl => lv_iadd C.hx C.hb d (kk H locs ls hw hS hl)
theorem ri_isub (C : kx_C G l p e R s m args below meth c cc own nL ret nm hh) {x y : Int32} (d : decode cc pc = .ok (.isub, 1))  (kk : kx_V G l p e R s m args below meth c nL Q (pc + 1) lv (.int (x - y) :: rest) σ k n) : kx_V G l p e R s m args below meth c nL Q pc lv (.int y :: .int x :: rest) σ k n :=
  fun H locs ls hw hS hl => lv_isub C.hx C.hb d (kk H locs ls hw hS hl)
theorem ri_imul (C : kx_C G l p e R s m args below meth c cc own nL ret nm hh) {x y : Int32} (d : decode cc pc = .ok (.imul, 1))  (kk : kx_V G l p e R s m args below meth c nL Q (pc + 1) lv (.int (x * y) :: rest) σ k n) : kx_V G l p e R s m args below meth c nL Q pc lv (.int y :: .int x :: rest) σ k n :=
  fun H locs ls hw hS hl => lv_imul C.hx C.hb d (kk H locs ls hw hS hl)
theorem ri_iand (C : kx_C G l p e R s m args below meth c cc own nL ret nm hh) {x y : Int32} (d : decode cc pc = .ok (.iand, 1))  (kk : kx_V G l p e R s m args below meth c nL Q (pc + 1) lv (.int (x &&& y) :: rest) σ k n) : kx_V G l p e R s m args below meth c nL Q pc lv (.int y :: .int x :: rest) σ k n :=
  fun H locs ls hw hS hl => lv_iand C.hx C.hb d (kk H locs ls hw hS hl)
theorem ri_ior (C : kx_C G l p e R s m args below meth c cc own nL ret nm hh) {x y : Int32} (d : decode cc pc = .ok (.ior, 1))  (kk : kx_V G l p e R s m args below meth c nL Q (pc + 1) lv (.int (x ||| y) :: rest) σ k n) : kx_V G l p e R s m args below meth c nL Q pc lv (.int y :: .int x :: rest) σ k n :=
  fun H locs ls hw hS hl => lv_ior C.hx C.hb d (kk H locs ls hw hS hl)
theorem ri_ixor (C : kx_C G l p e R s m args below meth c cc own nL ret nm hh) {x y : Int32} (d : decode cc pc = .ok (.ixor, 1))  (kk : kx_V G l p e R s m args below meth c nL Q (pc + 1) lv (.int (x ^^^ y) :: rest) σ k n) : kx_V G l p e R s m args below meth c nL Q pc lv (.int y :: .int x :: rest) σ k n :=
  fun H locs ls hw hS hl => lv_ixor C.hx C.hb d (kk H locs ls hw hS hl)
theorem ri_ladd (C : kx_C G l p e R s m args below meth c cc own nL ret nm hh) {x y : Int64} (d : decode cc pc = .ok (.ladd, 1))  (kk : kx_V G l p e R s m args below meth c nL Q (pc + 1) lv (.long (x + y) :: rest) σ k n) : kx_V G l p e R s m args below meth c nL Q pc lv (.long y :: .long x :: rest) σ k n :=
  fun H locs ls hw hS hl => lv_ladd C.hx C.hb d (kk H locs ls hw hS hl)
theorem ri_lsub (C : kx_C G l p e R s m args below meth c cc own nL ret nm hh) {x y : Int64} (d : decode cc pc = .ok (.lsub, 1))  (kk : kx_V G l p e R s m args below meth c nL Q (pc + 1) lv (.long (x - y) :: rest) σ k n) : kx_V G l p e R s m args below meth c nL Q pc lv (.long y :: .long x :: rest) σ k n :=
  fun H locs ls hw hS hl => lv_lsub C.hx C.hb d (kk H locs ls hw hS hl)
theorem ri_lmul (C : kx_C G l p e R s m args below meth c cc own nL ret nm hh) {x y : Int64} (d : decode cc pc = .ok (.lmul, 1))  (kk : kx_V G l p e R s m args below meth c nL Q (pc + 1) lv (.long (x * y) :: rest) σ k n) : kx_V G l p e R s m args below meth c nL Q pc lv (.long y :: .long x :: rest) σ k n :=
  fun H locs ls hw hS hl => lv_lmul C.hx C.hb d (kk H locs ls hw hS hl)
theorem ri_land (C : kx_C G l p e R s m args below meth c cc own nL ret nm hh) {x y : Int64} (d : decode cc pc = .ok (.land, 1))  (kk : kx_V G l p e R s m args below meth c nL Q (pc + 1) lv (.long (x &&& y) :: rest) σ k n) : kx_V G l p e R s m args below meth c nL Q pc lv (.long y :: .long x :: rest) σ k n :=
  fun H locs ls hw hS hl => lv_land C.hx C.hb d (kk H locs ls hw hS hl)
theorem ri_lor (C : kx_C G l p e R s m args below meth c cc own nL ret nm hh) {x y : Int64} (d : decode cc pc = .ok (.lor, 1))  (kk : kx_V G l p e R s m args below meth c nL Q (pc + 1) lv (.long (x ||| y) :: rest) σ k n) : kx_V G l p e R s m args below meth c nL Q pc lv (.long y :: .long x :: rest) σ k n :=
  fun H locs ls hw hS hl => lv_lor C.hx C.hb d (kk H locs ls hw hS hl)
theorem ri_lxor (C : kx_C G l p e R s m args below meth c cc own nL ret nm hh) {x y : Int64} (d : decode cc pc = .ok (.lxor, 1))  (kk : kx_V G l p e R s m args below meth c nL Q (pc + 1) lv (.long (x ^^^ y) :: rest) σ k n) : kx_V G l p e R s m args below meth c nL Q pc lv (.long y :: .long x :: rest) σ k n :=
  fun H locs ls hw hS hl => lv_lxor C.hx C.hb d (kk H locs ls hw hS hl)
theorem ri_idiv (C : kx_C G l p e R s m args below meth c cc own nL ret nm hh) {x y : Int32} (d : decode cc pc = .ok (.idiv, 1)) (hne : ¬ y = 0) (kk : kx_V G l p e R s m args below meth c nL Q (pc + 1) lv (.int (x / y) :: rest) σ k n) : kx_V G l p e R s m args below meth c nL Q pc lv (.int y :: .int x :: rest) σ k n :=
  fun H locs ls hw hS hl => lv_idiv C.hx C.hb d hne (kk H locs ls hw hS hl)
theorem ri_irem (C : kx_C G l p e R s m args below meth c cc own nL ret nm hh) {x y : Int32} (d : decode cc pc = .ok (.irem, 1)) (hne : ¬ y = 0) (kk : kx_V G l p e R s m args below meth c nL Q (pc + 1) lv (.int (x - x / y * y) :: rest) σ k n) : kx_V G l p e R s m args below meth c nL Q pc lv (.int y :: .int x :: rest) σ k n :=
  fun H locs ls hw hS hl => lv_irem C.hx C.hb d hne (kk H locs ls hw hS hl)
theorem ri_ineg (C : kx_C G l p e R s m args below meth c cc own nL ret nm hh) {x : Int32} (d : decode cc pc = .ok (.ineg, 1))  (kk : kx_V G l p e R s m args below meth c nL Q (pc + 1) lv (.int (-x) :: rest) σ k n) : kx_V G l p e R s m args below meth c nL Q pc lv (.int x :: rest) σ k n :=
  fun H locs ls hw hS hl => lv_ineg C.hx C.hb d (kk H locs ls hw hS hl)
theorem ri_ishl (C : kx_C G l p e R s m args below meth c cc own nL ret nm hh) {x y : Int32} (d : decode cc pc = .ok (.ishl, 1))  (kk : kx_V G l p e R s m args below meth c nL Q (pc + 1) lv (.int (x <<< (y &&& 31)) :: rest) σ k n) : kx_V G l p e R s m args below meth c nL Q pc lv (.int y :: .int x :: rest) σ k n :=
  fun H locs ls hw hS hl => lv_ishl C.hx C.hb d (kk H locs ls hw hS hl)
theorem ri_ishr (C : kx_C G l p e R s m args below meth c cc own nL ret nm hh) {x y : Int32} (d : decode cc pc = .ok (.ishr, 1))  (kk : kx_V G l p e R s m args below meth c nL Q (pc + 1) lv (.int (x >>> (y &&& 31)) :: rest) σ k n) : kx_V G l p e R s m args below meth c nL Q pc lv (.int y :: .int x :: rest) σ k n :=
  fun H locs ls hw hS hl => lv_ishr C.hx C.hb d (kk H locs ls hw hS hl)
theorem ri_iushr (C : kx_C G l p e R s m args below meth c cc own nL ret nm hh) {x y v : Int32} (d : decode cc pc = .ok (.iushr, 1)) (hv : (x.toUInt32 >>> (y.toUInt32 &&& Int32.toUInt32 31)).toInt32 = v) (kk : kx_V G l p e R s m args below meth c nL Q (pc + 1) lv (.int v :: rest) σ k n) : kx_V G l p e R s m args below meth c nL Q pc lv (.int y :: .int x :: rest) σ k n :=
  fun H locs ls hw hS hl => lv_iushr C.hx C.hb d hv (kk H locs ls hw hS hl)
theorem ri_i2l (C : kx_C G l p e R s m args below meth c cc own nL ret nm hh) {x : Int32} {v : Int64} (d : decode cc pc = .ok (.i2l, 1)) (hv : x.toInt64 = v) (kk : kx_V G l p e R s m args below meth c nL Q (pc + 1) lv (.long v :: rest) σ k n) : kx_V G l p e R s m args below meth c nL Q pc lv (.int x :: rest) σ k n :=
  fun H locs ls hw hS hl => lv_i2l C.hx C.hb d hv (kk H locs ls hw hS hl)
theorem ri_l2i (C : kx_C G l p e R s m args below meth c cc own nL ret nm hh) {x : Int64} {v : Int32} (d : decode cc pc = .ok (.l2i, 1)) (hv : x.toInt32 = v) (kk : kx_V G l p e R s m args below meth c nL Q (pc + 1) lv (.int v :: rest) σ k n) : kx_V G l p e R s m args below meth c nL Q pc lv (.long x :: rest) σ k n :=
  fun H locs ls hw hS hl => lv_l2i C.hx C.hb d hv (kk H locs ls hw hS hl)
theorem ri_i2b (C : kx_C G l p e R s m args below meth c cc own nL ret nm hh) {x v : Int32} (d : decode cc pc = .ok (.i2b, 1)) (hv : x.toInt8.toInt32 = v) (kk : kx_V G l p e R s m args below meth c nL Q (pc + 1) lv (.int v :: rest) σ k n) : kx_V G l p e R s m args below meth c nL Q pc lv (.int x :: rest) σ k n :=
  fun H locs ls hw hS hl => lv_i2b C.hx C.hb d hv (kk H locs ls hw hS hl)
theorem ri_i2s (C : kx_C G l p e R s m args below meth c cc own nL ret nm hh) {x v : Int32} (d : decode cc pc = .ok (.i2s, 1)) (hv : x.toInt16.toInt32 = v) (kk : kx_V G l p e R s m args below meth c nL Q (pc + 1) lv (.int v :: rest) σ k n) : kx_V G l p e R s m args below meth c nL Q pc lv (.int x :: rest) σ k n :=
  fun H locs ls hw hS hl => lv_i2s C.hx C.hb d hv (kk H locs ls hw hS hl)
theorem ri_i2c (C : kx_C G l p e R s m args below meth c cc own nL ret nm hh) {x v : Int32} (d : decode cc pc = .ok (.i2c, 1)) (hv : (x.toUInt32 % 65536).toInt32 = v) (kk : kx_V G l p e R s m args below meth c nL Q (pc + 1) lv (.int v :: rest) σ k n) : kx_V G l p e R s m args below meth c nL Q pc lv (.int x :: rest) σ k n :=
  fun H locs ls hw hS hl => lv_i2c C.hx C.hb d hv (kk H locs ls hw hS hl)
theorem ri_dup (C : kx_C G l p e R s m args below meth c cc own nL ret nm hh) {va : Value} (d : decode cc pc = .ok (.dup, 1)) (ha : va.category = 1) (kk : kx_V G l p e R s m args below meth c nL Q (pc + 1) lv (va :: va :: rest) σ k n) : kx_V G l p e R s m args below meth c nL Q pc lv (va :: rest) σ k n :=
  fun H locs ls hw hS hl => lv_dup C.hx C.hb d ha (kk H locs ls hw hS hl)
theorem ri_pop (C : kx_C G l p e R s m args below meth c cc own nL ret nm hh) {va : Value} (d : decode cc pc = .ok (.pop, 1)) (ha : va.category = 1) (kk : kx_V G l p e R s m args below meth c nL Q (pc + 1) lv (rest) σ k n) : kx_V G l p e R s m args below meth c nL Q pc lv (va :: rest) σ k n :=
  fun H locs ls hw hS hl => lv_pop C.hx C.hb d ha (kk H locs ls hw hS hl)
theorem ri_dup_x1 (C : kx_C G l p e R s m args below meth c cc own nL ret nm hh) {va vb : Value} (d : decode cc pc = .ok (.dup_x1, 1)) (ha : va.category = 1) (hb : vb.category = 1) (kk : kx_V G l p e R s m args below meth c nL Q (pc + 1) lv (va :: vb :: va :: rest) σ k n) : kx_V G l p e R s m args below meth c nL Q pc lv (va :: vb :: rest) σ k n :=
  fun H locs ls hw hS hl => lv_dup_x1 C.hx C.hb d ha hb (kk H locs ls hw hS hl)
theorem ri_dup2 (C : kx_C G l p e R s m args below meth c cc own nL ret nm hh) {va vb : Value} (d : decode cc pc = .ok (.dup2, 1)) (ha : va.category = 1) (hb : vb.category = 1) (kk : kx_V G l p e R s m args below meth c nL Q (pc + 1) lv (va :: vb :: va :: vb :: rest) σ k n) : kx_V G l p e R s m args below meth c nL Q pc lv (va :: vb :: rest) σ k n :=
  fun H locs ls hw hS hl => lv_dup2_11 C.hx C.hb d ha hb (kk H locs ls hw hS hl)
theorem ri_aconst_null (C : kx_C G l p e R s m args below meth c cc own nL ret nm hh)  (d : decode cc pc = .ok (.aconst_null, 1))  (kk : kx_V G l p e R s m args below meth c nL Q (pc + 1) lv (.null :: rest) σ k n) : kx_V G l p e R s m args below meth c nL Q pc lv (rest) σ k n :=
  fun H locs ls hw hS hl => lv_null C.hx C.hb d (kk H locs ls hw hS hl)
theorem ri_lcmp (C : kx_C G l p e R s m args below meth c cc own nL ret nm hh) {x y : Int64} (d : decode cc pc = .ok (.lcmp, 1))  (kk : kx_V G l p e R s m args below meth c nL Q (pc + 1) lv (.int (kx_lc x y) :: rest) σ k n) : kx_V G l p e R s m args below meth c nL Q pc lv (.long y :: .long x :: rest) σ k n :=
  fun H locs ls hw hS hl => W.lcmp C.hx C.hb d (kk H locs ls hw hS hl)
theorem ri_fconst0 (C : kx_C G l p e R s m args below meth c cc own nL ret nm hh)  (d : decode cc pc = .ok (.fconst 0, 1))  (kk : kx_V G l p e R s m args below meth c nL Q (pc + 1) lv (.float 0 :: rest) σ k n) : kx_V G l p e R s m args below meth c nL Q pc lv (rest) σ k n :=
  fun H locs ls hw hS hl => lv_fconst0 C.hx C.hb d (kk H locs ls hw hS hl)
theorem ri_dconst0 (C : kx_C G l p e R s m args below meth c cc own nL ret nm hh)  (d : decode cc pc = .ok (.dconst 0, 1))  (kk : kx_V G l p e R s m args below meth c nL Q (pc + 1) lv (.double 0 :: rest) σ k n) : kx_V G l p e R s m args below meth c nL Q pc lv (rest) σ k n :=
  fun H locs ls hw hS hl => lv_dconst0 C.hx C.hb d (kk H locs ls hw hS hl)
theorem ri_i2f (C : kx_C G l p e R s m args below meth c cc own nL ret nm hh) {x : Int32} (d : decode cc pc = .ok (.i2f, 1))  (kk : kx_V G l p e R s m args below meth c nL Q (pc + 1) lv (.float (FP.i2f x) :: rest) σ k n) : kx_V G l p e R s m args below meth c nL Q pc lv (.int x :: rest) σ k n :=
  fun H locs ls hw hS hl => lv_i2f C.hx C.hb d (kk H locs ls hw hS hl)
theorem ri_i2d (C : kx_C G l p e R s m args below meth c cc own nL ret nm hh) {x : Int32} (d : decode cc pc = .ok (.i2d, 1))  (kk : kx_V G l p e R s m args below meth c nL Q (pc + 1) lv (.double (FP.i2d x) :: rest) σ k n) : kx_V G l p e R s m args below meth c nL Q pc lv (.int x :: rest) σ k n :=
  fun H locs ls hw hS hl => lv_i2d C.hx C.hb d (kk H locs ls hw hS hl)
theorem ri_fdiv (C : kx_C G l p e R s m args below meth c cc own nL ret nm hh) {x y : UInt32} (d : decode cc pc = .ok (.fdiv, 1)) (hne : vf_n32 (FP.fdiv x y)) (kk : kx_V G l p e R s m args below meth c nL Q (pc + 1) lv (.float (FP.fdiv x y) :: rest) σ k n) : kx_V G l p e R s m args below meth c nL Q pc lv (.float y :: .float x :: rest) σ k n :=
  fun H locs ls hw hS hl => lv_fdiv C.hx C.hb d hne (kk H locs ls hw hS hl)
theorem ri_ddiv (C : kx_C G l p e R s m args below meth c cc own nL ret nm hh) {x y : UInt64} (d : decode cc pc = .ok (.ddiv, 1)) (hne : vf_n64 (FP.ddiv x y)) (kk : kx_V G l p e R s m args below meth c nL Q (pc + 1) lv (.double (FP.ddiv x y) :: rest) σ k n) : kx_V G l p e R s m args below meth c nL Q pc lv (.double y :: .double x :: rest) σ k n :=
  fun H locs ls hw hS hl => lv_ddiv C.hx C.hb d hne (kk H locs ls hw hS hl)
theorem ri_f2d (C : kx_C G l p e R s m args below meth c cc own nL ret nm hh) {x : UInt32} (d : decode cc pc = .ok (.f2d, 1)) (hne : vf_n64 (FP.f2d x)) (kk : kx_V G l p e R s m args below meth c nL Q (pc + 1) lv (.double (FP.f2d x) :: rest) σ k n) : kx_V G l p e R s m args below meth c nL Q pc lv (.float x :: rest) σ k n :=
  fun H locs ls hw hS hl => lv_f2d C.hx C.hb d hne (kk H locs ls hw hS hl)
theorem ri_dcmp (C : kx_C G l p e R s m args below meth c cc own nL ret nm hh) {x y : UInt64} {op : CmpOp} (d : decode cc pc = .ok (.dcmp op, 1))  (kk : kx_V G l p e R s m args below meth c nL Q (pc + 1) lv (.int (Op.cmpValue (FP.dcmp x y) op) :: rest) σ k n) : kx_V G l p e R s m args below meth c nL Q pc lv (.double y :: .double x :: rest) σ k n :=
  fun H locs ls hw hS hl => lv_dcmp C.hx C.hb d (kk H locs ls hw hS hl)
theorem ri_if_eq (C : kx_C G l p e R s m args below meth c cc own nL ret nm hh) {x : Int32} {off : Int} (tgt : Nat) (d : decode cc pc = .ok (.ifCond .eq off, 3)) (ht : (pc : Int) + off = (tgt : Int)) (kt : (x = 0) → kx_V G l p e R s m args below meth c nL Q tgt lv rest σ k n) (kf : ¬ (x = 0) → kx_V G l p e R s m args below meth c nL Q (pc + 3) lv rest σ k n) : kx_V G l p e R s m args below meth c nL Q pc lv (.int x :: rest) σ k n :=
  fun H locs ls hw hS hl => lv_if_eq C.hx C.hb d ht (fun q => kt q H locs ls hw hS hl) (fun q => kf q H locs ls hw hS hl)
theorem ri_icmp_eq (C : kx_C G l p e R s m args below meth c cc own nL ret nm hh) {x y : Int32} {off : Int} (tgt : Nat) (d : decode cc pc = .ok (.if_icmp .eq off, 3)) (ht : (pc : Int) + off = (tgt : Int)) (kt : (x = y) → kx_V G l p e R s m args below meth c nL Q tgt lv rest σ k n) (kf : ¬ (x = y) → kx_V G l p e R s m args below meth c nL Q (pc + 3) lv rest σ k n) : kx_V G l p e R s m args below meth c nL Q pc lv (.int y :: .int x :: rest) σ k n :=
  fun H locs ls hw hS hl => lv_icmp_eq C.hx C.hb d ht (fun q => kt q H locs ls hw hS hl) (fun q => kf q H locs ls hw hS hl)
theorem ri_if_ne (C : kx_C G l p e R s m args below meth c cc own nL ret nm hh) {x : Int32} {off : Int} (tgt : Nat) (d : decode cc pc = .ok (.ifCond .ne off, 3)) (ht : (pc : Int) + off = (tgt : Int)) (kt : (x ≠ 0) → kx_V G l p e R s m args below meth c nL Q tgt lv rest σ k n) (kf : (x = 0) → kx_V G l p e R s m args below meth c nL Q (pc + 3) lv rest σ k n) : kx_V G l p e R s m args below meth c nL Q pc lv (.int x :: rest) σ k n :=
  fun H locs ls hw hS hl => lv_if_ne C.hx C.hb d ht (fun q => kt q H locs ls hw hS hl) (fun q => kf q H locs ls hw hS hl)
theorem ri_icmp_ne (C : kx_C G l p e R s m args below meth c cc own nL ret nm hh) {x y : Int32} {off : Int} (tgt : Nat) (d : decode cc pc = .ok (.if_icmp .ne off, 3)) (ht : (pc : Int) + off = (tgt : Int)) (kt : (x ≠ y) → kx_V G l p e R s m args below meth c nL Q tgt lv rest σ k n) (kf : (x = y) → kx_V G l p e R s m args below meth c nL Q (pc + 3) lv rest σ k n) : kx_V G l p e R s m args below meth c nL Q pc lv (.int y :: .int x :: rest) σ k n :=
  fun H locs ls hw hS hl => lv_icmp_ne C.hx C.hb d ht (fun q => kt q H locs ls hw hS hl) (fun q => kf q H locs ls hw hS hl)
theorem ri_if_lt (C : kx_C G l p e R s m args below meth c cc own nL ret nm hh) {x : Int32} {off : Int} (tgt : Nat) (d : decode cc pc = .ok (.ifCond .lt off, 3)) (ht : (pc : Int) + off = (tgt : Int)) (kt : (x < 0) → kx_V G l p e R s m args below meth c nL Q tgt lv rest σ k n) (kf : ¬ (x < 0) → kx_V G l p e R s m args below meth c nL Q (pc + 3) lv rest σ k n) : kx_V G l p e R s m args below meth c nL Q pc lv (.int x :: rest) σ k n :=
  fun H locs ls hw hS hl => lv_if_lt C.hx C.hb d ht (fun q => kt q H locs ls hw hS hl) (fun q => kf q H locs ls hw hS hl)
theorem ri_icmp_lt (C : kx_C G l p e R s m args below meth c cc own nL ret nm hh) {x y : Int32} {off : Int} (tgt : Nat) (d : decode cc pc = .ok (.if_icmp .lt off, 3)) (ht : (pc : Int) + off = (tgt : Int)) (kt : (x < y) → kx_V G l p e R s m args below meth c nL Q tgt lv rest σ k n) (kf : ¬ (x < y) → kx_V G l p e R s m args below meth c nL Q (pc + 3) lv rest σ k n) : kx_V G l p e R s m args below meth c nL Q pc lv (.int y :: .int x :: rest) σ k n :=
  fun H locs ls hw hS hl => lv_icmp_lt C.hx C.hb d ht (fun q => kt q H locs ls hw hS hl) (fun q => kf q H locs ls hw hS hl)
theorem ri_if_ge (C : kx_C G l p e R s m args below meth c cc own nL ret nm hh) {x : Int32} {off : Int} (tgt : Nat) (d : decode cc pc = .ok (.ifCond .ge off, 3)) (ht : (pc : Int) + off = (tgt : Int)) (kt : (0 ≤ x) → kx_V G l p e R s m args below meth c nL Q tgt lv rest σ k n) (kf : ¬ (0 ≤ x) → kx_V G l p e R s m args below meth c nL Q (pc + 3) lv rest σ k n) : kx_V G l p e R s m args below meth c nL Q pc lv (.int x :: rest) σ k n :=
  fun H locs ls hw hS hl => lv_if_ge C.hx C.hb d ht (fun q => kt q H locs ls hw hS hl) (fun q => kf q H locs ls hw hS hl)
theorem ri_icmp_ge (C : kx_C G l p e R s m args below meth c cc own nL ret nm hh) {x y : Int32} {off : Int} (tgt : Nat) (d : decode cc pc = .ok (.if_icmp .ge off, 3)) (ht : (pc : Int) + off = (tgt : Int)) (kt : (y ≤ x) → kx_V G l p e R s m args below meth c nL Q tgt lv rest σ k n) (kf : ¬ (y ≤ x) → kx_V G l p e R s m args below meth c nL Q (pc + 3) lv rest σ k n) : kx_V G l p e R s m args below meth c nL Q pc lv (.int y :: .int x :: rest) σ k n :=
  fun H locs ls hw hS hl => lv_icmp_ge C.hx C.hb d ht (fun q => kt q H locs ls hw hS hl) (fun q => kf q H locs ls hw hS hl)
theorem ri_if_gt (C : kx_C G l p e R s m args below meth c cc own nL ret nm hh) {x : Int32} {off : Int} (tgt : Nat) (d : decode cc pc = .ok (.ifCond .gt off, 3)) (ht : (pc : Int) + off = (tgt : Int)) (kt : (0 < x) → kx_V G l p e R s m args below meth c nL Q tgt lv rest σ k n) (kf : ¬ (0 < x) → kx_V G l p e R s m args below meth c nL Q (pc + 3) lv rest σ k n) : kx_V G l p e R s m args below meth c nL Q pc lv (.int x :: rest) σ k n :=
  fun H locs ls hw hS hl => lv_if_gt C.hx C.hb d ht (fun q => kt q H locs ls hw hS hl) (fun q => kf q H locs ls hw hS hl)
theorem ri_icmp_gt (C : kx_C G l p e R s m args below meth c cc own nL ret nm hh) {x y : Int32} {off : Int} (tgt : Nat) (d : decode cc pc = .ok (.if_icmp .gt off, 3)) (ht : (pc : Int) + off = (tgt : Int)) (kt : (y < x) → kx_V G l p e R s m args below meth c nL Q tgt lv rest σ k n) (kf : ¬ (y < x) → kx_V G l p e R s m args below meth c nL Q (pc + 3) lv rest σ k n) : kx_V G l p e R s m args below meth c nL Q pc lv (.int y :: .int x :: rest) σ k n :=
  fun H locs ls hw hS hl => lv_icmp_gt C.hx C.hb d ht (fun q => kt q H locs ls hw hS hl) (fun q => kf q H locs ls hw hS hl)
theorem ri_if_le (C : kx_C G l p e R s m args below meth c cc own nL ret nm hh) {x : Int32} {off : Int} (tgt : Nat) (d : decode cc pc = .ok (.ifCond .le off, 3)) (ht : (pc : Int) + off = (tgt : Int)) (kt : (x ≤ 0) → kx_V G l p e R s m args below meth c nL Q tgt lv rest σ k n) (kf : ¬ (x ≤ 0) → kx_V G l p e R s m args below meth c nL Q (pc + 3) lv rest σ k n) : kx_V G l p e R s m args below meth c nL Q pc lv (.int x :: rest) σ k n :=
  fun H locs ls hw hS hl => lv_if_le C.hx C.hb d ht (fun q => kt q H locs ls hw hS hl) (fun q => kf q H locs ls hw hS hl)
theorem ri_icmp_le (C : kx_C G l p e R s m args below meth c cc own nL ret nm hh) {x y : Int32} {off : Int} (tgt : Nat) (d : decode cc pc = .ok (.if_icmp .le off, 3)) (ht : (pc : Int) + off = (tgt : Int)) (kt : (x ≤ y) → kx_V G l p e R s m args below meth c nL Q tgt lv rest σ k n) (kf : ¬ (x ≤ y) → kx_V G l p e R s m args below meth c nL Q (pc + 3) lv rest σ k n) : kx_V G l p e R s m args below meth c nL Q pc lv (.int y :: .int x :: rest) σ k n :=
  fun H locs ls hw hS hl => lv_icmp_le C.hx C.hb d ht (fun q => kt q H locs ls hw hS hl) (fun q => kf q H locs ls hw hS hl)
theorem ri_acmp_eqQ (C : kx_C G l p e R s m args below meth c cc own nL ret nm hh) {rx ry : Option Nat} {off : Int} (tgt : Nat) (d : decode cc pc = .ok (.if_acmp .eq off, 3)) (ht : (pc : Int) + off = (tgt : Int)) (kt : (rx = ry) → kx_V G l p e R s m args below meth c nL Q tgt lv rest σ k n) (kf : ¬ (rx = ry) → kx_V G l p e R s m args below meth c nL Q (pc + 3) lv rest σ k n) : kx_V G l p e R s m args below meth c nL Q pc lv (va_rf ry :: va_rf rx :: rest) σ k n :=
  fun H locs ls hw hS hl => lv_acmp_eq C.hx C.hb d ht (fun q => kt q H locs ls hw hS hl) (fun q => kf q H locs ls hw hS hl)
theorem ri_acmp_neQ (C : kx_C G l p e R s m args below meth c cc own nL ret nm hh) {rx ry : Option Nat} {off : Int} (tgt : Nat) (d : decode cc pc = .ok (.if_acmp .ne off, 3)) (ht : (pc : Int) + off = (tgt : Int)) (kt : (rx ≠ ry) → kx_V G l p e R s m args below meth c nL Q tgt lv rest σ k n) (kf : (rx = ry) → kx_V G l p e R s m args below meth c nL Q (pc + 3) lv rest σ k n) : kx_V G l p e R s m args below meth c nL Q pc lv (va_rf ry :: va_rf rx :: rest) σ k n :=
  fun H locs ls hw hS hl => lv_acmp_ne C.hx C.hb d ht (fun q => kt q H locs ls hw hS hl) (fun q => kf q H locs ls hw hS hl)
theorem ri_goto (C : kx_C G l p e R s m args below meth c cc own nL ret nm hh) {off : Int} (tgt : Nat) (d : decode cc pc = .ok (.goto off, 3)) (ht : (pc : Int) + off = (tgt : Int)) (kk : kx_V G l p e R s m args below meth c nL Q tgt lv rest σ k n) : kx_V G l p e R s m args below meth c nL Q pc lv rest σ k n :=
  fun H locs ls hw hS hl => lv_goto C.hx C.hb d ht (kk H locs ls hw hS hl)
theorem ri_ifnull (C : kx_C G l p e R s m args below meth c cc own nL ret nm hh) {x : Nat} {off : Int} (d : decode cc pc = .ok (.ifnull off, 3)) (kk : kx_V G l p e R s m args below meth c nL Q (pc + 3) lv rest σ k n) : kx_V G l p e R s m args below meth c nL Q pc lv (.ref x :: rest) σ k n :=
  fun H locs ls hw hS hl => lv_ifnull C.hx C.hb d (kk H locs ls hw hS hl)
theorem ri_ifnonnullN (C : kx_C G l p e R s m args below meth c cc own nL ret nm hh)  {off : Int} (d : decode cc pc = .ok (.ifnonnull off, 3)) (kk : kx_V G l p e R s m args below meth c nL Q (pc + 3) lv rest σ k n) : kx_V G l p e R s m args below meth c nL Q pc lv (.null :: rest) σ k n :=
  fun H locs ls hw hS hl => lv_ifnonnullN C.hx C.hb d (kk H locs ls hw hS hl)
theorem ri_ifnonnull (C : kx_C G l p e R s m args below meth c cc own nL ret nm hh) {x : Nat} {off : Int} (tgt : Nat) (d : decode cc pc = .ok (.ifnonnull off, 3)) (ht : (pc : Int) + off = (tgt : Int)) (kk : kx_V G l p e R s m args below meth c nL Q tgt lv rest σ k n) : kx_V G l p e R s m args below meth c nL Q pc lv (.ref x :: rest) σ k n :=
  fun H locs ls hw hS hl => lv_ifnonnull C.hx C.hb d ht (kk H locs ls hw hS hl)
theorem ri_ifnullN (C : kx_C G l p e R s m args below meth c cc own nL ret nm hh)  {off : Int} (tgt : Nat) (d : decode cc pc = .ok (.ifnull off, 3)) (ht : (pc : Int) + off = (tgt : Int)) (kk : kx_V G l p e R s m args below meth c nL Q tgt lv rest σ k n) : kx_V G l p e R s m args below meth c nL Q pc lv (.null :: rest) σ k n :=
  fun H locs ls hw hS hl => lv_ifnullN C.hx C.hb d ht (kk H locs ls hw hS hl)
theorem ri_ifnullQ (C : kx_C G l p e R s m args below meth c cc own nL ret nm hh) {x : Option Nat} {off : Int} (tgt : Nat) (d : decode cc pc = .ok (.ifnull off, 3)) (ht : (pc : Int) + off = (tgt : Int)) (kt : x = none → kx_V G l p e R s m args below meth c nL Q tgt lv rest σ k n) (kf : ∀ y, x = some y → kx_V G l p e R s m args below meth c nL Q (pc + 3) lv rest σ k n) : kx_V G l p e R s m args below meth c nL Q pc lv (va_rf x :: rest) σ k n := by
  cases x with
  | none => exact ri_ifnullN C tgt d ht (kt rfl)
  | some y => exact ri_ifnull C d (kf y rfl)
theorem ri_ifnonnullQ (C : kx_C G l p e R s m args below meth c cc own nL ret nm hh) {x : Option Nat} {off : Int} (tgt : Nat) (d : decode cc pc = .ok (.ifnonnull off, 3)) (ht : (pc : Int) + off = (tgt : Int)) (kt : ∀ y, x = some y → kx_V G l p e R s m args below meth c nL Q tgt lv rest σ k n) (kf : x = none → kx_V G l p e R s m args below meth c nL Q (pc + 3) lv rest σ k n) : kx_V G l p e R s m args below meth c nL Q pc lv (va_rf x :: rest) σ k n := by
  cases x with
  | none => exact ri_ifnonnullN C d (kf rfl)
  | some y => exact ri_ifnonnull C tgt d ht (kt y rfl)
theorem ri_ldc (C : kx_C G l p e R s m args below meth c cc own nL ret nm hh) {index : Nat} {v : Int32} (d : decode cc pc = .ok (.ldc index, 2)) (h : Cond.constant own index v ∈ lw_all) (kk : kx_V G l p e R s m args below meth c nL Q (pc + 2) lv (.int v :: rest) σ k n) : kx_V G l p e R s m args below meth c nL Q pc lv rest σ k n :=
  fun H locs ls hw hS hl => lv_ldc C.hx C.hb C.ow (C.ts _ h) d (kk H locs ls hw hS hl)
theorem ri_ldc2 (C : kx_C G l p e R s m args below meth c cc own nL ret nm hh) {index : Nat} {v : Int64} (d : decode cc pc = .ok (.ldc2_w index, 3)) (h : Cond.constantLong own index v ∈ lw_all) (kk : kx_V G l p e R s m args below meth c nL Q (pc + 3) lv (.long v :: rest) σ k n) : kx_V G l p e R s m args below meth c nL Q pc lv rest σ k n :=
  fun H locs ls hw hS hl => lv_ldc2 C.hx C.hb C.ow (C.ts _ h) d (kk H locs ls hw hS hl)
theorem ri_topi {x : Int32} (kk : ∀ y : Int32, y = x → kx_V G l p e R s m args below meth c nL Q pc lv (.int y :: rest) σ k n) : kx_V G l p e R s m args below meth c nL Q pc lv (.int x :: rest) σ k n := kk x rfl
/-! fields -/
/-- the field k of the objects numbered ci, as the entry 'index' of own's pool names it -/
def kx_Fd (own : String) (index ci kf : Nat) (ty : FieldType) (fin ne : Bool) : Prop :=
  ∃ (C : String) (T : u_T) (N : Nat) (ty0 : Nat → FieldType) (ref : String), kx_cl[ci]? = some (C, T, N) ∧ kf < N ∧ (∀ w ∈ u_ws C T N, w ∈ lw_all) ∧ (∀ j, j < N → parseFieldDescriptor (T j).2.2.1 = some (ty0 j)) ∧ ty0 kf = ty ∧
    (∀ a, a < N → ∀ b, b < N → a ≠ b → (T a).2.1 ≠ (T b).2.1 ∨ ((T a).2.2.2 = true ∧ (T b).2.2.2 = true ∧ (T a).1 ≠ (T b).1)) ∧ (T kf).2.2.2 = fin ∧ (fin = true → (T kf).1 = own) ∧
    (ref = (T kf).1 ∨ Cond.sameField ref (T kf).1 (T kf).2.1 (T kf).2.2.1 ∈ lw_tbl ∧ Cond.sameField ref (T kf).1 (T kf).2.1 (T kf).2.2.1 ∈ lw_all) ∧ ((ne = false ∧ Cond.fieldLink own index ref (T kf).2.1 (T kf).2.2.1 ∈ lw_all) ∨ ∃ host, ne = true ∧ Cond.fieldLinkNest own index ref (T kf).2.1 (T kf).2.2.1 host ∈ lw_tbl)
theorem kx_apart {s : State} {args : Array Value} {Cn : String} {T : u_T} {N : Nat} {cC : ClassId} {iS : Nat → Nat} (hts : ∀ w ∈ lw_all, w.before args s = true) (hin : ∀ w ∈ u_ws Cn T N, w ∈ lw_all) {ty : Nat → FieldType} (hty : ∀ k, k < N → parseFieldDescriptor (T k).2.2.1 = some (ty k))
    (hnm : ∀ a, a < N → ∀ b, b < N → a ≠ b → (T a).2.1 ≠ (T b).2.1 ∨ ((T a).2.2.2 = true ∧ (T b).2.2.2 = true ∧ (T a).1 ≠ (T b).1)) (hK : u_Kn s Cn T N cC iS) : ∀ x y, x < N → y < N → x ≠ y → iS x ≠ iS y := by
  intro x y hx hy hne
  obtain ⟨hS, -⟩ := hK
  obtain ⟨_, _, _, fa, hia, ea⟩ := hS x hx
  obtain ⟨_, _, _, fb, hib, eb⟩ := hS y hy
  rw [← ea, ← eb]
  rcases hnm x hx y hy hne with h | ⟨h1, h2, h3⟩
  · refine u_apart (u_lays hts hin hx) (u_lays hts hin hy) hia hib ?_
    rw [(State.fieldFound?_type hia (hty x hx)).1, (State.fieldFound?_type hib (hty y hy)).1]
    exact h
  · have l1 := hts _ (hin _ (u_in_lay hx))
    have l2 := hts _ (hin _ (u_in_lay hy))
    unfold u_lay at l1 l2
    rw [if_pos h1] at l1
    rw [if_pos h2] at l2
    obtain ⟨c1, k1, d1, kd1, i1, f1, p1, -, q1, -, -, -, r1, -, z1, t1, n1, -⟩ := Cond.laysFinal_spec l1
    obtain ⟨c2, k2, d2, kd2, i2, f2, p2, -, q2, -, -, -, r2, -, z2, t2, n2, -⟩ := Cond.laysFinal_spec l2
    cases q1.symm.trans hia
    cases q2.symm.trans hib
    cases p1.symm.trans p2
    intro e
    rw [e] at t1
    cases t1.symm.trans t2
    obtain ⟨ka, a1, a2⟩ := Vm.findClass_spec r1
    obtain ⟨kb, b1, b2⟩ := Vm.findClass_spec r2
    cases (State.fieldFound?_class hia).symm.trans a1
    cases (State.fieldFound?_class hib).symm.trans b1
    exact h3 (by rw [← a2, ← b2, ← n1, ← n2])
theorem kx_St.nw (h : kx_St G s) {w : Cond} (hw : w ∈ lw_tbl) (g : kx_isNw w = true) : va_Nw w s := h.2.2.2.2.2.2.1 w (kx_nw_in hw g)
/-- the same, to read it -/
def kx_Fr' (own : String) (index ci kf : Nat) (ty : FieldType) (ne : Bool) : Prop :=
  ∃ (C : String) (T : u_T) (N : Nat) (ty0 : Nat → FieldType) (ref : String), kx_cl[ci]? = some (C, T, N) ∧ kf < N ∧ (∀ w ∈ u_ws C T N, w ∈ lw_all) ∧ (∀ j, j < N → parseFieldDescriptor (T j).2.2.1 = some (ty0 j)) ∧ ty0 kf = ty ∧
    (∀ a, a < N → ∀ b, b < N → a ≠ b → (T a).2.1 ≠ (T b).2.1 ∨ ((T a).2.2.2 = true ∧ (T b).2.2.2 = true ∧ (T a).1 ≠ (T b).1)) ∧
    (ref = (T kf).1 ∨ Cond.sameField ref (T kf).1 (T kf).2.1 (T kf).2.2.1 ∈ lw_tbl ∧ Cond.sameField ref (T kf).1 (T kf).2.1 (T kf).2.2.1 ∈ lw_all) ∧ ((ne = false ∧ Cond.fieldLink own index ref (T kf).2.1 (T kf).2.2.1 ∈ lw_all) ∨ ∃ host, ne = true ∧ Cond.fieldLinkNest own index ref (T kf).2.1 (T kf).2.2.1 host ∈ lw_tbl)
theorem kx_Fd.rd {own : String} {index ci kf : Nat} {ty : FieldType} {fin ne : Bool} (h : kx_Fd own index ci kf ty fin ne) : kx_Fr' own index ci kf ty ne := by
  obtain ⟨Cn, T, N, ty0, ref, h1, h2, h3, h4, h5, h6, -, -, h9, h10⟩ := h
  exact ⟨Cn, T, N, ty0, ref, h1, h2, h3, h4, h5, h6, h9, h10⟩
theorem ri_getf (C : kx_C G l p e R s m args below meth c cc own nL ret nm hh) {index ci kf : Nat} {ty : FieldType} {ne : Bool} {t : kx_T} {a : Nat} {fs : List Value} {v : Value} (d : decode cc pc = .ok (.getfield index, 3)) (hF : kx_Fr' own index ci kf ty ne) (ho : σ t = some (a, .inr (ci, fs))) (hv : fs[kf]? = some v)
    (kk : kx_V G l p e R s m args below meth c nL Q (pc + 3) lv (v :: rest) σ k n) : kx_V G l p e R s m args below meth c nL Q pc lv (.ref a :: rest) σ k n := by
  intro H locs ls hw hS hl
  obtain ⟨Cn, T, N, ty0, ref, hc, hk, hin, -, -, -, hsame, hlink⟩ := hF
  have hs : ∀ x, s.fieldFound? (T kf).1 (T kf).2.1 (T kf).2.2.1 = some x → s.fieldFound? ref (T kf).2.1 (T kf).2.2.1 = some x := by
    intro x hx
    rcases hsame with h | h
    · rw [h]; exact hx
    · exact u_same (C.ts _ h.2) x hx
  rcases hlink with ⟨hne, h⟩ | ⟨host, hne, h⟩
  · exact va_get C.hx C.hb C.ts hin C.ow C.hK (hw.at ho) 0 rfl hc kf hk (C.ts _ h) hs hv d (kk H locs ls hw hS hl)
  · exact va_getN C.hx C.hb C.ts hin C.ow C.hK (hw.at ho) 0 rfl hc kf hk ((C.st.nw h rfl).use rfl) hs hv d (kk H locs ls hw hS hl)
/-- a field of an object that nobody writes -/
theorem ri_getfO (C : kx_C G l p e R s m args below meth c cc own nL ret nm hh) {index a : Nat} {o fn ds : String} {v : Value} (d : decode cc pc = .ok (.getfield index, 3)) (hO : va_OF o fn ds v a (kx_A G) s s.heap) (hlink : Cond.fieldLink own index o fn ds ∈ lw_all)
    (kk : kx_V G l p e R s m args below meth c nL Q (pc + 3) lv (v :: rest) σ k n) : kx_V G l p e R s m args below meth c nL Q pc lv (.ref a :: rest) σ k n :=
  fun H locs ls hw hS hl => vk_getf C.hx C.hb hO hS C.ow (C.ts _ hlink) (fun _ h => h) d (kk H locs ls hw hS hl)
theorem ri_putf (C : kx_C G l p e R s m args below meth c cc own nL ret nm hh) {index ci kf : Nat} {ty : FieldType} {fin ne : Bool} {t : kx_T} {a : Nat} {fs fs' : List Value} {v : Value} (d : decode cc pc = .ok (.putfield index, 3)) (hF : kx_Fd own index ci kf ty fin ne) (hfin : fin = true → nm = "<init>" ∧ ne = false) (ho : σ t = some (a, .inr (ci, fs))) (hlen : kf < fs.length) (hn : narrow ty v = v) (hfit : fits ty v = true) (hfs : fs.set kf v = fs')
    (kk : ∀ τ, τ = kx_up σ t (a, .inr (ci, fs')) → kx_V G l p e R s m args below meth c nL Q (pc + 3) lv rest τ k n) : kx_V G l p e R s m args below meth c nL Q pc lv (v :: .ref a :: rest) σ k n := by
  intro H locs ls hw hS hl
  subst hfs
  obtain ⟨Cn, T, N, ty0, ref, hc, hk, hin, hty, hty1, hnm, hfi, hdecl, hsame, hlink⟩ := hF
  have hs : ∀ x, s.fieldFound? (T kf).1 (T kf).2.1 (T kf).2.2.1 = some x → s.fieldFound? ref (T kf).2.1 (T kf).2.2.1 = some x := by
    intro x hx
    rcases hsame with h | h
    · rw [h]; exact hx
    · exact u_same (C.ts _ h.2) x hx
  obtain ⟨⟨ws, hP, hD, hm⟩, hu⟩ := id hw
  obtain ⟨q0, he⟩ := List.getElem?_of_mem (hm t _ ho)
  have hap := kx_apart C.ts hin hty hnm (C.hK.1 ci _ hc)
  obtain ⟨r, h1, cell, q1, q2, q3, q4⟩ := hP q0 _ he
  have hr : r = (Cn, T, N) := Option.some.inj (h1.symm.trans hc)
  subst hr
  obtain ⟨hSl, hfc, kC, hkC, hkind⟩ := C.hK.1 ci _ hc
  obtain ⟨cf, kf', fi, f, hi, hsl⟩ := hSl kf hk
  have hlay := C.ts _ (hin _ (u_in_lay hk))
  unfold u_lay at hlay
  have hst := (u_facts hfc hkC (u_lays C.ts hin hk) hi).1
  have hpd : parseFieldDescriptor (T kf).2.2.1 = some ty := by rw [hty kf hk, hty1]
  have fin' : ∀ (H' : Heap), H'[a]? = some (cell.setSlot f.slot v) → H'.size = H.size → (∀ q, q ≠ a → H'[q]? = H[q]?) → W p l e R s m args below meth c H' (locs ++ [⟨a, f.slot⟩]) k n Q (F0 m (pc + 3) ls rest) := by
    intro H' e1 e2 e3
    rw [hsl] at e1 ⊢
    have hP' := hP.set hD he (e := .inr (ci, fs.set kf v)) ⟨_, hc, t_OB.to (V := updV (vp_V fs) kf v) ⟨_, e1, q2, q3, t_set q4 hap hk v⟩ (fun j _ => vp_updV_set hlen v j)⟩ e3
    exact kk _ rfl H' _ ls (kx_wo.set hm hu he ho hP' (hD.set he)) (hS.put e2 e3 (hD.2 q0 _ he)) hl
  cases hfb : fin with
  | false =>
    rw [hfb] at hfi
    rw [if_neg (by rw [hfi]; decide)] at hlay
    have h6 := u_store hfc hkC hkind hlay hi hpd hn hfit
    rcases hlink with ⟨hne, h⟩ | ⟨host, hne, h⟩
    · exact W.putK C.hx C.hb (f := f) ⟨C.ow, C.ts _ h, ⟨_, _, _, hs _ hi⟩, hst⟩ (by rw [q2]; exact h6) q1 q3 (by rw [hsl]; exact k2_hasslot (q4 kf hk)) rfl rfl d fin'
    · exact va_WputK C.hx C.hb (f := f) C.ow ((C.st.nw h rfl).use rfl) (hs _ hi) hst (by rw [q2]; exact h6) q1 q3 (by rw [hsl]; exact k2_hasslot (q4 kf hk)) rfl rfl d fin'
  | true =>
    rw [hfb] at hfi
    rw [if_pos hfi] at hlay
    have hcf : m.cls = cf := by
      obtain ⟨_, _, c', _, _, _, -, -, hf', -, -, -, hown2, -⟩ := Cond.laysFinal_spec hlay
      have e1 : c' = cf := by have := hi.symm.trans hf'; simp at this; exact this.1.symm
      rw [hdecl hfb] at hown2
      rw [← e1]; exact Option.some.inj (C.ow.symm.trans hown2)
    have h6 := u_fits hfc hkC hkind (Or.inr hlay) hi hpd hn hfit
    have hin2 : meth.name = "<init>" := by rw [C.na]; exact (hfin hfb).1
    rcases hlink with ⟨hne, h⟩ | ⟨host, hne, h⟩
    · exact W.putFinK C.hx C.hb C.ow (C.ts _ h) (hs _ hi) hst hcf hin2 (by rw [q2]; exact h6) q1 q3 (by rw [hsl]; exact k2_hasslot (q4 kf hk)) rfl rfl d fin'
    · rw [(hfin hfb).2] at hne; cases hne

/-! objects and arrays made -/
def kx_Nk (own : String) (index ci N : Nat) (fs : List Value) : Prop :=
  ∃ (Cn : String) (T : u_T) (ty0 : Nat → FieldType), kx_cl[ci]? = some (Cn, T, N) ∧ (∀ w ∈ u_ws Cn T N, w ∈ lw_all) ∧ (∀ j, j < N → parseFieldDescriptor (T j).2.2.1 = some (ty0 j)) ∧ Cond.classLink own index Cn ∈ lw_all ∧ Cond.instantiable Cn N ∈ lw_all ∧ Cond.initialized Cn ∈ lw_all ∧ ∀ j, j < N → defaultValue (ty0 j) = vp_V fs j
theorem ri_new (C : kx_C G l p e R s m args below meth c cc own nL ret nm hh) {index ci N : Nat} {fs : List Value} (t : kx_T) (d : decode cc pc = .ok (.new index, 3)) (hN : kx_Nk own index ci N fs) (hk : k + 1 ≤ R.cells) (hn : n + N ≤ R.slots)
    (kk : ∀ (q : Nat) (τ : kx_H), τ = kx_up σ t (q, .inr (ci, fs)) → (∀ u x, σ u = some x → x.1 ≠ q) → kx_V G l p e R s m args below meth c nL Q (pc + 3) lv (.ref q :: rest) τ (k + 1) (n + N)) : kx_V G l p e R s m args below meth c nL Q pc lv rest σ k n := by
  intro H locs ls hw hS hl
  obtain ⟨Cn, T, ty0, hc, hin, hty, h1, h2, h3, h4⟩ := hN
  obtain ⟨⟨ws, hP, hD, hm⟩, hu⟩ := hw
  refine va_new C.hx C.hb C.ts hin ty0 hty C.ow (C.ts _ h1) (C.ts _ h2) (C.ts _ h3) C.hK hP hD hS C.hA hc h4 hk hn d fun q H1 hP1 hD1 hS1 => ?_
  obtain ⟨g1, g2⟩ := kx_wo.push (t := t) hm hu hP1 hD1
  exact kk q _ rfl g2 H1 locs ls g1 hS1 hl
abbrev kx_ai (G : kx_G) (n : Nat) (f : Nat → Int32) : va_E := .inl (G.2.1 0, n, .inl f)
abbrev kx_ab (G : kx_G) (n : Nat) (f : Nat → Int32) : va_E := .inl (G.2.1 1, n, .inl f)
abbrev kx_as (G : kx_G) (n : Nat) (f : Nat → Int32) : va_E := .inl (G.2.1 2, n, .inl f)
abbrev kx_aq (G : kx_G) (n : Nat) (f : Nat → Option Nat) : va_E := .inl (G.2.1 3, n, .inr (.inr (.inr (.inr f))))
abbrev kx_al (G : kx_G) (n : Nat) (f : Nat → Int64) : va_E := .inl (G.2.1 4, n, .inr (.inl f))
abbrev kx_am (G : kx_G) (n : Nat) (f : Nat → Option Nat) : va_E := .inl (G.2.1 5, n, .inr (.inr (.inr (.inr f))))
theorem kx_ac {s : State} {D : va_G} {cl : List vw_C} {tys : List (ClassId × FieldType)} {ty : FieldType} {cA cB : ClassId} {i : Nat} (hK : va_K D cl tys s) (hi : tys[i]? = some (cB, ty)) (hK2 : va_K D cl (tys ++ [(cA, ty)]) s) : cA = cB := by
  have h1 := (hK.2 i _ hi).2
  have h2 := (hK2.2 tys.length (cA, ty) (by simp)).2
  cases ty with
  | object Cn =>
    obtain ⟨_, _, -, -, -, e1⟩ := h1
    obtain ⟨_, _, -, -, -, e2⟩ := h2
    exact Option.some.inj (e2.symm.trans e1)
  | _ => exact Option.some.inj (h2.symm.trans h1)
theorem ri_newa (C : kx_C G l p e R s m args below meth c cc own nL ret nm hh) {atype : ArrayType} (i : Nat) (ty : FieldType) (a0 : vp_A) (t : kx_T) {z : Int32} (N' : Nat) (d : decode cc pc = .ok (.newarray atype, 2)) (hty : newarray.typeOf atype = ty) (hi : (kx_tys G.2.1)[i]? = some (G.2.1 i, ty)) (harr : Cond.arrayClass ty ∈ lw_all) (ha : ∀ cA : ClassId, vp_cell cA a0 = arrV cA N' (fun _ => defaultValue ty)) (hz : z = nI N') (hN : N' ≤ 1000000 ∧ N' * componentBytes ty ≤ 536870912)
    (hk : k + 1 ≤ R.cells) (hn : n + N' ≤ R.slots) (kk : ∀ (q : Nat) (τ : kx_H), τ = kx_up σ t (q, .inl (G.2.1 i, a0)) → (∀ u x, σ u = some x → x.1 ≠ q) → kx_V G l p e R s m args below meth c nL Q (pc + 2) lv (.ref q :: rest) τ (k + 1) (n + N')) : kx_V G l p e R s m args below meth c nL Q pc lv (.int z :: rest) σ k n := by
  intro H locs ls hw hS hl
  obtain ⟨⟨ws, hP, hD, hm⟩, hu⟩ := hw
  subst hz
  refine va_newa C.hx C.hb (atype := atype) (by rw [hty]; exact C.ts _ harr) hty C.hK hP hD hS C.hA ha (nI_pos (by omega)) (nI_clamp (by omega)) hN.2 hk hn d fun q cA H1 hK1 hP1 hD1 hS1 => ?_
  have hcA : cA = G.2.1 i := kx_ac C.hK hi hK1
  subst hcA
  obtain ⟨g1, g2⟩ := kx_wo.push (t := t) hm hu hP1 hD1
  exact kk q _ rfl g2 H1 locs ls g1 hS1 hl
theorem ri_newq (C : kx_C G l p e R s m args below meth c cc own nL ret nm hh) {index : Nat} (t : kx_T) {z : Int32} (N' : Nat) (d : decode cc pc = .ok (.anewarray index, 3)) (hlk : Cond.classLink own index "java/lang/Object" ∈ lw_all) (hz : z = nI N') (hN : N' ≤ 1000000)
    (hk : k + 1 ≤ R.cells) (hn : n + N' ≤ R.slots) (kk : ∀ (q : Nat) (τ : kx_H), τ = kx_up σ t (q, kx_aq G N' (fun _ => none)) → (∀ u x, σ u = some x → x.1 ≠ q) → kx_V G l p e R s m args below meth c nL Q (pc + 3) lv (.ref q :: rest) τ (k + 1) (n + N')) : kx_V G l p e R s m args below meth c nL Q pc lv (.int z :: rest) σ k n := by
  intro H locs ls hw hS hl
  obtain ⟨⟨ws, hP, hD, hm⟩, hu⟩ := hw
  subst hz
  refine va_newq C.hx C.hb C.ow (C.ts _ hlk) C.st.2.2.2.2.2.2.2.2.2.2.2.2.2.2 C.hK hP hD hS C.hA (nI_pos (by omega)) (nI_clamp (by omega)) (by omega) hk hn d fun q cA H1 hK1 hP1 hD1 hS1 => ?_
  have hcA : cA = G.2.1 3 := kx_ac (i := 3) C.hK rfl hK1
  subst hcA
  obtain ⟨g1, g2⟩ := kx_wo.push (t := t) hm hu hP1 hD1
  exact kk q _ rfl g2 H1 locs ls g1 hS1 hl
theorem kx_in {i : Int32} {j N : Nat} (hi : i = nI j) (hj : j < N ∧ N < 2147483648) : vp_in i N ∧ i.toNatClampNeg = j := by
  subst hi
  exact ⟨vp_in_nI hj.1 (by omega), nI_clamp (by omega)⟩
theorem ri_iaload (C : kx_C G l p e R s m args below meth c cc own nL ret nm hh) {t : kx_T} {a N j : Nat} {f : Nat → Int32} {i : Int32} (d : decode cc pc = .ok (.iaload, 1)) (ho : σ t = some (a, kx_ai G N f)) (hi : i = nI j) (hj : j < N ∧ N < 2147483648)
    (kk : kx_V G l p e R s m args below meth c nL Q (pc + 1) lv (.int (f j) :: rest) σ k n) : kx_V G l p e R s m args below meth c nL Q pc lv (.int i :: .ref a :: rest) σ k n := by
  intro H locs ls hw hS hl
  obtain ⟨h1, h2⟩ := kx_in hi hj
  refine va_iald C.hx C.hb C.hK (hw.at ho) 0 0 rfl rfl h1 d ?_
  rw [h2]
  exact kk H locs ls hw hS hl
theorem ri_baload (C : kx_C G l p e R s m args below meth c cc own nL ret nm hh) {t : kx_T} {a N j : Nat} {f : Nat → Int32} {i : Int32} (d : decode cc pc = .ok (.baload, 1)) (ho : σ t = some (a, kx_ab G N f)) (hi : i = nI j) (hj : j < N ∧ N < 2147483648)
    (kk : kx_V G l p e R s m args below meth c nL Q (pc + 1) lv (.int (f j) :: rest) σ k n) : kx_V G l p e R s m args below meth c nL Q pc lv (.int i :: .ref a :: rest) σ k n := by
  intro H locs ls hw hS hl
  obtain ⟨h1, h2⟩ := kx_in hi hj
  refine va_bald C.hx C.hb C.hK (hw.at ho) 0 1 rfl rfl h1 d ?_
  rw [h2]
  exact kk H locs ls hw hS hl
theorem ri_saload (C : kx_C G l p e R s m args below meth c cc own nL ret nm hh) {t : kx_T} {a N j : Nat} {f : Nat → Int32} {i : Int32} (d : decode cc pc = .ok (.saload, 1)) (ho : σ t = some (a, kx_as G N f)) (hi : i = nI j) (hj : j < N ∧ N < 2147483648)
    (kk : kx_V G l p e R s m args below meth c nL Q (pc + 1) lv (.int (f j) :: rest) σ k n) : kx_V G l p e R s m args below meth c nL Q pc lv (.int i :: .ref a :: rest) σ k n := by
  intro H locs ls hw hS hl
  obtain ⟨h1, h2⟩ := kx_in hi hj
  refine va_sald C.hx C.hb C.hK (hw.at ho) 0 2 rfl rfl h1 d ?_
  rw [h2]
  exact kk H locs ls hw hS hl
theorem ri_aaload (C : kx_C G l p e R s m args below meth c cc own nL ret nm hh) {t : kx_T} {a N j : Nat} {f : Nat → Option Nat} {i : Int32} (d : decode cc pc = .ok (.aaload, 1)) (ho : σ t = some (a, kx_aq G N f)) (hi : i = nI j) (hj : j < N ∧ N < 2147483648)
    (kk : kx_V G l p e R s m args below meth c nL Q (pc + 1) lv (va_rf (f j) :: rest) σ k n) : kx_V G l p e R s m args below meth c nL Q pc lv (.int i :: .ref a :: rest) σ k n := by
  intro H locs ls hw hS hl
  obtain ⟨h1, h2⟩ := kx_in hi hj
  refine va_aldq C.hx C.hb C.hK (hw.at ho) 0 3 rfl rfl h1 d ?_
  rw [h2]
  exact kk H locs ls hw hS hl
theorem ri_laload (C : kx_C G l p e R s m args below meth c cc own nL ret nm hh) {t : kx_T} {a N j : Nat} {f : Nat → Int64} {i : Int32} (d : decode cc pc = .ok (.laload, 1)) (ho : σ t = some (a, kx_al G N f)) (hi : i = nI j) (hj : j < N ∧ N < 2147483648)
    (kk : kx_V G l p e R s m args below meth c nL Q (pc + 1) lv (.long (f j) :: rest) σ k n) : kx_V G l p e R s m args below meth c nL Q pc lv (.int i :: .ref a :: rest) σ k n := by
  intro H locs ls hw hS hl
  obtain ⟨h1, h2⟩ := kx_in hi hj
  refine va_lald C.hx C.hb C.hK (hw.at ho) 0 4 rfl rfl h1 d ?_
  rw [h2]
  exact kk H locs ls hw hS hl
theorem ri_iastore (C : kx_C G l p e R s m args below meth c cc own nL ret nm hh) {t : kx_T} {a N j : Nat} {f : Nat → Int32} {i : Int32} {x : Int32} (d : decode cc pc = .ok (.iastore, 1)) (ho : σ t = some (a, kx_ai G N f))  (hi : i = nI j) (hj : j < N ∧ N < 2147483648)
    (kk : ∀ τ, τ = kx_up σ t (a, kx_ai G N (upd f j x)) → kx_V G l p e R s m args below meth c nL Q (pc + 1) lv rest τ k n) : kx_V G l p e R s m args below meth c nL Q pc lv (.int x :: .int i :: .ref a :: rest) σ k n := by
  intro H locs ls hw hS hl
  obtain ⟨h1, h2⟩ := kx_in hi hj
  obtain ⟨⟨ws, hP, hD, hm⟩, hu⟩ := id hw
  obtain ⟨q0, he⟩ := List.getElem?_of_mem (hm t _ ho)
  refine va_iast C.hx C.hb C.hK hP hD hS q0 0 he rfl h1 d fun H1 locs1 hP1 hD1 hS1 => ?_
  rw [h2] at hP1 hD1
  exact kk _ rfl H1 locs1 ls (kx_wo.set hm hu he ho hP1 hD1) hS1 hl
theorem ri_bastore (C : kx_C G l p e R s m args below meth c cc own nL ret nm hh) {t : kx_T} {a N j : Nat} {f : Nat → Int32} {i : Int32} {x : Int32} (d : decode cc pc = .ok (.bastore, 1)) (ho : σ t = some (a, kx_ab G N f))  (hi : i = nI j) (hj : j < N ∧ N < 2147483648)
    (kk : ∀ τ, τ = kx_up σ t (a, kx_ab G N (upd f j (vp_nar .byte x))) → kx_V G l p e R s m args below meth c nL Q (pc + 1) lv rest τ k n) : kx_V G l p e R s m args below meth c nL Q pc lv (.int x :: .int i :: .ref a :: rest) σ k n := by
  intro H locs ls hw hS hl
  obtain ⟨h1, h2⟩ := kx_in hi hj
  obtain ⟨⟨ws, hP, hD, hm⟩, hu⟩ := id hw
  obtain ⟨q0, he⟩ := List.getElem?_of_mem (hm t _ ho)
  refine va_bast C.hx C.hb C.hK hP hD hS q0 1 he rfl h1 d fun H1 locs1 hP1 hD1 hS1 => ?_
  rw [h2] at hP1 hD1
  exact kk _ rfl H1 locs1 ls (kx_wo.set hm hu he ho hP1 hD1) hS1 hl
theorem ri_sastore (C : kx_C G l p e R s m args below meth c cc own nL ret nm hh) {t : kx_T} {a N j : Nat} {f : Nat → Int32} {i : Int32} {x : Int32} (d : decode cc pc = .ok (.sastore, 1)) (ho : σ t = some (a, kx_as G N f))  (hi : i = nI j) (hj : j < N ∧ N < 2147483648)
    (kk : ∀ τ, τ = kx_up σ t (a, kx_as G N (upd f j (vp_nar .short x))) → kx_V G l p e R s m args below meth c nL Q (pc + 1) lv rest τ k n) : kx_V G l p e R s m args below meth c nL Q pc lv (.int x :: .int i :: .ref a :: rest) σ k n := by
  intro H locs ls hw hS hl
  obtain ⟨h1, h2⟩ := kx_in hi hj
  obtain ⟨⟨ws, hP, hD, hm⟩, hu⟩ := id hw
  obtain ⟨q0, he⟩ := List.getElem?_of_mem (hm t _ ho)
  refine va_sast C.hx C.hb C.hK hP hD hS q0 2 he rfl h1 d fun H1 locs1 hP1 hD1 hS1 => ?_
  rw [h2] at hP1 hD1
  exact kk _ rfl H1 locs1 ls (kx_wo.set hm hu he ho hP1 hD1) hS1 hl
theorem ri_lastore (C : kx_C G l p e R s m args below meth c cc own nL ret nm hh) {t : kx_T} {a N j : Nat} {f : Nat → Int64} {i : Int32} {x : Int64} (d : decode cc pc = .ok (.lastore, 1)) (ho : σ t = some (a, kx_al G N f))  (hi : i = nI j) (hj : j < N ∧ N < 2147483648)
    (kk : ∀ τ, τ = kx_up σ t (a, kx_al G N (vp_updL f j x)) → kx_V G l p e R s m args below meth c nL Q (pc + 1) lv rest τ k n) : kx_V G l p e R s m args below meth c nL Q pc lv (.long x :: .int i :: .ref a :: rest) σ k n := by
  intro H locs ls hw hS hl
  obtain ⟨h1, h2⟩ := kx_in hi hj
  obtain ⟨⟨ws, hP, hD, hm⟩, hu⟩ := id hw
  obtain ⟨q0, he⟩ := List.getElem?_of_mem (hm t _ ho)
  refine va_last C.hx C.hb C.hK hP hD hS q0 4 he rfl h1 d fun H1 locs1 hP1 hD1 hS1 => ?_
  rw [h2] at hP1 hD1
  exact kk _ rfl H1 locs1 ls (kx_wo.set hm hu he ho hP1 hD1) hS1 hl
theorem ri_aastore (C : kx_C G l p e R s m args below meth c cc own nL ret nm hh) {t : kx_T} {a N j : Nat} {f : Nat → Option Nat} {i : Int32} {x ci : Nat} {r : vw_C} {u : kx_T} {fs : List Value} (d : decode cc pc = .ok (.aastore, 1)) (ho : σ t = some (a, kx_aq G N f)) (hx : σ u = some (x, .inr (ci, fs))) (hc : kx_cl[ci]? = some r) (hca : Cond.castable r.1 "java/lang/Object" ∈ lw_tbl) (hi : i = nI j) (hj : j < N ∧ N < 2147483648)
    (kk : ∀ τ, τ = kx_up σ t (a, kx_aq G N (va_up f j (some x))) → kx_V G l p e R s m args below meth c nL Q (pc + 1) lv rest τ k n) : kx_V G l p e R s m args below meth c nL Q pc lv (.ref x :: .int i :: .ref a :: rest) σ k n := by
  intro H locs ls hw hS hl
  obtain ⟨h1, h2⟩ := kx_in hi hj
  obtain ⟨⟨ws, hP, hD, hm⟩, hu⟩ := id hw
  obtain ⟨q0, he⟩ := List.getElem?_of_mem (hm t _ ho)
  obtain ⟨qk, hv⟩ := List.getElem?_of_mem (hm u _ hx)
  refine va_astqO C.hx C.hb C.hK hP hD hS q0 3 qk ci (r := r) he rfl (C.st.nw hca rfl) hv hc h1 d fun H1 locs1 hP1 hD1 hS1 => ?_
  rw [h2] at hP1 hD1
  exact kk _ rfl H1 locs1 ls (kx_wo.set hm hu he ho hP1 hD1) hS1 hl
theorem ri_aastoreN (C : kx_C G l p e R s m args below meth c cc own nL ret nm hh) {t : kx_T} {a N j : Nat} {f : Nat → Option Nat} {i : Int32}  (d : decode cc pc = .ok (.aastore, 1)) (ho : σ t = some (a, kx_aq G N f))  (hi : i = nI j) (hj : j < N ∧ N < 2147483648)
    (kk : ∀ τ, τ = kx_up σ t (a, kx_aq G N (va_up f j none)) → kx_V G l p e R s m args below meth c nL Q (pc + 1) lv rest τ k n) : kx_V G l p e R s m args below meth c nL Q pc lv (.null :: .int i :: .ref a :: rest) σ k n := by
  intro H locs ls hw hS hl
  obtain ⟨h1, h2⟩ := kx_in hi hj
  obtain ⟨⟨ws, hP, hD, hm⟩, hu⟩ := id hw
  obtain ⟨q0, he⟩ := List.getElem?_of_mem (hm t _ ho)
  refine va_astqN C.hx C.hb C.hK hP hD hS q0 3 he rfl h1 d fun H1 locs1 hP1 hD1 hS1 => ?_
  rw [h2] at hP1 hD1
  exact kk _ rfl H1 locs1 ls (kx_wo.set hm hu he ho hP1 hD1) hS1 hl
theorem ri_alen (C : kx_C G l p e R s m args below meth c cc own nL ret nm hh) {t : kx_T} {a i : Nat} {x : vp_A} {ty : FieldType} (d : decode cc pc = .ok (.arraylength, 1)) (hi : (kx_tys G.2.1)[i]? = some (G.2.1 i, ty)) (ho : σ t = some (a, .inl (G.2.1 i, x)))
    (kk : kx_V G l p e R s m args below meth c nL Q (pc + 1) lv (.int (nI x.1) :: rest) σ k n) : kx_V G l p e R s m args below meth c nL Q pc lv (.ref a :: rest) σ k n :=
  fun H locs ls hw hS hl => va_alen C.hx C.hb C.hK (hw.at ho) 0 i rfl hi rfl d (kk H locs ls hw hS hl)
/-! the static things -/
theorem ri_gets (C : kx_C G l p e R s m args below meth c cc own nL ret nm hh) {index : Nat} {x : String × String × String × Value} (d : decode cc pc = .ok (.getstatic index, 3)) (hx : x ∈ kx_zs G.2.2.2) (hlk : Cond.fieldLink own index x.1 x.2.1 x.2.2.1 ∈ lw_all)
    (kk : kx_V G l p e R s m args below meth c nL Q (pc + 3) lv (x.2.2.2 :: rest) σ k n) : kx_V G l p e R s m args below meth c nL Q pc lv rest σ k n :=
  fun H locs ls hw hS hl => va_gets C.hx C.hb (C.st.1 x hx) hS C.ow (C.ts _ hlk) (fun _ h => h) d (kk H locs ls hw hS hl)
theorem ri_ldcS (C : kx_C G l p e R s m args below meth c cc own nL ret nm hh) {index : Nat} (i : Nat) {x : String × Nat × String × List Int32 × Int32} (d : decode cc pc = .ok (.ldc index, 2)) (hx : kx_sk[i]? = some x) (h1 : x.1 = own) (h2 : x.2.1 = index)
    (kk : kx_V G l p e R s m args below meth c nL Q (pc + 2) lv (.ref (G.2.2.2 (20 + i)) :: rest) σ k n) : kx_V G l p e R s m args below meth c nL Q pc lv rest σ k n := by
  intro H locs ls hw hS hl
  have hZ := (C.st.2.2.2.2.2.1 (i, x) hx).1
  subst h1; subst h2
  exact va_ldcS C.hx C.hb C.ow hZ d (kk H locs ls hw hS hl)
/-- an element of an array of bytes that nobody writes -/
theorem ri_tb (C : kx_C G l p e R s m args below meth c cc own nL ret nm hh) {a N j : Nat} {f : Nat → Value} {i : Int32} (d : decode cc pc = .ok (.baload, 1)) (hT : va_T .byte a N f (kx_A G) s s.heap) (hi : i = nI j) (hj : j < N ∧ N < 2147483648)
    (kk : kx_V G l p e R s m args below meth c nL Q (pc + 1) lv (f j :: rest) σ k n) : kx_V G l p e R s m args below meth c nL Q pc lv (.int i :: .ref a :: rest) σ k n := by
  intro H locs ls hw hS hl
  obtain ⟨h1, h2⟩ := kx_in hi hj
  exact va_tb C.hx C.hb hT hS h1 (by rw [h2]) d (kk H locs ls hw hS hl)
theorem ri_tlen (C : kx_C G l p e R s m args below meth c cc own nL ret nm hh) {a N : Nat} {f : Nat → Value} {ty : FieldType} (d : decode cc pc = .ok (.arraylength, 1)) (hT : va_T ty a N f (kx_A G) s s.heap)
    (kk : kx_V G l p e R s m args below meth c nL Q (pc + 1) lv (.int (nI N) :: rest) σ k n) : kx_V G l p e R s m args below meth c nL Q pc lv (.ref a :: rest) σ k n :=
  fun H locs ls hw hS hl => va_tlen C.hx C.hb hT hS rfl d (kk H locs ls hw hS hl)
/-- the object at a is of the class Cn -/
def kx_Rc (G : kx_G) (s : State) (σ : kx_H) (a : Nat) (Cn : String) : Prop := ∀ (H : Heap) (locs : List Loc), kx_wo G σ H → va_S (kx_A G) s.heap H locs → ∃ cell : Cell, H[a]? = some cell ∧ cell.vm.isStatics = false ∧ s.vm.findClass Cn = some cell.cls
theorem kx_rc (C : kx_C G l p e R s m args below meth c cc own nL ret nm hh) {t : kx_T} {a ci : Nat} {fs : List Value} {r : vw_C} (ho : σ t = some (a, .inr (ci, fs))) (hc : kx_cl[ci]? = some r) : kx_Rc G s σ a r.1 :=
  fun H locs hw _ => va_recv C.hK (hw.at ho) hc (q0 := 0) rfl
theorem kx_rcO {a : Nat} {Cn : String} (h : va_O Cn a (kx_A G) s s.heap) : kx_Rc G s σ a Cn := fun H locs _ hS => by
  obtain ⟨cell, h1, h2, h3, -⟩ := h.kept hS.2.1
  exact ⟨cell, h1, h2, h3⟩
theorem ri_cast (C : kx_C G l p e R s m args below meth c cc own nL ret nm hh) {index a : Nat} {Cn nmc : String} (d : decode cc pc = .ok (.checkcast index, 3)) (hlk : Cond.classLink own index nmc ∈ lw_all) (hr : kx_Rc G s σ a Cn) (hc : Cond.castable Cn nmc ∈ lw_tbl)
    (kk : kx_V G l p e R s m args below meth c nL Q (pc + 3) lv (.ref a :: rest) σ k n) : kx_V G l p e R s m args below meth c nL Q pc lv (.ref a :: rest) σ k n :=
  fun H locs ls hw hS hl => va_castY C.hx C.hb C.ow (C.ts _ hlk) (C.st.nw hc rfl) (hr H locs hw hS) d (kk H locs ls hw hS hl)
theorem ri_castE (C : kx_C G l p e R s m args below meth c cc own nL ret nm hh) {index a : Nat} {nmc : String} (d : decode cc pc = .ok (.checkcast index, 3)) (hlk : Cond.classLink own index nmc ∈ lw_all) (hr : kx_Rc G s σ a nmc)
    (kk : kx_V G l p e R s m args below meth c nL Q (pc + 3) lv (.ref a :: rest) σ k n) : kx_V G l p e R s m args below meth c nL Q pc lv (.ref a :: rest) σ k n :=
  fun H locs ls hw hS hl => va_castE C.hx C.hb C.ow (C.ts _ hlk) (hr H locs hw hS) d (kk H locs ls hw hS hl)
theorem ri_inst (C : kx_C G l p e R s m args below meth c cc own nL ret nm hh) {index a : Nat} {Cn nmc : String} (d : decode cc pc = .ok (.instanceof index, 3)) (hlk : Cond.classLink own index nmc ∈ lw_all) (hr : kx_Rc G s σ a Cn) (hc : Cond.castable Cn nmc ∈ lw_tbl)
    (kk : kx_V G l p e R s m args below meth c nL Q (pc + 3) lv (.int 1 :: rest) σ k n) : kx_V G l p e R s m args below meth c nL Q pc lv (.ref a :: rest) σ k n :=
  fun H locs ls hw hS hl => va_instY C.hx C.hb C.ow (C.ts _ hlk) (C.st.nw hc rfl) (hr H locs hw hS) d (kk H locs ls hw hS hl)
theorem ri_instE (C : kx_C G l p e R s m args below meth c cc own nL ret nm hh) {index a : Nat} {nmc : String} (d : decode cc pc = .ok (.instanceof index, 3)) (hlk : Cond.classLink own index nmc ∈ lw_all) (hr : kx_Rc G s σ a nmc)
    (kk : kx_V G l p e R s m args below meth c nL Q (pc + 3) lv (.int 1 :: rest) σ k n) : kx_V G l p e R s m args below meth c nL Q pc lv (.ref a :: rest) σ k n :=
  fun H locs ls hw hS hl => va_instE C.hx C.hb C.ow (C.ts _ hlk) (hr H locs hw hS) d (kk H locs ls hw hS hl)
theorem ri_castN (C : kx_C G l p e R s m args below meth c cc own nL ret nm hh) {index : Nat} (d : decode cc pc = .ok (.checkcast index, 3))
    (kk : kx_V G l p e R s m args below meth c nL Q (pc + 3) lv (.null :: rest) σ k n) : kx_V G l p e R s m args below meth c nL Q pc lv (.null :: rest) σ k n :=
  fun H locs ls hw hS hl => lv_castN C.hx C.hb d (kk H locs ls hw hS hl)
theorem ri_objInit (C : kx_C G l p e R s m args below meth c cc own nL ret nm hh) {index a : Nat} (d : decode cc pc = .ok (.invokespecial index, 3)) (hlk : Cond.methodLink own index objectInit ∈ lw_all) (hin : Cond.instanceMethod objectInit ∈ lw_all) (hco : Cond.code objectInit ⟨#[0xb1]⟩ 1 none ∈ lw_all) (hR : 1 ≤ R.frames ∧ (rest.map fun v => v.category).sum + 12 ≤ R.locals)
    (kk : kx_V G l p e R s m args below meth c nL Q (pc + 3) lv rest σ k n) : kx_V G l p e R s m args below meth c nL Q pc lv (.ref a :: rest) σ k n :=
  fun H locs ls hw hS hl => W.objInit C.hx C.hb C.ow (C.ts _ hlk) (C.ts _ hin) (C.ts _ hco) rfl (by rw [C.ml]; exact hl.1) rfl d hR.1 (by show 2 * 0 + _ + 12 ≤ _; omega) (kk H locs ls hw hS hl)

/-! contracts -/
def kx_Wd (G : kx_G) (σ : kx_H) (U : State) : Prop := kx_wo G σ U.heap ∧ va_K G.1 kx_cl (kx_tys G.2.1) U ∧ kx_St G U ∧ G.2.2.1 ≤ U.heap.size
def kx_Qc (G : kx_G) (P : Option Value → kx_H → Prop) : Array Value → State → Outcome → State → Prop := fun _ st o t => (∃ v τ, o = .returned v ∧ P v τ ∧ kx_wo G τ t.heap) ∧ va_F (kx_A G) st t
def kx_XC (G : kx_G) (X : String → Nat → kx_H → Prop) : String → Addr → State → State → Prop := fun E q st t => (∃ τ, X E q τ ∧ kx_wo G τ t.heap) ∧ va_F (kx_A G) st t
/-- room of f frames: mc cells, ms slots -/
abbrev kx_rm (f mc ms : Nat) : Room := { frames := f, cells := mc, slots := ms, locals := 40 * f }
/-- called with the values as, where the tagged cells are σ: y returns v with the cells τ, 'P v τ'; or it throws the cell at q, of the class E, 'X E q τ' -/
def kx_SP (l : Launch) (G : kx_G) (y : MethodName) (ws : List Cond) (f mc ms : Nat) (as : List Value) (σ : kx_H) (P : Option Value → kx_H → Prop) (X : String → Nat → kx_H → Prop) : Prop :=
  vx_Met l y ws (kx_rm f mc ms) (va_Pc as (kx_Wd G σ)) (kx_Qc G P) (kx_XC G X) mc ms (kx_A G)
/-- nothing is thrown -/
abbrev kx_nx : String → Nat → kx_H → Prop := fun _ _ _ => False
def kx_vl : Option Value → List Value → List Value
  | none, r => r
  | some v, r => v :: r
theorem kx_vl_eq (v : Option Value) (r : List Value) : v.toList ++ r = kx_vl v r := by cases v <;> rfl
theorem kx_SP.mono {l : Launch} {y : MethodName} {ws : List Cond} {f mc ms : Nat} {as : List Value} {P P' : Option Value → kx_H → Prop} {X X' : String → Nat → kx_H → Prop} (h : kx_SP l G y ws f mc ms as σ P X) (hp : ∀ v τ, P v τ → P' v τ) (hx : ∀ E q τ, X E q τ → X' E q τ) : kx_SP l G y ws f mc ms as σ P' X' := by
  refine MetFree.mono h (fun _ _ hp => hp) (fun _ _ _ _ _ _ => trivial) ?_
  intro a st o t _ hq
  rcases hq with ⟨⟨⟨v, τ, e, h1, h2⟩, hF⟩, hL⟩ | ⟨q, e, E, ce, L, ⟨⟨τ, h1, h2⟩, hF⟩, hr⟩
  · exact Or.inl ⟨⟨⟨v, τ, e, hp _ _ h1, h2⟩, hF⟩, hL⟩
  · exact Or.inr ⟨q, e, E, ce, L, ⟨⟨τ, hx _ _ _ h1, h2⟩, hF⟩, hr⟩
theorem kx_Wd.blind {as : List Value} : FrameBlind (va_Pc as (kx_Wd G σ)) := by
  intro a U g mk ⟨h1, h2, h3, h4, h5⟩
  exact ⟨h1, h2, va_K.moved (u := U) (U := U.calling g mk a) (Vm.Alike.refl U.vm) h3, kx_St_Sb.2 U (U.calling g mk a) rfl rfl h4, h5⟩
theorem kx_Wd.to (C : kx_C G l p e R s m args below meth c cc own nL ret nm hh) {H : Heap} {locs : List Loc} (hw : kx_wo G σ H) (hS : va_S (kx_A G) s.heap H locs) (as : List Value) : ∀ U : State, U.heap = H → s.WarmedH U.vm → va_Pc as (kx_Wd G σ) as.toArray U := by
  intro U hU hW
  refine ⟨rfl, by rw [hU]; exact hw, va_K.moved hW.alike C.hK, kx_St_Sb.1 s U hW (fun a h1 h2 => by rw [hU]; exact hS.2.1 a h1 h2) C.st, by rw [hU]; exact Nat.le_trans C.ge hS.1⟩
theorem kx_ofRun {st0 : List Value} {mc ms : Nat} {P : Option Value → kx_H → Prop} {X : String → Nat → kx_H → Prop} {av : Array Value}
    (hr : ∀ (H : Heap) (locs : List Loc) (ls : Array Slot), kx_wo G σ H → va_S (kx_A G) s.heap H locs → lv_has ls nL lv → vx_Run p l e R s m args below meth c H locs k n mc ms (F0 m pc ls st0) rest (kx_Qc G P av) (kx_XC G X) (kx_A G))
    (kn : ∀ v τ, P v τ → kx_V G l p e R s m args below meth c nL Q (pc + 3) lv (kx_vl v rest) τ (k + mc) (n + ms)) (kxx : ∀ E q τ, X E q τ → kx_X G l p e R s m args below meth c nL Q pc lv rest τ (k + mc) (n + ms) E q) : kx_V G l p e R s m args below meth c nL Q pc lv st0 σ k n := by
  intro H locs ls hw hS hl T hT Y
  rcases hr H locs ls hw hS hl T hT Y with ⟨v, st₀, t, T', L, h0, X', hL, e1, e2, ⟨⟨v', τ, hv, hp, hwo⟩, hF⟩, st⟩ | ⟨q, st₀, t, T', L, E, ce, h0, X', hL, e1, e2, ⟨⟨τ, hxp, hwo⟩, hF⟩, hce, hcv, hcl, st⟩
  · cases hv
    obtain ⟨-, -, k3⟩ := vx_keep h0 e1 hS (fun q _ h => h) (fun q h => h) hL hF
    obtain ⟨t2, a1, b1⟩ := kn v τ hp T'.heap (locs ++ L) ls (by rw [e1]; exact hwo) k3 hl T' rfl X'
    refine ⟨t2, st t2 ?_, b1⟩
    rw [kx_vl_eq]
    exact a1
  · obtain ⟨-, -, k3⟩ := vx_keep h0 e1 hS (fun q _ h => h) (fun q h => h) hL hF
    obtain ⟨t2, a1, b1⟩ := kxx E q τ hxp T'.heap (locs ++ L) ls ce (by rw [e1]; exact hwo) k3 hl (by rw [e1]; exact hce) hcv hcl T' rfl X'
    exact ⟨t2, st.trans a1, b1⟩
/-- the tables' words of an instance method, of a static one; b its code, L its locals, r its answer, na its arguments -/
def kx_mi (y : MethodName) (b : ByteArray) (L : Nat) (r : Option FieldType) (na : Nat) : Prop := Cond.instanceMethod y ∈ lw_all ∧ Cond.initialized y.cls ∈ lw_all ∧ Cond.code y b L r ∈ lw_all ∧ y.cls ≠ "java/lang/invoke/MethodHandle" ∧ y.cls ≠ "java/lang/invoke/VarHandle" ∧ (parseMethodDescriptor y.desc).map (fun d => d.parameters.length) = some na
def kx_ms (y : MethodName) (b : ByteArray) (L : Nat) (r : Option FieldType) (na : Nat) : Prop := Cond.static y ∈ lw_all ∧ Cond.initialized y.cls ∈ lw_all ∧ Cond.code y b L r ∈ lw_all ∧ y.cls ≠ "java/lang/invoke/MethodHandle" ∧ y.cls ≠ "java/lang/invoke/VarHandle" ∧ (parseMethodDescriptor y.desc).map (fun d => d.parameters.length) = some na
def kx_miH (y : MethodName) (b : ByteArray) (L : Nat) (r : Option FieldType) (na : Nat) (h : List (Nat × Nat × Nat × Nat)) : Prop := Cond.instanceMethod y ∈ lw_all ∧ Cond.initialized y.cls ∈ lw_all ∧ Cond.codeWith y b L r h ∈ lw_all ∧ y.cls ≠ "java/lang/invoke/MethodHandle" ∧ y.cls ≠ "java/lang/invoke/VarHandle" ∧ (parseMethodDescriptor y.desc).map (fun d => d.parameters.length) = some na
def kx_msH (y : MethodName) (b : ByteArray) (L : Nat) (r : Option FieldType) (na : Nat) (h : List (Nat × Nat × Nat × Nat)) : Prop := Cond.static y ∈ lw_all ∧ Cond.initialized y.cls ∈ lw_all ∧ Cond.codeWith y b L r h ∈ lw_all ∧ y.cls ≠ "java/lang/invoke/MethodHandle" ∧ y.cls ≠ "java/lang/invoke/VarHandle" ∧ (parseMethodDescriptor y.desc).map (fun d => d.parameters.length) = some na
/-- a callee's room fits -/
def kx_fit (R : Room) (f L mc ms k n : Nat) (rest : List Value) : Prop := (f + 1 ≤ R.frames ∧ 8 + (L + 11) + 40 * f ≤ R.locals) ∧ k + mc ≤ R.cells ∧ n + ms ≤ R.slots ∧ (rest.map fun v => v.category).sum ≤ 8
section CALLS
variable {y : MethodName} {b : ByteArray} {L na f mc ms index a : Nat} {r : Option FieldType} {As st0 : List Value} {P : Option Value → kx_H → Prop} {X : String → Nat → kx_H → Prop} {hc : List (Nat × Nat × Nat × Nat)}
theorem ri_callV (C : kx_C G l p e R s m args below meth c cc own nL ret nm hh) (hm : kx_mi y b L r na) (hl : Cond.methodLink own index y ∈ lw_all) (hs : Cond.selects y.cls y y ∈ lw_all) (d : decode cc pc = .ok (.invokevirtual index, 3))
    (hM : kx_SP l G y (ws_ y b L r) f mc ms (.ref a :: As) σ P X) (hst : st0 = As.reverse ++ .ref a :: rest) (hn : As.length = na) (hrc : kx_Rc G s σ a y.cls) (hf : kx_fit R f L mc ms k n rest)
    (kn : ∀ v τ, P v τ → kx_V G l p e R s m args below meth c nL Q (pc + 3) lv (kx_vl v rest) τ (k + mc) (n + ms)) (kxx : ∀ E q τ, X E q τ → kx_X G l p e R s m args below meth c nL Q pc lv rest τ (k + mc) (n + ms) E q) : kx_V G l p e R s m args below meth c nL Q pc lv st0 σ k n := by
  subst hst
  obtain ⟨h1, h2, h3, h4, h5, h6⟩ := hm
  exact kx_ofRun (fun H locs ls hw hS hl' => vx_runV (C := y.cls) (As := As) (rest := rest) ⟨C.hx, C.hb, C.ml, C.ow, C.ts⟩ hM (cwV na C.ts (lw_V hl h1 hs h2 h3) rfl rfl rfl ⟨rfl, h4, h5, h6⟩ hf.1)
    ⟨kx_Wd.blind, hrc H locs hw hS, kx_Wd.to C hw hS _⟩ rfl hn hl'.1 rfl (lv_room hf.2.2.2) d ⟨hf.2.1, hf.2.2.1⟩) kn kxx
theorem ri_callS (C : kx_C G l p e R s m args below meth c cc own nL ret nm hh) (hm : kx_ms y b L r na) (hl : Cond.methodLink own index y ∈ lw_all) (d : decode cc pc = .ok (.invokestatic index, 3))
    (hM : kx_SP l G y (ws_ y b L r) f mc ms As σ P X) (hst : st0 = As.reverse ++ rest) (hn : As.length = na) (hf : kx_fit R f L mc ms k n rest)
    (kn : ∀ v τ, P v τ → kx_V G l p e R s m args below meth c nL Q (pc + 3) lv (kx_vl v rest) τ (k + mc) (n + ms)) (kxx : ∀ E q τ, X E q τ → kx_X G l p e R s m args below meth c nL Q pc lv rest τ (k + mc) (n + ms) E q) : kx_V G l p e R s m args below meth c nL Q pc lv st0 σ k n := by
  subst hst
  obtain ⟨h1, h2, h3, h4, h5, h6⟩ := hm
  exact kx_ofRun (fun H locs ls hw hS hl' => vx_runS (As := As) (rest := rest) ⟨C.hx, C.hb, C.ml, C.ow, C.ts⟩ hM (va_cwS na C.ts (lw_S hl h1 h2 h3) rfl rfl rfl ⟨h4, h5, h6⟩ hf.1)
    ⟨kx_Wd.blind, kx_Wd.to C hw hS _⟩ rfl hn hl'.1 rfl (lv_room hf.2.2.2) d ⟨hf.2.1, hf.2.2.1⟩) kn kxx
theorem ri_callI (C : kx_C G l p e R s m args below meth c cc own nL ret nm hh) (hm : kx_mi y b L none na) (hl : Cond.methodLink own index y ∈ lw_all) (hi : y.name = "<init>") (d : decode cc pc = .ok (.invokespecial index, 3))
    (hM : kx_SP l G y (ws_ y b L none) f mc ms (.ref a :: As) σ P X) (hst : st0 = As.reverse ++ .ref a :: rest) (hn : As.length = na) (hf : kx_fit R f L mc ms k n rest)
    (kn : ∀ v τ, P v τ → kx_V G l p e R s m args below meth c nL Q (pc + 3) lv (kx_vl v rest) τ (k + mc) (n + ms)) (kxx : ∀ E q τ, X E q τ → kx_X G l p e R s m args below meth c nL Q pc lv rest τ (k + mc) (n + ms) E q) : kx_V G l p e R s m args below meth c nL Q pc lv st0 σ k n := by
  subst hst
  obtain ⟨h1, h2, h3, h4, h5, h6⟩ := hm
  exact kx_ofRun (fun H locs ls hw hS hl' => vx_runI (As := As) (rest := rest) ⟨C.hx, C.hb, C.ml, C.ow, C.ts⟩ hM (cwI na C.ts (lw_meth h3) rfl rfl rfl (C.ts _ h2) (C.ts _ hl) (C.ts _ h1) hi ⟨h4, h5, h6⟩ hf.1)
    ⟨kx_Wd.blind, kx_Wd.to C hw hS _⟩ rfl hn hl'.1 rfl (lv_room hf.2.2.2) d ⟨hf.2.1, hf.2.2.1⟩) kn kxx
theorem ri_callVN (C : kx_C G l p e R s m args below meth c cc own nL ret nm hh) {host : String} (hm : kx_mi y b L r na) (hl : Cond.methodLinkNest own index y host ∈ lw_tbl) (hs : Cond.selects y.cls y y ∈ lw_all) (d : decode cc pc = .ok (.invokevirtual index, 3))
    (hM : kx_SP l G y (ws_ y b L r) f mc ms (.ref a :: As) σ P X) (hst : st0 = As.reverse ++ .ref a :: rest) (hn : As.length = na) (hrc : kx_Rc G s σ a y.cls) (hf : kx_fit R f L mc ms k n rest)
    (kn : ∀ v τ, P v τ → kx_V G l p e R s m args below meth c nL Q (pc + 3) lv (kx_vl v rest) τ (k + mc) (n + ms)) (kxx : ∀ E q τ, X E q τ → kx_X G l p e R s m args below meth c nL Q pc lv rest τ (k + mc) (n + ms) E q) : kx_V G l p e R s m args below meth c nL Q pc lv st0 σ k n := by
  subst hst
  obtain ⟨h1, h2, h3, h4, h5, h6⟩ := hm
  exact kx_ofRun (fun H locs ls hw hS hl' => vx_runVN (C := y.cls) (As := As) (rest := rest) ⟨C.hx, C.hb, C.ml, C.ow, C.ts⟩ hM ⟨va_cnB na C.ts (lw_meth h3) rfl rfl rfl ((C.st.nw hl rfl).use rfl) (C.ts _ h2) ⟨h4, h5, h6⟩ hf.1, C.ts _ h1, C.ts _ hs⟩
    ⟨kx_Wd.blind, hrc H locs hw hS, kx_Wd.to C hw hS _⟩ rfl hn hl'.1 rfl (lv_room hf.2.2.2) d ⟨hf.2.1, hf.2.2.1⟩) kn kxx
theorem ri_callSN (C : kx_C G l p e R s m args below meth c cc own nL ret nm hh) {host : String} (hm : kx_ms y b L r na) (hl : Cond.methodLinkNest own index y host ∈ lw_tbl) (d : decode cc pc = .ok (.invokestatic index, 3))
    (hM : kx_SP l G y (ws_ y b L r) f mc ms As σ P X) (hst : st0 = As.reverse ++ rest) (hn : As.length = na) (hf : kx_fit R f L mc ms k n rest)
    (kn : ∀ v τ, P v τ → kx_V G l p e R s m args below meth c nL Q (pc + 3) lv (kx_vl v rest) τ (k + mc) (n + ms)) (kxx : ∀ E q τ, X E q τ → kx_X G l p e R s m args below meth c nL Q pc lv rest τ (k + mc) (n + ms) E q) : kx_V G l p e R s m args below meth c nL Q pc lv st0 σ k n := by
  subst hst
  obtain ⟨h1, h2, h3, h4, h5, h6⟩ := hm
  exact kx_ofRun (fun H locs ls hw hS hl' => vx_runSN (As := As) (rest := rest) ⟨C.hx, C.hb, C.ml, C.ow, C.ts⟩ hM ⟨va_cnB na C.ts (lw_meth h3) rfl rfl rfl ((C.st.nw hl rfl).use rfl) (C.ts _ h2) ⟨h4, h5, h6⟩ hf.1, C.ts _ h1, trivial⟩
    ⟨kx_Wd.blind, kx_Wd.to C hw hS _⟩ rfl hn hl'.1 rfl (lv_room hf.2.2.2) d ⟨hf.2.1, hf.2.2.1⟩) kn kxx
theorem ri_callIN (C : kx_C G l p e R s m args below meth c cc own nL ret nm hh) {host : String} (hm : kx_mi y b L none na) (hl : Cond.methodLinkNest own index y host ∈ lw_tbl) (hi : y.name = "<init>") (d : decode cc pc = .ok (.invokespecial index, 3))
    (hM : kx_SP l G y (ws_ y b L none) f mc ms (.ref a :: As) σ P X) (hst : st0 = As.reverse ++ .ref a :: rest) (hn : As.length = na) (hf : kx_fit R f L mc ms k n rest)
    (kn : ∀ v τ, P v τ → kx_V G l p e R s m args below meth c nL Q (pc + 3) lv (kx_vl v rest) τ (k + mc) (n + ms)) (kxx : ∀ E q τ, X E q τ → kx_X G l p e R s m args below meth c nL Q pc lv rest τ (k + mc) (n + ms) E q) : kx_V G l p e R s m args below meth c nL Q pc lv st0 σ k n := by
  subst hst
  obtain ⟨h1, h2, h3, h4, h5, h6⟩ := hm
  exact kx_ofRun (fun H locs ls hw hS hl' => vx_runIN (As := As) (rest := rest) ⟨C.hx, C.hb, C.ml, C.ow, C.ts⟩ hM ⟨va_cnB na C.ts (lw_meth h3) rfl rfl rfl ((C.st.nw hl rfl).use rfl) (C.ts _ h2) ⟨h4, h5, h6⟩ hf.1, hi, C.ts _ h1⟩
    ⟨kx_Wd.blind, kx_Wd.to C hw hS _⟩ rfl hn hl'.1 rfl (lv_room hf.2.2.2) d ⟨hf.2.1, hf.2.2.1⟩) kn kxx
/-- a method that has handlers -/
theorem ri_callVH (C : kx_C G l p e R s m args below meth c cc own nL ret nm hh) (hm : kx_miH y b L r na hc) (hl : Cond.methodLink own index y ∈ lw_all) (hs : Cond.selects y.cls y y ∈ lw_all) (d : decode cc pc = .ok (.invokevirtual index, 3))
    (hM : kx_SP l G y (wsW_ y b L r hc) f mc ms (.ref a :: As) σ P X) (hst : st0 = As.reverse ++ .ref a :: rest) (hn : As.length = na) (hrc : kx_Rc G s σ a y.cls) (hf : kx_fit R f L mc ms k n rest)
    (kn : ∀ v τ, P v τ → kx_V G l p e R s m args below meth c nL Q (pc + 3) lv (kx_vl v rest) τ (k + mc) (n + ms)) (kxx : ∀ E q τ, X E q τ → kx_X G l p e R s m args below meth c nL Q pc lv rest τ (k + mc) (n + ms) E q) : kx_V G l p e R s m args below meth c nL Q pc lv st0 σ k n := by
  subst hst
  obtain ⟨h1, h2, h3, h4, h5, h6⟩ := hm
  exact kx_ofRun (fun H locs ls hw hS hl' => vx_runVX (C := y.cls) (As := As) (rest := rest) ⟨C.hx, C.hb, C.ml, C.ow, C.ts⟩ hM (vx_cwVW na C.ts (lw_VW hl h1 hs h2 h3) rfl rfl rfl ⟨rfl, h4, h5, h6⟩ hf.1)
    ⟨kx_Wd.blind, hrc H locs hw hS, kx_Wd.to C hw hS _⟩ rfl hn hl'.1 rfl (lv_room hf.2.2.2) d ⟨hf.2.1, hf.2.2.1⟩) kn kxx
theorem ri_callSH (C : kx_C G l p e R s m args below meth c cc own nL ret nm hh) (hm : kx_msH y b L r na hc) (hl : Cond.methodLink own index y ∈ lw_all) (d : decode cc pc = .ok (.invokestatic index, 3))
    (hM : kx_SP l G y (wsW_ y b L r hc) f mc ms As σ P X) (hst : st0 = As.reverse ++ rest) (hn : As.length = na) (hf : kx_fit R f L mc ms k n rest)
    (kn : ∀ v τ, P v τ → kx_V G l p e R s m args below meth c nL Q (pc + 3) lv (kx_vl v rest) τ (k + mc) (n + ms)) (kxx : ∀ E q τ, X E q τ → kx_X G l p e R s m args below meth c nL Q pc lv rest τ (k + mc) (n + ms) E q) : kx_V G l p e R s m args below meth c nL Q pc lv st0 σ k n := by
  subst hst
  obtain ⟨h1, h2, h3, h4, h5, h6⟩ := hm
  exact kx_ofRun (fun H locs ls hw hS hl' => vx_runSX (As := As) (rest := rest) ⟨C.hx, C.hb, C.ml, C.ow, C.ts⟩ hM (vx_cwSW na C.ts (lw_SW hl h1 h2 h3) rfl rfl rfl ⟨h4, h5, h6⟩ hf.1)
    ⟨kx_Wd.blind, kx_Wd.to C hw hS _⟩ rfl hn hl'.1 rfl (lv_room hf.2.2.2) d ⟨hf.2.1, hf.2.2.1⟩) kn kxx
end CALLS
/-! bodies and their ends -/
theorem kx_ofWF {y : MethodName} {ws ws' : List Cond} {rm : Room} {Pc : Array Value → State → Prop} {Qc : Array Value → State → Outcome → State → Prop} {XC : String → Addr → State → State → Prop} {mc ms : Nat} {free : Addr → Prop} {maxL : Nat}
    (hy : plainFor y = true) (hw : ws = Cond.code y cc maxL ret :: ws')
    (body : ∀ p e s m args below meth c s₁, BodyLoose p l y (headSpec ws rm) cc maxL ret e s m args below meth c s₁ → c.maxLocals = maxL → (∀ x ∈ c.exceptionTable.toList, False) → Pc args s →
      W p l e (headSpec ws rm).room s m args below meth c s.heap [] 0 0 (vx_MQ below Qc XC args s mc ms free) (entryFrame m args maxL)) : vx_Met l y ws rm Pc Qc XC mc ms free := by
  refine MetFree.of_bodySF (code := cc) (maxLocals := maxL) (ret := ret) hy ?_ ?_
  · intro args s m h hn
    obtain ⟨meth, c, h1, h2, h3, h4, h5, h6, -, -⟩ := Cond.code_spec hn (atoms_spec (ws := ws) h _ (by rw [hw]; exact List.mem_cons_self))
    exact ⟨meth, c, h1, h2, h3, h4, h5, h6⟩
  · intro p e s m args below meth c s₁ B hml hP _
    have hh0 : s₁.heap = s.heap := by rw [B.state]; rfl
    have ht : ∀ x ∈ c.exceptionTable.toList, False := by
      obtain ⟨meth9, c9, h1, h2, -, -, -, -, h7, -⟩ := Cond.code_spec B.named (atoms_spec (ws := ws) B.pre _ (by rw [hw]; exact List.mem_cons_self))
      cases Option.some.inj (h1.symm.trans B.method)
      cases Option.some.inj (h2.symm.trans (Stand.of_body B).code)
      intro x hx
      rw [Array.isEmpty_iff.mp h7] at hx
      cases hx
    obtain ⟨t, a1, o, b1, b2, b3⟩ := body p e s m args below meth c s₁ B hml ht hP s₁ hh0 (Stand.of_body B)
    exact ⟨t, o, a1, b1, b2, b3⟩
theorem kx_body {y : MethodName} {mc ms f : Nat} {as : List Value} {P : Option Value → kx_H → Prop} {X : String → Nat → kx_H → Prop} (htr : l.stackTraces = false) (hy : plainFor y = true) (ho : y.cls = own) (hnm : y.name = nm) (hsz : (lg_sl as).length ≤ nL)
    (body : ∀ (p : Program) (e : Env) (s : State) (m : MethodId) (args : Array Value) (below : List Frame) (meth : Method) (c : Code) (Q : State → Prop), kx_C G l p e (kx_rm f mc ms) s m args below meth c cc own nL ret nm [] → Q = vx_MQ below (kx_Qc G P) (kx_XC G X) args s mc ms (kx_A G) →
      kx_V G l p e (kx_rm f mc ms) s m args below meth c nL Q 0 (lv_args 0 as) [] σ 0 0) : kx_SP l G y (ws_ y cc nL ret) f mc ms as σ P X := by
  refine kx_ofWF (cc := cc) (maxL := nL) (ret := ret) hy rfl ?_
  intro p e s m args below meth c s₁ B hml htb hv
  obtain ⟨rfl, hw, hK, hst, hge⟩ := hv
  have hts := atoms_spec (ws := ws_ y cc nL ret) B.pre
  have hl := lv_entry as (n := nL) hsz
  rw [lg_entry_eq]
  refine body p e s m as.toArray below meth c _ ⟨B.exec, B.bytes, B.returns, hml, by rw [← ho]; exact findClass_of_methodNamed B.named, fun w h => hts w (List.mem_cons_of_mem _ h), hK, hst, B.notSynchronized, htr, hge, by rw [← hnm]; exact (name_of_methodNamed B.named B.method).1, ?_⟩ rfl s.heap [] _ hw va_S.rf hl
  cases hx : c.exceptionTable.toList with
  | nil => rfl
  | cons x r => exact (htb x (by rw [hx]; exact List.mem_cons_self)).elim
theorem kx_bodyH {y : MethodName} {mc ms f : Nat} {as : List Value} {P : Option Value → kx_H → Prop} {X : String → Nat → kx_H → Prop} (htr : l.stackTraces = false) (hy : plainName y.cls = true) (ho : y.cls = own) (hnm : y.name = nm) (hsz : (lg_sl as).length ≤ nL)
    (body : ∀ (p : Program) (e : Env) (s : State) (m : MethodId) (args : Array Value) (below : List Frame) (meth : Method) (c : Code) (Q : State → Prop), kx_C G l p e (kx_rm f mc ms) s m args below meth c cc own nL ret nm hh → Q = vx_MQ below (kx_Qc G P) (kx_XC G X) args s mc ms (kx_A G) →
      kx_V G l p e (kx_rm f mc ms) s m args below meth c nL Q 0 (lv_args 0 as) [] σ 0 0) : kx_SP l G y (wsW_ y cc nL ret hh) f mc ms as σ P X := by
  refine vx_ofWH (cc := cc) (maxL := nL) (ret := ret) (hh := hh) hy rfl ?_
  intro p e s m args below meth c s₁ B hml hv
  obtain ⟨rfl, hw, hK, hst, hge⟩ := hv
  have hts := atoms_spec (ws := wsW_ y cc nL ret hh) B.pre
  have hl := lv_entry as (n := nL) hsz
  rw [lg_entry_eq]
  exact body p e s m as.toArray below meth c _ ⟨B.exec, B.bytes, B.returns, hml, by rw [← ho]; exact findClass_of_methodNamed B.named, fun w h => hts w (List.mem_cons_of_mem _ h), hK, hst, B.notSynchronized, htr, hge, by rw [← hnm]; exact (name_of_methodNamed B.named B.method).1, vx_table (x := y) B (hts _ List.mem_cons_self)⟩ rfl s.heap [] _ hw va_S.rf hl
section ENDS
variable {mc ms : Nat} {P : Option Value → kx_H → Prop} {X : String → Nat → kx_H → Prop}
theorem ri_vret (C : kx_C G l p e R s m args below meth c cc own nL none nm hh) (hQ : Q = vx_MQ below (kx_Qc G P) (kx_XC G X) args s mc ms (kx_A G)) (d : decode cc pc = .ok (.return_, 1)) (h1 : k ≤ mc) (h2 : n ≤ ms) (hP : P none σ) : kx_V G l p e R s m args below meth c nL Q pc lv [] σ k n := by
  intro H locs ls hw hS hl
  subst hQ
  exact W.widen h1 h2 (vx_ret (W.vret C.hx C.hb C.hr (fun t ht hW => ⟨⟨_, σ, rfl, hP, by rw [ht]; exact hw⟩, hS.F ht⟩) hS.2.2 d C.lk))
theorem ri_iret {ty : FieldType} (C : kx_C G l p e R s m args below meth c cc own nL (some ty) nm hh) (hQ : Q = vx_MQ below (kx_Qc G P) (kx_XC G X) args s mc ms (kx_A G)) {x : Int32} (d : decode cc pc = .ok (.ireturn, 1)) (hn : narrow ty (.int x) = .int x) (h1 : k ≤ mc) (h2 : n ≤ ms) (hP : P (some (.int x)) σ) : kx_V G l p e R s m args below meth c nL Q pc lv [.int x] σ k n := by
  intro H locs ls hw hS hl
  subst hQ
  exact W.widen h1 h2 (vx_ret (W.zret C.hx C.hb C.hr hn (fun t ht hW => ⟨⟨_, σ, rfl, hP, by rw [ht]; exact hw⟩, hS.F ht⟩) hS.2.2 d C.lk))
theorem ri_aret {ty : FieldType} (C : kx_C G l p e R s m args below meth c cc own nL (some ty) nm hh) (hQ : Q = vx_MQ below (kx_Qc G P) (kx_XC G X) args s mc ms (kx_A G)) {v : Value} (d : decode cc pc = .ok (.areturn, 1)) (hrt : (∃ z, ty = .object z) ∨ ∃ t, ty = .array t) (hv : v = .null ∨ ∃ a, v = .ref a) (h1 : k ≤ mc) (h2 : n ≤ ms) (hP : P (some v) σ) : kx_V G l p e R s m args below meth c nL Q pc lv [v] σ k n := by
  intro H locs ls hw hS hl
  subst hQ
  exact W.widen h1 h2 (vx_ret (W.aret C.hx C.hb C.hr hrt hv (fun t ht hW => ⟨⟨_, σ, rfl, hP, by rw [ht]; exact hw⟩, hS.F ht⟩) hS.2.2 d C.lk))
theorem ri_fret (C : kx_C G l p e R s m args below meth c cc own nL (some .float) nm hh) (hQ : Q = vx_MQ below (kx_Qc G P) (kx_XC G X) args s mc ms (kx_A G)) {x : UInt32} (d : decode cc pc = .ok (.freturn, 1)) (h1 : k ≤ mc) (h2 : n ≤ ms) (hP : P (some (.float x)) σ) : kx_V G l p e R s m args below meth c nL Q pc lv [.float x] σ k n := by
  intro H locs ls hw hS hl
  subst hQ
  have hlk := C.lk
  exact W.widen h1 h2 (vx_ret (W.fret C.hx C.hb C.hr (fun t ht hW => ⟨⟨_, σ, rfl, hP, by rw [ht]; exact hw⟩, hS.F ht⟩) hS.2.2 d C.lk))
theorem ri_dret (C : kx_C G l p e R s m args below meth c cc own nL (some .double) nm hh) (hQ : Q = vx_MQ below (kx_Qc G P) (kx_XC G X) args s mc ms (kx_A G)) {x : UInt64} (d : decode cc pc = .ok (.dreturn, 1)) (h1 : k ≤ mc) (h2 : n ≤ ms) (hP : P (some (.double x)) σ) : kx_V G l p e R s m args below meth c nL Q pc lv [.double x] σ k n := by
  intro H locs ls hw hS hl
  subst hQ
  exact W.widen h1 h2 (vx_ret (W.dret C.hx C.hb C.hr (fun t ht hW => ⟨⟨_, σ, rfl, hP, by rw [ht]; exact hw⟩, hS.F ht⟩) hS.2.2 d C.lk))
/-- not caught here -/
theorem ri_out (C : kx_C G l p e R s m args below meth c cc own nL ret nm hh) (hQ : Q = vx_MQ below (kx_Qc G P) (kx_XC G X) args s mc ms (kx_A G)) {E : String} {q : Nat} {st : List Value} (hcov : ∀ x ∈ tableOf hh, covers x pc = false) (h1 : k ≤ mc) (h2 : n ≤ ms) (hX : X E q σ) : kx_X G l p e R s m args below meth c nL Q pc lv st σ k n E q := by
  intro H locs ls ce hw hS hl hce hcv hcl
  subst hQ
  exact vx_out (by rw [C.ht]; exact hcov) C.lk hce hcv hcl (fun t ht hW => ⟨⟨σ, hX, by rw [ht]; exact hw⟩, hS.F ht⟩) hS.2.2 h1 h2
theorem ri_athrow (C : kx_C G l p e R s m args below meth c cc own nL ret nm hh) {E : String} {q : Nat} {st : List Value} (d : decode cc pc = .ok (.athrow, 1)) (hq : ∃ t o, σ t = some (q, o) ∧ kx_Rc G s σ q E) (kk : kx_X G l p e R s m args below meth c nL Q pc lv st σ k n E q) (hv : ∀ H, kx_wo G σ H → ∀ ce, H[q]? = some ce → ce.vm = .none) : kx_V G l p e R s m args below meth c nL Q pc lv (.ref q :: st) σ k n := by
  intro H locs ls hw hS hl
  obtain ⟨t, o, h1, h2⟩ := hq
  obtain ⟨cell, g1, g2, g3⟩ := h2 H locs hw hS
  exact vx_athrow C.hx C.hb d (kk H locs ls cell hw hS hl g1 (hv H hw cell g1) g3)
end ENDS

/-! rows over small naturals -/
theorem ri_iincN (C : kx_C G l p e R s m args below meth c cc own nL ret nm hh) {i x : Nat} {lv' : List (Nat × Value)} (d : decode cc pc = .ok (.iinc i 1, 3)) (h : kx_lk lv i = some (.int (nI x))) (hl' : kx_st lv i (.int (nI (x + 1))) = lv') (hn : i < nL) (kk : kx_V G l p e R s m args below meth c nL Q (pc + 3) lv' rest σ k n) : kx_V G l p e R s m args below meth c nL Q pc lv rest σ k n :=
  ri_iinc C d h (nI_1 x) hl' hn kk
theorem ri_iaddN (C : kx_C G l p e R s m args below meth c cc own nL ret nm hh) {x y : Nat} (d : decode cc pc = .ok (.iadd, 1)) (kk : kx_V G l p e R s m args below meth c nL Q (pc + 1) lv (.int (nI (x + y)) :: rest) σ k n) : kx_V G l p e R s m args below meth c nL Q pc lv (.int (nI y) :: .int (nI x) :: rest) σ k n :=
  ri_iadd C d (by rw [nI_add]; exact kk)
theorem ri_imulN (C : kx_C G l p e R s m args below meth c cc own nL ret nm hh) {x y : Nat} (d : decode cc pc = .ok (.imul, 1)) (kk : kx_V G l p e R s m args below meth c nL Q (pc + 1) lv (.int (nI (x * y)) :: rest) σ k n) : kx_V G l p e R s m args below meth c nL Q pc lv (.int (nI y) :: .int (nI x) :: rest) σ k n :=
  ri_imul C d (by rw [pk_mul]; exact kk)
theorem ri_isubN (C : kx_C G l p e R s m args below meth c cc own nL ret nm hh) {x y : Nat} (d : decode cc pc = .ok (.isub, 1)) (h : y ≤ x) (kk : kx_V G l p e R s m args below meth c nL Q (pc + 1) lv (.int (nI (x - y)) :: rest) σ k n) : kx_V G l p e R s m args below meth c nL Q pc lv (.int (nI y) :: .int (nI x) :: rest) σ k n :=
  ri_isub C d (by rw [pk_sub h]; exact kk)
theorem kx_ne0 {y : Nat} (h0 : 0 < y) (hy : y < 2147483648) : ¬ nI y = 0 := nI_ne0 h0 (by omega)
theorem ri_idivN (C : kx_C G l p e R s m args below meth c cc own nL ret nm hh) {x y : Nat} (d : decode cc pc = .ok (.idiv, 1)) (h0 : 0 < y) (hy : y < 2147483648) (hx : x < 2147483648) (kk : kx_V G l p e R s m args below meth c nL Q (pc + 1) lv (.int (nI (x / y)) :: rest) σ k n) : kx_V G l p e R s m args below meth c nL Q pc lv (.int (nI y) :: .int (nI x) :: rest) σ k n :=
  ri_idiv C d (kx_ne0 h0 hy) (by rw [pk_div (by omega) h0 (by omega)]; exact kk)
theorem ri_iremN (C : kx_C G l p e R s m args below meth c cc own nL ret nm hh) {x y : Nat} (d : decode cc pc = .ok (.irem, 1)) (h0 : 0 < y) (hy : y < 2147483648) (hx : x < 2147483648) (kk : kx_V G l p e R s m args below meth c nL Q (pc + 1) lv (.int (nI (x % y)) :: rest) σ k n) : kx_V G l p e R s m args below meth c nL Q pc lv (.int (nI y) :: .int (nI x) :: rest) σ k n :=
  ri_irem C d (kx_ne0 h0 hy) (by rw [pk_rem (by omega) h0 (by omega)]; exact kk)
theorem kx_i2l {x : Nat} (hx : x < 2147483648) : (nI x).toInt64 = lN x := nI_l (by omega)
theorem ri_i2lN (C : kx_C G l p e R s m args below meth c cc own nL ret nm hh) {x : Nat} (d : decode cc pc = .ok (.i2l, 1)) (hx : x < 2147483648) (kk : kx_V G l p e R s m args below meth c nL Q (pc + 1) lv (.long (lN x) :: rest) σ k n) : kx_V G l p e R s m args below meth c nL Q pc lv (.int (nI x) :: rest) σ k n :=
  ri_i2l C d (kx_i2l hx) kk
theorem ri_icmp_eqN (C : kx_C G l p e R s m args below meth c cc own nL ret nm hh) {x y : Nat} {off : Int} (tgt : Nat) (d : decode cc pc = .ok (.if_icmp .eq off, 3)) (ht : (pc : Int) + off = (tgt : Int)) (hx : x < 2147483648) (hy : y < 2147483648) (kt : x = y → kx_V G l p e R s m args below meth c nL Q tgt lv rest σ k n) (kf : ¬ x = y → kx_V G l p e R s m args below meth c nL Q (pc + 3) lv rest σ k n) : kx_V G l p e R s m args below meth c nL Q pc lv (.int (nI y) :: .int (nI x) :: rest) σ k n :=
  ri_icmp_eq C tgt d ht (fun q => kt ((nI_eq (by omega) (by omega)).mp q)) (fun q => kf (fun z => q ((nI_eq (by omega) (by omega)).mpr z)))
theorem ri_icmp_neN (C : kx_C G l p e R s m args below meth c cc own nL ret nm hh) {x y : Nat} {off : Int} (tgt : Nat) (d : decode cc pc = .ok (.if_icmp .ne off, 3)) (ht : (pc : Int) + off = (tgt : Int)) (hx : x < 2147483648) (hy : y < 2147483648) (kt : ¬ x = y → kx_V G l p e R s m args below meth c nL Q tgt lv rest σ k n) (kf : x = y → kx_V G l p e R s m args below meth c nL Q (pc + 3) lv rest σ k n) : kx_V G l p e R s m args below meth c nL Q pc lv (.int (nI y) :: .int (nI x) :: rest) σ k n :=
  ri_icmp_ne C tgt d ht (fun q => kt (fun z => q ((nI_eq (by omega) (by omega)).mpr z))) (fun q => kf ((nI_eq (by omega) (by omega)).mp q))
theorem ri_icmp_ltN (C : kx_C G l p e R s m args below meth c cc own nL ret nm hh) {x y : Nat} {off : Int} (tgt : Nat) (d : decode cc pc = .ok (.if_icmp .lt off, 3)) (ht : (pc : Int) + off = (tgt : Int)) (hx : x < 2147483648) (hy : y < 2147483648) (kt : x < y → kx_V G l p e R s m args below meth c nL Q tgt lv rest σ k n) (kf : ¬ x < y → kx_V G l p e R s m args below meth c nL Q (pc + 3) lv rest σ k n) : kx_V G l p e R s m args below meth c nL Q pc lv (.int (nI y) :: .int (nI x) :: rest) σ k n :=
  ri_icmp_lt C tgt d ht (fun q => kt ((nI_ltI (by omega) (by omega)).mp q)) (fun q => kf (fun z => q ((nI_ltI (by omega) (by omega)).mpr z)))
theorem ri_icmp_geN (C : kx_C G l p e R s m args below meth c cc own nL ret nm hh) {x y : Nat} {off : Int} (tgt : Nat) (d : decode cc pc = .ok (.if_icmp .ge off, 3)) (ht : (pc : Int) + off = (tgt : Int)) (hx : x < 2147483648) (hy : y < 2147483648) (kt : y ≤ x → kx_V G l p e R s m args below meth c nL Q tgt lv rest σ k n) (kf : ¬ y ≤ x → kx_V G l p e R s m args below meth c nL Q (pc + 3) lv rest σ k n) : kx_V G l p e R s m args below meth c nL Q pc lv (.int (nI y) :: .int (nI x) :: rest) σ k n :=
  ri_icmp_ge C tgt d ht (fun q => kt ((nI_leI (by omega) (by omega)).mp q)) (fun q => kf (fun z => q ((nI_leI (by omega) (by omega)).mpr z)))
theorem ri_icmp_gtN (C : kx_C G l p e R s m args below meth c cc own nL ret nm hh) {x y : Nat} {off : Int} (tgt : Nat) (d : decode cc pc = .ok (.if_icmp .gt off, 3)) (ht : (pc : Int) + off = (tgt : Int)) (hx : x < 2147483648) (hy : y < 2147483648) (kt : y < x → kx_V G l p e R s m args below meth c nL Q tgt lv rest σ k n) (kf : ¬ y < x → kx_V G l p e R s m args below meth c nL Q (pc + 3) lv rest σ k n) : kx_V G l p e R s m args below meth c nL Q pc lv (.int (nI y) :: .int (nI x) :: rest) σ k n :=
  ri_icmp_gt C tgt d ht (fun q => kt ((nI_ltI (by omega) (by omega)).mp q)) (fun q => kf (fun z => q ((nI_ltI (by omega) (by omega)).mpr z)))
theorem ri_icmp_leN (C : kx_C G l p e R s m args below meth c cc own nL ret nm hh) {x y : Nat} {off : Int} (tgt : Nat) (d : decode cc pc = .ok (.if_icmp .le off, 3)) (ht : (pc : Int) + off = (tgt : Int)) (hx : x < 2147483648) (hy : y < 2147483648) (kt : x ≤ y → kx_V G l p e R s m args below meth c nL Q tgt lv rest σ k n) (kf : ¬ x ≤ y → kx_V G l p e R s m args below meth c nL Q (pc + 3) lv rest σ k n) : kx_V G l p e R s m args below meth c nL Q pc lv (.int (nI y) :: .int (nI x) :: rest) σ k n :=
  ri_icmp_le C tgt d ht (fun q => kt ((nI_leI (by omega) (by omega)).mp q)) (fun q => kf (fun z => q ((nI_leI (by omega) (by omega)).mpr z)))
theorem kx_z0 {x : Nat} (hx : x < 2147483648) : nI x = 0 ↔ x = 0 := by
  rw [← nI_0]; exact nI_eq (by omega) (by omega)
theorem ri_if_eqN (C : kx_C G l p e R s m args below meth c cc own nL ret nm hh) {x : Nat} {off : Int} (tgt : Nat) (d : decode cc pc = .ok (.ifCond .eq off, 3)) (ht : (pc : Int) + off = (tgt : Int)) (hx : x < 2147483648) (kt : x = 0 → kx_V G l p e R s m args below meth c nL Q tgt lv rest σ k n) (kf : ¬ x = 0 → kx_V G l p e R s m args below meth c nL Q (pc + 3) lv rest σ k n) : kx_V G l p e R s m args below meth c nL Q pc lv (.int (nI x) :: rest) σ k n :=
  ri_if_eq C tgt d ht (fun q => kt ((kx_z0 hx).mp q)) (fun q => kf (fun z => q ((kx_z0 hx).mpr z)))
theorem ri_if_neN (C : kx_C G l p e R s m args below meth c cc own nL ret nm hh) {x : Nat} {off : Int} (tgt : Nat) (d : decode cc pc = .ok (.ifCond .ne off, 3)) (ht : (pc : Int) + off = (tgt : Int)) (hx : x < 2147483648) (kt : ¬ x = 0 → kx_V G l p e R s m args below meth c nL Q tgt lv rest σ k n) (kf : x = 0 → kx_V G l p e R s m args below meth c nL Q (pc + 3) lv rest σ k n) : kx_V G l p e R s m args below meth c nL Q pc lv (.int (nI x) :: rest) σ k n :=
  ri_if_ne C tgt d ht (fun q => kt (fun z => q ((kx_z0 hx).mpr z))) (fun q => kf ((kx_z0 hx).mp q))
theorem ri_if_leN (C : kx_C G l p e R s m args below meth c cc own nL ret nm hh) {x : Nat} {off : Int} (tgt : Nat) (d : decode cc pc = .ok (.ifCond .le off, 3)) (ht : (pc : Int) + off = (tgt : Int)) (hx : x < 2147483648) (kt : x = 0 → kx_V G l p e R s m args below meth c nL Q tgt lv rest σ k n) (kf : 0 < x → kx_V G l p e R s m args below meth c nL Q (pc + 3) lv rest σ k n) : kx_V G l p e R s m args below meth c nL Q pc lv (.int (nI x) :: rest) σ k n :=
  ri_if_le C tgt d ht (fun q => kt (by rcases Nat.eq_zero_or_pos x with h | h; exact h; exact absurd q (nI_nle h (by omega)))) (fun q => kf (by rcases Nat.eq_zero_or_pos x with h | h; exact absurd (by rw [h]; decide) q; exact h))
theorem ri_if_gtN (C : kx_C G l p e R s m args below meth c cc own nL ret nm hh) {x : Nat} {off : Int} (tgt : Nat) (d : decode cc pc = .ok (.ifCond .gt off, 3)) (ht : (pc : Int) + off = (tgt : Int)) (hx : x < 2147483648) (kt : 0 < x → kx_V G l p e R s m args below meth c nL Q tgt lv rest σ k n) (kf : x = 0 → kx_V G l p e R s m args below meth c nL Q (pc + 3) lv rest σ k n) : kx_V G l p e R s m args below meth c nL Q pc lv (.int (nI x) :: rest) σ k n :=
  ri_if_gt C tgt d ht (fun q => kt (by rcases Nat.eq_zero_or_pos x with h | h; exact absurd q (by rw [h]; decide); exact h)) (fun q => kf (by rcases Nat.eq_zero_or_pos x with h | h; exact h; exact absurd (by have := nI_nle h (by omega); rw [Int32.not_le] at this; exact this) q))
theorem ri_if_ltN (C : kx_C G l p e R s m args below meth c cc own nL ret nm hh) {x : Nat} {off : Int} (tgt : Nat) (d : decode cc pc = .ok (.ifCond .lt off, 3)) (ht : (pc : Int) + off = (tgt : Int)) (hx : x < 2147483648) (kf : kx_V G l p e R s m args below meth c nL Q (pc + 3) lv rest σ k n) : kx_V G l p e R s m args below meth c nL Q pc lv (.int (nI x) :: rest) σ k n :=
  ri_if_lt C tgt d ht (fun q => absurd q (nI_pos (by omega))) (fun _ => kf)
theorem ri_if_geN (C : kx_C G l p e R s m args below meth c cc own nL ret nm hh) {x : Nat} {off : Int} (tgt : Nat) (d : decode cc pc = .ok (.ifCond .ge off, 3)) (ht : (pc : Int) + off = (tgt : Int)) (hx : x < 2147483648) (kt : kx_V G l p e R s m args below meth c nL Q tgt lv rest σ k n) : kx_V G l p e R s m args below meth c nL Q pc lv (.int (nI x) :: rest) σ k n :=
  ri_if_ge C tgt d ht (fun _ => kt) (fun q => absurd (nI_pos' (by omega)) q)
/-! switches -/
theorem ri_tabIn (C : kx_C G l p e R s m args below meth c cc own nL ret nm hh) {dflt lo hi : Int} {offs : Array Int} {len : Nat} {x : Int32} (j : Int) (off : Int) (tgt : Nat) (d : decode cc pc = .ok (.tableswitch dflt lo hi offs, len)) (hx : x.toInt = j) (h1 : decide (lo ≤ j ∧ j ≤ hi) = true) (ho : offs[(j - lo).toNat]? = some off) (ht : (pc : Int) + off = (tgt : Int))
    (kk : kx_V G l p e R s m args below meth c nL Q tgt lv rest σ k n) : kx_V G l p e R s m args below meth c nL Q pc lv (.int x :: rest) σ k n := by
  intro H locs ls hw hS hl
  have h2 := of_decide_eq_true h1
  exact lv_tableIn C.hx C.hb d (by rw [hx]; omega) (by rw [hx]; omega) (by rw [hx]; exact ho) ht (kk H locs ls hw hS hl)
theorem ri_tabOut (C : kx_C G l p e R s m args below meth c cc own nL ret nm hh) {dflt lo hi : Int} {offs : Array Int} {len : Nat} {x : Int32} (tgt : Nat) (d : decode cc pc = .ok (.tableswitch dflt lo hi offs, len)) (hx : x.toInt < lo ∨ hi < x.toInt) (ht : (pc : Int) + dflt = (tgt : Int))
    (kk : kx_V G l p e R s m args below meth c nL Q tgt lv rest σ k n) : kx_V G l p e R s m args below meth c nL Q pc lv (.int x :: rest) σ k n :=
  fun H locs ls hw hS hl => lv_tableOut C.hx C.hb d hx ht (kk H locs ls hw hS hl)
theorem ri_look (C : kx_C G l p e R s m args below meth c cc own nL ret nm hh) {dflt : Int} {ps : Array (Int × Int)} {len : Nat} {x : Int32} (off : Int) (tgt : Nat) (d : decode cc pc = .ok (.lookupswitch dflt ps, len)) (hp : (ps.toList.zip (ps.toList.drop 1)).all (fun (a, next) => a.1 < next.1) = true) (ho : Op.lookupswitch.offset ps.toList dflt x.toInt = off) (ht : (pc : Int) + off = (tgt : Int))
    (kk : kx_V G l p e R s m args below meth c nL Q tgt lv rest σ k n) : kx_V G l p e R s m args below meth c nL Q pc lv (.int x :: rest) σ k n :=
  fun H locs ls hw hS hl => lv_lookup C.hx C.hb d hp ho ht (kk H locs ls hw hS hl)
theorem kc_i0 : Int32.ofInt 0 = nI 0 := by decide
theorem kc_i1 : Int32.ofInt 1 = nI 1 := by decide
theorem kc_i2 : Int32.ofInt 2 = nI 2 := by decide
theorem kc_i3 : Int32.ofInt 3 = nI 3 := by decide
theorem kc_i4 : Int32.ofInt 4 = nI 4 := by decide
theorem kc_i5 : Int32.ofInt 5 = nI 5 := by decide
theorem kc_im1 : Int32.ofInt (-1) = -1 := by decide
theorem kc_bm128 : (Int8.ofInt (-128)).toInt32 = -128 := by decide
theorem kc_bm100 : (Int8.ofInt (-100)).toInt32 = -100 := by decide
theorem kc_bm10 : (Int8.ofInt (-10)).toInt32 = -10 := by decide
theorem kc_bm9 : (Int8.ofInt (-9)).toInt32 = -9 := by decide
theorem kc_b6 : (Int8.ofInt 6).toInt32 = nI 6 := by decide
theorem kc_b7 : (Int8.ofInt 7).toInt32 = nI 7 := by decide
theorem kc_b8 : (Int8.ofInt 8).toInt32 = nI 8 := by decide
theorem kc_b9 : (Int8.ofInt 9).toInt32 = nI 9 := by decide
theorem kc_b10 : (Int8.ofInt 10).toInt32 = nI 10 := by decide
theorem kc_b11 : (Int8.ofInt 11).toInt32 = nI 11 := by decide
theorem kc_b12 : (Int8.ofInt 12).toInt32 = nI 12 := by decide
theorem kc_b13 : (Int8.ofInt 13).toInt32 = nI 13 := by decide
theorem kc_b14 : (Int8.ofInt 14).toInt32 = nI 14 := by decide
theorem kc_b15 : (Int8.ofInt 15).toInt32 = nI 15 := by decide
theorem kc_b16 : (Int8.ofInt 16).toInt32 = nI 16 := by decide
theorem kc_b17 : (Int8.ofInt 17).toInt32 = nI 17 := by decide
theorem kc_b20 : (Int8.ofInt 20).toInt32 = nI 20 := by decide
theorem kc_b21 : (Int8.ofInt 21).toInt32 = nI 21 := by decide
theorem kc_b23 : (Int8.ofInt 23).toInt32 = nI 23 := by decide
theorem kc_b24 : (Int8.ofInt 24).toInt32 = nI 24 := by decide
theorem kc_b25 : (Int8.ofInt 25).toInt32 = nI 25 := by decide
theorem kc_b30 : (Int8.ofInt 30).toInt32 = nI 30 := by decide
theorem kc_b31 : (Int8.ofInt 31).toInt32 = nI 31 := by decide
theorem kc_b32 : (Int8.ofInt 32).toInt32 = nI 32 := by decide
theorem kc_b36 : (Int8.ofInt 36).toInt32 = nI 36 := by decide
theorem kc_b40 : (Int8.ofInt 40).toInt32 = nI 40 := by decide
theorem kc_b43 : (Int8.ofInt 43).toInt32 = nI 43 := by decide
theorem kc_b45 : (Int8.ofInt 45).toInt32 = nI 45 := by decide
theorem kc_b46 : (Int8.ofInt 46).toInt32 = nI 46 := by decide
theorem kc_b48 : (Int8.ofInt 48).toInt32 = nI 48 := by decide
theorem kc_b50 : (Int8.ofInt 50).toInt32 = nI 50 := by decide
theorem kc_b56 : (Int8.ofInt 56).toInt32 = nI 56 := by decide
theorem kc_b57 : (Int8.ofInt 57).toInt32 = nI 57 := by decide
theorem kc_b59 : (Int8.ofInt 59).toInt32 = nI 59 := by decide
theorem kc_b60 : (Int8.ofInt 60).toInt32 = nI 60 := by decide
theorem kc_b61 : (Int8.ofInt 61).toInt32 = nI 61 := by decide
theorem kc_b62 : (Int8.ofInt 62).toInt32 = nI 62 := by decide
theorem kc_b63 : (Int8.ofInt 63).toInt32 = nI 63 := by decide
theorem kc_b64 : (Int8.ofInt 64).toInt32 = nI 64 := by decide
theorem kc_b80 : (Int8.ofInt 80).toInt32 = nI 80 := by decide
theorem kc_b97 : (Int8.ofInt 97).toInt32 = nI 97 := by decide
theorem kc_b99 : (Int8.ofInt 99).toInt32 = nI 99 := by decide
theorem kc_b100 : (Int8.ofInt 100).toInt32 = nI 100 := by decide
theorem kc_b108 : (Int8.ofInt 108).toInt32 = nI 108 := by decide
theorem kc_b110 : (Int8.ofInt 110).toInt32 = nI 110 := by decide
theorem kc_b117 : (Int8.ofInt 117).toInt32 = nI 117 := by decide
theorem kc_b120 : (Int8.ofInt 120).toInt32 = nI 120 := by decide
theorem kc_b122 : (Int8.ofInt 122).toInt32 = nI 122 := by decide
theorem kc_s128 : (Int16.ofInt 128).toInt32 = nI 128 := by decide
theorem kc_s186 : (Int16.ofInt 186).toInt32 = nI 186 := by decide
theorem kc_s192 : (Int16.ofInt 192).toInt32 = nI 192 := by decide
theorem kc_s255 : (Int16.ofInt 255).toInt32 = nI 255 := by decide
theorem kc_s256 : (Int16.ofInt 256).toInt32 = nI 256 := by decide
theorem kc_s265 : (Int16.ofInt 265).toInt32 = nI 265 := by decide
theorem kc_s300 : (Int16.ofInt 300).toInt32 = nI 300 := by decide
theorem kc_s360 : (Int16.ofInt 360).toInt32 = nI 360 := by decide
theorem kc_s400 : (Int16.ofInt 400).toInt32 = nI 400 := by decide
theorem kc_s576 : (Int16.ofInt 576).toInt32 = nI 576 := by decide
theorem kc_s700 : (Int16.ofInt 700).toInt32 = nI 700 := by decide
theorem kc_s720 : (Int16.ofInt 720).toInt32 = nI 720 := by decide
theorem kc_s841 : (Int16.ofInt 841).toInt32 = nI 841 := by decide
theorem kc_s999 : (Int16.ofInt 999).toInt32 = nI 999 := by decide
theorem kc_s1000 : (Int16.ofInt 1000).toInt32 = nI 1000 := by decide
theorem kc_s1417 : (Int16.ofInt 1417).toInt32 = nI 1417 := by decide
theorem kc_s2160 : (Int16.ofInt 2160).toInt32 = nI 2160 := by decide
theorem kc_s9919 : (Int16.ofInt 9919).toInt32 = nI 9919 := by decide
theorem kc_s9999 : (Int16.ofInt 9999).toInt32 = nI 9999 := by decide
theorem kc_s11336 : (Int16.ofInt 11336).toInt32 = nI 11336 := by decide

/-! booleans -/
def kx_b : Bool → Int32
  | true => nI 1
  | false => nI 0
theorem kx_b_t {b : Bool} (h : b = true) : nI 1 = kx_b b := by rw [h]; rfl
theorem kx_b_f {b : Bool} (h : b = false) : nI 0 = kx_b b := by rw [h]; rfl
theorem kx_b_z {b : Bool} : kx_b b = 0 ↔ b = false := by cases b <;> decide
theorem kx_b_n (b : Bool) : kx_b b = nI b.toNat := by cases b <;> rfl
theorem kx_b_nar (b : Bool) : narrow .boolean (.int (kx_b b)) = .int (kx_b b) := by cases b <;> rfl
theorem ri_if_eqB (C : kx_C G l p e R s m args below meth c cc own nL ret nm hh) {b : Bool} {off : Int} (tgt : Nat) (d : decode cc pc = .ok (.ifCond .eq off, 3)) (ht : (pc : Int) + off = (tgt : Int)) (kt : b = false → kx_V G l p e R s m args below meth c nL Q tgt lv rest σ k n) (kf : b = true → kx_V G l p e R s m args below meth c nL Q (pc + 3) lv rest σ k n) : kx_V G l p e R s m args below meth c nL Q pc lv (.int (kx_b b) :: rest) σ k n :=
  ri_if_eq C tgt d ht (fun q => kt (kx_b_z.mp q)) (fun q => kf (by cases b; exact absurd rfl q; rfl))
theorem ri_if_neB (C : kx_C G l p e R s m args below meth c cc own nL ret nm hh) {b : Bool} {off : Int} (tgt : Nat) (d : decode cc pc = .ok (.ifCond .ne off, 3)) (ht : (pc : Int) + off = (tgt : Int)) (kt : b = true → kx_V G l p e R s m args below meth c nL Q tgt lv rest σ k n) (kf : b = false → kx_V G l p e R s m args below meth c nL Q (pc + 3) lv rest σ k n) : kx_V G l p e R s m args below meth c nL Q pc lv (.int (kx_b b) :: rest) σ k n :=
  ri_if_ne C tgt d ht (fun q => kt (by cases b; exact absurd rfl q; rfl)) (fun q => kf (kx_b_z.mp q))
/-! a compare of longs and its branch -/
theorem kx_lc_lt {x y : Int64} : lg_cmp x y < 0 ↔ x < y := by rw [← Int32.not_le, lg_cmp_ge, Int64.not_le]
theorem kx_lc_gt {x y : Int64} : 0 < lg_cmp x y ↔ y < x := by rw [← Int32.not_le, lg_cmp_le, Int64.not_le]
theorem ri_lv2 {lv' : List (Nat × Value)} {st : List Value} (kk : kx_V G l p e R s m args below meth c nL Q pc lv' st σ k n) (h : kx_le lv lv') : kx_V G l p e R s m args below meth c nL Q pc lv st σ k n := ri_lv lv' h kk
theorem kx_rcN (C : kx_C G l p e R s m args below meth c cc own nL ret nm hh) {t : kx_T} {a ci : Nat} {fs : List Value} {Cn : String} (ho : σ t = some (a, .inr (ci, fs))) (hc : (kx_cl[ci]?).map (fun r => r.1) = some Cn) : kx_Rc G s σ a Cn := by
  cases hr : kx_cl[ci]? with
  | none => rw [hr] at hc; cases hc
  | some r => rw [hr] at hc; cases hc; exact kx_rc C ho hr
theorem ri_ialoadN (C : kx_C G l p e R s m args below meth c cc own nL ret nm hh) {t : kx_T} {a N j : Nat} {u : Nat → Nat} {i : Int32} (d : decode cc pc = .ok (.iaload, 1)) (ho : σ t = some (a, kx_ai G N (fun i => nI (u i)))) (hi : i = nI j) (hj : j < N ∧ N < 2147483648)
    (kk : kx_V G l p e R s m args below meth c nL Q (pc + 1) lv (.int (nI (u j)) :: rest) σ k n) : kx_V G l p e R s m args below meth c nL Q pc lv (.int i :: .ref a :: rest) σ k n := ri_iaload C d ho hi hj kk

end KXR
