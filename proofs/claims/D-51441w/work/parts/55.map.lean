/-! the JDK: a TreeMap told by its list of keys and values -/
set_option maxRecDepth 100000
set_option maxHeartbeats 1000000 in
theorem mt_J19_remove {l : Launch} {G : kx_G} (htr : l.stackTraces = false) {σ : kx_H} {ct mp : Nat} {t : tt_T} {K V : Nat → Nat} {D : Nat → Int32} {vals : Option Nat} {sz : Nat} {md : Int32} (h : tm_H σ ct mp t K V D vals (sz + 1) md) {key : Nat → Nat} (hk : tm_K G σ ct (tt_i t) K key) {x kv : Nat} (hx : kx_ig G σ ct x kv) (hkv : kv < 2147483648) (hin : ∃ a, a ∈ tt_i t ∧ key a = kv) : kx_SP l G yJ19_remove (ws_ yJ19_remove cJ19_remove 4 (some (.object "java/lang/Object"))) 6 0 0 [.ref mp, .ref x] σ (fun v τ => ∃ an A Cc, tt_i t = A ++ an :: Cc ∧ key an = kv ∧ v = some (.ref (V an)) ∧ ∃ t' K' V' D', tm_H τ ct mp t' K' V' D' vals sz (md + nI 1) ∧ tm_L K' V' (tt_i t') = tm_L K V (A ++ Cc) ∧ (∀ x, x ∈ tt_i t' → x ∈ tt_i t) ∧ kx_Fr (tm_T ct (tt_i t)) σ τ) kx_nx := by
  refine kx_body htr (by decide +kernel) (own := "java/util/TreeMap") (nm := "remove") rfl rfl (Nat.le_of_ble_eq_true rfl) ?_
  intro p e s m args below meth c Q C hQ
  first | refine ri_aload_n C dJ19_remove_0 rfl ?_ | refine ri_aload_nQ C dJ19_remove_0 rfl ?_ | refine ri_aload_nN C dJ19_remove_0 rfl ?_
  first | refine ri_aload_n C dJ19_remove_1 rfl ?_ | refine ri_aload_nQ C dJ19_remove_1 rfl ?_ | refine ri_aload_nN C dJ19_remove_1 rfl ?_
  refine ri_callV C km_J19_getEntry q1522 q1524 dJ19_remove_2 (mt_J19_getEntry htr h hk hx hkv) rfl rfl (kx_rcN C h.1 rfl) ⟨⟨(Nat.le_of_ble_eq_true rfl), (Nat.le_of_ble_eq_true rfl)⟩, (Nat.le_of_ble_eq_true rfl), (Nat.le_of_ble_eq_true rfl), (Nat.le_of_ble_eq_true rfl)⟩ (fun v2 s2 h2 => ?_) (fun _ _ _ h => h.elim)
  obtain ⟨rfl, hv⟩ := h2
  obtain ⟨an, rfl, ha, hka⟩ := hv.resolve_right (fun q => q.2 _ hin.choose_spec.1 hin.choose_spec.2)
  obtain ⟨Bx, tl, tr, ht⟩ := tt_at ha
  have hc := ((tt_H_p Bx (.branch an tl tr)).mp (ht ▸ h.2.1)).1.1
  first | refine ri_astore_n C dJ19_remove_5 rfl (by decide) ?_ | refine ri_astore_nQ C dJ19_remove_5 rfl (by decide) ?_ | refine ri_astore_nN C dJ19_remove_5 rfl (by decide) ?_
  first | refine ri_aload_n C dJ19_remove_6 rfl ?_ | refine ri_aload_nQ C dJ19_remove_6 rfl ?_ | refine ri_aload_nN C dJ19_remove_6 rfl ?_
  refine ri_ifnonnull C 12 dJ19_remove_7 rfl ?_
  first | refine ri_aload_n C dJ19_remove_12 rfl ?_ | refine ri_aload_nQ C dJ19_remove_12 rfl ?_ | refine ri_aload_nN C dJ19_remove_12 rfl ?_
  refine ri_getf C dJ19_remove_13 fr_q1085_19 hc (by rfl) ?_
  first | refine ri_astore_n C dJ19_remove_16 rfl (by decide) ?_ | refine ri_astore_nQ C dJ19_remove_16 rfl (by decide) ?_ | refine ri_astore_nN C dJ19_remove_16 rfl (by decide) ?_
  first | refine ri_aload_n C dJ19_remove_17 rfl ?_ | refine ri_aload_nQ C dJ19_remove_17 rfl ?_ | refine ri_aload_nN C dJ19_remove_17 rfl ?_
  first | refine ri_aload_n C dJ19_remove_18 rfl ?_ | refine ri_aload_nQ C dJ19_remove_18 rfl ?_ | refine ri_aload_nN C dJ19_remove_18 rfl ?_
  refine ri_callV C km_J19_deleteEntry q1992 qs36 dJ19_remove_19 (mt_J19_deleteEntry htr (Bx := Bx) (an := an) (tl := tl) (tr := tr) (ht ▸ h)) rfl rfl (kx_rcN C h.1 rfl) ⟨⟨(Nat.le_of_ble_eq_true rfl), (Nat.le_of_ble_eq_true rfl)⟩, (Nat.le_of_ble_eq_true rfl), (Nat.le_of_ble_eq_true rfl), (Nat.le_of_ble_eq_true rfl)⟩ (fun v19 s19 h19 => ?_) (fun _ _ _ h => h.elim)
  obtain ⟨rfl, t', K', V', D', g1, g2, g3, g4⟩ := h19
  first | refine ri_aload_n C dJ19_remove_22 rfl ?_ | refine ri_aload_nQ C dJ19_remove_22 rfl ?_ | refine ri_aload_nN C dJ19_remove_22 rfl ?_
  exact ri_aret C hQ dJ19_remove_23 (Or.inl ⟨_, rfl⟩) (Or.inr ⟨_, rfl⟩) (Nat.le_of_ble_eq_true rfl) (Nat.le_of_ble_eq_true rfl) ⟨an, tt_lc Bx ++ tt_i tl, tt_i tr ++ tt_rc Bx, by rw [ht, tt_i_pb], hka, rfl, t', K', V', D', g1, by rw [g2]; simp, fun y hy => by rw [ht]; exact g3 y hy, by rw [ht]; exact g4⟩
/-- each tag of the colour from 100 on tells its address -/
def kx_wf (σ : kx_H) (c : Nat) : Prop := ∀ a x, σ (c, 100 + a) = some x → x.1 = a
/-- a map: its pairs of key and value's address, in order of the keys -/
def tm_B (G : kx_G) (σ : kx_H) (c m : Nat) (L : List (Nat × Nat)) (vals : Option Nat) (md : Int32) : Prop :=
  ∃ t K V D key, tm_H σ c m t K V D vals L.length md ∧ tm_K G σ c (tt_i t) K key ∧ (tt_i t).map (fun a => (key a, V a)) = L
/-- all else of the heap stays: what is neither the map nor an entry -/
def tm_F (σ τ : kx_H) (c : Nat) : Prop := ∀ u x, σ u = some x → u ≠ (c, 3) → (∀ fs, x.2 ≠ .inr (19, fs)) → τ u = some x
theorem tm_F_of {σ τ : kx_H} {c m : Nat} {t : tt_T} {K V : Nat → Nat} {D : Nat → Int32} {vals : Option Nat} {sz : Nat} {md : Int32} (h : tm_H σ c m t K V D vals sz md) (hf : kx_Fr (tm_T c (tt_i t)) σ τ) : tm_F σ τ c := by
  intro u x hu h3 hn
  rw [hf u (fun hT => ?_)]
  · exact hu
  · rcases hT with q | ⟨y, hy, q⟩
    · exact h3 q
    · subst q
      obtain ⟨l, r, p, hM⟩ := tm_at h hy
      have e := hM.symm.trans hu
      simp only [Option.some.injEq] at e
      exact hn _ (by rw [← e])
theorem tm_F_of2 {σ τ : kx_H} {c m q : Nat} {t : tt_T} {K V : Nat → Nat} {D : Nat → Int32} {vals : Option Nat} {sz : Nat} {md : Int32} (hw : kx_wf σ c) (hq : ∀ u y, σ u = some y → y.1 ≠ q) (h : tm_H σ c m t K V D vals sz md) (hf : kx_Fr (fun u => tm_T c (tt_i t) u ∨ u = (c, 100 + q)) σ τ) : tm_F σ τ c := by
  intro u x hu h3 hn
  rw [hf u (fun hT => ?_)]
  · exact hu
  · rcases hT with (z | ⟨y, hy, z⟩) | z
    · exact h3 z
    · subst z
      obtain ⟨l, r, p, hM⟩ := tm_at h hy
      have e := hM.symm.trans hu
      simp only [Option.some.injEq] at e
      exact hn _ (by rw [← e])
    · subst z
      exact hq _ _ hu (hw q x hu)
/-- a box stays a box -/
theorem kx_ig_F {G : kx_G} {σ τ : kx_H} {c ct a x : Nat} (h : kx_ig G σ ct a x) (hF : tm_F σ τ c) : kx_ig G τ ct a x := by
  rcases h with h | h
  · exact Or.inl (hF _ _ h (kx_ne2 (by omega)) (fun fs q => by injection q with q; injection q with q; cases q))
  · exact Or.inr h
theorem tm_wf {σ τ : kx_H} {c m m' : Nat} {t t' : tt_T} {K V K' V' : Nat → Nat} {D D' : Nat → Int32} {vals vals' : Option Nat} {sz sz' : Nat} {md md' : Int32} {T : kx_T → Prop} (hw : kx_wf σ c) (hf : kx_Fr T σ τ) (hT : ∀ u, T u → u = (c, 3) ∨ ∃ y x, u = (c, 100 + y) ∧ τ u = some x ∧ x.1 = y) : kx_wf τ c := by
  intro a x hx
  by_cases q : T (c, 100 + a)
  · rcases hT _ q with z | ⟨y, x', z, hx', e⟩
    · exact absurd z (kx_ne2 (by omega))
    · have : a = y := by have := (Prod.mk.inj z).2; omega
      subst this
      rw [hx] at hx'
      cases hx'
      exact e
  · rw [hf _ q] at hx
    exact hw a x hx
theorem mt_tm_contains {l : Launch} {G : kx_G} (htr : l.stackTraces = false) {σ : kx_H} {ct mp x kv : Nat} {LL : List (Nat × Nat)} {vals : Option Nat} {md : Int32} (h : tm_B G σ ct mp LL vals md) (hx : kx_ig G σ ct x kv) (hkv : kv < 2147483648) : kx_SP l G yJ19_containsKey (ws_ yJ19_containsKey cJ19_containsKey 2 (some .boolean)) 6 0 0 [.ref mp, .ref x] σ (fun v τ => v = some (.int (kx_b (LL.any fun y => decide (y.1 = kv)))) ∧ τ = σ) kx_nx := by
  obtain ⟨t, K, V, D, key, h1, h2, h3⟩ := h
  refine (mt_J19_containsKey htr h1 h2 hx hkv).mono (fun v τ hq => ?_) (fun _ _ _ q => q)
  obtain ⟨e, b, hb, hiff⟩ := hq
  refine ⟨?_, e⟩
  rw [hb]
  congr 3
  rw [Bool.eq_iff_iff, hiff, List.any_eq_true, ← h3]
  constructor
  · rintro ⟨a, ha, hk⟩
    exact ⟨_, List.mem_map.mpr ⟨a, ha, rfl⟩, decide_eq_true hk⟩
  · rintro ⟨y, hy, hk⟩
    obtain ⟨a, ha, rfl⟩ := List.mem_map.mp hy
    exact ⟨a, ha, of_decide_eq_true hk⟩
theorem mt_tm_size {l : Launch} {G : kx_G} (htr : l.stackTraces = false) {σ : kx_H} {ct mp : Nat} {LL : List (Nat × Nat)} {vals : Option Nat} {md : Int32} (h : tm_B G σ ct mp LL vals md) : kx_SP l G yJ19_size (ws_ yJ19_size cJ19_size 1 (some .int)) 1 0 0 [.ref mp] σ (fun v τ => v = some (.int (nI LL.length)) ∧ τ = σ) kx_nx := by
  obtain ⟨t, K, V, D, key, h1, h2, h3⟩ := h
  exact mt_J19_size htr h1
theorem mt_tm_put {l : Launch} {G : kx_G} (htr : l.stackTraces = false) {σ : kx_H} {ct mp x kv w : Nat} {LL : List (Nat × Nat)} {vals : Option Nat} {md : Int32} (h : tm_B G σ ct mp LL vals md) (hwf : kx_wf σ ct) (hx : kx_ig G σ ct x kv) (hkv : kv < 2147483648) (hno : ∀ y, y ∈ LL → y.1 ≠ kv) : kx_SP l G yJ19_put (ws_ yJ19_put cJ19_put 3 (some (.object "java/lang/Object"))) 7 1 6 [.ref mp, .ref x, .ref w] σ (fun v τ => v = some .null ∧ ∃ A Cc, LL = A ++ Cc ∧ tm_B G τ ct mp (A ++ (kv, w) :: Cc) vals (md + nI 1) ∧ tm_F σ τ ct ∧ kx_wf τ ct ∧ kx_of ct σ τ) kx_nx := by
  obtain ⟨t, K, V, D, key, h1, h2, h3⟩ := h
  have hsz : t = tt_n → LL.length = 0 := fun e => by rw [← h3, e]; rfl
  refine (mt_J19_put (w := w) htr h1 h2 hx hkv (fun a ha q => hno (key a, V a) (by rw [← h3]; exact List.mem_map.mpr ⟨a, ha, rfl⟩) q) hsz).mono (fun v τ hq => ?_) (fun _ _ _ q => q)
  obtain ⟨rfl, q, t', D', g1, ⟨A, Cc, g2, g3⟩, g4, g5, g6⟩ := hq
  have hq : q ∉ tt_i t := tm_fresh h1 g5
  have hF : tm_F σ τ ct := tm_F_of2 hwf g5 h1 g6
  have mem : ∀ {y : Nat}, y ∈ tt_i t' → y = q ∨ y ∈ tt_i t := fun {y} hy => by
    rw [g3] at hy
    simp only [List.mem_append, List.mem_cons] at hy
    rcases hy with hy | hy | hy
    · exact Or.inr (by rw [g2]; simp [hy])
    · exact Or.inl hy
    · exact Or.inr (by rw [g2]; simp [hy])
  have eqm : ∀ (L : List Nat), q ∉ L → L.map (fun a => (tm_u key q kv a, tm_u V q w a)) = L.map (fun a => (key a, V a)) := fun L hL => List.map_congr_left (fun a ha => by
    have : a ≠ q := fun e => hL (e ▸ ha)
    rw [tm_u_o this, tm_u_o this])
  rw [g2, List.mem_append, not_or] at hq
  refine ⟨rfl, A.map (fun a => (key a, V a)), Cc.map (fun a => (key a, V a)), by rw [← h3, g2, List.map_append], ⟨t', tm_u K q x, tm_u V q w, D', tm_u key q kv, ?_, ⟨fun a ha => ?_, g4⟩, ?_⟩, hF, ?_, ?_⟩
  · have e : (A.map (fun a => (key a, V a)) ++ (kv, w) :: Cc.map (fun a => (key a, V a))).length = LL.length + 1 := by
      rw [← h3, g2]; simp; omega
    rw [e]; exact g1
  · by_cases c : a = q
    · subst c
      rw [tm_u_s, tm_u_s]
      exact ⟨kx_ig_F hx hF, hkv⟩
    · rw [tm_u_o c, tm_u_o c]
      have := h2.1 a ((mem ha).resolve_left c)
      exact ⟨kx_ig_F this.1 hF, this.2⟩
  · rw [g3, List.map_append, List.map_cons, tm_u_s, tm_u_s, eqm A hq.1, eqm Cc hq.2]
  · refine tm_wf (m := mp) (m' := mp) (t := t) (t' := t') (K := K) (V := V) (K' := K) (V' := V) (D := D) (D' := D') (vals := vals) (vals' := vals) (sz := 0) (sz' := 0) (md := md) (md' := md) hwf g6 (fun u hu => ?_)
    rcases hu with (hu | ⟨y, hy, hu⟩) | hu
    · exact Or.inl hu
    · obtain ⟨l', r', p', hM⟩ := tm_at g1 (show y ∈ tt_i t' by rw [g3]; rw [g2] at hy; simp only [List.mem_append, List.mem_cons] at hy ⊢; rcases hy with hy | hy <;> simp [hy])
      exact Or.inr ⟨y, _, hu, by rw [hu]; exact hM, rfl⟩
    · obtain ⟨l', r', p', hM⟩ := tm_at g1 (show q ∈ tt_i t' by rw [g3]; simp)
      exact Or.inr ⟨q, _, hu, by rw [hu]; exact hM, rfl⟩
  · intro u hu
    refine g6 u (fun hT => ?_)
    rcases hT with (hT | ⟨y, hy, hT⟩) | hT
    · exact hu (by rw [hT])
    · exact hu (by rw [hT])
    · exact hu (by rw [hT])
theorem kx_SP.less {l : Launch} {G : kx_G} {σ : kx_H} {y : MethodName} {ws : List Cond} {f mc ms : Nat} {as : List Value} {P P' : Option Value → kx_H → Prop} (h : kx_SP l G y ws f mc ms as σ P kx_nx) (hp : ∀ v τ, P v τ → ∃ τ', (∀ t x, τ' t = some x → τ t = some x) ∧ P' v τ') : kx_SP l G y ws f mc ms as σ P' kx_nx := by
  refine MetFree.mono h (fun _ _ hp => hp) (fun _ _ _ _ _ _ => trivial) ?_
  intro a st o t _ hq
  rcases hq with ⟨⟨⟨v, τ, e, h1, h2⟩, hF⟩, hL⟩ | ⟨q, e, E, ce, L, ⟨⟨τ, h1, h2⟩, hF⟩, hr⟩
  · obtain ⟨τ', g1, g2⟩ := hp _ _ h1
    exact Or.inl ⟨⟨⟨v, τ', e, g2, h2.sub g1⟩, hF⟩, hL⟩
  · exact h1.elim
theorem ll_phi {α : Type} {f g : Nat → α} : ∀ {L' L : List Nat}, L'.Nodup → L'.map f = L.map g → ∃ φ : Nat → Nat, L'.map φ = L ∧ ∀ a, a ∈ L' → f a = g (φ a)
  | [], [], _, _ => ⟨id, rfl, fun a h => by cases h⟩
  | [], b :: L, _, h => by simp at h
  | a :: L', [], _, h => by simp at h
  | a :: L', b :: L, nd, h => by
    obtain ⟨n1, n2⟩ := List.nodup_cons.mp nd
    simp only [List.map_cons, List.cons.injEq] at h
    obtain ⟨φ, h1, h2⟩ := ll_phi n2 h.2
    refine ⟨fun x => if x = a then b else φ x, ?_, fun x hx => ?_⟩
    · rw [List.map_cons, if_pos rfl]
      congr 1
      rw [← h1]
      exact List.map_congr_left (fun x hx => if_neg (show ¬ x = a from fun e => n1 (by rw [← e]; exact hx)))
    · by_cases c : x = a
      · subst c; show f x = g (if x = x then b else φ x); rw [if_pos rfl]; exact h.1
      · show f x = g (if x = a then b else φ x); rw [if_neg c]; exact h2 x ((List.mem_cons.mp hx).resolve_left c)
theorem pp_mid {A A' C C' : List (Nat × Nat)} {k w w' : Nat} (h : A ++ (k, w) :: C = A' ++ (k, w') :: C') (nd : ((A ++ (k, w) :: C).map Prod.fst).Nodup) : A = A' ∧ w = w' ∧ C = C' := by
  induction A generalizing A' with
  | nil =>
    cases A' with
    | nil => simpa using h
    | cons y A' =>
      simp only [List.nil_append, List.cons_append, List.cons.injEq] at h
      obtain ⟨rfl, rfl⟩ := h
      exact absurd (by simp) (List.nodup_cons.mp nd).1
  | cons z A ih =>
    cases A' with
    | nil =>
      simp only [List.nil_append, List.cons_append, List.cons.injEq] at h
      obtain ⟨rfl, rfl⟩ := h
      exact absurd (by simp) (List.nodup_cons.mp nd).1
    | cons y A' =>
      simp only [List.cons_append, List.cons.injEq] at h
      obtain ⟨rfl, h⟩ := h
      obtain ⟨h1, h2, h3⟩ := ih h (List.nodup_cons.mp nd).2
      exact ⟨by rw [h1], h2, h3⟩
theorem mt_tm_remove {l : Launch} {G : kx_G} (htr : l.stackTraces = false) {σ : kx_H} {ct mp x kv w : Nat} {A Cc : List (Nat × Nat)} {vals : Option Nat} {md : Int32} (h : tm_B G σ ct mp (A ++ (kv, w) :: Cc) vals md) (hwf : kx_wf σ ct) (hx : kx_ig G σ ct x kv) (hkv : kv < 2147483648) : kx_SP l G yJ19_remove (ws_ yJ19_remove cJ19_remove 4 (some (.object "java/lang/Object"))) 6 0 0 [.ref mp, .ref x] σ (fun v τ => v = some (.ref w) ∧ tm_B G τ ct mp (A ++ Cc) vals (md + nI 1) ∧ tm_F σ τ ct ∧ kx_wf τ ct ∧ kx_of ct σ τ) kx_nx := by
  obtain ⟨t, K, V, D, key, h1, h2, h3⟩ := h
  have hln : (A ++ (kv, w) :: Cc).length = (A ++ Cc).length + 1 := by simp; omega
  rw [hln] at h1
  obtain ⟨a0, ha0, e0⟩ : ∃ a, a ∈ tt_i t ∧ (key a, V a) = (kv, w) := List.mem_map.mp (by rw [h3]; simp)
  refine (mt_J19_remove htr h1 h2 hx hkv ⟨a0, ha0, (Prod.mk.inj e0).1⟩).less (fun v τ hq => ?_)
  obtain ⟨an, A2, C2, g1, g2, rfl, t', K', V', D', g3, g4, g5, g6⟩ := hq
  have hF0 : tm_F σ τ ct := tm_F_of h1 g6
  have hnd := g3.2.2.1
  obtain ⟨ρ, hρ⟩ : ∃ ρ : kx_H, ρ = fun u => if (∃ y, y ∈ tt_i t ∧ y ∉ tt_i t' ∧ u = (ct, 100 + y)) then none else τ u := ⟨_, rfl⟩
  have r1 : ∀ u, ¬ (∃ y, y ∈ tt_i t ∧ y ∉ tt_i t' ∧ u = (ct, 100 + y)) → ρ u = τ u := fun u hu => by rw [hρ]; exact if_neg hu
  have r0 : ∀ u x, ρ u = some x → τ u = some x ∧ ¬ (∃ y, y ∈ tt_i t ∧ y ∉ tt_i t' ∧ u = (ct, 100 + y)) := fun u x hu => by
    by_cases c : ∃ y, y ∈ tt_i t ∧ y ∉ tt_i t' ∧ u = (ct, 100 + y)
    · rw [hρ] at hu; dsimp only at hu; rw [if_pos c] at hu; cases hu
    · rw [r1 u c] at hu; exact ⟨hu, c⟩
  have hF : tm_F σ ρ ct := fun u x hu h3 hn => by
    rw [r1 u]
    · exact hF0 u x hu h3 hn
    · rintro ⟨y, hy, -, rfl⟩
      obtain ⟨l', r', p', hM⟩ := tm_at h1 hy
      have e := hM.symm.trans hu
      simp only [Option.some.injEq] at e
      exact hn _ (by rw [← e])
  have r2 : ∀ y, y ∈ tt_i t' → ρ (ct, 100 + y) = τ (ct, 100 + y) := fun y hy => r1 _ (by
    rintro ⟨z, -, hz, e⟩
    have : y = z := by have := (Prod.mk.inj e).2; omega
    exact hz (this ▸ hy))
  have g3' : tm_H ρ ct mp t' K' V' D' vals (A ++ Cc).length (md + nI 1) := ⟨by rw [r1 _ (by rintro ⟨z, -, -, e⟩; have := (Prod.mk.inj e).2; omega)]; exact g3.1, tt_H_m (fun x hx l r p hM => by show ρ _ = _; rw [r2 x hx]; exact hM) g3.2.1, g3.2.2.1, g3.2.2.2⟩
  refine ⟨ρ, fun u x hu => (r0 u x hu).1, ?_⟩
  obtain ⟨φ, f1, f2⟩ := ll_phi hnd g4
  have h3' : A2.map (fun a => (key a, V a)) ++ (key an, V an) :: C2.map (fun a => (key a, V a)) = A ++ (kv, w) :: Cc := by rw [← h3, g1]; simp
  have hsrt := h2.2
  rw [g1] at hsrt
  obtain ⟨e1, e2, e3⟩ := pp_mid (w := V an) (w' := w) (k := kv) (by rw [← g2] at h3' ⊢; exact h3') (by
    rw [g2] at h3'
    have : (A2.map (fun a => (key a, V a)) ++ (kv, V an) :: C2.map (fun a => (key a, V a))).map Prod.fst = (A2 ++ an :: C2).map key := by simp [g2, Function.comp_def]
    rw [this]
    exact List.pairwise_map.mpr (hsrt.imp (fun {a b} hab q => by have : (key a : Int) < key b := hab; omega)))
  have hφ : ∀ a, a ∈ tt_i t' → φ a ∈ tt_i t := fun a ha => by
    have : φ a ∈ A2 ++ C2 := by rw [← f1]; exact List.mem_map.mpr ⟨a, ha, rfl⟩
    rw [g1]; simp only [List.mem_append, List.mem_cons] at this ⊢
    rcases this with h | h <;> simp [h]
  refine ⟨by rw [e2], ⟨t', K', V', D', fun a => key (φ a), ?_, ⟨fun a ha => ?_, ?_⟩, ?_⟩, hF, ?_, ?_⟩
  · exact g3'
  · have e := f2 a ha
    rw [(Prod.mk.inj e).1]
    have := h2.1 (φ a) (hφ a ha)
    exact ⟨kx_ig_F this.1 hF, this.2⟩
  · have h9 : tt_S (tm_k key) (A2 ++ C2) := hsrt.sublist (List.Sublist.append (List.Sublist.refl _) (List.sublist_cons_self _ _))
    rw [← f1] at h9
    exact (List.pairwise_map (R := fun a b => tm_k key a < tm_k key b)).mp h9
  · have h9 : (tt_i t').map (fun a => (key (φ a), V' a)) = ((tt_i t').map φ).map (fun a => (key a, V a)) := by
      rw [List.map_map]
      refine List.map_congr_left (fun a ha => ?_)
      show (key (φ a), V' a) = (key (φ a), V (φ a))
      rw [(Prod.mk.inj (f2 a ha)).2]
    rw [h9, f1, List.map_append, e1, e3]
  · intro a x hx
    obtain ⟨q1, q2⟩ := r0 _ _ hx
    by_cases c : a ∈ tt_i t
    · have c2 : a ∈ tt_i t' := Classical.byContradiction (fun c2 => q2 ⟨a, c, c2, rfl⟩)
      obtain ⟨l', r', p', hM⟩ := tm_at g3 c2
      have e := hM.symm.trans q1
      simp only [Option.some.injEq] at e
      rw [← e]
    · rw [g6 _ (by
        rintro (z | ⟨y, hy, z⟩)
        · exact absurd z (kx_ne2 (by omega))
        · have : a = y := by have := (Prod.mk.inj z).2; omega
          exact c (this ▸ hy))] at q1
      exact hwf a x q1
  · intro u hu
    rw [r1 u (by rintro ⟨y, -, -, e⟩; exact hu (by rw [e]))]
    refine g6 u (fun hT => ?_)
    rcases hT with hT | ⟨y, hy, hT⟩
    · exact hu (by rw [hT])
    · exact hu (by rw [hT])

