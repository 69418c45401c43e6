/-! the JDK: a new entry of a TreeMap -/
set_option maxRecDepth 100000
def tm_u (K : Nat → Nat) (q x : Nat) : Nat → Nat := fun b => if b = q then x else K b
theorem tm_u_s {K : Nat → Nat} {q x : Nat} : tm_u K q x q = x := if_pos rfl
theorem tm_u_o {K : Nat → Nat} {q x b : Nat} (h : b ≠ q) : tm_u K q x b = K b := if_neg h
theorem tm_c_s {D : Nat → Int32} {a : Nat} {z : Int32} : tm_c D a z a = z := if_pos rfl
theorem tm_c_o {D : Nat → Int32} {a b : Nat} {z : Int32} (h : b ≠ a) : tm_c D a z b = D b := if_neg h
theorem tm_map {σ τ : kx_H} {c m : Nat} {t : tt_T} {K V : Nat → Nat} {D : Nat → Int32} {vals vals' : Option Nat} {sz sz' : Nat} {md md' : Int32} (h : tm_H σ c m t K V D vals sz md) (e : τ = kx_up σ (c, 3) (m, .inr (18, tm_o vals' (tt_r t) sz' md'))) : tm_H τ c m t K V D vals' sz' md' :=
  ⟨kx_rs e, tt_H_m (fun x _ l r p hM => kx_ro e hM (kx_ne2 (by omega))) h.2.1, h.2.2.1, h.2.2.2⟩
/-- a new leaf stands -/
theorem tm_put {σ τ : kx_H} {c m q x w pa : Nat} {dr : Bool} {ts : tt_T} {B : tt_C} {K V : Nat → Nat} {D : Nat → Int32} {vals : Option Nat} {sz : Nat} {md : Int32} (h : tm_H σ c m (tt_p ((dr, pa, ts) :: B) tt_n) K V D vals sz md) (hq : ∀ u y, σ u = some y → y.1 ≠ q)
    (h3 : τ (c, 3) = σ (c, 3)) (e2 : τ (c, 100 + q) = some (q, .inr (19, [.ref x, .ref w, .null, .null, .ref pa, .int (nI 1)])))
    (e4 : τ (c, 100 + pa) = some (pa, .inr (19, [.ref (K pa), .ref (V pa), bif dr then .ref q else va_rf (tt_r ts), bif dr then va_rf (tt_r ts) else .ref q, va_rf (tt_u B), .int (D pa)]))) (e5 : ∀ y, y ≠ q → y ≠ pa → τ (c, 100 + y) = σ (c, 100 + y)) :
    tm_H τ c m (tt_p ((dr, pa, ts) :: B) (.branch q tt_n tt_n)) (tm_u K q x) (tm_u V q w) (tm_c D q (nI 1)) vals sz md := by
  have hin : q ∉ tt_i (tt_p ((dr, pa, ts) :: B) tt_n) := fun hm => by
    obtain ⟨l, r, p, hM⟩ := tm_at h hm
    exact hq _ _ hM rfl
  have hne : pa ≠ q := fun e => by
    subst e
    apply hin
    rw [tt_i_p]
    have g := tt_ic_m (x := pa) (B := (dr, pa, ts) :: B) |>.mp (tt_u_in rfl)
    rcases g with g | g <;> simp [g]
  refine ⟨by rw [h3, tt_r_p _ _ _ tt_n]; exact h.1, tt_put h.2.2.1 hin h.2.1 ?_ ?_ ?_, ?_, tm_c_01 h.2.2.2 (Or.inr rfl)⟩
  · show τ (c, 100 + q) = some (q, .inr (19, [.ref (tm_u K q x q), .ref (tm_u V q w q), .null, .null, .ref pa, .int (tm_c D q (nI 1) q)]))
    rw [tm_u_s, tm_u_s, tm_c_s]; exact e2
  · cases dr with
    | true =>
      show τ (c, 100 + pa) = some (pa, .inr (19, [.ref (tm_u K q x pa), .ref (tm_u V q w pa), .ref q, va_rf (tt_r ts), va_rf (tt_u B), .int (tm_c D q (nI 1) pa)]))
      rw [tm_u_o hne, tm_u_o hne, tm_c_o hne]; exact e4
    | false =>
      show τ (c, 100 + pa) = some (pa, .inr (19, [.ref (tm_u K q x pa), .ref (tm_u V q w pa), va_rf (tt_r ts), .ref q, va_rf (tt_u B), .int (tm_c D q (nI 1) pa)]))
      rw [tm_u_o hne, tm_u_o hne, tm_c_o hne]; exact e4
  · intro y h1 h2 l r p hM
    have h2' : y ≠ pa := fun e => h2 (by rw [e]; rfl)
    show τ (c, 100 + y) = some (y, .inr (19, [.ref (tm_u K q x y), .ref (tm_u V q w y), va_rf l, va_rf r, va_rf p, .int (tm_c D q (nI 1) y)]))
    rw [tm_u_o h1, tm_u_o h1, tm_c_o h1, e5 y h1 h2']
    exact hM
  · have nd := h.2.2.1
    rw [tt_i_p] at nd hin ⊢
    simp only [tt_i, List.nil_append, List.cons_append] at nd hin ⊢
    exact (List.perm_middle.nodup_iff).mpr (List.nodup_cons.mpr ⟨hin, nd⟩)
theorem kx_Fr.mon {T S : kx_T → Prop} {σ τ : kx_H} (h : kx_Fr T σ τ) (hs : ∀ t, T t → S t) : kx_Fr S σ τ := fun t ht => h t (fun q => ht (hs t q))
set_option maxHeartbeats 1000000 in
theorem mt_J19_addEntry_true {l : Launch} {G : kx_G} (htr : l.stackTraces = false) {σ : kx_H} {ct mp : Nat} {K V : Nat → Nat} {D : Nat → Int32} {vals : Option Nat} {sz : Nat} {md : Int32} {x w pa : Nat} {ts : tt_T} {Bx : tt_C} (h : tm_H σ ct mp (tt_p ((true, pa, ts) :: Bx) tt_n) K V D vals sz md) : kx_SP l G yJ19_addEntry (ws_ yJ19_addEntry cJ19_addEntry 6 none) 3 1 6 [.ref mp, .ref x, .ref w, .ref pa, .int (nI 1)] σ (fun v τ => v = none ∧ ∃ q t' D', tm_H τ ct mp t' (tm_u K q x) (tm_u V q w) D' vals (sz + 1) (md + nI 1) ∧ tt_i t' = tt_lc ((true, pa, ts) :: Bx) ++ q :: tt_rc ((true, pa, ts) :: Bx) ∧ (∀ u y, σ u = some y → y.1 ≠ q) ∧ kx_Fr (fun u => tm_T ct (tt_i (tt_p ((true, pa, ts) :: Bx) tt_n)) u ∨ u = (ct, 100 + q)) σ τ) kx_nx := by
  refine kx_body htr (by decide +kernel) (own := "java/util/TreeMap") (nm := "addEntry") rfl rfl (Nat.le_of_ble_eq_true rfl) ?_
  intro p e s m args below meth c Q C hQ
  obtain ⟨-, hK0⟩ := (tt_H_p ((true, pa, ts) :: Bx) tt_n).mp h.2.1
  have hpa := tt_K_0 hK0
  have hm := h.1
  refine ri_newF C (fun q => (ct, 100 + q)) dJ19_addEntry_0 kn_q1075 (Nat.le_of_ble_eq_true rfl) (Nat.le_of_ble_eq_true rfl) (fun q0 s0 e0 f0 => ?_)
  have hne0 : pa ≠ q0 := fun e => f0 _ _ hpa (by rw [e])
  refine ri_dup C dJ19_addEntry_3 rfl ?_
  first | refine ri_aload_n C dJ19_addEntry_4 rfl ?_ | refine ri_aload_nQ C dJ19_addEntry_4 rfl ?_ | refine ri_aload_nN C dJ19_addEntry_4 rfl ?_
  first | refine ri_aload_n C dJ19_addEntry_5 rfl ?_ | refine ri_aload_nQ C dJ19_addEntry_5 rfl ?_ | refine ri_aload_nN C dJ19_addEntry_5 rfl ?_
  first | refine ri_aload_n C dJ19_addEntry_6 rfl ?_ | refine ri_aload_nQ C dJ19_addEntry_6 rfl ?_ | refine ri_aload_nN C dJ19_addEntry_6 rfl ?_
  refine ri_callI C km_J22_init q1077 rfl dJ19_addEntry_7 (mt_J22_init (p_ := some pa) (k_ := x) (v_ := w) htr (kx_rs e0)) rfl rfl ⟨⟨(Nat.le_of_ble_eq_true rfl), (Nat.le_of_ble_eq_true rfl)⟩, (Nat.le_of_ble_eq_true rfl), (Nat.le_of_ble_eq_true rfl), (Nat.le_of_ble_eq_true rfl)⟩ (fun v7 s7 h7 => ?_) (fun _ _ _ h => h.elim)
  obtain ⟨rfl, e7⟩ := h7
  first | refine ri_astore C dJ19_addEntry_10 rfl (by decide) ?_ | refine ri_astoreQ C dJ19_addEntry_10 rfl (by decide) ?_ | refine ri_astoreN C dJ19_addEntry_10 rfl (by decide) ?_
  refine ri_iload C dJ19_addEntry_12 rfl ?_
  first | refine ri_if_eqB C 26 dJ19_addEntry_14 rfl (fun h14 => ?_) (fun h14 => ?_) | refine ri_if_eqN C 26 dJ19_addEntry_14 rfl (by omega) (fun h14 => ?_) (fun h14 => ?_) | refine ri_if_eq C 26 dJ19_addEntry_14 rfl (fun h14 => ?_) (fun h14 => ?_)
  · exact absurd h14 (by decide) --dead
  · first | refine ri_aload_n C dJ19_addEntry_17 rfl ?_ | refine ri_aload_nQ C dJ19_addEntry_17 rfl ?_ | refine ri_aload_nN C dJ19_addEntry_17 rfl ?_
    first | refine ri_aload C dJ19_addEntry_18 rfl ?_ | refine ri_aloadQ C dJ19_addEntry_18 rfl ?_ | refine ri_aloadN C dJ19_addEntry_18 rfl ?_
    refine ri_putf C dJ19_addEntry_20 fd_q1086_19 (fun h => nomatch h) (kx_ro e7 (kx_ro e0 hpa (tm_x hne0)) (tm_x hne0)) (Nat.le_of_ble_eq_true rfl) (by rfl) (by rfl) (by dsimp only [List.set] <;> rfl) (fun s20 e20 => ?_)
    have hne : pa ≠ q0 := fun e => f0 _ _ hpa (by rw [e])
    have hk7 : s20 = kx_up (kx_up σ (ct, 100 + q0) (q0, .inr (19, [.ref x, .ref w, .null, .null, .ref pa, .int (nI 1)]))) (ct, 100 + pa) _ := (by rw [e20, e7, e0, kx_up_u]; rfl)
    have h20 := tm_put (q := q0) (x := x) (w := w) (τ := s20) h f0 (by rw [hk7, kx_up_o (kx_ne2 (by omega)), kx_up_o (kx_ne2 (by omega))]) (by rw [hk7, kx_up_o (tm_x (fun z => hne z.symm))]; exact kx_up_s) (kx_rs e20) (fun y h1 h2 => by rw [hk7, kx_up_o (tm_x h2), kx_up_o (tm_x h1)])
    refine ri_goto C 32 dJ19_addEntry_23 rfl ?_
    first | refine ri_aload_n C dJ19_addEntry_32 rfl ?_ | refine ri_aload_nQ C dJ19_addEntry_32 rfl ?_ | refine ri_aload_nN C dJ19_addEntry_32 rfl ?_
    first | refine ri_aload C dJ19_addEntry_33 rfl ?_ | refine ri_aloadQ C dJ19_addEntry_33 rfl ?_ | refine ri_aloadN C dJ19_addEntry_33 rfl ?_
    refine ri_callV C km_J19_fixAfterInsertion q1112 qs8 dJ19_addEntry_35 (mt_J19_fixAfterInsertion htr h20) rfl rfl (kx_rcN C h20.1 rfl) ⟨⟨(Nat.le_of_ble_eq_true rfl), (Nat.le_of_ble_eq_true rfl)⟩, (Nat.le_of_ble_eq_true rfl), (Nat.le_of_ble_eq_true rfl), (Nat.le_of_ble_eq_true rfl)⟩ (fun v35 s35 h35 => ?_) (fun _ _ _ h => h.elim)
    obtain ⟨rfl, t', D', h35, i35, F35⟩ := h35
    first | refine ri_aload_n C dJ19_addEntry_38 rfl ?_ | refine ri_aload_nQ C dJ19_addEntry_38 rfl ?_ | refine ri_aload_nN C dJ19_addEntry_38 rfl ?_
    refine ri_dup C dJ19_addEntry_39 rfl ?_
    refine ri_getf C dJ19_addEntry_40 fr_q578_18 h35.1 (by rfl) ?_
    refine ri_iconst C dJ19_addEntry_43 kc_i1 ?_
    first | refine ri_iaddN C dJ19_addEntry_44 ?_ | refine ri_iadd C dJ19_addEntry_44 ?_
    refine ri_putf C dJ19_addEntry_45 fd_q578_18 (fun h => nomatch h) h35.1 (Nat.le_of_ble_eq_true rfl) (by rfl) (by rfl) (by dsimp only [List.set] <;> rfl) (fun s45 e45 => ?_)
    have h45 := tm_map h35 e45
    first | refine ri_aload_n C dJ19_addEntry_48 rfl ?_ | refine ri_aload_nQ C dJ19_addEntry_48 rfl ?_ | refine ri_aload_nN C dJ19_addEntry_48 rfl ?_
    refine ri_dup C dJ19_addEntry_49 rfl ?_
    refine ri_getf C dJ19_addEntry_50 fr_q579_18 h45.1 (by rfl) ?_
    refine ri_iconst C dJ19_addEntry_53 kc_i1 ?_
    first | refine ri_iaddN C dJ19_addEntry_54 ?_ | refine ri_iadd C dJ19_addEntry_54 ?_
    refine ri_putf C dJ19_addEntry_55 fd_q579_18 (fun h => nomatch h) h45.1 (Nat.le_of_ble_eq_true rfl) (by rfl) (by rfl) (by dsimp only [List.set] <;> rfl) (fun s55 e55 => ?_)
    have h55 := tm_map h45 e55
    have FF : kx_Fr (fun u => tm_T ct (tt_i (tt_p ((true, pa, ts) :: Bx) tt_n)) u ∨ u = (ct, 100 + q0)) σ s55 := (by
      have inpa : pa ∈ tt_i (tt_p ((true, pa, ts) :: Bx) tt_n) := (by rw [tt_i_p]; have g := (tt_ic_m (x := pa) (B := ((true, pa, ts) :: Bx))).mp (tt_u_in rfl); rcases g with g | g <;> simp [g])
      have hsub : ∀ z, tm_T ct (tt_i (tt_p ((true, pa, ts) :: Bx) (.branch q0 tt_n tt_n))) z → tm_T ct (tt_i (tt_p ((true, pa, ts) :: Bx) tt_n)) z ∨ z = (ct, 100 + q0) := (by
        rintro z (hz | ⟨y, hy, hz⟩)
        · exact Or.inl (Or.inl hz)
        · rw [tt_i_p] at hy
          simp only [tt_i, List.nil_append, List.mem_append, List.mem_cons, List.cons_append] at hy
          rcases hy with hy | rfl | hy
          · exact Or.inl (Or.inr ⟨y, by rw [tt_i_p]; simp [hy], hz⟩)
          · exact Or.inr hz
          · exact Or.inl (Or.inr ⟨y, by rw [tt_i_p]; simp [hy], hz⟩))
      refine kx_Fr.up2 (kx_Fr.up2 ((kx_Fr.up2 (kx_Fr.up2 (kx_Fr.up2 kx_Fr.rf e0 (Or.inr rfl)) e7 (Or.inr rfl)) e20 (Or.inl (tm_T_e inpa))).tr (F35.mon hsub)) e45 (Or.inl tm_T_m)) e55 (Or.inl tm_T_m))
    exact ri_vret C hQ dJ19_addEntry_58 (Nat.le_of_ble_eq_true rfl) (Nat.le_of_ble_eq_true rfl) ⟨rfl, q0, t', D', h55, by rw [i35, tt_i_p]; rfl, f0, FF⟩
set_option maxHeartbeats 1000000 in
theorem mt_J19_addEntry_false {l : Launch} {G : kx_G} (htr : l.stackTraces = false) {σ : kx_H} {ct mp : Nat} {K V : Nat → Nat} {D : Nat → Int32} {vals : Option Nat} {sz : Nat} {md : Int32} {x w pa : Nat} {ts : tt_T} {Bx : tt_C} (h : tm_H σ ct mp (tt_p ((false, pa, ts) :: Bx) tt_n) K V D vals sz md) : kx_SP l G yJ19_addEntry (ws_ yJ19_addEntry cJ19_addEntry 6 none) 3 1 6 [.ref mp, .ref x, .ref w, .ref pa, .int (nI 0)] σ (fun v τ => v = none ∧ ∃ q t' D', tm_H τ ct mp t' (tm_u K q x) (tm_u V q w) D' vals (sz + 1) (md + nI 1) ∧ tt_i t' = tt_lc ((false, pa, ts) :: Bx) ++ q :: tt_rc ((false, pa, ts) :: Bx) ∧ (∀ u y, σ u = some y → y.1 ≠ q) ∧ kx_Fr (fun u => tm_T ct (tt_i (tt_p ((false, pa, ts) :: Bx) tt_n)) u ∨ u = (ct, 100 + q)) σ τ) kx_nx := by
  refine kx_body htr (by decide +kernel) (own := "java/util/TreeMap") (nm := "addEntry") rfl rfl (Nat.le_of_ble_eq_true rfl) ?_
  intro p e s m args below meth c Q C hQ
  obtain ⟨-, hK0⟩ := (tt_H_p ((false, pa, ts) :: Bx) tt_n).mp h.2.1
  have hpa := tt_K_0 hK0
  have hm := h.1
  refine ri_newF C (fun q => (ct, 100 + q)) dJ19_addEntry_0 kn_q1075 (Nat.le_of_ble_eq_true rfl) (Nat.le_of_ble_eq_true rfl) (fun q0 s0 e0 f0 => ?_)
  have hne0 : pa ≠ q0 := fun e => f0 _ _ hpa (by rw [e])
  refine ri_dup C dJ19_addEntry_3 rfl ?_
  first | refine ri_aload_n C dJ19_addEntry_4 rfl ?_ | refine ri_aload_nQ C dJ19_addEntry_4 rfl ?_ | refine ri_aload_nN C dJ19_addEntry_4 rfl ?_
  first | refine ri_aload_n C dJ19_addEntry_5 rfl ?_ | refine ri_aload_nQ C dJ19_addEntry_5 rfl ?_ | refine ri_aload_nN C dJ19_addEntry_5 rfl ?_
  first | refine ri_aload_n C dJ19_addEntry_6 rfl ?_ | refine ri_aload_nQ C dJ19_addEntry_6 rfl ?_ | refine ri_aload_nN C dJ19_addEntry_6 rfl ?_
  refine ri_callI C km_J22_init q1077 rfl dJ19_addEntry_7 (mt_J22_init (p_ := some pa) (k_ := x) (v_ := w) htr (kx_rs e0)) rfl rfl ⟨⟨(Nat.le_of_ble_eq_true rfl), (Nat.le_of_ble_eq_true rfl)⟩, (Nat.le_of_ble_eq_true rfl), (Nat.le_of_ble_eq_true rfl), (Nat.le_of_ble_eq_true rfl)⟩ (fun v7 s7 h7 => ?_) (fun _ _ _ h => h.elim)
  obtain ⟨rfl, e7⟩ := h7
  first | refine ri_astore C dJ19_addEntry_10 rfl (by decide) ?_ | refine ri_astoreQ C dJ19_addEntry_10 rfl (by decide) ?_ | refine ri_astoreN C dJ19_addEntry_10 rfl (by decide) ?_
  refine ri_iload C dJ19_addEntry_12 rfl ?_
  first | refine ri_if_eqB C 26 dJ19_addEntry_14 rfl (fun h14 => ?_) (fun h14 => ?_) | refine ri_if_eqN C 26 dJ19_addEntry_14 rfl (by omega) (fun h14 => ?_) (fun h14 => ?_) | refine ri_if_eq C 26 dJ19_addEntry_14 rfl (fun h14 => ?_) (fun h14 => ?_)
  · first | refine ri_aload_n C dJ19_addEntry_26 rfl ?_ | refine ri_aload_nQ C dJ19_addEntry_26 rfl ?_ | refine ri_aload_nN C dJ19_addEntry_26 rfl ?_
    first | refine ri_aload C dJ19_addEntry_27 rfl ?_ | refine ri_aloadQ C dJ19_addEntry_27 rfl ?_ | refine ri_aloadN C dJ19_addEntry_27 rfl ?_
    refine ri_putf C dJ19_addEntry_29 fd_q1087_19 (fun h => nomatch h) (kx_ro e7 (kx_ro e0 hpa (tm_x hne0)) (tm_x hne0)) (Nat.le_of_ble_eq_true rfl) (by rfl) (by rfl) (by dsimp only [List.set] <;> rfl) (fun s29 e29 => ?_)
    have hne : pa ≠ q0 := fun e => f0 _ _ hpa (by rw [e])
    have hk7 : s29 = kx_up (kx_up σ (ct, 100 + q0) (q0, .inr (19, [.ref x, .ref w, .null, .null, .ref pa, .int (nI 1)]))) (ct, 100 + pa) _ := (by rw [e29, e7, e0, kx_up_u]; rfl)
    have h20 := tm_put (q := q0) (x := x) (w := w) (τ := s29) h f0 (by rw [hk7, kx_up_o (kx_ne2 (by omega)), kx_up_o (kx_ne2 (by omega))]) (by rw [hk7, kx_up_o (tm_x (fun z => hne z.symm))]; exact kx_up_s) (kx_rs e29) (fun y h1 h2 => by rw [hk7, kx_up_o (tm_x h2), kx_up_o (tm_x h1)])
    first | refine ri_aload_n C dJ19_addEntry_32 rfl ?_ | refine ri_aload_nQ C dJ19_addEntry_32 rfl ?_ | refine ri_aload_nN C dJ19_addEntry_32 rfl ?_
    first | refine ri_aload C dJ19_addEntry_33 rfl ?_ | refine ri_aloadQ C dJ19_addEntry_33 rfl ?_ | refine ri_aloadN C dJ19_addEntry_33 rfl ?_
    refine ri_callV C km_J19_fixAfterInsertion q1112 qs8 dJ19_addEntry_35 (mt_J19_fixAfterInsertion htr h20) rfl rfl (kx_rcN C h20.1 rfl) ⟨⟨(Nat.le_of_ble_eq_true rfl), (Nat.le_of_ble_eq_true rfl)⟩, (Nat.le_of_ble_eq_true rfl), (Nat.le_of_ble_eq_true rfl), (Nat.le_of_ble_eq_true rfl)⟩ (fun v35 s35 h35 => ?_) (fun _ _ _ h => h.elim)
    obtain ⟨rfl, t', D', h35, i35, F35⟩ := h35
    first | refine ri_aload_n C dJ19_addEntry_38 rfl ?_ | refine ri_aload_nQ C dJ19_addEntry_38 rfl ?_ | refine ri_aload_nN C dJ19_addEntry_38 rfl ?_
    refine ri_dup C dJ19_addEntry_39 rfl ?_
    refine ri_getf C dJ19_addEntry_40 fr_q578_18 h35.1 (by rfl) ?_
    refine ri_iconst C dJ19_addEntry_43 kc_i1 ?_
    first | refine ri_iaddN C dJ19_addEntry_44 ?_ | refine ri_iadd C dJ19_addEntry_44 ?_
    refine ri_putf C dJ19_addEntry_45 fd_q578_18 (fun h => nomatch h) h35.1 (Nat.le_of_ble_eq_true rfl) (by rfl) (by rfl) (by dsimp only [List.set] <;> rfl) (fun s45 e45 => ?_)
    have h45 := tm_map h35 e45
    first | refine ri_aload_n C dJ19_addEntry_48 rfl ?_ | refine ri_aload_nQ C dJ19_addEntry_48 rfl ?_ | refine ri_aload_nN C dJ19_addEntry_48 rfl ?_
    refine ri_dup C dJ19_addEntry_49 rfl ?_
    refine ri_getf C dJ19_addEntry_50 fr_q579_18 h45.1 (by rfl) ?_
    refine ri_iconst C dJ19_addEntry_53 kc_i1 ?_
    first | refine ri_iaddN C dJ19_addEntry_54 ?_ | refine ri_iadd C dJ19_addEntry_54 ?_
    refine ri_putf C dJ19_addEntry_55 fd_q579_18 (fun h => nomatch h) h45.1 (Nat.le_of_ble_eq_true rfl) (by rfl) (by rfl) (by dsimp only [List.set] <;> rfl) (fun s55 e55 => ?_)
    have h55 := tm_map h45 e55
    have FF : kx_Fr (fun u => tm_T ct (tt_i (tt_p ((false, pa, ts) :: Bx) tt_n)) u ∨ u = (ct, 100 + q0)) σ s55 := (by
      have inpa : pa ∈ tt_i (tt_p ((false, pa, ts) :: Bx) tt_n) := (by rw [tt_i_p]; have g := (tt_ic_m (x := pa) (B := ((false, pa, ts) :: Bx))).mp (tt_u_in rfl); rcases g with g | g <;> simp [g])
      have hsub : ∀ z, tm_T ct (tt_i (tt_p ((false, pa, ts) :: Bx) (.branch q0 tt_n tt_n))) z → tm_T ct (tt_i (tt_p ((false, pa, ts) :: Bx) tt_n)) z ∨ z = (ct, 100 + q0) := (by
        rintro z (hz | ⟨y, hy, hz⟩)
        · exact Or.inl (Or.inl hz)
        · rw [tt_i_p] at hy
          simp only [tt_i, List.nil_append, List.mem_append, List.mem_cons, List.cons_append] at hy
          rcases hy with hy | rfl | hy
          · exact Or.inl (Or.inr ⟨y, by rw [tt_i_p]; simp [hy], hz⟩)
          · exact Or.inr hz
          · exact Or.inl (Or.inr ⟨y, by rw [tt_i_p]; simp [hy], hz⟩))
      refine kx_Fr.up2 (kx_Fr.up2 ((kx_Fr.up2 (kx_Fr.up2 (kx_Fr.up2 kx_Fr.rf e0 (Or.inr rfl)) e7 (Or.inr rfl)) e29 (Or.inl (tm_T_e inpa))).tr (F35.mon hsub)) e45 (Or.inl tm_T_m)) e55 (Or.inl tm_T_m))
    exact ri_vret C hQ dJ19_addEntry_58 (Nat.le_of_ble_eq_true rfl) (Nat.le_of_ble_eq_true rfl) ⟨rfl, q0, t', D', h55, by rw [i35, tt_i_p]; rfl, f0, FF⟩
  · exact absurd h14 (by decide) --dead
