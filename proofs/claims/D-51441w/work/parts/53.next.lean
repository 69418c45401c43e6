/-! the JDK: the next entry of a TreeMap, the first one -/
set_option maxRecDepth 100000
theorem tt_hd_n {l : tt_T} (h : tt_i l = []) : l = tt_n := by
  cases l with
  | leaf _ => rfl
  | branch a l r => simp [tt_i] at h
-- the walk's loops stand in their own theorems, by the case of the right child
set_option maxHeartbeats 1000000 in
theorem mt_J19_successorA {l : Launch} {G : kx_G} (htr : l.stackTraces = false) {σ : kx_H} {ct mp : Nat} {K V : Nat → Nat} {D : Nat → Int32} {vals : Option Nat} {sz : Nat} {md : Int32} {t : tt_T} (h : tm_H σ ct mp t K V D vals sz md) {Bx : tt_C} {an : Nat} {tl tr : tt_T} (ht : t = tt_p Bx (.branch an tl tr)) {bn0 : Nat} {bl0 br0 : tt_T} (htR : tr = .branch bn0 bl0 br0) : kx_SP l G yJ19_successor (ws_ yJ19_successor cJ19_successor 3 (some (.object "java/util/TreeMap$Entry"))) 1 0 0 [.ref an] σ (fun v τ => v = some (va_rf ((tt_i tr ++ tt_rc Bx).head?)) ∧ τ = σ) kx_nx := by
  refine kx_body htr (by decide +kernel) (own := "java/util/TreeMap") (nm := "successor") rfl rfl (Nat.le_of_ble_eq_true rfl) ?_
  intro p e s m args below meth c Q C hQ
  obtain ⟨⟨hc, hHl, hHr⟩, hK0⟩ := (tt_H_p Bx _).mp (ht ▸ h.2.1)
  have hc : σ (ct, 100 + an) = some (an, .inr (19, [.ref (K an), .ref (V an), va_rf (tt_r tl), .ref bn0, va_rf (tt_u Bx), .int (D an)])) := (by have h9 := hc; rw [htR] at h9; exact h9)
  rw [htR] at hHr
  first | refine ri_aload_n C dJ19_successor_0 rfl ?_ | refine ri_aload_nQ C dJ19_successor_0 rfl ?_ | refine ri_aload_nN C dJ19_successor_0 rfl ?_
  refine ri_ifnonnull C 6 dJ19_successor_1 rfl ?_
  first | refine ri_aload_n C dJ19_successor_6 rfl ?_ | refine ri_aload_nQ C dJ19_successor_6 rfl ?_ | refine ri_aload_nN C dJ19_successor_6 rfl ?_
  refine ri_getf C dJ19_successor_7 fr_q1087_19 hc (by rfl) ?_
  refine ri_ifnull C dJ19_successor_10 ?_
  first | refine ri_aload_n C dJ19_successor_13 rfl ?_ | refine ri_aload_nQ C dJ19_successor_13 rfl ?_ | refine ri_aload_nN C dJ19_successor_13 rfl ?_
  refine ri_getf C dJ19_successor_14 fr_q1087_19 hc (by rfl) ?_
  first | refine ri_astore_n C dJ19_successor_17 rfl (by decide) ?_ | refine ri_astore_nQ C dJ19_successor_17 rfl (by decide) ?_ | refine ri_astore_nN C dJ19_successor_17 rfl (by decide) ?_
  have LQ : ∀ (wkq j : Nat) (bn : Nat) (bl br : tt_T) (pp : Option Nat), j ≤ (tt_i tr).length → (tt_i tr).length < j + wkq → (tt_H (tm_M σ ct K V D) (.branch bn bl br) pp ∧ (tt_i (.branch bn bl br)).head? = (tt_i tr).head? ∧ (tt_i (.branch bn bl br)).length + j ≤ (tt_i tr).length) → kx_V G l p e (kx_rm 1 0 0) s m args below meth c 3 Q 18 [(1, .ref bn)] [] σ 0 0 := by
    intro wkq
    induction wkq with
    | zero => intro j bn bl br pp h1q h2q; exact absurd h2q (by omega)
    | succ wkq ihq =>
      intro j bn bl br pp hiq hwkq hJ
      obtain ⟨hH, hhd, hln⟩ := hJ
      obtain ⟨hb, hbl, -⟩ := hH
      first | refine ri_aload_n C dJ19_successor_18 rfl ?_ | refine ri_aload_nQ C dJ19_successor_18 rfl ?_ | refine ri_aload_nN C dJ19_successor_18 rfl ?_
      refine ri_getf C dJ19_successor_19 fr_q1086_19 hb (by rfl) ?_
      rcases bl with ⟨_⟩ | ⟨cn, cl, cr⟩
      · refine ri_ifnullN C 33 dJ19_successor_22 rfl ?_
        first | refine ri_aload_n C dJ19_successor_33 rfl ?_ | refine ri_aload_nQ C dJ19_successor_33 rfl ?_ | refine ri_aload_nN C dJ19_successor_33 rfl ?_
        exact ri_aret C hQ dJ19_successor_34 (Or.inl ⟨_, rfl⟩) (Or.inr ⟨_, rfl⟩) (Nat.le_of_ble_eq_true rfl) (Nat.le_of_ble_eq_true rfl) ⟨(by have e9 : (tt_i tr).head? = some bn := hhd.symm; show some (Value.ref bn) = some (va_rf ((tt_i tr ++ tt_rc Bx).head?)); rw [List.head?_append, e9]; rfl), rfl⟩
      · have hln2 : (tt_i cl).length + (tt_i cr).length + 1 + (j + 1) ≤ (tt_i tr).length := (by simp only [tt_i, List.length_append, List.length_cons] at hln; omega)
        refine ri_ifnull C dJ19_successor_22 ?_
        first | refine ri_aload_n C dJ19_successor_25 rfl ?_ | refine ri_aload_nQ C dJ19_successor_25 rfl ?_ | refine ri_aload_nN C dJ19_successor_25 rfl ?_
        refine ri_getf C dJ19_successor_26 fr_q1086_19 hb (by rfl) ?_
        first | refine ri_astore_n C dJ19_successor_29 rfl (by decide) ?_ | refine ri_astore_nQ C dJ19_successor_29 rfl (by decide) ?_ | refine ri_astore_nN C dJ19_successor_29 rfl (by decide) ?_
        refine ri_goto C 18 dJ19_successor_30 rfl ?_
        refine ri_lv2 (ihq (j + 1) cn cl cr (some bn) (by omega) (by omega) ⟨hbl, by rw [← hhd]; simp [tt_i], by simp only [tt_i, List.length_append, List.length_cons]; omega⟩) ⟨rfl, trivial⟩
  refine ri_lv2 (LQ ((tt_i tr).length + 1) 0 bn0 bl0 br0 (some an) (by omega) (by omega) ⟨hHr, by rw [htR], by rw [htR]; omega⟩) ⟨rfl, trivial⟩
set_option maxHeartbeats 1000000 in
theorem mt_J19_successorB {l : Launch} {G : kx_G} (htr : l.stackTraces = false) {σ : kx_H} {ct mp : Nat} {K V : Nat → Nat} {D : Nat → Int32} {vals : Option Nat} {sz : Nat} {md : Int32} {t : tt_T} (h : tm_H σ ct mp t K V D vals sz md) {Bx : tt_C} {an : Nat} {tl tr : tt_T} (ht : t = tt_p Bx (.branch an tl tr)) (htR : tr = tt_n) : kx_SP l G yJ19_successor (ws_ yJ19_successor cJ19_successor 3 (some (.object "java/util/TreeMap$Entry"))) 1 0 0 [.ref an] σ (fun v τ => v = some (va_rf ((tt_i tr ++ tt_rc Bx).head?)) ∧ τ = σ) kx_nx := by
  refine kx_body htr (by decide +kernel) (own := "java/util/TreeMap") (nm := "successor") rfl rfl (Nat.le_of_ble_eq_true rfl) ?_
  intro p e s m args below meth c Q C hQ
  subst htR
  obtain ⟨⟨hc, hHl, hHr⟩, hK0⟩ := (tt_H_p Bx _).mp (ht ▸ h.2.1)
  have hc : σ (ct, 100 + an) = some (an, .inr (19, [.ref (K an), .ref (V an), va_rf (tt_r tl), .null, va_rf (tt_u Bx), .int (D an)])) := hc
  first | refine ri_aload_n C dJ19_successor_0 rfl ?_ | refine ri_aload_nQ C dJ19_successor_0 rfl ?_ | refine ri_aload_nN C dJ19_successor_0 rfl ?_
  refine ri_ifnonnull C 6 dJ19_successor_1 rfl ?_
  first | refine ri_aload_n C dJ19_successor_6 rfl ?_ | refine ri_aload_nQ C dJ19_successor_6 rfl ?_ | refine ri_aload_nN C dJ19_successor_6 rfl ?_
  refine ri_getf C dJ19_successor_7 fr_q1087_19 hc (by rfl) ?_
  refine ri_ifnullN C 35 dJ19_successor_10 rfl ?_
  first | refine ri_aload_n C dJ19_successor_35 rfl ?_ | refine ri_aload_nQ C dJ19_successor_35 rfl ?_ | refine ri_aload_nN C dJ19_successor_35 rfl ?_
  refine ri_getf C dJ19_successor_36 fr_q1089_19 hc (by rfl) ?_
  refine ri_astore_nQ (x := tt_u Bx) C dJ19_successor_39 rfl (by decide) ?_
  first | refine ri_aload_n C dJ19_successor_40 rfl ?_ | refine ri_aload_nQ C dJ19_successor_40 rfl ?_ | refine ri_aload_nN C dJ19_successor_40 rfl ?_
  first | refine ri_astore_n C dJ19_successor_41 rfl (by decide) ?_ | refine ri_astore_nQ C dJ19_successor_41 rfl (by decide) ?_ | refine ri_astore_nN C dJ19_successor_41 rfl (by decide) ?_
  have LR : ∀ (wkr j : Nat) (Cx : tt_C) (cn : Nat) (cl cr : tt_T), j ≤ Bx.length → Bx.length < j + wkr → (t = tt_p Cx (.branch cn cl cr) ∧ (tt_rc Cx).head? = (tt_rc Bx).head? ∧ Cx.length + j ≤ Bx.length) → kx_V G l p e (kx_rm 1 0 0) s m args below meth c 3 Q 42 [(1, va_rf (tt_u Cx)), (2, .ref cn)] [] σ 0 0 := by
    intro wkr
    induction wkr with
    | zero => intro j Cx cn cl cr h1r h2r; exact absurd h2r (by omega)
    | succ wkr ihr =>
      intro j Cx cn cl cr hir hwkr hJ
      obtain ⟨hts, hhd, hln⟩ := hJ
      have hK := ((tt_H_p Cx _).mp (hts ▸ h.2.1)).2
      have hnd := hts ▸ h.2.2.1
      first | refine ri_aload_n C dJ19_successor_42 rfl ?_ | refine ri_aload_nQ C dJ19_successor_42 rfl ?_ | refine ri_aload_nN C dJ19_successor_42 rfl ?_
      rcases Cx with _ | ⟨⟨_ | _, qn, ts⟩, Cx⟩
      · refine ri_ifnullN C 64 dJ19_successor_43 rfl ?_
        first | refine ri_aload_n C dJ19_successor_64 rfl ?_ | refine ri_aload_nQ C dJ19_successor_64 rfl ?_ | refine ri_aload_nN C dJ19_successor_64 rfl ?_
        exact ri_aret C hQ dJ19_successor_65 (Or.inl ⟨_, rfl⟩) (Or.inl rfl) (Nat.le_of_ble_eq_true rfl) (Nat.le_of_ble_eq_true rfl) ⟨by show some Value.null = some (va_rf ((tt_i tt_n ++ tt_rc Bx).head?)); rw [show (tt_i tt_n ++ tt_rc Bx).head? = none from hhd.symm]; rfl, rfl⟩
      · have hq : σ (ct, 100 + qn) = some (qn, .inr (19, [.ref (K qn), .ref (V qn), va_rf (tt_r ts), .ref cn, va_rf (tt_u Cx), .int (D qn)])) := hK.1
        refine ri_ifnull C dJ19_successor_43 ?_
        first | refine ri_aload_n C dJ19_successor_46 rfl ?_ | refine ri_aload_nQ C dJ19_successor_46 rfl ?_ | refine ri_aload_nN C dJ19_successor_46 rfl ?_
        first | refine ri_aload_n C dJ19_successor_47 rfl ?_ | refine ri_aload_nQ C dJ19_successor_47 rfl ?_ | refine ri_aload_nN C dJ19_successor_47 rfl ?_
        refine ri_getf C dJ19_successor_48 fr_q1087_19 hq (by rfl) ?_
        refine ri_acmp_neR C 64 dJ19_successor_51 rfl (fun h51 => ?_) (fun h51 => ?_)
        · exact absurd rfl h51 --dead
        · first | refine ri_aload_n C dJ19_successor_54 rfl ?_ | refine ri_aload_nQ C dJ19_successor_54 rfl ?_ | refine ri_aload_nN C dJ19_successor_54 rfl ?_
          first | refine ri_astore_n C dJ19_successor_55 rfl (by decide) ?_ | refine ri_astore_nQ C dJ19_successor_55 rfl (by decide) ?_ | refine ri_astore_nN C dJ19_successor_55 rfl (by decide) ?_
          first | refine ri_aload_n C dJ19_successor_56 rfl ?_ | refine ri_aload_nQ C dJ19_successor_56 rfl ?_ | refine ri_aload_nN C dJ19_successor_56 rfl ?_
          refine ri_getf C dJ19_successor_57 fr_q1089_19 hq (by rfl) ?_
          refine ri_astore_nQ (x := tt_u Cx) C dJ19_successor_60 rfl (by decide) ?_
          refine ri_goto C 42 dJ19_successor_61 rfl ?_
          refine ri_lv2 (ihr (j + 1) Cx qn ts (.branch cn cl cr) (by simp only [List.length_cons] at hln; omega) (by omega) ⟨by rw [hts]; rfl, hhd, by simp only [List.length_cons] at hln; omega⟩) ⟨rfl, rfl, trivial⟩
      · have hq : σ (ct, 100 + qn) = some (qn, .inr (19, [.ref (K qn), .ref (V qn), .ref cn, va_rf (tt_r ts), va_rf (tt_u Cx), .int (D qn)])) := hK.1
        have hne : some cn ≠ tt_r ts := (fun q9 => by
          obtain ⟨A9, C9, hA9⟩ := List.append_of_mem (tt_r_in q9.symm)
          simp [tt_i_p, tt_p, tt_i, hA9, List.nodup_append] at hnd)
        refine ri_ifnull C dJ19_successor_43 ?_
        first | refine ri_aload_n C dJ19_successor_46 rfl ?_ | refine ri_aload_nQ C dJ19_successor_46 rfl ?_ | refine ri_aload_nN C dJ19_successor_46 rfl ?_
        first | refine ri_aload_n C dJ19_successor_47 rfl ?_ | refine ri_aload_nQ C dJ19_successor_47 rfl ?_ | refine ri_aload_nN C dJ19_successor_47 rfl ?_
        refine ri_getf C dJ19_successor_48 fr_q1087_19 hq (by rfl) ?_
        refine ri_acmp_neS C 64 dJ19_successor_51 rfl (fun h51 => ?_) (fun h51 => ?_)
        · first | refine ri_aload_n C dJ19_successor_64 rfl ?_ | refine ri_aload_nQ C dJ19_successor_64 rfl ?_ | refine ri_aload_nN C dJ19_successor_64 rfl ?_
          exact ri_aret C hQ dJ19_successor_65 (Or.inl ⟨_, rfl⟩) (Or.inr ⟨_, rfl⟩) (Nat.le_of_ble_eq_true rfl) (Nat.le_of_ble_eq_true rfl) ⟨by show some (Value.ref qn) = some (va_rf ((tt_i tt_n ++ tt_rc Bx).head?)); rw [show (tt_i tt_n ++ tt_rc Bx).head? = some qn from hhd.symm]; rfl, rfl⟩
        · exact absurd h51 hne --dead
  refine ri_lv2 (LR (Bx.length + 1) 0 Bx an tl tt_n (by omega) (by omega) ⟨ht, rfl, by omega⟩) (by generalize tt_u Bx = u9; cases u9 <;> exact ⟨rfl, rfl, trivial⟩)
theorem mt_J19_successor {l : Launch} {G : kx_G} (htr : l.stackTraces = false) {σ : kx_H} {ct mp : Nat} {K V : Nat → Nat} {D : Nat → Int32} {vals : Option Nat} {sz : Nat} {md : Int32} {t : tt_T} (h : tm_H σ ct mp t K V D vals sz md) {Bx : tt_C} {an : Nat} {tl tr : tt_T} (ht : t = tt_p Bx (.branch an tl tr)) : kx_SP l G yJ19_successor (ws_ yJ19_successor cJ19_successor 3 (some (.object "java/util/TreeMap$Entry"))) 1 0 0 [.ref an] σ (fun v τ => v = some (va_rf ((tt_i tr ++ tt_rc Bx).head?)) ∧ τ = σ) kx_nx := by
  obtain ⟨t0, ht0⟩ : ∃ t0, t0 = tr := ⟨_, rfl⟩
  rcases t0 with ⟨_⟩ | ⟨bn, bl, br⟩
  · exact mt_J19_successorB htr h ht ht0.symm
  · exact mt_J19_successorA htr h ht ht0.symm
set_option maxHeartbeats 1000000 in
theorem mt_J19_getFirstEntry {l : Launch} {G : kx_G} (htr : l.stackTraces = false) {σ : kx_H} {ct mp : Nat} {K V : Nat → Nat} {D : Nat → Int32} {vals : Option Nat} {sz : Nat} {md : Int32} {t : tt_T} (h : tm_H σ ct mp t K V D vals sz md) : kx_SP l G yJ19_getFirstEntry (ws_ yJ19_getFirstEntry cJ19_getFirstEntry 2 (some (.object "java/util/TreeMap$Entry"))) 1 0 0 [.ref mp] σ (fun v τ => v = some (va_rf ((tt_i t).head?)) ∧ τ = σ) kx_nx := by
  refine kx_body htr (by decide +kernel) (own := "java/util/TreeMap") (nm := "getFirstEntry") rfl rfl (Nat.le_of_ble_eq_true rfl) ?_
  intro p e s m args below meth c Q C hQ
  first | refine ri_aload_n C dJ19_getFirstEntry_0 rfl ?_ | refine ri_aload_nQ C dJ19_getFirstEntry_0 rfl ?_ | refine ri_aload_nN C dJ19_getFirstEntry_0 rfl ?_
  refine ri_getf C dJ19_getFirstEntry_1 fr_q577_18 h.1 (by rfl) ?_
  refine ri_astore_nQ (x := tt_r t) C dJ19_getFirstEntry_4 rfl (by decide) ?_
  first | refine ri_aload_n C dJ19_getFirstEntry_5 rfl ?_ | refine ri_aload_nQ C dJ19_getFirstEntry_5 rfl ?_ | refine ri_aload_nN C dJ19_getFirstEntry_5 rfl ?_
  obtain ⟨t0, ht0⟩ : ∃ t0, t = t0 := ⟨_, rfl⟩
  rw [show tt_r t = tt_r t0 by rw [ht0]]
  rcases t0 with ⟨_⟩ | ⟨bn0, bl0, br0⟩
  · refine ri_ifnullN C 24 dJ19_getFirstEntry_6 rfl ?_
    first | refine ri_aload_n C dJ19_getFirstEntry_24 rfl ?_ | refine ri_aload_nQ C dJ19_getFirstEntry_24 rfl ?_ | refine ri_aload_nN C dJ19_getFirstEntry_24 rfl ?_
    exact ri_aret C hQ dJ19_getFirstEntry_25 (Or.inl ⟨_, rfl⟩) (Or.inl rfl) (Nat.le_of_ble_eq_true rfl) (Nat.le_of_ble_eq_true rfl) ⟨by rw [ht0]; rfl, rfl⟩
  · refine ri_ifnull C dJ19_getFirstEntry_6 ?_
    have LQ : ∀ (wkq j : Nat) (bn : Nat) (bl br : tt_T) (pp : Option Nat), j ≤ (tt_i t).length → (tt_i t).length < j + wkq → (tt_H (tm_M σ ct K V D) (.branch bn bl br) pp ∧ (tt_i (.branch bn bl br)).head? = (tt_i t).head? ∧ (tt_i (.branch bn bl br)).length + j ≤ (tt_i t).length) → kx_V G l p e (kx_rm 1 0 0) s m args below meth c 2 Q 9 [(0, .ref mp), (1, .ref bn)] [] σ 0 0 := by
      intro wkq
      induction wkq with
      | zero => intro j bn bl br pp h1q h2q; exact absurd h2q (by omega)
      | succ wkq ihq =>
        intro j bn bl br pp hiq hwkq hJ
        obtain ⟨hH, hhd, hln⟩ := hJ
        obtain ⟨hb, hbl, -⟩ := hH
        first | refine ri_aload_n C dJ19_getFirstEntry_9 rfl ?_ | refine ri_aload_nQ C dJ19_getFirstEntry_9 rfl ?_ | refine ri_aload_nN C dJ19_getFirstEntry_9 rfl ?_
        refine ri_getf C dJ19_getFirstEntry_10 fr_q1086_19 hb (by rfl) ?_
        rcases bl with ⟨_⟩ | ⟨cn, cl, cr⟩
        · refine ri_ifnullN C 24 dJ19_getFirstEntry_13 rfl ?_
          first | refine ri_aload_n C dJ19_getFirstEntry_24 rfl ?_ | refine ri_aload_nQ C dJ19_getFirstEntry_24 rfl ?_ | refine ri_aload_nN C dJ19_getFirstEntry_24 rfl ?_
          exact ri_aret C hQ dJ19_getFirstEntry_25 (Or.inl ⟨_, rfl⟩) (Or.inr ⟨_, rfl⟩) (Nat.le_of_ble_eq_true rfl) (Nat.le_of_ble_eq_true rfl) ⟨(by rw [← hhd]; rfl), rfl⟩
        · have hln2 : (tt_i cl).length + (tt_i cr).length + 1 + (j + 1) ≤ (tt_i t).length := (by simp only [tt_i, List.length_append, List.length_cons] at hln; omega)
          refine ri_ifnull C dJ19_getFirstEntry_13 ?_
          first | refine ri_aload_n C dJ19_getFirstEntry_16 rfl ?_ | refine ri_aload_nQ C dJ19_getFirstEntry_16 rfl ?_ | refine ri_aload_nN C dJ19_getFirstEntry_16 rfl ?_
          refine ri_getf C dJ19_getFirstEntry_17 fr_q1086_19 hb (by rfl) ?_
          first | refine ri_astore_n C dJ19_getFirstEntry_20 rfl (by decide) ?_ | refine ri_astore_nQ C dJ19_getFirstEntry_20 rfl (by decide) ?_ | refine ri_astore_nN C dJ19_getFirstEntry_20 rfl (by decide) ?_
          refine ri_goto C 9 dJ19_getFirstEntry_21 rfl ?_
          refine ri_lv2 (ihq (j + 1) cn cl cr (some bn) (by omega) (by omega) ⟨hbl, by rw [← hhd]; simp [tt_i], by simp only [tt_i, List.length_append, List.length_cons]; omega⟩) ⟨rfl, rfl, trivial⟩
    refine ri_lv2 (LQ ((tt_i t).length + 1) 0 bn0 bl0 br0 none (by omega) (by omega) ⟨by rw [← ht0]; exact h.2.1, by rw [ht0], by rw [ht0]; omega⟩) ⟨rfl, rfl, trivial⟩
set_option maxHeartbeats 1000000 in
theorem mt_J19_size {l : Launch} {G : kx_G} (htr : l.stackTraces = false) {σ : kx_H} {ct mp : Nat} {K V : Nat → Nat} {D : Nat → Int32} {vals : Option Nat} {sz : Nat} {md : Int32} {t : tt_T} (h : tm_H σ ct mp t K V D vals sz md) : kx_SP l G yJ19_size (ws_ yJ19_size cJ19_size 1 (some .int)) 1 0 0 [.ref mp] σ (fun v τ => v = some (.int (nI sz)) ∧ τ = σ) kx_nx := by
  refine kx_body htr (by decide +kernel) (own := "java/util/TreeMap") (nm := "size") rfl rfl (Nat.le_of_ble_eq_true rfl) ?_
  intro p e s m args below meth c Q C hQ
  first | refine ri_aload_n C dJ19_size_0 rfl ?_ | refine ri_aload_nQ C dJ19_size_0 rfl ?_ | refine ri_aload_nN C dJ19_size_0 rfl ?_
  refine ri_getf C dJ19_size_1 fr_q578_18 h.1 (by rfl) ?_
  exact ri_iret C hQ dJ19_size_4 rfl (Nat.le_of_ble_eq_true rfl) (Nat.le_of_ble_eq_true rfl) ⟨rfl, rfl⟩
