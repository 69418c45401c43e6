/-! the reference: more that only reads -/
set_option maxRecDepth 100000
def mx_aw (u : Nat → Nat) : Nat := mx_sum (mx_live u) (fun k => mx_p u k 6) (u 0)
def mx_hc (r a b c d : Nat) : Bool := mx_btw r c a b || mx_btw r a c d
def mx_cl (u : Nat → Nat) (p q : Nat) : Bool := mx_live u p && (mx_live u q && (!decide (mx_p u p 4 = mx_p u q 4) && (mx_hc 16 (mx_p u p 0) (mx_p u p 1) (mx_p u q 0) (mx_p u q 1) && mx_hc 12 (mx_p u p 2) (mx_p u p 3) (mx_p u q 2) (mx_p u q 3))))
def mx_co (u : Nat → Nat) (p : Nat) : Nat := mx_cnt (mx_cl u p) (u 0)
def mx_ca (u : Nat → Nat) : Nat := mx_sum (fun _ => true) (mx_co u) (u 0)
def mx_sa (u : Nat → Nat) (pt mo : Nat) : Nat := mx_cnt (fun k => mx_sp u k pt mo) (u 0)
def mx_si (u : Nat → Nat) (n : Nat) : Bool := decide (mx_sa u (n / 12) (n % 12) = 0)
set_option maxHeartbeats 1000000 in
theorem mt_X4_allWeights {l : Launch} {G : kx_G} (htr : l.stackTraces = false) {σ : kx_H} {mo : Nat} {ad : Nat → Nat} {z : Nat → Int32} {u : Nat → Nat} (h0 : σ (1, 0) = some (mo, .inr (3, mo_L ad z))) (hw : σ (1, 1) = some (ad 0, kx_ai G 1417 (mx_w u))) (hu : mx_ok u) : kx_SP l G yX4_allWeights (ws_ yX4_allWeights cX4_allWeights 3 (some .int)) 3 0 0 [.ref mo] σ (fun v τ => v = some (.int (nI (mx_aw u))) ∧ τ = σ) kx_nx := by
  refine kx_body htr (by decide +kernel) (own := "RoseProverbsModel") (nm := "allWeights") rfl rfl (Nat.le_of_ble_eq_true rfl) ?_
  intro p e s m args below meth c Q C hQ
  have gn := hu.1
  have g5 := hu.2.2.1
  have LP : ∀ (wk i : Nat) , i ≤ u 0 → u 0 < i + wk → kx_V G l p e (kx_rm 3 0 0) s m args below meth c 3 Q 4 [(0, .ref mo), (1, .int (nI (mx_sum (mx_live u) (fun k => mx_p u k 6) i))), (2, .int (nI i))] [] σ 0 0 := by
    intro wk
    induction wk with
    | zero => intro i  h1 h2; exact absurd h2 (by omega)
    | succ wk ih =>
      intro i  hi hwk 
      have g : i < u 0 → _ := hu.2.1 i
      refine ri_iload_n C dX4_allWeights_4 rfl ?_
      first | refine ri_aload_n C dX4_allWeights_5 rfl ?_ | refine ri_aload_nQ C dX4_allWeights_5 rfl ?_ | refine ri_aload_nN C dX4_allWeights_5 rfl ?_
      refine ri_getf C dX4_allWeights_6 fr_q2970_3 (by first | assumption | (repeat (first | assumption | exact kx_rs (by assumption) | exact kx_ne2 (by omega) | exact kx_ne1 (by omega) | refine kx_ro (by assumption) ?_ ?_ | exact kx_rs rfl | refine kx_ro rfl ?_ ?_))) (by rfl) ?_
      refine ri_iconst C dX4_allWeights_9 kc_i0 ?_
      first | refine ri_ialoadN C dX4_allWeights_10 (by first | assumption | (repeat (first | assumption | exact kx_rs (by assumption) | exact kx_ne2 (by omega) | exact kx_ne1 (by omega) | refine kx_ro (by assumption) ?_ ?_ | exact kx_rs rfl | refine kx_ro rfl ?_ ?_))) rfl (by omega) ?_ | refine ri_iaload C dX4_allWeights_10 (by first | assumption | (repeat (first | assumption | exact kx_rs (by assumption) | exact kx_ne2 (by omega) | exact kx_ne1 (by omega) | refine kx_ro (by assumption) ?_ ?_ | exact kx_rs rfl | refine kx_ro rfl ?_ ?_))) rfl (by omega) ?_
      first | refine ri_icmp_geN C 42 dX4_allWeights_11 rfl (by omega) (by omega) (fun h11 => ?_) (fun h11 => ?_) | refine ri_icmp_ge C 42 dX4_allWeights_11 rfl (fun h11 => ?_) (fun h11 => ?_)
      · refine ri_iload_n C dX4_allWeights_42 rfl ?_
        exact ri_iret C hQ dX4_allWeights_43 rfl (Nat.le_of_ble_eq_true rfl) (Nat.le_of_ble_eq_true rfl) (by refine ⟨congrArg (fun z => some (Value.int z)) ?_, rfl⟩; rw [mx_aw, show i = u 0 by omega])
      · have g := g (by omega)
        refine ri_iload_n C dX4_allWeights_14 rfl ?_
        first | refine ri_aload_n C dX4_allWeights_15 rfl ?_ | refine ri_aload_nQ C dX4_allWeights_15 rfl ?_ | refine ri_aload_nN C dX4_allWeights_15 rfl ?_
        refine ri_iload_n C dX4_allWeights_16 rfl ?_
        refine ri_callV C km_X4_isLive q3144 qs76 dX4_allWeights_17 (mt_X4_isLive htr h0 hw (by omega) (by omega)) rfl rfl (kx_rcN C (by first | assumption | (repeat (first | assumption | exact kx_rs (by assumption) | exact kx_ne2 (by omega) | exact kx_ne1 (by omega) | refine kx_ro (by assumption) ?_ ?_ | exact kx_rs rfl | refine kx_ro rfl ?_ ?_))) rfl) ⟨⟨(Nat.le_of_ble_eq_true rfl), (Nat.le_of_ble_eq_true rfl)⟩, (Nat.le_of_ble_eq_true rfl), (Nat.le_of_ble_eq_true rfl), (Nat.le_of_ble_eq_true rfl)⟩ (fun v17 s17 h17 => ?_) (fun _ _ _ h => h.elim)
        obtain ⟨rfl, rfl⟩ := h17
        first | refine ri_if_eqB C 33 dX4_allWeights_20 rfl (fun h20 => ?_) (fun h20 => ?_) | refine ri_if_eqN C 33 dX4_allWeights_20 rfl (by omega) (fun h20 => ?_) (fun h20 => ?_) | refine ri_if_eq C 33 dX4_allWeights_20 rfl (fun h20 => ?_) (fun h20 => ?_)
        · refine ri_iconst C dX4_allWeights_33 kc_i0 ?_
          first | refine ri_iaddN C dX4_allWeights_34 ?_ | refine ri_iadd C dX4_allWeights_34 ?_
          refine ri_istore_n C dX4_allWeights_35 rfl (by decide) ?_
          first | refine ri_iincN C dX4_allWeights_36 rfl rfl (by decide) ?_ | refine ri_iinc C dX4_allWeights_36 rfl rfl rfl (by decide) ?_
          refine ri_goto C 4 dX4_allWeights_39 rfl ?_
          refine ri_lv2 (ih (i + 1) (by omega) (by omega)) ⟨rfl, ?_, rfl, trivial⟩
          first | (rw [mx_sum_t h20]; rfl) | (rw [mx_sum_f h20]; rfl)
        · first | refine ri_aload_n C dX4_allWeights_23 rfl ?_ | refine ri_aload_nQ C dX4_allWeights_23 rfl ?_ | refine ri_aload_nN C dX4_allWeights_23 rfl ?_
          refine ri_iload_n C dX4_allWeights_24 rfl ?_
          refine ri_bipush C dX4_allWeights_25 kc_b6 ?_
          refine ri_callV C km_X4_of q3140 qs75 dX4_allWeights_27 (mt_X4_of htr h0 hw (by omega)) rfl rfl (kx_rcN C (by first | assumption | (repeat (first | assumption | exact kx_rs (by assumption) | exact kx_ne2 (by omega) | exact kx_ne1 (by omega) | refine kx_ro (by assumption) ?_ ?_ | exact kx_rs rfl | refine kx_ro rfl ?_ ?_))) rfl) ⟨⟨(Nat.le_of_ble_eq_true rfl), (Nat.le_of_ble_eq_true rfl)⟩, (Nat.le_of_ble_eq_true rfl), (Nat.le_of_ble_eq_true rfl), (Nat.le_of_ble_eq_true rfl)⟩ (fun v27 s27 h27 => ?_) (fun _ _ _ h => h.elim)
          obtain ⟨rfl, rfl⟩ := h27
          refine ri_goto C 34 dX4_allWeights_30 rfl ?_
          first | refine ri_iaddN C dX4_allWeights_34 ?_ | refine ri_iadd C dX4_allWeights_34 ?_
          refine ri_istore_n C dX4_allWeights_35 rfl (by decide) ?_
          first | refine ri_iincN C dX4_allWeights_36 rfl rfl (by decide) ?_ | refine ri_iinc C dX4_allWeights_36 rfl rfl rfl (by decide) ?_
          refine ri_goto C 4 dX4_allWeights_39 rfl ?_
          refine ri_lv2 (ih (i + 1) (by omega) (by omega)) ⟨rfl, ?_, rfl, trivial⟩
          first | (rw [mx_sum_t h20]; rfl) | (rw [mx_sum_f h20]; rfl)
  refine ri_iconst C dX4_allWeights_0 kc_i0 ?_
  refine ri_istore_n C dX4_allWeights_1 rfl (by decide) ?_
  refine ri_iconst C dX4_allWeights_2 kc_i0 ?_
  refine ri_istore_n C dX4_allWeights_3 rfl (by decide) ?_
  exact ri_lv2 (LP (u 0 + 1) 0 (by omega) (by omega)) ⟨rfl, rfl, rfl, trivial⟩
set_option maxHeartbeats 1000000 in
theorem mt_X4_haveCommon {l : Launch} {G : kx_G} (htr : l.stackTraces = false) {σ : kx_H} {r a b c d : Nat} (hr : r = 12 ∨ r = 16) (ha : a < r) (hb : b < r) (hc : c < r) (hd : d < r) : kx_SP l G yX4_haveCommon (ws_ yX4_haveCommon cX4_haveCommon 5 (some .boolean)) 4 0 0 [.int (nI a), .int (nI b), .int (nI c), .int (nI d), .int (nI r)] σ (fun v τ => v = some (.int (kx_b (mx_hc r a b c d))) ∧ τ = σ) kx_nx := by
  refine kx_body htr (by decide +kernel) (own := "RoseProverbsModel") (nm := "haveCommon") rfl rfl (Nat.le_of_ble_eq_true rfl) ?_
  intro p e s m args below meth c Q C hQ
  refine ri_iload_n C dX4_haveCommon_0 rfl ?_
  refine ri_iload_n C dX4_haveCommon_1 rfl ?_
  refine ri_iload_n C dX4_haveCommon_2 rfl ?_
  refine ri_iload C dX4_haveCommon_3 rfl ?_
  refine ri_callS C km_X4_isWithin q3229 dX4_haveCommon_5 (mt_X4_isWithin htr hr hc ha hb) rfl rfl ⟨⟨(Nat.le_of_ble_eq_true rfl), (Nat.le_of_ble_eq_true rfl)⟩, (Nat.le_of_ble_eq_true rfl), (Nat.le_of_ble_eq_true rfl), (Nat.le_of_ble_eq_true rfl)⟩ (fun v5 s5 h5 => ?_) (fun _ _ _ h => h.elim)
  obtain ⟨rfl, rfl⟩ := h5
  first | refine ri_if_neB C 22 dX4_haveCommon_8 rfl (fun h8 => ?_) (fun h8 => ?_) | refine ri_if_neN C 22 dX4_haveCommon_8 rfl (by omega) (fun h8 => ?_) (fun h8 => ?_) | refine ri_if_ne C 22 dX4_haveCommon_8 rfl (fun h8 => ?_) (fun h8 => ?_)
  · refine ri_iconst C dX4_haveCommon_22 kc_i1 ?_
    refine ri_goto C 27 dX4_haveCommon_23 rfl ?_
    exact ri_iret C hQ dX4_haveCommon_27 rfl (Nat.le_of_ble_eq_true rfl) (Nat.le_of_ble_eq_true rfl) (by refine ⟨congrArg (fun z => some (Value.int z)) ?_, rfl⟩; first | exact kx_b_t (by simp [mx_hc, *]) | exact kx_b_f (by simp [mx_hc, *]))
  · refine ri_iload_n C dX4_haveCommon_11 rfl ?_
    refine ri_iload_n C dX4_haveCommon_12 rfl ?_
    refine ri_iload_n C dX4_haveCommon_13 rfl ?_
    refine ri_iload C dX4_haveCommon_14 rfl ?_
    refine ri_callS C km_X4_isWithin q3229 dX4_haveCommon_16 (mt_X4_isWithin htr hr ha hc hd) rfl rfl ⟨⟨(Nat.le_of_ble_eq_true rfl), (Nat.le_of_ble_eq_true rfl)⟩, (Nat.le_of_ble_eq_true rfl), (Nat.le_of_ble_eq_true rfl), (Nat.le_of_ble_eq_true rfl)⟩ (fun v16 s16 h16 => ?_) (fun _ _ _ h => h.elim)
    obtain ⟨rfl, rfl⟩ := h16
    first | refine ri_if_eqB C 26 dX4_haveCommon_19 rfl (fun h19 => ?_) (fun h19 => ?_) | refine ri_if_eqN C 26 dX4_haveCommon_19 rfl (by omega) (fun h19 => ?_) (fun h19 => ?_) | refine ri_if_eq C 26 dX4_haveCommon_19 rfl (fun h19 => ?_) (fun h19 => ?_)
    · refine ri_iconst C dX4_haveCommon_26 kc_i0 ?_
      exact ri_iret C hQ dX4_haveCommon_27 rfl (Nat.le_of_ble_eq_true rfl) (Nat.le_of_ble_eq_true rfl) (by refine ⟨congrArg (fun z => some (Value.int z)) ?_, rfl⟩; first | exact kx_b_t (by simp [mx_hc, *]) | exact kx_b_f (by simp [mx_hc, *]))
    · refine ri_iconst C dX4_haveCommon_22 kc_i1 ?_
      refine ri_goto C 27 dX4_haveCommon_23 rfl ?_
      exact ri_iret C hQ dX4_haveCommon_27 rfl (Nat.le_of_ble_eq_true rfl) (Nat.le_of_ble_eq_true rfl) (by refine ⟨congrArg (fun z => some (Value.int z)) ?_, rfl⟩; first | exact kx_b_t (by simp [mx_hc, *]) | exact kx_b_f (by simp [mx_hc, *]))
set_option maxHeartbeats 1000000 in
theorem mt_X4_areClashing {l : Launch} {G : kx_G} (htr : l.stackTraces = false) {σ : kx_H} {mo : Nat} {ad : Nat → Nat} {z : Nat → Int32} {u : Nat → Nat} {k q : Nat} (h0 : σ (1, 0) = some (mo, .inr (3, mo_L ad z))) (hw : σ (1, 1) = some (ad 0, kx_ai G 1417 (mx_w u))) (hu : mx_ok u) (hp : k < u 0) (hq : q < u 0) : kx_SP l G yX4_areClashing (ws_ yX4_areClashing cX4_areClashing 3 (some .boolean)) 5 0 0 [.ref mo, .int (nI k), .int (nI q)] σ (fun v τ => v = some (.int (kx_b (mx_cl u k q))) ∧ τ = σ) kx_nx := by
  refine kx_body htr (by decide +kernel) (own := "RoseProverbsModel") (nm := "areClashing") rfl rfl (Nat.le_of_ble_eq_true rfl) ?_
  intro p e s m args below meth c Q C hQ
  have gn := hu.1
  have g5 := hu.2.2.1
  have gp := hu.2.1 k hp
  have gq := hu.2.1 q hq
  first | refine ri_aload_n C dX4_areClashing_0 rfl ?_ | refine ri_aload_nQ C dX4_areClashing_0 rfl ?_ | refine ri_aload_nN C dX4_areClashing_0 rfl ?_
  refine ri_iload_n C dX4_areClashing_1 rfl ?_
  refine ri_callV C km_X4_isLive q3144 qs76 dX4_areClashing_2 (mt_X4_isLive htr h0 hw (by omega) (by omega)) rfl rfl (kx_rcN C (by first | assumption | (repeat (first | assumption | exact kx_rs (by assumption) | exact kx_ne2 (by omega) | exact kx_ne1 (by omega) | refine kx_ro (by assumption) ?_ ?_ | exact kx_rs rfl | refine kx_ro rfl ?_ ?_))) rfl) ⟨⟨(Nat.le_of_ble_eq_true rfl), (Nat.le_of_ble_eq_true rfl)⟩, (Nat.le_of_ble_eq_true rfl), (Nat.le_of_ble_eq_true rfl), (Nat.le_of_ble_eq_true rfl)⟩ (fun v2 s2 h2 => ?_) (fun _ _ _ h => h.elim)
  obtain ⟨rfl, rfl⟩ := h2
  first | refine ri_if_eqB C 31 dX4_areClashing_5 rfl (fun h5 => ?_) (fun h5 => ?_) | refine ri_if_eqN C 31 dX4_areClashing_5 rfl (by omega) (fun h5 => ?_) (fun h5 => ?_) | refine ri_if_eq C 31 dX4_areClashing_5 rfl (fun h5 => ?_) (fun h5 => ?_)
  · refine ri_iconst C dX4_areClashing_31 kc_i0 ?_
    exact ri_iret C hQ dX4_areClashing_32 rfl (Nat.le_of_ble_eq_true rfl) (Nat.le_of_ble_eq_true rfl) (by refine ⟨congrArg (fun z => some (Value.int z)) ?_, rfl⟩; exact kx_b_f (by first | simp [mx_cl, h5, h13, h28] | simp [mx_cl, h5, h13] | simp [mx_cl, h5]))
  · first | refine ri_aload_n C dX4_areClashing_8 rfl ?_ | refine ri_aload_nQ C dX4_areClashing_8 rfl ?_ | refine ri_aload_nN C dX4_areClashing_8 rfl ?_
    refine ri_iload_n C dX4_areClashing_9 rfl ?_
    refine ri_callV C km_X4_isLive q3144 qs76 dX4_areClashing_10 (mt_X4_isLive htr h0 hw (by omega) (by omega)) rfl rfl (kx_rcN C (by first | assumption | (repeat (first | assumption | exact kx_rs (by assumption) | exact kx_ne2 (by omega) | exact kx_ne1 (by omega) | refine kx_ro (by assumption) ?_ ?_ | exact kx_rs rfl | refine kx_ro rfl ?_ ?_))) rfl) ⟨⟨(Nat.le_of_ble_eq_true rfl), (Nat.le_of_ble_eq_true rfl)⟩, (Nat.le_of_ble_eq_true rfl), (Nat.le_of_ble_eq_true rfl), (Nat.le_of_ble_eq_true rfl)⟩ (fun v10 s10 h10 => ?_) (fun _ _ _ h => h.elim)
    obtain ⟨rfl, rfl⟩ := h10
    first | refine ri_if_eqB C 31 dX4_areClashing_13 rfl (fun h13 => ?_) (fun h13 => ?_) | refine ri_if_eqN C 31 dX4_areClashing_13 rfl (by omega) (fun h13 => ?_) (fun h13 => ?_) | refine ri_if_eq C 31 dX4_areClashing_13 rfl (fun h13 => ?_) (fun h13 => ?_)
    · refine ri_iconst C dX4_areClashing_31 kc_i0 ?_
      exact ri_iret C hQ dX4_areClashing_32 rfl (Nat.le_of_ble_eq_true rfl) (Nat.le_of_ble_eq_true rfl) (by refine ⟨congrArg (fun z => some (Value.int z)) ?_, rfl⟩; exact kx_b_f (by first | simp [mx_cl, h5, h13, h28] | simp [mx_cl, h5, h13] | simp [mx_cl, h5]))
    · first | refine ri_aload_n C dX4_areClashing_16 rfl ?_ | refine ri_aload_nQ C dX4_areClashing_16 rfl ?_ | refine ri_aload_nN C dX4_areClashing_16 rfl ?_
      refine ri_iload_n C dX4_areClashing_17 rfl ?_
      refine ri_iconst C dX4_areClashing_18 kc_i4 ?_
      refine ri_callV C km_X4_of q3140 qs75 dX4_areClashing_19 (mt_X4_of htr h0 hw (by omega)) rfl rfl (kx_rcN C (by first | assumption | (repeat (first | assumption | exact kx_rs (by assumption) | exact kx_ne2 (by omega) | exact kx_ne1 (by omega) | refine kx_ro (by assumption) ?_ ?_ | exact kx_rs rfl | refine kx_ro rfl ?_ ?_))) rfl) ⟨⟨(Nat.le_of_ble_eq_true rfl), (Nat.le_of_ble_eq_true rfl)⟩, (Nat.le_of_ble_eq_true rfl), (Nat.le_of_ble_eq_true rfl), (Nat.le_of_ble_eq_true rfl)⟩ (fun v19 s19 h19 => ?_) (fun _ _ _ h => h.elim)
      obtain ⟨rfl, rfl⟩ := h19
      first | refine ri_aload_n C dX4_areClashing_22 rfl ?_ | refine ri_aload_nQ C dX4_areClashing_22 rfl ?_ | refine ri_aload_nN C dX4_areClashing_22 rfl ?_
      refine ri_iload_n C dX4_areClashing_23 rfl ?_
      refine ri_iconst C dX4_areClashing_24 kc_i4 ?_
      refine ri_callV C km_X4_of q3140 qs75 dX4_areClashing_25 (mt_X4_of htr h0 hw (by omega)) rfl rfl (kx_rcN C (by first | assumption | (repeat (first | assumption | exact kx_rs (by assumption) | exact kx_ne2 (by omega) | exact kx_ne1 (by omega) | refine kx_ro (by assumption) ?_ ?_ | exact kx_rs rfl | refine kx_ro rfl ?_ ?_))) rfl) ⟨⟨(Nat.le_of_ble_eq_true rfl), (Nat.le_of_ble_eq_true rfl)⟩, (Nat.le_of_ble_eq_true rfl), (Nat.le_of_ble_eq_true rfl), (Nat.le_of_ble_eq_true rfl)⟩ (fun v25 s25 h25 => ?_) (fun _ _ _ h => h.elim)
      obtain ⟨rfl, rfl⟩ := h25
      first | refine ri_icmp_neN C 33 dX4_areClashing_28 rfl (by omega) (by omega) (fun h28 => ?_) (fun h28 => ?_) | refine ri_icmp_ne C 33 dX4_areClashing_28 rfl (fun h28 => ?_) (fun h28 => ?_)
      · first | refine ri_aload_n C dX4_areClashing_33 rfl ?_ | refine ri_aload_nQ C dX4_areClashing_33 rfl ?_ | refine ri_aload_nN C dX4_areClashing_33 rfl ?_
        refine ri_iload_n C dX4_areClashing_34 rfl ?_
        refine ri_iconst C dX4_areClashing_35 kc_i0 ?_
        refine ri_callV C km_X4_of q3140 qs75 dX4_areClashing_36 (mt_X4_of htr h0 hw (by omega)) rfl rfl (kx_rcN C (by first | assumption | (repeat (first | assumption | exact kx_rs (by assumption) | exact kx_ne2 (by omega) | exact kx_ne1 (by omega) | refine kx_ro (by assumption) ?_ ?_ | exact kx_rs rfl | refine kx_ro rfl ?_ ?_))) rfl) ⟨⟨(Nat.le_of_ble_eq_true rfl), (Nat.le_of_ble_eq_true rfl)⟩, (Nat.le_of_ble_eq_true rfl), (Nat.le_of_ble_eq_true rfl), (Nat.le_of_ble_eq_true rfl)⟩ (fun v36 s36 h36 => ?_) (fun _ _ _ h => h.elim)
        obtain ⟨rfl, rfl⟩ := h36
        first | refine ri_aload_n C dX4_areClashing_39 rfl ?_ | refine ri_aload_nQ C dX4_areClashing_39 rfl ?_ | refine ri_aload_nN C dX4_areClashing_39 rfl ?_
        refine ri_iload_n C dX4_areClashing_40 rfl ?_
        refine ri_iconst C dX4_areClashing_41 kc_i1 ?_
        refine ri_callV C km_X4_of q3140 qs75 dX4_areClashing_42 (mt_X4_of htr h0 hw (by omega)) rfl rfl (kx_rcN C (by first | assumption | (repeat (first | assumption | exact kx_rs (by assumption) | exact kx_ne2 (by omega) | exact kx_ne1 (by omega) | refine kx_ro (by assumption) ?_ ?_ | exact kx_rs rfl | refine kx_ro rfl ?_ ?_))) rfl) ⟨⟨(Nat.le_of_ble_eq_true rfl), (Nat.le_of_ble_eq_true rfl)⟩, (Nat.le_of_ble_eq_true rfl), (Nat.le_of_ble_eq_true rfl), (Nat.le_of_ble_eq_true rfl)⟩ (fun v42 s42 h42 => ?_) (fun _ _ _ h => h.elim)
        obtain ⟨rfl, rfl⟩ := h42
        first | refine ri_aload_n C dX4_areClashing_45 rfl ?_ | refine ri_aload_nQ C dX4_areClashing_45 rfl ?_ | refine ri_aload_nN C dX4_areClashing_45 rfl ?_
        refine ri_iload_n C dX4_areClashing_46 rfl ?_
        refine ri_iconst C dX4_areClashing_47 kc_i0 ?_
        refine ri_callV C km_X4_of q3140 qs75 dX4_areClashing_48 (mt_X4_of htr h0 hw (by omega)) rfl rfl (kx_rcN C (by first | assumption | (repeat (first | assumption | exact kx_rs (by assumption) | exact kx_ne2 (by omega) | exact kx_ne1 (by omega) | refine kx_ro (by assumption) ?_ ?_ | exact kx_rs rfl | refine kx_ro rfl ?_ ?_))) rfl) ⟨⟨(Nat.le_of_ble_eq_true rfl), (Nat.le_of_ble_eq_true rfl)⟩, (Nat.le_of_ble_eq_true rfl), (Nat.le_of_ble_eq_true rfl), (Nat.le_of_ble_eq_true rfl)⟩ (fun v48 s48 h48 => ?_) (fun _ _ _ h => h.elim)
        obtain ⟨rfl, rfl⟩ := h48
        first | refine ri_aload_n C dX4_areClashing_51 rfl ?_ | refine ri_aload_nQ C dX4_areClashing_51 rfl ?_ | refine ri_aload_nN C dX4_areClashing_51 rfl ?_
        refine ri_iload_n C dX4_areClashing_52 rfl ?_
        refine ri_iconst C dX4_areClashing_53 kc_i1 ?_
        refine ri_callV C km_X4_of q3140 qs75 dX4_areClashing_54 (mt_X4_of htr h0 hw (by omega)) rfl rfl (kx_rcN C (by first | assumption | (repeat (first | assumption | exact kx_rs (by assumption) | exact kx_ne2 (by omega) | exact kx_ne1 (by omega) | refine kx_ro (by assumption) ?_ ?_ | exact kx_rs rfl | refine kx_ro rfl ?_ ?_))) rfl) ⟨⟨(Nat.le_of_ble_eq_true rfl), (Nat.le_of_ble_eq_true rfl)⟩, (Nat.le_of_ble_eq_true rfl), (Nat.le_of_ble_eq_true rfl), (Nat.le_of_ble_eq_true rfl)⟩ (fun v54 s54 h54 => ?_) (fun _ _ _ h => h.elim)
        obtain ⟨rfl, rfl⟩ := h54
        refine ri_bipush C dX4_areClashing_57 kc_b16 ?_
        refine ri_callS C km_X4_haveCommon q3323 dX4_areClashing_59 (mt_X4_haveCommon htr (Or.inr rfl) (by omega) (by omega) (by omega) (by omega)) rfl rfl ⟨⟨(Nat.le_of_ble_eq_true rfl), (Nat.le_of_ble_eq_true rfl)⟩, (Nat.le_of_ble_eq_true rfl), (Nat.le_of_ble_eq_true rfl), (Nat.le_of_ble_eq_true rfl)⟩ (fun v59 s59 h59 => ?_) (fun _ _ _ h => h.elim)
        obtain ⟨rfl, rfl⟩ := h59
        first | refine ri_if_eqB C 101 dX4_areClashing_62 rfl (fun h62 => ?_) (fun h62 => ?_) | refine ri_if_eqN C 101 dX4_areClashing_62 rfl (by omega) (fun h62 => ?_) (fun h62 => ?_) | refine ri_if_eq C 101 dX4_areClashing_62 rfl (fun h62 => ?_) (fun h62 => ?_)
        · refine ri_iconst C dX4_areClashing_101 kc_i0 ?_
          exact ri_iret C hQ dX4_areClashing_102 rfl (Nat.le_of_ble_eq_true rfl) (Nat.le_of_ble_eq_true rfl) (by refine ⟨congrArg (fun z => some (Value.int z)) ?_, rfl⟩; first | exact kx_b_t (by first | simp [mx_cl, h5, h13, h28, h62, h94] | simp [mx_cl, h5, h13, h28, h62]) | exact kx_b_f (by first | simp [mx_cl, h5, h13, h28, h62, h94] | simp [mx_cl, h5, h13, h28, h62]))
        · first | refine ri_aload_n C dX4_areClashing_65 rfl ?_ | refine ri_aload_nQ C dX4_areClashing_65 rfl ?_ | refine ri_aload_nN C dX4_areClashing_65 rfl ?_
          refine ri_iload_n C dX4_areClashing_66 rfl ?_
          refine ri_iconst C dX4_areClashing_67 kc_i2 ?_
          refine ri_callV C km_X4_of q3140 qs75 dX4_areClashing_68 (mt_X4_of htr h0 hw (by omega)) rfl rfl (kx_rcN C (by first | assumption | (repeat (first | assumption | exact kx_rs (by assumption) | exact kx_ne2 (by omega) | exact kx_ne1 (by omega) | refine kx_ro (by assumption) ?_ ?_ | exact kx_rs rfl | refine kx_ro rfl ?_ ?_))) rfl) ⟨⟨(Nat.le_of_ble_eq_true rfl), (Nat.le_of_ble_eq_true rfl)⟩, (Nat.le_of_ble_eq_true rfl), (Nat.le_of_ble_eq_true rfl), (Nat.le_of_ble_eq_true rfl)⟩ (fun v68 s68 h68 => ?_) (fun _ _ _ h => h.elim)
          obtain ⟨rfl, rfl⟩ := h68
          first | refine ri_aload_n C dX4_areClashing_71 rfl ?_ | refine ri_aload_nQ C dX4_areClashing_71 rfl ?_ | refine ri_aload_nN C dX4_areClashing_71 rfl ?_
          refine ri_iload_n C dX4_areClashing_72 rfl ?_
          refine ri_iconst C dX4_areClashing_73 kc_i3 ?_
          refine ri_callV C km_X4_of q3140 qs75 dX4_areClashing_74 (mt_X4_of htr h0 hw (by omega)) rfl rfl (kx_rcN C (by first | assumption | (repeat (first | assumption | exact kx_rs (by assumption) | exact kx_ne2 (by omega) | exact kx_ne1 (by omega) | refine kx_ro (by assumption) ?_ ?_ | exact kx_rs rfl | refine kx_ro rfl ?_ ?_))) rfl) ⟨⟨(Nat.le_of_ble_eq_true rfl), (Nat.le_of_ble_eq_true rfl)⟩, (Nat.le_of_ble_eq_true rfl), (Nat.le_of_ble_eq_true rfl), (Nat.le_of_ble_eq_true rfl)⟩ (fun v74 s74 h74 => ?_) (fun _ _ _ h => h.elim)
          obtain ⟨rfl, rfl⟩ := h74
          first | refine ri_aload_n C dX4_areClashing_77 rfl ?_ | refine ri_aload_nQ C dX4_areClashing_77 rfl ?_ | refine ri_aload_nN C dX4_areClashing_77 rfl ?_
          refine ri_iload_n C dX4_areClashing_78 rfl ?_
          refine ri_iconst C dX4_areClashing_79 kc_i2 ?_
          refine ri_callV C km_X4_of q3140 qs75 dX4_areClashing_80 (mt_X4_of htr h0 hw (by omega)) rfl rfl (kx_rcN C (by first | assumption | (repeat (first | assumption | exact kx_rs (by assumption) | exact kx_ne2 (by omega) | exact kx_ne1 (by omega) | refine kx_ro (by assumption) ?_ ?_ | exact kx_rs rfl | refine kx_ro rfl ?_ ?_))) rfl) ⟨⟨(Nat.le_of_ble_eq_true rfl), (Nat.le_of_ble_eq_true rfl)⟩, (Nat.le_of_ble_eq_true rfl), (Nat.le_of_ble_eq_true rfl), (Nat.le_of_ble_eq_true rfl)⟩ (fun v80 s80 h80 => ?_) (fun _ _ _ h => h.elim)
          obtain ⟨rfl, rfl⟩ := h80
          first | refine ri_aload_n C dX4_areClashing_83 rfl ?_ | refine ri_aload_nQ C dX4_areClashing_83 rfl ?_ | refine ri_aload_nN C dX4_areClashing_83 rfl ?_
          refine ri_iload_n C dX4_areClashing_84 rfl ?_
          refine ri_iconst C dX4_areClashing_85 kc_i3 ?_
          refine ri_callV C km_X4_of q3140 qs75 dX4_areClashing_86 (mt_X4_of htr h0 hw (by omega)) rfl rfl (kx_rcN C (by first | assumption | (repeat (first | assumption | exact kx_rs (by assumption) | exact kx_ne2 (by omega) | exact kx_ne1 (by omega) | refine kx_ro (by assumption) ?_ ?_ | exact kx_rs rfl | refine kx_ro rfl ?_ ?_))) rfl) ⟨⟨(Nat.le_of_ble_eq_true rfl), (Nat.le_of_ble_eq_true rfl)⟩, (Nat.le_of_ble_eq_true rfl), (Nat.le_of_ble_eq_true rfl), (Nat.le_of_ble_eq_true rfl)⟩ (fun v86 s86 h86 => ?_) (fun _ _ _ h => h.elim)
          obtain ⟨rfl, rfl⟩ := h86
          refine ri_bipush C dX4_areClashing_89 kc_b12 ?_
          refine ri_callS C km_X4_haveCommon q3323 dX4_areClashing_91 (mt_X4_haveCommon htr (Or.inl rfl) (by omega) (by omega) (by omega) (by omega)) rfl rfl ⟨⟨(Nat.le_of_ble_eq_true rfl), (Nat.le_of_ble_eq_true rfl)⟩, (Nat.le_of_ble_eq_true rfl), (Nat.le_of_ble_eq_true rfl), (Nat.le_of_ble_eq_true rfl)⟩ (fun v91 s91 h91 => ?_) (fun _ _ _ h => h.elim)
          obtain ⟨rfl, rfl⟩ := h91
          first | refine ri_if_eqB C 101 dX4_areClashing_94 rfl (fun h94 => ?_) (fun h94 => ?_) | refine ri_if_eqN C 101 dX4_areClashing_94 rfl (by omega) (fun h94 => ?_) (fun h94 => ?_) | refine ri_if_eq C 101 dX4_areClashing_94 rfl (fun h94 => ?_) (fun h94 => ?_)
          · refine ri_iconst C dX4_areClashing_101 kc_i0 ?_
            exact ri_iret C hQ dX4_areClashing_102 rfl (Nat.le_of_ble_eq_true rfl) (Nat.le_of_ble_eq_true rfl) (by refine ⟨congrArg (fun z => some (Value.int z)) ?_, rfl⟩; first | exact kx_b_t (by first | simp [mx_cl, h5, h13, h28, h62, h94] | simp [mx_cl, h5, h13, h28, h62]) | exact kx_b_f (by first | simp [mx_cl, h5, h13, h28, h62, h94] | simp [mx_cl, h5, h13, h28, h62]))
          · refine ri_iconst C dX4_areClashing_97 kc_i1 ?_
            refine ri_goto C 102 dX4_areClashing_98 rfl ?_
            exact ri_iret C hQ dX4_areClashing_102 rfl (Nat.le_of_ble_eq_true rfl) (Nat.le_of_ble_eq_true rfl) (by refine ⟨congrArg (fun z => some (Value.int z)) ?_, rfl⟩; first | exact kx_b_t (by first | simp [mx_cl, h5, h13, h28, h62, h94] | simp [mx_cl, h5, h13, h28, h62]) | exact kx_b_f (by first | simp [mx_cl, h5, h13, h28, h62, h94] | simp [mx_cl, h5, h13, h28, h62]))
      · refine ri_iconst C dX4_areClashing_31 kc_i0 ?_
        exact ri_iret C hQ dX4_areClashing_32 rfl (Nat.le_of_ble_eq_true rfl) (Nat.le_of_ble_eq_true rfl) (by refine ⟨congrArg (fun z => some (Value.int z)) ?_, rfl⟩; exact kx_b_f (by first | simp [mx_cl, h5, h13, h28] | simp [mx_cl, h5, h13] | simp [mx_cl, h5]))
set_option maxHeartbeats 1000000 in
theorem mt_X4_clashesOf {l : Launch} {G : kx_G} (htr : l.stackTraces = false) {σ : kx_H} {mo : Nat} {ad : Nat → Nat} {z : Nat → Int32} {u : Nat → Nat} {k : Nat} (h0 : σ (1, 0) = some (mo, .inr (3, mo_L ad z))) (hw : σ (1, 1) = some (ad 0, kx_ai G 1417 (mx_w u))) (hu : mx_ok u) (hp : k < u 0) : kx_SP l G yX4_clashesOf (ws_ yX4_clashesOf cX4_clashesOf 4 (some .int)) 6 0 0 [.ref mo, .int (nI k)] σ (fun v τ => v = some (.int (nI (mx_co u k))) ∧ τ = σ) kx_nx := by
  refine kx_body htr (by decide +kernel) (own := "RoseProverbsModel") (nm := "clashesOf") rfl rfl (Nat.le_of_ble_eq_true rfl) ?_
  intro p e s m args below meth c Q C hQ
  have gn := hu.1
  have g5 := hu.2.2.1
  have LP : ∀ (wk i : Nat) , i ≤ u 0 → u 0 < i + wk → kx_V G l p e (kx_rm 6 0 0) s m args below meth c 4 Q 4 [(0, .ref mo), (1, .int (nI k)), (2, .int (nI (mx_cnt (mx_cl u k) i))), (3, .int (nI i))] [] σ 0 0 := by
    intro wk
    induction wk with
    | zero => intro i  h1 h2; exact absurd h2 (by omega)
    | succ wk ih =>
      intro i  hi hwk 
      refine ri_iload_n C dX4_clashesOf_4 rfl ?_
      first | refine ri_aload_n C dX4_clashesOf_5 rfl ?_ | refine ri_aload_nQ C dX4_clashesOf_5 rfl ?_ | refine ri_aload_nN C dX4_clashesOf_5 rfl ?_
      refine ri_getf C dX4_clashesOf_6 fr_q2970_3 (by first | assumption | (repeat (first | assumption | exact kx_rs (by assumption) | exact kx_ne2 (by omega) | exact kx_ne1 (by omega) | refine kx_ro (by assumption) ?_ ?_ | exact kx_rs rfl | refine kx_ro rfl ?_ ?_))) (by rfl) ?_
      refine ri_iconst C dX4_clashesOf_9 kc_i0 ?_
      first | refine ri_ialoadN C dX4_clashesOf_10 (by first | assumption | (repeat (first | assumption | exact kx_rs (by assumption) | exact kx_ne2 (by omega) | exact kx_ne1 (by omega) | refine kx_ro (by assumption) ?_ ?_ | exact kx_rs rfl | refine kx_ro rfl ?_ ?_))) rfl (by omega) ?_ | refine ri_iaload C dX4_clashesOf_10 (by first | assumption | (repeat (first | assumption | exact kx_rs (by assumption) | exact kx_ne2 (by omega) | exact kx_ne1 (by omega) | refine kx_ro (by assumption) ?_ ?_ | exact kx_rs rfl | refine kx_ro rfl ?_ ?_))) rfl (by omega) ?_
      first | refine ri_icmp_geN C 32 dX4_clashesOf_11 rfl (by omega) (by omega) (fun h11 => ?_) (fun h11 => ?_) | refine ri_icmp_ge C 32 dX4_clashesOf_11 rfl (fun h11 => ?_) (fun h11 => ?_)
      · refine ri_iload_n C dX4_clashesOf_32 rfl ?_
        exact ri_iret C hQ dX4_clashesOf_33 rfl (Nat.le_of_ble_eq_true rfl) (Nat.le_of_ble_eq_true rfl) (by refine ⟨congrArg (fun z => some (Value.int z)) ?_, rfl⟩; rw [mx_co, show i = u 0 by omega])
      · refine ri_iload_n C dX4_clashesOf_14 rfl ?_
        first | refine ri_aload_n C dX4_clashesOf_15 rfl ?_ | refine ri_aload_nQ C dX4_clashesOf_15 rfl ?_ | refine ri_aload_nN C dX4_clashesOf_15 rfl ?_
        refine ri_iload_n C dX4_clashesOf_16 rfl ?_
        refine ri_iload_n C dX4_clashesOf_17 rfl ?_
        refine ri_callV C km_X4_areClashing q3319 qs110 dX4_clashesOf_18 (mt_X4_areClashing htr h0 hw hu hp (by omega)) rfl rfl (kx_rcN C (by first | assumption | (repeat (first | assumption | exact kx_rs (by assumption) | exact kx_ne2 (by omega) | exact kx_ne1 (by omega) | refine kx_ro (by assumption) ?_ ?_ | exact kx_rs rfl | refine kx_ro rfl ?_ ?_))) rfl) ⟨⟨(Nat.le_of_ble_eq_true rfl), (Nat.le_of_ble_eq_true rfl)⟩, (Nat.le_of_ble_eq_true rfl), (Nat.le_of_ble_eq_true rfl), (Nat.le_of_ble_eq_true rfl)⟩ (fun v18 s18 h18 => ?_) (fun _ _ _ h => h.elim)
        obtain ⟨rfl, rfl⟩ := h18
        refine ri_callS C km_X4_one q3247 dX4_clashesOf_21 (mt_X4_one htr) rfl rfl ⟨⟨(Nat.le_of_ble_eq_true rfl), (Nat.le_of_ble_eq_true rfl)⟩, (Nat.le_of_ble_eq_true rfl), (Nat.le_of_ble_eq_true rfl), (Nat.le_of_ble_eq_true rfl)⟩ (fun v21 s21 h21 => ?_) (fun _ _ _ h => h.elim)
        obtain ⟨rfl, rfl⟩ := h21
        first | refine ri_iaddN C dX4_clashesOf_24 ?_ | refine ri_iadd C dX4_clashesOf_24 ?_
        refine ri_istore_n C dX4_clashesOf_25 rfl (by decide) ?_
        first | refine ri_iincN C dX4_clashesOf_26 rfl rfl (by decide) ?_ | refine ri_iinc C dX4_clashesOf_26 rfl rfl rfl (by decide) ?_
        refine ri_goto C 4 dX4_clashesOf_29 rfl ?_
        exact ri_lv2 (ih (i + 1) (by omega) (by omega)) ⟨rfl, rfl, rfl, rfl, trivial⟩
  refine ri_iconst C dX4_clashesOf_0 kc_i0 ?_
  refine ri_istore_n C dX4_clashesOf_1 rfl (by decide) ?_
  refine ri_iconst C dX4_clashesOf_2 kc_i0 ?_
  refine ri_istore_n C dX4_clashesOf_3 rfl (by decide) ?_
  exact ri_lv2 (LP (u 0 + 1) 0 (by omega) (by omega)) ⟨rfl, rfl, rfl, rfl, trivial⟩
set_option maxHeartbeats 1000000 in
theorem mt_X4_allClashes {l : Launch} {G : kx_G} (htr : l.stackTraces = false) {σ : kx_H} {mo : Nat} {ad : Nat → Nat} {z : Nat → Int32} {u : Nat → Nat} (h0 : σ (1, 0) = some (mo, .inr (3, mo_L ad z))) (hw : σ (1, 1) = some (ad 0, kx_ai G 1417 (mx_w u))) (hu : mx_ok u) : kx_SP l G yX4_allClashes (ws_ yX4_allClashes cX4_allClashes 3 (some .int)) 7 0 0 [.ref mo] σ (fun v τ => v = some (.int (nI (mx_ca u / 2))) ∧ τ = σ) kx_nx := by
  refine kx_body htr (by decide +kernel) (own := "RoseProverbsModel") (nm := "allClashes") rfl rfl (Nat.le_of_ble_eq_true rfl) ?_
  intro p e s m args below meth c Q C hQ
  have gn := hu.1
  have g5 := hu.2.2.1
  have LP : ∀ (wk i : Nat) , i ≤ u 0 → u 0 < i + wk → kx_V G l p e (kx_rm 7 0 0) s m args below meth c 3 Q 4 [(0, .ref mo), (1, .int (nI (mx_sum (fun _ => true) (mx_co u) i))), (2, .int (nI i))] [] σ 0 0 := by
    intro wk
    induction wk with
    | zero => intro i  h1 h2; exact absurd h2 (by omega)
    | succ wk ih =>
      intro i  hi hwk 
      have gb : mx_sum (fun _ => true) (mx_co u) i ≤ i * 24 := mx_sum_le (fun k hk => Nat.le_trans mx_cnt_le gn)
      refine ri_iload_n C dX4_allClashes_4 rfl ?_
      first | refine ri_aload_n C dX4_allClashes_5 rfl ?_ | refine ri_aload_nQ C dX4_allClashes_5 rfl ?_ | refine ri_aload_nN C dX4_allClashes_5 rfl ?_
      refine ri_getf C dX4_allClashes_6 fr_q2970_3 (by first | assumption | (repeat (first | assumption | exact kx_rs (by assumption) | exact kx_ne2 (by omega) | exact kx_ne1 (by omega) | refine kx_ro (by assumption) ?_ ?_ | exact kx_rs rfl | refine kx_ro rfl ?_ ?_))) (by rfl) ?_
      refine ri_iconst C dX4_allClashes_9 kc_i0 ?_
      first | refine ri_ialoadN C dX4_allClashes_10 (by first | assumption | (repeat (first | assumption | exact kx_rs (by assumption) | exact kx_ne2 (by omega) | exact kx_ne1 (by omega) | refine kx_ro (by assumption) ?_ ?_ | exact kx_rs rfl | refine kx_ro rfl ?_ ?_))) rfl (by omega) ?_ | refine ri_iaload C dX4_allClashes_10 (by first | assumption | (repeat (first | assumption | exact kx_rs (by assumption) | exact kx_ne2 (by omega) | exact kx_ne1 (by omega) | refine kx_ro (by assumption) ?_ ?_ | exact kx_rs rfl | refine kx_ro rfl ?_ ?_))) rfl (by omega) ?_
      first | refine ri_icmp_geN C 28 dX4_allClashes_11 rfl (by omega) (by omega) (fun h11 => ?_) (fun h11 => ?_) | refine ri_icmp_ge C 28 dX4_allClashes_11 rfl (fun h11 => ?_) (fun h11 => ?_)
      · refine ri_iload_n C dX4_allClashes_28 rfl ?_
        refine ri_iconst C dX4_allClashes_29 kc_i2 ?_
        first | refine ri_idivN C dX4_allClashes_30 (by omega) (by omega) (by omega) ?_ | refine ri_idiv C dX4_allClashes_30 (by decide) ?_
        exact ri_iret C hQ dX4_allClashes_31 rfl (Nat.le_of_ble_eq_true rfl) (Nat.le_of_ble_eq_true rfl) (by refine ⟨congrArg (fun z => some (Value.int z)) ?_, rfl⟩; rw [mx_ca, show i = u 0 by omega])
      · refine ri_iload_n C dX4_allClashes_14 rfl ?_
        first | refine ri_aload_n C dX4_allClashes_15 rfl ?_ | refine ri_aload_nQ C dX4_allClashes_15 rfl ?_ | refine ri_aload_nN C dX4_allClashes_15 rfl ?_
        refine ri_iload_n C dX4_allClashes_16 rfl ?_
        refine ri_callV C km_X4_clashesOf q3315 qs109 dX4_allClashes_17 (mt_X4_clashesOf htr h0 hw hu (by omega)) rfl rfl (kx_rcN C (by first | assumption | (repeat (first | assumption | exact kx_rs (by assumption) | exact kx_ne2 (by omega) | exact kx_ne1 (by omega) | refine kx_ro (by assumption) ?_ ?_ | exact kx_rs rfl | refine kx_ro rfl ?_ ?_))) rfl) ⟨⟨(Nat.le_of_ble_eq_true rfl), (Nat.le_of_ble_eq_true rfl)⟩, (Nat.le_of_ble_eq_true rfl), (Nat.le_of_ble_eq_true rfl), (Nat.le_of_ble_eq_true rfl)⟩ (fun v17 s17 h17 => ?_) (fun _ _ _ h => h.elim)
        obtain ⟨rfl, rfl⟩ := h17
        first | refine ri_iaddN C dX4_allClashes_20 ?_ | refine ri_iadd C dX4_allClashes_20 ?_
        refine ri_istore_n C dX4_allClashes_21 rfl (by decide) ?_
        first | refine ri_iincN C dX4_allClashes_22 rfl rfl (by decide) ?_ | refine ri_iinc C dX4_allClashes_22 rfl rfl rfl (by decide) ?_
        refine ri_goto C 4 dX4_allClashes_25 rfl ?_
        exact ri_lv2 (ih (i + 1) (by omega) (by omega)) ⟨rfl, rfl, rfl, trivial⟩
  refine ri_iconst C dX4_allClashes_0 kc_i0 ?_
  refine ri_istore_n C dX4_allClashes_1 rfl (by decide) ?_
  refine ri_iconst C dX4_allClashes_2 kc_i0 ?_
  refine ri_istore_n C dX4_allClashes_3 rfl (by decide) ?_
  exact ri_lv2 (LP (u 0 + 1) 0 (by omega) (by omega)) ⟨rfl, rfl, rfl, trivial⟩
set_option maxHeartbeats 1000000 in
theorem mt_X4_speakersAt {l : Launch} {G : kx_G} (htr : l.stackTraces = false) {σ : kx_H} {mo : Nat} {ad : Nat → Nat} {z : Nat → Int32} {u : Nat → Nat} {pt mn : Nat} (h0 : σ (1, 0) = some (mo, .inr (3, mo_L ad z))) (hw : σ (1, 1) = some (ad 0, kx_ai G 1417 (mx_w u))) (hu : mx_ok u) (hp : pt < 16) (hm : mn < 12) : kx_SP l G yX4_speakersAt (ws_ yX4_speakersAt cX4_speakersAt 5 (some .int)) 6 0 0 [.ref mo, .int (nI pt), .int (nI mn)] σ (fun v τ => v = some (.int (nI (mx_sa u pt mn))) ∧ τ = σ) kx_nx := by
  refine kx_body htr (by decide +kernel) (own := "RoseProverbsModel") (nm := "speakersAt") rfl rfl (Nat.le_of_ble_eq_true rfl) ?_
  intro p e s m args below meth c Q C hQ
  have gn := hu.1
  have g5 := hu.2.2.1
  have LP : ∀ (wk i : Nat) , i ≤ u 0 → u 0 < i + wk → kx_V G l p e (kx_rm 6 0 0) s m args below meth c 5 Q 5 [(0, .ref mo), (1, .int (nI pt)), (2, .int (nI mn)), (3, .int (nI (mx_cnt (fun k => mx_sp u k pt mn) i))), (4, .int (nI i))] [] σ 0 0 := by
    intro wk
    induction wk with
    | zero => intro i  h1 h2; exact absurd h2 (by omega)
    | succ wk ih =>
      intro i  hi hwk 
      refine ri_iload C dX4_speakersAt_5 rfl ?_
      first | refine ri_aload_n C dX4_speakersAt_7 rfl ?_ | refine ri_aload_nQ C dX4_speakersAt_7 rfl ?_ | refine ri_aload_nN C dX4_speakersAt_7 rfl ?_
      refine ri_getf C dX4_speakersAt_8 fr_q2970_3 (by first | assumption | (repeat (first | assumption | exact kx_rs (by assumption) | exact kx_ne2 (by omega) | exact kx_ne1 (by omega) | refine kx_ro (by assumption) ?_ ?_ | exact kx_rs rfl | refine kx_ro rfl ?_ ?_))) (by rfl) ?_
      refine ri_iconst C dX4_speakersAt_11 kc_i0 ?_
      first | refine ri_ialoadN C dX4_speakersAt_12 (by first | assumption | (repeat (first | assumption | exact kx_rs (by assumption) | exact kx_ne2 (by omega) | exact kx_ne1 (by omega) | refine kx_ro (by assumption) ?_ ?_ | exact kx_rs rfl | refine kx_ro rfl ?_ ?_))) rfl (by omega) ?_ | refine ri_iaload C dX4_speakersAt_12 (by first | assumption | (repeat (first | assumption | exact kx_rs (by assumption) | exact kx_ne2 (by omega) | exact kx_ne1 (by omega) | refine kx_ro (by assumption) ?_ ?_ | exact kx_rs rfl | refine kx_ro rfl ?_ ?_))) rfl (by omega) ?_
      first | refine ri_icmp_geN C 36 dX4_speakersAt_13 rfl (by omega) (by omega) (fun h13 => ?_) (fun h13 => ?_) | refine ri_icmp_ge C 36 dX4_speakersAt_13 rfl (fun h13 => ?_) (fun h13 => ?_)
      · refine ri_iload_n C dX4_speakersAt_36 rfl ?_
        exact ri_iret C hQ dX4_speakersAt_37 rfl (Nat.le_of_ble_eq_true rfl) (Nat.le_of_ble_eq_true rfl) (by refine ⟨congrArg (fun z => some (Value.int z)) ?_, rfl⟩; rw [mx_sa, show i = u 0 by omega])
      · refine ri_iload_n C dX4_speakersAt_16 rfl ?_
        first | refine ri_aload_n C dX4_speakersAt_17 rfl ?_ | refine ri_aload_nQ C dX4_speakersAt_17 rfl ?_ | refine ri_aload_nN C dX4_speakersAt_17 rfl ?_
        refine ri_iload C dX4_speakersAt_18 rfl ?_
        refine ri_iload_n C dX4_speakersAt_20 rfl ?_
        refine ri_iload_n C dX4_speakersAt_21 rfl ?_
        refine ri_callV C km_X4_isSpeaking q3221 qs92 dX4_speakersAt_22 (mt_X4_isSpeaking htr h0 hw hu (by omega) hp hm) rfl rfl (kx_rcN C (by first | assumption | (repeat (first | assumption | exact kx_rs (by assumption) | exact kx_ne2 (by omega) | exact kx_ne1 (by omega) | refine kx_ro (by assumption) ?_ ?_ | exact kx_rs rfl | refine kx_ro rfl ?_ ?_))) rfl) ⟨⟨(Nat.le_of_ble_eq_true rfl), (Nat.le_of_ble_eq_true rfl)⟩, (Nat.le_of_ble_eq_true rfl), (Nat.le_of_ble_eq_true rfl), (Nat.le_of_ble_eq_true rfl)⟩ (fun v22 s22 h22 => ?_) (fun _ _ _ h => h.elim)
        obtain ⟨rfl, rfl⟩ := h22
        refine ri_callS C km_X4_one q3247 dX4_speakersAt_25 (mt_X4_one htr) rfl rfl ⟨⟨(Nat.le_of_ble_eq_true rfl), (Nat.le_of_ble_eq_true rfl)⟩, (Nat.le_of_ble_eq_true rfl), (Nat.le_of_ble_eq_true rfl), (Nat.le_of_ble_eq_true rfl)⟩ (fun v25 s25 h25 => ?_) (fun _ _ _ h => h.elim)
        obtain ⟨rfl, rfl⟩ := h25
        first | refine ri_iaddN C dX4_speakersAt_28 ?_ | refine ri_iadd C dX4_speakersAt_28 ?_
        refine ri_istore_n C dX4_speakersAt_29 rfl (by decide) ?_
        first | refine ri_iincN C dX4_speakersAt_30 rfl rfl (by decide) ?_ | refine ri_iinc C dX4_speakersAt_30 rfl rfl rfl (by decide) ?_
        refine ri_goto C 5 dX4_speakersAt_33 rfl ?_
        exact ri_lv2 (ih (i + 1) (by omega) (by omega)) ⟨rfl, rfl, rfl, rfl, rfl, trivial⟩
  refine ri_iconst C dX4_speakersAt_0 kc_i0 ?_
  refine ri_istore_n C dX4_speakersAt_1 rfl (by decide) ?_
  refine ri_iconst C dX4_speakersAt_2 kc_i0 ?_
  refine ri_istore C dX4_speakersAt_3 rfl (by decide) ?_
  exact ri_lv2 (LP (u 0 + 1) 0 (by omega) (by omega)) ⟨rfl, rfl, rfl, rfl, rfl, trivial⟩
set_option maxHeartbeats 1000000 in
theorem mt_X4_silent {l : Launch} {G : kx_G} (htr : l.stackTraces = false) {σ : kx_H} {mo : Nat} {ad : Nat → Nat} {z : Nat → Int32} {u : Nat → Nat} (h0 : σ (1, 0) = some (mo, .inr (3, mo_L ad z))) (hw : σ (1, 1) = some (ad 0, kx_ai G 1417 (mx_w u))) (hu : mx_ok u) : kx_SP l G yX4_silent (ws_ yX4_silent cX4_silent 4 (some .int)) 7 0 0 [.ref mo] σ (fun v τ => v = some (.int (nI (mx_cnt (mx_si u) 192))) ∧ τ = σ) kx_nx := by
  refine kx_body htr (by decide +kernel) (own := "RoseProverbsModel") (nm := "silent") rfl rfl (Nat.le_of_ble_eq_true rfl) ?_
  intro p e s m args below meth c Q C hQ
  have gn := hu.1
  have g5 := hu.2.2.1
  have LP : ∀ (wk i : Nat) , i ≤ 16 → 16 < i + wk → kx_V G l p e (kx_rm 7 0 0) s m args below meth c 4 Q 4 [(0, .ref mo), (1, .int (nI (mx_cnt (mx_si u) (12 * i)))), (2, .int (nI i))] [] σ 0 0 := by
    intro wk
    induction wk with
    | zero => intro i  h1 h2; exact absurd h2 (by omega)
    | succ wk ih =>
      intro i  hi hwk 
      refine ri_iload_n C dX4_silent_4 rfl ?_
      refine ri_bipush C dX4_silent_5 kc_b16 ?_
      first | refine ri_icmp_geN C 50 dX4_silent_7 rfl (by omega) (by omega) (fun h7 => ?_) (fun h7 => ?_) | refine ri_icmp_ge C 50 dX4_silent_7 rfl (fun h7 => ?_) (fun h7 => ?_)
      · refine ri_iload_n C dX4_silent_50 rfl ?_
        exact ri_iret C hQ dX4_silent_51 rfl (Nat.le_of_ble_eq_true rfl) (Nat.le_of_ble_eq_true rfl) (by refine ⟨congrArg (fun z => some (Value.int z)) ?_, rfl⟩; rw [show i = 16 by omega])
      · refine ri_iconst C dX4_silent_10 kc_i0 ?_
        refine ri_istore_n C dX4_silent_11 rfl (by decide) ?_
        have LQ : ∀ (wkq j : Nat) , j ≤ 12 → 12 < j + wkq → kx_V G l p e (kx_rm 7 0 0) s m args below meth c 4 Q 12 [(0, .ref mo), (1, .int (nI (mx_cnt (mx_si u) (12 * i + j)))), (2, .int (nI i)), (3, .int (nI j))] [] σ 0 0 := by
          intro wkq
          induction wkq with
          | zero => intro j  h1q h2q; exact absurd h2q (by omega)
          | succ wkq ihq =>
            intro j  hiq hwkq 
            have gs : mx_sa u i j ≤ u 0 := mx_cnt_le
            refine ri_iload_n C dX4_silent_12 rfl ?_
            refine ri_bipush C dX4_silent_13 kc_b12 ?_
            first | refine ri_icmp_geN C 44 dX4_silent_15 rfl (by omega) (by omega) (fun h15 => ?_) (fun h15 => ?_) | refine ri_icmp_ge C 44 dX4_silent_15 rfl (fun h15 => ?_) (fun h15 => ?_)
            · first | refine ri_iincN C dX4_silent_44 rfl rfl (by decide) ?_ | refine ri_iinc C dX4_silent_44 rfl rfl rfl (by decide) ?_
              refine ri_goto C 4 dX4_silent_47 rfl ?_
              refine ri_lv2 (ih (i + 1) (by omega) (by omega)) ⟨rfl, ?_, rfl, trivial⟩
              rw [show 12 * (i + 1) = 12 * i + 12 by omega, show j = 12 by omega]; rfl
            · refine ri_iload_n C dX4_silent_18 rfl ?_
              first | refine ri_aload_n C dX4_silent_19 rfl ?_ | refine ri_aload_nQ C dX4_silent_19 rfl ?_ | refine ri_aload_nN C dX4_silent_19 rfl ?_
              refine ri_iload_n C dX4_silent_20 rfl ?_
              refine ri_iload_n C dX4_silent_21 rfl ?_
              refine ri_callV C km_X4_speakersAt q3330 qs112 dX4_silent_22 (mt_X4_speakersAt htr h0 hw hu (by omega) (by omega)) rfl rfl (kx_rcN C (by first | assumption | (repeat (first | assumption | exact kx_rs (by assumption) | exact kx_ne2 (by omega) | exact kx_ne1 (by omega) | refine kx_ro (by assumption) ?_ ?_ | exact kx_rs rfl | refine kx_ro rfl ?_ ?_))) rfl) ⟨⟨(Nat.le_of_ble_eq_true rfl), (Nat.le_of_ble_eq_true rfl)⟩, (Nat.le_of_ble_eq_true rfl), (Nat.le_of_ble_eq_true rfl), (Nat.le_of_ble_eq_true rfl)⟩ (fun v22 s22 h22 => ?_) (fun _ _ _ h => h.elim)
              obtain ⟨rfl, rfl⟩ := h22
              first | refine ri_if_neB C 32 dX4_silent_25 rfl (fun h25 => ?_) (fun h25 => ?_) | refine ri_if_neN C 32 dX4_silent_25 rfl (by omega) (fun h25 => ?_) (fun h25 => ?_) | refine ri_if_ne C 32 dX4_silent_25 rfl (fun h25 => ?_) (fun h25 => ?_)
              · refine ri_iconst C dX4_silent_32 kc_i0 ?_
                refine ri_callS C km_X4_one q3247 dX4_silent_33 (mt_X4_one htr (b := false)) rfl rfl ⟨⟨(Nat.le_of_ble_eq_true rfl), (Nat.le_of_ble_eq_true rfl)⟩, (Nat.le_of_ble_eq_true rfl), (Nat.le_of_ble_eq_true rfl), (Nat.le_of_ble_eq_true rfl)⟩ (fun v33 s33 h33 => ?_) (fun _ _ _ h => h.elim)
                obtain ⟨rfl, rfl⟩ := h33
                first | refine ri_iaddN C dX4_silent_36 ?_ | refine ri_iadd C dX4_silent_36 ?_
                refine ri_istore_n C dX4_silent_37 rfl (by decide) ?_
                first | refine ri_iincN C dX4_silent_38 rfl rfl (by decide) ?_ | refine ri_iinc C dX4_silent_38 rfl rfl rfl (by decide) ?_
                refine ri_goto C 12 dX4_silent_41 rfl ?_
                refine ri_lv2 (ihq (j + 1) (by omega) (by omega)) ⟨rfl, ?_, rfl, rfl, trivial⟩
                have e1 : (12 * i + j) / 12 = i := by omega
                have e2 : (12 * i + j) % 12 = j := by omega
                first
                  | (rw [← Nat.add_assoc, mx_cnt_t (by unfold mx_si; rw [e1, e2]; simp only [decide_eq_true_eq]; omega)]; rfl)
                  | (rw [← Nat.add_assoc, mx_cnt_f (by unfold mx_si; rw [e1, e2]; simp only [decide_eq_false_iff_not]; omega)]; rfl)
              · refine ri_iconst C dX4_silent_28 kc_i1 ?_
                refine ri_goto C 33 dX4_silent_29 rfl ?_
                refine ri_callS C km_X4_one q3247 dX4_silent_33 (mt_X4_one htr (b := true)) rfl rfl ⟨⟨(Nat.le_of_ble_eq_true rfl), (Nat.le_of_ble_eq_true rfl)⟩, (Nat.le_of_ble_eq_true rfl), (Nat.le_of_ble_eq_true rfl), (Nat.le_of_ble_eq_true rfl)⟩ (fun v33 s33 h33 => ?_) (fun _ _ _ h => h.elim)
                obtain ⟨rfl, rfl⟩ := h33
                first | refine ri_iaddN C dX4_silent_36 ?_ | refine ri_iadd C dX4_silent_36 ?_
                refine ri_istore_n C dX4_silent_37 rfl (by decide) ?_
                first | refine ri_iincN C dX4_silent_38 rfl rfl (by decide) ?_ | refine ri_iinc C dX4_silent_38 rfl rfl rfl (by decide) ?_
                refine ri_goto C 12 dX4_silent_41 rfl ?_
                refine ri_lv2 (ihq (j + 1) (by omega) (by omega)) ⟨rfl, ?_, rfl, rfl, trivial⟩
                have e1 : (12 * i + j) / 12 = i := by omega
                have e2 : (12 * i + j) % 12 = j := by omega
                first
                  | (rw [← Nat.add_assoc, mx_cnt_t (by unfold mx_si; rw [e1, e2]; simp only [decide_eq_true_eq]; omega)]; rfl)
                  | (rw [← Nat.add_assoc, mx_cnt_f (by unfold mx_si; rw [e1, e2]; simp only [decide_eq_false_iff_not]; omega)]; rfl)
        refine ri_lv2 (LQ 13 0 (by omega) (by omega)) ⟨rfl, rfl, rfl, rfl, trivial⟩
  refine ri_iconst C dX4_silent_0 kc_i0 ?_
  refine ri_istore_n C dX4_silent_1 rfl (by decide) ?_
  refine ri_iconst C dX4_silent_2 kc_i0 ?_
  refine ri_istore_n C dX4_silent_3 rfl (by decide) ?_
  exact ri_lv2 (LP 17 0 (by omega) (by omega)) ⟨rfl, rfl, rfl, trivial⟩
