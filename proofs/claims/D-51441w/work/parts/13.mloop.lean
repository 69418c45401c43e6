/-! the reference: loops that only read -/
set_option maxRecDepth 100000
set_option maxHeartbeats 1000000 in
theorem mt_X4_isTwice {l : Launch} {G : kx_G} (htr : l.stackTraces = false) {σ : kx_H} {mo : Nat} {ad : Nat → Nat} {z : Nat → Int32} {u : Nat → Nat} {a0 a1 a2 a3 a4 : Nat} (h0 : σ (1, 0) = some (mo, .inr (3, mo_L ad z))) (hw : σ (1, 1) = some (ad 0, kx_ai G 1417 (mx_w u))) (hu : mx_ok u) (ha : a0 < 1000 ∧ a1 < 1000 ∧ a2 < 1000 ∧ a3 < 1000 ∧ a4 < 1000) : kx_SP l G yX4_isTwice (ws_ yX4_isTwice cX4_isTwice 8 (some .boolean)) 3 0 0 [.ref mo, .int (nI a0), .int (nI a1), .int (nI a2), .int (nI a3), .int (nI a4)] σ (fun v τ => v = some (.int (kx_b (mx_any (mx_like u a0 a1 a2 a3 a4) (u 0)))) ∧ τ = σ) kx_nx := by
  refine kx_body htr (by decide +kernel) (own := "RoseProverbsModel") (nm := "isTwice") rfl rfl (Nat.le_of_ble_eq_true rfl) ?_
  intro p e s m args below meth c Q C hQ
  have gn := hu.1
  have g5 := hu.2.2.1
  have LP : ∀ (wk i : Nat) , i ≤ u 0 → u 0 < i + wk → mx_any (mx_like u a0 a1 a2 a3 a4) i = false → kx_V G l p e (kx_rm 3 0 0) s m args below meth c 8 Q 3 [(0, .ref mo), (1, .int (nI a0)), (2, .int (nI a1)), (3, .int (nI a2)), (4, .int (nI a3)), (5, .int (nI a4)), (6, .int (nI i))] [] σ 0 0 := by
    intro wk
    induction wk with
    | zero => intro i  h1 h2; exact absurd h2 (by omega)
    | succ wk ih =>
      intro i  hi hwk hI
      have g : i < u 0 → _ := hu.2.1 i
      refine ri_iload C dX4_isTwice_3 rfl ?_
      first | refine ri_aload_n C dX4_isTwice_5 rfl ?_ | refine ri_aload_nQ C dX4_isTwice_5 rfl ?_ | refine ri_aload_nN C dX4_isTwice_5 rfl ?_
      refine ri_getf C dX4_isTwice_6 fr_q2970_3 (by first | assumption | (repeat (first | assumption | exact kx_rs (by assumption) | exact kx_ne2 (by omega) | exact kx_ne1 (by omega) | refine kx_ro (by assumption) ?_ ?_ | exact kx_rs rfl | refine kx_ro rfl ?_ ?_))) (by rfl) ?_
      refine ri_iconst C dX4_isTwice_9 kc_i0 ?_
      first | refine ri_ialoadN C dX4_isTwice_10 (by first | assumption | (repeat (first | assumption | exact kx_rs (by assumption) | exact kx_ne2 (by omega) | exact kx_ne1 (by omega) | refine kx_ro (by assumption) ?_ ?_ | exact kx_rs rfl | refine kx_ro rfl ?_ ?_))) rfl (by omega) ?_ | refine ri_iaload C dX4_isTwice_10 (by first | assumption | (repeat (first | assumption | exact kx_rs (by assumption) | exact kx_ne2 (by omega) | exact kx_ne1 (by omega) | refine kx_ro (by assumption) ?_ ?_ | exact kx_rs rfl | refine kx_ro rfl ?_ ?_))) rfl (by omega) ?_
      first | refine ri_icmp_geN C 100 dX4_isTwice_11 rfl (by omega) (by omega) (fun h11 => ?_) (fun h11 => ?_) | refine ri_icmp_ge C 100 dX4_isTwice_11 rfl (fun h11 => ?_) (fun h11 => ?_)
      · refine ri_iconst C dX4_isTwice_100 kc_i0 ?_
        exact ri_iret C hQ dX4_isTwice_101 rfl (Nat.le_of_ble_eq_true rfl) (Nat.le_of_ble_eq_true rfl) (by refine ⟨congrArg (fun z => some (Value.int z)) ?_, rfl⟩; refine kx_b_f ?_; rw [show u 0 = i by omega]; exact hI)
      · have g := g (by omega)
        first | refine ri_aload_n C dX4_isTwice_14 rfl ?_ | refine ri_aload_nQ C dX4_isTwice_14 rfl ?_ | refine ri_aload_nN C dX4_isTwice_14 rfl ?_
        refine ri_iload C dX4_isTwice_15 rfl ?_
        refine ri_iconst C dX4_isTwice_17 kc_i0 ?_
        refine ri_callV C km_X4_of q3140 qs75 dX4_isTwice_18 (mt_X4_of htr h0 hw (by omega)) rfl rfl (kx_rcN C (by first | assumption | (repeat (first | assumption | exact kx_rs (by assumption) | exact kx_ne2 (by omega) | exact kx_ne1 (by omega) | refine kx_ro (by assumption) ?_ ?_ | exact kx_rs rfl | refine kx_ro rfl ?_ ?_))) rfl) ⟨⟨(Nat.le_of_ble_eq_true rfl), (Nat.le_of_ble_eq_true rfl)⟩, (Nat.le_of_ble_eq_true rfl), (Nat.le_of_ble_eq_true rfl), (Nat.le_of_ble_eq_true rfl)⟩ (fun v18 s18 h18 => ?_) (fun _ _ _ h => h.elim)
        obtain ⟨rfl, rfl⟩ := h18
        refine ri_iload_n C dX4_isTwice_21 rfl ?_
        first | refine ri_icmp_neN C 75 dX4_isTwice_22 rfl (by omega) (by omega) (fun h22 => ?_) (fun h22 => ?_) | refine ri_icmp_ne C 75 dX4_isTwice_22 rfl (fun h22 => ?_) (fun h22 => ?_)
        · refine ri_iconst C dX4_isTwice_75 kc_i0 ?_
          refine ri_istore C dX4_isTwice_76 rfl (by decide) ?_
          refine ri_iload C dX4_isTwice_78 rfl ?_
          refine ri_if_eq C 94 dX4_isTwice_80 rfl (fun _ => ?_) (fun h => absurd nI_0 h)
          first | refine ri_iincN C dX4_isTwice_94 rfl rfl (by decide) ?_ | refine ri_iinc C dX4_isTwice_94 rfl rfl rfl (by decide) ?_
          refine ri_goto C 3 dX4_isTwice_97 rfl ?_
          refine ri_lv2 (ih (i + 1) (by omega) (by omega) (mx_any_s hI ?_)) ⟨rfl, rfl, rfl, rfl, rfl, rfl, rfl, trivial⟩
          unfold mx_like; simp_all
        · first | refine ri_aload_n C dX4_isTwice_25 rfl ?_ | refine ri_aload_nQ C dX4_isTwice_25 rfl ?_ | refine ri_aload_nN C dX4_isTwice_25 rfl ?_
          refine ri_iload C dX4_isTwice_26 rfl ?_
          refine ri_iconst C dX4_isTwice_28 kc_i1 ?_
          refine ri_callV C km_X4_of q3140 qs75 dX4_isTwice_29 (mt_X4_of htr h0 hw (by omega)) rfl rfl (kx_rcN C (by first | assumption | (repeat (first | assumption | exact kx_rs (by assumption) | exact kx_ne2 (by omega) | exact kx_ne1 (by omega) | refine kx_ro (by assumption) ?_ ?_ | exact kx_rs rfl | refine kx_ro rfl ?_ ?_))) rfl) ⟨⟨(Nat.le_of_ble_eq_true rfl), (Nat.le_of_ble_eq_true rfl)⟩, (Nat.le_of_ble_eq_true rfl), (Nat.le_of_ble_eq_true rfl), (Nat.le_of_ble_eq_true rfl)⟩ (fun v29 s29 h29 => ?_) (fun _ _ _ h => h.elim)
          obtain ⟨rfl, rfl⟩ := h29
          refine ri_iload_n C dX4_isTwice_32 rfl ?_
          first | refine ri_icmp_neN C 75 dX4_isTwice_33 rfl (by omega) (by omega) (fun h33 => ?_) (fun h33 => ?_) | refine ri_icmp_ne C 75 dX4_isTwice_33 rfl (fun h33 => ?_) (fun h33 => ?_)
          · refine ri_iconst C dX4_isTwice_75 kc_i0 ?_
            refine ri_istore C dX4_isTwice_76 rfl (by decide) ?_
            refine ri_iload C dX4_isTwice_78 rfl ?_
            refine ri_if_eq C 94 dX4_isTwice_80 rfl (fun _ => ?_) (fun h => absurd nI_0 h)
            first | refine ri_iincN C dX4_isTwice_94 rfl rfl (by decide) ?_ | refine ri_iinc C dX4_isTwice_94 rfl rfl rfl (by decide) ?_
            refine ri_goto C 3 dX4_isTwice_97 rfl ?_
            refine ri_lv2 (ih (i + 1) (by omega) (by omega) (mx_any_s hI ?_)) ⟨rfl, rfl, rfl, rfl, rfl, rfl, rfl, trivial⟩
            unfold mx_like; simp_all
          · first | refine ri_aload_n C dX4_isTwice_36 rfl ?_ | refine ri_aload_nQ C dX4_isTwice_36 rfl ?_ | refine ri_aload_nN C dX4_isTwice_36 rfl ?_
            refine ri_iload C dX4_isTwice_37 rfl ?_
            refine ri_iconst C dX4_isTwice_39 kc_i2 ?_
            refine ri_callV C km_X4_of q3140 qs75 dX4_isTwice_40 (mt_X4_of htr h0 hw (by omega)) rfl rfl (kx_rcN C (by first | assumption | (repeat (first | assumption | exact kx_rs (by assumption) | exact kx_ne2 (by omega) | exact kx_ne1 (by omega) | refine kx_ro (by assumption) ?_ ?_ | exact kx_rs rfl | refine kx_ro rfl ?_ ?_))) rfl) ⟨⟨(Nat.le_of_ble_eq_true rfl), (Nat.le_of_ble_eq_true rfl)⟩, (Nat.le_of_ble_eq_true rfl), (Nat.le_of_ble_eq_true rfl), (Nat.le_of_ble_eq_true rfl)⟩ (fun v40 s40 h40 => ?_) (fun _ _ _ h => h.elim)
            obtain ⟨rfl, rfl⟩ := h40
            refine ri_iload_n C dX4_isTwice_43 rfl ?_
            first | refine ri_icmp_neN C 75 dX4_isTwice_44 rfl (by omega) (by omega) (fun h44 => ?_) (fun h44 => ?_) | refine ri_icmp_ne C 75 dX4_isTwice_44 rfl (fun h44 => ?_) (fun h44 => ?_)
            · refine ri_iconst C dX4_isTwice_75 kc_i0 ?_
              refine ri_istore C dX4_isTwice_76 rfl (by decide) ?_
              refine ri_iload C dX4_isTwice_78 rfl ?_
              refine ri_if_eq C 94 dX4_isTwice_80 rfl (fun _ => ?_) (fun h => absurd nI_0 h)
              first | refine ri_iincN C dX4_isTwice_94 rfl rfl (by decide) ?_ | refine ri_iinc C dX4_isTwice_94 rfl rfl rfl (by decide) ?_
              refine ri_goto C 3 dX4_isTwice_97 rfl ?_
              refine ri_lv2 (ih (i + 1) (by omega) (by omega) (mx_any_s hI ?_)) ⟨rfl, rfl, rfl, rfl, rfl, rfl, rfl, trivial⟩
              unfold mx_like; simp_all
            · first | refine ri_aload_n C dX4_isTwice_47 rfl ?_ | refine ri_aload_nQ C dX4_isTwice_47 rfl ?_ | refine ri_aload_nN C dX4_isTwice_47 rfl ?_
              refine ri_iload C dX4_isTwice_48 rfl ?_
              refine ri_iconst C dX4_isTwice_50 kc_i3 ?_
              refine ri_callV C km_X4_of q3140 qs75 dX4_isTwice_51 (mt_X4_of htr h0 hw (by omega)) rfl rfl (kx_rcN C (by first | assumption | (repeat (first | assumption | exact kx_rs (by assumption) | exact kx_ne2 (by omega) | exact kx_ne1 (by omega) | refine kx_ro (by assumption) ?_ ?_ | exact kx_rs rfl | refine kx_ro rfl ?_ ?_))) rfl) ⟨⟨(Nat.le_of_ble_eq_true rfl), (Nat.le_of_ble_eq_true rfl)⟩, (Nat.le_of_ble_eq_true rfl), (Nat.le_of_ble_eq_true rfl), (Nat.le_of_ble_eq_true rfl)⟩ (fun v51 s51 h51 => ?_) (fun _ _ _ h => h.elim)
              obtain ⟨rfl, rfl⟩ := h51
              refine ri_iload C dX4_isTwice_54 rfl ?_
              first | refine ri_icmp_neN C 75 dX4_isTwice_56 rfl (by omega) (by omega) (fun h56 => ?_) (fun h56 => ?_) | refine ri_icmp_ne C 75 dX4_isTwice_56 rfl (fun h56 => ?_) (fun h56 => ?_)
              · refine ri_iconst C dX4_isTwice_75 kc_i0 ?_
                refine ri_istore C dX4_isTwice_76 rfl (by decide) ?_
                refine ri_iload C dX4_isTwice_78 rfl ?_
                refine ri_if_eq C 94 dX4_isTwice_80 rfl (fun _ => ?_) (fun h => absurd nI_0 h)
                first | refine ri_iincN C dX4_isTwice_94 rfl rfl (by decide) ?_ | refine ri_iinc C dX4_isTwice_94 rfl rfl rfl (by decide) ?_
                refine ri_goto C 3 dX4_isTwice_97 rfl ?_
                refine ri_lv2 (ih (i + 1) (by omega) (by omega) (mx_any_s hI ?_)) ⟨rfl, rfl, rfl, rfl, rfl, rfl, rfl, trivial⟩
                unfold mx_like; simp_all
              · first | refine ri_aload_n C dX4_isTwice_59 rfl ?_ | refine ri_aload_nQ C dX4_isTwice_59 rfl ?_ | refine ri_aload_nN C dX4_isTwice_59 rfl ?_
                refine ri_iload C dX4_isTwice_60 rfl ?_
                refine ri_iconst C dX4_isTwice_62 kc_i4 ?_
                refine ri_callV C km_X4_of q3140 qs75 dX4_isTwice_63 (mt_X4_of htr h0 hw (by omega)) rfl rfl (kx_rcN C (by first | assumption | (repeat (first | assumption | exact kx_rs (by assumption) | exact kx_ne2 (by omega) | exact kx_ne1 (by omega) | refine kx_ro (by assumption) ?_ ?_ | exact kx_rs rfl | refine kx_ro rfl ?_ ?_))) rfl) ⟨⟨(Nat.le_of_ble_eq_true rfl), (Nat.le_of_ble_eq_true rfl)⟩, (Nat.le_of_ble_eq_true rfl), (Nat.le_of_ble_eq_true rfl), (Nat.le_of_ble_eq_true rfl)⟩ (fun v63 s63 h63 => ?_) (fun _ _ _ h => h.elim)
                obtain ⟨rfl, rfl⟩ := h63
                refine ri_iload C dX4_isTwice_66 rfl ?_
                first | refine ri_icmp_neN C 75 dX4_isTwice_68 rfl (by omega) (by omega) (fun h68 => ?_) (fun h68 => ?_) | refine ri_icmp_ne C 75 dX4_isTwice_68 rfl (fun h68 => ?_) (fun h68 => ?_)
                · refine ri_iconst C dX4_isTwice_75 kc_i0 ?_
                  refine ri_istore C dX4_isTwice_76 rfl (by decide) ?_
                  refine ri_iload C dX4_isTwice_78 rfl ?_
                  refine ri_if_eq C 94 dX4_isTwice_80 rfl (fun _ => ?_) (fun h => absurd nI_0 h)
                  first | refine ri_iincN C dX4_isTwice_94 rfl rfl (by decide) ?_ | refine ri_iinc C dX4_isTwice_94 rfl rfl rfl (by decide) ?_
                  refine ri_goto C 3 dX4_isTwice_97 rfl ?_
                  refine ri_lv2 (ih (i + 1) (by omega) (by omega) (mx_any_s hI ?_)) ⟨rfl, rfl, rfl, rfl, rfl, rfl, rfl, trivial⟩
                  unfold mx_like; simp_all
                · refine ri_iconst C dX4_isTwice_71 kc_i1 ?_
                  refine ri_goto C 76 dX4_isTwice_72 rfl ?_
                  refine ri_istore C dX4_isTwice_76 rfl (by decide) ?_
                  refine ri_iload C dX4_isTwice_78 rfl ?_
                  refine ri_if_eq C 94 dX4_isTwice_80 rfl (fun h => absurd h (by decide)) (fun _ => ?_)
                  first | refine ri_aload_n C dX4_isTwice_83 rfl ?_ | refine ri_aload_nQ C dX4_isTwice_83 rfl ?_ | refine ri_aload_nN C dX4_isTwice_83 rfl ?_
                  refine ri_iload C dX4_isTwice_84 rfl ?_
                  refine ri_callV C km_X4_isLive q3144 qs76 dX4_isTwice_86 (mt_X4_isLive htr h0 hw (by omega) (by omega)) rfl rfl (kx_rcN C (by first | assumption | (repeat (first | assumption | exact kx_rs (by assumption) | exact kx_ne2 (by omega) | exact kx_ne1 (by omega) | refine kx_ro (by assumption) ?_ ?_ | exact kx_rs rfl | refine kx_ro rfl ?_ ?_))) rfl) ⟨⟨(Nat.le_of_ble_eq_true rfl), (Nat.le_of_ble_eq_true rfl)⟩, (Nat.le_of_ble_eq_true rfl), (Nat.le_of_ble_eq_true rfl), (Nat.le_of_ble_eq_true rfl)⟩ (fun v86 s86 h86 => ?_) (fun _ _ _ h => h.elim)
                  obtain ⟨rfl, rfl⟩ := h86
                  first | refine ri_if_eqB C 94 dX4_isTwice_89 rfl (fun h89 => ?_) (fun h89 => ?_) | refine ri_if_eqN C 94 dX4_isTwice_89 rfl (by omega) (fun h89 => ?_) (fun h89 => ?_) | refine ri_if_eq C 94 dX4_isTwice_89 rfl (fun h89 => ?_) (fun h89 => ?_)
                  · first | refine ri_iincN C dX4_isTwice_94 rfl rfl (by decide) ?_ | refine ri_iinc C dX4_isTwice_94 rfl rfl rfl (by decide) ?_
                    refine ri_goto C 3 dX4_isTwice_97 rfl ?_
                    refine ri_lv2 (ih (i + 1) (by omega) (by omega) (mx_any_s hI ?_)) ⟨rfl, rfl, rfl, rfl, rfl, rfl, rfl, trivial⟩
                    unfold mx_like; simp_all
                  · refine ri_iconst C dX4_isTwice_92 kc_i1 ?_
                    exact ri_iret C hQ dX4_isTwice_93 rfl (Nat.le_of_ble_eq_true rfl) (Nat.le_of_ble_eq_true rfl) (by refine ⟨congrArg (fun z => some (Value.int z)) ?_, rfl⟩; refine kx_b_t (mx_any_t (show i < u 0 by omega) ?_); unfold mx_like; simp_all)
  refine ri_iconst C dX4_isTwice_0 kc_i0 ?_
  refine ri_istore C dX4_isTwice_1 rfl (by decide) ?_
  exact ri_lv2 (LP (u 0 + 1) 0 (by omega) (by omega) rfl) ⟨rfl, rfl, rfl, rfl, rfl, rfl, rfl, trivial⟩
set_option maxHeartbeats 1000000 in
theorem mt_X4_tellers {l : Launch} {G : kx_G} (htr : l.stackTraces = false) {σ : kx_H} {mo : Nat} {ad : Nat → Nat} {z : Nat → Int32} {u : Nat → Nat} {pt mn w : Nat} (h0 : σ (1, 0) = some (mo, .inr (3, mo_L ad z))) (hw : σ (1, 1) = some (ad 0, kx_ai G 1417 (mx_w u))) (hu : mx_ok u) (hp : pt < 16) (hm : mn < 12) (hw5 : w < 5) : kx_SP l G yX4_tellers (ws_ yX4_tellers cX4_tellers 6 (some .int)) 6 0 0 [.ref mo, .int (nI pt), .int (nI mn), .int (nI w)] σ (fun v τ => v = some (.int (nI (mx_cnt (mx_say u pt mn w) (u 0)))) ∧ τ = σ) kx_nx := by
  refine kx_body htr (by decide +kernel) (own := "RoseProverbsModel") (nm := "tellers") rfl rfl (Nat.le_of_ble_eq_true rfl) ?_
  intro p e s m args below meth c Q C hQ
  have gn := hu.1
  have g5 := hu.2.2.1
  have LP : ∀ (wk i : Nat) , i ≤ u 0 → u 0 < i + wk → kx_V G l p e (kx_rm 6 0 0) s m args below meth c 6 Q 6 [(0, .ref mo), (1, .int (nI pt)), (2, .int (nI mn)), (3, .int (nI w)), (4, .int (nI (mx_cnt (mx_say u pt mn w) i))), (5, .int (nI i))] [] σ 0 0 := by
    intro wk
    induction wk with
    | zero => intro i  h1 h2; exact absurd h2 (by omega)
    | succ wk ih =>
      intro i  hi hwk 
      have g : i < u 0 → _ := hu.2.1 i
      refine ri_iload C dX4_tellers_6 rfl ?_
      first | refine ri_aload_n C dX4_tellers_8 rfl ?_ | refine ri_aload_nQ C dX4_tellers_8 rfl ?_ | refine ri_aload_nN C dX4_tellers_8 rfl ?_
      refine ri_getf C dX4_tellers_9 fr_q2970_3 (by first | assumption | (repeat (first | assumption | exact kx_rs (by assumption) | exact kx_ne2 (by omega) | exact kx_ne1 (by omega) | refine kx_ro (by assumption) ?_ ?_ | exact kx_rs rfl | refine kx_ro rfl ?_ ?_))) (by rfl) ?_
      refine ri_iconst C dX4_tellers_12 kc_i0 ?_
      first | refine ri_ialoadN C dX4_tellers_13 (by first | assumption | (repeat (first | assumption | exact kx_rs (by assumption) | exact kx_ne2 (by omega) | exact kx_ne1 (by omega) | refine kx_ro (by assumption) ?_ ?_ | exact kx_rs rfl | refine kx_ro rfl ?_ ?_))) rfl (by omega) ?_ | refine ri_iaload C dX4_tellers_13 (by first | assumption | (repeat (first | assumption | exact kx_rs (by assumption) | exact kx_ne2 (by omega) | exact kx_ne1 (by omega) | refine kx_ro (by assumption) ?_ ?_ | exact kx_rs rfl | refine kx_ro rfl ?_ ?_))) rfl (by omega) ?_
      first | refine ri_icmp_geN C 58 dX4_tellers_14 rfl (by omega) (by omega) (fun h14 => ?_) (fun h14 => ?_) | refine ri_icmp_ge C 58 dX4_tellers_14 rfl (fun h14 => ?_) (fun h14 => ?_)
      · refine ri_iload C dX4_tellers_58 rfl ?_
        exact ri_iret C hQ dX4_tellers_60 rfl (Nat.le_of_ble_eq_true rfl) (Nat.le_of_ble_eq_true rfl) (by refine ⟨congrArg (fun z => some (Value.int z)) ?_, rfl⟩; rw [show i = u 0 by omega])
      · have g := g (by omega)
        refine ri_iload C dX4_tellers_17 rfl ?_
        first | refine ri_aload_n C dX4_tellers_19 rfl ?_ | refine ri_aload_nQ C dX4_tellers_19 rfl ?_ | refine ri_aload_nN C dX4_tellers_19 rfl ?_
        refine ri_iload C dX4_tellers_20 rfl ?_
        refine ri_iload_n C dX4_tellers_22 rfl ?_
        refine ri_iload_n C dX4_tellers_23 rfl ?_
        refine ri_callV C km_X4_isSpeaking q3221 qs92 dX4_tellers_24 (mt_X4_isSpeaking htr h0 hw hu (by omega) hp hm) rfl rfl (kx_rcN C (by first | assumption | (repeat (first | assumption | exact kx_rs (by assumption) | exact kx_ne2 (by omega) | exact kx_ne1 (by omega) | refine kx_ro (by assumption) ?_ ?_ | exact kx_rs rfl | refine kx_ro rfl ?_ ?_))) rfl) ⟨⟨(Nat.le_of_ble_eq_true rfl), (Nat.le_of_ble_eq_true rfl)⟩, (Nat.le_of_ble_eq_true rfl), (Nat.le_of_ble_eq_true rfl), (Nat.le_of_ble_eq_true rfl)⟩ (fun v24 s24 h24 => ?_) (fun _ _ _ h => h.elim)
        obtain ⟨rfl, rfl⟩ := h24
        first | refine ri_if_eqB C 45 dX4_tellers_27 rfl (fun h27 => ?_) (fun h27 => ?_) | refine ri_if_eqN C 45 dX4_tellers_27 rfl (by omega) (fun h27 => ?_) (fun h27 => ?_) | refine ri_if_eq C 45 dX4_tellers_27 rfl (fun h27 => ?_) (fun h27 => ?_)
        · refine ri_iconst C dX4_tellers_45 kc_i0 ?_
          refine ri_callS C km_X4_one q3247 dX4_tellers_46 (mt_X4_one htr (b := false)) rfl rfl ⟨⟨(Nat.le_of_ble_eq_true rfl), (Nat.le_of_ble_eq_true rfl)⟩, (Nat.le_of_ble_eq_true rfl), (Nat.le_of_ble_eq_true rfl), (Nat.le_of_ble_eq_true rfl)⟩ (fun v46 s46 h46 => ?_) (fun _ _ _ h => h.elim)
          obtain ⟨rfl, rfl⟩ := h46
          first | refine ri_iaddN C dX4_tellers_49 ?_ | refine ri_iadd C dX4_tellers_49 ?_
          refine ri_istore C dX4_tellers_50 rfl (by decide) ?_
          first | refine ri_iincN C dX4_tellers_52 rfl rfl (by decide) ?_ | refine ri_iinc C dX4_tellers_52 rfl rfl rfl (by decide) ?_
          refine ri_goto C 6 dX4_tellers_55 rfl ?_
          refine ri_lv2 (ih (i + 1) (by omega) (by omega)) ⟨rfl, rfl, rfl, rfl, ?_, rfl, trivial⟩
          refine congrArg (fun x => some (Value.int (nI x))) ?_
          first | (rw [mx_cnt_t (by unfold mx_say; simp_all)]; rfl) | (rw [mx_cnt_f (by unfold mx_say; simp_all)]; rfl)
        · first | refine ri_aload_n C dX4_tellers_30 rfl ?_ | refine ri_aload_nQ C dX4_tellers_30 rfl ?_ | refine ri_aload_nN C dX4_tellers_30 rfl ?_
          refine ri_iload C dX4_tellers_31 rfl ?_
          refine ri_iconst C dX4_tellers_33 kc_i4 ?_
          refine ri_callV C km_X4_of q3140 qs75 dX4_tellers_34 (mt_X4_of htr h0 hw (by omega)) rfl rfl (kx_rcN C (by first | assumption | (repeat (first | assumption | exact kx_rs (by assumption) | exact kx_ne2 (by omega) | exact kx_ne1 (by omega) | refine kx_ro (by assumption) ?_ ?_ | exact kx_rs rfl | refine kx_ro rfl ?_ ?_))) rfl) ⟨⟨(Nat.le_of_ble_eq_true rfl), (Nat.le_of_ble_eq_true rfl)⟩, (Nat.le_of_ble_eq_true rfl), (Nat.le_of_ble_eq_true rfl), (Nat.le_of_ble_eq_true rfl)⟩ (fun v34 s34 h34 => ?_) (fun _ _ _ h => h.elim)
          obtain ⟨rfl, rfl⟩ := h34
          refine ri_iload_n C dX4_tellers_37 rfl ?_
          first | refine ri_icmp_neN C 45 dX4_tellers_38 rfl (by omega) (by omega) (fun h38 => ?_) (fun h38 => ?_) | refine ri_icmp_ne C 45 dX4_tellers_38 rfl (fun h38 => ?_) (fun h38 => ?_)
          · refine ri_iconst C dX4_tellers_45 kc_i0 ?_
            refine ri_callS C km_X4_one q3247 dX4_tellers_46 (mt_X4_one htr (b := false)) rfl rfl ⟨⟨(Nat.le_of_ble_eq_true rfl), (Nat.le_of_ble_eq_true rfl)⟩, (Nat.le_of_ble_eq_true rfl), (Nat.le_of_ble_eq_true rfl), (Nat.le_of_ble_eq_true rfl)⟩ (fun v46 s46 h46 => ?_) (fun _ _ _ h => h.elim)
            obtain ⟨rfl, rfl⟩ := h46
            first | refine ri_iaddN C dX4_tellers_49 ?_ | refine ri_iadd C dX4_tellers_49 ?_
            refine ri_istore C dX4_tellers_50 rfl (by decide) ?_
            first | refine ri_iincN C dX4_tellers_52 rfl rfl (by decide) ?_ | refine ri_iinc C dX4_tellers_52 rfl rfl rfl (by decide) ?_
            refine ri_goto C 6 dX4_tellers_55 rfl ?_
            refine ri_lv2 (ih (i + 1) (by omega) (by omega)) ⟨rfl, rfl, rfl, rfl, ?_, rfl, trivial⟩
            refine congrArg (fun x => some (Value.int (nI x))) ?_
            first | (rw [mx_cnt_t (by unfold mx_say; simp_all)]; rfl) | (rw [mx_cnt_f (by unfold mx_say; simp_all)]; rfl)
          · refine ri_iconst C dX4_tellers_41 kc_i1 ?_
            refine ri_goto C 46 dX4_tellers_42 rfl ?_
            refine ri_callS C km_X4_one q3247 dX4_tellers_46 (mt_X4_one htr (b := true)) rfl rfl ⟨⟨(Nat.le_of_ble_eq_true rfl), (Nat.le_of_ble_eq_true rfl)⟩, (Nat.le_of_ble_eq_true rfl), (Nat.le_of_ble_eq_true rfl), (Nat.le_of_ble_eq_true rfl)⟩ (fun v46 s46 h46 => ?_) (fun _ _ _ h => h.elim)
            obtain ⟨rfl, rfl⟩ := h46
            first | refine ri_iaddN C dX4_tellers_49 ?_ | refine ri_iadd C dX4_tellers_49 ?_
            refine ri_istore C dX4_tellers_50 rfl (by decide) ?_
            first | refine ri_iincN C dX4_tellers_52 rfl rfl (by decide) ?_ | refine ri_iinc C dX4_tellers_52 rfl rfl rfl (by decide) ?_
            refine ri_goto C 6 dX4_tellers_55 rfl ?_
            refine ri_lv2 (ih (i + 1) (by omega) (by omega)) ⟨rfl, rfl, rfl, rfl, ?_, rfl, trivial⟩
            refine congrArg (fun x => some (Value.int (nI x))) ?_
            first | (rw [mx_cnt_t (by unfold mx_say; simp_all)]; rfl) | (rw [mx_cnt_f (by unfold mx_say; simp_all)]; rfl)
  refine ri_iconst C dX4_tellers_0 kc_i0 ?_
  refine ri_istore C dX4_tellers_1 rfl (by decide) ?_
  refine ri_iconst C dX4_tellers_3 kc_i0 ?_
  refine ri_istore C dX4_tellers_4 rfl (by decide) ?_
  exact ri_lv2 (LP (u 0 + 1) 0 (by omega) (by omega)) ⟨rfl, rfl, rfl, rfl, rfl, rfl, trivial⟩
def mx_lm (u : Nat → Nat) : Nat := mx_cnt (mx_live u) (u 0)
set_option maxHeartbeats 1000000 in
theorem mt_X4_liveMany {l : Launch} {G : kx_G} (htr : l.stackTraces = false) {σ : kx_H} {mo : Nat} {ad : Nat → Nat} {z : Nat → Int32} {u : Nat → Nat} (h0 : σ (1, 0) = some (mo, .inr (3, mo_L ad z))) (hw : σ (1, 1) = some (ad 0, kx_ai G 1417 (mx_w u))) (hu : mx_ok u) : kx_SP l G yX4_liveMany (ws_ yX4_liveMany cX4_liveMany 3 (some .int)) 6 0 0 [.ref mo] σ (fun v τ => v = some (.int (nI (mx_lm u))) ∧ τ = σ) kx_nx := by
  refine kx_body htr (by decide +kernel) (own := "RoseProverbsModel") (nm := "liveMany") rfl rfl (Nat.le_of_ble_eq_true rfl) ?_
  intro p e s m args below meth c Q C hQ
  have gn := hu.1
  have g5 := hu.2.2.1
  have LP : ∀ (wk i : Nat) , i ≤ u 0 → u 0 < i + wk → kx_V G l p e (kx_rm 6 0 0) s m args below meth c 3 Q 4 [(0, .ref mo), (1, .int (nI (mx_cnt (mx_live u) i))), (2, .int (nI i))] [] σ 0 0 := by
    intro wk
    induction wk with
    | zero => intro i  h1 h2; exact absurd h2 (by omega)
    | succ wk ih =>
      intro i  hi hwk 
      have g : i < u 0 → _ := hu.2.1 i
      refine ri_iload_n C dX4_liveMany_4 rfl ?_
      first | refine ri_aload_n C dX4_liveMany_5 rfl ?_ | refine ri_aload_nQ C dX4_liveMany_5 rfl ?_ | refine ri_aload_nN C dX4_liveMany_5 rfl ?_
      refine ri_getf C dX4_liveMany_6 fr_q2970_3 (by first | assumption | (repeat (first | assumption | exact kx_rs (by assumption) | exact kx_ne2 (by omega) | exact kx_ne1 (by omega) | refine kx_ro (by assumption) ?_ ?_ | exact kx_rs rfl | refine kx_ro rfl ?_ ?_))) (by rfl) ?_
      refine ri_iconst C dX4_liveMany_9 kc_i0 ?_
      first | refine ri_ialoadN C dX4_liveMany_10 (by first | assumption | (repeat (first | assumption | exact kx_rs (by assumption) | exact kx_ne2 (by omega) | exact kx_ne1 (by omega) | refine kx_ro (by assumption) ?_ ?_ | exact kx_rs rfl | refine kx_ro rfl ?_ ?_))) rfl (by omega) ?_ | refine ri_iaload C dX4_liveMany_10 (by first | assumption | (repeat (first | assumption | exact kx_rs (by assumption) | exact kx_ne2 (by omega) | exact kx_ne1 (by omega) | refine kx_ro (by assumption) ?_ ?_ | exact kx_rs rfl | refine kx_ro rfl ?_ ?_))) rfl (by omega) ?_
      first | refine ri_icmp_geN C 31 dX4_liveMany_11 rfl (by omega) (by omega) (fun h11 => ?_) (fun h11 => ?_) | refine ri_icmp_ge C 31 dX4_liveMany_11 rfl (fun h11 => ?_) (fun h11 => ?_)
      · refine ri_iload_n C dX4_liveMany_31 rfl ?_
        exact ri_iret C hQ dX4_liveMany_32 rfl (Nat.le_of_ble_eq_true rfl) (Nat.le_of_ble_eq_true rfl) (by refine ⟨congrArg (fun z => some (Value.int z)) ?_, rfl⟩; rw [mx_lm, show i = u 0 by omega])
      · have g := g (by omega)
        refine ri_iload_n C dX4_liveMany_14 rfl ?_
        first | refine ri_aload_n C dX4_liveMany_15 rfl ?_ | refine ri_aload_nQ C dX4_liveMany_15 rfl ?_ | refine ri_aload_nN C dX4_liveMany_15 rfl ?_
        refine ri_iload_n C dX4_liveMany_16 rfl ?_
        refine ri_callV C km_X4_isLive q3144 qs76 dX4_liveMany_17 (mt_X4_isLive htr h0 hw (by omega) (by omega)) rfl rfl (kx_rcN C (by first | assumption | (repeat (first | assumption | exact kx_rs (by assumption) | exact kx_ne2 (by omega) | exact kx_ne1 (by omega) | refine kx_ro (by assumption) ?_ ?_ | exact kx_rs rfl | refine kx_ro rfl ?_ ?_))) rfl) ⟨⟨(Nat.le_of_ble_eq_true rfl), (Nat.le_of_ble_eq_true rfl)⟩, (Nat.le_of_ble_eq_true rfl), (Nat.le_of_ble_eq_true rfl), (Nat.le_of_ble_eq_true rfl)⟩ (fun v17 s17 h17 => ?_) (fun _ _ _ h => h.elim)
        obtain ⟨rfl, rfl⟩ := h17
        refine ri_callS C km_X4_one q3247 dX4_liveMany_20 (mt_X4_one htr) rfl rfl ⟨⟨(Nat.le_of_ble_eq_true rfl), (Nat.le_of_ble_eq_true rfl)⟩, (Nat.le_of_ble_eq_true rfl), (Nat.le_of_ble_eq_true rfl), (Nat.le_of_ble_eq_true rfl)⟩ (fun v20 s20 h20 => ?_) (fun _ _ _ h => h.elim)
        obtain ⟨rfl, rfl⟩ := h20
        first | refine ri_iaddN C dX4_liveMany_23 ?_ | refine ri_iadd C dX4_liveMany_23 ?_
        refine ri_istore_n C dX4_liveMany_24 rfl (by decide) ?_
        first | refine ri_iincN C dX4_liveMany_25 rfl rfl (by decide) ?_ | refine ri_iinc C dX4_liveMany_25 rfl rfl rfl (by decide) ?_
        refine ri_goto C 4 dX4_liveMany_28 rfl ?_
        exact ri_lv2 (ih (i + 1) (by omega) (by omega)) ⟨rfl, rfl, rfl, trivial⟩
  refine ri_iconst C dX4_liveMany_0 kc_i0 ?_
  refine ri_istore_n C dX4_liveMany_1 rfl (by decide) ?_
  refine ri_iconst C dX4_liveMany_2 kc_i0 ?_
  refine ri_istore_n C dX4_liveMany_3 rfl (by decide) ?_
  exact ri_lv2 (LP (u 0 + 1) 0 (by omega) (by omega)) ⟨rfl, rfl, rfl, trivial⟩
set_option maxHeartbeats 1000000 in
theorem mt_X4_voiceOf {l : Launch} {G : kx_G} (htr : l.stackTraces = false) {σ : kx_H} {mo : Nat} {ad : Nat → Nat} {z : Nat → Int32} {u : Nat → Nat} {pt mn w : Nat} (h0 : σ (1, 0) = some (mo, .inr (3, mo_L ad z))) (hw : σ (1, 1) = some (ad 0, kx_ai G 1417 (mx_w u))) (hu : mx_ok u) (hp : pt < 16) (hm : mn < 12) (hw5 : w < 5) : kx_SP l G yX4_voiceOf (ws_ yX4_voiceOf cX4_voiceOf 8 (some .int)) 6 0 0 [.ref mo, .int (nI pt), .int (nI mn), .int (nI w)] σ (fun v τ => v = some (.int (nI (mx_vo u pt mn w))) ∧ τ = σ) kx_nx := by
  refine kx_body htr (by decide +kernel) (own := "RoseProverbsModel") (nm := "voiceOf") rfl rfl (Nat.le_of_ble_eq_true rfl) ?_
  intro p e s m args below meth c Q C hQ
  have gn := hu.1
  have g5 := hu.2.2.1
  have LP : ∀ (wk i : Nat) (x4 x5 x6 : Nat), i ≤ u 0 → u 0 < i + wk → (x4 = mx_sum (mx_say u pt mn w) (fun k => mx_p u k 6) i ∧ x5 = mx_max (mx_say u pt mn w) (fun k => mx_p u k 6) i ∧ x6 = mx_cnt (mx_say u pt mn w) i) → kx_V G l p e (kx_rm 6 0 0) s m args below meth c 8 Q 12 [(0, .ref mo), (1, .int (nI pt)), (2, .int (nI mn)), (3, .int (nI w)), (4, .int (nI x4)), (5, .int (nI x5)), (6, .int (nI x6)), (7, .int (nI i))] [] σ 0 0 := by
    intro wk
    induction wk with
    | zero => intro i x4 x5 x6 h1 h2; exact absurd h2 (by omega)
    | succ wk ih =>
      intro i x4 x5 x6 hi hwk hI
      have g : i < u 0 → _ := hu.2.1 i
      have b1 : x5 ≤ 999 := by rw [hI.2.1]; exact mx_max_le (fun k hk => by have := hu.2.1 k (by omega); omega)
      refine ri_iload C dX4_voiceOf_12 rfl ?_
      first | refine ri_aload_n C dX4_voiceOf_14 rfl ?_ | refine ri_aload_nQ C dX4_voiceOf_14 rfl ?_ | refine ri_aload_nN C dX4_voiceOf_14 rfl ?_
      refine ri_getf C dX4_voiceOf_15 fr_q2970_3 (by first | assumption | (repeat (first | assumption | exact kx_rs (by assumption) | exact kx_ne2 (by omega) | exact kx_ne1 (by omega) | refine kx_ro (by assumption) ?_ ?_ | exact kx_rs rfl | refine kx_ro rfl ?_ ?_))) (by rfl) ?_
      refine ri_iconst C dX4_voiceOf_18 kc_i0 ?_
      first | refine ri_ialoadN C dX4_voiceOf_19 (by first | assumption | (repeat (first | assumption | exact kx_rs (by assumption) | exact kx_ne2 (by omega) | exact kx_ne1 (by omega) | refine kx_ro (by assumption) ?_ ?_ | exact kx_rs rfl | refine kx_ro rfl ?_ ?_))) rfl (by omega) ?_ | refine ri_iaload C dX4_voiceOf_19 (by first | assumption | (repeat (first | assumption | exact kx_rs (by assumption) | exact kx_ne2 (by omega) | exact kx_ne1 (by omega) | refine kx_ro (by assumption) ?_ ?_ | exact kx_rs rfl | refine kx_ro rfl ?_ ?_))) rfl (by omega) ?_
      first | refine ri_icmp_geN C 85 dX4_voiceOf_20 rfl (by omega) (by omega) (fun h20 => ?_) (fun h20 => ?_) | refine ri_icmp_ge C 85 dX4_voiceOf_20 rfl (fun h20 => ?_) (fun h20 => ?_)
      · first | refine ri_aload_n C dX4_voiceOf_85 rfl ?_ | refine ri_aload_nQ C dX4_voiceOf_85 rfl ?_ | refine ri_aload_nN C dX4_voiceOf_85 rfl ?_
        refine ri_getf C dX4_voiceOf_86 fr_q2970_3 (by first | assumption | (repeat (first | assumption | exact kx_rs (by assumption) | exact kx_ne2 (by omega) | exact kx_ne1 (by omega) | refine kx_ro (by assumption) ?_ ?_ | exact kx_rs rfl | refine kx_ro rfl ?_ ?_))) (by rfl) ?_
        refine ri_iconst C dX4_voiceOf_89 kc_i5 ?_
        first | refine ri_ialoadN C dX4_voiceOf_90 (by first | assumption | (repeat (first | assumption | exact kx_rs (by assumption) | exact kx_ne2 (by omega) | exact kx_ne1 (by omega) | refine kx_ro (by assumption) ?_ ?_ | exact kx_rs rfl | refine kx_ro rfl ?_ ?_))) rfl (by omega) ?_ | refine ri_iaload C dX4_voiceOf_90 (by first | assumption | (repeat (first | assumption | exact kx_rs (by assumption) | exact kx_ne2 (by omega) | exact kx_ne1 (by omega) | refine kx_ro (by assumption) ?_ ?_ | exact kx_rs rfl | refine kx_ro rfl ?_ ?_))) rfl (by omega) ?_
        first | refine ri_if_neB C 99 dX4_voiceOf_91 rfl (fun h91 => ?_) (fun h91 => ?_) | refine ri_if_neN C 99 dX4_voiceOf_91 rfl (by omega) (fun h91 => ?_) (fun h91 => ?_) | refine ri_if_ne C 99 dX4_voiceOf_91 rfl (fun h91 => ?_) (fun h91 => ?_)
        · first | refine ri_aload_n C dX4_voiceOf_99 rfl ?_ | refine ri_aload_nQ C dX4_voiceOf_99 rfl ?_ | refine ri_aload_nN C dX4_voiceOf_99 rfl ?_
          refine ri_getf C dX4_voiceOf_100 fr_q2970_3 (by first | assumption | (repeat (first | assumption | exact kx_rs (by assumption) | exact kx_ne2 (by omega) | exact kx_ne1 (by omega) | refine kx_ro (by assumption) ?_ ?_ | exact kx_rs rfl | refine kx_ro rfl ?_ ?_))) (by rfl) ?_
          refine ri_iconst C dX4_voiceOf_103 kc_i5 ?_
          first | refine ri_ialoadN C dX4_voiceOf_104 (by first | assumption | (repeat (first | assumption | exact kx_rs (by assumption) | exact kx_ne2 (by omega) | exact kx_ne1 (by omega) | refine kx_ro (by assumption) ?_ ?_ | exact kx_rs rfl | refine kx_ro rfl ?_ ?_))) rfl (by omega) ?_ | refine ri_iaload C dX4_voiceOf_104 (by first | assumption | (repeat (first | assumption | exact kx_rs (by assumption) | exact kx_ne2 (by omega) | exact kx_ne1 (by omega) | refine kx_ro (by assumption) ?_ ?_ | exact kx_rs rfl | refine kx_ro rfl ?_ ?_))) rfl (by omega) ?_
          refine ri_iconst C dX4_voiceOf_105 kc_i1 ?_
          first | refine ri_icmp_neN C 114 dX4_voiceOf_106 rfl (by omega) (by omega) (fun h106 => ?_) (fun h106 => ?_) | refine ri_icmp_ne C 114 dX4_voiceOf_106 rfl (fun h106 => ?_) (fun h106 => ?_)
          · refine ri_sipush C dX4_voiceOf_114 kc_s1000 ?_
            refine ri_iload C dX4_voiceOf_117 rfl ?_
            first | refine ri_imulN C dX4_voiceOf_119 ?_ | refine ri_imul C dX4_voiceOf_119 ?_
            refine ri_iload C dX4_voiceOf_120 rfl ?_
            first | refine ri_iaddN C dX4_voiceOf_122 ?_ | refine ri_iadd C dX4_voiceOf_122 ?_
            exact ri_iret C hQ dX4_voiceOf_123 rfl (Nat.le_of_ble_eq_true rfl) (Nat.le_of_ble_eq_true rfl) (by refine ⟨congrArg (fun z => some (Value.int z)) ?_, rfl⟩; rw [show i = u 0 by omega] at hI; refine congrArg nI ?_; unfold mx_vo mx_rule; rw [← hI.1, ← hI.2.1, ← hI.2.2]; simp_all)
          · refine ri_iload C dX4_voiceOf_109 rfl ?_
            refine ri_goto C 123 dX4_voiceOf_111 rfl ?_
            exact ri_iret C hQ dX4_voiceOf_123 rfl (Nat.le_of_ble_eq_true rfl) (Nat.le_of_ble_eq_true rfl) (by refine ⟨congrArg (fun z => some (Value.int z)) ?_, rfl⟩; rw [show i = u 0 by omega] at hI; refine congrArg nI ?_; unfold mx_vo mx_rule; rw [← hI.1, ← hI.2.1, ← hI.2.2]; simp_all)
        · refine ri_iload C dX4_voiceOf_94 rfl ?_
          refine ri_goto C 123 dX4_voiceOf_96 rfl ?_
          exact ri_iret C hQ dX4_voiceOf_123 rfl (Nat.le_of_ble_eq_true rfl) (Nat.le_of_ble_eq_true rfl) (by refine ⟨congrArg (fun z => some (Value.int z)) ?_, rfl⟩; rw [show i = u 0 by omega] at hI; refine congrArg nI ?_; unfold mx_vo mx_rule; rw [← hI.1, ← hI.2.1, ← hI.2.2]; simp_all)
      · have g := g (by omega)
        first | refine ri_aload_n C dX4_voiceOf_23 rfl ?_ | refine ri_aload_nQ C dX4_voiceOf_23 rfl ?_ | refine ri_aload_nN C dX4_voiceOf_23 rfl ?_
        refine ri_iload C dX4_voiceOf_24 rfl ?_
        refine ri_iload_n C dX4_voiceOf_26 rfl ?_
        refine ri_iload_n C dX4_voiceOf_27 rfl ?_
        refine ri_callV C km_X4_isSpeaking q3221 qs92 dX4_voiceOf_28 (mt_X4_isSpeaking htr h0 hw hu (by omega) hp hm) rfl rfl (kx_rcN C (by first | assumption | (repeat (first | assumption | exact kx_rs (by assumption) | exact kx_ne2 (by omega) | exact kx_ne1 (by omega) | refine kx_ro (by assumption) ?_ ?_ | exact kx_rs rfl | refine kx_ro rfl ?_ ?_))) rfl) ⟨⟨(Nat.le_of_ble_eq_true rfl), (Nat.le_of_ble_eq_true rfl)⟩, (Nat.le_of_ble_eq_true rfl), (Nat.le_of_ble_eq_true rfl), (Nat.le_of_ble_eq_true rfl)⟩ (fun v28 s28 h28 => ?_) (fun _ _ _ h => h.elim)
        obtain ⟨rfl, rfl⟩ := h28
        first | refine ri_if_eqB C 79 dX4_voiceOf_31 rfl (fun h31 => ?_) (fun h31 => ?_) | refine ri_if_eqN C 79 dX4_voiceOf_31 rfl (by omega) (fun h31 => ?_) (fun h31 => ?_) | refine ri_if_eq C 79 dX4_voiceOf_31 rfl (fun h31 => ?_) (fun h31 => ?_)
        · first | refine ri_iincN C dX4_voiceOf_79 rfl rfl (by decide) ?_ | refine ri_iinc C dX4_voiceOf_79 rfl rfl rfl (by decide) ?_
          refine ri_goto C 12 dX4_voiceOf_82 rfl ?_
          first
            | (have hs : mx_say u pt mn w i = true := by simp [mx_say, h31, h42]
               exact ri_lv2 (ih (i + 1) _ _ _ (by omega) (by omega) ⟨by rw [mx_sum_t hs, ← hI.1], by rw [mx_max_t hs, ← hI.2.1], by rw [mx_cnt_t hs, ← hI.2.2]⟩) ⟨rfl, rfl, rfl, rfl, rfl, rfl, rfl, rfl, trivial⟩)
            | (have hs : mx_say u pt mn w i = false := by first | simp [mx_say, h31, h42] | simp [mx_say, h31]
               exact ri_lv2 (ih (i + 1) _ _ _ (by omega) (by omega) ⟨by rw [mx_sum_f hs]; exact hI.1, by rw [mx_max_f hs]; exact hI.2.1, by rw [mx_cnt_f hs]; exact hI.2.2⟩) ⟨rfl, rfl, rfl, rfl, rfl, rfl, rfl, rfl, trivial⟩)
        · first | refine ri_aload_n C dX4_voiceOf_34 rfl ?_ | refine ri_aload_nQ C dX4_voiceOf_34 rfl ?_ | refine ri_aload_nN C dX4_voiceOf_34 rfl ?_
          refine ri_iload C dX4_voiceOf_35 rfl ?_
          refine ri_iconst C dX4_voiceOf_37 kc_i4 ?_
          refine ri_callV C km_X4_of q3140 qs75 dX4_voiceOf_38 (mt_X4_of htr h0 hw (by omega)) rfl rfl (kx_rcN C (by first | assumption | (repeat (first | assumption | exact kx_rs (by assumption) | exact kx_ne2 (by omega) | exact kx_ne1 (by omega) | refine kx_ro (by assumption) ?_ ?_ | exact kx_rs rfl | refine kx_ro rfl ?_ ?_))) rfl) ⟨⟨(Nat.le_of_ble_eq_true rfl), (Nat.le_of_ble_eq_true rfl)⟩, (Nat.le_of_ble_eq_true rfl), (Nat.le_of_ble_eq_true rfl), (Nat.le_of_ble_eq_true rfl)⟩ (fun v38 s38 h38 => ?_) (fun _ _ _ h => h.elim)
          obtain ⟨rfl, rfl⟩ := h38
          refine ri_iload_n C dX4_voiceOf_41 rfl ?_
          first | refine ri_icmp_eqN C 48 dX4_voiceOf_42 rfl (by omega) (by omega) (fun h42 => ?_) (fun h42 => ?_) | refine ri_icmp_eq C 48 dX4_voiceOf_42 rfl (fun h42 => ?_) (fun h42 => ?_)
          · refine ri_iload C dX4_voiceOf_48 rfl ?_
            first | refine ri_aload_n C dX4_voiceOf_50 rfl ?_ | refine ri_aload_nQ C dX4_voiceOf_50 rfl ?_ | refine ri_aload_nN C dX4_voiceOf_50 rfl ?_
            refine ri_iload C dX4_voiceOf_51 rfl ?_
            refine ri_bipush C dX4_voiceOf_53 kc_b6 ?_
            refine ri_callV C km_X4_of q3140 qs75 dX4_voiceOf_55 (mt_X4_of htr h0 hw (by omega)) rfl rfl (kx_rcN C (by first | assumption | (repeat (first | assumption | exact kx_rs (by assumption) | exact kx_ne2 (by omega) | exact kx_ne1 (by omega) | refine kx_ro (by assumption) ?_ ?_ | exact kx_rs rfl | refine kx_ro rfl ?_ ?_))) rfl) ⟨⟨(Nat.le_of_ble_eq_true rfl), (Nat.le_of_ble_eq_true rfl)⟩, (Nat.le_of_ble_eq_true rfl), (Nat.le_of_ble_eq_true rfl), (Nat.le_of_ble_eq_true rfl)⟩ (fun v55 s55 h55 => ?_) (fun _ _ _ h => h.elim)
            obtain ⟨rfl, rfl⟩ := h55
            first | refine ri_iaddN C dX4_voiceOf_58 ?_ | refine ri_iadd C dX4_voiceOf_58 ?_
            refine ri_istore C dX4_voiceOf_59 rfl (by decide) ?_
            refine ri_iload C dX4_voiceOf_61 rfl ?_
            first | refine ri_aload_n C dX4_voiceOf_63 rfl ?_ | refine ri_aload_nQ C dX4_voiceOf_63 rfl ?_ | refine ri_aload_nN C dX4_voiceOf_63 rfl ?_
            refine ri_iload C dX4_voiceOf_64 rfl ?_
            refine ri_bipush C dX4_voiceOf_66 kc_b6 ?_
            refine ri_callV C km_X4_of q3140 qs75 dX4_voiceOf_68 (mt_X4_of htr h0 hw (by omega)) rfl rfl (kx_rcN C (by first | assumption | (repeat (first | assumption | exact kx_rs (by assumption) | exact kx_ne2 (by omega) | exact kx_ne1 (by omega) | refine kx_ro (by assumption) ?_ ?_ | exact kx_rs rfl | refine kx_ro rfl ?_ ?_))) rfl) ⟨⟨(Nat.le_of_ble_eq_true rfl), (Nat.le_of_ble_eq_true rfl)⟩, (Nat.le_of_ble_eq_true rfl), (Nat.le_of_ble_eq_true rfl), (Nat.le_of_ble_eq_true rfl)⟩ (fun v68 s68 h68 => ?_) (fun _ _ _ h => h.elim)
            obtain ⟨rfl, rfl⟩ := h68
            refine ri_callS C km_J12_max q3242 dX4_voiceOf_71 (mt_J12_max htr (by omega) (by omega)) rfl rfl ⟨⟨(Nat.le_of_ble_eq_true rfl), (Nat.le_of_ble_eq_true rfl)⟩, (Nat.le_of_ble_eq_true rfl), (Nat.le_of_ble_eq_true rfl), (Nat.le_of_ble_eq_true rfl)⟩ (fun v71 s71 h71 => ?_) (fun _ _ _ h => h.elim)
            obtain ⟨rfl, rfl⟩ := h71
            refine ri_istore C dX4_voiceOf_74 rfl (by decide) ?_
            first | refine ri_iincN C dX4_voiceOf_76 rfl rfl (by decide) ?_ | refine ri_iinc C dX4_voiceOf_76 rfl rfl rfl (by decide) ?_
            first | refine ri_iincN C dX4_voiceOf_79 rfl rfl (by decide) ?_ | refine ri_iinc C dX4_voiceOf_79 rfl rfl rfl (by decide) ?_
            refine ri_goto C 12 dX4_voiceOf_82 rfl ?_
            first
              | (have hs : mx_say u pt mn w i = true := by simp [mx_say, h31, h42]
                 exact ri_lv2 (ih (i + 1) _ _ _ (by omega) (by omega) ⟨by rw [mx_sum_t hs, ← hI.1], by rw [mx_max_t hs, ← hI.2.1], by rw [mx_cnt_t hs, ← hI.2.2]⟩) ⟨rfl, rfl, rfl, rfl, rfl, rfl, rfl, rfl, trivial⟩)
              | (have hs : mx_say u pt mn w i = false := by first | simp [mx_say, h31, h42] | simp [mx_say, h31]
                 exact ri_lv2 (ih (i + 1) _ _ _ (by omega) (by omega) ⟨by rw [mx_sum_f hs]; exact hI.1, by rw [mx_max_f hs]; exact hI.2.1, by rw [mx_cnt_f hs]; exact hI.2.2⟩) ⟨rfl, rfl, rfl, rfl, rfl, rfl, rfl, rfl, trivial⟩)
          · refine ri_goto C 79 dX4_voiceOf_45 rfl ?_
            first | refine ri_iincN C dX4_voiceOf_79 rfl rfl (by decide) ?_ | refine ri_iinc C dX4_voiceOf_79 rfl rfl rfl (by decide) ?_
            refine ri_goto C 12 dX4_voiceOf_82 rfl ?_
            first
              | (have hs : mx_say u pt mn w i = true := by simp [mx_say, h31, h42]
                 exact ri_lv2 (ih (i + 1) _ _ _ (by omega) (by omega) ⟨by rw [mx_sum_t hs, ← hI.1], by rw [mx_max_t hs, ← hI.2.1], by rw [mx_cnt_t hs, ← hI.2.2]⟩) ⟨rfl, rfl, rfl, rfl, rfl, rfl, rfl, rfl, trivial⟩)
              | (have hs : mx_say u pt mn w i = false := by first | simp [mx_say, h31, h42] | simp [mx_say, h31]
                 exact ri_lv2 (ih (i + 1) _ _ _ (by omega) (by omega) ⟨by rw [mx_sum_f hs]; exact hI.1, by rw [mx_max_f hs]; exact hI.2.1, by rw [mx_cnt_f hs]; exact hI.2.2⟩) ⟨rfl, rfl, rfl, rfl, rfl, rfl, rfl, rfl, trivial⟩)
  refine ri_iconst C dX4_voiceOf_0 kc_i0 ?_
  refine ri_istore C dX4_voiceOf_1 rfl (by decide) ?_
  refine ri_iconst C dX4_voiceOf_3 kc_i0 ?_
  refine ri_istore C dX4_voiceOf_4 rfl (by decide) ?_
  refine ri_iconst C dX4_voiceOf_6 kc_i0 ?_
  refine ri_istore C dX4_voiceOf_7 rfl (by decide) ?_
  refine ri_iconst C dX4_voiceOf_9 kc_i0 ?_
  refine ri_istore C dX4_voiceOf_10 rfl (by decide) ?_
  exact ri_lv2 (LP (u 0 + 1) 0 _ _ _ (by omega) (by omega) ⟨rfl, rfl, rfl⟩) ⟨rfl, rfl, rfl, rfl, rfl, rfl, rfl, rfl, trivial⟩
set_option maxHeartbeats 1000000 in
theorem mt_X4_toldAt {l : Launch} {G : kx_G} (htr : l.stackTraces = false) {σ : kx_H} {mo : Nat} {ad : Nat → Nat} {z : Nat → Int32} {u : Nat → Nat} {pt mn : Nat} (h0 : σ (1, 0) = some (mo, .inr (3, mo_L ad z))) (hw : σ (1, 1) = some (ad 0, kx_ai G 1417 (mx_w u))) (hu : mx_ok u) (hp : pt < 16) (hm : mn < 12) : kx_SP l G yX4_toldAt (ws_ yX4_toldAt cX4_toldAt 7 (some .int)) 7 0 0 [.ref mo, .int (nI pt), .int (nI mn)] σ (fun v τ => v = some (.int (mx_o (mx_told u pt mn))) ∧ τ = σ) kx_nx := by
  refine kx_body htr (by decide +kernel) (own := "RoseProverbsModel") (nm := "toldAt") rfl rfl (Nat.le_of_ble_eq_true rfl) ?_
  intro p e s m args below meth c Q C hQ
  have gn := hu.1
  have g5 := hu.2.2.1
  have LP : ∀ (wk i : Nat) (x3 : Int32) (x4 : Nat), i ≤ 5 → 5 < i + wk → (x3 = mx_o (mx_best (mx_vo u pt mn) i) ∧ x4 = mx_bv (mx_vo u pt mn) (mx_best (mx_vo u pt mn) i)) → kx_V G l p e (kx_rm 7 0 0) s m args below meth c 7 Q 8 [(0, .ref mo), (1, .int (nI pt)), (2, .int (nI mn)), (3, .int x3), (4, .int (nI x4)), (5, .int (nI i))] [] σ 0 0 := by
    intro wk
    induction wk with
    | zero => intro i x3 x4 h1 h2; exact absurd h2 (by omega)
    | succ wk ih =>
      intro i x3 x4 hi hwk hI
      have b1 := mx_vo_le (pt := pt) (mo := mn) (w := i) hu
      have b2 := mx_bv_le (fun k => mx_vo_le (pt := pt) (mo := mn) (w := k) hu) (mx_best (mx_vo u pt mn) i)
      have b3 : x4 ≤ 30000 := by rw [hI.2]; exact b2
      refine ri_iload C dX4_toldAt_8 rfl ?_
      refine ri_iconst C dX4_toldAt_10 kc_i5 ?_
      first | refine ri_icmp_geN C 49 dX4_toldAt_11 rfl (by omega) (by omega) (fun h11 => ?_) (fun h11 => ?_) | refine ri_icmp_ge C 49 dX4_toldAt_11 rfl (fun h11 => ?_) (fun h11 => ?_)
      · refine ri_iload_n C dX4_toldAt_49 rfl ?_
        exact ri_iret C hQ dX4_toldAt_50 rfl (Nat.le_of_ble_eq_true rfl) (Nat.le_of_ble_eq_true rfl) (by refine ⟨congrArg (fun z => some (Value.int z)) ?_, rfl⟩; rw [hI.1, show i = 5 by omega]; rfl)
      · first | refine ri_aload_n C dX4_toldAt_14 rfl ?_ | refine ri_aload_nQ C dX4_toldAt_14 rfl ?_ | refine ri_aload_nN C dX4_toldAt_14 rfl ?_
        refine ri_iload_n C dX4_toldAt_15 rfl ?_
        refine ri_iload_n C dX4_toldAt_16 rfl ?_
        refine ri_iload C dX4_toldAt_17 rfl ?_
        refine ri_callV C km_X4_voiceOf q3217 qs91 dX4_toldAt_19 (mt_X4_voiceOf htr h0 hw hu hp hm (by omega)) rfl rfl (kx_rcN C (by first | assumption | (repeat (first | assumption | exact kx_rs (by assumption) | exact kx_ne2 (by omega) | exact kx_ne1 (by omega) | refine kx_ro (by assumption) ?_ ?_ | exact kx_rs rfl | refine kx_ro rfl ?_ ?_))) rfl) ⟨⟨(Nat.le_of_ble_eq_true rfl), (Nat.le_of_ble_eq_true rfl)⟩, (Nat.le_of_ble_eq_true rfl), (Nat.le_of_ble_eq_true rfl), (Nat.le_of_ble_eq_true rfl)⟩ (fun v19 s19 h19 => ?_) (fun _ _ _ h => h.elim)
        obtain ⟨rfl, rfl⟩ := h19
        refine ri_istore C dX4_toldAt_22 rfl (by decide) ?_
        refine ri_iload C dX4_toldAt_24 rfl ?_
        refine ri_iload C dX4_toldAt_26 rfl ?_
        first | refine ri_icmp_leN C 34 dX4_toldAt_28 rfl (by omega) (by omega) (fun h28 => ?_) (fun h28 => ?_) | refine ri_icmp_le C 34 dX4_toldAt_28 rfl (fun h28 => ?_) (fun h28 => ?_)
        · refine ri_iload C dX4_toldAt_34 rfl ?_
          refine ri_iload C dX4_toldAt_36 rfl ?_
          refine ri_callS C km_J12_max q3242 dX4_toldAt_38 (mt_J12_max htr (by omega) (by omega)) rfl rfl ⟨⟨(Nat.le_of_ble_eq_true rfl), (Nat.le_of_ble_eq_true rfl)⟩, (Nat.le_of_ble_eq_true rfl), (Nat.le_of_ble_eq_true rfl), (Nat.le_of_ble_eq_true rfl)⟩ (fun v38 s38 h38 => ?_) (fun _ _ _ h => h.elim)
          obtain ⟨rfl, rfl⟩ := h38
          refine ri_istore C dX4_toldAt_41 rfl (by decide) ?_
          first | refine ri_iincN C dX4_toldAt_43 rfl rfl (by decide) ?_ | refine ri_iinc C dX4_toldAt_43 rfl rfl rfl (by decide) ?_
          refine ri_goto C 8 dX4_toldAt_46 rfl ?_
          refine ri_lv2 (ih (i + 1) _ _ (by omega) (by omega) ?_) ⟨rfl, rfl, rfl, rfl, rfl, rfl, trivial⟩
          obtain ⟨e1, e2⟩ := hI
          first | (rw [mx_best_gt (by rw [← e2]; omega)]; refine ⟨rfl, ?_⟩; show _ = mx_vo u pt mn i; rw [mx_mx]; split <;> omega) | (rw [mx_best_le (by rw [← e2]; omega), ← e2]; refine ⟨e1, ?_⟩; rw [mx_mx]; split <;> omega)
        · refine ri_iload C dX4_toldAt_31 rfl ?_
          refine ri_istore_n C dX4_toldAt_33 rfl (by decide) ?_
          refine ri_iload C dX4_toldAt_34 rfl ?_
          refine ri_iload C dX4_toldAt_36 rfl ?_
          refine ri_callS C km_J12_max q3242 dX4_toldAt_38 (mt_J12_max htr (by omega) (by omega)) rfl rfl ⟨⟨(Nat.le_of_ble_eq_true rfl), (Nat.le_of_ble_eq_true rfl)⟩, (Nat.le_of_ble_eq_true rfl), (Nat.le_of_ble_eq_true rfl), (Nat.le_of_ble_eq_true rfl)⟩ (fun v38 s38 h38 => ?_) (fun _ _ _ h => h.elim)
          obtain ⟨rfl, rfl⟩ := h38
          refine ri_istore C dX4_toldAt_41 rfl (by decide) ?_
          first | refine ri_iincN C dX4_toldAt_43 rfl rfl (by decide) ?_ | refine ri_iinc C dX4_toldAt_43 rfl rfl rfl (by decide) ?_
          refine ri_goto C 8 dX4_toldAt_46 rfl ?_
          refine ri_lv2 (ih (i + 1) _ _ (by omega) (by omega) ?_) ⟨rfl, rfl, rfl, rfl, rfl, rfl, trivial⟩
          obtain ⟨e1, e2⟩ := hI
          first | (rw [mx_best_gt (by rw [← e2]; omega)]; refine ⟨rfl, ?_⟩; show _ = mx_vo u pt mn i; rw [mx_mx]; split <;> omega) | (rw [mx_best_le (by rw [← e2]; omega), ← e2]; refine ⟨e1, ?_⟩; rw [mx_mx]; split <;> omega)
  refine ri_iconst C dX4_toldAt_0 kc_im1 ?_
  refine ri_istore_n C dX4_toldAt_1 rfl (by decide) ?_
  refine ri_iconst C dX4_toldAt_2 kc_i0 ?_
  refine ri_istore C dX4_toldAt_3 rfl (by decide) ?_
  refine ri_iconst C dX4_toldAt_5 kc_i0 ?_
  refine ri_istore C dX4_toldAt_6 rfl (by decide) ?_
  exact ri_lv2 (LP 6 0 _ _ (by omega) (by omega) ⟨rfl, rfl⟩) ⟨rfl, rfl, rfl, rfl, rfl, rfl, trivial⟩
