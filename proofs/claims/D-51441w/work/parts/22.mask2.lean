/-! the reference: more that is asked -/
set_option maxRecDepth 100000
theorem kx_sub_z {w x : Int32} (h : w - x = 0) : w = x := by
  have := congrArg (· + x) h
  simpa using this
theorem kx_sub_n {w x : Int32} (h : ¬ w - x = 0) : ¬ x = w := fun e => h (by rw [e]; simp)
theorem kx_sub_s {w x : Int32} : w - x + -1 = w - (x + nI 1) := by
  have e : (-1 : Int32) = -nI 1 := by decide
  rw [e, Int32.sub_eq_add_neg, Int32.sub_eq_add_neg, Int32.neg_add, Int32.add_assoc]
  simp [Int32.sub_eq_add_neg]
set_option maxHeartbeats 1000000 in
theorem mt_X4_speaker {l : Launch} {G : kx_G} (htr : l.stackTraces = false) {σ : kx_H} {mo : Nat} {ad : Nat → Nat} {z : Nat → Int32} {u : Nat → Nat} {x y w : Int32} (h0 : σ (1, 0) = some (mo, .inr (3, mo_L ad z))) (hw : σ (1, 1) = some (ad 0, kx_ai G 1417 (mx_w u))) (hu : mx_ok u) : kx_SP l G yX4_speaker (ws_ yX4_speaker cX4_speaker 6 (some .int)) 6 0 0 [.ref mo, .int x, .int y, .int w] σ (fun v τ => v = some (.int (an_speaker u x y w).2) ∧ τ = kx_up σ (1, 0) (mo, .inr (3, mo_L ad (mo_z z 9 (nI (an_speaker u x y w).1))))) kx_nx := by
  refine kx_body htr (by decide +kernel) (own := "RoseProverbsModel") (nm := "speaker") rfl rfl (Nat.le_of_ble_eq_true rfl) ?_
  intro p e s m args below meth c Q C hQ
  have gn := hu.1
  first | refine ri_aload_n C dX4_speaker_0 rfl ?_ | refine ri_aload_nQ C dX4_speaker_0 rfl ?_ | refine ri_aload_nN C dX4_speaker_0 rfl ?_
  refine ri_iconst C dX4_speaker_1 kc_i0 ?_
  refine ri_putf C dX4_speaker_2 fd_q2979_3 (fun h => nomatch h) (by first | assumption | (repeat (first | assumption | exact kx_rs (by assumption) | exact kx_ne2 (by omega) | exact kx_ne1 (by omega) | refine kx_ro (by assumption) ?_ ?_ | exact kx_rs rfl | refine kx_ro rfl ?_ ?_))) (Nat.le_of_ble_eq_true rfl) (by rfl) (by rfl) mo_set9 (fun s2 e2 => ?_)
  first | refine ri_aload_n C dX4_speaker_5 rfl ?_ | refine ri_aload_nQ C dX4_speaker_5 rfl ?_ | refine ri_aload_nN C dX4_speaker_5 rfl ?_
  refine ri_iload_n C dX4_speaker_6 rfl ?_
  refine ri_iload_n C dX4_speaker_7 rfl ?_
  refine ri_callV C km_X4_noPlace q3350 qs114 dX4_speaker_8 (mt_X4_noPlace htr (by first | assumption | (repeat (first | assumption | exact kx_rs (by assumption) | exact kx_ne2 (by omega) | exact kx_ne1 (by omega) | refine kx_ro (by assumption) ?_ ?_ | exact kx_rs rfl | refine kx_ro rfl ?_ ?_)))) rfl rfl (kx_rcN C (by first | assumption | (repeat (first | assumption | exact kx_rs (by assumption) | exact kx_ne2 (by omega) | exact kx_ne1 (by omega) | refine kx_ro (by assumption) ?_ ?_ | exact kx_rs rfl | refine kx_ro rfl ?_ ?_))) rfl) ⟨⟨(Nat.le_of_ble_eq_true rfl), (Nat.le_of_ble_eq_true rfl)⟩, (Nat.le_of_ble_eq_true rfl), (Nat.le_of_ble_eq_true rfl), (Nat.le_of_ble_eq_true rfl)⟩ (fun v8 s8 h8 => ?_) (fun _ _ _ h => h.elim)
  obtain ⟨rfl, e8⟩ := h8
  first | refine ri_if_eqB C 16 dX4_speaker_11 rfl (fun h11 => ?_) (fun h11 => ?_) | refine ri_if_eqN C 16 dX4_speaker_11 rfl (by omega) (fun h11 => ?_) (fun h11 => ?_) | refine ri_if_eq C 16 dX4_speaker_11 rfl (fun h11 => ?_) (fun h11 => ?_)
  · have c1 : (mx_ix x 16 && mx_ix y 12) = true := kx_bn_f h11
    rw [c1, cond_true] at e8
    subst e8
    obtain ⟨c1x, c1y⟩ : mx_ix x 16 = true ∧ mx_ix y 12 = true := by simpa using c1
    obtain ⟨k1, hk1, rfl⟩ := mx_ix_t c1x
    have nk1 : mx_n (nI k1) = k1 := mx_n_nI (by omega)
    obtain ⟨k2, hk2, rfl⟩ := mx_ix_t c1y
    have nk2 : mx_n (nI k2) = k2 := mx_n_nI (by omega)
    
    have l0 : w - nI (mx_cnt (fun k => mx_sp u k k1 k2) 0) = w := Int32.sub_zero w
    refine ri_iload_n C dX4_speaker_16 rfl ?_
    refine ri_istore C dX4_speaker_17 rfl (by decide) ?_
    refine ri_iconst C dX4_speaker_19 kc_i0 ?_
    refine ri_istore C dX4_speaker_20 rfl (by decide) ?_
    have LP : ∀ (wk i : Nat) , i ≤ u 0 → u 0 < i + wk → mx_fst (fun k => mx_sp u k k1 k2 && decide (nI (mx_cnt (fun k => mx_sp u k k1 k2) k) = w)) i = none → kx_V G l p e (kx_rm 6 0 0) s m args below meth c 6 Q 22 [(0, .ref mo), (1, .int (nI k1)), (2, .int (nI k2)), (3, .int w), (4, .int (w - nI (mx_cnt (fun k => mx_sp u k k1 k2) i))), (5, .int (nI i))] [] s8 0 0 := by
      intro wk
      induction wk with
      | zero => intro i  h1 h2; exact absurd h2 (by omega)
      | succ wk ih =>
        intro i  hi hwk hI
        refine ri_iload C dX4_speaker_22 rfl ?_
        first | refine ri_aload_n C dX4_speaker_24 rfl ?_ | refine ri_aload_nQ C dX4_speaker_24 rfl ?_ | refine ri_aload_nN C dX4_speaker_24 rfl ?_
        refine ri_getf C dX4_speaker_25 fr_q2970_3 (by first | assumption | (repeat (first | assumption | exact kx_rs (by assumption) | exact kx_ne2 (by omega) | exact kx_ne1 (by omega) | refine kx_ro (by assumption) ?_ ?_ | exact kx_rs rfl | refine kx_ro rfl ?_ ?_))) (by rfl) ?_
        refine ri_iconst C dX4_speaker_28 kc_i0 ?_
        first | refine ri_ialoadN C dX4_speaker_29 (by first | assumption | (repeat (first | assumption | exact kx_rs (by assumption) | exact kx_ne2 (by omega) | exact kx_ne1 (by omega) | refine kx_ro (by assumption) ?_ ?_ | exact kx_rs rfl | refine kx_ro rfl ?_ ?_))) rfl (by omega) ?_ | refine ri_iaload C dX4_speaker_29 (by first | assumption | (repeat (first | assumption | exact kx_rs (by assumption) | exact kx_ne2 (by omega) | exact kx_ne1 (by omega) | refine kx_ro (by assumption) ?_ ?_ | exact kx_rs rfl | refine kx_ro rfl ?_ ?_))) rfl (by omega) ?_
        first | refine ri_icmp_geN C 64 dX4_speaker_30 rfl (by omega) (by omega) (fun h30 => ?_) (fun h30 => ?_) | refine ri_icmp_ge C 64 dX4_speaker_30 rfl (fun h30 => ?_) (fun h30 => ?_)
        · refine ri_iconst C dX4_speaker_64 kc_im1 ?_
          exact ri_iret C hQ dX4_speaker_65 rfl (Nat.le_of_ble_eq_true rfl) (Nat.le_of_ble_eq_true rfl) (by simp only [an_speaker, an_c, c1, cond_true, nk1, nk2, an_kth]; rw [show u 0 = i by omega, hI]; exact ⟨rfl, by assumption⟩)
        · first | refine ri_aload_n C dX4_speaker_33 rfl ?_ | refine ri_aload_nQ C dX4_speaker_33 rfl ?_ | refine ri_aload_nN C dX4_speaker_33 rfl ?_
          refine ri_iload C dX4_speaker_34 rfl ?_
          refine ri_iload_n C dX4_speaker_36 rfl ?_
          refine ri_iload_n C dX4_speaker_37 rfl ?_
          refine ri_callV C km_X4_isSpeaking q3221 qs92 dX4_speaker_38 (mt_X4_isSpeaking htr (by first | assumption | (repeat (first | assumption | exact kx_rs (by assumption) | exact kx_ne2 (by omega) | exact kx_ne1 (by omega) | refine kx_ro (by assumption) ?_ ?_ | exact kx_rs rfl | refine kx_ro rfl ?_ ?_))) (by first | assumption | (repeat (first | assumption | exact kx_rs (by assumption) | exact kx_ne2 (by omega) | exact kx_ne1 (by omega) | refine kx_ro (by assumption) ?_ ?_ | exact kx_rs rfl | refine kx_ro rfl ?_ ?_))) hu (by omega) hk1 hk2) rfl rfl (kx_rcN C (by first | assumption | (repeat (first | assumption | exact kx_rs (by assumption) | exact kx_ne2 (by omega) | exact kx_ne1 (by omega) | refine kx_ro (by assumption) ?_ ?_ | exact kx_rs rfl | refine kx_ro rfl ?_ ?_))) rfl) ⟨⟨(Nat.le_of_ble_eq_true rfl), (Nat.le_of_ble_eq_true rfl)⟩, (Nat.le_of_ble_eq_true rfl), (Nat.le_of_ble_eq_true rfl), (Nat.le_of_ble_eq_true rfl)⟩ (fun v38 s38 h38 => ?_) (fun _ _ _ h => h.elim)
          obtain ⟨rfl, rfl⟩ := h38
          first | refine ri_if_neB C 47 dX4_speaker_41 rfl (fun h41 => ?_) (fun h41 => ?_) | refine ri_if_neN C 47 dX4_speaker_41 rfl (by omega) (fun h41 => ?_) (fun h41 => ?_) | refine ri_if_ne C 47 dX4_speaker_41 rfl (fun h41 => ?_) (fun h41 => ?_)
          · refine ri_iload C dX4_speaker_47 rfl ?_
            refine ri_if_ne C 55 dX4_speaker_49 rfl (fun h49 => ?_) (fun h49 => ?_)
            · refine ri_iinc C dX4_speaker_55 rfl rfl rfl (by decide) ?_
              first | refine ri_iincN C dX4_speaker_58 rfl rfl (by decide) ?_ | refine ri_iinc C dX4_speaker_58 rfl rfl rfl (by decide) ?_
              refine ri_goto C 22 dX4_speaker_61 rfl ?_
              first
                | (refine ri_lv2 (ih (i + 1) (by omega) (by omega) (mx_fst_s hI (by simp [h41]))) ⟨rfl, rfl, rfl, rfl, ?_, rfl, trivial⟩
                   rw [mx_cnt_f (f := (fun k => mx_sp u k k1 k2)) h41]; try rfl)
                | (refine ri_lv2 (ih (i + 1) (by omega) (by omega) (mx_fst_s hI (by rw [h41]; simp only [Bool.true_and, decide_eq_false_iff_not]; exact kx_sub_n h49))) ⟨rfl, rfl, rfl, rfl, ?_, rfl, trivial⟩
                   rw [mx_cnt_t (f := (fun k => mx_sp u k k1 k2)) h41]
                   refine congrArg (fun x => some (Value.int x)) ?_
                   exact kx_sub_s.trans (by rw [← nI_add]))
            · refine ri_iload C dX4_speaker_52 rfl ?_
              exact ri_iret C hQ dX4_speaker_54 rfl (Nat.le_of_ble_eq_true rfl) (Nat.le_of_ble_eq_true rfl) (by simp only [an_speaker, an_c, c1, cond_true, nk1, nk2, an_kth]; rw [mx_fst_t hI (by rw [h41]; simp only [Bool.true_and, decide_eq_true_eq]; exact (kx_sub_z h49).symm) (u 0) (by omega)]; exact ⟨rfl, by assumption⟩)
          · refine ri_goto C 58 dX4_speaker_44 rfl ?_
            first | refine ri_iincN C dX4_speaker_58 rfl rfl (by decide) ?_ | refine ri_iinc C dX4_speaker_58 rfl rfl rfl (by decide) ?_
            refine ri_goto C 22 dX4_speaker_61 rfl ?_
            first
              | (refine ri_lv2 (ih (i + 1) (by omega) (by omega) (mx_fst_s hI (by simp [h41]))) ⟨rfl, rfl, rfl, rfl, ?_, rfl, trivial⟩
                 rw [mx_cnt_f (f := (fun k => mx_sp u k k1 k2)) h41]; try rfl)
              | (refine ri_lv2 (ih (i + 1) (by omega) (by omega) (mx_fst_s hI (by rw [h41]; simp only [Bool.true_and, decide_eq_false_iff_not]; exact kx_sub_n h49))) ⟨rfl, rfl, rfl, rfl, ?_, rfl, trivial⟩
                 rw [mx_cnt_t (f := (fun k => mx_sp u k k1 k2)) h41]
                 refine congrArg (fun x => some (Value.int x)) ?_
                 exact kx_sub_s.trans (by rw [← nI_add]))
    exact ri_lv2 (LP (u 0 + 1) 0 (by omega) (by omega) rfl) ⟨rfl, rfl, rfl, rfl, congrArg (fun x => some (Value.int x)) l0.symm, rfl, trivial⟩
  · have c1 : (mx_ix x 16 && mx_ix y 12) = false := kx_bn_t h11
    rw [c1, cond_false] at e8
    refine ri_iconst C dX4_speaker_14 kc_i0 ?_
    exact ri_iret C hQ dX4_speaker_15 (by first | rfl | exact kx_b_nar _) (Nat.le_of_ble_eq_true rfl) (Nat.le_of_ble_eq_true rfl) (by constructor <;> first | (simp only [an_speaker, an_c, *, Bool.and_true, Bool.and_false, Bool.true_and, Bool.false_and, cond_true, cond_false, kx_up_u, mo_z_z]; done) | (simp only [an_speaker, an_c, *, Bool.and_true, Bool.and_false, Bool.true_and, Bool.false_and, cond_true, cond_false, kx_up_u, mo_z_z]; rfl))
set_option maxHeartbeats 1000000 in
theorem mt_X4_lead {l : Launch} {G : kx_G} (htr : l.stackTraces = false) {σ : kx_H} {mo : Nat} {ad : Nat → Nat} {z : Nat → Int32} {u : Nat → Nat} {x y : Int32} (h0 : σ (1, 0) = some (mo, .inr (3, mo_L ad z))) (hw : σ (1, 1) = some (ad 0, kx_ai G 1417 (mx_w u))) (hu : mx_ok u) : kx_SP l G yX4_lead (ws_ yX4_lead cX4_lead 6 (some .int)) 8 0 0 [.ref mo, .int x, .int y] σ (fun v τ => v = some (.int (an_lead u x y).2) ∧ τ = kx_up σ (1, 0) (mo, .inr (3, mo_L ad (mo_z z 9 (nI (an_lead u x y).1))))) kx_nx := by
  refine kx_body htr (by decide +kernel) (own := "RoseProverbsModel") (nm := "lead") rfl rfl (Nat.le_of_ble_eq_true rfl) ?_
  intro p e s m args below meth c Q C hQ
  have gn := hu.1
  first | refine ri_aload_n C dX4_lead_0 rfl ?_ | refine ri_aload_nQ C dX4_lead_0 rfl ?_ | refine ri_aload_nN C dX4_lead_0 rfl ?_
  refine ri_iconst C dX4_lead_1 kc_i0 ?_
  refine ri_putf C dX4_lead_2 fd_q2979_3 (fun h => nomatch h) (by first | assumption | (repeat (first | assumption | exact kx_rs (by assumption) | exact kx_ne2 (by omega) | exact kx_ne1 (by omega) | refine kx_ro (by assumption) ?_ ?_ | exact kx_rs rfl | refine kx_ro rfl ?_ ?_))) (Nat.le_of_ble_eq_true rfl) (by rfl) (by rfl) mo_set9 (fun s2 e2 => ?_)
  first | refine ri_aload_n C dX4_lead_5 rfl ?_ | refine ri_aload_nQ C dX4_lead_5 rfl ?_ | refine ri_aload_nN C dX4_lead_5 rfl ?_
  refine ri_iload_n C dX4_lead_6 rfl ?_
  refine ri_iload_n C dX4_lead_7 rfl ?_
  refine ri_callV C km_X4_noPlace q3350 qs114 dX4_lead_8 (mt_X4_noPlace htr (by first | assumption | (repeat (first | assumption | exact kx_rs (by assumption) | exact kx_ne2 (by omega) | exact kx_ne1 (by omega) | refine kx_ro (by assumption) ?_ ?_ | exact kx_rs rfl | refine kx_ro rfl ?_ ?_)))) rfl rfl (kx_rcN C (by first | assumption | (repeat (first | assumption | exact kx_rs (by assumption) | exact kx_ne2 (by omega) | exact kx_ne1 (by omega) | refine kx_ro (by assumption) ?_ ?_ | exact kx_rs rfl | refine kx_ro rfl ?_ ?_))) rfl) ⟨⟨(Nat.le_of_ble_eq_true rfl), (Nat.le_of_ble_eq_true rfl)⟩, (Nat.le_of_ble_eq_true rfl), (Nat.le_of_ble_eq_true rfl), (Nat.le_of_ble_eq_true rfl)⟩ (fun v8 s8 h8 => ?_) (fun _ _ _ h => h.elim)
  obtain ⟨rfl, e8⟩ := h8
  first | refine ri_if_eqB C 16 dX4_lead_11 rfl (fun h11 => ?_) (fun h11 => ?_) | refine ri_if_eqN C 16 dX4_lead_11 rfl (by omega) (fun h11 => ?_) (fun h11 => ?_) | refine ri_if_eq C 16 dX4_lead_11 rfl (fun h11 => ?_) (fun h11 => ?_)
  · have c1 : (mx_ix x 16 && mx_ix y 12) = true := kx_bn_f h11
    rw [c1, cond_true] at e8
    subst e8
    obtain ⟨c1x, c1y⟩ : mx_ix x 16 = true ∧ mx_ix y 12 = true := by simpa using c1
    obtain ⟨k1, hk1, rfl⟩ := mx_ix_t c1x
    have nk1 : mx_n (nI k1) = k1 := mx_n_nI (by omega)
    obtain ⟨k2, hk2, rfl⟩ := mx_ix_t c1y
    have nk2 : mx_n (nI k2) = k2 := mx_n_nI (by omega)
    first | refine ri_aload_n C dX4_lead_16 rfl ?_ | refine ri_aload_nQ C dX4_lead_16 rfl ?_ | refine ri_aload_nN C dX4_lead_16 rfl ?_
    refine ri_iload_n C dX4_lead_17 rfl ?_
    refine ri_iload_n C dX4_lead_18 rfl ?_
    refine ri_callV C km_X4_toldAt q3213 qs90 dX4_lead_19 (mt_X4_toldAt htr (by first | assumption | (repeat (first | assumption | exact kx_rs (by assumption) | exact kx_ne2 (by omega) | exact kx_ne1 (by omega) | refine kx_ro (by assumption) ?_ ?_ | exact kx_rs rfl | refine kx_ro rfl ?_ ?_))) (by first | assumption | (repeat (first | assumption | exact kx_rs (by assumption) | exact kx_ne2 (by omega) | exact kx_ne1 (by omega) | refine kx_ro (by assumption) ?_ ?_ | exact kx_rs rfl | refine kx_ro rfl ?_ ?_))) hu hk1 hk2) rfl rfl (kx_rcN C (by first | assumption | (repeat (first | assumption | exact kx_rs (by assumption) | exact kx_ne2 (by omega) | exact kx_ne1 (by omega) | refine kx_ro (by assumption) ?_ ?_ | exact kx_rs rfl | refine kx_ro rfl ?_ ?_))) rfl) ⟨⟨(Nat.le_of_ble_eq_true rfl), (Nat.le_of_ble_eq_true rfl)⟩, (Nat.le_of_ble_eq_true rfl), (Nat.le_of_ble_eq_true rfl), (Nat.le_of_ble_eq_true rfl)⟩ (fun v19 s19 h19 => ?_) (fun _ _ _ h => h.elim)
    obtain ⟨rfl, rfl⟩ := h19
    have htl : ∀ a, mx_told u k1 k2 = some a → a < 5 := fun a => mx_told_b
    have vle : ∀ w, mx_vo u k1 k2 w ≤ 30000 := fun w => mx_vo_le hu
    refine ri_istore_n C dX4_lead_22 rfl (by decide) ?_
    refine ri_iconst C dX4_lead_23 kc_i0 ?_
    refine ri_istore C dX4_lead_24 rfl (by decide) ?_
    refine ri_iconst C dX4_lead_26 kc_i0 ?_
    refine ri_istore C dX4_lead_27 rfl (by decide) ?_
    have LP : ∀ (wk i : Nat) , i ≤ 5 → 5 < i + wk → kx_V G l p e (kx_rm 8 0 0) s m args below meth c 6 Q 29 [(0, .ref mo), (1, .int (nI k1)), (2, .int (nI k2)), (3, .int (mx_o (mx_told u k1 k2))), (4, .int (nI (mx_max (fun w => !decide (mx_told u k1 k2 = some w)) (mx_vo u k1 k2) i))), (5, .int (nI i))] [] s19 0 0 := by
      intro wk
      induction wk with
      | zero => intro i  h1 h2; exact absurd h2 (by omega)
      | succ wk ih =>
        intro i  hi hwk 
        have ml : mx_max (fun w => !decide (mx_told u k1 k2 = some w)) (mx_vo u k1 k2) i ≤ 30000 := mx_max_le (fun k _ => vle k)
        refine ri_iload C dX4_lead_29 rfl ?_
        refine ri_iconst C dX4_lead_31 kc_i5 ?_
        first | refine ri_icmp_geN C 67 dX4_lead_32 rfl (by omega) (by omega) (fun h32 => ?_) (fun h32 => ?_) | refine ri_icmp_ge C 67 dX4_lead_32 rfl (fun h32 => ?_) (fun h32 => ?_)
        · obtain rfl : i = 5 := by omega
          refine ri_iload_n C dX4_lead_67 rfl ?_
          refine ri_iconst C dX4_lead_68 kc_im1 ?_
          refine ri_icmp_ne C 76 dX4_lead_69 rfl (fun h69 => ?_) (fun h69 => ?_)
          · obtain ⟨b, hb⟩ : ∃ b, mx_told u k1 k2 = some b := (by cases ht : mx_told u k1 k2 with | none => rw [ht] at h69; exact absurd rfl h69 | some b => exact ⟨b, rfl⟩)
            have hb5 := htl b hb
            rw [hb]
            first | refine ri_aload_n C dX4_lead_76 rfl ?_ | refine ri_aload_nQ C dX4_lead_76 rfl ?_ | refine ri_aload_nN C dX4_lead_76 rfl ?_
            refine ri_iload_n C dX4_lead_77 rfl ?_
            refine ri_iload_n C dX4_lead_78 rfl ?_
            refine ri_iload_n C dX4_lead_79 rfl ?_
            refine ri_callV C km_X4_voiceOf q3217 qs91 dX4_lead_80 (mt_X4_voiceOf htr (by first | assumption | (repeat (first | assumption | exact kx_rs (by assumption) | exact kx_ne2 (by omega) | exact kx_ne1 (by omega) | refine kx_ro (by assumption) ?_ ?_ | exact kx_rs rfl | refine kx_ro rfl ?_ ?_))) (by first | assumption | (repeat (first | assumption | exact kx_rs (by assumption) | exact kx_ne2 (by omega) | exact kx_ne1 (by omega) | refine kx_ro (by assumption) ?_ ?_ | exact kx_rs rfl | refine kx_ro rfl ?_ ?_))) hu hk1 hk2 hb5) rfl rfl (kx_rcN C (by first | assumption | (repeat (first | assumption | exact kx_rs (by assumption) | exact kx_ne2 (by omega) | exact kx_ne1 (by omega) | refine kx_ro (by assumption) ?_ ?_ | exact kx_rs rfl | refine kx_ro rfl ?_ ?_))) rfl) ⟨⟨(Nat.le_of_ble_eq_true rfl), (Nat.le_of_ble_eq_true rfl)⟩, (Nat.le_of_ble_eq_true rfl), (Nat.le_of_ble_eq_true rfl), (Nat.le_of_ble_eq_true rfl)⟩ (fun v80 s80 h80 => ?_) (fun _ _ _ h => h.elim)
            obtain ⟨rfl, rfl⟩ := h80
            refine ri_iload C dX4_lead_83 rfl ?_
            refine ri_isub C dX4_lead_85 ?_
            exact ri_iret C hQ dX4_lead_86 rfl (Nat.le_of_ble_eq_true rfl) (Nat.le_of_ble_eq_true rfl) (by simp only [an_lead, an_c, c1, cond_true, nk1, nk2, mx_ld, mx_nx, hb]; exact ⟨by first | rfl | trivial, by assumption⟩)
          · have hb : mx_told u k1 k2 = none := (by cases ht : mx_told u k1 k2 with | none => rfl | some b => rw [ht] at h69; exact absurd h69 (nI_m1 (by have := htl b ht; omega)))
            refine ri_iconst C dX4_lead_72 kc_im1 ?_
            refine ri_goto C 86 dX4_lead_73 rfl ?_
            exact ri_iret C hQ dX4_lead_86 rfl (Nat.le_of_ble_eq_true rfl) (Nat.le_of_ble_eq_true rfl) (by simp only [an_lead, an_c, c1, cond_true, nk1, nk2, mx_ld, mx_nx, hb]; exact ⟨by first | rfl | trivial, by assumption⟩)
        · refine ri_iload C dX4_lead_35 rfl ?_
          refine ri_iload_n C dX4_lead_37 rfl ?_
          refine ri_icmp_ne C 46 dX4_lead_38 rfl (fun h38 => ?_) (fun h38 => ?_)
          · have h38 : ¬ mx_told u k1 k2 = some i := fun e => h38 ((mx_o_eq htl (by omega)).mpr e)
            refine ri_iload C dX4_lead_46 rfl ?_
            first | refine ri_aload_n C dX4_lead_48 rfl ?_ | refine ri_aload_nQ C dX4_lead_48 rfl ?_ | refine ri_aload_nN C dX4_lead_48 rfl ?_
            refine ri_iload_n C dX4_lead_49 rfl ?_
            refine ri_iload_n C dX4_lead_50 rfl ?_
            refine ri_iload C dX4_lead_51 rfl ?_
            refine ri_callV C km_X4_voiceOf q3217 qs91 dX4_lead_53 (mt_X4_voiceOf htr (by first | assumption | (repeat (first | assumption | exact kx_rs (by assumption) | exact kx_ne2 (by omega) | exact kx_ne1 (by omega) | refine kx_ro (by assumption) ?_ ?_ | exact kx_rs rfl | refine kx_ro rfl ?_ ?_))) (by first | assumption | (repeat (first | assumption | exact kx_rs (by assumption) | exact kx_ne2 (by omega) | exact kx_ne1 (by omega) | refine kx_ro (by assumption) ?_ ?_ | exact kx_rs rfl | refine kx_ro rfl ?_ ?_))) hu hk1 hk2 (by omega)) rfl rfl (kx_rcN C (by first | assumption | (repeat (first | assumption | exact kx_rs (by assumption) | exact kx_ne2 (by omega) | exact kx_ne1 (by omega) | refine kx_ro (by assumption) ?_ ?_ | exact kx_rs rfl | refine kx_ro rfl ?_ ?_))) rfl) ⟨⟨(Nat.le_of_ble_eq_true rfl), (Nat.le_of_ble_eq_true rfl)⟩, (Nat.le_of_ble_eq_true rfl), (Nat.le_of_ble_eq_true rfl), (Nat.le_of_ble_eq_true rfl)⟩ (fun v53 s53 h53 => ?_) (fun _ _ _ h => h.elim)
            obtain ⟨rfl, rfl⟩ := h53
            have vl := vle i
            refine ri_callS C km_J12_max q3242 dX4_lead_56 (mt_J12_max htr (by omega) (by omega)) rfl rfl ⟨⟨(Nat.le_of_ble_eq_true rfl), (Nat.le_of_ble_eq_true rfl)⟩, (Nat.le_of_ble_eq_true rfl), (Nat.le_of_ble_eq_true rfl), (Nat.le_of_ble_eq_true rfl)⟩ (fun v56 s56 h56 => ?_) (fun _ _ _ h => h.elim)
            obtain ⟨rfl, rfl⟩ := h56
            refine ri_istore C dX4_lead_59 rfl (by decide) ?_
            first | refine ri_iincN C dX4_lead_61 rfl rfl (by decide) ?_ | refine ri_iinc C dX4_lead_61 rfl rfl rfl (by decide) ?_
            refine ri_goto C 29 dX4_lead_64 rfl ?_
            refine ri_lv2 (ih (i + 1) (by omega) (by omega)) ⟨rfl, rfl, rfl, rfl, ?_, rfl, trivial⟩
            first
              | (rw [mx_max_t (f := (fun w => !decide (mx_told u k1 k2 = some w))) (by simp [h38])]; rfl)
              | (rw [mx_max_f (f := (fun w => !decide (mx_told u k1 k2 = some w))) (by simp [h38])]; rfl)
          · have h38 : mx_told u k1 k2 = some i := (mx_o_eq htl (by omega)).mp h38
            refine ri_iload C dX4_lead_41 rfl ?_
            refine ri_goto C 59 dX4_lead_43 rfl ?_
            refine ri_istore C dX4_lead_59 rfl (by decide) ?_
            first | refine ri_iincN C dX4_lead_61 rfl rfl (by decide) ?_ | refine ri_iinc C dX4_lead_61 rfl rfl rfl (by decide) ?_
            refine ri_goto C 29 dX4_lead_64 rfl ?_
            refine ri_lv2 (ih (i + 1) (by omega) (by omega)) ⟨rfl, rfl, rfl, rfl, ?_, rfl, trivial⟩
            first
              | (rw [mx_max_t (f := (fun w => !decide (mx_told u k1 k2 = some w))) (by simp [h38])]; rfl)
              | (rw [mx_max_f (f := (fun w => !decide (mx_told u k1 k2 = some w))) (by simp [h38])]; rfl)
    exact ri_lv2 (LP 6 0 (by omega) (by omega)) ⟨rfl, rfl, rfl, rfl, rfl, rfl, trivial⟩
  · have c1 : (mx_ix x 16 && mx_ix y 12) = false := kx_bn_t h11
    rw [c1, cond_false] at e8
    refine ri_iconst C dX4_lead_14 kc_i0 ?_
    exact ri_iret C hQ dX4_lead_15 (by first | rfl | exact kx_b_nar _) (Nat.le_of_ble_eq_true rfl) (Nat.le_of_ble_eq_true rfl) (by constructor <;> first | (simp only [an_lead, an_c, *, Bool.and_true, Bool.and_false, Bool.true_and, Bool.false_and, cond_true, cond_false, kx_up_u, mo_z_z]; done) | (simp only [an_lead, an_c, *, Bool.and_true, Bool.and_false, Bool.true_and, Bool.false_and, cond_true, cond_false, kx_up_u, mo_z_z]; rfl))
set_option maxHeartbeats 1000000 in
theorem mt_X4_reasonOf {l : Launch} {G : kx_G} (htr : l.stackTraces = false) {σ : kx_H} {mo : Nat} {ad : Nat → Nat} {z : Nat → Int32} {u : Nat → Nat} {pt mn w : Nat} (h0 : σ (1, 0) = some (mo, .inr (3, mo_L ad z))) (hw : σ (1, 1) = some (ad 0, kx_ai G 1417 (mx_w u))) (hu : mx_ok u) (hp : pt < 16) (hm : mn < 12) (hw5 : w < 5) : kx_SP l G yX4_reasonOf (ws_ yX4_reasonOf cX4_reasonOf 6 (some .int)) 8 0 0 [.ref mo, .int (nI pt), .int (nI mn), .int (nI w)] σ (fun v τ => v = some (.int (nI (mx_rs u pt mn w))) ∧ τ = σ) kx_nx := by
  refine kx_body htr (by decide +kernel) (own := "RoseProverbsModel") (nm := "reasonOf") rfl rfl (Nat.le_of_ble_eq_true rfl) ?_
  intro p e s m args below meth c Q C hQ
  have htl : ∀ a, mx_told u pt mn = some a → a < 5 := fun a => mx_told_b
  have vle : ∀ w, mx_vo u pt mn w ≤ 30000 := fun w => mx_vo_le hu
  have vw := vle w
  first | refine ri_aload_n C dX4_reasonOf_0 rfl ?_ | refine ri_aload_nQ C dX4_reasonOf_0 rfl ?_ | refine ri_aload_nN C dX4_reasonOf_0 rfl ?_
  refine ri_iload_n C dX4_reasonOf_1 rfl ?_
  refine ri_iload_n C dX4_reasonOf_2 rfl ?_
  refine ri_callV C km_X4_toldAt q3213 qs90 dX4_reasonOf_3 (mt_X4_toldAt htr h0 hw hu hp hm) rfl rfl (kx_rcN C (by first | assumption | (repeat (first | assumption | exact kx_rs (by assumption) | exact kx_ne2 (by omega) | exact kx_ne1 (by omega) | refine kx_ro (by assumption) ?_ ?_ | exact kx_rs rfl | refine kx_ro rfl ?_ ?_))) rfl) ⟨⟨(Nat.le_of_ble_eq_true rfl), (Nat.le_of_ble_eq_true rfl)⟩, (Nat.le_of_ble_eq_true rfl), (Nat.le_of_ble_eq_true rfl), (Nat.le_of_ble_eq_true rfl)⟩ (fun v3 s3 h3 => ?_) (fun _ _ _ h => h.elim)
  obtain ⟨rfl, rfl⟩ := h3
  refine ri_istore C dX4_reasonOf_6 rfl (by decide) ?_
  refine ri_iload C dX4_reasonOf_8 rfl ?_
  refine ri_iload_n C dX4_reasonOf_10 rfl ?_
  refine ri_icmp_ne C 16 dX4_reasonOf_11 rfl (fun h11 => ?_) (fun h11 => ?_)
  · have h11 : ¬ mx_told u pt mn = some w := fun e => h11 (by rw [e]; rfl)
    refine ri_iload C dX4_reasonOf_16 rfl ?_
    refine ri_iconst C dX4_reasonOf_18 kc_im1 ?_
    refine ri_icmp_ne C 24 dX4_reasonOf_19 rfl (fun h19 => ?_) (fun h19 => ?_)
    · obtain ⟨b, hb⟩ : ∃ b, mx_told u pt mn = some b := (by cases ht : mx_told u pt mn with | none => rw [ht] at h19; exact absurd rfl h19 | some b => exact ⟨b, rfl⟩)
      have hb5 := htl b hb
      rw [hb]
      have vb := vle b
      have hbw : ¬ b = w := fun e => h11 (by rw [hb, e])
      first | refine ri_aload_n C dX4_reasonOf_24 rfl ?_ | refine ri_aload_nQ C dX4_reasonOf_24 rfl ?_ | refine ri_aload_nN C dX4_reasonOf_24 rfl ?_
      refine ri_iload_n C dX4_reasonOf_25 rfl ?_
      refine ri_iload_n C dX4_reasonOf_26 rfl ?_
      refine ri_iload_n C dX4_reasonOf_27 rfl ?_
      refine ri_callV C km_X4_voiceOf q3217 qs91 dX4_reasonOf_28 (mt_X4_voiceOf htr h0 hw hu hp hm hw5) rfl rfl (kx_rcN C (by first | assumption | (repeat (first | assumption | exact kx_rs (by assumption) | exact kx_ne2 (by omega) | exact kx_ne1 (by omega) | refine kx_ro (by assumption) ?_ ?_ | exact kx_rs rfl | refine kx_ro rfl ?_ ?_))) rfl) ⟨⟨(Nat.le_of_ble_eq_true rfl), (Nat.le_of_ble_eq_true rfl)⟩, (Nat.le_of_ble_eq_true rfl), (Nat.le_of_ble_eq_true rfl), (Nat.le_of_ble_eq_true rfl)⟩ (fun v28 s28 h28 => ?_) (fun _ _ _ h => h.elim)
      obtain ⟨rfl, rfl⟩ := h28
      refine ri_istore C dX4_reasonOf_31 rfl (by decide) ?_
      refine ri_iload C dX4_reasonOf_33 rfl ?_
      first | refine ri_if_neB C 40 dX4_reasonOf_35 rfl (fun h35 => ?_) (fun h35 => ?_) | refine ri_if_neN C 40 dX4_reasonOf_35 rfl (by omega) (fun h35 => ?_) (fun h35 => ?_) | refine ri_if_ne C 40 dX4_reasonOf_35 rfl (fun h35 => ?_) (fun h35 => ?_)
      · refine ri_iload C dX4_reasonOf_40 rfl ?_
        first | refine ri_aload_n C dX4_reasonOf_42 rfl ?_ | refine ri_aload_nQ C dX4_reasonOf_42 rfl ?_ | refine ri_aload_nN C dX4_reasonOf_42 rfl ?_
        refine ri_iload_n C dX4_reasonOf_43 rfl ?_
        refine ri_iload_n C dX4_reasonOf_44 rfl ?_
        refine ri_iload C dX4_reasonOf_45 rfl ?_
        refine ri_callV C km_X4_voiceOf q3217 qs91 dX4_reasonOf_47 (mt_X4_voiceOf htr h0 hw hu hp hm hb5) rfl rfl (kx_rcN C (by first | assumption | (repeat (first | assumption | exact kx_rs (by assumption) | exact kx_ne2 (by omega) | exact kx_ne1 (by omega) | refine kx_ro (by assumption) ?_ ?_ | exact kx_rs rfl | refine kx_ro rfl ?_ ?_))) rfl) ⟨⟨(Nat.le_of_ble_eq_true rfl), (Nat.le_of_ble_eq_true rfl)⟩, (Nat.le_of_ble_eq_true rfl), (Nat.le_of_ble_eq_true rfl), (Nat.le_of_ble_eq_true rfl)⟩ (fun v47 s47 h47 => ?_) (fun _ _ _ h => h.elim)
        obtain ⟨rfl, rfl⟩ := h47
        first | refine ri_icmp_geN C 57 dX4_reasonOf_50 rfl (by omega) (by omega) (fun h50 => ?_) (fun h50 => ?_) | refine ri_icmp_ge C 57 dX4_reasonOf_50 rfl (fun h50 => ?_) (fun h50 => ?_)
        · refine ri_iconst C dX4_reasonOf_57 kc_i4 ?_
          exact ri_iret C hQ dX4_reasonOf_58 rfl (Nat.le_of_ble_eq_true rfl) (Nat.le_of_ble_eq_true rfl) (by refine ⟨congrArg (fun z => some (Value.int z)) ?_, rfl⟩; unfold mx_rs; rw [hb]; first | (simp only [if_neg hbw, if_neg h35]; first | rw [if_pos (by omega)] | rw [if_neg (by omega)]))
        · refine ri_iconst C dX4_reasonOf_53 kc_i3 ?_
          refine ri_goto C 58 dX4_reasonOf_54 rfl ?_
          exact ri_iret C hQ dX4_reasonOf_58 rfl (Nat.le_of_ble_eq_true rfl) (Nat.le_of_ble_eq_true rfl) (by refine ⟨congrArg (fun z => some (Value.int z)) ?_, rfl⟩; unfold mx_rs; rw [hb]; first | (simp only [if_neg hbw, if_neg h35]; first | rw [if_pos (by omega)] | rw [if_neg (by omega)]))
      · refine ri_iconst C dX4_reasonOf_38 kc_i2 ?_
        exact ri_iret C hQ dX4_reasonOf_39 rfl (Nat.le_of_ble_eq_true rfl) (Nat.le_of_ble_eq_true rfl) (by refine ⟨congrArg (fun z => some (Value.int z)) ?_, rfl⟩; unfold mx_rs; rw [hb]; simp [hbw, h35])
    · have hb : mx_told u pt mn = none := (by cases ht : mx_told u pt mn with | none => rfl | some b => rw [ht] at h19; exact absurd h19 (nI_m1 (by have := htl b ht; omega)))
      refine ri_iconst C dX4_reasonOf_22 kc_i1 ?_
      exact ri_iret C hQ dX4_reasonOf_23 rfl (Nat.le_of_ble_eq_true rfl) (Nat.le_of_ble_eq_true rfl) (by refine ⟨congrArg (fun z => some (Value.int z)) ?_, rfl⟩; unfold mx_rs; rw [hb])
  · have h11 : mx_told u pt mn = some w := (mx_o_eq htl hw5).mp h11.symm
    refine ri_iconst C dX4_reasonOf_14 kc_i0 ?_
    exact ri_iret C hQ dX4_reasonOf_15 rfl (Nat.le_of_ble_eq_true rfl) (Nat.le_of_ble_eq_true rfl) (by refine ⟨congrArg (fun z => some (Value.int z)) ?_, rfl⟩; unfold mx_rs; rw [h11]; simp)
set_option maxHeartbeats 1000000 in
theorem mt_X4_deeperOf {l : Launch} {G : kx_G} (htr : l.stackTraces = false) {σ : kx_H} {mo : Nat} {ad : Nat → Nat} {z : Nat → Int32} {u : Nat → Nat} {pt mn w : Nat} (h0 : σ (1, 0) = some (mo, .inr (3, mo_L ad z))) (hw : σ (1, 1) = some (ad 0, kx_ai G 1417 (mx_w u))) (hu : mx_ok u) (hp : pt < 16) (hm : mn < 12) (hw5 : w < 5) : kx_SP l G yX4_deeperOf (ws_ yX4_deeperOf cX4_deeperOf 5 (some .int)) 8 0 0 [.ref mo, .int (nI pt), .int (nI mn), .int (nI w), .int (nI (mx_rs u pt mn w))] σ (fun v τ => v = some (.int (mx_dp u pt mn w)) ∧ τ = σ) kx_nx := by
  refine kx_body htr (by decide +kernel) (own := "RoseProverbsModel") (nm := "deeperOf") rfl rfl (Nat.le_of_ble_eq_true rfl) ?_
  intro p e s m args below meth c Q C hQ
  have htl : ∀ a, mx_told u pt mn = some a → a < 5 := fun a => mx_told_b
  have vle : ∀ w, mx_vo u pt mn w ≤ 30000 := fun w => mx_vo_le hu
  have vw := vle w
  have r4 : mx_rs u pt mn w < 5 := by unfold mx_rs; split <;> (repeat (first | omega | split))
  refine ri_iload C dX4_deeperOf_0 rfl ?_
  refine ri_iconst C dX4_deeperOf_2 kc_i4 ?_
  first | refine ri_icmp_neN C 18 dX4_deeperOf_3 rfl (by omega) (by omega) (fun h3 => ?_) (fun h3 => ?_) | refine ri_icmp_ne C 18 dX4_deeperOf_3 rfl (fun h3 => ?_) (fun h3 => ?_)
  · refine ri_iload C dX4_deeperOf_18 rfl ?_
    refine ri_iconst C dX4_deeperOf_20 kc_i3 ?_
    first | refine ri_icmp_neN C 57 dX4_deeperOf_21 rfl (by omega) (by omega) (fun h21 => ?_) (fun h21 => ?_) | refine ri_icmp_ne C 57 dX4_deeperOf_21 rfl (fun h21 => ?_) (fun h21 => ?_)
    · refine ri_iconst C dX4_deeperOf_57 kc_i0 ?_
      exact ri_iret C hQ dX4_deeperOf_58 rfl (Nat.le_of_ble_eq_true rfl) (Nat.le_of_ble_eq_true rfl) (by refine ⟨congrArg (fun z => some (Value.int z)) ?_, rfl⟩; unfold mx_dp; rw [if_neg h3]; first | (simp only [hb, if_pos h21]) | (split <;> simp [h21]))
    · refine ri_sipush C dX4_deeperOf_24 kc_s9999 ?_
      refine ri_sipush C dX4_deeperOf_27 kc_s1000 ?_
      first | refine ri_aload_n C dX4_deeperOf_30 rfl ?_ | refine ri_aload_nQ C dX4_deeperOf_30 rfl ?_ | refine ri_aload_nN C dX4_deeperOf_30 rfl ?_
      refine ri_iload_n C dX4_deeperOf_31 rfl ?_
      refine ri_iload_n C dX4_deeperOf_32 rfl ?_
      first | refine ri_aload_n C dX4_deeperOf_33 rfl ?_ | refine ri_aload_nQ C dX4_deeperOf_33 rfl ?_ | refine ri_aload_nN C dX4_deeperOf_33 rfl ?_
      refine ri_iload_n C dX4_deeperOf_34 rfl ?_
      refine ri_iload_n C dX4_deeperOf_35 rfl ?_
      refine ri_callV C km_X4_toldAt q3213 qs90 dX4_deeperOf_36 (mt_X4_toldAt htr h0 hw hu hp hm) rfl rfl (kx_rcN C (by first | assumption | (repeat (first | assumption | exact kx_rs (by assumption) | exact kx_ne2 (by omega) | exact kx_ne1 (by omega) | refine kx_ro (by assumption) ?_ ?_ | exact kx_rs rfl | refine kx_ro rfl ?_ ?_))) rfl) ⟨⟨(Nat.le_of_ble_eq_true rfl), (Nat.le_of_ble_eq_true rfl)⟩, (Nat.le_of_ble_eq_true rfl), (Nat.le_of_ble_eq_true rfl), (Nat.le_of_ble_eq_true rfl)⟩ (fun v36 s36 h36 => ?_) (fun _ _ _ h => h.elim)
      obtain ⟨rfl, rfl⟩ := h36
      obtain ⟨b, hb⟩ : ∃ b, mx_told u pt mn = some b := (by cases ht : mx_told u pt mn with | none => (exfalso; unfold mx_rs at h21; rw [ht] at h21; simp at h21) | some b => exact ⟨b, rfl⟩)
      have hb5 := htl b hb
      have vb := vle b
      have hlt : mx_vo u pt mn w < mx_vo u pt mn b := (by unfold mx_rs at h21; rw [hb] at h21; simp only at h21; repeat (first | omega | split at h21))
      rw [hb]
      refine ri_callV C km_X4_voiceOf q3217 qs91 dX4_deeperOf_39 (mt_X4_voiceOf htr h0 hw hu hp hm hb5) rfl rfl (kx_rcN C (by first | assumption | (repeat (first | assumption | exact kx_rs (by assumption) | exact kx_ne2 (by omega) | exact kx_ne1 (by omega) | refine kx_ro (by assumption) ?_ ?_ | exact kx_rs rfl | refine kx_ro rfl ?_ ?_))) rfl) ⟨⟨(Nat.le_of_ble_eq_true rfl), (Nat.le_of_ble_eq_true rfl)⟩, (Nat.le_of_ble_eq_true rfl), (Nat.le_of_ble_eq_true rfl), (Nat.le_of_ble_eq_true rfl)⟩ (fun v39 s39 h39 => ?_) (fun _ _ _ h => h.elim)
      obtain ⟨rfl, rfl⟩ := h39
      first | refine ri_iaddN C dX4_deeperOf_42 ?_ | refine ri_iadd C dX4_deeperOf_42 ?_
      first | refine ri_aload_n C dX4_deeperOf_43 rfl ?_ | refine ri_aload_nQ C dX4_deeperOf_43 rfl ?_ | refine ri_aload_nN C dX4_deeperOf_43 rfl ?_
      refine ri_iload_n C dX4_deeperOf_44 rfl ?_
      refine ri_iload_n C dX4_deeperOf_45 rfl ?_
      refine ri_iload_n C dX4_deeperOf_46 rfl ?_
      refine ri_callV C km_X4_voiceOf q3217 qs91 dX4_deeperOf_47 (mt_X4_voiceOf htr h0 hw hu hp hm hw5) rfl rfl (kx_rcN C (by first | assumption | (repeat (first | assumption | exact kx_rs (by assumption) | exact kx_ne2 (by omega) | exact kx_ne1 (by omega) | refine kx_ro (by assumption) ?_ ?_ | exact kx_rs rfl | refine kx_ro rfl ?_ ?_))) rfl) ⟨⟨(Nat.le_of_ble_eq_true rfl), (Nat.le_of_ble_eq_true rfl)⟩, (Nat.le_of_ble_eq_true rfl), (Nat.le_of_ble_eq_true rfl), (Nat.le_of_ble_eq_true rfl)⟩ (fun v47 s47 h47 => ?_) (fun _ _ _ h => h.elim)
      obtain ⟨rfl, rfl⟩ := h47
      first | refine ri_isubN C dX4_deeperOf_50 (by omega) ?_ | refine ri_isub C dX4_deeperOf_50 ?_
      refine ri_callS C km_J12_min q3254 dX4_deeperOf_51 (mt_J12_min htr (by omega) (by omega)) rfl rfl ⟨⟨(Nat.le_of_ble_eq_true rfl), (Nat.le_of_ble_eq_true rfl)⟩, (Nat.le_of_ble_eq_true rfl), (Nat.le_of_ble_eq_true rfl), (Nat.le_of_ble_eq_true rfl)⟩ (fun v51 s51 h51 => ?_) (fun _ _ _ h => h.elim)
      obtain ⟨rfl, rfl⟩ := h51
      refine ri_goto C 58 dX4_deeperOf_54 rfl ?_
      exact ri_iret C hQ dX4_deeperOf_58 rfl (Nat.le_of_ble_eq_true rfl) (Nat.le_of_ble_eq_true rfl) (by refine ⟨congrArg (fun z => some (Value.int z)) ?_, rfl⟩; unfold mx_dp; rw [if_neg h3]; first | (simp only [hb, if_pos h21]) | (split <;> simp [h21]))
  · refine ri_sipush C dX4_deeperOf_6 kc_s400 ?_
    first | refine ri_aload_n C dX4_deeperOf_9 rfl ?_ | refine ri_aload_nQ C dX4_deeperOf_9 rfl ?_ | refine ri_aload_nN C dX4_deeperOf_9 rfl ?_
    refine ri_iload_n C dX4_deeperOf_10 rfl ?_
    refine ri_iload_n C dX4_deeperOf_11 rfl ?_
    refine ri_iload_n C dX4_deeperOf_12 rfl ?_
    refine ri_callV C km_X4_tellers q3394 qs119 dX4_deeperOf_13 (mt_X4_tellers htr h0 hw hu hp hm hw5) rfl rfl (kx_rcN C (by first | assumption | (repeat (first | assumption | exact kx_rs (by assumption) | exact kx_ne2 (by omega) | exact kx_ne1 (by omega) | refine kx_ro (by assumption) ?_ ?_ | exact kx_rs rfl | refine kx_ro rfl ?_ ?_))) rfl) ⟨⟨(Nat.le_of_ble_eq_true rfl), (Nat.le_of_ble_eq_true rfl)⟩, (Nat.le_of_ble_eq_true rfl), (Nat.le_of_ble_eq_true rfl), (Nat.le_of_ble_eq_true rfl)⟩ (fun v13 s13 h13 => ?_) (fun _ _ _ h => h.elim)
    obtain ⟨rfl, rfl⟩ := h13
    first | refine ri_iaddN C dX4_deeperOf_16 ?_ | refine ri_iadd C dX4_deeperOf_16 ?_
    exact ri_iret C hQ dX4_deeperOf_17 rfl (Nat.le_of_ble_eq_true rfl) (Nat.le_of_ble_eq_true rfl) (by refine ⟨congrArg (fun z => some (Value.int z)) ?_, rfl⟩; unfold mx_dp; rw [if_pos h3])
set_option maxHeartbeats 1000000 in
theorem mt_X4_why {l : Launch} {G : kx_G} (htr : l.stackTraces = false) {σ : kx_H} {mo : Nat} {ad : Nat → Nat} {z : Nat → Int32} {u : Nat → Nat} {x y w d : Int32} (h0 : σ (1, 0) = some (mo, .inr (3, mo_L ad z))) (hw : σ (1, 1) = some (ad 0, kx_ai G 1417 (mx_w u))) (hu : mx_ok u) : kx_SP l G yX4_why (ws_ yX4_why cX4_why 6 (some .int)) 9 0 0 [.ref mo, .int x, .int y, .int w, .int d] σ (fun v τ => v = some (.int (an_why u x y w d).2) ∧ τ = kx_up σ (1, 0) (mo, .inr (3, mo_L ad (mo_z z 9 (nI (an_why u x y w d).1))))) kx_nx := by
  refine kx_body htr (by decide +kernel) (own := "RoseProverbsModel") (nm := "why") rfl rfl (Nat.le_of_ble_eq_true rfl) ?_
  intro p e s m args below meth c Q C hQ
  have gn := hu.1
  first | refine ri_aload_n C dX4_why_0 rfl ?_ | refine ri_aload_nQ C dX4_why_0 rfl ?_ | refine ri_aload_nN C dX4_why_0 rfl ?_
  refine ri_iconst C dX4_why_1 kc_i0 ?_
  refine ri_putf C dX4_why_2 fd_q2979_3 (fun h => nomatch h) (by first | assumption | (repeat (first | assumption | exact kx_rs (by assumption) | exact kx_ne2 (by omega) | exact kx_ne1 (by omega) | refine kx_ro (by assumption) ?_ ?_ | exact kx_rs rfl | refine kx_ro rfl ?_ ?_))) (Nat.le_of_ble_eq_true rfl) (by rfl) (by rfl) mo_set9 (fun s2 e2 => ?_)
  first | refine ri_aload_n C dX4_why_5 rfl ?_ | refine ri_aload_nQ C dX4_why_5 rfl ?_ | refine ri_aload_nN C dX4_why_5 rfl ?_
  refine ri_iload_n C dX4_why_6 rfl ?_
  refine ri_iload_n C dX4_why_7 rfl ?_
  refine ri_callV C km_X4_noPlace q3350 qs114 dX4_why_8 (mt_X4_noPlace htr (by first | assumption | (repeat (first | assumption | exact kx_rs (by assumption) | exact kx_ne2 (by omega) | exact kx_ne1 (by omega) | refine kx_ro (by assumption) ?_ ?_ | exact kx_rs rfl | refine kx_ro rfl ?_ ?_)))) rfl rfl (kx_rcN C (by first | assumption | (repeat (first | assumption | exact kx_rs (by assumption) | exact kx_ne2 (by omega) | exact kx_ne1 (by omega) | refine kx_ro (by assumption) ?_ ?_ | exact kx_rs rfl | refine kx_ro rfl ?_ ?_))) rfl) ⟨⟨(Nat.le_of_ble_eq_true rfl), (Nat.le_of_ble_eq_true rfl)⟩, (Nat.le_of_ble_eq_true rfl), (Nat.le_of_ble_eq_true rfl), (Nat.le_of_ble_eq_true rfl)⟩ (fun v8 s8 h8 => ?_) (fun _ _ _ h => h.elim)
  obtain ⟨rfl, e8⟩ := h8
  first | refine ri_if_neB C 45 dX4_why_11 rfl (fun h11 => ?_) (fun h11 => ?_) | refine ri_if_neN C 45 dX4_why_11 rfl (by omega) (fun h11 => ?_) (fun h11 => ?_) | refine ri_if_ne C 45 dX4_why_11 rfl (fun h11 => ?_) (fun h11 => ?_)
  · have c1 : (mx_ix x 16 && mx_ix y 12) = false := kx_bn_t h11
    rw [c1, cond_false] at e8
    refine ri_iconst C dX4_why_45 kc_i0 ?_
    exact ri_iret C hQ dX4_why_46 (by first | rfl | exact kx_b_nar _) (Nat.le_of_ble_eq_true rfl) (Nat.le_of_ble_eq_true rfl) (by constructor <;> first | (simp only [an_why, an_c, *, Bool.and_true, Bool.and_false, Bool.true_and, Bool.false_and, cond_true, cond_false, kx_up_u, mo_z_z]; done) | (simp only [an_why, an_c, *, Bool.and_true, Bool.and_false, Bool.true_and, Bool.false_and, cond_true, cond_false, kx_up_u, mo_z_z]; rfl))
  · have c1 : (mx_ix x 16 && mx_ix y 12) = true := kx_bn_f h11
    rw [c1, cond_true] at e8
    subst e8
    obtain ⟨c1x, c1y⟩ : mx_ix x 16 = true ∧ mx_ix y 12 = true := by simpa using c1
    obtain ⟨k1, hk1, rfl⟩ := mx_ix_t c1x
    have nk1 : mx_n (nI k1) = k1 := mx_n_nI (by omega)
    obtain ⟨k2, hk2, rfl⟩ := mx_ix_t c1y
    have nk2 : mx_n (nI k2) = k2 := mx_n_nI (by omega)
    first | refine ri_aload_n C dX4_why_14 rfl ?_ | refine ri_aload_nQ C dX4_why_14 rfl ?_ | refine ri_aload_nN C dX4_why_14 rfl ?_
    refine ri_iload_n C dX4_why_15 rfl ?_
    refine ri_callV C km_X4_noWeather q3370 qs116 dX4_why_16 (mt_X4_noWeather htr (by first | assumption | (repeat (first | assumption | exact kx_rs (by assumption) | exact kx_ne2 (by omega) | exact kx_ne1 (by omega) | refine kx_ro (by assumption) ?_ ?_ | exact kx_rs rfl | refine kx_ro rfl ?_ ?_)))) rfl rfl (kx_rcN C (by first | assumption | (repeat (first | assumption | exact kx_rs (by assumption) | exact kx_ne2 (by omega) | exact kx_ne1 (by omega) | refine kx_ro (by assumption) ?_ ?_ | exact kx_rs rfl | refine kx_ro rfl ?_ ?_))) rfl) ⟨⟨(Nat.le_of_ble_eq_true rfl), (Nat.le_of_ble_eq_true rfl)⟩, (Nat.le_of_ble_eq_true rfl), (Nat.le_of_ble_eq_true rfl), (Nat.le_of_ble_eq_true rfl)⟩ (fun v16 s16 h16 => ?_) (fun _ _ _ h => h.elim)
    obtain ⟨rfl, e16⟩ := h16
    first | refine ri_if_neB C 45 dX4_why_19 rfl (fun h19 => ?_) (fun h19 => ?_) | refine ri_if_neN C 45 dX4_why_19 rfl (by omega) (fun h19 => ?_) (fun h19 => ?_) | refine ri_if_ne C 45 dX4_why_19 rfl (fun h19 => ?_) (fun h19 => ?_)
    · have c2 : mx_ix w 5 = false := kx_bn_t h19
      rw [c2, cond_false] at e16
      refine ri_iconst C dX4_why_45 kc_i0 ?_
      exact ri_iret C hQ dX4_why_46 (by first | rfl | exact kx_b_nar _) (Nat.le_of_ble_eq_true rfl) (Nat.le_of_ble_eq_true rfl) (by constructor <;> first | (simp only [an_why, an_c, *, Bool.and_true, Bool.and_false, Bool.true_and, Bool.false_and, cond_true, cond_false, kx_up_u, mo_z_z]; done) | (simp only [an_why, an_c, *, Bool.and_true, Bool.and_false, Bool.true_and, Bool.false_and, cond_true, cond_false, kx_up_u, mo_z_z]; rfl))
    · have c2 : mx_ix w 5 = true := kx_bn_f h19
      rw [c2, cond_true] at e16
      subst e16
      obtain ⟨k3, hk3, rfl⟩ := mx_ix_t c2
      have nk3 : mx_n (nI k3) = k3 := mx_n_nI (by omega)
      first | refine ri_aload_n C dX4_why_22 rfl ?_ | refine ri_aload_nQ C dX4_why_22 rfl ?_ | refine ri_aload_nN C dX4_why_22 rfl ?_
      refine ri_iload C dX4_why_23 rfl ?_
      refine ri_iconst C dX4_why_25 kc_i0 ?_
      refine ri_iconst C dX4_why_26 kc_i2 ?_
      cases c3 : mx_ix d 3
      · refine ri_callS C km_X4_inRange q3071 dX4_why_27 (mt_X4_inRange htr) rfl rfl ⟨⟨(Nat.le_of_ble_eq_true rfl), (Nat.le_of_ble_eq_true rfl)⟩, (Nat.le_of_ble_eq_true rfl), (Nat.le_of_ble_eq_true rfl), (Nat.le_of_ble_eq_true rfl)⟩ (fun v27 s27 h27 => ?_) (fun _ _ _ h => h.elim)
        obtain ⟨rfl, rfl⟩ := h27
        rw [mx_ix_0 (by decide), c3]
        first | refine ri_if_neB C 37 dX4_why_30 rfl (fun h30 => ?_) (fun h30 => ?_) | refine ri_if_neN C 37 dX4_why_30 rfl (by omega) (fun h30 => ?_) (fun h30 => ?_) | refine ri_if_ne C 37 dX4_why_30 rfl (fun h30 => ?_) (fun h30 => ?_)
        · exact absurd h30 (by decide) --dead
        · refine ri_iconst C dX4_why_33 kc_i1 ?_
          refine ri_goto C 38 dX4_why_34 rfl ?_
          refine ri_iconst C dX4_why_38 kc_i2 ?_
          refine ri_callV C km_X4_fails q3303 qs106 dX4_why_39 (mt_X4_fails htr (b := true) (by first | assumption | (repeat (first | assumption | exact kx_rs (by assumption) | exact kx_ne2 (by omega) | exact kx_ne1 (by omega) | refine kx_ro (by assumption) ?_ ?_ | exact kx_rs rfl | refine kx_ro rfl ?_ ?_)))) rfl rfl (kx_rcN C (by first | assumption | (repeat (first | assumption | exact kx_rs (by assumption) | exact kx_ne2 (by omega) | exact kx_ne1 (by omega) | refine kx_ro (by assumption) ?_ ?_ | exact kx_rs rfl | refine kx_ro rfl ?_ ?_))) rfl) ⟨⟨(Nat.le_of_ble_eq_true rfl), (Nat.le_of_ble_eq_true rfl)⟩, (Nat.le_of_ble_eq_true rfl), (Nat.le_of_ble_eq_true rfl), (Nat.le_of_ble_eq_true rfl)⟩ (fun v39 s39 h39 => ?_) (fun _ _ _ h => h.elim)
          obtain ⟨rfl, e39⟩ := h39
          rw [cond_true] at e39
          first | refine ri_if_eqB C 47 dX4_why_42 rfl (fun h42 => ?_) (fun h42 => ?_) | refine ri_if_eqN C 47 dX4_why_42 rfl (by omega) (fun h42 => ?_) (fun h42 => ?_) | refine ri_if_eq C 47 dX4_why_42 rfl (fun h42 => ?_) (fun h42 => ?_)
          · exact absurd h42 (by decide) --dead
          · refine ri_iconst C dX4_why_45 kc_i0 ?_
            exact ri_iret C hQ dX4_why_46 (by first | rfl | exact kx_b_nar _) (Nat.le_of_ble_eq_true rfl) (Nat.le_of_ble_eq_true rfl) (by constructor <;> first | (simp only [an_why, an_c, *, Bool.and_true, Bool.and_false, Bool.true_and, Bool.false_and, cond_true, cond_false, kx_up_u, mo_z_z]; done) | (simp only [an_why, an_c, *, Bool.and_true, Bool.and_false, Bool.true_and, Bool.false_and, cond_true, cond_false, kx_up_u, mo_z_z]; rfl))
      · obtain ⟨k4, hk4, rfl⟩ := mx_ix_t c3
        have nk4 : mx_n (nI k4) = k4 := mx_n_nI (by omega)
        refine ri_callS C km_X4_inRange q3071 dX4_why_27 (mt_X4_inRange htr) rfl rfl ⟨⟨(Nat.le_of_ble_eq_true rfl), (Nat.le_of_ble_eq_true rfl)⟩, (Nat.le_of_ble_eq_true rfl), (Nat.le_of_ble_eq_true rfl), (Nat.le_of_ble_eq_true rfl)⟩ (fun v27 s27 h27 => ?_) (fun _ _ _ h => h.elim)
        obtain ⟨rfl, rfl⟩ := h27
        rw [mx_ix_0 (by decide), c3]
        first | refine ri_if_neB C 37 dX4_why_30 rfl (fun h30 => ?_) (fun h30 => ?_) | refine ri_if_neN C 37 dX4_why_30 rfl (by omega) (fun h30 => ?_) (fun h30 => ?_) | refine ri_if_ne C 37 dX4_why_30 rfl (fun h30 => ?_) (fun h30 => ?_)
        · refine ri_iconst C dX4_why_37 kc_i0 ?_
          refine ri_iconst C dX4_why_38 kc_i2 ?_
          refine ri_callV C km_X4_fails q3303 qs106 dX4_why_39 (mt_X4_fails htr (b := false) (by first | assumption | (repeat (first | assumption | exact kx_rs (by assumption) | exact kx_ne2 (by omega) | exact kx_ne1 (by omega) | refine kx_ro (by assumption) ?_ ?_ | exact kx_rs rfl | refine kx_ro rfl ?_ ?_)))) rfl rfl (kx_rcN C (by first | assumption | (repeat (first | assumption | exact kx_rs (by assumption) | exact kx_ne2 (by omega) | exact kx_ne1 (by omega) | refine kx_ro (by assumption) ?_ ?_ | exact kx_rs rfl | refine kx_ro rfl ?_ ?_))) rfl) ⟨⟨(Nat.le_of_ble_eq_true rfl), (Nat.le_of_ble_eq_true rfl)⟩, (Nat.le_of_ble_eq_true rfl), (Nat.le_of_ble_eq_true rfl), (Nat.le_of_ble_eq_true rfl)⟩ (fun v39 s39 h39 => ?_) (fun _ _ _ h => h.elim)
          obtain ⟨rfl, e39⟩ := h39
          rw [cond_false] at e39
          subst e39
          first | refine ri_if_eqB C 47 dX4_why_42 rfl (fun h42 => ?_) (fun h42 => ?_) | refine ri_if_eqN C 47 dX4_why_42 rfl (by omega) (fun h42 => ?_) (fun h42 => ?_) | refine ri_if_eq C 47 dX4_why_42 rfl (fun h42 => ?_) (fun h42 => ?_)
          · first | refine ri_aload_n C dX4_why_47 rfl ?_ | refine ri_aload_nQ C dX4_why_47 rfl ?_ | refine ri_aload_nN C dX4_why_47 rfl ?_
            refine ri_iload_n C dX4_why_48 rfl ?_
            refine ri_iload_n C dX4_why_49 rfl ?_
            refine ri_iload_n C dX4_why_50 rfl ?_
            refine ri_callV C km_X4_reasonOf q3386 qs117 dX4_why_51 (mt_X4_reasonOf htr (by first | assumption | (repeat (first | assumption | exact kx_rs (by assumption) | exact kx_ne2 (by omega) | exact kx_ne1 (by omega) | refine kx_ro (by assumption) ?_ ?_ | exact kx_rs rfl | refine kx_ro rfl ?_ ?_))) (by first | assumption | (repeat (first | assumption | exact kx_rs (by assumption) | exact kx_ne2 (by omega) | exact kx_ne1 (by omega) | refine kx_ro (by assumption) ?_ ?_ | exact kx_rs rfl | refine kx_ro rfl ?_ ?_))) hu hk1 hk2 hk3) rfl rfl (kx_rcN C (by first | assumption | (repeat (first | assumption | exact kx_rs (by assumption) | exact kx_ne2 (by omega) | exact kx_ne1 (by omega) | refine kx_ro (by assumption) ?_ ?_ | exact kx_rs rfl | refine kx_ro rfl ?_ ?_))) rfl) ⟨⟨(Nat.le_of_ble_eq_true rfl), (Nat.le_of_ble_eq_true rfl)⟩, (Nat.le_of_ble_eq_true rfl), (Nat.le_of_ble_eq_true rfl), (Nat.le_of_ble_eq_true rfl)⟩ (fun v51 s51 h51 => ?_) (fun _ _ _ h => h.elim)
            obtain ⟨rfl, rfl⟩ := h51
            have r4 : mx_rs u k1 k2 k3 < 5 := by unfold mx_rs; split <;> (repeat (first | omega | split))
            refine ri_istore C dX4_why_54 rfl (by decide) ?_
            refine ri_iload C dX4_why_56 rfl ?_
            first | refine ri_if_neB C 64 dX4_why_58 rfl (fun h58 => ?_) (fun h58 => ?_) | refine ri_if_neN C 64 dX4_why_58 rfl (by omega) (fun h58 => ?_) (fun h58 => ?_) | refine ri_if_ne C 64 dX4_why_58 rfl (fun h58 => ?_) (fun h58 => ?_)
            · refine ri_iload C dX4_why_64 rfl ?_
              refine ri_iconst C dX4_why_66 kc_i2 ?_
              first | refine ri_icmp_neN C 80 dX4_why_67 rfl (by omega) (by omega) (fun h67 => ?_) (fun h67 => ?_) | refine ri_icmp_ne C 80 dX4_why_67 rfl (fun h67 => ?_) (fun h67 => ?_)
              · refine ri_iload C dX4_why_80 rfl ?_
                refine ri_iconst C dX4_why_82 kc_i1 ?_
                first | refine ri_icmp_leN C 103 dX4_why_83 rfl (by omega) (by omega) (fun h83 => ?_) (fun h83 => ?_) | refine ri_icmp_le C 103 dX4_why_83 rfl (fun h83 => ?_) (fun h83 => ?_)
                · refine ri_iconst C dX4_why_103 kc_i0 ?_
                  exact ri_iret C hQ dX4_why_104 rfl (Nat.le_of_ble_eq_true rfl) (Nat.le_of_ble_eq_true rfl) (by simp only [an_why, an_c, c1, c2, c3, cond_true, nk1, nk2, nk3, nk4]; unfold mx_wy; rw [if_neg h58, if_neg h67]; first | (rw [hb]; refine ⟨?_, by assumption⟩; show _ = some (Value.int (if 1 < mx_rs u k1 k2 k3 then nI (100 * (mx_rs u k1 k2 k3 - 1) + b) else nI 0)); rw [if_pos (by omega)]) | (refine ⟨?_, by assumption⟩; split; rfl; rw [if_neg (by omega)]))
                · refine ri_bipush C dX4_why_86 kc_b100 ?_
                  refine ri_iload C dX4_why_88 rfl ?_
                  refine ri_iconst C dX4_why_90 kc_i1 ?_
                  first | refine ri_isubN C dX4_why_91 (by omega) ?_ | refine ri_isub C dX4_why_91 ?_
                  first | refine ri_imulN C dX4_why_92 ?_ | refine ri_imul C dX4_why_92 ?_
                  first | refine ri_aload_n C dX4_why_93 rfl ?_ | refine ri_aload_nQ C dX4_why_93 rfl ?_ | refine ri_aload_nN C dX4_why_93 rfl ?_
                  refine ri_iload_n C dX4_why_94 rfl ?_
                  refine ri_iload_n C dX4_why_95 rfl ?_
                  refine ri_callV C km_X4_toldAt q3213 qs90 dX4_why_96 (mt_X4_toldAt htr (by first | assumption | (repeat (first | assumption | exact kx_rs (by assumption) | exact kx_ne2 (by omega) | exact kx_ne1 (by omega) | refine kx_ro (by assumption) ?_ ?_ | exact kx_rs rfl | refine kx_ro rfl ?_ ?_))) (by first | assumption | (repeat (first | assumption | exact kx_rs (by assumption) | exact kx_ne2 (by omega) | exact kx_ne1 (by omega) | refine kx_ro (by assumption) ?_ ?_ | exact kx_rs rfl | refine kx_ro rfl ?_ ?_))) hu hk1 hk2) rfl rfl (kx_rcN C (by first | assumption | (repeat (first | assumption | exact kx_rs (by assumption) | exact kx_ne2 (by omega) | exact kx_ne1 (by omega) | refine kx_ro (by assumption) ?_ ?_ | exact kx_rs rfl | refine kx_ro rfl ?_ ?_))) rfl) ⟨⟨(Nat.le_of_ble_eq_true rfl), (Nat.le_of_ble_eq_true rfl)⟩, (Nat.le_of_ble_eq_true rfl), (Nat.le_of_ble_eq_true rfl), (Nat.le_of_ble_eq_true rfl)⟩ (fun v96 s96 h96 => ?_) (fun _ _ _ h => h.elim)
                  obtain ⟨rfl, rfl⟩ := h96
                  obtain ⟨b, hb⟩ : ∃ b, mx_told u k1 k2 = some b := (by cases ht : mx_told u k1 k2 with | none => (exfalso; unfold mx_rs at h83; rw [ht] at h83; simp at h83) | some b => exact ⟨b, rfl⟩)
                  rw [show mx_o (mx_told u k1 k2) = nI b by rw [hb]; rfl]
                  first | refine ri_iaddN C dX4_why_99 ?_ | refine ri_iadd C dX4_why_99 ?_
                  refine ri_goto C 104 dX4_why_100 rfl ?_
                  exact ri_iret C hQ dX4_why_104 rfl (Nat.le_of_ble_eq_true rfl) (Nat.le_of_ble_eq_true rfl) (by simp only [an_why, an_c, c1, c2, c3, cond_true, nk1, nk2, nk3, nk4]; unfold mx_wy; rw [if_neg h58, if_neg h67]; first | (rw [hb]; refine ⟨?_, by assumption⟩; show _ = some (Value.int (if 1 < mx_rs u k1 k2 k3 then nI (100 * (mx_rs u k1 k2 k3 - 1) + b) else nI 0)); rw [if_pos (by omega)]) | (refine ⟨?_, by assumption⟩; split; rfl; rw [if_neg (by omega)]))
              · first | refine ri_aload_n C dX4_why_70 rfl ?_ | refine ri_aload_nQ C dX4_why_70 rfl ?_ | refine ri_aload_nN C dX4_why_70 rfl ?_
                refine ri_iload_n C dX4_why_71 rfl ?_
                refine ri_iload_n C dX4_why_72 rfl ?_
                refine ri_iload_n C dX4_why_73 rfl ?_
                refine ri_iload C dX4_why_74 rfl ?_
                refine ri_callV C km_X4_deeperOf q3390 qs118 dX4_why_76 (mt_X4_deeperOf htr (by first | assumption | (repeat (first | assumption | exact kx_rs (by assumption) | exact kx_ne2 (by omega) | exact kx_ne1 (by omega) | refine kx_ro (by assumption) ?_ ?_ | exact kx_rs rfl | refine kx_ro rfl ?_ ?_))) (by first | assumption | (repeat (first | assumption | exact kx_rs (by assumption) | exact kx_ne2 (by omega) | exact kx_ne1 (by omega) | refine kx_ro (by assumption) ?_ ?_ | exact kx_rs rfl | refine kx_ro rfl ?_ ?_))) hu hk1 hk2 hk3) rfl rfl (kx_rcN C (by first | assumption | (repeat (first | assumption | exact kx_rs (by assumption) | exact kx_ne2 (by omega) | exact kx_ne1 (by omega) | refine kx_ro (by assumption) ?_ ?_ | exact kx_rs rfl | refine kx_ro rfl ?_ ?_))) rfl) ⟨⟨(Nat.le_of_ble_eq_true rfl), (Nat.le_of_ble_eq_true rfl)⟩, (Nat.le_of_ble_eq_true rfl), (Nat.le_of_ble_eq_true rfl), (Nat.le_of_ble_eq_true rfl)⟩ (fun v76 s76 h76 => ?_) (fun _ _ _ h => h.elim)
                obtain ⟨rfl, rfl⟩ := h76
                exact ri_iret C hQ dX4_why_79 rfl (Nat.le_of_ble_eq_true rfl) (Nat.le_of_ble_eq_true rfl) (by simp only [an_why, an_c, c1, c2, c3, cond_true, nk1, nk2, nk3, nk4]; unfold mx_wy; rw [if_neg h58, if_pos h67]; exact ⟨rfl, by assumption⟩)
            · refine ri_iload C dX4_why_61 rfl ?_
              exact ri_iret C hQ dX4_why_63 rfl (Nat.le_of_ble_eq_true rfl) (Nat.le_of_ble_eq_true rfl) (by simp only [an_why, an_c, c1, c2, c3, cond_true, nk1, nk2, nk3, nk4]; unfold mx_wy; rw [if_pos h58]; exact ⟨rfl, by assumption⟩)
          · exact absurd h42 (by decide) --dead
        · exact absurd h30 (by decide) --dead
set_option maxHeartbeats 1000000 in
theorem mt_X4_rival {l : Launch} {G : kx_G} (htr : l.stackTraces = false) {σ : kx_H} {mo : Nat} {ad : Nat → Nat} {z : Nat → Int32} {u : Nat → Nat} {x : Int32} (h0 : σ (1, 0) = some (mo, .inr (3, mo_L ad z))) (hw : σ (1, 1) = some (ad 0, kx_ai G 1417 (mx_w u))) (gn : u 0 ≤ 24) (hbt : ∀ i, 841 ≤ i → i < 1417 → u i ≤ 100000) : kx_SP l G yX4_rival (ws_ yX4_rival cX4_rival 5 (some .int)) 3 0 0 [.ref mo, .int x] σ (fun v τ => v = some (.int (an_rival u x).2) ∧ τ = kx_up σ (1, 0) (mo, .inr (3, mo_L ad (mo_z z 9 (nI (an_rival u x).1))))) kx_nx := by
  refine kx_body htr (by decide +kernel) (own := "RoseProverbsModel") (nm := "rival") rfl rfl (Nat.le_of_ble_eq_true rfl) ?_
  intro p e s m args below meth c Q C hQ
  first | refine ri_aload_n C dX4_rival_0 rfl ?_ | refine ri_aload_nQ C dX4_rival_0 rfl ?_ | refine ri_aload_nN C dX4_rival_0 rfl ?_
  refine ri_iconst C dX4_rival_1 kc_i0 ?_
  refine ri_putf C dX4_rival_2 fd_q2979_3 (fun h => nomatch h) (by first | assumption | (repeat (first | assumption | exact kx_rs (by assumption) | exact kx_ne2 (by omega) | exact kx_ne1 (by omega) | refine kx_ro (by assumption) ?_ ?_ | exact kx_rs rfl | refine kx_ro rfl ?_ ?_))) (Nat.le_of_ble_eq_true rfl) (by rfl) (by rfl) mo_set9 (fun s2 e2 => ?_)
  first | refine ri_aload_n C dX4_rival_5 rfl ?_ | refine ri_aload_nQ C dX4_rival_5 rfl ?_ | refine ri_aload_nN C dX4_rival_5 rfl ?_
  refine ri_iload_n C dX4_rival_6 rfl ?_
  refine ri_callV C km_X4_noProverb q3342 qs113 dX4_rival_7 (mt_X4_noProverb htr (by first | assumption | (repeat (first | assumption | exact kx_rs (by assumption) | exact kx_ne2 (by omega) | exact kx_ne1 (by omega) | refine kx_ro (by assumption) ?_ ?_ | exact kx_rs rfl | refine kx_ro rfl ?_ ?_))) (by first | assumption | (repeat (first | assumption | exact kx_rs (by assumption) | exact kx_ne2 (by omega) | exact kx_ne1 (by omega) | refine kx_ro (by assumption) ?_ ?_ | exact kx_rs rfl | refine kx_ro rfl ?_ ?_))) (by omega)) rfl rfl (kx_rcN C (by first | assumption | (repeat (first | assumption | exact kx_rs (by assumption) | exact kx_ne2 (by omega) | exact kx_ne1 (by omega) | refine kx_ro (by assumption) ?_ ?_ | exact kx_rs rfl | refine kx_ro rfl ?_ ?_))) rfl) ⟨⟨(Nat.le_of_ble_eq_true rfl), (Nat.le_of_ble_eq_true rfl)⟩, (Nat.le_of_ble_eq_true rfl), (Nat.le_of_ble_eq_true rfl), (Nat.le_of_ble_eq_true rfl)⟩ (fun v7 s7 h7 => ?_) (fun _ _ _ h => h.elim)
  obtain ⟨rfl, e7⟩ := h7
  first | refine ri_if_eqB C 15 dX4_rival_10 rfl (fun h10 => ?_) (fun h10 => ?_) | refine ri_if_eqN C 15 dX4_rival_10 rfl (by omega) (fun h10 => ?_) (fun h10 => ?_) | refine ri_if_eq C 15 dX4_rival_10 rfl (fun h10 => ?_) (fun h10 => ?_)
  · have c1 : mx_ix x (u 0) = true := kx_bn_f h10
    rw [c1, cond_true] at e7
    subst e7
    obtain ⟨k1, hk1, rfl⟩ := mx_ix_t c1
    have nk1 : mx_n (nI k1) = k1 := mx_n_nI (by omega)
    refine ri_iconst C dX4_rival_15 kc_im1 ?_
    refine ri_istore_n C dX4_rival_16 rfl (by decide) ?_
    refine ri_iconst C dX4_rival_17 kc_i0 ?_
    refine ri_istore_n C dX4_rival_18 rfl (by decide) ?_
    refine ri_iconst C dX4_rival_19 kc_i0 ?_
    refine ri_istore C dX4_rival_20 rfl (by decide) ?_
    have LP : ∀ (wk i : Nat) (x2 : Int32) (x3 : Nat), i ≤ u 0 → u 0 < i + wk → (x2 = mx_o (mx_best (fun k => u (841 + 24 * k + k1)) i) ∧ x3 = mx_bv (fun k => u (841 + 24 * k + k1)) (mx_best (fun k => u (841 + 24 * k + k1)) i) ∧ x3 ≤ 100000) → kx_V G l p e (kx_rm 3 0 0) s m args below meth c 5 Q 22 [(0, .ref mo), (1, .int (nI k1)), (2, .int x2), (3, .int (nI x3)), (4, .int (nI i))] [] s7 0 0 := by
      intro wk
      induction wk with
      | zero => intro i x2 x3 h1 h2; exact absurd h2 (by omega)
      | succ wk ih =>
        intro i x2 x3 hi hwk hI
        have hB : ∀ i, i < u 0 → u (841 + 24 * i + k1) ≤ 100000 := fun i hi => hbt _ (by omega) (by omega)
        have b3 := hI.2.2
        refine ri_iload C dX4_rival_22 rfl ?_
        first | refine ri_aload_n C dX4_rival_24 rfl ?_ | refine ri_aload_nQ C dX4_rival_24 rfl ?_ | refine ri_aload_nN C dX4_rival_24 rfl ?_
        refine ri_getf C dX4_rival_25 fr_q2970_3 (by first | assumption | (repeat (first | assumption | exact kx_rs (by assumption) | exact kx_ne2 (by omega) | exact kx_ne1 (by omega) | refine kx_ro (by assumption) ?_ ?_ | exact kx_rs rfl | refine kx_ro rfl ?_ ?_))) (by rfl) ?_
        refine ri_iconst C dX4_rival_28 kc_i0 ?_
        first | refine ri_ialoadN C dX4_rival_29 (by first | assumption | (repeat (first | assumption | exact kx_rs (by assumption) | exact kx_ne2 (by omega) | exact kx_ne1 (by omega) | refine kx_ro (by assumption) ?_ ?_ | exact kx_rs rfl | refine kx_ro rfl ?_ ?_))) rfl (by omega) ?_ | refine ri_iaload C dX4_rival_29 (by first | assumption | (repeat (first | assumption | exact kx_rs (by assumption) | exact kx_ne2 (by omega) | exact kx_ne1 (by omega) | refine kx_ro (by assumption) ?_ ?_ | exact kx_rs rfl | refine kx_ro rfl ?_ ?_))) rfl (by omega) ?_
        first | refine ri_icmp_geN C 65 dX4_rival_30 rfl (by omega) (by omega) (fun h30 => ?_) (fun h30 => ?_) | refine ri_icmp_ge C 65 dX4_rival_30 rfl (fun h30 => ?_) (fun h30 => ?_)
        · refine ri_iload_n C dX4_rival_65 rfl ?_
          exact ri_iret C hQ dX4_rival_66 rfl (Nat.le_of_ble_eq_true rfl) (Nat.le_of_ble_eq_true rfl) (by simp only [an_rival, an_c, c1, cond_true, nk1]; rw [hI.1, show i = u 0 by omega]; exact ⟨rfl, by assumption⟩)
        · have gb := hB i (by omega)
          first | refine ri_aload_n C dX4_rival_33 rfl ?_ | refine ri_aload_nQ C dX4_rival_33 rfl ?_ | refine ri_aload_nN C dX4_rival_33 rfl ?_
          refine ri_iload C dX4_rival_34 rfl ?_
          refine ri_iload_n C dX4_rival_36 rfl ?_
          refine ri_callV C km_X4_beatOf q3414 qs121 dX4_rival_37 (mt_X4_beatOf htr (by first | assumption | (repeat (first | assumption | exact kx_rs (by assumption) | exact kx_ne2 (by omega) | exact kx_ne1 (by omega) | refine kx_ro (by assumption) ?_ ?_ | exact kx_rs rfl | refine kx_ro rfl ?_ ?_))) (by first | assumption | (repeat (first | assumption | exact kx_rs (by assumption) | exact kx_ne2 (by omega) | exact kx_ne1 (by omega) | refine kx_ro (by assumption) ?_ ?_ | exact kx_rs rfl | refine kx_ro rfl ?_ ?_))) (by omega)) rfl rfl (kx_rcN C (by first | assumption | (repeat (first | assumption | exact kx_rs (by assumption) | exact kx_ne2 (by omega) | exact kx_ne1 (by omega) | refine kx_ro (by assumption) ?_ ?_ | exact kx_rs rfl | refine kx_ro rfl ?_ ?_))) rfl) ⟨⟨(Nat.le_of_ble_eq_true rfl), (Nat.le_of_ble_eq_true rfl)⟩, (Nat.le_of_ble_eq_true rfl), (Nat.le_of_ble_eq_true rfl), (Nat.le_of_ble_eq_true rfl)⟩ (fun v37 s37 h37 => ?_) (fun _ _ _ h => h.elim)
          obtain ⟨rfl, rfl⟩ := h37
          refine ri_iload_n C dX4_rival_40 rfl ?_
          first | refine ri_icmp_leN C 47 dX4_rival_41 rfl (by omega) (by omega) (fun h41 => ?_) (fun h41 => ?_) | refine ri_icmp_le C 47 dX4_rival_41 rfl (fun h41 => ?_) (fun h41 => ?_)
          · refine ri_iload_n C dX4_rival_47 rfl ?_
            first | refine ri_aload_n C dX4_rival_48 rfl ?_ | refine ri_aload_nQ C dX4_rival_48 rfl ?_ | refine ri_aload_nN C dX4_rival_48 rfl ?_
            refine ri_iload C dX4_rival_49 rfl ?_
            refine ri_iload_n C dX4_rival_51 rfl ?_
            refine ri_callV C km_X4_beatOf q3414 qs121 dX4_rival_52 (mt_X4_beatOf htr (by first | assumption | (repeat (first | assumption | exact kx_rs (by assumption) | exact kx_ne2 (by omega) | exact kx_ne1 (by omega) | refine kx_ro (by assumption) ?_ ?_ | exact kx_rs rfl | refine kx_ro rfl ?_ ?_))) (by first | assumption | (repeat (first | assumption | exact kx_rs (by assumption) | exact kx_ne2 (by omega) | exact kx_ne1 (by omega) | refine kx_ro (by assumption) ?_ ?_ | exact kx_rs rfl | refine kx_ro rfl ?_ ?_))) (by omega)) rfl rfl (kx_rcN C (by first | assumption | (repeat (first | assumption | exact kx_rs (by assumption) | exact kx_ne2 (by omega) | exact kx_ne1 (by omega) | refine kx_ro (by assumption) ?_ ?_ | exact kx_rs rfl | refine kx_ro rfl ?_ ?_))) rfl) ⟨⟨(Nat.le_of_ble_eq_true rfl), (Nat.le_of_ble_eq_true rfl)⟩, (Nat.le_of_ble_eq_true rfl), (Nat.le_of_ble_eq_true rfl), (Nat.le_of_ble_eq_true rfl)⟩ (fun v52 s52 h52 => ?_) (fun _ _ _ h => h.elim)
            obtain ⟨rfl, rfl⟩ := h52
            refine ri_callS C km_J12_max q3242 dX4_rival_55 (mt_J12_max htr (by omega) (by omega)) rfl rfl ⟨⟨(Nat.le_of_ble_eq_true rfl), (Nat.le_of_ble_eq_true rfl)⟩, (Nat.le_of_ble_eq_true rfl), (Nat.le_of_ble_eq_true rfl), (Nat.le_of_ble_eq_true rfl)⟩ (fun v55 s55 h55 => ?_) (fun _ _ _ h => h.elim)
            obtain ⟨rfl, rfl⟩ := h55
            refine ri_istore_n C dX4_rival_58 rfl (by decide) ?_
            first | refine ri_iincN C dX4_rival_59 rfl rfl (by decide) ?_ | refine ri_iinc C dX4_rival_59 rfl rfl rfl (by decide) ?_
            refine ri_goto C 22 dX4_rival_62 rfl ?_
            refine ri_lv2 (ih (i + 1) _ _ (by omega) (by omega) ?_) ⟨rfl, rfl, rfl, rfl, rfl, trivial⟩
            obtain ⟨e1, e2, e3⟩ := hI
            first
              | (rw [mx_best_gt (by rw [← e2]; omega)]; refine ⟨rfl, ?_, ?_⟩; (show _ = u (841 + 24 * i + k1); rw [mx_mx]; split <;> omega); (rw [mx_mx]; split <;> omega))
              | (rw [mx_best_le (by rw [← e2]; omega), ← e2]; refine ⟨e1, ?_, ?_⟩ <;> (rw [mx_mx]; split <;> omega))
          · refine ri_iload C dX4_rival_44 rfl ?_
            refine ri_istore_n C dX4_rival_46 rfl (by decide) ?_
            refine ri_iload_n C dX4_rival_47 rfl ?_
            first | refine ri_aload_n C dX4_rival_48 rfl ?_ | refine ri_aload_nQ C dX4_rival_48 rfl ?_ | refine ri_aload_nN C dX4_rival_48 rfl ?_
            refine ri_iload C dX4_rival_49 rfl ?_
            refine ri_iload_n C dX4_rival_51 rfl ?_
            refine ri_callV C km_X4_beatOf q3414 qs121 dX4_rival_52 (mt_X4_beatOf htr (by first | assumption | (repeat (first | assumption | exact kx_rs (by assumption) | exact kx_ne2 (by omega) | exact kx_ne1 (by omega) | refine kx_ro (by assumption) ?_ ?_ | exact kx_rs rfl | refine kx_ro rfl ?_ ?_))) (by first | assumption | (repeat (first | assumption | exact kx_rs (by assumption) | exact kx_ne2 (by omega) | exact kx_ne1 (by omega) | refine kx_ro (by assumption) ?_ ?_ | exact kx_rs rfl | refine kx_ro rfl ?_ ?_))) (by omega)) rfl rfl (kx_rcN C (by first | assumption | (repeat (first | assumption | exact kx_rs (by assumption) | exact kx_ne2 (by omega) | exact kx_ne1 (by omega) | refine kx_ro (by assumption) ?_ ?_ | exact kx_rs rfl | refine kx_ro rfl ?_ ?_))) rfl) ⟨⟨(Nat.le_of_ble_eq_true rfl), (Nat.le_of_ble_eq_true rfl)⟩, (Nat.le_of_ble_eq_true rfl), (Nat.le_of_ble_eq_true rfl), (Nat.le_of_ble_eq_true rfl)⟩ (fun v52 s52 h52 => ?_) (fun _ _ _ h => h.elim)
            obtain ⟨rfl, rfl⟩ := h52
            refine ri_callS C km_J12_max q3242 dX4_rival_55 (mt_J12_max htr (by omega) (by omega)) rfl rfl ⟨⟨(Nat.le_of_ble_eq_true rfl), (Nat.le_of_ble_eq_true rfl)⟩, (Nat.le_of_ble_eq_true rfl), (Nat.le_of_ble_eq_true rfl), (Nat.le_of_ble_eq_true rfl)⟩ (fun v55 s55 h55 => ?_) (fun _ _ _ h => h.elim)
            obtain ⟨rfl, rfl⟩ := h55
            refine ri_istore_n C dX4_rival_58 rfl (by decide) ?_
            first | refine ri_iincN C dX4_rival_59 rfl rfl (by decide) ?_ | refine ri_iinc C dX4_rival_59 rfl rfl rfl (by decide) ?_
            refine ri_goto C 22 dX4_rival_62 rfl ?_
            refine ri_lv2 (ih (i + 1) _ _ (by omega) (by omega) ?_) ⟨rfl, rfl, rfl, rfl, rfl, trivial⟩
            obtain ⟨e1, e2, e3⟩ := hI
            first
              | (rw [mx_best_gt (by rw [← e2]; omega)]; refine ⟨rfl, ?_, ?_⟩; (show _ = u (841 + 24 * i + k1); rw [mx_mx]; split <;> omega); (rw [mx_mx]; split <;> omega))
              | (rw [mx_best_le (by rw [← e2]; omega), ← e2]; refine ⟨e1, ?_, ?_⟩ <;> (rw [mx_mx]; split <;> omega))
    exact ri_lv2 (LP (u 0 + 1) 0 _ _ (by omega) (by omega) ⟨rfl, rfl, Nat.zero_le _⟩) ⟨rfl, rfl, rfl, rfl, rfl, trivial⟩
  · have c1 : mx_ix x (u 0) = false := kx_bn_t h10
    rw [c1, cond_false] at e7
    refine ri_iconst C dX4_rival_13 kc_i0 ?_
    exact ri_iret C hQ dX4_rival_14 (by first | rfl | exact kx_b_nar _) (Nat.le_of_ble_eq_true rfl) (Nat.le_of_ble_eq_true rfl) (by constructor <;> first | (simp only [an_rival, an_c, *, Bool.and_true, Bool.and_false, Bool.true_and, Bool.false_and, cond_true, cond_false, kx_up_u, mo_z_z]; done) | (simp only [an_rival, an_c, *, Bool.and_true, Bool.and_false, Bool.true_and, Bool.false_and, cond_true, cond_false, kx_up_u, mo_z_z]; rfl))
set_option maxHeartbeats 1000000 in
theorem mt_X4_heavier {l : Launch} {G : kx_G} (htr : l.stackTraces = false) {σ : kx_H} {mo : Nat} {ad : Nat → Nat} {z : Nat → Int32} {u : Nat → Nat} {k : Nat} (h0 : σ (1, 0) = some (mo, .inr (3, mo_L ad z))) (hw : σ (1, 1) = some (ad 0, kx_ai G 1417 (mx_w u))) (hu : mx_ok u) (hk : k < u 0) : kx_SP l G yX4_heavier (ws_ yX4_heavier cX4_heavier 4 (some .int)) 3 0 0 [.ref mo, .int (nI k)] σ (fun v τ => v = some (.int (nI (mx_rk u k))) ∧ τ = σ) kx_nx := by
  refine kx_body htr (by decide +kernel) (own := "RoseProverbsModel") (nm := "heavier") rfl rfl (Nat.le_of_ble_eq_true rfl) ?_
  intro p e s m args below meth c Q C hQ
  have gn := hu.1
  have LP : ∀ (wk i : Nat) , i ≤ u 0 → u 0 < i + wk → kx_V G l p e (kx_rm 3 0 0) s m args below meth c 4 Q 4 [(0, .ref mo), (1, .int (nI k)), (2, .int (nI (mx_cnt (mx_hv u k) i))), (3, .int (nI i))] [] σ 0 0 := by
    intro wk
    induction wk with
    | zero => intro i  h1 h2; exact absurd h2 (by omega)
    | succ wk ih =>
      intro i  hi hwk 
      have g : i < u 0 → _ := hu.2.1 i
      have gk := hu.2.1 k hk
      refine ri_iload_n C dX4_heavier_4 rfl ?_
      first | refine ri_aload_n C dX4_heavier_5 rfl ?_ | refine ri_aload_nQ C dX4_heavier_5 rfl ?_ | refine ri_aload_nN C dX4_heavier_5 rfl ?_
      refine ri_getf C dX4_heavier_6 fr_q2970_3 (by first | assumption | (repeat (first | assumption | exact kx_rs (by assumption) | exact kx_ne2 (by omega) | exact kx_ne1 (by omega) | refine kx_ro (by assumption) ?_ ?_ | exact kx_rs rfl | refine kx_ro rfl ?_ ?_))) (by rfl) ?_
      refine ri_iconst C dX4_heavier_9 kc_i0 ?_
      first | refine ri_ialoadN C dX4_heavier_10 (by first | assumption | (repeat (first | assumption | exact kx_rs (by assumption) | exact kx_ne2 (by omega) | exact kx_ne1 (by omega) | refine kx_ro (by assumption) ?_ ?_ | exact kx_rs rfl | refine kx_ro rfl ?_ ?_))) rfl (by omega) ?_ | refine ri_iaload C dX4_heavier_10 (by first | assumption | (repeat (first | assumption | exact kx_rs (by assumption) | exact kx_ne2 (by omega) | exact kx_ne1 (by omega) | refine kx_ro (by assumption) ?_ ?_ | exact kx_rs rfl | refine kx_ro rfl ?_ ?_))) rfl (by omega) ?_
      first | refine ri_icmp_geN C 78 dX4_heavier_11 rfl (by omega) (by omega) (fun h11 => ?_) (fun h11 => ?_) | refine ri_icmp_ge C 78 dX4_heavier_11 rfl (fun h11 => ?_) (fun h11 => ?_)
      · refine ri_iload_n C dX4_heavier_78 rfl ?_
        exact ri_iret C hQ dX4_heavier_79 rfl (Nat.le_of_ble_eq_true rfl) (Nat.le_of_ble_eq_true rfl) (by refine ⟨congrArg (fun z => some (Value.int z)) ?_, rfl⟩; rw [mx_rk, show i = u 0 by omega])
      · have g := g (by omega)
        refine ri_iload_n C dX4_heavier_14 rfl ?_
        first | refine ri_aload_n C dX4_heavier_15 rfl ?_ | refine ri_aload_nQ C dX4_heavier_15 rfl ?_ | refine ri_aload_nN C dX4_heavier_15 rfl ?_
        refine ri_iload_n C dX4_heavier_16 rfl ?_
        refine ri_callV C km_X4_isLive q3144 qs76 dX4_heavier_17 (mt_X4_isLive htr h0 hw (by omega) (by omega)) rfl rfl (kx_rcN C (by first | assumption | (repeat (first | assumption | exact kx_rs (by assumption) | exact kx_ne2 (by omega) | exact kx_ne1 (by omega) | refine kx_ro (by assumption) ?_ ?_ | exact kx_rs rfl | refine kx_ro rfl ?_ ?_))) rfl) ⟨⟨(Nat.le_of_ble_eq_true rfl), (Nat.le_of_ble_eq_true rfl)⟩, (Nat.le_of_ble_eq_true rfl), (Nat.le_of_ble_eq_true rfl), (Nat.le_of_ble_eq_true rfl)⟩ (fun v17 s17 h17 => ?_) (fun _ _ _ h => h.elim)
        obtain ⟨rfl, rfl⟩ := h17
        first | refine ri_if_eqB C 66 dX4_heavier_20 rfl (fun h20 => ?_) (fun h20 => ?_) | refine ri_if_eqN C 66 dX4_heavier_20 rfl (by omega) (fun h20 => ?_) (fun h20 => ?_) | refine ri_if_eq C 66 dX4_heavier_20 rfl (fun h20 => ?_) (fun h20 => ?_)
        · refine ri_iconst C dX4_heavier_66 kc_i0 ?_
          refine ri_callS C km_X4_one q3247 dX4_heavier_67 (mt_X4_one htr (b := false)) rfl rfl ⟨⟨(Nat.le_of_ble_eq_true rfl), (Nat.le_of_ble_eq_true rfl)⟩, (Nat.le_of_ble_eq_true rfl), (Nat.le_of_ble_eq_true rfl), (Nat.le_of_ble_eq_true rfl)⟩ (fun v67 s67 h67 => ?_) (fun _ _ _ h => h.elim)
          obtain ⟨rfl, rfl⟩ := h67
          first | refine ri_iaddN C dX4_heavier_70 ?_ | refine ri_iadd C dX4_heavier_70 ?_
          refine ri_istore_n C dX4_heavier_71 rfl (by decide) ?_
          first | refine ri_iincN C dX4_heavier_72 rfl rfl (by decide) ?_ | refine ri_iinc C dX4_heavier_72 rfl rfl rfl (by decide) ?_
          refine ri_goto C 4 dX4_heavier_75 rfl ?_
          refine ri_lv2 (ih (i + 1) (by omega) (by omega)) ⟨rfl, rfl, ?_, rfl, trivial⟩
          first
            | (rw [mx_cnt_t (by unfold mx_hv; rw [h20, Bool.true_and, decide_eq_true_eq]; omega)]; rfl)
            | (rw [mx_cnt_f (by unfold mx_hv; rw [h20, Bool.true_and, decide_eq_false_iff_not]; omega)]; rfl)
            | (rw [mx_cnt_f (by unfold mx_hv; rw [h20, Bool.false_and])]; rfl)
        · first | refine ri_aload_n C dX4_heavier_23 rfl ?_ | refine ri_aload_nQ C dX4_heavier_23 rfl ?_ | refine ri_aload_nN C dX4_heavier_23 rfl ?_
          refine ri_iload_n C dX4_heavier_24 rfl ?_
          refine ri_bipush C dX4_heavier_25 kc_b6 ?_
          refine ri_callV C km_X4_of q3140 qs75 dX4_heavier_27 (mt_X4_of htr h0 hw (by omega)) rfl rfl (kx_rcN C (by first | assumption | (repeat (first | assumption | exact kx_rs (by assumption) | exact kx_ne2 (by omega) | exact kx_ne1 (by omega) | refine kx_ro (by assumption) ?_ ?_ | exact kx_rs rfl | refine kx_ro rfl ?_ ?_))) rfl) ⟨⟨(Nat.le_of_ble_eq_true rfl), (Nat.le_of_ble_eq_true rfl)⟩, (Nat.le_of_ble_eq_true rfl), (Nat.le_of_ble_eq_true rfl), (Nat.le_of_ble_eq_true rfl)⟩ (fun v27 s27 h27 => ?_) (fun _ _ _ h => h.elim)
          obtain ⟨rfl, rfl⟩ := h27
          first | refine ri_aload_n C dX4_heavier_30 rfl ?_ | refine ri_aload_nQ C dX4_heavier_30 rfl ?_ | refine ri_aload_nN C dX4_heavier_30 rfl ?_
          refine ri_iload_n C dX4_heavier_31 rfl ?_
          refine ri_bipush C dX4_heavier_32 kc_b6 ?_
          refine ri_callV C km_X4_of q3140 qs75 dX4_heavier_34 (mt_X4_of htr h0 hw (by omega)) rfl rfl (kx_rcN C (by first | assumption | (repeat (first | assumption | exact kx_rs (by assumption) | exact kx_ne2 (by omega) | exact kx_ne1 (by omega) | refine kx_ro (by assumption) ?_ ?_ | exact kx_rs rfl | refine kx_ro rfl ?_ ?_))) rfl) ⟨⟨(Nat.le_of_ble_eq_true rfl), (Nat.le_of_ble_eq_true rfl)⟩, (Nat.le_of_ble_eq_true rfl), (Nat.le_of_ble_eq_true rfl), (Nat.le_of_ble_eq_true rfl)⟩ (fun v34 s34 h34 => ?_) (fun _ _ _ h => h.elim)
          obtain ⟨rfl, rfl⟩ := h34
          first | refine ri_icmp_gtN C 62 dX4_heavier_37 rfl (by omega) (by omega) (fun h37 => ?_) (fun h37 => ?_) | refine ri_icmp_gt C 62 dX4_heavier_37 rfl (fun h37 => ?_) (fun h37 => ?_)
          · refine ri_iconst C dX4_heavier_62 kc_i1 ?_
            refine ri_goto C 67 dX4_heavier_63 rfl ?_
            refine ri_callS C km_X4_one q3247 dX4_heavier_67 (mt_X4_one htr (b := true)) rfl rfl ⟨⟨(Nat.le_of_ble_eq_true rfl), (Nat.le_of_ble_eq_true rfl)⟩, (Nat.le_of_ble_eq_true rfl), (Nat.le_of_ble_eq_true rfl), (Nat.le_of_ble_eq_true rfl)⟩ (fun v67 s67 h67 => ?_) (fun _ _ _ h => h.elim)
            obtain ⟨rfl, rfl⟩ := h67
            first | refine ri_iaddN C dX4_heavier_70 ?_ | refine ri_iadd C dX4_heavier_70 ?_
            refine ri_istore_n C dX4_heavier_71 rfl (by decide) ?_
            first | refine ri_iincN C dX4_heavier_72 rfl rfl (by decide) ?_ | refine ri_iinc C dX4_heavier_72 rfl rfl rfl (by decide) ?_
            refine ri_goto C 4 dX4_heavier_75 rfl ?_
            refine ri_lv2 (ih (i + 1) (by omega) (by omega)) ⟨rfl, rfl, ?_, rfl, trivial⟩
            first
              | (rw [mx_cnt_t (by unfold mx_hv; rw [h20, Bool.true_and, decide_eq_true_eq]; omega)]; rfl)
              | (rw [mx_cnt_f (by unfold mx_hv; rw [h20, Bool.true_and, decide_eq_false_iff_not]; omega)]; rfl)
              | (rw [mx_cnt_f (by unfold mx_hv; rw [h20, Bool.false_and])]; rfl)
          · first | refine ri_aload_n C dX4_heavier_40 rfl ?_ | refine ri_aload_nQ C dX4_heavier_40 rfl ?_ | refine ri_aload_nN C dX4_heavier_40 rfl ?_
            refine ri_iload_n C dX4_heavier_41 rfl ?_
            refine ri_bipush C dX4_heavier_42 kc_b6 ?_
            refine ri_callV C km_X4_of q3140 qs75 dX4_heavier_44 (mt_X4_of htr h0 hw (by omega)) rfl rfl (kx_rcN C (by first | assumption | (repeat (first | assumption | exact kx_rs (by assumption) | exact kx_ne2 (by omega) | exact kx_ne1 (by omega) | refine kx_ro (by assumption) ?_ ?_ | exact kx_rs rfl | refine kx_ro rfl ?_ ?_))) rfl) ⟨⟨(Nat.le_of_ble_eq_true rfl), (Nat.le_of_ble_eq_true rfl)⟩, (Nat.le_of_ble_eq_true rfl), (Nat.le_of_ble_eq_true rfl), (Nat.le_of_ble_eq_true rfl)⟩ (fun v44 s44 h44 => ?_) (fun _ _ _ h => h.elim)
            obtain ⟨rfl, rfl⟩ := h44
            first | refine ri_aload_n C dX4_heavier_47 rfl ?_ | refine ri_aload_nQ C dX4_heavier_47 rfl ?_ | refine ri_aload_nN C dX4_heavier_47 rfl ?_
            refine ri_iload_n C dX4_heavier_48 rfl ?_
            refine ri_bipush C dX4_heavier_49 kc_b6 ?_
            refine ri_callV C km_X4_of q3140 qs75 dX4_heavier_51 (mt_X4_of htr h0 hw (by omega)) rfl rfl (kx_rcN C (by first | assumption | (repeat (first | assumption | exact kx_rs (by assumption) | exact kx_ne2 (by omega) | exact kx_ne1 (by omega) | refine kx_ro (by assumption) ?_ ?_ | exact kx_rs rfl | refine kx_ro rfl ?_ ?_))) rfl) ⟨⟨(Nat.le_of_ble_eq_true rfl), (Nat.le_of_ble_eq_true rfl)⟩, (Nat.le_of_ble_eq_true rfl), (Nat.le_of_ble_eq_true rfl), (Nat.le_of_ble_eq_true rfl)⟩ (fun v51 s51 h51 => ?_) (fun _ _ _ h => h.elim)
            obtain ⟨rfl, rfl⟩ := h51
            first | refine ri_icmp_neN C 66 dX4_heavier_54 rfl (by omega) (by omega) (fun h54 => ?_) (fun h54 => ?_) | refine ri_icmp_ne C 66 dX4_heavier_54 rfl (fun h54 => ?_) (fun h54 => ?_)
            · refine ri_iconst C dX4_heavier_66 kc_i0 ?_
              refine ri_callS C km_X4_one q3247 dX4_heavier_67 (mt_X4_one htr (b := false)) rfl rfl ⟨⟨(Nat.le_of_ble_eq_true rfl), (Nat.le_of_ble_eq_true rfl)⟩, (Nat.le_of_ble_eq_true rfl), (Nat.le_of_ble_eq_true rfl), (Nat.le_of_ble_eq_true rfl)⟩ (fun v67 s67 h67 => ?_) (fun _ _ _ h => h.elim)
              obtain ⟨rfl, rfl⟩ := h67
              first | refine ri_iaddN C dX4_heavier_70 ?_ | refine ri_iadd C dX4_heavier_70 ?_
              refine ri_istore_n C dX4_heavier_71 rfl (by decide) ?_
              first | refine ri_iincN C dX4_heavier_72 rfl rfl (by decide) ?_ | refine ri_iinc C dX4_heavier_72 rfl rfl rfl (by decide) ?_
              refine ri_goto C 4 dX4_heavier_75 rfl ?_
              refine ri_lv2 (ih (i + 1) (by omega) (by omega)) ⟨rfl, rfl, ?_, rfl, trivial⟩
              first
                | (rw [mx_cnt_t (by unfold mx_hv; rw [h20, Bool.true_and, decide_eq_true_eq]; omega)]; rfl)
                | (rw [mx_cnt_f (by unfold mx_hv; rw [h20, Bool.true_and, decide_eq_false_iff_not]; omega)]; rfl)
                | (rw [mx_cnt_f (by unfold mx_hv; rw [h20, Bool.false_and])]; rfl)
            · refine ri_iload_n C dX4_heavier_57 rfl ?_
              refine ri_iload_n C dX4_heavier_58 rfl ?_
              first | refine ri_icmp_geN C 66 dX4_heavier_59 rfl (by omega) (by omega) (fun h59 => ?_) (fun h59 => ?_) | refine ri_icmp_ge C 66 dX4_heavier_59 rfl (fun h59 => ?_) (fun h59 => ?_)
              · refine ri_iconst C dX4_heavier_66 kc_i0 ?_
                refine ri_callS C km_X4_one q3247 dX4_heavier_67 (mt_X4_one htr (b := false)) rfl rfl ⟨⟨(Nat.le_of_ble_eq_true rfl), (Nat.le_of_ble_eq_true rfl)⟩, (Nat.le_of_ble_eq_true rfl), (Nat.le_of_ble_eq_true rfl), (Nat.le_of_ble_eq_true rfl)⟩ (fun v67 s67 h67 => ?_) (fun _ _ _ h => h.elim)
                obtain ⟨rfl, rfl⟩ := h67
                first | refine ri_iaddN C dX4_heavier_70 ?_ | refine ri_iadd C dX4_heavier_70 ?_
                refine ri_istore_n C dX4_heavier_71 rfl (by decide) ?_
                first | refine ri_iincN C dX4_heavier_72 rfl rfl (by decide) ?_ | refine ri_iinc C dX4_heavier_72 rfl rfl rfl (by decide) ?_
                refine ri_goto C 4 dX4_heavier_75 rfl ?_
                refine ri_lv2 (ih (i + 1) (by omega) (by omega)) ⟨rfl, rfl, ?_, rfl, trivial⟩
                first
                  | (rw [mx_cnt_t (by unfold mx_hv; rw [h20, Bool.true_and, decide_eq_true_eq]; omega)]; rfl)
                  | (rw [mx_cnt_f (by unfold mx_hv; rw [h20, Bool.true_and, decide_eq_false_iff_not]; omega)]; rfl)
                  | (rw [mx_cnt_f (by unfold mx_hv; rw [h20, Bool.false_and])]; rfl)
              · refine ri_iconst C dX4_heavier_62 kc_i1 ?_
                refine ri_goto C 67 dX4_heavier_63 rfl ?_
                refine ri_callS C km_X4_one q3247 dX4_heavier_67 (mt_X4_one htr (b := true)) rfl rfl ⟨⟨(Nat.le_of_ble_eq_true rfl), (Nat.le_of_ble_eq_true rfl)⟩, (Nat.le_of_ble_eq_true rfl), (Nat.le_of_ble_eq_true rfl), (Nat.le_of_ble_eq_true rfl)⟩ (fun v67 s67 h67 => ?_) (fun _ _ _ h => h.elim)
                obtain ⟨rfl, rfl⟩ := h67
                first | refine ri_iaddN C dX4_heavier_70 ?_ | refine ri_iadd C dX4_heavier_70 ?_
                refine ri_istore_n C dX4_heavier_71 rfl (by decide) ?_
                first | refine ri_iincN C dX4_heavier_72 rfl rfl (by decide) ?_ | refine ri_iinc C dX4_heavier_72 rfl rfl rfl (by decide) ?_
                refine ri_goto C 4 dX4_heavier_75 rfl ?_
                refine ri_lv2 (ih (i + 1) (by omega) (by omega)) ⟨rfl, rfl, ?_, rfl, trivial⟩
                first
                  | (rw [mx_cnt_t (by unfold mx_hv; rw [h20, Bool.true_and, decide_eq_true_eq]; omega)]; rfl)
                  | (rw [mx_cnt_f (by unfold mx_hv; rw [h20, Bool.true_and, decide_eq_false_iff_not]; omega)]; rfl)
                  | (rw [mx_cnt_f (by unfold mx_hv; rw [h20, Bool.false_and])]; rfl)
  refine ri_iconst C dX4_heavier_0 kc_i0 ?_
  refine ri_istore_n C dX4_heavier_1 rfl (by decide) ?_
  refine ri_iconst C dX4_heavier_2 kc_i0 ?_
  refine ri_istore_n C dX4_heavier_3 rfl (by decide) ?_
  exact ri_lv2 (LP (u 0 + 1) 0 (by omega) (by omega)) ⟨rfl, rfl, rfl, rfl, trivial⟩
set_option maxHeartbeats 1000000 in
theorem mt_X4_byWeight {l : Launch} {G : kx_G} (htr : l.stackTraces = false) {σ : kx_H} {mo : Nat} {ad : Nat → Nat} {z : Nat → Int32} {u : Nat → Nat} {x : Int32} (h0 : σ (1, 0) = some (mo, .inr (3, mo_L ad z))) (hw : σ (1, 1) = some (ad 0, kx_ai G 1417 (mx_w u))) (hu : mx_ok u) : kx_SP l G yX4_byWeight (ws_ yX4_byWeight cX4_byWeight 3 (some .int)) 4 0 0 [.ref mo, .int x] σ (fun v τ => v = some (.int (an_byw u x)) ∧ τ = kx_up σ (1, 0) (mo, .inr (3, mo_L ad (mo_z z 9 (nI 0))))) kx_nx := by
  refine kx_body htr (by decide +kernel) (own := "RoseProverbsModel") (nm := "byWeight") rfl rfl (Nat.le_of_ble_eq_true rfl) ?_
  intro p e s m args below meth c Q C hQ
  have gn := hu.1
  first | refine ri_aload_n C dX4_byWeight_0 rfl ?_ | refine ri_aload_nQ C dX4_byWeight_0 rfl ?_ | refine ri_aload_nN C dX4_byWeight_0 rfl ?_
  refine ri_iconst C dX4_byWeight_1 kc_i0 ?_
  refine ri_putf C dX4_byWeight_2 fd_q2979_3 (fun h => nomatch h) (by first | assumption | (repeat (first | assumption | exact kx_rs (by assumption) | exact kx_ne2 (by omega) | exact kx_ne1 (by omega) | refine kx_ro (by assumption) ?_ ?_ | exact kx_rs rfl | refine kx_ro rfl ?_ ?_))) (Nat.le_of_ble_eq_true rfl) (by rfl) (by rfl) mo_set9 (fun s2 e2 => ?_)
  refine ri_iconst C dX4_byWeight_5 kc_i0 ?_
  refine ri_istore_n C dX4_byWeight_6 rfl (by decide) ?_
  have LP : ∀ (wk i : Nat) , i ≤ u 0 → u 0 < i + wk → mx_fst (fun k => mx_live u k && decide (nI (mx_rk u k) = x)) i = none → kx_V G l p e (kx_rm 4 0 0) s m args below meth c 3 Q 7 [(0, .ref mo), (1, .int x), (2, .int (nI i))] [] s2 0 0 := by
    intro wk
    induction wk with
    | zero => intro i  h1 h2; exact absurd h2 (by omega)
    | succ wk ih =>
      intro i  hi hwk hI
      have g : i < u 0 → _ := hu.2.1 i
      refine ri_iload_n C dX4_byWeight_7 rfl ?_
      first | refine ri_aload_n C dX4_byWeight_8 rfl ?_ | refine ri_aload_nQ C dX4_byWeight_8 rfl ?_ | refine ri_aload_nN C dX4_byWeight_8 rfl ?_
      refine ri_getf C dX4_byWeight_9 fr_q2970_3 (by first | assumption | (repeat (first | assumption | exact kx_rs (by assumption) | exact kx_ne2 (by omega) | exact kx_ne1 (by omega) | refine kx_ro (by assumption) ?_ ?_ | exact kx_rs rfl | refine kx_ro rfl ?_ ?_))) (by rfl) ?_
      refine ri_iconst C dX4_byWeight_12 kc_i0 ?_
      first | refine ri_ialoadN C dX4_byWeight_13 (by first | assumption | (repeat (first | assumption | exact kx_rs (by assumption) | exact kx_ne2 (by omega) | exact kx_ne1 (by omega) | refine kx_ro (by assumption) ?_ ?_ | exact kx_rs rfl | refine kx_ro rfl ?_ ?_))) rfl (by omega) ?_ | refine ri_iaload C dX4_byWeight_13 (by first | assumption | (repeat (first | assumption | exact kx_rs (by assumption) | exact kx_ne2 (by omega) | exact kx_ne1 (by omega) | refine kx_ro (by assumption) ?_ ?_ | exact kx_rs rfl | refine kx_ro rfl ?_ ?_))) rfl (by omega) ?_
      first | refine ri_icmp_geN C 42 dX4_byWeight_14 rfl (by omega) (by omega) (fun h14 => ?_) (fun h14 => ?_) | refine ri_icmp_ge C 42 dX4_byWeight_14 rfl (fun h14 => ?_) (fun h14 => ?_)
      · refine ri_iconst C dX4_byWeight_42 kc_im1 ?_
        exact ri_iret C hQ dX4_byWeight_43 rfl (Nat.le_of_ble_eq_true rfl) (Nat.le_of_ble_eq_true rfl) (by unfold an_byw; rw [show u 0 = i by omega, hI]; exact ⟨rfl, by assumption⟩)
      · have g := g (by omega)
        first | refine ri_aload_n C dX4_byWeight_17 rfl ?_ | refine ri_aload_nQ C dX4_byWeight_17 rfl ?_ | refine ri_aload_nN C dX4_byWeight_17 rfl ?_
        refine ri_iload_n C dX4_byWeight_18 rfl ?_
        refine ri_callV C km_X4_isLive q3144 qs76 dX4_byWeight_19 (mt_X4_isLive htr (by first | assumption | (repeat (first | assumption | exact kx_rs (by assumption) | exact kx_ne2 (by omega) | exact kx_ne1 (by omega) | refine kx_ro (by assumption) ?_ ?_ | exact kx_rs rfl | refine kx_ro rfl ?_ ?_))) (by first | assumption | (repeat (first | assumption | exact kx_rs (by assumption) | exact kx_ne2 (by omega) | exact kx_ne1 (by omega) | refine kx_ro (by assumption) ?_ ?_ | exact kx_rs rfl | refine kx_ro rfl ?_ ?_))) (by omega) (by omega)) rfl rfl (kx_rcN C (by first | assumption | (repeat (first | assumption | exact kx_rs (by assumption) | exact kx_ne2 (by omega) | exact kx_ne1 (by omega) | refine kx_ro (by assumption) ?_ ?_ | exact kx_rs rfl | refine kx_ro rfl ?_ ?_))) rfl) ⟨⟨(Nat.le_of_ble_eq_true rfl), (Nat.le_of_ble_eq_true rfl)⟩, (Nat.le_of_ble_eq_true rfl), (Nat.le_of_ble_eq_true rfl), (Nat.le_of_ble_eq_true rfl)⟩ (fun v19 s19 h19 => ?_) (fun _ _ _ h => h.elim)
        obtain ⟨rfl, rfl⟩ := h19
        first | refine ri_if_eqB C 36 dX4_byWeight_22 rfl (fun h22 => ?_) (fun h22 => ?_) | refine ri_if_eqN C 36 dX4_byWeight_22 rfl (by omega) (fun h22 => ?_) (fun h22 => ?_) | refine ri_if_eq C 36 dX4_byWeight_22 rfl (fun h22 => ?_) (fun h22 => ?_)
        · first | refine ri_iincN C dX4_byWeight_36 rfl rfl (by decide) ?_ | refine ri_iinc C dX4_byWeight_36 rfl rfl rfl (by decide) ?_
          refine ri_goto C 7 dX4_byWeight_39 rfl ?_
          exact ri_lv2 (ih (i + 1) (by omega) (by omega) (mx_fst_s hI (by first | simp [h22, h31] | simp [h22]))) ⟨rfl, rfl, rfl, trivial⟩
        · first | refine ri_aload_n C dX4_byWeight_25 rfl ?_ | refine ri_aload_nQ C dX4_byWeight_25 rfl ?_ | refine ri_aload_nN C dX4_byWeight_25 rfl ?_
          refine ri_iload_n C dX4_byWeight_26 rfl ?_
          refine ri_callV C km_X4_heavier q3426 qs122 dX4_byWeight_27 (mt_X4_heavier htr (by first | assumption | (repeat (first | assumption | exact kx_rs (by assumption) | exact kx_ne2 (by omega) | exact kx_ne1 (by omega) | refine kx_ro (by assumption) ?_ ?_ | exact kx_rs rfl | refine kx_ro rfl ?_ ?_))) (by first | assumption | (repeat (first | assumption | exact kx_rs (by assumption) | exact kx_ne2 (by omega) | exact kx_ne1 (by omega) | refine kx_ro (by assumption) ?_ ?_ | exact kx_rs rfl | refine kx_ro rfl ?_ ?_))) hu (by omega)) rfl rfl (kx_rcN C (by first | assumption | (repeat (first | assumption | exact kx_rs (by assumption) | exact kx_ne2 (by omega) | exact kx_ne1 (by omega) | refine kx_ro (by assumption) ?_ ?_ | exact kx_rs rfl | refine kx_ro rfl ?_ ?_))) rfl) ⟨⟨(Nat.le_of_ble_eq_true rfl), (Nat.le_of_ble_eq_true rfl)⟩, (Nat.le_of_ble_eq_true rfl), (Nat.le_of_ble_eq_true rfl), (Nat.le_of_ble_eq_true rfl)⟩ (fun v27 s27 h27 => ?_) (fun _ _ _ h => h.elim)
          obtain ⟨rfl, rfl⟩ := h27
          refine ri_iload_n C dX4_byWeight_30 rfl ?_
          refine ri_icmp_ne C 36 dX4_byWeight_31 rfl (fun h31 => ?_) (fun h31 => ?_)
          · first | refine ri_iincN C dX4_byWeight_36 rfl rfl (by decide) ?_ | refine ri_iinc C dX4_byWeight_36 rfl rfl rfl (by decide) ?_
            refine ri_goto C 7 dX4_byWeight_39 rfl ?_
            exact ri_lv2 (ih (i + 1) (by omega) (by omega) (mx_fst_s hI (by first | simp [h22, h31] | simp [h22]))) ⟨rfl, rfl, rfl, trivial⟩
          · refine ri_iload_n C dX4_byWeight_34 rfl ?_
            exact ri_iret C hQ dX4_byWeight_35 rfl (Nat.le_of_ble_eq_true rfl) (Nat.le_of_ble_eq_true rfl) (by unfold an_byw; rw [mx_fst_t hI (by simp [h22, h31]) (u 0) (by omega)]; exact ⟨rfl, by assumption⟩)
  exact ri_lv2 (LP (u 0 + 1) 0 (by omega) (by omega) rfl) ⟨rfl, rfl, rfl, trivial⟩
