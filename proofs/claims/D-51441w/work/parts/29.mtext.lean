/-! the reference: reading its text -/
set_option maxRecDepth 100000
theorem pt_b_lt {inp : Nat → Nat} {N k c : Nat} (hby : ∀ k, k < N → inp k < 256) (h : pt_b inp N k = some c) : c < 256 := by
  unfold pt_b at h
  split at h
  · rename_i g; injection h with h; subst h; exact hby k g
  · cases h
set_option maxHeartbeats 1000000 in
theorem mt_X4_byteAt {l : Launch} {G : kx_G} (htr : l.stackTraces = false) {σ : kx_H} {mo : Nat} {ad : Nat → Nat} {z : Nat → Int32} {k : Nat} (h0 : σ (1, 0) = some (mo, .inr (3, mo_L ad z))) {inp : Nat → Nat} {N : Nat} (hin : σ (1, 11) = some (ad 10, kx_ai G 700 (mx_w inp))) (hN : z 11 = nI N) (hN7 : N ≤ 700) (hby : ∀ k, k < N → inp k < 256) (hk : k < 100000) : kx_SP l G yX4_byteAt (ws_ yX4_byteAt cX4_byteAt 2 (some .int)) 1 0 0 [.ref mo, .int (nI k)] σ (fun v τ => v = some (.int (mx_o (pt_b inp N k))) ∧ τ = σ) kx_nx := by
  refine kx_body htr (by decide +kernel) (own := "RoseProverbsModel") (nm := "byteAt") rfl rfl (Nat.le_of_ble_eq_true rfl) ?_
  intro p e s m args below meth c Q C hQ
  refine ri_iload_n C dX4_byteAt_0 rfl ?_
  first | refine ri_aload_n C dX4_byteAt_1 rfl ?_ | refine ri_aload_nQ C dX4_byteAt_1 rfl ?_ | refine ri_aload_nN C dX4_byteAt_1 rfl ?_
  refine ri_getf C dX4_byteAt_2 fr_q2981_3 (by first | assumption | (repeat (first | assumption | exact kx_rs (by assumption) | exact kx_ne2 (by omega) | exact kx_ne1 (by omega) | refine kx_ro (by assumption) ?_ ?_ | exact kx_rs rfl | refine kx_ro rfl ?_ ?_))) (by rfl) ?_
  rw [hN]
  first | refine ri_icmp_geN C 17 dX4_byteAt_5 rfl (by omega) (by omega) (fun h5 => ?_) (fun h5 => ?_) | refine ri_icmp_ge C 17 dX4_byteAt_5 rfl (fun h5 => ?_) (fun h5 => ?_)
  · refine ri_iconst C dX4_byteAt_17 kc_im1 ?_
    exact ri_iret C hQ dX4_byteAt_18 rfl (Nat.le_of_ble_eq_true rfl) (Nat.le_of_ble_eq_true rfl) (by refine ⟨congrArg (fun z => some (Value.int z)) ?_, rfl⟩; unfold pt_b; first | (rw [if_pos (by omega)]; rfl) | (rw [if_neg (by omega)]; rfl))
  · first | refine ri_aload_n C dX4_byteAt_8 rfl ?_ | refine ri_aload_nQ C dX4_byteAt_8 rfl ?_ | refine ri_aload_nN C dX4_byteAt_8 rfl ?_
    refine ri_getf C dX4_byteAt_9 fr_q2980_3 (by first | assumption | (repeat (first | assumption | exact kx_rs (by assumption) | exact kx_ne2 (by omega) | exact kx_ne1 (by omega) | refine kx_ro (by assumption) ?_ ?_ | exact kx_rs rfl | refine kx_ro rfl ?_ ?_))) (by rfl) ?_
    refine ri_iload_n C dX4_byteAt_12 rfl ?_
    first | refine ri_ialoadN C dX4_byteAt_13 (by first | assumption | (repeat (first | assumption | exact kx_rs (by assumption) | exact kx_ne2 (by omega) | exact kx_ne1 (by omega) | refine kx_ro (by assumption) ?_ ?_ | exact kx_rs rfl | refine kx_ro rfl ?_ ?_))) rfl (by omega) ?_ | refine ri_iaload C dX4_byteAt_13 (by first | assumption | (repeat (first | assumption | exact kx_rs (by assumption) | exact kx_ne2 (by omega) | exact kx_ne1 (by omega) | refine kx_ro (by assumption) ?_ ?_ | exact kx_rs rfl | refine kx_ro rfl ?_ ?_))) rfl (by omega) ?_
    refine ri_goto C 18 dX4_byteAt_14 rfl ?_
    exact ri_iret C hQ dX4_byteAt_18 rfl (Nat.le_of_ble_eq_true rfl) (Nat.le_of_ble_eq_true rfl) (by refine ⟨congrArg (fun z => some (Value.int z)) ?_, rfl⟩; unfold pt_b; first | (rw [if_pos (by omega)]; rfl) | (rw [if_neg (by omega)]; rfl))
set_option maxHeartbeats 1000000 in
theorem mt_X4_isLetter {l : Launch} {G : kx_G} (htr : l.stackTraces = false) {σ : kx_H} {mo : Nat} {ad : Nat → Nat} {z : Nat → Int32} {k : Nat} (h0 : σ (1, 0) = some (mo, .inr (3, mo_L ad z))) {inp : Nat → Nat} {N : Nat} (hin : σ (1, 11) = some (ad 10, kx_ai G 700 (mx_w inp))) (hN : z 11 = nI N) (hN7 : N ≤ 700) (hby : ∀ k, k < N → inp k < 256) (hk : k < 100000) : kx_SP l G yX4_isLetter (ws_ yX4_isLetter cX4_isLetter 2 (some .boolean)) 2 0 0 [.ref mo, .int (nI k)] σ (fun v τ => v = some (.int (kx_b (pt_al inp N k))) ∧ τ = σ) kx_nx := by
  refine kx_body htr (by decide +kernel) (own := "RoseProverbsModel") (nm := "isLetter") rfl rfl (Nat.le_of_ble_eq_true rfl) ?_
  intro p e s m args below meth c Q C hQ
  first | refine ri_aload_n C dX4_isLetter_0 rfl ?_ | refine ri_aload_nQ C dX4_isLetter_0 rfl ?_ | refine ri_aload_nN C dX4_isLetter_0 rfl ?_
  refine ri_iload_n C dX4_isLetter_1 rfl ?_
  refine ri_callV C km_X4_byteAt q3089 qs63 dX4_isLetter_2 (mt_X4_byteAt htr h0 hin hN hN7 hby hk) rfl rfl (kx_rcN C (by first | assumption | (repeat (first | assumption | exact kx_rs (by assumption) | exact kx_ne2 (by omega) | exact kx_ne1 (by omega) | refine kx_ro (by assumption) ?_ ?_ | exact kx_rs rfl | refine kx_ro rfl ?_ ?_))) rfl) ⟨⟨(Nat.le_of_ble_eq_true rfl), (Nat.le_of_ble_eq_true rfl)⟩, (Nat.le_of_ble_eq_true rfl), (Nat.le_of_ble_eq_true rfl), (Nat.le_of_ble_eq_true rfl)⟩ (fun v2 s2 h2 => ?_) (fun _ _ _ h => h.elim)
  obtain ⟨rfl, rfl⟩ := h2
  refine ri_bipush C dX4_isLetter_5 kc_b97 ?_
  refine ri_bipush C dX4_isLetter_7 kc_b122 ?_
  refine ri_callS C km_X4_inRange q3071 dX4_isLetter_9 (mt_X4_inRange htr) rfl rfl ⟨⟨(Nat.le_of_ble_eq_true rfl), (Nat.le_of_ble_eq_true rfl)⟩, (Nat.le_of_ble_eq_true rfl), (Nat.le_of_ble_eq_true rfl), (Nat.le_of_ble_eq_true rfl)⟩ (fun v9 s9 h9 => ?_) (fun _ _ _ h => h.elim)
  obtain ⟨rfl, rfl⟩ := h9
  rw [pt_in_0 (fun c => pt_b_lt hby) (by decide) (by decide)]
  exact ri_iret C hQ dX4_isLetter_12 (kx_b_nar _) (Nat.le_of_ble_eq_true rfl) (Nat.le_of_ble_eq_true rfl) ⟨rfl, rfl⟩
theorem mo_tok_g16 {z : Nat → Int32} {a b c d : Int32} : mo_tok z a b c d 16 = a := rfl
theorem mo_tok_g17 {z : Nat → Int32} {a b c d : Int32} : mo_tok z a b c d 17 = b := rfl
theorem mo_tok_g18 {z : Nat → Int32} {a b c d : Int32} : mo_tok z a b c d 18 = c := rfl
theorem mo_tok_g19 {z : Nat → Int32} {a b c d : Int32} : mo_tok z a b c d 19 = d := rfl
theorem pt_is {inp : Nat → Nat} {N k c : Nat} (hby : ∀ k, k < N → inp k < 256) (hc : c < 1000) (h : mx_o (pt_b inp N k) = nI c) : pt_b inp N k = some c := ((pt_b_is hby).mp h).1 (by omega)
theorem pt_isn {inp : Nat → Nat} {N k c : Nat} (h : ¬ mx_o (pt_b inp N k) = nI c) : ¬ pt_b inp N k = some c := fun e => h (by rw [e]; rfl)
theorem pt_end_is {P : Nat → Bool} {p q : Nat} (h1 : p ≤ q) (h2 : q ≤ 700) (h3 : ∀ k, p ≤ k → k < q → P k = true) (h4 : P q = false) : pt_past P 1000 p = q := pt_past_is h1 (by omega) h3 h4
theorem pt_adv_n {inp : Nat → Nat} {N s : Nat} (h : pt_b inp N s = none) : pt_e inp N s = s ∧ pt_k inp N s = 0 ∧ pt_v inp N s = 0 := by
  have hd : pt_di inp N s = false := by unfold pt_di; rw [h]; rfl
  refine ⟨by unfold pt_e; rw [h], by unfold pt_k; rw [h], by unfold pt_v; rw [hd]; rfl⟩
theorem pt_al_b {inp : Nat → Nat} {N k : Nat} (h : pt_al inp N k = true) : k < N ∧ 97 ≤ inp k ∧ inp k ≤ 122 := by
  unfold pt_al pt_b at h
  by_cases g : k < N
  · rw [if_pos g] at h
    have := of_decide_eq_true h
    omega
  · rw [if_neg g] at h; exact absurd h (by decide)
theorem pt_adv_a {inp : Nat → Nat} {N s e : Nat} (h : pt_al inp N s = true) (he : pt_past (pt_al inp N) 1000 s = e) : pt_e inp N s = e ∧ pt_k inp N s = (if 8 < e - s then 4 else 1) ∧ pt_v inp N s = 0 := by
  have hs := pt_al_b h
  have hb : pt_b inp N s = some (inp s) := if_pos hs.1
  have hd : pt_di inp N s = false := by unfold pt_di; rw [hb]; exact decide_eq_false (by omega)
  have h1 : pt_e inp N s = e := by unfold pt_e; rw [hb, h, he]; rfl
  refine ⟨h1, by unfold pt_k; rw [hb, h, h1]; rfl, by unfold pt_v; rw [hd]; rfl⟩
theorem pt_adv_d {inp : Nat → Nat} {N s e : Nat} (h : pt_di inp N s = true) (he : pt_past (pt_di inp N) 1000 s = e) : pt_e inp N s = e ∧ pt_k inp N s = (if 3 < e - s then 4 else 2) ∧ pt_v inp N s = pt_num inp s (Nat.min 3 (e - s)) := by
  have hs := pt_di_b h
  have hb : pt_b inp N s = some (inp s) := if_pos hs.1
  have ha : pt_al inp N s = false := by unfold pt_al; rw [hb]; exact decide_eq_false (by omega)
  have h1 : pt_e inp N s = e := by unfold pt_e; rw [hb, ha, h, he]; rfl
  refine ⟨h1, by unfold pt_k; rw [hb, ha, h, h1]; rfl, by unfold pt_v; rw [h, h1]; rfl⟩
theorem pt_adv_o {inp : Nat → Nat} {N s c : Nat} (hb : pt_b inp N s = some c) (ha : pt_al inp N s = false) (hd : pt_di inp N s = false) : pt_e inp N s = s + 1 ∧ pt_k inp N s = (if c = 59 then 3 else 4) ∧ pt_v inp N s = 0 := by
  refine ⟨by unfold pt_e; rw [hb, ha, hd]; rfl, by unfold pt_k; rw [hb, ha, hd]; rfl, by unfold pt_v; rw [hd]; rfl⟩
theorem pt_num_1 {inp : Nat → Nat} {i j : Nat} (hij : i ≤ j) (h : j - i < 3) (h48 : 48 ≤ inp j) : 10 * pt_num inp i (Nat.min 3 (j - i)) + inp j - 48 = pt_num inp i (Nat.min 3 (j + 1 - i)) := by
  obtain ⟨n, rfl⟩ : ∃ n, j = i + n := ⟨j - i, by omega⟩
  have e1 : Nat.min 3 (i + n - i) = n := by rw [mx_mn]; split <;> omega
  have e2 : Nat.min 3 (i + n + 1 - i) = n + 1 := by rw [mx_mn]; split <;> omega
  rw [e1, e2, pt_num]; omega
theorem pt_num_2 {inp : Nat → Nat} {i j : Nat} (h : ¬ j - i < 3) : pt_num inp i (Nat.min 3 (j - i)) = pt_num inp i (Nat.min 3 (j + 1 - i)) := by
  have e1 : Nat.min 3 (j - i) = 3 := by rw [mx_mn]; split <;> omega
  have e2 : Nat.min 3 (j + 1 - i) = 3 := by rw [mx_mn]; split <;> omega
  rw [e1, e2]
set_option maxHeartbeats 1000000 in
theorem mt_X4_advanceToken {l : Launch} {G : kx_G} (htr : l.stackTraces = false) {σ : kx_H} {mo : Nat} {ad : Nat → Nat} {z : Nat → Int32} {q : Nat} (h0 : σ (1, 0) = some (mo, .inr (3, mo_L ad z))) {inp : Nat → Nat} {N : Nat} (hin : σ (1, 11) = some (ad 10, kx_ai G 700 (mx_w inp))) (hN : z 11 = nI N) (hN7 : N ≤ 700) (hby : ∀ k, k < N → inp k < 256) (hz : z 16 = nI q) (hq : q ≤ N) : kx_SP l G yX4_advanceToken (ws_ yX4_advanceToken cX4_advanceToken 2 none) 3 0 0 [.ref mo] σ (fun v τ => v = none ∧ τ = kx_up σ (1, 0) (mo, .inr (3, mo_L ad (mo_adv z inp N q)))) kx_nx := by
  refine kx_body htr (by decide +kernel) (own := "RoseProverbsModel") (nm := "advanceToken") rfl rfl (Nat.le_of_ble_eq_true rfl) ?_
  intro p e s m args below meth c Q C hQ
  have hNt : ∀ a b c d, mo_tok z a b c d 11 = nI N := fun a b c d => hN
  have LA : ∀ (wk i : Nat) (τ : kx_H), i ≤ N → N < i + wk → (τ = kx_up σ (1, 0) (mo, .inr (3, mo_L ad (mo_tok z (nI i) (z 17) (z 18) (z 19)))) ∧ q ≤ i ∧ ∀ k, q ≤ k → k < i → pt_sp inp N k = true) → kx_V G l p e (kx_rm 3 0 0) s m args below meth c 2 Q 0 [(0, .ref mo)] [] τ 0 0 := by
    intro wk
    induction wk with
    | zero => intro i τ h1 h2; exact absurd h2 (by omega)
    | succ wk ih =>
      intro i τ hi hwk hI
      obtain ⟨hT, hq, hall⟩ := hI
      have hI := And.intro hT (And.intro hq hall)
      have hlt : pt_sp inp N i = true → i < N := fun h => by by_cases g : i < N; exact g; rw [pt_sp_N i (by omega)] at h; exact absurd h (by decide)
      first | refine ri_aload_n C dX4_advanceToken_0 rfl ?_ | refine ri_aload_nQ C dX4_advanceToken_0 rfl ?_ | refine ri_aload_nN C dX4_advanceToken_0 rfl ?_
      first | refine ri_aload_n C dX4_advanceToken_1 rfl ?_ | refine ri_aload_nQ C dX4_advanceToken_1 rfl ?_ | refine ri_aload_nN C dX4_advanceToken_1 rfl ?_
      refine ri_getf C dX4_advanceToken_2 fr_q2986_3 (by first | assumption | (repeat (first | assumption | exact kx_rs (by assumption) | exact kx_ne2 (by omega) | exact kx_ne1 (by omega) | refine kx_ro (by assumption) ?_ ?_ | exact kx_rs rfl | refine kx_ro rfl ?_ ?_))) (by rfl) ?_
      rw [mo_tok_g16]
      refine ri_callV C km_X4_byteAt q3089 qs63 dX4_advanceToken_5 (mt_X4_byteAt htr (by first | assumption | (repeat (first | assumption | exact kx_rs (by assumption) | exact kx_ne2 (by omega) | exact kx_ne1 (by omega) | refine kx_ro (by assumption) ?_ ?_ | exact kx_rs rfl | refine kx_ro rfl ?_ ?_))) (by first | assumption | (repeat (first | assumption | exact kx_rs (by assumption) | exact kx_ne2 (by omega) | exact kx_ne1 (by omega) | refine kx_ro (by assumption) ?_ ?_ | exact kx_rs rfl | refine kx_ro rfl ?_ ?_))) (hNt _ _ _ _) hN7 hby (by omega)) rfl rfl (kx_rcN C (by first | assumption | (repeat (first | assumption | exact kx_rs (by assumption) | exact kx_ne2 (by omega) | exact kx_ne1 (by omega) | refine kx_ro (by assumption) ?_ ?_ | exact kx_rs rfl | refine kx_ro rfl ?_ ?_))) rfl) ⟨⟨(Nat.le_of_ble_eq_true rfl), (Nat.le_of_ble_eq_true rfl)⟩, (Nat.le_of_ble_eq_true rfl), (Nat.le_of_ble_eq_true rfl), (Nat.le_of_ble_eq_true rfl)⟩ (fun v5 s5 h5 => ?_) (fun _ _ _ h => h.elim)
      obtain ⟨rfl, rfl⟩ := h5
      refine ri_bipush C dX4_advanceToken_8 kc_b32 ?_
      refine ri_icmp_eq C 26 dX4_advanceToken_10 rfl (fun h10 => ?_) (fun h10 => ?_)
      · have hs : pt_sp inp N i = true := by unfold pt_sp; rw [pt_is hby (by decide) h10]; rfl
        first | refine ri_aload_n C dX4_advanceToken_26 rfl ?_ | refine ri_aload_nQ C dX4_advanceToken_26 rfl ?_ | refine ri_aload_nN C dX4_advanceToken_26 rfl ?_
        refine ri_dup C dX4_advanceToken_27 rfl ?_
        refine ri_getf C dX4_advanceToken_28 fr_q2986_3 (by first | assumption | (repeat (first | assumption | exact kx_rs (by assumption) | exact kx_ne2 (by omega) | exact kx_ne1 (by omega) | refine kx_ro (by assumption) ?_ ?_ | exact kx_rs rfl | refine kx_ro rfl ?_ ?_))) (by rfl) ?_
        rw [mo_tok_g16]
        refine ri_iconst C dX4_advanceToken_31 kc_i1 ?_
        first | refine ri_iaddN C dX4_advanceToken_32 ?_ | refine ri_iadd C dX4_advanceToken_32 ?_
        refine ri_putf C dX4_advanceToken_33 fd_q2986_3 (fun h => nomatch h) (by first | assumption | (repeat (first | assumption | exact kx_rs (by assumption) | exact kx_ne2 (by omega) | exact kx_ne1 (by omega) | refine kx_ro (by assumption) ?_ ?_ | exact kx_rs rfl | refine kx_ro rfl ?_ ?_))) (Nat.le_of_ble_eq_true rfl) (by rfl) (by rfl) mo_set16 (fun s33 e33 => ?_)
        rw [mo_tok_16] at e33
        refine ri_goto C 0 dX4_advanceToken_36 rfl ?_
        have hlt := hlt hs
        refine ri_lv2 (ih (i + 1) _ (by omega) (by omega) ⟨?_, by omega, fun k h1 h2 => ?_⟩) ⟨rfl, trivial⟩
        · rw [e33, hT, kx_up_u]
        · by_cases c : k = i
          · subst c; exact hs
          · exact hall k h1 (by omega)
      · have n10 := pt_isn h10
        first | refine ri_aload_n C dX4_advanceToken_13 rfl ?_ | refine ri_aload_nQ C dX4_advanceToken_13 rfl ?_ | refine ri_aload_nN C dX4_advanceToken_13 rfl ?_
        first | refine ri_aload_n C dX4_advanceToken_14 rfl ?_ | refine ri_aload_nQ C dX4_advanceToken_14 rfl ?_ | refine ri_aload_nN C dX4_advanceToken_14 rfl ?_
        refine ri_getf C dX4_advanceToken_15 fr_q2986_3 (by first | assumption | (repeat (first | assumption | exact kx_rs (by assumption) | exact kx_ne2 (by omega) | exact kx_ne1 (by omega) | refine kx_ro (by assumption) ?_ ?_ | exact kx_rs rfl | refine kx_ro rfl ?_ ?_))) (by rfl) ?_
        rw [mo_tok_g16]
        refine ri_callV C km_X4_byteAt q3089 qs63 dX4_advanceToken_18 (mt_X4_byteAt htr (by first | assumption | (repeat (first | assumption | exact kx_rs (by assumption) | exact kx_ne2 (by omega) | exact kx_ne1 (by omega) | refine kx_ro (by assumption) ?_ ?_ | exact kx_rs rfl | refine kx_ro rfl ?_ ?_))) (by first | assumption | (repeat (first | assumption | exact kx_rs (by assumption) | exact kx_ne2 (by omega) | exact kx_ne1 (by omega) | refine kx_ro (by assumption) ?_ ?_ | exact kx_rs rfl | refine kx_ro rfl ?_ ?_))) (hNt _ _ _ _) hN7 hby (by omega)) rfl rfl (kx_rcN C (by first | assumption | (repeat (first | assumption | exact kx_rs (by assumption) | exact kx_ne2 (by omega) | exact kx_ne1 (by omega) | refine kx_ro (by assumption) ?_ ?_ | exact kx_rs rfl | refine kx_ro rfl ?_ ?_))) rfl) ⟨⟨(Nat.le_of_ble_eq_true rfl), (Nat.le_of_ble_eq_true rfl)⟩, (Nat.le_of_ble_eq_true rfl), (Nat.le_of_ble_eq_true rfl), (Nat.le_of_ble_eq_true rfl)⟩ (fun v18 s18 h18 => ?_) (fun _ _ _ h => h.elim)
        obtain ⟨rfl, rfl⟩ := h18
        refine ri_bipush C dX4_advanceToken_21 kc_b10 ?_
        refine ri_icmp_ne C 39 dX4_advanceToken_23 rfl (fun h23 => ?_) (fun h23 => ?_)
        · have n23 := pt_isn h23
          have hs : pt_sp inp N i = false := by unfold pt_sp; rw [decide_eq_false n10, decide_eq_false n23]; rfl
          have es : pt_s inp N q = i := pt_end_is hI.2.1 (by omega) hI.2.2 hs
          first | refine ri_aload_n C dX4_advanceToken_39 rfl ?_ | refine ri_aload_nQ C dX4_advanceToken_39 rfl ?_ | refine ri_aload_nN C dX4_advanceToken_39 rfl ?_
          first | refine ri_aload_n C dX4_advanceToken_40 rfl ?_ | refine ri_aload_nQ C dX4_advanceToken_40 rfl ?_ | refine ri_aload_nN C dX4_advanceToken_40 rfl ?_
          refine ri_getf C dX4_advanceToken_41 fr_q2986_3 (by first | assumption | (repeat (first | assumption | exact kx_rs (by assumption) | exact kx_ne2 (by omega) | exact kx_ne1 (by omega) | refine kx_ro (by assumption) ?_ ?_ | exact kx_rs rfl | refine kx_ro rfl ?_ ?_))) (by rfl) ?_
          rw [mo_tok_g16]
          refine ri_putf C dX4_advanceToken_44 fd_q2987_3 (fun h => nomatch h) (by first | assumption | (repeat (first | assumption | exact kx_rs (by assumption) | exact kx_ne2 (by omega) | exact kx_ne1 (by omega) | refine kx_ro (by assumption) ?_ ?_ | exact kx_rs rfl | refine kx_ro rfl ?_ ?_))) (Nat.le_of_ble_eq_true rfl) (by rfl) (by rfl) mo_set17 (fun s44 e44 => ?_)
          rw [mo_tok_17] at e44
          first | refine ri_aload_n C dX4_advanceToken_47 rfl ?_ | refine ri_aload_nQ C dX4_advanceToken_47 rfl ?_ | refine ri_aload_nN C dX4_advanceToken_47 rfl ?_
          first | refine ri_aload_n C dX4_advanceToken_48 rfl ?_ | refine ri_aload_nQ C dX4_advanceToken_48 rfl ?_ | refine ri_aload_nN C dX4_advanceToken_48 rfl ?_
          refine ri_getf C dX4_advanceToken_49 fr_q2986_3 (by first | assumption | (repeat (first | assumption | exact kx_rs (by assumption) | exact kx_ne2 (by omega) | exact kx_ne1 (by omega) | refine kx_ro (by assumption) ?_ ?_ | exact kx_rs rfl | refine kx_ro rfl ?_ ?_))) (by rfl) ?_
          rw [mo_tok_g16]
          refine ri_callV C km_X4_byteAt q3089 qs63 dX4_advanceToken_52 (mt_X4_byteAt htr (by first | assumption | (repeat (first | assumption | exact kx_rs (by assumption) | exact kx_ne2 (by omega) | exact kx_ne1 (by omega) | refine kx_ro (by assumption) ?_ ?_ | exact kx_rs rfl | refine kx_ro rfl ?_ ?_))) (by first | assumption | (repeat (first | assumption | exact kx_rs (by assumption) | exact kx_ne2 (by omega) | exact kx_ne1 (by omega) | refine kx_ro (by assumption) ?_ ?_ | exact kx_rs rfl | refine kx_ro rfl ?_ ?_))) (hNt _ _ _ _) hN7 hby (by omega)) rfl rfl (kx_rcN C (by first | assumption | (repeat (first | assumption | exact kx_rs (by assumption) | exact kx_ne2 (by omega) | exact kx_ne1 (by omega) | refine kx_ro (by assumption) ?_ ?_ | exact kx_rs rfl | refine kx_ro rfl ?_ ?_))) rfl) ⟨⟨(Nat.le_of_ble_eq_true rfl), (Nat.le_of_ble_eq_true rfl)⟩, (Nat.le_of_ble_eq_true rfl), (Nat.le_of_ble_eq_true rfl), (Nat.le_of_ble_eq_true rfl)⟩ (fun v52 s52 h52 => ?_) (fun _ _ _ h => h.elim)
          obtain ⟨rfl, rfl⟩ := h52
          refine ri_istore_n C dX4_advanceToken_55 rfl (by decide) ?_
          first | refine ri_aload_n C dX4_advanceToken_56 rfl ?_ | refine ri_aload_nQ C dX4_advanceToken_56 rfl ?_ | refine ri_aload_nN C dX4_advanceToken_56 rfl ?_
          refine ri_iconst C dX4_advanceToken_57 kc_i0 ?_
          refine ri_putf C dX4_advanceToken_58 fd_q2988_3 (fun h => nomatch h) (by first | assumption | (repeat (first | assumption | exact kx_rs (by assumption) | exact kx_ne2 (by omega) | exact kx_ne1 (by omega) | refine kx_ro (by assumption) ?_ ?_ | exact kx_rs rfl | refine kx_ro rfl ?_ ?_))) (Nat.le_of_ble_eq_true rfl) (by rfl) (by rfl) mo_set18 (fun s58 e58 => ?_)
          rw [mo_tok_18] at e58
          refine ri_iload_n C dX4_advanceToken_61 rfl ?_
          refine ri_iconst C dX4_advanceToken_62 kc_im1 ?_
          refine ri_icmp_ne C 74 dX4_advanceToken_63 rfl (fun h63 => ?_) (fun h63 => ?_)
          · obtain ⟨ch, hbc⟩ : ∃ ch, pt_b inp N i = some ch := (by cases hq2 : pt_b inp N i with | none => rw [hq2] at h63; exact absurd rfl h63 | some ch => exact ⟨ch, rfl⟩)
            have hc256 := pt_b_lt hby hbc
            have hiN : i < N := by by_cases g : i < N; exact g; rw [pt_b_N (by omega)] at hbc; cases hbc
            first | refine ri_aload_n C dX4_advanceToken_74 rfl ?_ | refine ri_aload_nQ C dX4_advanceToken_74 rfl ?_ | refine ri_aload_nN C dX4_advanceToken_74 rfl ?_
            first | refine ri_aload_n C dX4_advanceToken_75 rfl ?_ | refine ri_aload_nQ C dX4_advanceToken_75 rfl ?_ | refine ri_aload_nN C dX4_advanceToken_75 rfl ?_
            refine ri_getf C dX4_advanceToken_76 fr_q2986_3 (by first | assumption | (repeat (first | assumption | exact kx_rs (by assumption) | exact kx_ne2 (by omega) | exact kx_ne1 (by omega) | refine kx_ro (by assumption) ?_ ?_ | exact kx_rs rfl | refine kx_ro rfl ?_ ?_))) (by rfl) ?_
            rw [mo_tok_g16]
            refine ri_callV C km_X4_isLetter q3093 qs64 dX4_advanceToken_79 (mt_X4_isLetter htr (by first | assumption | (repeat (first | assumption | exact kx_rs (by assumption) | exact kx_ne2 (by omega) | exact kx_ne1 (by omega) | refine kx_ro (by assumption) ?_ ?_ | exact kx_rs rfl | refine kx_ro rfl ?_ ?_))) (by first | assumption | (repeat (first | assumption | exact kx_rs (by assumption) | exact kx_ne2 (by omega) | exact kx_ne1 (by omega) | refine kx_ro (by assumption) ?_ ?_ | exact kx_rs rfl | refine kx_ro rfl ?_ ?_))) (hNt _ _ _ _) hN7 hby (by omega)) rfl rfl (kx_rcN C (by first | assumption | (repeat (first | assumption | exact kx_rs (by assumption) | exact kx_ne2 (by omega) | exact kx_ne1 (by omega) | refine kx_ro (by assumption) ?_ ?_ | exact kx_rs rfl | refine kx_ro rfl ?_ ?_))) rfl) ⟨⟨(Nat.le_of_ble_eq_true rfl), (Nat.le_of_ble_eq_true rfl)⟩, (Nat.le_of_ble_eq_true rfl), (Nat.le_of_ble_eq_true rfl), (Nat.le_of_ble_eq_true rfl)⟩ (fun v79 s79 h79 => ?_) (fun _ _ _ h => h.elim)
            obtain ⟨rfl, rfl⟩ := h79
            first | refine ri_if_eqB C 135 dX4_advanceToken_82 rfl (fun h82 => ?_) (fun h82 => ?_) | refine ri_if_eqN C 135 dX4_advanceToken_82 rfl (by omega) (fun h82 => ?_) (fun h82 => ?_) | refine ri_if_eq C 135 dX4_advanceToken_82 rfl (fun h82 => ?_) (fun h82 => ?_)
            · refine ri_iload_n C dX4_advanceToken_135 rfl ?_
              refine ri_bipush C dX4_advanceToken_136 kc_b48 ?_
              refine ri_bipush C dX4_advanceToken_138 kc_b57 ?_
              refine ri_callS C km_X4_inRange q3071 dX4_advanceToken_140 (mt_X4_inRange htr) rfl rfl ⟨⟨(Nat.le_of_ble_eq_true rfl), (Nat.le_of_ble_eq_true rfl)⟩, (Nat.le_of_ble_eq_true rfl), (Nat.le_of_ble_eq_true rfl), (Nat.le_of_ble_eq_true rfl)⟩ (fun v140 s140 h140 => ?_) (fun _ _ _ h => h.elim)
              obtain ⟨rfl, rfl⟩ := h140
              rw [pt_in_0 (fun c => pt_b_lt hby) (by decide) (by decide), show pt_in 48 57 (pt_b inp N i) = pt_di inp N i from rfl]
              first | refine ri_if_eqB C 245 dX4_advanceToken_143 rfl (fun h143 => ?_) (fun h143 => ?_) | refine ri_if_eqN C 245 dX4_advanceToken_143 rfl (by omega) (fun h143 => ?_) (fun h143 => ?_) | refine ri_if_eq C 245 dX4_advanceToken_143 rfl (fun h143 => ?_) (fun h143 => ?_)
              · first | refine ri_aload_n C dX4_advanceToken_245 rfl ?_ | refine ri_aload_nQ C dX4_advanceToken_245 rfl ?_ | refine ri_aload_nN C dX4_advanceToken_245 rfl ?_
                refine ri_iload_n C dX4_advanceToken_246 rfl ?_
                obtain ⟨f1, f2, f3⟩ := pt_adv_o hbc h82 h143
                rw [show mx_o (pt_b inp N i) = nI ch by rw [hbc]; rfl]
                refine ri_bipush C dX4_advanceToken_247 kc_b59 ?_
                first | refine ri_icmp_neN C 256 dX4_advanceToken_249 rfl (by omega) (by omega) (fun h249 => ?_) (fun h249 => ?_) | refine ri_icmp_ne C 256 dX4_advanceToken_249 rfl (fun h249 => ?_) (fun h249 => ?_)
                · refine ri_iconst C dX4_advanceToken_256 kc_i4 ?_
                  refine ri_putf C dX4_advanceToken_257 fd_q2989_3 (fun h => nomatch h) (by first | assumption | (repeat (first | assumption | exact kx_rs (by assumption) | exact kx_ne2 (by omega) | exact kx_ne1 (by omega) | refine kx_ro (by assumption) ?_ ?_ | exact kx_rs rfl | refine kx_ro rfl ?_ ?_))) (Nat.le_of_ble_eq_true rfl) (by rfl) (by rfl) mo_set19 (fun s257 e257 => ?_)
                  rw [mo_tok_19] at e257
                  first | refine ri_aload_n C dX4_advanceToken_260 rfl ?_ | refine ri_aload_nQ C dX4_advanceToken_260 rfl ?_ | refine ri_aload_nN C dX4_advanceToken_260 rfl ?_
                  refine ri_dup C dX4_advanceToken_261 rfl ?_
                  refine ri_getf C dX4_advanceToken_262 fr_q2986_3 (by first | assumption | (repeat (first | assumption | exact kx_rs (by assumption) | exact kx_ne2 (by omega) | exact kx_ne1 (by omega) | refine kx_ro (by assumption) ?_ ?_ | exact kx_rs rfl | refine kx_ro rfl ?_ ?_))) (by rfl) ?_
                  rw [mo_tok_g16]
                  refine ri_iconst C dX4_advanceToken_265 kc_i1 ?_
                  first | refine ri_iaddN C dX4_advanceToken_266 ?_ | refine ri_iadd C dX4_advanceToken_266 ?_
                  refine ri_putf C dX4_advanceToken_267 fd_q2986_3 (fun h => nomatch h) (by first | assumption | (repeat (first | assumption | exact kx_rs (by assumption) | exact kx_ne2 (by omega) | exact kx_ne1 (by omega) | refine kx_ro (by assumption) ?_ ?_ | exact kx_rs rfl | refine kx_ro rfl ?_ ?_))) (Nat.le_of_ble_eq_true rfl) (by rfl) (by rfl) mo_set16 (fun s267 e267 => ?_)
                  rw [mo_tok_16] at e267
                  refine ri_vret C hQ dX4_advanceToken_270 (Nat.le_of_ble_eq_true rfl) (Nat.le_of_ble_eq_true rfl) ⟨rfl, ?_⟩
                  first
                    | (rw [e68, e58, e44, hT]; simp only [kx_up_u]; unfold mo_adv; rw [es, f1, f2, f3]; done)
                    | (rw [e129, hU]; simp only [kx_up_u]; unfold mo_adv; rw [es, f1, f2, f3]; first | rw [if_pos (by omega)] | rw [if_neg (by omega)])
                    | (rw [e239, hU]; simp only [kx_up_u]; unfold mo_adv; rw [es, f1, f2, f3]; first | rw [if_pos (by omega)] | rw [if_neg (by omega)])
                    | (rw [e267, e257, e58, e44, hT]; simp only [kx_up_u]; unfold mo_adv; rw [es, f1, f2, f3]; first | rw [if_pos (by omega)] | rw [if_neg (by omega)])
                · refine ri_iconst C dX4_advanceToken_252 kc_i3 ?_
                  refine ri_goto C 257 dX4_advanceToken_253 rfl ?_
                  refine ri_putf C dX4_advanceToken_257 fd_q2989_3 (fun h => nomatch h) (by first | assumption | (repeat (first | assumption | exact kx_rs (by assumption) | exact kx_ne2 (by omega) | exact kx_ne1 (by omega) | refine kx_ro (by assumption) ?_ ?_ | exact kx_rs rfl | refine kx_ro rfl ?_ ?_))) (Nat.le_of_ble_eq_true rfl) (by rfl) (by rfl) mo_set19 (fun s257 e257 => ?_)
                  rw [mo_tok_19] at e257
                  first | refine ri_aload_n C dX4_advanceToken_260 rfl ?_ | refine ri_aload_nQ C dX4_advanceToken_260 rfl ?_ | refine ri_aload_nN C dX4_advanceToken_260 rfl ?_
                  refine ri_dup C dX4_advanceToken_261 rfl ?_
                  refine ri_getf C dX4_advanceToken_262 fr_q2986_3 (by first | assumption | (repeat (first | assumption | exact kx_rs (by assumption) | exact kx_ne2 (by omega) | exact kx_ne1 (by omega) | refine kx_ro (by assumption) ?_ ?_ | exact kx_rs rfl | refine kx_ro rfl ?_ ?_))) (by rfl) ?_
                  rw [mo_tok_g16]
                  refine ri_iconst C dX4_advanceToken_265 kc_i1 ?_
                  first | refine ri_iaddN C dX4_advanceToken_266 ?_ | refine ri_iadd C dX4_advanceToken_266 ?_
                  refine ri_putf C dX4_advanceToken_267 fd_q2986_3 (fun h => nomatch h) (by first | assumption | (repeat (first | assumption | exact kx_rs (by assumption) | exact kx_ne2 (by omega) | exact kx_ne1 (by omega) | refine kx_ro (by assumption) ?_ ?_ | exact kx_rs rfl | refine kx_ro rfl ?_ ?_))) (Nat.le_of_ble_eq_true rfl) (by rfl) (by rfl) mo_set16 (fun s267 e267 => ?_)
                  rw [mo_tok_16] at e267
                  refine ri_vret C hQ dX4_advanceToken_270 (Nat.le_of_ble_eq_true rfl) (Nat.le_of_ble_eq_true rfl) ⟨rfl, ?_⟩
                  first
                    | (rw [e68, e58, e44, hT]; simp only [kx_up_u]; unfold mo_adv; rw [es, f1, f2, f3]; done)
                    | (rw [e129, hU]; simp only [kx_up_u]; unfold mo_adv; rw [es, f1, f2, f3]; first | rw [if_pos (by omega)] | rw [if_neg (by omega)])
                    | (rw [e239, hU]; simp only [kx_up_u]; unfold mo_adv; rw [es, f1, f2, f3]; first | rw [if_pos (by omega)] | rw [if_neg (by omega)])
                    | (rw [e267, e257, e58, e44, hT]; simp only [kx_up_u]; unfold mo_adv; rw [es, f1, f2, f3]; first | rw [if_pos (by omega)] | rw [if_neg (by omega)])
              · have hdi := h143
                have LC : ∀ (wklc j : Nat) (τ : kx_H), j ≤ N → N < j + wklc → (τ = kx_up σ (1, 0) (mo, .inr (3, mo_L ad (mo_tok z (nI j) (nI i) (nI (pt_num inp i (Nat.min 3 (j - i)))) (z 19)))) ∧ i ≤ j ∧ ∀ k, i ≤ k → k < j → pt_di inp N k = true) → kx_V G l p e (kx_rm 3 0 0) s m args below meth c 2 Q 146 [(0, .ref mo)] [] τ 0 0 := by
                  intro wklc
                  induction wklc with
                  | zero => intro j τ h1lc h2lc; exact absurd h2lc (by omega)
                  | succ wklc ihlc =>
                    intro j τ hilc hwklc hJ
                    obtain ⟨hU, hij, hal⟩ := hJ
                    have hlj : pt_di inp N j = true → j < N := fun h => by by_cases g : j < N; exact g; rw [pt_di_N j (by omega)] at h; exact absurd h (by decide)
                    first | refine ri_aload_n C dX4_advanceToken_146 rfl ?_ | refine ri_aload_nQ C dX4_advanceToken_146 rfl ?_ | refine ri_aload_nN C dX4_advanceToken_146 rfl ?_
                    first | refine ri_aload_n C dX4_advanceToken_147 rfl ?_ | refine ri_aload_nQ C dX4_advanceToken_147 rfl ?_ | refine ri_aload_nN C dX4_advanceToken_147 rfl ?_
                    refine ri_getf C dX4_advanceToken_148 fr_q2986_3 (by first | assumption | (repeat (first | assumption | exact kx_rs (by assumption) | exact kx_ne2 (by omega) | exact kx_ne1 (by omega) | refine kx_ro (by assumption) ?_ ?_ | exact kx_rs rfl | refine kx_ro rfl ?_ ?_))) (by rfl) ?_
                    rw [mo_tok_g16]
                    refine ri_callV C km_X4_byteAt q3089 qs63 dX4_advanceToken_151 (mt_X4_byteAt htr (by first | assumption | (repeat (first | assumption | exact kx_rs (by assumption) | exact kx_ne2 (by omega) | exact kx_ne1 (by omega) | refine kx_ro (by assumption) ?_ ?_ | exact kx_rs rfl | refine kx_ro rfl ?_ ?_))) (by first | assumption | (repeat (first | assumption | exact kx_rs (by assumption) | exact kx_ne2 (by omega) | exact kx_ne1 (by omega) | refine kx_ro (by assumption) ?_ ?_ | exact kx_rs rfl | refine kx_ro rfl ?_ ?_))) (hNt _ _ _ _) hN7 hby (by omega)) rfl rfl (kx_rcN C (by first | assumption | (repeat (first | assumption | exact kx_rs (by assumption) | exact kx_ne2 (by omega) | exact kx_ne1 (by omega) | refine kx_ro (by assumption) ?_ ?_ | exact kx_rs rfl | refine kx_ro rfl ?_ ?_))) rfl) ⟨⟨(Nat.le_of_ble_eq_true rfl), (Nat.le_of_ble_eq_true rfl)⟩, (Nat.le_of_ble_eq_true rfl), (Nat.le_of_ble_eq_true rfl), (Nat.le_of_ble_eq_true rfl)⟩ (fun v151 s151 h151 => ?_) (fun _ _ _ h => h.elim)
                    obtain ⟨rfl, rfl⟩ := h151
                    refine ri_bipush C dX4_advanceToken_154 kc_b48 ?_
                    refine ri_bipush C dX4_advanceToken_156 kc_b57 ?_
                    refine ri_callS C km_X4_inRange q3071 dX4_advanceToken_158 (mt_X4_inRange htr) rfl rfl ⟨⟨(Nat.le_of_ble_eq_true rfl), (Nat.le_of_ble_eq_true rfl)⟩, (Nat.le_of_ble_eq_true rfl), (Nat.le_of_ble_eq_true rfl), (Nat.le_of_ble_eq_true rfl)⟩ (fun v158 s158 h158 => ?_) (fun _ _ _ h => h.elim)
                    obtain ⟨rfl, rfl⟩ := h158
                    rw [pt_in_0 (fun c => pt_b_lt hby) (by decide) (by decide), show pt_in 48 57 (pt_b inp N j) = pt_di inp N j from rfl]
                    first | refine ri_if_eqB C 220 dX4_advanceToken_161 rfl (fun h161 => ?_) (fun h161 => ?_) | refine ri_if_eqN C 220 dX4_advanceToken_161 rfl (by omega) (fun h161 => ?_) (fun h161 => ?_) | refine ri_if_eq C 220 dX4_advanceToken_161 rfl (fun h161 => ?_) (fun h161 => ?_)
                    · have hd := h161
                      have he : pt_past (pt_di inp N) 1000 i = j := pt_end_is hij (by omega) hal hd
                      obtain ⟨f1, f2, f3⟩ := pt_adv_d hdi he
                      first | refine ri_aload_n C dX4_advanceToken_220 rfl ?_ | refine ri_aload_nQ C dX4_advanceToken_220 rfl ?_ | refine ri_aload_nN C dX4_advanceToken_220 rfl ?_
                      first | refine ri_aload_n C dX4_advanceToken_221 rfl ?_ | refine ri_aload_nQ C dX4_advanceToken_221 rfl ?_ | refine ri_aload_nN C dX4_advanceToken_221 rfl ?_
                      refine ri_getf C dX4_advanceToken_222 fr_q2986_3 (by first | assumption | (repeat (first | assumption | exact kx_rs (by assumption) | exact kx_ne2 (by omega) | exact kx_ne1 (by omega) | refine kx_ro (by assumption) ?_ ?_ | exact kx_rs rfl | refine kx_ro rfl ?_ ?_))) (by rfl) ?_
                      rw [mo_tok_g16]
                      first | refine ri_aload_n C dX4_advanceToken_225 rfl ?_ | refine ri_aload_nQ C dX4_advanceToken_225 rfl ?_ | refine ri_aload_nN C dX4_advanceToken_225 rfl ?_
                      refine ri_getf C dX4_advanceToken_226 fr_q2987_3 (by first | assumption | (repeat (first | assumption | exact kx_rs (by assumption) | exact kx_ne2 (by omega) | exact kx_ne1 (by omega) | refine kx_ro (by assumption) ?_ ?_ | exact kx_rs rfl | refine kx_ro rfl ?_ ?_))) (by rfl) ?_
                      rw [mo_tok_g17]
                      first | refine ri_isubN C dX4_advanceToken_229 (by omega) ?_ | refine ri_isub C dX4_advanceToken_229 ?_
                      refine ri_iconst C dX4_advanceToken_230 kc_i3 ?_
                      first | refine ri_icmp_leN C 238 dX4_advanceToken_231 rfl (by omega) (by omega) (fun h231 => ?_) (fun h231 => ?_) | refine ri_icmp_le C 238 dX4_advanceToken_231 rfl (fun h231 => ?_) (fun h231 => ?_)
                      · refine ri_iconst C dX4_advanceToken_238 kc_i2 ?_
                        refine ri_putf C dX4_advanceToken_239 fd_q2989_3 (fun h => nomatch h) (by first | assumption | (repeat (first | assumption | exact kx_rs (by assumption) | exact kx_ne2 (by omega) | exact kx_ne1 (by omega) | refine kx_ro (by assumption) ?_ ?_ | exact kx_rs rfl | refine kx_ro rfl ?_ ?_))) (Nat.le_of_ble_eq_true rfl) (by rfl) (by rfl) mo_set19 (fun s239 e239 => ?_)
                        rw [mo_tok_19] at e239
                        refine ri_goto C 270 dX4_advanceToken_242 rfl ?_
                        refine ri_vret C hQ dX4_advanceToken_270 (Nat.le_of_ble_eq_true rfl) (Nat.le_of_ble_eq_true rfl) ⟨rfl, ?_⟩
                        first
                          | (rw [e68, e58, e44, hT]; simp only [kx_up_u]; unfold mo_adv; rw [es, f1, f2, f3]; done)
                          | (rw [e129, hU]; simp only [kx_up_u]; unfold mo_adv; rw [es, f1, f2, f3]; first | rw [if_pos (by omega)] | rw [if_neg (by omega)])
                          | (rw [e239, hU]; simp only [kx_up_u]; unfold mo_adv; rw [es, f1, f2, f3]; first | rw [if_pos (by omega)] | rw [if_neg (by omega)])
                          | (rw [e267, e257, e58, e44, hT]; simp only [kx_up_u]; unfold mo_adv; rw [es, f1, f2, f3]; first | rw [if_pos (by omega)] | rw [if_neg (by omega)])
                      · refine ri_iconst C dX4_advanceToken_234 kc_i4 ?_
                        refine ri_goto C 239 dX4_advanceToken_235 rfl ?_
                        refine ri_putf C dX4_advanceToken_239 fd_q2989_3 (fun h => nomatch h) (by first | assumption | (repeat (first | assumption | exact kx_rs (by assumption) | exact kx_ne2 (by omega) | exact kx_ne1 (by omega) | refine kx_ro (by assumption) ?_ ?_ | exact kx_rs rfl | refine kx_ro rfl ?_ ?_))) (Nat.le_of_ble_eq_true rfl) (by rfl) (by rfl) mo_set19 (fun s239 e239 => ?_)
                        rw [mo_tok_19] at e239
                        refine ri_goto C 270 dX4_advanceToken_242 rfl ?_
                        refine ri_vret C hQ dX4_advanceToken_270 (Nat.le_of_ble_eq_true rfl) (Nat.le_of_ble_eq_true rfl) ⟨rfl, ?_⟩
                        first
                          | (rw [e68, e58, e44, hT]; simp only [kx_up_u]; unfold mo_adv; rw [es, f1, f2, f3]; done)
                          | (rw [e129, hU]; simp only [kx_up_u]; unfold mo_adv; rw [es, f1, f2, f3]; first | rw [if_pos (by omega)] | rw [if_neg (by omega)])
                          | (rw [e239, hU]; simp only [kx_up_u]; unfold mo_adv; rw [es, f1, f2, f3]; first | rw [if_pos (by omega)] | rw [if_neg (by omega)])
                          | (rw [e267, e257, e58, e44, hT]; simp only [kx_up_u]; unfold mo_adv; rw [es, f1, f2, f3]; first | rw [if_pos (by omega)] | rw [if_neg (by omega)])
                    · have hd := h161
                      have hdb := pt_di_b hd
                      first | refine ri_aload_n C dX4_advanceToken_164 rfl ?_ | refine ri_aload_nQ C dX4_advanceToken_164 rfl ?_ | refine ri_aload_nN C dX4_advanceToken_164 rfl ?_
                      first | refine ri_aload_n C dX4_advanceToken_165 rfl ?_ | refine ri_aload_nQ C dX4_advanceToken_165 rfl ?_ | refine ri_aload_nN C dX4_advanceToken_165 rfl ?_
                      refine ri_getf C dX4_advanceToken_166 fr_q2986_3 (by first | assumption | (repeat (first | assumption | exact kx_rs (by assumption) | exact kx_ne2 (by omega) | exact kx_ne1 (by omega) | refine kx_ro (by assumption) ?_ ?_ | exact kx_rs rfl | refine kx_ro rfl ?_ ?_))) (by rfl) ?_
                      rw [mo_tok_g16]
                      first | refine ri_aload_n C dX4_advanceToken_169 rfl ?_ | refine ri_aload_nQ C dX4_advanceToken_169 rfl ?_ | refine ri_aload_nN C dX4_advanceToken_169 rfl ?_
                      refine ri_getf C dX4_advanceToken_170 fr_q2987_3 (by first | assumption | (repeat (first | assumption | exact kx_rs (by assumption) | exact kx_ne2 (by omega) | exact kx_ne1 (by omega) | refine kx_ro (by assumption) ?_ ?_ | exact kx_rs rfl | refine kx_ro rfl ?_ ?_))) (by rfl) ?_
                      rw [mo_tok_g17]
                      first | refine ri_isubN C dX4_advanceToken_173 (by omega) ?_ | refine ri_isub C dX4_advanceToken_173 ?_
                      refine ri_iconst C dX4_advanceToken_174 kc_i3 ?_
                      first | refine ri_icmp_geN C 200 dX4_advanceToken_175 rfl (by omega) (by omega) (fun h175 => ?_) (fun h175 => ?_) | refine ri_icmp_ge C 200 dX4_advanceToken_175 rfl (fun h175 => ?_) (fun h175 => ?_)
                      · first | refine ri_aload_n C dX4_advanceToken_200 rfl ?_ | refine ri_aload_nQ C dX4_advanceToken_200 rfl ?_ | refine ri_aload_nN C dX4_advanceToken_200 rfl ?_
                        refine ri_getf C dX4_advanceToken_201 fr_q2988_3 (by first | assumption | (repeat (first | assumption | exact kx_rs (by assumption) | exact kx_ne2 (by omega) | exact kx_ne1 (by omega) | refine kx_ro (by assumption) ?_ ?_ | exact kx_rs rfl | refine kx_ro rfl ?_ ?_))) (by rfl) ?_
                        rw [mo_tok_g18]
                        refine ri_putf C dX4_advanceToken_204 fd_q2988_3 (fun h => nomatch h) (by first | assumption | (repeat (first | assumption | exact kx_rs (by assumption) | exact kx_ne2 (by omega) | exact kx_ne1 (by omega) | refine kx_ro (by assumption) ?_ ?_ | exact kx_rs rfl | refine kx_ro rfl ?_ ?_))) (Nat.le_of_ble_eq_true rfl) (by rfl) (by rfl) mo_set18 (fun s204 e204 => ?_)
                        rw [mo_tok_18] at e204
                        first | refine ri_aload_n C dX4_advanceToken_207 rfl ?_ | refine ri_aload_nQ C dX4_advanceToken_207 rfl ?_ | refine ri_aload_nN C dX4_advanceToken_207 rfl ?_
                        refine ri_dup C dX4_advanceToken_208 rfl ?_
                        refine ri_getf C dX4_advanceToken_209 fr_q2986_3 (by first | assumption | (repeat (first | assumption | exact kx_rs (by assumption) | exact kx_ne2 (by omega) | exact kx_ne1 (by omega) | refine kx_ro (by assumption) ?_ ?_ | exact kx_rs rfl | refine kx_ro rfl ?_ ?_))) (by rfl) ?_
                        rw [mo_tok_g16]
                        refine ri_iconst C dX4_advanceToken_212 kc_i1 ?_
                        first | refine ri_iaddN C dX4_advanceToken_213 ?_ | refine ri_iadd C dX4_advanceToken_213 ?_
                        refine ri_putf C dX4_advanceToken_214 fd_q2986_3 (fun h => nomatch h) (by first | assumption | (repeat (first | assumption | exact kx_rs (by assumption) | exact kx_ne2 (by omega) | exact kx_ne1 (by omega) | refine kx_ro (by assumption) ?_ ?_ | exact kx_rs rfl | refine kx_ro rfl ?_ ?_))) (Nat.le_of_ble_eq_true rfl) (by rfl) (by rfl) mo_set16 (fun s214 e214 => ?_)
                        rw [mo_tok_16] at e214
                        refine ri_goto C 146 dX4_advanceToken_217 rfl ?_
                        have hlj := hlj hd
                        refine ri_lv2 (ihlc (j + 1) _ (by omega) (by omega) ⟨?_, by omega, fun k h1 h2 => ?_⟩) ⟨rfl, trivial⟩
                        · rw [e214, e204, hU]; simp only [kx_up_u]; first | rw [pt_num_1 hij (by omega) hdb.2.1] | rw [pt_num_2 (by omega)]
                        · by_cases c : k = j
                          · subst c; exact hd
                          · exact hal k h1 (by omega)
                      · refine ri_bipush C dX4_advanceToken_178 kc_b10 ?_
                        first | refine ri_aload_n C dX4_advanceToken_180 rfl ?_ | refine ri_aload_nQ C dX4_advanceToken_180 rfl ?_ | refine ri_aload_nN C dX4_advanceToken_180 rfl ?_
                        refine ri_getf C dX4_advanceToken_181 fr_q2988_3 (by first | assumption | (repeat (first | assumption | exact kx_rs (by assumption) | exact kx_ne2 (by omega) | exact kx_ne1 (by omega) | refine kx_ro (by assumption) ?_ ?_ | exact kx_rs rfl | refine kx_ro rfl ?_ ?_))) (by rfl) ?_
                        rw [mo_tok_g18]
                        first | refine ri_imulN C dX4_advanceToken_184 ?_ | refine ri_imul C dX4_advanceToken_184 ?_
                        first | refine ri_aload_n C dX4_advanceToken_185 rfl ?_ | refine ri_aload_nQ C dX4_advanceToken_185 rfl ?_ | refine ri_aload_nN C dX4_advanceToken_185 rfl ?_
                        first | refine ri_aload_n C dX4_advanceToken_186 rfl ?_ | refine ri_aload_nQ C dX4_advanceToken_186 rfl ?_ | refine ri_aload_nN C dX4_advanceToken_186 rfl ?_
                        refine ri_getf C dX4_advanceToken_187 fr_q2986_3 (by first | assumption | (repeat (first | assumption | exact kx_rs (by assumption) | exact kx_ne2 (by omega) | exact kx_ne1 (by omega) | refine kx_ro (by assumption) ?_ ?_ | exact kx_rs rfl | refine kx_ro rfl ?_ ?_))) (by rfl) ?_
                        rw [mo_tok_g16]
                        refine ri_callV C km_X4_byteAt q3089 qs63 dX4_advanceToken_190 (mt_X4_byteAt htr (by first | assumption | (repeat (first | assumption | exact kx_rs (by assumption) | exact kx_ne2 (by omega) | exact kx_ne1 (by omega) | refine kx_ro (by assumption) ?_ ?_ | exact kx_rs rfl | refine kx_ro rfl ?_ ?_))) (by first | assumption | (repeat (first | assumption | exact kx_rs (by assumption) | exact kx_ne2 (by omega) | exact kx_ne1 (by omega) | refine kx_ro (by assumption) ?_ ?_ | exact kx_rs rfl | refine kx_ro rfl ?_ ?_))) (hNt _ _ _ _) hN7 hby (by omega)) rfl rfl (kx_rcN C (by first | assumption | (repeat (first | assumption | exact kx_rs (by assumption) | exact kx_ne2 (by omega) | exact kx_ne1 (by omega) | refine kx_ro (by assumption) ?_ ?_ | exact kx_rs rfl | refine kx_ro rfl ?_ ?_))) rfl) ⟨⟨(Nat.le_of_ble_eq_true rfl), (Nat.le_of_ble_eq_true rfl)⟩, (Nat.le_of_ble_eq_true rfl), (Nat.le_of_ble_eq_true rfl), (Nat.le_of_ble_eq_true rfl)⟩ (fun v190 s190 h190 => ?_) (fun _ _ _ h => h.elim)
                        obtain ⟨rfl, rfl⟩ := h190
                        rw [show mx_o (pt_b inp N j) = nI (inp j) by unfold pt_b; rw [if_pos hdb.1]; rfl]
                        first | refine ri_iaddN C dX4_advanceToken_193 ?_ | refine ri_iadd C dX4_advanceToken_193 ?_
                        refine ri_bipush C dX4_advanceToken_194 kc_b48 ?_
                        first | refine ri_isubN C dX4_advanceToken_196 (by omega) ?_ | refine ri_isub C dX4_advanceToken_196 ?_
                        refine ri_goto C 204 dX4_advanceToken_197 rfl ?_
                        refine ri_putf C dX4_advanceToken_204 fd_q2988_3 (fun h => nomatch h) (by first | assumption | (repeat (first | assumption | exact kx_rs (by assumption) | exact kx_ne2 (by omega) | exact kx_ne1 (by omega) | refine kx_ro (by assumption) ?_ ?_ | exact kx_rs rfl | refine kx_ro rfl ?_ ?_))) (Nat.le_of_ble_eq_true rfl) (by rfl) (by rfl) mo_set18 (fun s204 e204 => ?_)
                        rw [mo_tok_18] at e204
                        first | refine ri_aload_n C dX4_advanceToken_207 rfl ?_ | refine ri_aload_nQ C dX4_advanceToken_207 rfl ?_ | refine ri_aload_nN C dX4_advanceToken_207 rfl ?_
                        refine ri_dup C dX4_advanceToken_208 rfl ?_
                        refine ri_getf C dX4_advanceToken_209 fr_q2986_3 (by first | assumption | (repeat (first | assumption | exact kx_rs (by assumption) | exact kx_ne2 (by omega) | exact kx_ne1 (by omega) | refine kx_ro (by assumption) ?_ ?_ | exact kx_rs rfl | refine kx_ro rfl ?_ ?_))) (by rfl) ?_
                        rw [mo_tok_g16]
                        refine ri_iconst C dX4_advanceToken_212 kc_i1 ?_
                        first | refine ri_iaddN C dX4_advanceToken_213 ?_ | refine ri_iadd C dX4_advanceToken_213 ?_
                        refine ri_putf C dX4_advanceToken_214 fd_q2986_3 (fun h => nomatch h) (by first | assumption | (repeat (first | assumption | exact kx_rs (by assumption) | exact kx_ne2 (by omega) | exact kx_ne1 (by omega) | refine kx_ro (by assumption) ?_ ?_ | exact kx_rs rfl | refine kx_ro rfl ?_ ?_))) (Nat.le_of_ble_eq_true rfl) (by rfl) (by rfl) mo_set16 (fun s214 e214 => ?_)
                        rw [mo_tok_16] at e214
                        refine ri_goto C 146 dX4_advanceToken_217 rfl ?_
                        have hlj := hlj hd
                        refine ri_lv2 (ihlc (j + 1) _ (by omega) (by omega) ⟨?_, by omega, fun k h1 h2 => ?_⟩) ⟨rfl, trivial⟩
                        · rw [e214, e204, hU]; simp only [kx_up_u]; first | rw [pt_num_1 hij (by omega) hdb.2.1] | rw [pt_num_2 (by omega)]
                        · by_cases c : k = j
                          · subst c; exact hd
                          · exact hal k h1 (by omega)
                refine ri_lv2 (LC (N + 1) i _ (by omega) (by omega) ⟨?_, Nat.le_refl _, fun k h1 h2 => absurd h2 (by omega)⟩) ⟨rfl, trivial⟩
                rw [e58, e44, hT]; simp only [kx_up_u]
                rw [Nat.sub_self]; rfl
            · have hai := h82
              have LB : ∀ (wklb j : Nat) (τ : kx_H), j ≤ N → N < j + wklb → (τ = kx_up σ (1, 0) (mo, .inr (3, mo_L ad (mo_tok z (nI j) (nI i) (nI 0) (z 19)))) ∧ i ≤ j ∧ ∀ k, i ≤ k → k < j → pt_al inp N k = true) → kx_V G l p e (kx_rm 3 0 0) s m args below meth c 2 Q 85 [(0, .ref mo)] [] τ 0 0 := by
                intro wklb
                induction wklb with
                | zero => intro j τ h1lb h2lb; exact absurd h2lb (by omega)
                | succ wklb ihlb =>
                  intro j τ hilb hwklb hJ
                  obtain ⟨hU, hij, hal⟩ := hJ
                  have hlj : pt_al inp N j = true → j < N := fun h => by by_cases g : j < N; exact g; rw [pt_al_N j (by omega)] at h; exact absurd h (by decide)
                  first | refine ri_aload_n C dX4_advanceToken_85 rfl ?_ | refine ri_aload_nQ C dX4_advanceToken_85 rfl ?_ | refine ri_aload_nN C dX4_advanceToken_85 rfl ?_
                  first | refine ri_aload_n C dX4_advanceToken_86 rfl ?_ | refine ri_aload_nQ C dX4_advanceToken_86 rfl ?_ | refine ri_aload_nN C dX4_advanceToken_86 rfl ?_
                  refine ri_getf C dX4_advanceToken_87 fr_q2986_3 (by first | assumption | (repeat (first | assumption | exact kx_rs (by assumption) | exact kx_ne2 (by omega) | exact kx_ne1 (by omega) | refine kx_ro (by assumption) ?_ ?_ | exact kx_rs rfl | refine kx_ro rfl ?_ ?_))) (by rfl) ?_
                  rw [mo_tok_g16]
                  refine ri_callV C km_X4_isLetter q3093 qs64 dX4_advanceToken_90 (mt_X4_isLetter htr (by first | assumption | (repeat (first | assumption | exact kx_rs (by assumption) | exact kx_ne2 (by omega) | exact kx_ne1 (by omega) | refine kx_ro (by assumption) ?_ ?_ | exact kx_rs rfl | refine kx_ro rfl ?_ ?_))) (by first | assumption | (repeat (first | assumption | exact kx_rs (by assumption) | exact kx_ne2 (by omega) | exact kx_ne1 (by omega) | refine kx_ro (by assumption) ?_ ?_ | exact kx_rs rfl | refine kx_ro rfl ?_ ?_))) (hNt _ _ _ _) hN7 hby (by omega)) rfl rfl (kx_rcN C (by first | assumption | (repeat (first | assumption | exact kx_rs (by assumption) | exact kx_ne2 (by omega) | exact kx_ne1 (by omega) | refine kx_ro (by assumption) ?_ ?_ | exact kx_rs rfl | refine kx_ro rfl ?_ ?_))) rfl) ⟨⟨(Nat.le_of_ble_eq_true rfl), (Nat.le_of_ble_eq_true rfl)⟩, (Nat.le_of_ble_eq_true rfl), (Nat.le_of_ble_eq_true rfl), (Nat.le_of_ble_eq_true rfl)⟩ (fun v90 s90 h90 => ?_) (fun _ _ _ h => h.elim)
                  obtain ⟨rfl, rfl⟩ := h90
                  first | refine ri_if_eqB C 109 dX4_advanceToken_93 rfl (fun h93 => ?_) (fun h93 => ?_) | refine ri_if_eqN C 109 dX4_advanceToken_93 rfl (by omega) (fun h93 => ?_) (fun h93 => ?_) | refine ri_if_eq C 109 dX4_advanceToken_93 rfl (fun h93 => ?_) (fun h93 => ?_)
                  · have hd := h93
                    have he : pt_past (pt_al inp N) 1000 i = j := pt_end_is hij (by omega) hal hd
                    obtain ⟨f1, f2, f3⟩ := pt_adv_a hai he
                    first | refine ri_aload_n C dX4_advanceToken_109 rfl ?_ | refine ri_aload_nQ C dX4_advanceToken_109 rfl ?_ | refine ri_aload_nN C dX4_advanceToken_109 rfl ?_
                    first | refine ri_aload_n C dX4_advanceToken_110 rfl ?_ | refine ri_aload_nQ C dX4_advanceToken_110 rfl ?_ | refine ri_aload_nN C dX4_advanceToken_110 rfl ?_
                    refine ri_getf C dX4_advanceToken_111 fr_q2986_3 (by first | assumption | (repeat (first | assumption | exact kx_rs (by assumption) | exact kx_ne2 (by omega) | exact kx_ne1 (by omega) | refine kx_ro (by assumption) ?_ ?_ | exact kx_rs rfl | refine kx_ro rfl ?_ ?_))) (by rfl) ?_
                    rw [mo_tok_g16]
                    first | refine ri_aload_n C dX4_advanceToken_114 rfl ?_ | refine ri_aload_nQ C dX4_advanceToken_114 rfl ?_ | refine ri_aload_nN C dX4_advanceToken_114 rfl ?_
                    refine ri_getf C dX4_advanceToken_115 fr_q2987_3 (by first | assumption | (repeat (first | assumption | exact kx_rs (by assumption) | exact kx_ne2 (by omega) | exact kx_ne1 (by omega) | refine kx_ro (by assumption) ?_ ?_ | exact kx_rs rfl | refine kx_ro rfl ?_ ?_))) (by rfl) ?_
                    rw [mo_tok_g17]
                    first | refine ri_isubN C dX4_advanceToken_118 (by omega) ?_ | refine ri_isub C dX4_advanceToken_118 ?_
                    refine ri_bipush C dX4_advanceToken_119 kc_b8 ?_
                    first | refine ri_icmp_leN C 128 dX4_advanceToken_121 rfl (by omega) (by omega) (fun h121 => ?_) (fun h121 => ?_) | refine ri_icmp_le C 128 dX4_advanceToken_121 rfl (fun h121 => ?_) (fun h121 => ?_)
                    · refine ri_iconst C dX4_advanceToken_128 kc_i1 ?_
                      refine ri_putf C dX4_advanceToken_129 fd_q2989_3 (fun h => nomatch h) (by first | assumption | (repeat (first | assumption | exact kx_rs (by assumption) | exact kx_ne2 (by omega) | exact kx_ne1 (by omega) | refine kx_ro (by assumption) ?_ ?_ | exact kx_rs rfl | refine kx_ro rfl ?_ ?_))) (Nat.le_of_ble_eq_true rfl) (by rfl) (by rfl) mo_set19 (fun s129 e129 => ?_)
                      rw [mo_tok_19] at e129
                      refine ri_goto C 270 dX4_advanceToken_132 rfl ?_
                      refine ri_vret C hQ dX4_advanceToken_270 (Nat.le_of_ble_eq_true rfl) (Nat.le_of_ble_eq_true rfl) ⟨rfl, ?_⟩
                      first
                        | (rw [e68, e58, e44, hT]; simp only [kx_up_u]; unfold mo_adv; rw [es, f1, f2, f3]; done)
                        | (rw [e129, hU]; simp only [kx_up_u]; unfold mo_adv; rw [es, f1, f2, f3]; first | rw [if_pos (by omega)] | rw [if_neg (by omega)])
                        | (rw [e239, hU]; simp only [kx_up_u]; unfold mo_adv; rw [es, f1, f2, f3]; first | rw [if_pos (by omega)] | rw [if_neg (by omega)])
                        | (rw [e267, e257, e58, e44, hT]; simp only [kx_up_u]; unfold mo_adv; rw [es, f1, f2, f3]; first | rw [if_pos (by omega)] | rw [if_neg (by omega)])
                    · refine ri_iconst C dX4_advanceToken_124 kc_i4 ?_
                      refine ri_goto C 129 dX4_advanceToken_125 rfl ?_
                      refine ri_putf C dX4_advanceToken_129 fd_q2989_3 (fun h => nomatch h) (by first | assumption | (repeat (first | assumption | exact kx_rs (by assumption) | exact kx_ne2 (by omega) | exact kx_ne1 (by omega) | refine kx_ro (by assumption) ?_ ?_ | exact kx_rs rfl | refine kx_ro rfl ?_ ?_))) (Nat.le_of_ble_eq_true rfl) (by rfl) (by rfl) mo_set19 (fun s129 e129 => ?_)
                      rw [mo_tok_19] at e129
                      refine ri_goto C 270 dX4_advanceToken_132 rfl ?_
                      refine ri_vret C hQ dX4_advanceToken_270 (Nat.le_of_ble_eq_true rfl) (Nat.le_of_ble_eq_true rfl) ⟨rfl, ?_⟩
                      first
                        | (rw [e68, e58, e44, hT]; simp only [kx_up_u]; unfold mo_adv; rw [es, f1, f2, f3]; done)
                        | (rw [e129, hU]; simp only [kx_up_u]; unfold mo_adv; rw [es, f1, f2, f3]; first | rw [if_pos (by omega)] | rw [if_neg (by omega)])
                        | (rw [e239, hU]; simp only [kx_up_u]; unfold mo_adv; rw [es, f1, f2, f3]; first | rw [if_pos (by omega)] | rw [if_neg (by omega)])
                        | (rw [e267, e257, e58, e44, hT]; simp only [kx_up_u]; unfold mo_adv; rw [es, f1, f2, f3]; first | rw [if_pos (by omega)] | rw [if_neg (by omega)])
                  · have hd := h93
                    first | refine ri_aload_n C dX4_advanceToken_96 rfl ?_ | refine ri_aload_nQ C dX4_advanceToken_96 rfl ?_ | refine ri_aload_nN C dX4_advanceToken_96 rfl ?_
                    refine ri_dup C dX4_advanceToken_97 rfl ?_
                    refine ri_getf C dX4_advanceToken_98 fr_q2986_3 (by first | assumption | (repeat (first | assumption | exact kx_rs (by assumption) | exact kx_ne2 (by omega) | exact kx_ne1 (by omega) | refine kx_ro (by assumption) ?_ ?_ | exact kx_rs rfl | refine kx_ro rfl ?_ ?_))) (by rfl) ?_
                    rw [mo_tok_g16]
                    refine ri_iconst C dX4_advanceToken_101 kc_i1 ?_
                    first | refine ri_iaddN C dX4_advanceToken_102 ?_ | refine ri_iadd C dX4_advanceToken_102 ?_
                    refine ri_putf C dX4_advanceToken_103 fd_q2986_3 (fun h => nomatch h) (by first | assumption | (repeat (first | assumption | exact kx_rs (by assumption) | exact kx_ne2 (by omega) | exact kx_ne1 (by omega) | refine kx_ro (by assumption) ?_ ?_ | exact kx_rs rfl | refine kx_ro rfl ?_ ?_))) (Nat.le_of_ble_eq_true rfl) (by rfl) (by rfl) mo_set16 (fun s103 e103 => ?_)
                    rw [mo_tok_16] at e103
                    refine ri_goto C 85 dX4_advanceToken_106 rfl ?_
                    have hlj := hlj hd
                    refine ri_lv2 (ihlb (j + 1) _ (by omega) (by omega) ⟨?_, by omega, fun k h1 h2 => ?_⟩) ⟨rfl, trivial⟩
                    · rw [e103, hU, kx_up_u]
                    · by_cases c : k = j
                      · subst c; exact hd
                      · exact hal k h1 (by omega)
              refine ri_lv2 (LB (N + 1) i _ (by omega) (by omega) ⟨?_, Nat.le_refl _, fun k h1 h2 => absurd h2 (by omega)⟩) ⟨rfl, trivial⟩
              rw [e58, e44, hT]; simp only [kx_up_u]
          · have hbn : pt_b inp N i = none := (by cases hq2 : pt_b inp N i with | none => rfl | some ch => rw [hq2] at h63; exact absurd h63 (nI_m1 (by have := pt_b_lt hby hq2; omega)))
            obtain ⟨f1, f2, f3⟩ := pt_adv_n hbn
            first | refine ri_aload_n C dX4_advanceToken_66 rfl ?_ | refine ri_aload_nQ C dX4_advanceToken_66 rfl ?_ | refine ri_aload_nN C dX4_advanceToken_66 rfl ?_
            refine ri_iconst C dX4_advanceToken_67 kc_i0 ?_
            refine ri_putf C dX4_advanceToken_68 fd_q2989_3 (fun h => nomatch h) (by first | assumption | (repeat (first | assumption | exact kx_rs (by assumption) | exact kx_ne2 (by omega) | exact kx_ne1 (by omega) | refine kx_ro (by assumption) ?_ ?_ | exact kx_rs rfl | refine kx_ro rfl ?_ ?_))) (Nat.le_of_ble_eq_true rfl) (by rfl) (by rfl) mo_set19 (fun s68 e68 => ?_)
            rw [mo_tok_19] at e68
            refine ri_goto C 270 dX4_advanceToken_71 rfl ?_
            refine ri_vret C hQ dX4_advanceToken_270 (Nat.le_of_ble_eq_true rfl) (Nat.le_of_ble_eq_true rfl) ⟨rfl, ?_⟩
            first
              | (rw [e68, e58, e44, hT]; simp only [kx_up_u]; unfold mo_adv; rw [es, f1, f2, f3]; done)
              | (rw [e129, hU]; simp only [kx_up_u]; unfold mo_adv; rw [es, f1, f2, f3]; first | rw [if_pos (by omega)] | rw [if_neg (by omega)])
              | (rw [e239, hU]; simp only [kx_up_u]; unfold mo_adv; rw [es, f1, f2, f3]; first | rw [if_pos (by omega)] | rw [if_neg (by omega)])
              | (rw [e267, e257, e58, e44, hT]; simp only [kx_up_u]; unfold mo_adv; rw [es, f1, f2, f3]; first | rw [if_pos (by omega)] | rw [if_neg (by omega)])
        · have hs : pt_sp inp N i = true := by unfold pt_sp; rw [pt_is hby (by decide) h23]; rfl
          first | refine ri_aload_n C dX4_advanceToken_26 rfl ?_ | refine ri_aload_nQ C dX4_advanceToken_26 rfl ?_ | refine ri_aload_nN C dX4_advanceToken_26 rfl ?_
          refine ri_dup C dX4_advanceToken_27 rfl ?_
          refine ri_getf C dX4_advanceToken_28 fr_q2986_3 (by first | assumption | (repeat (first | assumption | exact kx_rs (by assumption) | exact kx_ne2 (by omega) | exact kx_ne1 (by omega) | refine kx_ro (by assumption) ?_ ?_ | exact kx_rs rfl | refine kx_ro rfl ?_ ?_))) (by rfl) ?_
          rw [mo_tok_g16]
          refine ri_iconst C dX4_advanceToken_31 kc_i1 ?_
          first | refine ri_iaddN C dX4_advanceToken_32 ?_ | refine ri_iadd C dX4_advanceToken_32 ?_
          refine ri_putf C dX4_advanceToken_33 fd_q2986_3 (fun h => nomatch h) (by first | assumption | (repeat (first | assumption | exact kx_rs (by assumption) | exact kx_ne2 (by omega) | exact kx_ne1 (by omega) | refine kx_ro (by assumption) ?_ ?_ | exact kx_rs rfl | refine kx_ro rfl ?_ ?_))) (Nat.le_of_ble_eq_true rfl) (by rfl) (by rfl) mo_set16 (fun s33 e33 => ?_)
          rw [mo_tok_16] at e33
          refine ri_goto C 0 dX4_advanceToken_36 rfl ?_
          have hlt := hlt hs
          refine ri_lv2 (ih (i + 1) _ (by omega) (by omega) ⟨?_, by omega, fun k h1 h2 => ?_⟩) ⟨rfl, trivial⟩
          · rw [e33, hT, kx_up_u]
          · by_cases c : k = i
            · subst c; exact hs
            · exact hall k h1 (by omega)
  refine ri_lv2 (LA (N + 1) q _ (by omega) (by omega) ⟨?_, Nat.le_refl _, fun k h1 h2 => absurd h2 (by omega)⟩) ⟨rfl, trivial⟩
  rw [← hz, mo_tok_id]; exact (kx_up_i h0).symm
