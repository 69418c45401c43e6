/-! the reference: its text's bytes -/
set_option maxRecDepth 100000
/-- a byte of a word -/
def pw_b (x : Int32) (k : Nat) : Nat := (x >>> ((nI (24 - 8 * k)) &&& 31)).toBitVec.toNat % 256
theorem pw_lt {x : Int32} {k : Nat} : pw_b x k < 256 := Nat.mod_lt _ (by decide)
theorem pw_and {y : Int32} : y &&& nI 255 = nI (y.toBitVec.toNat % 256) := by
  have h : (y &&& nI 255).toBitVec.toNat = y.toBitVec.toNat % 256 := by
    rw [Int32.toBitVec_and, BitVec.toNat_and, show (nI 255).toBitVec.toNat = 2 ^ 8 - 1 from by decide, Nat.and_two_pow_sub_one_eq_mod]
  apply Int32.toBitVec_inj.mp
  apply BitVec.eq_of_toNat_eq
  rw [h]
  show _ = (Int32.ofNat _).toBitVec.toNat
  rw [Int32.toBitVec_ofNat', BitVec.toNat_ofNat]
  omega
def pw_w (inp : Nat → Nat) (N : Nat) (x : Int32) : Nat → Nat := mx_s (mx_s (mx_s (mx_s inp N (pw_b x 0)) (N + 1) (pw_b x 1)) (N + 2) (pw_b x 2)) (N + 3) (pw_b x 3)
def pw_5 (inp : Nat → Nat) (N : Nat) (a b c d e : Int32) : Nat → Nat := pw_w (pw_w (pw_w (pw_w (pw_w inp N a) (N + 4) b) (N + 8) c) (N + 12) d) (N + 16) e
def an_app (N : Nat) : Int32 := if 680 < N then -1 else nI (N + 20)
def mo_I (G : kx_G) (σ : kx_H) (mo : Nat) (ad : Nat → Nat) (z : Nat → Int32) (inp : Nat → Nat) (N : Nat) : kx_H := kx_up (kx_up σ (1, 11) (ad 10, kx_ai G 700 (mx_w inp))) (1, 0) (mo, .inr (3, mo_L ad (mo_z z 11 (nI N))))
theorem mo_I_0 {G : kx_G} {σ τ : kx_H} {mo : Nat} {ad : Nat → Nat} {z : Nat → Int32} {inp : Nat → Nat} {N : Nat} (e : τ = mo_I G σ mo ad z inp N) : τ (1, 0) = some (mo, .inr (3, mo_L ad (mo_z z 11 (nI N)))) := by rw [e]; exact kx_up_s
theorem mo_I_i {G : kx_G} {σ τ : kx_H} {mo : Nat} {ad : Nat → Nat} {z : Nat → Int32} {inp : Nat → Nat} {N : Nat} (e : τ = mo_I G σ mo ad z inp N) : τ (1, 11) = some (ad 10, kx_ai G 700 (mx_w inp)) := by rw [e]; unfold mo_I; rw [kx_up_o (by decide)]; exact kx_up_s
theorem mo_I_w {G : kx_G} {σ0 σ s t : kx_H} {mo : Nat} {ad : Nat → Nat} {z : Nat → Int32} {inp : Nat → Nat} {N b : Nat} (E : σ = mo_I G σ0 mo ad z inp N) (e1 : s = kx_up σ (1, 11) (ad 10, kx_ai G 700 (mx_w (mx_s inp N b)))) (e2 : t = kx_up s (1, 0) (mo, .inr (3, mo_L ad (mo_z (mo_z z 11 (nI N)) 11 (nI (N + 1)))))) : t = mo_I G σ0 mo ad z (mx_s inp N b) (N + 1) := by
  rw [e2, e1, E]; unfold mo_I; rw [kx_up_x, mo_z_z]
set_option maxHeartbeats 1000000 in
theorem mt_X4_appendWord {l : Launch} {G : kx_G} (htr : l.stackTraces = false) {σ : kx_H} {mo : Nat} {ad : Nat → Nat} {z : Nat → Int32} {x : Int32} {σ0 : kx_H} {inp : Nat → Nat} {N : Nat} (E : σ = mo_I G σ0 mo ad z inp N) (hn : N + 4 ≤ 700) : kx_SP l G yX4_appendWord (ws_ yX4_appendWord cX4_appendWord 3 none) 1 0 0 [.ref mo, .int x] σ (fun v τ => v = none ∧ τ = mo_I G σ0 mo ad z (pw_w inp N x) (N + 4)) kx_nx := by
  refine kx_body htr (by decide +kernel) (own := "RoseProverbsModel") (nm := "appendWord") rfl rfl (Nat.le_of_ble_eq_true rfl) ?_
  intro p e s m args below meth c Q C hQ
  have b0 := mo_I_0 E
  have bi := mo_I_i E
  refine ri_bipush C dX4_appendWord_0 kc_b24 ?_
  refine ri_istore_n C dX4_appendWord_2 rfl (by decide) ?_
  refine ri_iload_n C dX4_appendWord_3 rfl ?_
  refine ri_if_lt C 39 dX4_appendWord_4 rfl (fun h4 => ?_) (fun h4 => ?_)
  · first | exact absurd h4 (by decide) | exact absurd rfl h4 --dead
  · first | refine ri_aload_n C dX4_appendWord_7 rfl ?_ | refine ri_aload_nQ C dX4_appendWord_7 rfl ?_ | refine ri_aload_nN C dX4_appendWord_7 rfl ?_
    refine ri_getf C dX4_appendWord_8 fr_q2980_3 (by first | assumption | (repeat (first | assumption | exact kx_rs (by assumption) | exact kx_ne2 (by omega) | exact kx_ne1 (by omega) | refine kx_ro (by assumption) ?_ ?_ | exact kx_rs rfl | refine kx_ro rfl ?_ ?_))) (by rfl) ?_
    first | refine ri_aload_n C dX4_appendWord_11 rfl ?_ | refine ri_aload_nQ C dX4_appendWord_11 rfl ?_ | refine ri_aload_nN C dX4_appendWord_11 rfl ?_
    refine ri_getf C dX4_appendWord_12 fr_q2981_3 (by first | assumption | (repeat (first | assumption | exact kx_rs (by assumption) | exact kx_ne2 (by omega) | exact kx_ne1 (by omega) | refine kx_ro (by assumption) ?_ ?_ | exact kx_rs rfl | refine kx_ro rfl ?_ ?_))) (by rfl) ?_
    rw [mo_z_s]
    refine ri_iload_n C dX4_appendWord_15 rfl ?_
    refine ri_iload_n C dX4_appendWord_16 rfl ?_
    refine ri_ishr C dX4_appendWord_17 ?_
    refine ri_sipush C dX4_appendWord_18 kc_s255 ?_
    refine ri_iand C dX4_appendWord_21 ?_
    refine ri_iastore C dX4_appendWord_22 (by first | assumption | (repeat (first | assumption | exact kx_rs (by assumption) | exact kx_ne2 (by omega) | exact kx_ne1 (by omega) | refine kx_ro (by assumption) ?_ ?_ | exact kx_rs rfl | refine kx_ro rfl ?_ ?_))) rfl (by omega) (fun s22 e22 => ?_)
    rw [pw_and, mx_upd] at e22
    first | refine ri_aload_n C dX4_appendWord_23 rfl ?_ | refine ri_aload_nQ C dX4_appendWord_23 rfl ?_ | refine ri_aload_nN C dX4_appendWord_23 rfl ?_
    refine ri_dup C dX4_appendWord_24 rfl ?_
    refine ri_getf C dX4_appendWord_25 fr_q2981_3 (by first | assumption | (repeat (first | assumption | exact kx_rs (by assumption) | exact kx_ne2 (by omega) | exact kx_ne1 (by omega) | refine kx_ro (by assumption) ?_ ?_ | exact kx_rs rfl | refine kx_ro rfl ?_ ?_))) (by rfl) ?_
    rw [mo_z_s]
    refine ri_iconst C dX4_appendWord_28 kc_i1 ?_
    first | refine ri_iaddN C dX4_appendWord_29 ?_ | refine ri_iadd C dX4_appendWord_29 ?_
    refine ri_putf C dX4_appendWord_30 fd_q2981_3 (fun h => nomatch h) (by first | assumption | (repeat (first | assumption | exact kx_rs (by assumption) | exact kx_ne2 (by omega) | exact kx_ne1 (by omega) | refine kx_ro (by assumption) ?_ ?_ | exact kx_rs rfl | refine kx_ro rfl ?_ ?_))) (Nat.le_of_ble_eq_true rfl) (by rfl) (by rfl) mo_set11 (fun s30 e30 => ?_)
    replace E := mo_I_w E e22 e30
    have b0 := mo_I_0 E
    have bi := mo_I_i E
    refine ri_iinc C dX4_appendWord_33 rfl rfl rfl (by decide) ?_
    refine ri_goto C 3 dX4_appendWord_36 rfl ?_
    refine ri_iload_n C dX4_appendWord_3 rfl ?_
    refine ri_if_lt C 39 dX4_appendWord_4 rfl (fun h4 => ?_) (fun h4 => ?_)
    · first | exact absurd h4 (by decide) | exact absurd rfl h4 --dead
    · first | refine ri_aload_n C dX4_appendWord_7 rfl ?_ | refine ri_aload_nQ C dX4_appendWord_7 rfl ?_ | refine ri_aload_nN C dX4_appendWord_7 rfl ?_
      refine ri_getf C dX4_appendWord_8 fr_q2980_3 (by first | assumption | (repeat (first | assumption | exact kx_rs (by assumption) | exact kx_ne2 (by omega) | exact kx_ne1 (by omega) | refine kx_ro (by assumption) ?_ ?_ | exact kx_rs rfl | refine kx_ro rfl ?_ ?_))) (by rfl) ?_
      first | refine ri_aload_n C dX4_appendWord_11 rfl ?_ | refine ri_aload_nQ C dX4_appendWord_11 rfl ?_ | refine ri_aload_nN C dX4_appendWord_11 rfl ?_
      refine ri_getf C dX4_appendWord_12 fr_q2981_3 (by first | assumption | (repeat (first | assumption | exact kx_rs (by assumption) | exact kx_ne2 (by omega) | exact kx_ne1 (by omega) | refine kx_ro (by assumption) ?_ ?_ | exact kx_rs rfl | refine kx_ro rfl ?_ ?_))) (by rfl) ?_
      rw [mo_z_s]
      refine ri_iload_n C dX4_appendWord_15 rfl ?_
      refine ri_iload_n C dX4_appendWord_16 rfl ?_
      refine ri_ishr C dX4_appendWord_17 ?_
      refine ri_sipush C dX4_appendWord_18 kc_s255 ?_
      refine ri_iand C dX4_appendWord_21 ?_
      refine ri_iastore C dX4_appendWord_22 (by first | assumption | (repeat (first | assumption | exact kx_rs (by assumption) | exact kx_ne2 (by omega) | exact kx_ne1 (by omega) | refine kx_ro (by assumption) ?_ ?_ | exact kx_rs rfl | refine kx_ro rfl ?_ ?_))) rfl (by omega) (fun s22 e22 => ?_)
      rw [pw_and, mx_upd] at e22
      first | refine ri_aload_n C dX4_appendWord_23 rfl ?_ | refine ri_aload_nQ C dX4_appendWord_23 rfl ?_ | refine ri_aload_nN C dX4_appendWord_23 rfl ?_
      refine ri_dup C dX4_appendWord_24 rfl ?_
      refine ri_getf C dX4_appendWord_25 fr_q2981_3 (by first | assumption | (repeat (first | assumption | exact kx_rs (by assumption) | exact kx_ne2 (by omega) | exact kx_ne1 (by omega) | refine kx_ro (by assumption) ?_ ?_ | exact kx_rs rfl | refine kx_ro rfl ?_ ?_))) (by rfl) ?_
      rw [mo_z_s]
      refine ri_iconst C dX4_appendWord_28 kc_i1 ?_
      first | refine ri_iaddN C dX4_appendWord_29 ?_ | refine ri_iadd C dX4_appendWord_29 ?_
      refine ri_putf C dX4_appendWord_30 fd_q2981_3 (fun h => nomatch h) (by first | assumption | (repeat (first | assumption | exact kx_rs (by assumption) | exact kx_ne2 (by omega) | exact kx_ne1 (by omega) | refine kx_ro (by assumption) ?_ ?_ | exact kx_rs rfl | refine kx_ro rfl ?_ ?_))) (Nat.le_of_ble_eq_true rfl) (by rfl) (by rfl) mo_set11 (fun s30 e30 => ?_)
      replace E := mo_I_w E e22 e30
      have b0 := mo_I_0 E
      have bi := mo_I_i E
      refine ri_iinc C dX4_appendWord_33 rfl rfl rfl (by decide) ?_
      refine ri_goto C 3 dX4_appendWord_36 rfl ?_
      refine ri_iload_n C dX4_appendWord_3 rfl ?_
      refine ri_if_lt C 39 dX4_appendWord_4 rfl (fun h4 => ?_) (fun h4 => ?_)
      · first | exact absurd h4 (by decide) | exact absurd rfl h4 --dead
      · first | refine ri_aload_n C dX4_appendWord_7 rfl ?_ | refine ri_aload_nQ C dX4_appendWord_7 rfl ?_ | refine ri_aload_nN C dX4_appendWord_7 rfl ?_
        refine ri_getf C dX4_appendWord_8 fr_q2980_3 (by first | assumption | (repeat (first | assumption | exact kx_rs (by assumption) | exact kx_ne2 (by omega) | exact kx_ne1 (by omega) | refine kx_ro (by assumption) ?_ ?_ | exact kx_rs rfl | refine kx_ro rfl ?_ ?_))) (by rfl) ?_
        first | refine ri_aload_n C dX4_appendWord_11 rfl ?_ | refine ri_aload_nQ C dX4_appendWord_11 rfl ?_ | refine ri_aload_nN C dX4_appendWord_11 rfl ?_
        refine ri_getf C dX4_appendWord_12 fr_q2981_3 (by first | assumption | (repeat (first | assumption | exact kx_rs (by assumption) | exact kx_ne2 (by omega) | exact kx_ne1 (by omega) | refine kx_ro (by assumption) ?_ ?_ | exact kx_rs rfl | refine kx_ro rfl ?_ ?_))) (by rfl) ?_
        rw [mo_z_s]
        refine ri_iload_n C dX4_appendWord_15 rfl ?_
        refine ri_iload_n C dX4_appendWord_16 rfl ?_
        refine ri_ishr C dX4_appendWord_17 ?_
        refine ri_sipush C dX4_appendWord_18 kc_s255 ?_
        refine ri_iand C dX4_appendWord_21 ?_
        refine ri_iastore C dX4_appendWord_22 (by first | assumption | (repeat (first | assumption | exact kx_rs (by assumption) | exact kx_ne2 (by omega) | exact kx_ne1 (by omega) | refine kx_ro (by assumption) ?_ ?_ | exact kx_rs rfl | refine kx_ro rfl ?_ ?_))) rfl (by omega) (fun s22 e22 => ?_)
        rw [pw_and, mx_upd] at e22
        first | refine ri_aload_n C dX4_appendWord_23 rfl ?_ | refine ri_aload_nQ C dX4_appendWord_23 rfl ?_ | refine ri_aload_nN C dX4_appendWord_23 rfl ?_
        refine ri_dup C dX4_appendWord_24 rfl ?_
        refine ri_getf C dX4_appendWord_25 fr_q2981_3 (by first | assumption | (repeat (first | assumption | exact kx_rs (by assumption) | exact kx_ne2 (by omega) | exact kx_ne1 (by omega) | refine kx_ro (by assumption) ?_ ?_ | exact kx_rs rfl | refine kx_ro rfl ?_ ?_))) (by rfl) ?_
        rw [mo_z_s]
        refine ri_iconst C dX4_appendWord_28 kc_i1 ?_
        first | refine ri_iaddN C dX4_appendWord_29 ?_ | refine ri_iadd C dX4_appendWord_29 ?_
        refine ri_putf C dX4_appendWord_30 fd_q2981_3 (fun h => nomatch h) (by first | assumption | (repeat (first | assumption | exact kx_rs (by assumption) | exact kx_ne2 (by omega) | exact kx_ne1 (by omega) | refine kx_ro (by assumption) ?_ ?_ | exact kx_rs rfl | refine kx_ro rfl ?_ ?_))) (Nat.le_of_ble_eq_true rfl) (by rfl) (by rfl) mo_set11 (fun s30 e30 => ?_)
        replace E := mo_I_w E e22 e30
        have b0 := mo_I_0 E
        have bi := mo_I_i E
        refine ri_iinc C dX4_appendWord_33 rfl rfl rfl (by decide) ?_
        refine ri_goto C 3 dX4_appendWord_36 rfl ?_
        refine ri_iload_n C dX4_appendWord_3 rfl ?_
        refine ri_if_lt C 39 dX4_appendWord_4 rfl (fun h4 => ?_) (fun h4 => ?_)
        · first | exact absurd h4 (by decide) | exact absurd rfl h4 --dead
        · first | refine ri_aload_n C dX4_appendWord_7 rfl ?_ | refine ri_aload_nQ C dX4_appendWord_7 rfl ?_ | refine ri_aload_nN C dX4_appendWord_7 rfl ?_
          refine ri_getf C dX4_appendWord_8 fr_q2980_3 (by first | assumption | (repeat (first | assumption | exact kx_rs (by assumption) | exact kx_ne2 (by omega) | exact kx_ne1 (by omega) | refine kx_ro (by assumption) ?_ ?_ | exact kx_rs rfl | refine kx_ro rfl ?_ ?_))) (by rfl) ?_
          first | refine ri_aload_n C dX4_appendWord_11 rfl ?_ | refine ri_aload_nQ C dX4_appendWord_11 rfl ?_ | refine ri_aload_nN C dX4_appendWord_11 rfl ?_
          refine ri_getf C dX4_appendWord_12 fr_q2981_3 (by first | assumption | (repeat (first | assumption | exact kx_rs (by assumption) | exact kx_ne2 (by omega) | exact kx_ne1 (by omega) | refine kx_ro (by assumption) ?_ ?_ | exact kx_rs rfl | refine kx_ro rfl ?_ ?_))) (by rfl) ?_
          rw [mo_z_s]
          refine ri_iload_n C dX4_appendWord_15 rfl ?_
          refine ri_iload_n C dX4_appendWord_16 rfl ?_
          refine ri_ishr C dX4_appendWord_17 ?_
          refine ri_sipush C dX4_appendWord_18 kc_s255 ?_
          refine ri_iand C dX4_appendWord_21 ?_
          refine ri_iastore C dX4_appendWord_22 (by first | assumption | (repeat (first | assumption | exact kx_rs (by assumption) | exact kx_ne2 (by omega) | exact kx_ne1 (by omega) | refine kx_ro (by assumption) ?_ ?_ | exact kx_rs rfl | refine kx_ro rfl ?_ ?_))) rfl (by omega) (fun s22 e22 => ?_)
          rw [pw_and, mx_upd] at e22
          first | refine ri_aload_n C dX4_appendWord_23 rfl ?_ | refine ri_aload_nQ C dX4_appendWord_23 rfl ?_ | refine ri_aload_nN C dX4_appendWord_23 rfl ?_
          refine ri_dup C dX4_appendWord_24 rfl ?_
          refine ri_getf C dX4_appendWord_25 fr_q2981_3 (by first | assumption | (repeat (first | assumption | exact kx_rs (by assumption) | exact kx_ne2 (by omega) | exact kx_ne1 (by omega) | refine kx_ro (by assumption) ?_ ?_ | exact kx_rs rfl | refine kx_ro rfl ?_ ?_))) (by rfl) ?_
          rw [mo_z_s]
          refine ri_iconst C dX4_appendWord_28 kc_i1 ?_
          first | refine ri_iaddN C dX4_appendWord_29 ?_ | refine ri_iadd C dX4_appendWord_29 ?_
          refine ri_putf C dX4_appendWord_30 fd_q2981_3 (fun h => nomatch h) (by first | assumption | (repeat (first | assumption | exact kx_rs (by assumption) | exact kx_ne2 (by omega) | exact kx_ne1 (by omega) | refine kx_ro (by assumption) ?_ ?_ | exact kx_rs rfl | refine kx_ro rfl ?_ ?_))) (Nat.le_of_ble_eq_true rfl) (by rfl) (by rfl) mo_set11 (fun s30 e30 => ?_)
          replace E := mo_I_w E e22 e30
          have b0 := mo_I_0 E
          have bi := mo_I_i E
          refine ri_iinc C dX4_appendWord_33 rfl rfl rfl (by decide) ?_
          refine ri_goto C 3 dX4_appendWord_36 rfl ?_
          refine ri_iload_n C dX4_appendWord_3 rfl ?_
          refine ri_if_lt C 39 dX4_appendWord_4 rfl (fun h4 => ?_) (fun h4 => ?_)
          · exact ri_vret C hQ dX4_appendWord_39 (Nat.le_of_ble_eq_true rfl) (Nat.le_of_ble_eq_true rfl) ⟨rfl, by rw [E]; rfl⟩
          · first | exact absurd h4 (by decide) | exact absurd rfl h4 --dead
set_option maxHeartbeats 1000000 in
theorem mt_X4_appendInput {l : Launch} {G : kx_G} (htr : l.stackTraces = false) {σ : kx_H} {mo : Nat} {ad : Nat → Nat} {z : Nat → Int32} {a b g h j : Int32} (h0 : σ (1, 0) = some (mo, .inr (3, mo_L ad z))) {inp : Nat → Nat} {N : Nat} (hin : σ (1, 11) = some (ad 10, kx_ai G 700 (mx_w inp))) (hz : z 11 = nI N) (hN : N ≤ 700) : kx_SP l G yX4_appendInput (ws_ yX4_appendInput cX4_appendInput 6 (some .int)) 2 0 0 [.ref mo, .int a, .int b, .int g, .int h, .int j] σ (fun v τ => v = some (.int (an_app N)) ∧ (680 < N → τ = kx_up σ (1, 0) (mo, .inr (3, mo_L ad (mo_z z 9 (nI 0))))) ∧ (¬ 680 < N → τ = mo_I G (kx_up σ (1, 0) (mo, .inr (3, mo_L ad (mo_z z 9 (nI 0))))) mo ad (mo_z z 9 (nI 0)) (pw_5 inp N a b g h j) (N + 20))) kx_nx := by
  refine kx_body htr (by decide +kernel) (own := "RoseProverbsModel") (nm := "appendInput") rfl rfl (Nat.le_of_ble_eq_true rfl) ?_
  intro p e s m args below meth c Q C hQ
  first | refine ri_aload_n C dX4_appendInput_0 rfl ?_ | refine ri_aload_nQ C dX4_appendInput_0 rfl ?_ | refine ri_aload_nN C dX4_appendInput_0 rfl ?_
  refine ri_iconst C dX4_appendInput_1 kc_i0 ?_
  refine ri_putf C dX4_appendInput_2 fd_q2979_3 (fun h => nomatch h) (by first | assumption | (repeat (first | assumption | exact kx_rs (by assumption) | exact kx_ne2 (by omega) | exact kx_ne1 (by omega) | refine kx_ro (by assumption) ?_ ?_ | exact kx_rs rfl | refine kx_ro rfl ?_ ?_))) (Nat.le_of_ble_eq_true rfl) (by rfl) (by rfl) mo_set9 (fun s2 e2 => ?_)
  first | refine ri_aload_n C dX4_appendInput_5 rfl ?_ | refine ri_aload_nQ C dX4_appendInput_5 rfl ?_ | refine ri_aload_nN C dX4_appendInput_5 rfl ?_
  refine ri_getf C dX4_appendInput_6 fr_q2981_3 (by first | assumption | (repeat (first | assumption | exact kx_rs (by assumption) | exact kx_ne2 (by omega) | exact kx_ne1 (by omega) | refine kx_ro (by assumption) ?_ ?_ | exact kx_rs rfl | refine kx_ro rfl ?_ ?_))) (by rfl) ?_
  rw [show mo_z z 9 (nI 0) 11 = nI N from hz]
  refine ri_bipush C dX4_appendInput_9 kc_b20 ?_
  first | refine ri_iaddN C dX4_appendInput_11 ?_ | refine ri_iadd C dX4_appendInput_11 ?_
  refine ri_sipush C dX4_appendInput_12 kc_s700 ?_
  first | refine ri_icmp_leN C 20 dX4_appendInput_15 rfl (by omega) (by omega) (fun h15 => ?_) (fun h15 => ?_) | refine ri_icmp_le C 20 dX4_appendInput_15 rfl (fun h15 => ?_) (fun h15 => ?_)
  · have E : s2 = mo_I G s2 mo ad (mo_z z 9 (nI 0)) inp N := (by unfold mo_I; rw [kx_up_i (kx_ro e2 hin (by decide)), show mo_z (mo_z z 9 (nI 0)) 11 (nI N) = mo_z z 9 (nI 0) by rw [← hz]; funext i; unfold mo_z; split <;> (try split) <;> simp_all, kx_up_i (kx_rs e2)])
    have b0 := mo_I_0 E
    first | refine ri_aload_n C dX4_appendInput_20 rfl ?_ | refine ri_aload_nQ C dX4_appendInput_20 rfl ?_ | refine ri_aload_nN C dX4_appendInput_20 rfl ?_
    refine ri_iload_n C dX4_appendInput_21 rfl ?_
    refine ri_callV C km_X4_appendWord q3063 qs60 dX4_appendInput_22 (mt_X4_appendWord htr E (by omega)) rfl rfl (kx_rcN C (by first | assumption | (repeat (first | assumption | exact kx_rs (by assumption) | exact kx_ne2 (by omega) | exact kx_ne1 (by omega) | refine kx_ro (by assumption) ?_ ?_ | exact kx_rs rfl | refine kx_ro rfl ?_ ?_))) rfl) ⟨⟨(Nat.le_of_ble_eq_true rfl), (Nat.le_of_ble_eq_true rfl)⟩, (Nat.le_of_ble_eq_true rfl), (Nat.le_of_ble_eq_true rfl), (Nat.le_of_ble_eq_true rfl)⟩ (fun v22 s22 h22 => ?_) (fun _ _ _ h => h.elim)
    obtain ⟨rfl, E⟩ := h22
    have b0 := mo_I_0 E
    first | refine ri_aload_n C dX4_appendInput_25 rfl ?_ | refine ri_aload_nQ C dX4_appendInput_25 rfl ?_ | refine ri_aload_nN C dX4_appendInput_25 rfl ?_
    refine ri_iload_n C dX4_appendInput_26 rfl ?_
    refine ri_callV C km_X4_appendWord q3063 qs60 dX4_appendInput_27 (mt_X4_appendWord htr E (by omega)) rfl rfl (kx_rcN C (by first | assumption | (repeat (first | assumption | exact kx_rs (by assumption) | exact kx_ne2 (by omega) | exact kx_ne1 (by omega) | refine kx_ro (by assumption) ?_ ?_ | exact kx_rs rfl | refine kx_ro rfl ?_ ?_))) rfl) ⟨⟨(Nat.le_of_ble_eq_true rfl), (Nat.le_of_ble_eq_true rfl)⟩, (Nat.le_of_ble_eq_true rfl), (Nat.le_of_ble_eq_true rfl), (Nat.le_of_ble_eq_true rfl)⟩ (fun v27 s27 h27 => ?_) (fun _ _ _ h => h.elim)
    obtain ⟨rfl, E⟩ := h27
    have b0 := mo_I_0 E
    first | refine ri_aload_n C dX4_appendInput_30 rfl ?_ | refine ri_aload_nQ C dX4_appendInput_30 rfl ?_ | refine ri_aload_nN C dX4_appendInput_30 rfl ?_
    refine ri_iload_n C dX4_appendInput_31 rfl ?_
    refine ri_callV C km_X4_appendWord q3063 qs60 dX4_appendInput_32 (mt_X4_appendWord htr E (by omega)) rfl rfl (kx_rcN C (by first | assumption | (repeat (first | assumption | exact kx_rs (by assumption) | exact kx_ne2 (by omega) | exact kx_ne1 (by omega) | refine kx_ro (by assumption) ?_ ?_ | exact kx_rs rfl | refine kx_ro rfl ?_ ?_))) rfl) ⟨⟨(Nat.le_of_ble_eq_true rfl), (Nat.le_of_ble_eq_true rfl)⟩, (Nat.le_of_ble_eq_true rfl), (Nat.le_of_ble_eq_true rfl), (Nat.le_of_ble_eq_true rfl)⟩ (fun v32 s32 h32 => ?_) (fun _ _ _ h => h.elim)
    obtain ⟨rfl, E⟩ := h32
    have b0 := mo_I_0 E
    first | refine ri_aload_n C dX4_appendInput_35 rfl ?_ | refine ri_aload_nQ C dX4_appendInput_35 rfl ?_ | refine ri_aload_nN C dX4_appendInput_35 rfl ?_
    refine ri_iload C dX4_appendInput_36 rfl ?_
    refine ri_callV C km_X4_appendWord q3063 qs60 dX4_appendInput_38 (mt_X4_appendWord htr E (by omega)) rfl rfl (kx_rcN C (by first | assumption | (repeat (first | assumption | exact kx_rs (by assumption) | exact kx_ne2 (by omega) | exact kx_ne1 (by omega) | refine kx_ro (by assumption) ?_ ?_ | exact kx_rs rfl | refine kx_ro rfl ?_ ?_))) rfl) ⟨⟨(Nat.le_of_ble_eq_true rfl), (Nat.le_of_ble_eq_true rfl)⟩, (Nat.le_of_ble_eq_true rfl), (Nat.le_of_ble_eq_true rfl), (Nat.le_of_ble_eq_true rfl)⟩ (fun v38 s38 h38 => ?_) (fun _ _ _ h => h.elim)
    obtain ⟨rfl, E⟩ := h38
    have b0 := mo_I_0 E
    first | refine ri_aload_n C dX4_appendInput_41 rfl ?_ | refine ri_aload_nQ C dX4_appendInput_41 rfl ?_ | refine ri_aload_nN C dX4_appendInput_41 rfl ?_
    refine ri_iload C dX4_appendInput_42 rfl ?_
    refine ri_callV C km_X4_appendWord q3063 qs60 dX4_appendInput_44 (mt_X4_appendWord htr E (by omega)) rfl rfl (kx_rcN C (by first | assumption | (repeat (first | assumption | exact kx_rs (by assumption) | exact kx_ne2 (by omega) | exact kx_ne1 (by omega) | refine kx_ro (by assumption) ?_ ?_ | exact kx_rs rfl | refine kx_ro rfl ?_ ?_))) rfl) ⟨⟨(Nat.le_of_ble_eq_true rfl), (Nat.le_of_ble_eq_true rfl)⟩, (Nat.le_of_ble_eq_true rfl), (Nat.le_of_ble_eq_true rfl), (Nat.le_of_ble_eq_true rfl)⟩ (fun v44 s44 h44 => ?_) (fun _ _ _ h => h.elim)
    obtain ⟨rfl, E⟩ := h44
    have b0 := mo_I_0 E
    first | refine ri_aload_n C dX4_appendInput_47 rfl ?_ | refine ri_aload_nQ C dX4_appendInput_47 rfl ?_ | refine ri_aload_nN C dX4_appendInput_47 rfl ?_
    refine ri_getf C dX4_appendInput_48 fr_q2981_3 b0 (by rfl) ?_
    rw [mo_z_s]
    exact ri_iret C hQ dX4_appendInput_51 rfl (Nat.le_of_ble_eq_true rfl) (Nat.le_of_ble_eq_true rfl) ⟨by unfold an_app; rw [if_neg (by omega)], fun h => absurd h (by omega), fun _ => by rw [E, e2]; rfl⟩
  · refine ri_iconst C dX4_appendInput_18 kc_im1 ?_
    exact ri_iret C hQ dX4_appendInput_19 rfl (Nat.le_of_ble_eq_true rfl) (Nat.le_of_ble_eq_true rfl) ⟨by unfold an_app; rw [if_pos (by omega)] <;> rfl, fun _ => e2, fun h => absurd h (by omega)⟩
def an_tru (N : Nat) (x : Int32) : Bool := mx_ix x (N + 1)
set_option maxHeartbeats 1000000 in
theorem mt_X4_truncateInput {l : Launch} {G : kx_G} (htr : l.stackTraces = false) {σ : kx_H} {mo : Nat} {ad : Nat → Nat} {z : Nat → Int32} {x : Int32} {N : Nat} (h0 : σ (1, 0) = some (mo, .inr (3, mo_L ad z))) (hz : z 11 = nI N) (hN : N ≤ 700) : kx_SP l G yX4_truncateInput (ws_ yX4_truncateInput cX4_truncateInput 2 (some .boolean)) 2 0 0 [.ref mo, .int x] σ (fun v τ => v = some (.int (kx_b (an_tru N x))) ∧ (an_tru N x = true → τ = kx_up σ (1, 0) (mo, .inr (3, mo_L ad (mo_z (mo_z z 9 (nI 0)) 11 (nI (mx_n x)))))) ∧ (an_tru N x = false → τ = kx_up σ (1, 0) (mo, .inr (3, mo_L ad (mo_z z 9 (nI 0)))))) kx_nx := by
  refine kx_body htr (by decide +kernel) (own := "RoseProverbsModel") (nm := "truncateInput") rfl rfl (Nat.le_of_ble_eq_true rfl) ?_
  intro p e s m args below meth c Q C hQ
  first | refine ri_aload_n C dX4_truncateInput_0 rfl ?_ | refine ri_aload_nQ C dX4_truncateInput_0 rfl ?_ | refine ri_aload_nN C dX4_truncateInput_0 rfl ?_
  refine ri_iconst C dX4_truncateInput_1 kc_i0 ?_
  refine ri_putf C dX4_truncateInput_2 fd_q2979_3 (fun h => nomatch h) (by first | assumption | (repeat (first | assumption | exact kx_rs (by assumption) | exact kx_ne2 (by omega) | exact kx_ne1 (by omega) | refine kx_ro (by assumption) ?_ ?_ | exact kx_rs rfl | refine kx_ro rfl ?_ ?_))) (Nat.le_of_ble_eq_true rfl) (by rfl) (by rfl) mo_set9 (fun s2 e2 => ?_)
  cases c1 : mx_ix x (N + 1)
  · refine ri_iload_n C dX4_truncateInput_5 rfl ?_
    refine ri_iconst C dX4_truncateInput_6 kc_i0 ?_
    first | refine ri_aload_n C dX4_truncateInput_7 rfl ?_ | refine ri_aload_nQ C dX4_truncateInput_7 rfl ?_ | refine ri_aload_nN C dX4_truncateInput_7 rfl ?_
    refine ri_getf C dX4_truncateInput_8 fr_q2981_3 (by first | assumption | (repeat (first | assumption | exact kx_rs (by assumption) | exact kx_ne2 (by omega) | exact kx_ne1 (by omega) | refine kx_ro (by assumption) ?_ ?_ | exact kx_rs rfl | refine kx_ro rfl ?_ ?_))) (by rfl) ?_
    rw [show mo_z z 9 (nI 0) 11 = nI N from hz]
    refine ri_callS C km_X4_inRange q3071 dX4_truncateInput_11 (mt_X4_inRange htr) rfl rfl ⟨⟨(Nat.le_of_ble_eq_true rfl), (Nat.le_of_ble_eq_true rfl)⟩, (Nat.le_of_ble_eq_true rfl), (Nat.le_of_ble_eq_true rfl), (Nat.le_of_ble_eq_true rfl)⟩ (fun v11 s11 h11 => ?_) (fun _ _ _ h => h.elim)
    obtain ⟨rfl, rfl⟩ := h11
    rw [mx_ix_0 (by omega), c1]
    first | refine ri_if_neB C 19 dX4_truncateInput_14 rfl (fun h14 => ?_) (fun h14 => ?_) | refine ri_if_neN C 19 dX4_truncateInput_14 rfl (by omega) (fun h14 => ?_) (fun h14 => ?_) | refine ri_if_ne C 19 dX4_truncateInput_14 rfl (fun h14 => ?_) (fun h14 => ?_)
    · exact absurd h14 (by decide) --dead
    · refine ri_iconst C dX4_truncateInput_17 kc_i0 ?_
      exact ri_iret C hQ dX4_truncateInput_18 rfl (Nat.le_of_ble_eq_true rfl) (Nat.le_of_ble_eq_true rfl) ⟨by unfold an_tru; rw [c1] <;> rfl, fun h => absurd (c1.symm.trans h) (by decide), fun _ => e2⟩
  · obtain ⟨k1, hk1, rfl⟩ := mx_ix_t c1
    have nk1 : mx_n (nI k1) = k1 := mx_n_nI (by omega)
    refine ri_iload_n C dX4_truncateInput_5 rfl ?_
    refine ri_iconst C dX4_truncateInput_6 kc_i0 ?_
    first | refine ri_aload_n C dX4_truncateInput_7 rfl ?_ | refine ri_aload_nQ C dX4_truncateInput_7 rfl ?_ | refine ri_aload_nN C dX4_truncateInput_7 rfl ?_
    refine ri_getf C dX4_truncateInput_8 fr_q2981_3 (by first | assumption | (repeat (first | assumption | exact kx_rs (by assumption) | exact kx_ne2 (by omega) | exact kx_ne1 (by omega) | refine kx_ro (by assumption) ?_ ?_ | exact kx_rs rfl | refine kx_ro rfl ?_ ?_))) (by rfl) ?_
    rw [show mo_z z 9 (nI 0) 11 = nI N from hz]
    refine ri_callS C km_X4_inRange q3071 dX4_truncateInput_11 (mt_X4_inRange htr) rfl rfl ⟨⟨(Nat.le_of_ble_eq_true rfl), (Nat.le_of_ble_eq_true rfl)⟩, (Nat.le_of_ble_eq_true rfl), (Nat.le_of_ble_eq_true rfl), (Nat.le_of_ble_eq_true rfl)⟩ (fun v11 s11 h11 => ?_) (fun _ _ _ h => h.elim)
    obtain ⟨rfl, rfl⟩ := h11
    rw [mx_ix_0 (by omega), c1]
    first | refine ri_if_neB C 19 dX4_truncateInput_14 rfl (fun h14 => ?_) (fun h14 => ?_) | refine ri_if_neN C 19 dX4_truncateInput_14 rfl (by omega) (fun h14 => ?_) (fun h14 => ?_) | refine ri_if_ne C 19 dX4_truncateInput_14 rfl (fun h14 => ?_) (fun h14 => ?_)
    · first | refine ri_aload_n C dX4_truncateInput_19 rfl ?_ | refine ri_aload_nQ C dX4_truncateInput_19 rfl ?_ | refine ri_aload_nN C dX4_truncateInput_19 rfl ?_
      refine ri_iload_n C dX4_truncateInput_20 rfl ?_
      refine ri_putf C dX4_truncateInput_21 fd_q2981_3 (fun h => nomatch h) (by first | assumption | (repeat (first | assumption | exact kx_rs (by assumption) | exact kx_ne2 (by omega) | exact kx_ne1 (by omega) | refine kx_ro (by assumption) ?_ ?_ | exact kx_rs rfl | refine kx_ro rfl ?_ ?_))) (Nat.le_of_ble_eq_true rfl) (by rfl) (by rfl) mo_set11 (fun s21 e21 => ?_)
      refine ri_iconst C dX4_truncateInput_24 kc_i1 ?_
      exact ri_iret C hQ dX4_truncateInput_25 rfl (Nat.le_of_ble_eq_true rfl) (Nat.le_of_ble_eq_true rfl) ⟨by unfold an_tru; rw [c1] <;> rfl, fun _ => by rw [e21, e2, kx_up_u, nk1], fun h => absurd (c1.symm.trans h) (by decide)⟩
    · exact absurd h14 (by decide) --dead
set_option maxHeartbeats 1000000 in
theorem mt_X4_errorCode {l : Launch} {G : kx_G} (htr : l.stackTraces = false) {σ : kx_H} {mo : Nat} {ad : Nat → Nat} {z : Nat → Int32} (h0 : σ (1, 0) = some (mo, .inr (3, mo_L ad z))) : kx_SP l G yX4_errorCode (ws_ yX4_errorCode cX4_errorCode 1 (some .int)) 1 0 0 [.ref mo] σ (fun v τ => v = some (.int (z 12)) ∧ τ = kx_up σ (1, 0) (mo, .inr (3, mo_L ad (mo_z z 9 (nI 0))))) kx_nx := by
  refine kx_body htr (by decide +kernel) (own := "RoseProverbsModel") (nm := "errorCode") rfl rfl (Nat.le_of_ble_eq_true rfl) ?_
  intro p e s m args below meth c Q C hQ
  first | refine ri_aload_n C dX4_errorCode_0 rfl ?_ | refine ri_aload_nQ C dX4_errorCode_0 rfl ?_ | refine ri_aload_nN C dX4_errorCode_0 rfl ?_
  refine ri_iconst C dX4_errorCode_1 kc_i0 ?_
  refine ri_putf C dX4_errorCode_2 fd_q2979_3 (fun h => nomatch h) (by first | assumption | (repeat (first | assumption | exact kx_rs (by assumption) | exact kx_ne2 (by omega) | exact kx_ne1 (by omega) | refine kx_ro (by assumption) ?_ ?_ | exact kx_rs rfl | refine kx_ro rfl ?_ ?_))) (Nat.le_of_ble_eq_true rfl) (by rfl) (by rfl) mo_set9 (fun s2 e2 => ?_)
  first | refine ri_aload_n C dX4_errorCode_5 rfl ?_ | refine ri_aload_nQ C dX4_errorCode_5 rfl ?_ | refine ri_aload_nN C dX4_errorCode_5 rfl ?_
  refine ri_getf C dX4_errorCode_6 fr_q2982_3 (by first | assumption | (repeat (first | assumption | exact kx_rs (by assumption) | exact kx_ne2 (by omega) | exact kx_ne1 (by omega) | refine kx_ro (by assumption) ?_ ?_ | exact kx_rs rfl | refine kx_ro rfl ?_ ?_))) (by rfl) ?_
  exact ri_iret C hQ dX4_errorCode_9 rfl (Nat.le_of_ble_eq_true rfl) (Nat.le_of_ble_eq_true rfl) ⟨rfl, e2⟩
set_option maxHeartbeats 1000000 in
theorem mt_X4_errorOffset {l : Launch} {G : kx_G} (htr : l.stackTraces = false) {σ : kx_H} {mo : Nat} {ad : Nat → Nat} {z : Nat → Int32} (h0 : σ (1, 0) = some (mo, .inr (3, mo_L ad z))) : kx_SP l G yX4_errorOffset (ws_ yX4_errorOffset cX4_errorOffset 1 (some .int)) 1 0 0 [.ref mo] σ (fun v τ => v = some (.int (z 13)) ∧ τ = kx_up σ (1, 0) (mo, .inr (3, mo_L ad (mo_z z 9 (nI 0))))) kx_nx := by
  refine kx_body htr (by decide +kernel) (own := "RoseProverbsModel") (nm := "errorOffset") rfl rfl (Nat.le_of_ble_eq_true rfl) ?_
  intro p e s m args below meth c Q C hQ
  first | refine ri_aload_n C dX4_errorOffset_0 rfl ?_ | refine ri_aload_nQ C dX4_errorOffset_0 rfl ?_ | refine ri_aload_nN C dX4_errorOffset_0 rfl ?_
  refine ri_iconst C dX4_errorOffset_1 kc_i0 ?_
  refine ri_putf C dX4_errorOffset_2 fd_q2979_3 (fun h => nomatch h) (by first | assumption | (repeat (first | assumption | exact kx_rs (by assumption) | exact kx_ne2 (by omega) | exact kx_ne1 (by omega) | refine kx_ro (by assumption) ?_ ?_ | exact kx_rs rfl | refine kx_ro rfl ?_ ?_))) (Nat.le_of_ble_eq_true rfl) (by rfl) (by rfl) mo_set9 (fun s2 e2 => ?_)
  first | refine ri_aload_n C dX4_errorOffset_5 rfl ?_ | refine ri_aload_nQ C dX4_errorOffset_5 rfl ?_ | refine ri_aload_nN C dX4_errorOffset_5 rfl ?_
  refine ri_getf C dX4_errorOffset_6 fr_q2983_3 (by first | assumption | (repeat (first | assumption | exact kx_rs (by assumption) | exact kx_ne2 (by omega) | exact kx_ne1 (by omega) | refine kx_ro (by assumption) ?_ ?_ | exact kx_rs rfl | refine kx_ro rfl ?_ ?_))) (by rfl) ?_
  exact ri_iret C hQ dX4_errorOffset_9 rfl (Nat.le_of_ble_eq_true rfl) (Nat.le_of_ble_eq_true rfl) ⟨rfl, e2⟩
set_option maxHeartbeats 1000000 in
theorem mt_X4_thrown {l : Launch} {G : kx_G} (htr : l.stackTraces = false) {σ : kx_H} {mo : Nat} {ad : Nat → Nat} {z : Nat → Int32} (h0 : σ (1, 0) = some (mo, .inr (3, mo_L ad z))) : kx_SP l G yX4_thrown (ws_ yX4_thrown cX4_thrown 1 (some .int)) 1 0 0 [.ref mo] σ (fun v τ => v = some (.int (z 9)) ∧ τ = σ) kx_nx := by
  refine kx_body htr (by decide +kernel) (own := "RoseProverbsModel") (nm := "thrown") rfl rfl (Nat.le_of_ble_eq_true rfl) ?_
  intro p e s m args below meth c Q C hQ
  first | refine ri_aload_n C dX4_thrown_0 rfl ?_ | refine ri_aload_nQ C dX4_thrown_0 rfl ?_ | refine ri_aload_nN C dX4_thrown_0 rfl ?_
  refine ri_getf C dX4_thrown_1 fr_q2979_3 (by first | assumption | (repeat (first | assumption | exact kx_rs (by assumption) | exact kx_ne2 (by omega) | exact kx_ne1 (by omega) | refine kx_ro (by assumption) ?_ ?_ | exact kx_rs rfl | refine kx_ro rfl ?_ ?_))) (by rfl) ?_
  exact ri_iret C hQ dX4_thrown_4 rfl (Nat.le_of_ble_eq_true rfl) (Nat.le_of_ble_eq_true rfl) ⟨rfl, rfl⟩
