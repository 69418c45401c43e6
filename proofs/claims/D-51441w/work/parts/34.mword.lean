/-! the reference: words -/
set_option maxRecDepth 100000
def pt_w (inp : Nat → Nat) (N s : Nat) (l : List Nat) : Bool := decide (pt_k inp N s = 1 ∧ pt_e inp N s - s = l.length ∧ ∀ i, i < l.length → inp (s + i) = l.getD i 0)
def kx_bl (bs : List Int32) (l : List Nat) : Prop := bs.length = l.length ∧ ∀ j, j < l.length → bs.getD j 0 = nI (l.getD j 0) ∧ l.getD j 0 < 128
theorem kx_sgC {G : kx_G} {σ : kx_H} {x : String × Nat × String × List Int32 × Int32} (i : Nat) (h : kx_sk[i]? = some x) : kx_sg G σ (G.2.2.2 (20 + i)) (G.2.2.2 (40 + i)) x.2.2.2.1 := Or.inr ⟨i, x, h, rfl, rfl, rfl⟩
def w_proverb : List Nat := [112, 114, 111, 118, 101, 114, 98]
def w_rule : List Nat := [114, 117, 108, 101]
def w_rise : List Nat := [114, 105, 115, 101]
def w_fall : List Nat := [102, 97, 108, 108]
def w_day : List Nat := [100, 97, 121]
def w_forget : List Nat := [102, 111, 114, 103, 101, 116]
def w_weigh : List Nat := [119, 101, 105, 103, 104]
section
variable {G : kx_G} {l : Launch} {p : Program} {e : Env} {R : Room} {s : State} {m : MethodId} {args : Array Value} {below : List Frame} {meth : Method} {c : Code} {cc : ByteArray} {own : String} {nL : Nat} {ret : Option FieldType} {nm : String} {hh : List (Nat × Nat × Nat × Nat)} {Q : State → Prop} {pc : Nat} {lv : List (Nat × Value)} {rest : List Value} {σ : kx_H} {k n : Nat}
theorem ri_ldcwS (C : kx_C G l p e R s m args below meth c cc own nL ret nm hh) {index : Nat} (i : Nat) {x : String × Nat × String × List Int32 × Int32} (d : decode cc pc = .ok (.ldc_w index, 3)) (hx : kx_sk[i]? = some x) (h1 : x.1 = own) (h2 : x.2.1 = index)
    (kk : kx_V G l p e R s m args below meth c nL Q (pc + 3) lv (.ref (G.2.2.2 (20 + i)) :: rest) σ k n) : kx_V G l p e R s m args below meth c nL Q pc lv rest σ k n := by
  intro H locs ls hw hS hl
  have hZ := (C.st.2.2.2.2.2.1 (i, x) hx).1
  subst h1; subst h2
  intro T hT X
  obtain ⟨t, a1, b1⟩ := kk H locs ls hw hS hl T hT X
  exact ⟨t, X.ldcStringW C.hx C.ow (text := x.2.2.1) (a := G.2.2.2 (20 + i)) hZ.1 hZ.2 (g := F0 m pc ls rest) rfl (by rw [C.hb]; exact d) t a1, b1⟩
end
set_option maxHeartbeats 1000000 in
theorem mt_X4_isWord {l : Launch} {G : kx_G} (htr : l.stackTraces = false) {σ : kx_H} {mo : Nat} {ad : Nat → Nat} {z : Nat → Int32} (h0 : σ (1, 0) = some (mo, .inr (3, mo_L ad z))) {inp : Nat → Nat} {N : Nat} (hin : σ (1, 11) = some (ad 10, kx_ai G 700 (mx_w inp))) {s0 : Nat} (hat : mo_at z inp N s0) (hN7 : N ≤ 700) (hby : ∀ k, k < N → inp k < 256) {a v : Nat} {bs : List Int32} {w : List Nat} (hg : kx_sg G σ a v bs) (hbl : kx_bl bs w) (hw : w.length < 100) : kx_SP l G yX4_isWord (ws_ yX4_isWord cX4_isWord 3 (some .boolean)) 5 0 0 [.ref mo, .ref a] σ (fun v τ => v = some (.int (kx_b (pt_w inp N s0 w))) ∧ τ = σ) kx_nx := by
  refine kx_body htr (by decide +kernel) (own := "RoseProverbsModel") (nm := "isWord") rfl rfl (Nat.le_of_ble_eq_true rfl) ?_
  intro p e s m args below meth c Q C hQ
  obtain ⟨h11, h14, h16, h17, h18, h19, hs0, hv15⟩ := hat
  have hkb : pt_k inp N s0 < 5 := by unfold pt_k; split <;> (repeat (first | omega | split))
  have heN := pt_e_N (inp := inp) hs0
  obtain ⟨hb1, hb2⟩ := hbl
  first | refine ri_aload_n C dX4_isWord_0 rfl ?_ | refine ri_aload_nQ C dX4_isWord_0 rfl ?_ | refine ri_aload_nN C dX4_isWord_0 rfl ?_
  refine ri_getf C dX4_isWord_1 fr_q2989_3 (by first | assumption | (repeat (first | assumption | exact kx_rs (by assumption) | exact kx_ne2 (by omega) | exact kx_ne1 (by omega) | refine kx_ro (by assumption) ?_ ?_ | exact kx_rs rfl | refine kx_ro rfl ?_ ?_))) (by rfl) ?_
  rw [h19]
  refine ri_iconst C dX4_isWord_4 kc_i1 ?_
  first | refine ri_icmp_neN C 24 dX4_isWord_5 rfl (by omega) (by omega) (fun h5 => ?_) (fun h5 => ?_) | refine ri_icmp_ne C 24 dX4_isWord_5 rfl (fun h5 => ?_) (fun h5 => ?_)
  · refine ri_iconst C dX4_isWord_24 kc_i0 ?_
    exact ri_iret C hQ dX4_isWord_25 rfl (Nat.le_of_ble_eq_true rfl) (Nat.le_of_ble_eq_true rfl) (by refine ⟨congrArg (fun z => some (Value.int z)) ?_, rfl⟩; exact kx_b_f (decide_eq_false (fun h => by first | exact h5 h.1 | exact h21 h.2.1 | omega)))
  · first | refine ri_aload_n C dX4_isWord_8 rfl ?_ | refine ri_aload_nQ C dX4_isWord_8 rfl ?_ | refine ri_aload_nN C dX4_isWord_8 rfl ?_
    refine ri_getf C dX4_isWord_9 fr_q2986_3 (by first | assumption | (repeat (first | assumption | exact kx_rs (by assumption) | exact kx_ne2 (by omega) | exact kx_ne1 (by omega) | refine kx_ro (by assumption) ?_ ?_ | exact kx_rs rfl | refine kx_ro rfl ?_ ?_))) (by rfl) ?_
    rw [h16]
    first | refine ri_aload_n C dX4_isWord_12 rfl ?_ | refine ri_aload_nQ C dX4_isWord_12 rfl ?_ | refine ri_aload_nN C dX4_isWord_12 rfl ?_
    refine ri_getf C dX4_isWord_13 fr_q2987_3 (by first | assumption | (repeat (first | assumption | exact kx_rs (by assumption) | exact kx_ne2 (by omega) | exact kx_ne1 (by omega) | refine kx_ro (by assumption) ?_ ?_ | exact kx_rs rfl | refine kx_ro rfl ?_ ?_))) (by rfl) ?_
    rw [h17]
    first | refine ri_isubN C dX4_isWord_16 (by omega) ?_ | refine ri_isub C dX4_isWord_16 ?_
    first | refine ri_aload_n C dX4_isWord_17 rfl ?_ | refine ri_aload_nQ C dX4_isWord_17 rfl ?_ | refine ri_aload_nN C dX4_isWord_17 rfl ?_
    refine ri_callV C km_J9_length q3110 q391 dX4_isWord_18 (mt_J9_length htr hg) rfl rfl (kx_rcS C hg) ⟨⟨(Nat.le_of_ble_eq_true rfl), (Nat.le_of_ble_eq_true rfl)⟩, (Nat.le_of_ble_eq_true rfl), (Nat.le_of_ble_eq_true rfl), (Nat.le_of_ble_eq_true rfl)⟩ (fun v18 s18 h18 => ?_) (fun _ _ _ h => h.elim)
    obtain ⟨rfl, rfl⟩ := h18
    rw [hb1]
    first | refine ri_icmp_eqN C 26 dX4_isWord_21 rfl (by omega) (by omega) (fun h21 => ?_) (fun h21 => ?_) | refine ri_icmp_eq C 26 dX4_isWord_21 rfl (fun h21 => ?_) (fun h21 => ?_)
    · refine ri_iconst C dX4_isWord_26 kc_i0 ?_
      refine ri_istore_n C dX4_isWord_27 rfl (by decide) ?_
      have LP : ∀ (wk i : Nat) , i ≤ w.length → w.length < i + wk → (∀ j, j < i → inp (s0 + j) = w.getD j 0) → kx_V G l p e (kx_rm 5 0 0) s m args below meth c 3 Q 28 [(0, .ref mo), (1, .ref a), (2, .int (nI i))] [] s18 0 0 := by
        intro wk
        induction wk with
        | zero => intro i  h1 h2; exact absurd h2 (by omega)
        | succ wk ih =>
          intro i  hi hwk hI
          refine ri_iload_n C dX4_isWord_28 rfl ?_
          first | refine ri_aload_n C dX4_isWord_29 rfl ?_ | refine ri_aload_nQ C dX4_isWord_29 rfl ?_ | refine ri_aload_nN C dX4_isWord_29 rfl ?_
          refine ri_callV C km_J9_length q3110 q391 dX4_isWord_30 (mt_J9_length htr hg) rfl rfl (kx_rcS C hg) ⟨⟨(Nat.le_of_ble_eq_true rfl), (Nat.le_of_ble_eq_true rfl)⟩, (Nat.le_of_ble_eq_true rfl), (Nat.le_of_ble_eq_true rfl), (Nat.le_of_ble_eq_true rfl)⟩ (fun v30 s30 h30 => ?_) (fun _ _ _ h => h.elim)
          obtain ⟨rfl, rfl⟩ := h30
          rw [hb1]
          first | refine ri_icmp_geN C 63 dX4_isWord_33 rfl (by omega) (by omega) (fun h33 => ?_) (fun h33 => ?_) | refine ri_icmp_ge C 63 dX4_isWord_33 rfl (fun h33 => ?_) (fun h33 => ?_)
          · refine ri_iconst C dX4_isWord_63 kc_i1 ?_
            exact ri_iret C hQ dX4_isWord_64 rfl (Nat.le_of_ble_eq_true rfl) (Nat.le_of_ble_eq_true rfl) (by refine ⟨congrArg (fun z => some (Value.int z)) ?_, rfl⟩; exact kx_b_t (decide_eq_true ⟨h5, h21, fun j hj => hI j (by omega)⟩))
          · have hc := hb2 i (by omega)
            have hib := hby (s0 + i) (by omega)
            first | refine ri_aload_n C dX4_isWord_36 rfl ?_ | refine ri_aload_nQ C dX4_isWord_36 rfl ?_ | refine ri_aload_nN C dX4_isWord_36 rfl ?_
            refine ri_getf C dX4_isWord_37 fr_q2980_3 (by first | assumption | (repeat (first | assumption | exact kx_rs (by assumption) | exact kx_ne2 (by omega) | exact kx_ne1 (by omega) | refine kx_ro (by assumption) ?_ ?_ | exact kx_rs rfl | refine kx_ro rfl ?_ ?_))) (by rfl) ?_
            first | refine ri_aload_n C dX4_isWord_40 rfl ?_ | refine ri_aload_nQ C dX4_isWord_40 rfl ?_ | refine ri_aload_nN C dX4_isWord_40 rfl ?_
            refine ri_getf C dX4_isWord_41 fr_q2987_3 (by first | assumption | (repeat (first | assumption | exact kx_rs (by assumption) | exact kx_ne2 (by omega) | exact kx_ne1 (by omega) | refine kx_ro (by assumption) ?_ ?_ | exact kx_rs rfl | refine kx_ro rfl ?_ ?_))) (by rfl) ?_
            rw [h17]
            refine ri_iload_n C dX4_isWord_44 rfl ?_
            first | refine ri_iaddN C dX4_isWord_45 ?_ | refine ri_iadd C dX4_isWord_45 ?_
            first | refine ri_ialoadN C dX4_isWord_46 hin rfl (by omega) ?_ | refine ri_iaload C dX4_isWord_46 hin rfl (by omega) ?_
            first | refine ri_aload_n C dX4_isWord_47 rfl ?_ | refine ri_aload_nQ C dX4_isWord_47 rfl ?_ | refine ri_aload_nN C dX4_isWord_47 rfl ?_
            refine ri_iload_n C dX4_isWord_48 rfl ?_
            refine ri_callV C km_J9_charAt q3111 q1350 dX4_isWord_49 (mt_J9_charAt htr hg (by omega) hc.1 hc.2) rfl rfl (kx_rcS C hg) ⟨⟨(Nat.le_of_ble_eq_true rfl), (Nat.le_of_ble_eq_true rfl)⟩, (Nat.le_of_ble_eq_true rfl), (Nat.le_of_ble_eq_true rfl), (Nat.le_of_ble_eq_true rfl)⟩ (fun v49 s49 h49 => ?_) (fun _ _ _ h => h.elim)
            obtain ⟨rfl, rfl⟩ := h49
            first | refine ri_icmp_eqN C 57 dX4_isWord_52 rfl (by omega) (by omega) (fun h52 => ?_) (fun h52 => ?_) | refine ri_icmp_eq C 57 dX4_isWord_52 rfl (fun h52 => ?_) (fun h52 => ?_)
            · first | refine ri_iincN C dX4_isWord_57 rfl rfl (by decide) ?_ | refine ri_iinc C dX4_isWord_57 rfl rfl rfl (by decide) ?_
              refine ri_goto C 28 dX4_isWord_60 rfl ?_
              refine ri_lv2 (ih (i + 1) (by omega) (by omega) (fun j hj => ?_)) ⟨rfl, rfl, rfl, trivial⟩
              by_cases c : j = i
              · subst c; exact h52
              · exact hI j (by omega)
            · refine ri_iconst C dX4_isWord_55 kc_i0 ?_
              exact ri_iret C hQ dX4_isWord_56 rfl (Nat.le_of_ble_eq_true rfl) (Nat.le_of_ble_eq_true rfl) (by refine ⟨congrArg (fun z => some (Value.int z)) ?_, rfl⟩; exact kx_b_f (decide_eq_false (fun h => h52 (h.2.2 i (by omega)))))
      exact ri_lv2 (LP (w.length + 1) 0 (by omega) (by omega) (fun j hj => absurd hj (by omega))) ⟨rfl, rfl, rfl, trivial⟩
    · refine ri_iconst C dX4_isWord_24 kc_i0 ?_
      exact ri_iret C hQ dX4_isWord_25 rfl (Nat.le_of_ble_eq_true rfl) (Nat.le_of_ble_eq_true rfl) (by refine ⟨congrArg (fun z => some (Value.int z)) ?_, rfl⟩; exact kx_b_f (decide_eq_false (fun h => by first | exact h5 h.1 | exact h21 h.2.1 | omega)))
theorem kx_bl_of {bs : List Int32} {l : List Nat} (h : bs.length = l.length) (g : (List.range l.length).all (fun j => bs.getD j 0 == nI (l.getD j 0) && Nat.blt (l.getD j 0) 128) = true) : kx_bl bs l := by
  refine ⟨h, fun j hj => ?_⟩
  have := List.all_eq_true.mp g j (List.mem_range.mpr hj)
  rw [Bool.and_eq_true] at this
  exact ⟨eq_of_beq this.1, Nat.blt_eq.mp this.2⟩
def st_w (inp : Nat → Nat) (N s : Nat) : Option Nat := if pt_w inp N s w_rule then some 5 else if pt_w inp N s w_rise then some 6 else if pt_w inp N s w_fall then some 7 else none
def sc_w (inp : Nat → Nat) (N s : Nat) : Nat := if pt_w inp N s w_day then 1 else if pt_w inp N s w_proverb then 2 else if pt_w inp N s w_forget then 3 else if pt_w inp N s w_weigh then 4 else match st_w inp N s with
  | none => 0
  | some _ => 5
theorem st_w_r {inp : Nat → Nat} {N s b : Nat} (h : st_w inp N s = some b) : 5 ≤ b ∧ b ≤ 7 := by
  unfold st_w at h
  repeat (first | (injection h with h; omega) | (cases h; done) | split at h)
set_option maxHeartbeats 1000000 in
theorem mt_X4_settingHere {l : Launch} {G : kx_G} (htr : l.stackTraces = false) {σ : kx_H} {mo : Nat} {ad : Nat → Nat} {z : Nat → Int32} (h0 : σ (1, 0) = some (mo, .inr (3, mo_L ad z))) {inp : Nat → Nat} {N : Nat} (hin : σ (1, 11) = some (ad 10, kx_ai G 700 (mx_w inp))) {s0 : Nat} (hat : mo_at z inp N s0) (hN7 : N ≤ 700) (hby : ∀ k, k < N → inp k < 256) : kx_SP l G yX4_settingHere (ws_ yX4_settingHere cX4_settingHere 1 (some .int)) 6 0 0 [.ref mo] σ (fun v τ => v = some (.int (mx_o (st_w inp N s0))) ∧ τ = σ) kx_nx := by
  refine kx_body htr (by decide +kernel) (own := "RoseProverbsModel") (nm := "settingHere") rfl rfl (Nat.le_of_ble_eq_true rfl) ?_
  intro p e s m args below meth c Q C hQ
  first | refine ri_aload_n C dX4_settingHere_0 rfl ?_ | refine ri_aload_nQ C dX4_settingHere_0 rfl ?_ | refine ri_aload_nN C dX4_settingHere_0 rfl ?_
  refine ri_ldcS C 10 dX4_settingHere_1 rfl rfl rfl ?_
  refine ri_callV C km_X4_isWord q3106 qs67 dX4_settingHere_3 (mt_X4_isWord htr h0 hin hat hN7 hby (w := w_rule) (kx_sgC 10 rfl) (kx_bl_of rfl (by decide)) (by decide)) rfl rfl (kx_rcN C (by first | assumption | (repeat (first | assumption | exact kx_rs (by assumption) | exact kx_ne2 (by omega) | exact kx_ne1 (by omega) | refine kx_ro (by assumption) ?_ ?_ | exact kx_rs rfl | refine kx_ro rfl ?_ ?_))) rfl) ⟨⟨(Nat.le_of_ble_eq_true rfl), (Nat.le_of_ble_eq_true rfl)⟩, (Nat.le_of_ble_eq_true rfl), (Nat.le_of_ble_eq_true rfl), (Nat.le_of_ble_eq_true rfl)⟩ (fun v3 s3 h3 => ?_) (fun _ _ _ h => h.elim)
  obtain ⟨rfl, rfl⟩ := h3
  first | refine ri_if_eqB C 11 dX4_settingHere_6 rfl (fun h6 => ?_) (fun h6 => ?_) | refine ri_if_eqN C 11 dX4_settingHere_6 rfl (by omega) (fun h6 => ?_) (fun h6 => ?_) | refine ri_if_eq C 11 dX4_settingHere_6 rfl (fun h6 => ?_) (fun h6 => ?_)
  · first | refine ri_aload_n C dX4_settingHere_11 rfl ?_ | refine ri_aload_nQ C dX4_settingHere_11 rfl ?_ | refine ri_aload_nN C dX4_settingHere_11 rfl ?_
    refine ri_ldcS C 11 dX4_settingHere_12 rfl rfl rfl ?_
    refine ri_callV C km_X4_isWord q3106 qs67 dX4_settingHere_14 (mt_X4_isWord htr h0 hin hat hN7 hby (w := w_rise) (kx_sgC 11 rfl) (kx_bl_of rfl (by decide)) (by decide)) rfl rfl (kx_rcN C (by first | assumption | (repeat (first | assumption | exact kx_rs (by assumption) | exact kx_ne2 (by omega) | exact kx_ne1 (by omega) | refine kx_ro (by assumption) ?_ ?_ | exact kx_rs rfl | refine kx_ro rfl ?_ ?_))) rfl) ⟨⟨(Nat.le_of_ble_eq_true rfl), (Nat.le_of_ble_eq_true rfl)⟩, (Nat.le_of_ble_eq_true rfl), (Nat.le_of_ble_eq_true rfl), (Nat.le_of_ble_eq_true rfl)⟩ (fun v14 s14 h14 => ?_) (fun _ _ _ h => h.elim)
    obtain ⟨rfl, rfl⟩ := h14
    first | refine ri_if_eqB C 23 dX4_settingHere_17 rfl (fun h17 => ?_) (fun h17 => ?_) | refine ri_if_eqN C 23 dX4_settingHere_17 rfl (by omega) (fun h17 => ?_) (fun h17 => ?_) | refine ri_if_eq C 23 dX4_settingHere_17 rfl (fun h17 => ?_) (fun h17 => ?_)
    · first | refine ri_aload_n C dX4_settingHere_23 rfl ?_ | refine ri_aload_nQ C dX4_settingHere_23 rfl ?_ | refine ri_aload_nN C dX4_settingHere_23 rfl ?_
      refine ri_ldcS C 12 dX4_settingHere_24 rfl rfl rfl ?_
      refine ri_callV C km_X4_isWord q3106 qs67 dX4_settingHere_26 (mt_X4_isWord htr h0 hin hat hN7 hby (w := w_fall) (kx_sgC 12 rfl) (kx_bl_of rfl (by decide)) (by decide)) rfl rfl (kx_rcN C (by first | assumption | (repeat (first | assumption | exact kx_rs (by assumption) | exact kx_ne2 (by omega) | exact kx_ne1 (by omega) | refine kx_ro (by assumption) ?_ ?_ | exact kx_rs rfl | refine kx_ro rfl ?_ ?_))) rfl) ⟨⟨(Nat.le_of_ble_eq_true rfl), (Nat.le_of_ble_eq_true rfl)⟩, (Nat.le_of_ble_eq_true rfl), (Nat.le_of_ble_eq_true rfl), (Nat.le_of_ble_eq_true rfl)⟩ (fun v26 s26 h26 => ?_) (fun _ _ _ h => h.elim)
      obtain ⟨rfl, rfl⟩ := h26
      first | refine ri_if_eqB C 37 dX4_settingHere_29 rfl (fun h29 => ?_) (fun h29 => ?_) | refine ri_if_eqN C 37 dX4_settingHere_29 rfl (by omega) (fun h29 => ?_) (fun h29 => ?_) | refine ri_if_eq C 37 dX4_settingHere_29 rfl (fun h29 => ?_) (fun h29 => ?_)
      · refine ri_iconst C dX4_settingHere_37 kc_im1 ?_
        exact ri_iret C hQ dX4_settingHere_38 rfl (Nat.le_of_ble_eq_true rfl) (Nat.le_of_ble_eq_true rfl) (by refine ⟨congrArg (fun z => some (Value.int z)) ?_, rfl⟩; unfold st_w; simp [h6, h17, h29, mx_o])
      · refine ri_bipush C dX4_settingHere_32 kc_b7 ?_
        refine ri_goto C 38 dX4_settingHere_34 rfl ?_
        exact ri_iret C hQ dX4_settingHere_38 rfl (Nat.le_of_ble_eq_true rfl) (Nat.le_of_ble_eq_true rfl) (by refine ⟨congrArg (fun z => some (Value.int z)) ?_, rfl⟩; unfold st_w; simp [h6, h17, h29, mx_o])
    · refine ri_bipush C dX4_settingHere_20 kc_b6 ?_
      exact ri_iret C hQ dX4_settingHere_22 rfl (Nat.le_of_ble_eq_true rfl) (Nat.le_of_ble_eq_true rfl) (by refine ⟨congrArg (fun z => some (Value.int z)) ?_, rfl⟩; unfold st_w; simp [h6, h17, mx_o])
  · refine ri_iconst C dX4_settingHere_9 kc_i5 ?_
    exact ri_iret C hQ dX4_settingHere_10 rfl (Nat.le_of_ble_eq_true rfl) (Nat.le_of_ble_eq_true rfl) (by refine ⟨congrArg (fun z => some (Value.int z)) ?_, rfl⟩; unfold st_w; simp [h6, mx_o])
set_option maxHeartbeats 1000000 in
theorem mt_X4_scriptHere {l : Launch} {G : kx_G} (htr : l.stackTraces = false) {σ : kx_H} {mo : Nat} {ad : Nat → Nat} {z : Nat → Int32} (h0 : σ (1, 0) = some (mo, .inr (3, mo_L ad z))) {inp : Nat → Nat} {N : Nat} (hin : σ (1, 11) = some (ad 10, kx_ai G 700 (mx_w inp))) {s0 : Nat} (hat : mo_at z inp N s0) (hN7 : N ≤ 700) (hby : ∀ k, k < N → inp k < 256) : kx_SP l G yX4_scriptHere (ws_ yX4_scriptHere cX4_scriptHere 1 (some .int)) 7 0 0 [.ref mo] σ (fun v τ => v = some (.int (nI (sc_w inp N s0))) ∧ τ = σ) kx_nx := by
  refine kx_body htr (by decide +kernel) (own := "RoseProverbsModel") (nm := "scriptHere") rfl rfl (Nat.le_of_ble_eq_true rfl) ?_
  intro p e s m args below meth c Q C hQ
  first | refine ri_aload_n C dX4_scriptHere_0 rfl ?_ | refine ri_aload_nQ C dX4_scriptHere_0 rfl ?_ | refine ri_aload_nN C dX4_scriptHere_0 rfl ?_
  refine ri_ldcwS C 13 dX4_scriptHere_1 rfl rfl rfl ?_
  refine ri_callV C km_X4_isWord q3106 qs67 dX4_scriptHere_4 (mt_X4_isWord htr h0 hin hat hN7 hby (w := w_day) (kx_sgC 13 rfl) (kx_bl_of rfl (by decide)) (by decide)) rfl rfl (kx_rcN C (by first | assumption | (repeat (first | assumption | exact kx_rs (by assumption) | exact kx_ne2 (by omega) | exact kx_ne1 (by omega) | refine kx_ro (by assumption) ?_ ?_ | exact kx_rs rfl | refine kx_ro rfl ?_ ?_))) rfl) ⟨⟨(Nat.le_of_ble_eq_true rfl), (Nat.le_of_ble_eq_true rfl)⟩, (Nat.le_of_ble_eq_true rfl), (Nat.le_of_ble_eq_true rfl), (Nat.le_of_ble_eq_true rfl)⟩ (fun v4 s4 h4 => ?_) (fun _ _ _ h => h.elim)
  obtain ⟨rfl, rfl⟩ := h4
  first | refine ri_if_eqB C 12 dX4_scriptHere_7 rfl (fun h7 => ?_) (fun h7 => ?_) | refine ri_if_eqN C 12 dX4_scriptHere_7 rfl (by omega) (fun h7 => ?_) (fun h7 => ?_) | refine ri_if_eq C 12 dX4_scriptHere_7 rfl (fun h7 => ?_) (fun h7 => ?_)
  · first | refine ri_aload_n C dX4_scriptHere_12 rfl ?_ | refine ri_aload_nQ C dX4_scriptHere_12 rfl ?_ | refine ri_aload_nN C dX4_scriptHere_12 rfl ?_
    refine ri_ldcS C 9 dX4_scriptHere_13 rfl rfl rfl ?_
    refine ri_callV C km_X4_isWord q3106 qs67 dX4_scriptHere_15 (mt_X4_isWord htr h0 hin hat hN7 hby (w := w_proverb) (kx_sgC 9 rfl) (kx_bl_of rfl (by decide)) (by decide)) rfl rfl (kx_rcN C (by first | assumption | (repeat (first | assumption | exact kx_rs (by assumption) | exact kx_ne2 (by omega) | exact kx_ne1 (by omega) | refine kx_ro (by assumption) ?_ ?_ | exact kx_rs rfl | refine kx_ro rfl ?_ ?_))) rfl) ⟨⟨(Nat.le_of_ble_eq_true rfl), (Nat.le_of_ble_eq_true rfl)⟩, (Nat.le_of_ble_eq_true rfl), (Nat.le_of_ble_eq_true rfl), (Nat.le_of_ble_eq_true rfl)⟩ (fun v15 s15 h15 => ?_) (fun _ _ _ h => h.elim)
    obtain ⟨rfl, rfl⟩ := h15
    first | refine ri_if_eqB C 23 dX4_scriptHere_18 rfl (fun h18 => ?_) (fun h18 => ?_) | refine ri_if_eqN C 23 dX4_scriptHere_18 rfl (by omega) (fun h18 => ?_) (fun h18 => ?_) | refine ri_if_eq C 23 dX4_scriptHere_18 rfl (fun h18 => ?_) (fun h18 => ?_)
    · first | refine ri_aload_n C dX4_scriptHere_23 rfl ?_ | refine ri_aload_nQ C dX4_scriptHere_23 rfl ?_ | refine ri_aload_nN C dX4_scriptHere_23 rfl ?_
      refine ri_ldcwS C 14 dX4_scriptHere_24 rfl rfl rfl ?_
      refine ri_callV C km_X4_isWord q3106 qs67 dX4_scriptHere_27 (mt_X4_isWord htr h0 hin hat hN7 hby (w := w_forget) (kx_sgC 14 rfl) (kx_bl_of rfl (by decide)) (by decide)) rfl rfl (kx_rcN C (by first | assumption | (repeat (first | assumption | exact kx_rs (by assumption) | exact kx_ne2 (by omega) | exact kx_ne1 (by omega) | refine kx_ro (by assumption) ?_ ?_ | exact kx_rs rfl | refine kx_ro rfl ?_ ?_))) rfl) ⟨⟨(Nat.le_of_ble_eq_true rfl), (Nat.le_of_ble_eq_true rfl)⟩, (Nat.le_of_ble_eq_true rfl), (Nat.le_of_ble_eq_true rfl), (Nat.le_of_ble_eq_true rfl)⟩ (fun v27 s27 h27 => ?_) (fun _ _ _ h => h.elim)
      obtain ⟨rfl, rfl⟩ := h27
      first | refine ri_if_eqB C 35 dX4_scriptHere_30 rfl (fun h30 => ?_) (fun h30 => ?_) | refine ri_if_eqN C 35 dX4_scriptHere_30 rfl (by omega) (fun h30 => ?_) (fun h30 => ?_) | refine ri_if_eq C 35 dX4_scriptHere_30 rfl (fun h30 => ?_) (fun h30 => ?_)
      · first | refine ri_aload_n C dX4_scriptHere_35 rfl ?_ | refine ri_aload_nQ C dX4_scriptHere_35 rfl ?_ | refine ri_aload_nN C dX4_scriptHere_35 rfl ?_
        refine ri_ldcwS C 15 dX4_scriptHere_36 rfl rfl rfl ?_
        refine ri_callV C km_X4_isWord q3106 qs67 dX4_scriptHere_39 (mt_X4_isWord htr h0 hin hat hN7 hby (w := w_weigh) (kx_sgC 15 rfl) (kx_bl_of rfl (by decide)) (by decide)) rfl rfl (kx_rcN C (by first | assumption | (repeat (first | assumption | exact kx_rs (by assumption) | exact kx_ne2 (by omega) | exact kx_ne1 (by omega) | refine kx_ro (by assumption) ?_ ?_ | exact kx_rs rfl | refine kx_ro rfl ?_ ?_))) rfl) ⟨⟨(Nat.le_of_ble_eq_true rfl), (Nat.le_of_ble_eq_true rfl)⟩, (Nat.le_of_ble_eq_true rfl), (Nat.le_of_ble_eq_true rfl), (Nat.le_of_ble_eq_true rfl)⟩ (fun v39 s39 h39 => ?_) (fun _ _ _ h => h.elim)
        obtain ⟨rfl, rfl⟩ := h39
        first | refine ri_if_eqB C 47 dX4_scriptHere_42 rfl (fun h42 => ?_) (fun h42 => ?_) | refine ri_if_eqN C 47 dX4_scriptHere_42 rfl (by omega) (fun h42 => ?_) (fun h42 => ?_) | refine ri_if_eq C 47 dX4_scriptHere_42 rfl (fun h42 => ?_) (fun h42 => ?_)
        · first | refine ri_aload_n C dX4_scriptHere_47 rfl ?_ | refine ri_aload_nQ C dX4_scriptHere_47 rfl ?_ | refine ri_aload_nN C dX4_scriptHere_47 rfl ?_
          refine ri_callV C km_X4_settingHere q3148 qs77 dX4_scriptHere_48 (mt_X4_settingHere htr h0 hin hat hN7 hby) rfl rfl (kx_rcN C (by first | assumption | (repeat (first | assumption | exact kx_rs (by assumption) | exact kx_ne2 (by omega) | exact kx_ne1 (by omega) | refine kx_ro (by assumption) ?_ ?_ | exact kx_rs rfl | refine kx_ro rfl ?_ ?_))) rfl) ⟨⟨(Nat.le_of_ble_eq_true rfl), (Nat.le_of_ble_eq_true rfl)⟩, (Nat.le_of_ble_eq_true rfl), (Nat.le_of_ble_eq_true rfl), (Nat.le_of_ble_eq_true rfl)⟩ (fun v48 s48 h48 => ?_) (fun _ _ _ h => h.elim)
          obtain ⟨rfl, rfl⟩ := h48
          refine ri_iconst C dX4_scriptHere_51 kc_im1 ?_
          refine ri_icmp_ne C 59 dX4_scriptHere_52 rfl (fun h52 => ?_) (fun h52 => ?_)
          · obtain ⟨b, hb⟩ : ∃ b, st_w inp N s0 = some b := (by cases ht : st_w inp N s0 with | none => rw [ht] at h52; exact absurd rfl h52 | some b => exact ⟨b, rfl⟩)
            refine ri_iconst C dX4_scriptHere_59 kc_i5 ?_
            exact ri_iret C hQ dX4_scriptHere_60 rfl (Nat.le_of_ble_eq_true rfl) (Nat.le_of_ble_eq_true rfl) (by refine ⟨congrArg (fun z => some (Value.int z)) ?_, rfl⟩; unfold sc_w; simp [h7, h18, h30, h42, hb])
          · have hb : st_w inp N s0 = none := (by cases ht : st_w inp N s0 with | none => rfl | some b => rw [ht] at h52; exact absurd h52 (nI_m1 (by have := st_w_r ht; omega)))
            refine ri_iconst C dX4_scriptHere_55 kc_i0 ?_
            refine ri_goto C 60 dX4_scriptHere_56 rfl ?_
            exact ri_iret C hQ dX4_scriptHere_60 rfl (Nat.le_of_ble_eq_true rfl) (Nat.le_of_ble_eq_true rfl) (by refine ⟨congrArg (fun z => some (Value.int z)) ?_, rfl⟩; unfold sc_w; simp [h7, h18, h30, h42, hb])
        · refine ri_iconst C dX4_scriptHere_45 kc_i4 ?_
          exact ri_iret C hQ dX4_scriptHere_46 rfl (Nat.le_of_ble_eq_true rfl) (Nat.le_of_ble_eq_true rfl) (by refine ⟨congrArg (fun z => some (Value.int z)) ?_, rfl⟩; unfold sc_w; simp [h7, h18, h30, h42])
      · refine ri_iconst C dX4_scriptHere_33 kc_i3 ?_
        exact ri_iret C hQ dX4_scriptHere_34 rfl (Nat.le_of_ble_eq_true rfl) (Nat.le_of_ble_eq_true rfl) (by refine ⟨congrArg (fun z => some (Value.int z)) ?_, rfl⟩; unfold sc_w; simp [h7, h18, h30])
    · refine ri_iconst C dX4_scriptHere_21 kc_i2 ?_
      exact ri_iret C hQ dX4_scriptHere_22 rfl (Nat.le_of_ble_eq_true rfl) (Nat.le_of_ble_eq_true rfl) (by refine ⟨congrArg (fun z => some (Value.int z)) ?_, rfl⟩; unfold sc_w; simp [h7, h18])
  · refine ri_iconst C dX4_scriptHere_10 kc_i1 ?_
    exact ri_iret C hQ dX4_scriptHere_11 rfl (Nat.le_of_ble_eq_true rfl) (Nat.le_of_ble_eq_true rfl) (by refine ⟨congrArg (fun z => some (Value.int z)) ?_, rfl⟩; unfold sc_w; simp [h7])
