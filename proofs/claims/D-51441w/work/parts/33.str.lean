/-! Strings of one byte a character -/
set_option maxRecDepth 100000
/-- the String at a has the array v with the bytes bs: made by the program, or one of the constants -/
def kx_sg (G : kx_G) (σ : kx_H) (a v : Nat) (bs : List Int32) : Prop :=
  (∃ (t t' : kx_T) (h z : Value) (f : Nat → Int32), σ t = some (a, .inr (16, [.ref v, .int 0, h, z])) ∧ σ t' = some (v, kx_ab G bs.length f) ∧ ∀ j, j < bs.length → f j = bs.getD j 0) ∨ (∃ (i : Nat) (x : String × Nat × String × List Int32 × Int32), kx_sk[i]? = some x ∧ a = G.2.2.2 (20 + i) ∧ v = G.2.2.2 (40 + i) ∧ bs = x.2.2.2.1)
section
variable {G : kx_G} {l : Launch} {p : Program} {e : Env} {R : Room} {s : State} {m : MethodId} {args : Array Value} {below : List Frame} {meth : Method} {c : Code} {cc : ByteArray} {own : String} {nL : Nat} {ret : Option FieldType} {nm : String} {hh : List (Nat × Nat × Nat × Nat)} {Q : State → Prop} {pc : Nat} {lv : List (Nat × Value)} {rest : List Value} {σ : kx_H} {k n : Nat}
theorem kx_sgO (C : kx_C G l p e R s m args below meth c cc own nL ret nm hh) {i : Nat} {x : String × Nat × String × List Int32 × Int32} (h : kx_sk[i]? = some x) : kx_Str (kx_A G) (G.2.2.2 (20 + i)) (G.2.2.2 (40 + i)) x.2.2.2.1 x.2.2.2.2 s s.heap := (C.st.2.2.2.2.2.1 (i, x) h).2
theorem ri_sval (C : kx_C G l p e R s m args below meth c cc own nL ret nm hh) {index : Nat} {a v : Nat} {bs : List Int32} {ty : FieldType} {ne : Bool} (d : decode cc pc = .ok (.getfield index, 3)) (hg : kx_sg G σ a v bs) (hF : kx_Fr' own index 16 0 ty ne) (hlink : Cond.fieldLink own index "java/lang/String" "value" "[B" ∈ lw_all)
    (kk : kx_V G l p e R s m args below meth c nL Q (pc + 3) lv (.ref v :: rest) σ k n) : kx_V G l p e R s m args below meth c nL Q pc lv (.ref a :: rest) σ k n := by
  rcases hg with ⟨t, t', h, z, f, h1, h2, h3⟩ | ⟨i, x, h1, rfl, rfl, rfl⟩
  · exact ri_getf C d hF h1 rfl kk
  · exact ri_getfO C d (kx_sgO C h1).2.2.1 hlink kk
theorem ri_scod (C : kx_C G l p e R s m args below meth c cc own nL ret nm hh) {index : Nat} {a v : Nat} {bs : List Int32} {ty : FieldType} {ne : Bool} (d : decode cc pc = .ok (.getfield index, 3)) (hg : kx_sg G σ a v bs) (hF : kx_Fr' own index 16 1 ty ne) (hlink : Cond.fieldLink own index "java/lang/String" "coder" "B" ∈ lw_all)
    (kk : kx_V G l p e R s m args below meth c nL Q (pc + 3) lv (.int 0 :: rest) σ k n) : kx_V G l p e R s m args below meth c nL Q pc lv (.ref a :: rest) σ k n := by
  rcases hg with ⟨t, t', h, z, f, h1, h2, h3⟩ | ⟨i, x, h1, rfl, rfl, rfl⟩
  · exact ri_getf C d hF h1 rfl kk
  · exact ri_getfO C d (kx_sgO C h1).2.1 hlink kk
theorem ri_slen (C : kx_C G l p e R s m args below meth c cc own nL ret nm hh) {a v : Nat} {bs : List Int32} (d : decode cc pc = .ok (.arraylength, 1)) (hg : kx_sg G σ a v bs)
    (kk : kx_V G l p e R s m args below meth c nL Q (pc + 1) lv (.int (nI bs.length) :: rest) σ k n) : kx_V G l p e R s m args below meth c nL Q pc lv (.ref v :: rest) σ k n := by
  rcases hg with ⟨t, t', h, z, f, h1, h2, h3⟩ | ⟨i, x, h1, rfl, rfl, rfl⟩
  · exact ri_alen C (i := 1) d rfl h2 kk
  · exact ri_tlen C d (kx_sgO C h1).2.2.2.1 kk
theorem ri_sbyt (C : kx_C G l p e R s m args below meth c cc own nL ret nm hh) {a v j : Nat} {bs : List Int32} (d : decode cc pc = .ok (.baload, 1)) (hg : kx_sg G σ a v bs) (hj : j < bs.length ∧ bs.length < 2147483648)
    (kk : kx_V G l p e R s m args below meth c nL Q (pc + 1) lv (.int (bs.getD j 0) :: rest) σ k n) : kx_V G l p e R s m args below meth c nL Q pc lv (.int (nI j) :: .ref v :: rest) σ k n := by
  rcases hg with ⟨t, t', h, z, f, h1, h2, h3⟩ | ⟨i, x, h1, rfl, rfl, rfl⟩
  · exact ri_baload C d h2 rfl hj (by rw [h3 j hj.1]; exact kk)
  · exact ri_tb C d (kx_sgO C h1).2.2.2.1 rfl hj kk
theorem kx_rcS (C : kx_C G l p e R s m args below meth c cc own nL ret nm hh) {a v : Nat} {bs : List Int32} (hg : kx_sg G σ a v bs) : kx_Rc G s σ a "java/lang/String" := by
  rcases hg with ⟨t, t', h, z, f, h1, h2, h3⟩ | ⟨i, x, h1, rfl, rfl, rfl⟩
  · exact kx_rcN C h1 rfl
  · exact kx_rcO (kx_sgO C h1).1
end
theorem kx_sh0 {x : Int32} : x >>> ((0 : Int32) &&& 31) = x := by
  rw [show (0 : Int32) &&& 31 = 0 by decide]; simp
theorem kx_i2c : ∀ c, c < 128 → (((nI c &&& nI 255).toUInt32 % 65536).toInt32 = nI c ∧ (nI c &&& nI 255) = nI c) := by decide +kernel
theorem kx_nch : ∀ c, c < 128 → narrow .char (.int (nI c)) = .int (nI c) := by decide +kernel
set_option maxHeartbeats 1000000 in
theorem mt_J9_coder {l : Launch} {G : kx_G} (htr : l.stackTraces = false) {σ : kx_H} {a v : Nat} {bs : List Int32} (hg : kx_sg G σ a v bs) : kx_SP l G yJ9_coder (ws_ yJ9_coder cJ9_coder 1 (some .byte)) 1 0 0 [.ref a] σ (fun v τ => v = some (.int (0)) ∧ τ = σ) kx_nx := by
  refine kx_body htr (by decide +kernel) (own := "java/lang/String") (nm := "coder") rfl rfl (Nat.le_of_ble_eq_true rfl) ?_
  intro p e s m args below meth c Q C hQ
  refine ri_gets C dJ9_coder_0 (List.mem_of_getElem? (i := 0) rfl) q397 ?_
  first | refine ri_if_eqB C 13 dJ9_coder_3 rfl (fun h3 => ?_) (fun h3 => ?_) | refine ri_if_eqN C 13 dJ9_coder_3 rfl (by omega) (fun h3 => ?_) (fun h3 => ?_) | refine ri_if_eq C 13 dJ9_coder_3 rfl (fun h3 => ?_) (fun h3 => ?_)
  · exact absurd h3 (by decide) --dead
  · first | refine ri_aload_n C dJ9_coder_6 rfl ?_ | refine ri_aload_nQ C dJ9_coder_6 rfl ?_ | refine ri_aload_nN C dJ9_coder_6 rfl ?_
    refine ri_scod C dJ9_coder_7 hg fr_q539_16 q539 ?_
    refine ri_goto C 14 dJ9_coder_10 rfl ?_
    exact ri_iret C hQ dJ9_coder_14 rfl (Nat.le_of_ble_eq_true rfl) (Nat.le_of_ble_eq_true rfl) ⟨rfl, rfl⟩
set_option maxHeartbeats 1000000 in
theorem mt_J9_isLatin1 {l : Launch} {G : kx_G} (htr : l.stackTraces = false) {σ : kx_H} {a v : Nat} {bs : List Int32} (hg : kx_sg G σ a v bs) : kx_SP l G yJ9_isLatin1 (ws_ yJ9_isLatin1 cJ9_isLatin1 1 (some .boolean)) 1 0 0 [.ref a] σ (fun v τ => v = some (.int (nI 1)) ∧ τ = σ) kx_nx := by
  refine kx_body htr (by decide +kernel) (own := "java/lang/String") (nm := "isLatin1") rfl rfl (Nat.le_of_ble_eq_true rfl) ?_
  intro p e s m args below meth c Q C hQ
  refine ri_gets C dJ9_isLatin1_0 (List.mem_of_getElem? (i := 0) rfl) q397 ?_
  first | refine ri_if_eqB C 17 dJ9_isLatin1_3 rfl (fun h3 => ?_) (fun h3 => ?_) | refine ri_if_eqN C 17 dJ9_isLatin1_3 rfl (by omega) (fun h3 => ?_) (fun h3 => ?_) | refine ri_if_eq C 17 dJ9_isLatin1_3 rfl (fun h3 => ?_) (fun h3 => ?_)
  · exact absurd h3 (by decide) --dead
  · first | refine ri_aload_n C dJ9_isLatin1_6 rfl ?_ | refine ri_aload_nQ C dJ9_isLatin1_6 rfl ?_ | refine ri_aload_nN C dJ9_isLatin1_6 rfl ?_
    refine ri_scod C dJ9_isLatin1_7 hg fr_q539_16 q539 ?_
    first | refine ri_if_neB C 17 dJ9_isLatin1_10 rfl (fun h10 => ?_) (fun h10 => ?_) | refine ri_if_neN C 17 dJ9_isLatin1_10 rfl (by omega) (fun h10 => ?_) (fun h10 => ?_) | refine ri_if_ne C 17 dJ9_isLatin1_10 rfl (fun h10 => ?_) (fun h10 => ?_)
    · exact absurd rfl h10 --dead
    · refine ri_iconst C dJ9_isLatin1_13 kc_i1 ?_
      refine ri_goto C 18 dJ9_isLatin1_14 rfl ?_
      exact ri_iret C hQ dJ9_isLatin1_18 rfl (Nat.le_of_ble_eq_true rfl) (Nat.le_of_ble_eq_true rfl) ⟨rfl, rfl⟩
set_option maxHeartbeats 1000000 in
theorem mt_J9_length {l : Launch} {G : kx_G} (htr : l.stackTraces = false) {σ : kx_H} {a v : Nat} {bs : List Int32} (hg : kx_sg G σ a v bs) : kx_SP l G yJ9_length (ws_ yJ9_length cJ9_length 1 (some .int)) 2 0 0 [.ref a] σ (fun v τ => v = some (.int (nI bs.length)) ∧ τ = σ) kx_nx := by
  refine kx_body htr (by decide +kernel) (own := "java/lang/String") (nm := "length") rfl rfl (Nat.le_of_ble_eq_true rfl) ?_
  intro p e s m args below meth c Q C hQ
  first | refine ri_aload_n C dJ9_length_0 rfl ?_ | refine ri_aload_nQ C dJ9_length_0 rfl ?_ | refine ri_aload_nN C dJ9_length_0 rfl ?_
  refine ri_sval C dJ9_length_1 hg fr_q538_16 q538 ?_
  refine ri_slen C dJ9_length_4 hg ?_
  first | refine ri_aload_n C dJ9_length_5 rfl ?_ | refine ri_aload_nQ C dJ9_length_5 rfl ?_ | refine ri_aload_nN C dJ9_length_5 rfl ?_
  refine ri_callV C km_J9_coder q393 q395 dJ9_length_6 (mt_J9_coder htr hg) rfl rfl (kx_rcS C hg) ⟨⟨(Nat.le_of_ble_eq_true rfl), (Nat.le_of_ble_eq_true rfl)⟩, (Nat.le_of_ble_eq_true rfl), (Nat.le_of_ble_eq_true rfl), (Nat.le_of_ble_eq_true rfl)⟩ (fun v6 s6 h6 => ?_) (fun _ _ _ h => h.elim)
  obtain ⟨rfl, rfl⟩ := h6
  refine ri_ishr C dJ9_length_9 ?_
  rw [kx_sh0]
  exact ri_iret C hQ dJ9_length_10 rfl (Nat.le_of_ble_eq_true rfl) (Nat.le_of_ble_eq_true rfl) ⟨rfl, rfl⟩
set_option maxHeartbeats 1000000 in
theorem mt_J14_checkIndex {l : Launch} {G : kx_G} (htr : l.stackTraces = false) {σ : kx_H} {i n : Nat} {f : Option Nat} (h : i < n ∧ n < 2147483648) : kx_SP l G yJ14_checkIndex (ws_ yJ14_checkIndex cJ14_checkIndex 3 (some .int)) 1 0 0 [.int (nI i), .int (nI n), va_rf f] σ (fun v τ => v = some (.int (nI i)) ∧ τ = σ) kx_nx := by
  refine kx_body htr (by decide +kernel) (own := "jdk/internal/util/Preconditions") (nm := "checkIndex") rfl rfl (by cases f <;> exact Nat.le_of_ble_eq_true rfl) ?_
  intro p e s m args below meth c Q C hQ
  refine ri_iload_n C dJ14_checkIndex_0 rfl ?_
  refine ri_if_lt C 9 dJ14_checkIndex_1 rfl (fun h1 => ?_) (fun h1 => ?_)
  · exact absurd h1 (nI_nn (by omega)) --dead
  · refine ri_iload_n C dJ14_checkIndex_4 rfl ?_
    refine ri_iload_n C dJ14_checkIndex_5 rfl ?_
    first | refine ri_icmp_ltN C 16 dJ14_checkIndex_6 rfl (by omega) (by omega) (fun h6 => ?_) (fun h6 => ?_) | refine ri_icmp_lt C 16 dJ14_checkIndex_6 rfl (fun h6 => ?_) (fun h6 => ?_)
    · refine ri_iload_n C dJ14_checkIndex_16 rfl ?_
      exact ri_iret C hQ dJ14_checkIndex_17 rfl (Nat.le_of_ble_eq_true rfl) (Nat.le_of_ble_eq_true rfl) ⟨rfl, rfl⟩
    · exact absurd h6 (by omega) --dead
set_option maxHeartbeats 1000000 in
theorem mt_J9_checkIndex {l : Launch} {G : kx_G} (htr : l.stackTraces = false) {σ : kx_H} {i n : Nat} (h : i < n ∧ n < 2147483648) : kx_SP l G yJ9_checkIndex (ws_ yJ9_checkIndex cJ9_checkIndex 2 none) 2 0 0 [.int (nI i), .int (nI n)] σ (fun v τ => v = none ∧ τ = σ) kx_nx := by
  refine kx_body htr (by decide +kernel) (own := "java/lang/String") (nm := "checkIndex") rfl rfl (Nat.le_of_ble_eq_true rfl) ?_
  intro p e s m args below meth c Q C hQ
  refine ri_iload_n C dJ9_checkIndex_0 rfl ?_
  refine ri_iload_n C dJ9_checkIndex_1 rfl ?_
  refine ri_gets C dJ9_checkIndex_2 (List.mem_of_getElem? (i := 9) rfl) q375 ?_
  refine ri_callS C km_J14_checkIndex q1310 dJ9_checkIndex_5 (mt_J14_checkIndex htr h) rfl rfl ⟨⟨(Nat.le_of_ble_eq_true rfl), (Nat.le_of_ble_eq_true rfl)⟩, (Nat.le_of_ble_eq_true rfl), (Nat.le_of_ble_eq_true rfl), (Nat.le_of_ble_eq_true rfl)⟩ (fun v5 s5 h5 => ?_) (fun _ _ _ h => h.elim)
  obtain ⟨rfl, rfl⟩ := h5
  refine ri_pop C dJ9_checkIndex_8 rfl ?_
  exact ri_vret C hQ dJ9_checkIndex_9 (Nat.le_of_ble_eq_true rfl) (Nat.le_of_ble_eq_true rfl) ⟨rfl, rfl⟩
set_option maxHeartbeats 1000000 in
theorem mt_J15_charAt {l : Launch} {G : kx_G} (htr : l.stackTraces = false) {σ : kx_H} {a v : Nat} {bs : List Int32} (hg : kx_sg G σ a v bs) {j ch : Nat} (hj : j < bs.length ∧ bs.length < 2147483648) (hc : bs.getD j 0 = nI ch) (h8 : ch < 128) : kx_SP l G yJ15_charAt (ws_ yJ15_charAt cJ15_charAt 2 (some .char)) 3 0 0 [.ref v, .int (nI j)] σ (fun v τ => v = some (.int (nI ch)) ∧ τ = σ) kx_nx := by
  refine kx_body htr (by decide +kernel) (own := "java/lang/StringLatin1") (nm := "charAt") rfl rfl (Nat.le_of_ble_eq_true rfl) ?_
  intro p e s m args below meth c Q C hQ
  refine ri_iload_n C dJ15_charAt_0 rfl ?_
  first | refine ri_aload_n C dJ15_charAt_1 rfl ?_ | refine ri_aload_nQ C dJ15_charAt_1 rfl ?_ | refine ri_aload_nN C dJ15_charAt_1 rfl ?_
  refine ri_slen C dJ15_charAt_2 hg ?_
  refine ri_callS C km_J9_checkIndex q1359 dJ15_charAt_3 (mt_J9_checkIndex htr hj) rfl rfl ⟨⟨(Nat.le_of_ble_eq_true rfl), (Nat.le_of_ble_eq_true rfl)⟩, (Nat.le_of_ble_eq_true rfl), (Nat.le_of_ble_eq_true rfl), (Nat.le_of_ble_eq_true rfl)⟩ (fun v3 s3 h3 => ?_) (fun _ _ _ h => h.elim)
  obtain ⟨rfl, rfl⟩ := h3
  first | refine ri_aload_n C dJ15_charAt_6 rfl ?_ | refine ri_aload_nQ C dJ15_charAt_6 rfl ?_ | refine ri_aload_nN C dJ15_charAt_6 rfl ?_
  refine ri_iload_n C dJ15_charAt_7 rfl ?_
  refine ri_sbyt C dJ15_charAt_8 hg hj ?_
  rw [hc]
  refine ri_sipush C dJ15_charAt_9 kc_s255 ?_
  refine ri_iand C dJ15_charAt_12 ?_
  refine ri_i2c C dJ15_charAt_13 (kx_i2c ch h8).1 ?_
  exact ri_iret C hQ dJ15_charAt_14 (kx_nch ch h8) (Nat.le_of_ble_eq_true rfl) (Nat.le_of_ble_eq_true rfl) ⟨rfl, rfl⟩
set_option maxHeartbeats 1000000 in
theorem mt_J9_charAt {l : Launch} {G : kx_G} (htr : l.stackTraces = false) {σ : kx_H} {a v : Nat} {bs : List Int32} (hg : kx_sg G σ a v bs) {j ch : Nat} (hj : j < bs.length ∧ bs.length < 2147483648) (hc : bs.getD j 0 = nI ch) (h8 : ch < 128) : kx_SP l G yJ9_charAt (ws_ yJ9_charAt cJ9_charAt 2 (some .char)) 4 0 0 [.ref a, .int (nI j)] σ (fun v τ => v = some (.int (nI ch)) ∧ τ = σ) kx_nx := by
  refine kx_body htr (by decide +kernel) (own := "java/lang/String") (nm := "charAt") rfl rfl (Nat.le_of_ble_eq_true rfl) ?_
  intro p e s m args below meth c Q C hQ
  first | refine ri_aload_n C dJ9_charAt_0 rfl ?_ | refine ri_aload_nQ C dJ9_charAt_0 rfl ?_ | refine ri_aload_nN C dJ9_charAt_0 rfl ?_
  refine ri_callV C km_J9_isLatin1 q1352 q1354 dJ9_charAt_1 (mt_J9_isLatin1 htr hg) rfl rfl (kx_rcS C hg) ⟨⟨(Nat.le_of_ble_eq_true rfl), (Nat.le_of_ble_eq_true rfl)⟩, (Nat.le_of_ble_eq_true rfl), (Nat.le_of_ble_eq_true rfl), (Nat.le_of_ble_eq_true rfl)⟩ (fun v1 s1 h1 => ?_) (fun _ _ _ h => h.elim)
  obtain ⟨rfl, rfl⟩ := h1
  first | refine ri_if_eqB C 16 dJ9_charAt_4 rfl (fun h4 => ?_) (fun h4 => ?_) | refine ri_if_eqN C 16 dJ9_charAt_4 rfl (by omega) (fun h4 => ?_) (fun h4 => ?_) | refine ri_if_eq C 16 dJ9_charAt_4 rfl (fun h4 => ?_) (fun h4 => ?_)
  · exact absurd h4 (by decide) --dead
  · first | refine ri_aload_n C dJ9_charAt_7 rfl ?_ | refine ri_aload_nQ C dJ9_charAt_7 rfl ?_ | refine ri_aload_nN C dJ9_charAt_7 rfl ?_
    refine ri_sval C dJ9_charAt_8 hg fr_q538_16 q538 ?_
    refine ri_iload_n C dJ9_charAt_11 rfl ?_
    refine ri_callS C km_J15_charAt q1356 dJ9_charAt_12 (mt_J15_charAt htr hg hj hc h8) rfl rfl ⟨⟨(Nat.le_of_ble_eq_true rfl), (Nat.le_of_ble_eq_true rfl)⟩, (Nat.le_of_ble_eq_true rfl), (Nat.le_of_ble_eq_true rfl), (Nat.le_of_ble_eq_true rfl)⟩ (fun v12 s12 h12 => ?_) (fun _ _ _ h => h.elim)
    obtain ⟨rfl, rfl⟩ := h12
    exact ri_iret C hQ dJ9_charAt_15 (kx_nch ch h8) (Nat.le_of_ble_eq_true rfl) (Nat.le_of_ble_eq_true rfl) ⟨rfl, rfl⟩
