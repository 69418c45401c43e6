/-! the JDK: an entry leaves a TreeMap -/
set_option maxRecDepth 100000
theorem tt_lc_a : ∀ (A B : tt_C), tt_lc (A ++ B) = tt_lc B ++ tt_lc A
  | [], B => by simp [tt_lc]
  | (true, q, s) :: A, B => tt_lc_a A B
  | (false, q, s) :: A, B => by show tt_lc (A ++ B) ++ (tt_i s ++ [q]) = _; rw [tt_lc_a A B]; simp [tt_lc]
theorem tt_rc_a : ∀ (A B : tt_C), tt_rc (A ++ B) = tt_rc A ++ tt_rc B
  | [], B => by simp [tt_rc]
  | (true, q, s) :: A, B => by show q :: (tt_i s ++ tt_rc (A ++ B)) = _; rw [tt_rc_a A B]; simp [tt_rc]
  | (false, q, s) :: A, B => tt_rc_a A B
theorem tt_lm : ∀ {a : Nat} {l r : tt_T}, ∃ A sn sr, (.branch a l r : tt_T) = tt_p A (.branch sn tt_n sr) ∧ tt_lc A = []
  | a, .leaf _, r => ⟨[], a, r, rfl, rfl⟩
  | a, .branch b l r', r => by
    obtain ⟨A, sn, sr, h1, h2⟩ := tt_lm (a := b) (l := l) (r := r')
    exact ⟨A ++ [(true, a, r)], sn, sr, by rw [tt_p_a, ← h1]; rfl, by rw [tt_lc_a, h2]; rfl⟩
/-- the pairs of key and value, in order -/
def tm_L (K V : Nat → Nat) (L : List Nat) : List (Nat × Nat) := L.map fun a => (K a, V a)
theorem tm_L_u {K V : Nat → Nat} {q x w : Nat} : ∀ {L : List Nat}, q ∉ L → tm_L (tm_u K q x) (tm_u V q w) L = tm_L K V L
  | [], _ => rfl
  | a :: L, h => by
    rw [List.mem_cons, not_or] at h
    show (tm_u K q x a, tm_u V q w a) :: tm_L _ _ L = (K a, V a) :: tm_L K V L
    rw [tm_u_o (fun e => h.1 e.symm), tm_u_o (fun e => h.1 e.symm), tm_L_u h.2]
theorem tm_L_a {K V : Nat → Nat} {A B : List Nat} : tm_L K V (A ++ B) = tm_L K V A ++ tm_L K V B := List.map_append
/-- key and value written anew -/
theorem tm_set_k {σ τ : kx_H} {c m a x w : Nat} {t : tt_T} {K V : Nat → Nat} {D : Nat → Int32} {vals : Option Nat} {sz : Nat} {md : Int32} {l r p : Option Nat} (h : tm_H σ c m t K V D vals sz md) (hf : tm_M σ c K V D a l r p)
    (e : τ = kx_up σ (c, 100 + a) (a, .inr (19, [.ref x, .ref w, va_rf l, va_rf r, va_rf p, .int (D a)]))) : tm_H τ c m t (tm_u K a x) (tm_u V a w) D vals sz md := by
  refine ⟨kx_ro e h.1 (kx_ne2 (by omega)), tt_H_m (fun y hy l' r' p' hM => ?_) h.2.1, h.2.2.1, h.2.2.2⟩
  by_cases q : y = a
  · subst q
    obtain ⟨h1, h2, h3⟩ := tm_inj hM hf
    subst h1; subst h2; subst h3
    show τ (c, 100 + y) = some (y, .inr (19, [.ref (tm_u K y x y), .ref (tm_u V y w y), va_rf l', va_rf r', va_rf p', .int (D y)]))
    rw [tm_u_s, tm_u_s]
    exact kx_rs e
  · show τ (c, 100 + y) = some (y, .inr (19, [.ref (tm_u K a x y), .ref (tm_u V a w y), va_rf l', va_rf r', va_rf p', .int (D y)]))
    rw [tm_u_o q, tm_u_o q]
    exact kx_ro e hM (tm_x q)
set_option maxHeartbeats 4000000 in
theorem mt_J19_deleteEntry {l : Launch} {G : kx_G} (htr : l.stackTraces = false) {σ : kx_H} {ct mp : Nat} {K V : Nat → Nat} {D : Nat → Int32} {vals : Option Nat} {sz : Nat} {md : Int32} {Bx : tt_C} {an : Nat} {tl tr : tt_T} (h : tm_H σ ct mp (tt_p Bx (.branch an tl tr)) K V D vals (sz + 1) md) : kx_SP l G yJ19_deleteEntry (ws_ yJ19_deleteEntry cJ19_deleteEntry 3 none) 4 0 0 [.ref mp, .ref an] σ (fun v τ => v = none ∧ ∃ t' K' V' D', tm_H τ ct mp t' K' V' D' vals sz (md + nI 1) ∧ tm_L K' V' (tt_i t') = tm_L K V (tt_lc Bx ++ (tt_i tl ++ tt_i tr) ++ tt_rc Bx) ∧ (∀ x, x ∈ tt_i t' → x ∈ tt_i (tt_p Bx (.branch an tl tr))) ∧ kx_Fr (tm_T ct (tt_i (tt_p Bx (.branch an tl tr)))) σ τ) kx_nx := by
  refine kx_body htr (by decide +kernel) (own := "java/util/TreeMap") (nm := "deleteEntry") rfl rfl (Nat.le_of_ble_eq_true rfl) ?_
  intro p e s m args below meth c Q C hQ
  obtain ⟨L0, hL0⟩ : ∃ L0, L0 = tt_i (tt_p Bx (.branch an tl tr)) := ⟨_, rfl⟩
  obtain ⟨LP, hLP⟩ : ∃ LP, LP = tm_L K V (tt_lc Bx ++ (tt_i tl ++ tt_i tr) ++ tt_rc Bx) := ⟨_, rfl⟩
  rw [← hL0, ← hLP] at hQ
  have UL : ∀ (Bx : tt_C) (an : Nat) (K1 V1 : Nat → Nat) (D1 : Nat → Int32) (τ : kx_H), tm_H τ ct mp (tt_p Bx (.branch an tt_n tt_n)) K1 V1 D1 vals sz (md + nI 1) → Bx ≠ [] → tm_L K1 V1 (tt_lc Bx ++ tt_rc Bx) = LP → (∀ x, x ∈ tt_i (tt_p Bx (.branch an tt_n tt_n)) → x ∈ L0) → kx_Fr (tm_T ct L0) σ τ → kx_V G l p e (kx_rm 4 0 0) s m args below meth c 3 Q 192 [(0, .ref mp), (1, .ref an)] [] τ 0 0 := by
    intro Bx an K1 V1 D1 τ hU hne hpr hsub hfr
    rcases Bx with _ | ⟨⟨_ | _, qn, ts⟩, Bx⟩
    · exact absurd rfl hne
    · obtain ⟨⟨hp, -, -⟩, hK⟩ := (tt_H_p ((false, qn, ts) :: Bx) _).mp hU.2.1
      have hp : τ (ct, 100 + an) = some (an, .inr (19, [.ref (K1 an), .ref (V1 an), .null, .null, .ref qn, .int (D1 an)])) := hp
      have hq : τ (ct, 100 + qn) = some (qn, .inr (19, [.ref (K1 qn), .ref (V1 qn), va_rf (tt_r ts), .ref an, va_rf (tt_u Bx), .int (D1 qn)])) := hK.1
      have nd := hU.2.2.1
      have nqa : qn ≠ an := (by intro q; subst q; simp [tt_i_p, tt_p, tt_i, List.nodup_append] at nd)
      have hts : tt_r ts ≠ some an := (fun q9 => by
        obtain ⟨A9, C9, hA9⟩ := List.append_of_mem (tt_r_in q9)
        simp [tt_i_p, tt_p, tt_i, hA9, List.nodup_append] at nd)
      have hm := hU.1
      have inq : qn ∈ L0 := hsub _ (by rw [tt_i_p]; have g := (tt_ic_m (x := qn) (B := (false, qn, ts) :: Bx)).mp (tt_u_in rfl); rcases g with g | g <;> simp [g])
      have ina : an ∈ L0 := hsub _ (by rw [tt_i_p]; simp [tt_i])
      first | refine ri_aload_n C dJ19_deleteEntry_192 rfl ?_ | refine ri_aload_nQ C dJ19_deleteEntry_192 rfl ?_ | refine ri_aload_nN C dJ19_deleteEntry_192 rfl ?_
      refine ri_getf C dJ19_deleteEntry_193 fr_q1089_19 (by first | assumption | (repeat (first | assumption | exact kx_rs (by assumption) | exact kx_ne2 (by omega) | exact kx_ne1 (by omega) | refine kx_ro (by assumption) ?_ ?_ | exact kx_rs rfl | refine kx_ro rfl ?_ ?_))) (by rfl) ?_
      refine ri_ifnull C dJ19_deleteEntry_196 ?_
      first | refine ri_aload_n C dJ19_deleteEntry_199 rfl ?_ | refine ri_aload_nQ C dJ19_deleteEntry_199 rfl ?_ | refine ri_aload_nN C dJ19_deleteEntry_199 rfl ?_
      first | refine ri_aload_n C dJ19_deleteEntry_200 rfl ?_ | refine ri_aload_nQ C dJ19_deleteEntry_200 rfl ?_ | refine ri_aload_nN C dJ19_deleteEntry_200 rfl ?_
      refine ri_getf C dJ19_deleteEntry_201 fr_q1089_19 (by first | assumption | (repeat (first | assumption | exact kx_rs (by assumption) | exact kx_ne2 (by omega) | exact kx_ne1 (by omega) | refine kx_ro (by assumption) ?_ ?_ | exact kx_rs rfl | refine kx_ro rfl ?_ ?_))) (by rfl) ?_
      refine ri_getf C dJ19_deleteEntry_204 fr_q1086_19 (by first | assumption | (repeat (first | assumption | exact kx_rs (by assumption) | exact kx_ne2 (by omega) | exact kx_ne1 (by omega) | refine kx_ro (by assumption) ?_ ?_ | exact kx_rs rfl | refine kx_ro rfl ?_ ?_))) (by rfl) ?_
      refine ri_acmp_neS C 221 dJ19_deleteEntry_207 rfl (fun h207 => ?_) (fun h207 => ?_)
      · first | refine ri_aload_n C dJ19_deleteEntry_221 rfl ?_ | refine ri_aload_nQ C dJ19_deleteEntry_221 rfl ?_ | refine ri_aload_nN C dJ19_deleteEntry_221 rfl ?_
        first | refine ri_aload_n C dJ19_deleteEntry_222 rfl ?_ | refine ri_aload_nQ C dJ19_deleteEntry_222 rfl ?_ | refine ri_aload_nN C dJ19_deleteEntry_222 rfl ?_
        refine ri_getf C dJ19_deleteEntry_223 fr_q1089_19 (by first | assumption | (repeat (first | assumption | exact kx_rs (by assumption) | exact kx_ne2 (by omega) | exact kx_ne1 (by omega) | refine kx_ro (by assumption) ?_ ?_ | exact kx_rs rfl | refine kx_ro rfl ?_ ?_))) (by rfl) ?_
        refine ri_getf C dJ19_deleteEntry_226 fr_q1087_19 (by first | assumption | (repeat (first | assumption | exact kx_rs (by assumption) | exact kx_ne2 (by omega) | exact kx_ne1 (by omega) | refine kx_ro (by assumption) ?_ ?_ | exact kx_rs rfl | refine kx_ro rfl ?_ ?_))) (by rfl) ?_
        refine ri_acmp_neR C 240 dJ19_deleteEntry_229 rfl (fun h229 => ?_) (fun h229 => ?_)
        · exact absurd rfl h229 --dead
        · first | refine ri_aload_n C dJ19_deleteEntry_232 rfl ?_ | refine ri_aload_nQ C dJ19_deleteEntry_232 rfl ?_ | refine ri_aload_nN C dJ19_deleteEntry_232 rfl ?_
          refine ri_getf C dJ19_deleteEntry_233 fr_q1089_19 (by first | assumption | (repeat (first | assumption | exact kx_rs (by assumption) | exact kx_ne2 (by omega) | exact kx_ne1 (by omega) | refine kx_ro (by assumption) ?_ ?_ | exact kx_rs rfl | refine kx_ro rfl ?_ ?_))) (by rfl) ?_
          refine ri_aconst_null C dJ19_deleteEntry_236 ?_
          refine ri_putf C dJ19_deleteEntry_237 fd_q1087_19 (fun h => nomatch h) (by first | assumption | (repeat (first | assumption | exact kx_rs (by assumption) | exact kx_ne2 (by omega) | exact kx_ne1 (by omega) | refine kx_ro (by assumption) ?_ ?_ | exact kx_rs rfl | refine kx_ro rfl ?_ ?_))) (Nat.le_of_ble_eq_true rfl) (by rfl) (by rfl) (by dsimp only [List.set] <;> rfl) (fun s237 e237 => ?_)
          first | refine ri_aload_n C dJ19_deleteEntry_240 rfl ?_ | refine ri_aload_nQ C dJ19_deleteEntry_240 rfl ?_ | refine ri_aload_nN C dJ19_deleteEntry_240 rfl ?_
          refine ri_aconst_null C dJ19_deleteEntry_241 ?_
          refine ri_putf C dJ19_deleteEntry_242 fd_q1089_19 (fun h => nomatch h) (by first | assumption | (repeat (first | assumption | exact kx_rs (by assumption) | exact kx_ne2 (by omega) | exact kx_ne1 (by omega) | refine kx_ro (by assumption) ?_ ?_ | exact kx_rs rfl | refine kx_ro rfl ?_ ?_))) (Nat.le_of_ble_eq_true rfl) (by rfl) (by rfl) (by dsimp only [List.set] <;> rfl) (fun s242 e242 => ?_)
          have H : tm_H s242 ct mp (tt_p ((false, qn, ts) :: Bx) tt_n) K1 V1 D1 vals sz (md + nI 1) := ⟨by rw [tt_r_p _ _ _ (.branch an tt_n tt_n)]; exact (by first | assumption | (repeat (first | assumption | exact kx_rs (by assumption) | exact kx_ne2 (by omega) | exact kx_ne1 (by omega) | refine kx_ro (by assumption) ?_ ?_ | exact kx_rs rfl | refine kx_ro rfl ?_ ?_))), tt_delL (a := tt_n) hU.2.2.1 hU.2.1 (fun e l r he => by cases he) (by first | assumption | (repeat (first | assumption | exact kx_rs (by assumption) | exact kx_ne2 (by omega) | exact kx_ne1 (by omega) | refine kx_ro (by assumption) ?_ ?_ | exact kx_rs rfl | refine kx_ro rfl ?_ ?_))) (by
              intro x h1 h3 h4 l r q h
              try (have h4' : x ≠ qn := fun z => h4 (by rw [z]; rfl))
              try (have h3' : x ≠ cn := fun z => h3 (by rw [z]; rfl))
              repeat (first | exact h | refine kx_ro (by assumption) ?_ ?_ | exact kx_ne2 (by omega))), (by have g := hU.2.2.1; rw [tt_i_p] at g ⊢; simp only [tt_i, List.nil_append, List.cons_append] at g ⊢; exact (List.nodup_cons.mp ((List.perm_middle.nodup_iff).mp g)).2), hU.2.2.2⟩
          exact ri_vret C hQ dJ19_deleteEntry_245 (Nat.le_of_ble_eq_true rfl) (Nat.le_of_ble_eq_true rfl) ⟨rfl, _, K1, V1, D1, H, by rw [tt_i_p]; exact hpr, fun x hx => hsub x (by rw [tt_i_p] at hx ⊢; simp only [tt_i, List.nil_append, List.mem_append] at hx; rcases hx with hx | hx <;> simp [hx]), (by repeat (first | exact hfr | refine kx_Fr.up2 ?_ (by assumption) ?_ | exact tm_T_m | exact tm_T_e inq | exact tm_T_e ina))⟩
      · exact absurd h207.symm hts --dead
    · obtain ⟨⟨hp, -, -⟩, hK⟩ := (tt_H_p ((true, qn, ts) :: Bx) _).mp hU.2.1
      have hp : τ (ct, 100 + an) = some (an, .inr (19, [.ref (K1 an), .ref (V1 an), .null, .null, .ref qn, .int (D1 an)])) := hp
      have hq : τ (ct, 100 + qn) = some (qn, .inr (19, [.ref (K1 qn), .ref (V1 qn), .ref an, va_rf (tt_r ts), va_rf (tt_u Bx), .int (D1 qn)])) := hK.1
      have nd := hU.2.2.1
      have nqa : qn ≠ an := (by intro q; subst q; simp [tt_i_p, tt_p, tt_i, List.nodup_append] at nd)
      have hts : tt_r ts ≠ some an := (fun q9 => by
        obtain ⟨A9, C9, hA9⟩ := List.append_of_mem (tt_r_in q9)
        simp [tt_i_p, tt_p, tt_i, hA9, List.nodup_append] at nd)
      have hm := hU.1
      have inq : qn ∈ L0 := hsub _ (by rw [tt_i_p]; have g := (tt_ic_m (x := qn) (B := (true, qn, ts) :: Bx)).mp (tt_u_in rfl); rcases g with g | g <;> simp [g])
      have ina : an ∈ L0 := hsub _ (by rw [tt_i_p]; simp [tt_i])
      first | refine ri_aload_n C dJ19_deleteEntry_192 rfl ?_ | refine ri_aload_nQ C dJ19_deleteEntry_192 rfl ?_ | refine ri_aload_nN C dJ19_deleteEntry_192 rfl ?_
      refine ri_getf C dJ19_deleteEntry_193 fr_q1089_19 (by first | assumption | (repeat (first | assumption | exact kx_rs (by assumption) | exact kx_ne2 (by omega) | exact kx_ne1 (by omega) | refine kx_ro (by assumption) ?_ ?_ | exact kx_rs rfl | refine kx_ro rfl ?_ ?_))) (by rfl) ?_
      refine ri_ifnull C dJ19_deleteEntry_196 ?_
      first | refine ri_aload_n C dJ19_deleteEntry_199 rfl ?_ | refine ri_aload_nQ C dJ19_deleteEntry_199 rfl ?_ | refine ri_aload_nN C dJ19_deleteEntry_199 rfl ?_
      first | refine ri_aload_n C dJ19_deleteEntry_200 rfl ?_ | refine ri_aload_nQ C dJ19_deleteEntry_200 rfl ?_ | refine ri_aload_nN C dJ19_deleteEntry_200 rfl ?_
      refine ri_getf C dJ19_deleteEntry_201 fr_q1089_19 (by first | assumption | (repeat (first | assumption | exact kx_rs (by assumption) | exact kx_ne2 (by omega) | exact kx_ne1 (by omega) | refine kx_ro (by assumption) ?_ ?_ | exact kx_rs rfl | refine kx_ro rfl ?_ ?_))) (by rfl) ?_
      refine ri_getf C dJ19_deleteEntry_204 fr_q1086_19 (by first | assumption | (repeat (first | assumption | exact kx_rs (by assumption) | exact kx_ne2 (by omega) | exact kx_ne1 (by omega) | refine kx_ro (by assumption) ?_ ?_ | exact kx_rs rfl | refine kx_ro rfl ?_ ?_))) (by rfl) ?_
      refine ri_acmp_neR C 221 dJ19_deleteEntry_207 rfl (fun h207 => ?_) (fun h207 => ?_)
      · exact absurd rfl h207 --dead
      · first | refine ri_aload_n C dJ19_deleteEntry_210 rfl ?_ | refine ri_aload_nQ C dJ19_deleteEntry_210 rfl ?_ | refine ri_aload_nN C dJ19_deleteEntry_210 rfl ?_
        refine ri_getf C dJ19_deleteEntry_211 fr_q1089_19 (by first | assumption | (repeat (first | assumption | exact kx_rs (by assumption) | exact kx_ne2 (by omega) | exact kx_ne1 (by omega) | refine kx_ro (by assumption) ?_ ?_ | exact kx_rs rfl | refine kx_ro rfl ?_ ?_))) (by rfl) ?_
        refine ri_aconst_null C dJ19_deleteEntry_214 ?_
        refine ri_putf C dJ19_deleteEntry_215 fd_q1086_19 (fun h => nomatch h) (by first | assumption | (repeat (first | assumption | exact kx_rs (by assumption) | exact kx_ne2 (by omega) | exact kx_ne1 (by omega) | refine kx_ro (by assumption) ?_ ?_ | exact kx_rs rfl | refine kx_ro rfl ?_ ?_))) (Nat.le_of_ble_eq_true rfl) (by rfl) (by rfl) (by dsimp only [List.set] <;> rfl) (fun s215 e215 => ?_)
        refine ri_goto C 240 dJ19_deleteEntry_218 rfl ?_
        first | refine ri_aload_n C dJ19_deleteEntry_240 rfl ?_ | refine ri_aload_nQ C dJ19_deleteEntry_240 rfl ?_ | refine ri_aload_nN C dJ19_deleteEntry_240 rfl ?_
        refine ri_aconst_null C dJ19_deleteEntry_241 ?_
        refine ri_putf C dJ19_deleteEntry_242 fd_q1089_19 (fun h => nomatch h) (by first | assumption | (repeat (first | assumption | exact kx_rs (by assumption) | exact kx_ne2 (by omega) | exact kx_ne1 (by omega) | refine kx_ro (by assumption) ?_ ?_ | exact kx_rs rfl | refine kx_ro rfl ?_ ?_))) (Nat.le_of_ble_eq_true rfl) (by rfl) (by rfl) (by dsimp only [List.set] <;> rfl) (fun s242 e242 => ?_)
        have H : tm_H s242 ct mp (tt_p ((true, qn, ts) :: Bx) tt_n) K1 V1 D1 vals sz (md + nI 1) := ⟨by rw [tt_r_p _ _ _ (.branch an tt_n tt_n)]; exact (by first | assumption | (repeat (first | assumption | exact kx_rs (by assumption) | exact kx_ne2 (by omega) | exact kx_ne1 (by omega) | refine kx_ro (by assumption) ?_ ?_ | exact kx_rs rfl | refine kx_ro rfl ?_ ?_))), tt_delL (a := tt_n) hU.2.2.1 hU.2.1 (fun e l r he => by cases he) (by first | assumption | (repeat (first | assumption | exact kx_rs (by assumption) | exact kx_ne2 (by omega) | exact kx_ne1 (by omega) | refine kx_ro (by assumption) ?_ ?_ | exact kx_rs rfl | refine kx_ro rfl ?_ ?_))) (by
            intro x h1 h3 h4 l r q h
            try (have h4' : x ≠ qn := fun z => h4 (by rw [z]; rfl))
            try (have h3' : x ≠ cn := fun z => h3 (by rw [z]; rfl))
            repeat (first | exact h | refine kx_ro (by assumption) ?_ ?_ | exact kx_ne2 (by omega))), (by have g := hU.2.2.1; rw [tt_i_p] at g ⊢; simp only [tt_i, List.nil_append, List.cons_append] at g ⊢; exact (List.nodup_cons.mp ((List.perm_middle.nodup_iff).mp g)).2), hU.2.2.2⟩
        exact ri_vret C hQ dJ19_deleteEntry_245 (Nat.le_of_ble_eq_true rfl) (Nat.le_of_ble_eq_true rfl) ⟨rfl, _, K1, V1, D1, H, by rw [tt_i_p]; exact hpr, fun x hx => hsub x (by rw [tt_i_p] at hx ⊢; simp only [tt_i, List.nil_append, List.mem_append] at hx; rcases hx with hx | hx <;> simp [hx]), (by repeat (first | exact hfr | refine kx_Fr.up2 ?_ (by assumption) ?_ | exact tm_T_m | exact tm_T_e inq | exact tm_T_e ina))⟩
  have RL : ∀ (Bx : tt_C) (an : Nat) (tl tr : tt_T) (K1 V1 : Nat → Nat) (D1 : Nat → Int32) (τ : kx_H), tm_H τ ct mp (tt_p Bx (.branch an tl tr)) K1 V1 D1 vals sz (md + nI 1) → (tl = tt_n ∨ tr = tt_n) → tm_L K1 V1 (tt_lc Bx ++ (tt_i tl ++ tt_i tr) ++ tt_rc Bx) = LP → (∀ x, x ∈ tt_i (tt_p Bx (.branch an tl tr)) → x ∈ L0) → kx_Fr (tm_T ct L0) σ τ → kx_V G l p e (kx_rm 4 0 0) s m args below meth c 3 Q 57 [(0, .ref mp), (1, .ref an)] [] τ 0 0 := by
    intro Bx an tl tr K1 V1 D1 τ hU hone hpr hsub hfr
    rcases tl with ⟨_⟩ | ⟨cn, cl, cr⟩
    · rcases tr with ⟨_⟩ | ⟨cn, cl, cr⟩
      · have hpr : tm_L K1 V1 (tt_lc Bx ++ tt_rc Bx) = LP := (by rw [← hpr]; simp [tt_i])
        rcases Bx with _ | ⟨⟨_ | _, qn, ts⟩, Bx⟩
        · obtain ⟨⟨hp, hcl, hcr⟩, hK⟩ := (tt_H_p [] _).mp hU.2.1
          have hp : τ (ct, 100 + an) = some (an, .inr (19, [.ref (K1 an), .ref (V1 an), .null, .null, .null, .int (D1 an)])) := hp
          have nd := hU.2.2.1
          have hm := hU.1
          have ina : an ∈ L0 := hsub _ (by rw [tt_i_p]; simp [tt_i])
          first | refine ri_aload_n C dJ19_deleteEntry_57 rfl ?_ | refine ri_aload_nQ C dJ19_deleteEntry_57 rfl ?_ | refine ri_aload_nN C dJ19_deleteEntry_57 rfl ?_
          refine ri_getf C dJ19_deleteEntry_58 fr_q1086_19 (by first | assumption | (repeat (first | assumption | exact kx_rs (by assumption) | exact kx_ne2 (by omega) | exact kx_ne1 (by omega) | refine kx_ro (by assumption) ?_ ?_ | exact kx_rs rfl | refine kx_ro rfl ?_ ?_))) (by rfl) ?_
          refine ri_ifnullN C 71 dJ19_deleteEntry_61 rfl ?_
          first | refine ri_aload_n C dJ19_deleteEntry_71 rfl ?_ | refine ri_aload_nQ C dJ19_deleteEntry_71 rfl ?_ | refine ri_aload_nN C dJ19_deleteEntry_71 rfl ?_
          refine ri_getf C dJ19_deleteEntry_72 fr_q1087_19 (by first | assumption | (repeat (first | assumption | exact kx_rs (by assumption) | exact kx_ne2 (by omega) | exact kx_ne1 (by omega) | refine kx_ro (by assumption) ?_ ?_ | exact kx_rs rfl | refine kx_ro rfl ?_ ?_))) (by rfl) ?_
          first | refine ri_astore_n C dJ19_deleteEntry_75 rfl (by decide) ?_ | refine ri_astore_nQ C dJ19_deleteEntry_75 rfl (by decide) ?_ | refine ri_astore_nN C dJ19_deleteEntry_75 rfl (by decide) ?_
          first | refine ri_aload_n C dJ19_deleteEntry_76 rfl ?_ | refine ri_aload_nQ C dJ19_deleteEntry_76 rfl ?_ | refine ri_aload_nN C dJ19_deleteEntry_76 rfl ?_
          refine ri_ifnullN C 164 dJ19_deleteEntry_77 rfl ?_
          first | refine ri_aload_n C dJ19_deleteEntry_164 rfl ?_ | refine ri_aload_nQ C dJ19_deleteEntry_164 rfl ?_ | refine ri_aload_nN C dJ19_deleteEntry_164 rfl ?_
          refine ri_getf C dJ19_deleteEntry_165 fr_q1089_19 (by first | assumption | (repeat (first | assumption | exact kx_rs (by assumption) | exact kx_ne2 (by omega) | exact kx_ne1 (by omega) | refine kx_ro (by assumption) ?_ ?_ | exact kx_rs rfl | refine kx_ro rfl ?_ ?_))) (by rfl) ?_
          refine ri_ifnonnullN C dJ19_deleteEntry_168 ?_
          first | refine ri_aload_n C dJ19_deleteEntry_171 rfl ?_ | refine ri_aload_nQ C dJ19_deleteEntry_171 rfl ?_ | refine ri_aload_nN C dJ19_deleteEntry_171 rfl ?_
          refine ri_aconst_null C dJ19_deleteEntry_172 ?_
          refine ri_putf C dJ19_deleteEntry_173 fd_q577_18 (fun h => nomatch h) (by first | assumption | (repeat (first | assumption | exact kx_rs (by assumption) | exact kx_ne2 (by omega) | exact kx_ne1 (by omega) | refine kx_ro (by assumption) ?_ ?_ | exact kx_rs rfl | refine kx_ro rfl ?_ ?_))) (Nat.le_of_ble_eq_true rfl) (by rfl) (by rfl) (by dsimp only [List.set] <;> rfl) (fun s173 e173 => ?_)
          refine ri_goto C 245 dJ19_deleteEntry_176 rfl ?_
          have H : tm_H s173 ct mp tt_n K1 V1 D1 vals sz (md + nI 1) := ⟨(by first | assumption | (repeat (first | assumption | exact kx_rs (by assumption) | exact kx_ne2 (by omega) | exact kx_ne1 (by omega) | refine kx_ro (by assumption) ?_ ?_ | exact kx_rs rfl | refine kx_ro rfl ?_ ?_))), trivial, List.nodup_nil, hU.2.2.2⟩
          exact ri_vret C hQ dJ19_deleteEntry_245 (Nat.le_of_ble_eq_true rfl) (Nat.le_of_ble_eq_true rfl) ⟨rfl, _, K1, V1, D1, H, hpr, (fun x hx => by simp [tt_i] at hx), (by repeat (first | exact hfr | refine kx_Fr.up2 ?_ (by assumption) ?_ | exact tm_T_m | exact tm_T_e inq | exact tm_T_e ina | exact tm_T_e inc))⟩
        · obtain ⟨⟨hp, hcl, hcr⟩, hK⟩ := (tt_H_p ((false, qn, ts) :: Bx) _).mp hU.2.1
          have hp : τ (ct, 100 + an) = some (an, .inr (19, [.ref (K1 an), .ref (V1 an), .null, .null, .ref qn, .int (D1 an)])) := hp
          have nd := hU.2.2.1
          have hm := hU.1
          have ina : an ∈ L0 := hsub _ (by rw [tt_i_p]; simp [tt_i])
          have hq : τ (ct, 100 + qn) = some (qn, .inr (19, [.ref (K1 qn), .ref (V1 qn), va_rf (tt_r ts), .ref an, va_rf (tt_u Bx), .int (D1 qn)])) := hK.1
          have nqa : qn ≠ an := (by intro q; subst q; simp [tt_i_p, tt_p, tt_i, List.nodup_append] at nd)
          have hts : tt_r ts ≠ some an := (fun q9 => by
            obtain ⟨A9, C9, hA9⟩ := List.append_of_mem (tt_r_in q9)
            simp [tt_i_p, tt_p, tt_i, hA9, List.nodup_append] at nd)
          have inq : qn ∈ L0 := hsub _ (by rw [tt_i_p]; have g := (tt_ic_m (x := qn) (B := ((false, qn, ts) :: Bx))).mp (tt_u_in rfl); rcases g with g | g <;> simp [g])
          first | refine ri_aload_n C dJ19_deleteEntry_57 rfl ?_ | refine ri_aload_nQ C dJ19_deleteEntry_57 rfl ?_ | refine ri_aload_nN C dJ19_deleteEntry_57 rfl ?_
          refine ri_getf C dJ19_deleteEntry_58 fr_q1086_19 (by first | assumption | (repeat (first | assumption | exact kx_rs (by assumption) | exact kx_ne2 (by omega) | exact kx_ne1 (by omega) | refine kx_ro (by assumption) ?_ ?_ | exact kx_rs rfl | refine kx_ro rfl ?_ ?_))) (by rfl) ?_
          refine ri_ifnullN C 71 dJ19_deleteEntry_61 rfl ?_
          first | refine ri_aload_n C dJ19_deleteEntry_71 rfl ?_ | refine ri_aload_nQ C dJ19_deleteEntry_71 rfl ?_ | refine ri_aload_nN C dJ19_deleteEntry_71 rfl ?_
          refine ri_getf C dJ19_deleteEntry_72 fr_q1087_19 (by first | assumption | (repeat (first | assumption | exact kx_rs (by assumption) | exact kx_ne2 (by omega) | exact kx_ne1 (by omega) | refine kx_ro (by assumption) ?_ ?_ | exact kx_rs rfl | refine kx_ro rfl ?_ ?_))) (by rfl) ?_
          first | refine ri_astore_n C dJ19_deleteEntry_75 rfl (by decide) ?_ | refine ri_astore_nQ C dJ19_deleteEntry_75 rfl (by decide) ?_ | refine ri_astore_nN C dJ19_deleteEntry_75 rfl (by decide) ?_
          first | refine ri_aload_n C dJ19_deleteEntry_76 rfl ?_ | refine ri_aload_nQ C dJ19_deleteEntry_76 rfl ?_ | refine ri_aload_nN C dJ19_deleteEntry_76 rfl ?_
          refine ri_ifnullN C 164 dJ19_deleteEntry_77 rfl ?_
          first | refine ri_aload_n C dJ19_deleteEntry_164 rfl ?_ | refine ri_aload_nQ C dJ19_deleteEntry_164 rfl ?_ | refine ri_aload_nN C dJ19_deleteEntry_164 rfl ?_
          refine ri_getf C dJ19_deleteEntry_165 fr_q1089_19 (by first | assumption | (repeat (first | assumption | exact kx_rs (by assumption) | exact kx_ne2 (by omega) | exact kx_ne1 (by omega) | refine kx_ro (by assumption) ?_ ?_ | exact kx_rs rfl | refine kx_ro rfl ?_ ?_))) (by rfl) ?_
          refine ri_ifnonnull C 179 dJ19_deleteEntry_168 rfl ?_
          first | refine ri_aload_n C dJ19_deleteEntry_179 rfl ?_ | refine ri_aload_nQ C dJ19_deleteEntry_179 rfl ?_ | refine ri_aload_nN C dJ19_deleteEntry_179 rfl ?_
          refine ri_getf C dJ19_deleteEntry_180 fr_q1091_19 (by first | assumption | (repeat (first | assumption | exact kx_rs (by assumption) | exact kx_ne2 (by omega) | exact kx_ne1 (by omega) | refine kx_ro (by assumption) ?_ ?_ | exact kx_rs rfl | refine kx_ro rfl ?_ ?_))) (by rfl) ?_
          refine ri_iconst C dJ19_deleteEntry_183 kc_i1 ?_
          refine ri_icmp_ne C 192 dJ19_deleteEntry_184 rfl (fun h184 => ?_) (fun h184 => ?_)
          · refine ri_lv2 (UL ((false, qn, ts) :: Bx) an K1 V1 D1 _ hU (by simp) hpr hsub hfr) ⟨rfl, rfl, trivial⟩
          · first | refine ri_aload_n C dJ19_deleteEntry_187 rfl ?_ | refine ri_aload_nQ C dJ19_deleteEntry_187 rfl ?_ | refine ri_aload_nN C dJ19_deleteEntry_187 rfl ?_
            first | refine ri_aload_n C dJ19_deleteEntry_188 rfl ?_ | refine ri_aload_nQ C dJ19_deleteEntry_188 rfl ?_ | refine ri_aload_nN C dJ19_deleteEntry_188 rfl ?_
            have inL : ∀ y, y ∈ tt_ic ((false, qn, ts) :: Bx) → y ∈ tt_lc ((false, qn, ts) :: Bx) ++ tt_rc ((false, qn, ts) :: Bx) := fun y hy => List.mem_append.mpr (tt_ic_m.mp hy)
            refine ri_callV C km_J19_fixAfterDeletion q1999 qs37 dJ19_deleteEntry_189 (mt_J19_fixAfterDeletion (Bx := ((false, qn, ts) :: Bx)) (xa := an) (xl := tt_n) (xr := tt_n) htr hU) rfl rfl (kx_rcN C hU.1 rfl) ⟨⟨(Nat.le_of_ble_eq_true rfl), (Nat.le_of_ble_eq_true rfl)⟩, (Nat.le_of_ble_eq_true rfl), (Nat.le_of_ble_eq_true rfl), (Nat.le_of_ble_eq_true rfl)⟩ (fun v189 s189 h189 => ?_) (fun _ _ _ h => h.elim)
            obtain ⟨rfl, B9, D9, h9, i9, F9⟩ := h189
            have hB9 : B9 ≠ [] := (fun q => by
              subst q
              have g := congrArg List.length i9
              rw [tt_i_p, tt_i_p] at g
              simp only [tt_lc, tt_rc, tt_i, List.length_append, List.length_cons, List.length_nil, List.nil_append, List.append_nil, List.cons_append] at g
              have g2 := List.length_pos_of_mem (inL qn (tt_u_in rfl))
              simp only [tt_lc, tt_rc, List.length_append, List.length_cons, List.length_nil] at g2
              omega)
            have hpr9 : tm_L K1 V1 (tt_lc B9 ++ tt_rc B9) = LP := (by
              have j9 := i9
              rw [tt_i_p, tt_i_p] at j9
              simp only [tt_i, List.nil_append, List.cons_append] at j9
              obtain ⟨g1, g2⟩ := tt_mid j9 (by have g := h9.2.2.1; rw [tt_i_p] at g; simpa only [tt_i, List.nil_append, List.cons_append] using g)
              rw [g1, g2]; exact hpr)
            refine ri_lv2 (UL B9 an K1 V1 D9 _ h9 hB9 hpr9 (fun x hx => hsub x (by rw [← i9]; exact hx)) (hfr.tr (F9.mon (fun z hz => by
              rcases hz with hz | ⟨y, hy, hz⟩
              · exact Or.inl hz
              · exact Or.inr ⟨y, hsub y hy, hz⟩)))) ⟨rfl, rfl, trivial⟩
        · obtain ⟨⟨hp, hcl, hcr⟩, hK⟩ := (tt_H_p ((true, qn, ts) :: Bx) _).mp hU.2.1
          have hp : τ (ct, 100 + an) = some (an, .inr (19, [.ref (K1 an), .ref (V1 an), .null, .null, .ref qn, .int (D1 an)])) := hp
          have nd := hU.2.2.1
          have hm := hU.1
          have ina : an ∈ L0 := hsub _ (by rw [tt_i_p]; simp [tt_i])
          have hq : τ (ct, 100 + qn) = some (qn, .inr (19, [.ref (K1 qn), .ref (V1 qn), .ref an, va_rf (tt_r ts), va_rf (tt_u Bx), .int (D1 qn)])) := hK.1
          have nqa : qn ≠ an := (by intro q; subst q; simp [tt_i_p, tt_p, tt_i, List.nodup_append] at nd)
          have hts : tt_r ts ≠ some an := (fun q9 => by
            obtain ⟨A9, C9, hA9⟩ := List.append_of_mem (tt_r_in q9)
            simp [tt_i_p, tt_p, tt_i, hA9, List.nodup_append] at nd)
          have inq : qn ∈ L0 := hsub _ (by rw [tt_i_p]; have g := (tt_ic_m (x := qn) (B := ((true, qn, ts) :: Bx))).mp (tt_u_in rfl); rcases g with g | g <;> simp [g])
          first | refine ri_aload_n C dJ19_deleteEntry_57 rfl ?_ | refine ri_aload_nQ C dJ19_deleteEntry_57 rfl ?_ | refine ri_aload_nN C dJ19_deleteEntry_57 rfl ?_
          refine ri_getf C dJ19_deleteEntry_58 fr_q1086_19 (by first | assumption | (repeat (first | assumption | exact kx_rs (by assumption) | exact kx_ne2 (by omega) | exact kx_ne1 (by omega) | refine kx_ro (by assumption) ?_ ?_ | exact kx_rs rfl | refine kx_ro rfl ?_ ?_))) (by rfl) ?_
          refine ri_ifnullN C 71 dJ19_deleteEntry_61 rfl ?_
          first | refine ri_aload_n C dJ19_deleteEntry_71 rfl ?_ | refine ri_aload_nQ C dJ19_deleteEntry_71 rfl ?_ | refine ri_aload_nN C dJ19_deleteEntry_71 rfl ?_
          refine ri_getf C dJ19_deleteEntry_72 fr_q1087_19 (by first | assumption | (repeat (first | assumption | exact kx_rs (by assumption) | exact kx_ne2 (by omega) | exact kx_ne1 (by omega) | refine kx_ro (by assumption) ?_ ?_ | exact kx_rs rfl | refine kx_ro rfl ?_ ?_))) (by rfl) ?_
          first | refine ri_astore_n C dJ19_deleteEntry_75 rfl (by decide) ?_ | refine ri_astore_nQ C dJ19_deleteEntry_75 rfl (by decide) ?_ | refine ri_astore_nN C dJ19_deleteEntry_75 rfl (by decide) ?_
          first | refine ri_aload_n C dJ19_deleteEntry_76 rfl ?_ | refine ri_aload_nQ C dJ19_deleteEntry_76 rfl ?_ | refine ri_aload_nN C dJ19_deleteEntry_76 rfl ?_
          refine ri_ifnullN C 164 dJ19_deleteEntry_77 rfl ?_
          first | refine ri_aload_n C dJ19_deleteEntry_164 rfl ?_ | refine ri_aload_nQ C dJ19_deleteEntry_164 rfl ?_ | refine ri_aload_nN C dJ19_deleteEntry_164 rfl ?_
          refine ri_getf C dJ19_deleteEntry_165 fr_q1089_19 (by first | assumption | (repeat (first | assumption | exact kx_rs (by assumption) | exact kx_ne2 (by omega) | exact kx_ne1 (by omega) | refine kx_ro (by assumption) ?_ ?_ | exact kx_rs rfl | refine kx_ro rfl ?_ ?_))) (by rfl) ?_
          refine ri_ifnonnull C 179 dJ19_deleteEntry_168 rfl ?_
          first | refine ri_aload_n C dJ19_deleteEntry_179 rfl ?_ | refine ri_aload_nQ C dJ19_deleteEntry_179 rfl ?_ | refine ri_aload_nN C dJ19_deleteEntry_179 rfl ?_
          refine ri_getf C dJ19_deleteEntry_180 fr_q1091_19 (by first | assumption | (repeat (first | assumption | exact kx_rs (by assumption) | exact kx_ne2 (by omega) | exact kx_ne1 (by omega) | refine kx_ro (by assumption) ?_ ?_ | exact kx_rs rfl | refine kx_ro rfl ?_ ?_))) (by rfl) ?_
          refine ri_iconst C dJ19_deleteEntry_183 kc_i1 ?_
          refine ri_icmp_ne C 192 dJ19_deleteEntry_184 rfl (fun h184 => ?_) (fun h184 => ?_)
          · refine ri_lv2 (UL ((true, qn, ts) :: Bx) an K1 V1 D1 _ hU (by simp) hpr hsub hfr) ⟨rfl, rfl, trivial⟩
          · first | refine ri_aload_n C dJ19_deleteEntry_187 rfl ?_ | refine ri_aload_nQ C dJ19_deleteEntry_187 rfl ?_ | refine ri_aload_nN C dJ19_deleteEntry_187 rfl ?_
            first | refine ri_aload_n C dJ19_deleteEntry_188 rfl ?_ | refine ri_aload_nQ C dJ19_deleteEntry_188 rfl ?_ | refine ri_aload_nN C dJ19_deleteEntry_188 rfl ?_
            have inL : ∀ y, y ∈ tt_ic ((true, qn, ts) :: Bx) → y ∈ tt_lc ((true, qn, ts) :: Bx) ++ tt_rc ((true, qn, ts) :: Bx) := fun y hy => List.mem_append.mpr (tt_ic_m.mp hy)
            refine ri_callV C km_J19_fixAfterDeletion q1999 qs37 dJ19_deleteEntry_189 (mt_J19_fixAfterDeletion (Bx := ((true, qn, ts) :: Bx)) (xa := an) (xl := tt_n) (xr := tt_n) htr hU) rfl rfl (kx_rcN C hU.1 rfl) ⟨⟨(Nat.le_of_ble_eq_true rfl), (Nat.le_of_ble_eq_true rfl)⟩, (Nat.le_of_ble_eq_true rfl), (Nat.le_of_ble_eq_true rfl), (Nat.le_of_ble_eq_true rfl)⟩ (fun v189 s189 h189 => ?_) (fun _ _ _ h => h.elim)
            obtain ⟨rfl, B9, D9, h9, i9, F9⟩ := h189
            have hB9 : B9 ≠ [] := (fun q => by
              subst q
              have g := congrArg List.length i9
              rw [tt_i_p, tt_i_p] at g
              simp only [tt_lc, tt_rc, tt_i, List.length_append, List.length_cons, List.length_nil, List.nil_append, List.append_nil, List.cons_append] at g
              have g2 := List.length_pos_of_mem (inL qn (tt_u_in rfl))
              simp only [tt_lc, tt_rc, List.length_append, List.length_cons, List.length_nil] at g2
              omega)
            have hpr9 : tm_L K1 V1 (tt_lc B9 ++ tt_rc B9) = LP := (by
              have j9 := i9
              rw [tt_i_p, tt_i_p] at j9
              simp only [tt_i, List.nil_append, List.cons_append] at j9
              obtain ⟨g1, g2⟩ := tt_mid j9 (by have g := h9.2.2.1; rw [tt_i_p] at g; simpa only [tt_i, List.nil_append, List.cons_append] using g)
              rw [g1, g2]; exact hpr)
            refine ri_lv2 (UL B9 an K1 V1 D9 _ h9 hB9 hpr9 (fun x hx => hsub x (by rw [← i9]; exact hx)) (hfr.tr (F9.mon (fun z hz => by
              rcases hz with hz | ⟨y, hy, hz⟩
              · exact Or.inl hz
              · exact Or.inr ⟨y, hsub y hy, hz⟩)))) ⟨rfl, rfl, trivial⟩
      · have hpr : tm_L K1 V1 (tt_lc Bx ++ (tt_i (.branch cn cl cr : tt_T) ++ tt_rc Bx)) = LP := (by rw [← hpr]; simp [tt_i])
        rcases Bx with _ | ⟨⟨_ | _, qn, ts⟩, Bx⟩
        · obtain ⟨⟨hp, hcl, hcr⟩, hK⟩ := (tt_H_p [] _).mp hU.2.1
          have hp : τ (ct, 100 + an) = some (an, .inr (19, [.ref (K1 an), .ref (V1 an), .null, .ref cn, .null, .int (D1 an)])) := hp
          have nd := hU.2.2.1
          have hm := hU.1
          have ina : an ∈ L0 := hsub _ (by rw [tt_i_p]; simp [tt_i])
          have hcn : τ (ct, 100 + cn) = some (cn, .inr (19, [.ref (K1 cn), .ref (V1 cn), va_rf (tt_r cl), va_rf (tt_r cr), .ref an, .int (D1 cn)])) := hcr.1
          have nca : cn ≠ an := (by intro q; subst q; simp [tt_i_p, tt_p, tt_i, List.nodup_append] at nd)
          have inc : cn ∈ L0 := hsub _ (by rw [tt_i_p]; simp [tt_i])
          first | refine ri_aload_n C dJ19_deleteEntry_57 rfl ?_ | refine ri_aload_nQ C dJ19_deleteEntry_57 rfl ?_ | refine ri_aload_nN C dJ19_deleteEntry_57 rfl ?_
          refine ri_getf C dJ19_deleteEntry_58 fr_q1086_19 (by first | assumption | (repeat (first | assumption | exact kx_rs (by assumption) | exact kx_ne2 (by omega) | exact kx_ne1 (by omega) | refine kx_ro (by assumption) ?_ ?_ | exact kx_rs rfl | refine kx_ro rfl ?_ ?_))) (by rfl) ?_
          refine ri_ifnullN C 71 dJ19_deleteEntry_61 rfl ?_
          first | refine ri_aload_n C dJ19_deleteEntry_71 rfl ?_ | refine ri_aload_nQ C dJ19_deleteEntry_71 rfl ?_ | refine ri_aload_nN C dJ19_deleteEntry_71 rfl ?_
          refine ri_getf C dJ19_deleteEntry_72 fr_q1087_19 (by first | assumption | (repeat (first | assumption | exact kx_rs (by assumption) | exact kx_ne2 (by omega) | exact kx_ne1 (by omega) | refine kx_ro (by assumption) ?_ ?_ | exact kx_rs rfl | refine kx_ro rfl ?_ ?_))) (by rfl) ?_
          first | refine ri_astore_n C dJ19_deleteEntry_75 rfl (by decide) ?_ | refine ri_astore_nQ C dJ19_deleteEntry_75 rfl (by decide) ?_ | refine ri_astore_nN C dJ19_deleteEntry_75 rfl (by decide) ?_
          first | refine ri_aload_n C dJ19_deleteEntry_76 rfl ?_ | refine ri_aload_nQ C dJ19_deleteEntry_76 rfl ?_ | refine ri_aload_nN C dJ19_deleteEntry_76 rfl ?_
          refine ri_ifnull C dJ19_deleteEntry_77 ?_
          first | refine ri_aload_n C dJ19_deleteEntry_80 rfl ?_ | refine ri_aload_nQ C dJ19_deleteEntry_80 rfl ?_ | refine ri_aload_nN C dJ19_deleteEntry_80 rfl ?_
          first | refine ri_aload_n C dJ19_deleteEntry_81 rfl ?_ | refine ri_aload_nQ C dJ19_deleteEntry_81 rfl ?_ | refine ri_aload_nN C dJ19_deleteEntry_81 rfl ?_
          refine ri_getf C dJ19_deleteEntry_82 fr_q1089_19 (by first | assumption | (repeat (first | assumption | exact kx_rs (by assumption) | exact kx_ne2 (by omega) | exact kx_ne1 (by omega) | refine kx_ro (by assumption) ?_ ?_ | exact kx_rs rfl | refine kx_ro rfl ?_ ?_))) (by rfl) ?_
          refine ri_putf C dJ19_deleteEntry_85 fd_q1089_19 (fun h => nomatch h) (by first | assumption | (repeat (first | assumption | exact kx_rs (by assumption) | exact kx_ne2 (by omega) | exact kx_ne1 (by omega) | refine kx_ro (by assumption) ?_ ?_ | exact kx_rs rfl | refine kx_ro rfl ?_ ?_))) (Nat.le_of_ble_eq_true rfl) (by rfl) (by rfl) (by dsimp only [List.set] <;> rfl) (fun s85 e85 => ?_)
          first | refine ri_aload_n C dJ19_deleteEntry_88 rfl ?_ | refine ri_aload_nQ C dJ19_deleteEntry_88 rfl ?_ | refine ri_aload_nN C dJ19_deleteEntry_88 rfl ?_
          refine ri_getf C dJ19_deleteEntry_89 fr_q1089_19 (by first | assumption | (repeat (first | assumption | exact kx_rs (by assumption) | exact kx_ne2 (by omega) | exact kx_ne1 (by omega) | refine kx_ro (by assumption) ?_ ?_ | exact kx_rs rfl | refine kx_ro rfl ?_ ?_))) (by rfl) ?_
          refine ri_ifnonnullN C dJ19_deleteEntry_92 ?_
          first | refine ri_aload_n C dJ19_deleteEntry_95 rfl ?_ | refine ri_aload_nQ C dJ19_deleteEntry_95 rfl ?_ | refine ri_aload_nN C dJ19_deleteEntry_95 rfl ?_
          first | refine ri_aload_n C dJ19_deleteEntry_96 rfl ?_ | refine ri_aload_nQ C dJ19_deleteEntry_96 rfl ?_ | refine ri_aload_nN C dJ19_deleteEntry_96 rfl ?_
          refine ri_putf C dJ19_deleteEntry_97 fd_q577_18 (fun h => nomatch h) (by first | assumption | (repeat (first | assumption | exact kx_rs (by assumption) | exact kx_ne2 (by omega) | exact kx_ne1 (by omega) | refine kx_ro (by assumption) ?_ ?_ | exact kx_rs rfl | refine kx_ro rfl ?_ ?_))) (Nat.le_of_ble_eq_true rfl) (by rfl) (by rfl) (by dsimp only [List.set] <;> rfl) (fun s97 e97 => ?_)
          refine ri_goto C 133 dJ19_deleteEntry_100 rfl ?_
          first | refine ri_aload_n C dJ19_deleteEntry_133 rfl ?_ | refine ri_aload_nQ C dJ19_deleteEntry_133 rfl ?_ | refine ri_aload_nN C dJ19_deleteEntry_133 rfl ?_
          first | refine ri_aload_n C dJ19_deleteEntry_134 rfl ?_ | refine ri_aload_nQ C dJ19_deleteEntry_134 rfl ?_ | refine ri_aload_nN C dJ19_deleteEntry_134 rfl ?_
          first | refine ri_aload_n C dJ19_deleteEntry_135 rfl ?_ | refine ri_aload_nQ C dJ19_deleteEntry_135 rfl ?_ | refine ri_aload_nN C dJ19_deleteEntry_135 rfl ?_
          refine ri_aconst_null C dJ19_deleteEntry_136 ?_
          refine ri_dup_x1 C dJ19_deleteEntry_137 rfl rfl ?_
          refine ri_putf C dJ19_deleteEntry_138 fd_q1089_19 (fun h => nomatch h) (by first | assumption | (repeat (first | assumption | exact kx_rs (by assumption) | exact kx_ne2 (by omega) | exact kx_ne1 (by omega) | refine kx_ro (by assumption) ?_ ?_ | exact kx_rs rfl | refine kx_ro rfl ?_ ?_))) (Nat.le_of_ble_eq_true rfl) (by rfl) (by rfl) (by dsimp only [List.set] <;> rfl) (fun s138 e138 => ?_)
          refine ri_dup_x1 C dJ19_deleteEntry_141 rfl rfl ?_
          refine ri_putf C dJ19_deleteEntry_142 fd_q1087_19 (fun h => nomatch h) (by first | assumption | (repeat (first | assumption | exact kx_rs (by assumption) | exact kx_ne2 (by omega) | exact kx_ne1 (by omega) | refine kx_ro (by assumption) ?_ ?_ | exact kx_rs rfl | refine kx_ro rfl ?_ ?_))) (Nat.le_of_ble_eq_true rfl) (by rfl) (by rfl) (by dsimp only [List.set] <;> rfl) (fun s142 e142 => ?_)
          refine ri_putf C dJ19_deleteEntry_145 fd_q1086_19 (fun h => nomatch h) (by first | assumption | (repeat (first | assumption | exact kx_rs (by assumption) | exact kx_ne2 (by omega) | exact kx_ne1 (by omega) | refine kx_ro (by assumption) ?_ ?_ | exact kx_rs rfl | refine kx_ro rfl ?_ ?_))) (Nat.le_of_ble_eq_true rfl) (by rfl) (by rfl) (by dsimp only [List.set] <;> rfl) (fun s145 e145 => ?_)
          have hsl : (tt_lc [] ++ (tt_i (.branch cn cl cr) ++ tt_rc [])).Sublist (tt_lc [] ++ (tt_i (.branch an tt_n (.branch cn cl cr)) ++ tt_rc [])) := List.Sublist.append (List.Sublist.refl _) (List.Sublist.append (by exact List.sublist_cons_self _ _) (List.Sublist.refl _))
          have H : tm_H s145 ct mp (tt_p [] (.branch cn cl cr)) K1 V1 D1 vals sz (md + nI 1) := ⟨(by first | assumption | (repeat (first | assumption | exact kx_rs (by assumption) | exact kx_ne2 (by omega) | exact kx_ne1 (by omega) | refine kx_ro (by assumption) ?_ ?_ | exact kx_rs rfl | refine kx_ro rfl ?_ ?_))), tt_delR hU.2.2.1 hU.2.1 (tm_3 (D' := D1) hcr (by
              intro e l r hbe
              cases hbe
              exact (by first | assumption | (repeat (first | assumption | exact kx_rs (by assumption) | exact kx_ne2 (by omega) | exact kx_ne1 (by omega) | refine kx_ro (by assumption) ?_ ?_ | exact kx_rs rfl | refine kx_ro rfl ?_ ?_))))) trivial (by
              intro x h1 h3 h4 l r q h
              try (have h3' : x ≠ cn := fun z => h3 (by rw [z]; rfl))
              repeat (first | exact h | refine kx_ro (by assumption) ?_ ?_ | exact kx_ne2 (by omega))), (by have g := hU.2.2.1; rw [tt_i_p] at g ⊢; exact List.Nodup.sublist hsl g), hU.2.2.2⟩
          have hfr2 : kx_Fr (tm_T ct L0) σ s145 := (by repeat (first | exact hfr | refine kx_Fr.up2 ?_ (by assumption) ?_ | exact tm_T_m | exact tm_T_e inq | exact tm_T_e ina | exact tm_T_e inc))
          have hsub2 : ∀ x, x ∈ tt_i (tt_p [] (.branch cn cl cr)) → x ∈ L0 := fun x hx => hsub x (by rw [tt_i_p] at hx ⊢; exact hsl.subset hx)
          have hpr2 : tm_L K1 V1 (tt_i (tt_p [] (.branch cn cl cr))) = LP := (by rw [tt_i_p, ← hpr])
          first | refine ri_aload_n C dJ19_deleteEntry_148 rfl ?_ | refine ri_aload_nQ C dJ19_deleteEntry_148 rfl ?_ | refine ri_aload_nN C dJ19_deleteEntry_148 rfl ?_
          refine ri_getf C dJ19_deleteEntry_149 fr_q1091_19 (by first | assumption | (repeat (first | assumption | exact kx_rs (by assumption) | exact kx_ne2 (by omega) | exact kx_ne1 (by omega) | refine kx_ro (by assumption) ?_ ?_ | exact kx_rs rfl | refine kx_ro rfl ?_ ?_))) (by rfl) ?_
          refine ri_iconst C dJ19_deleteEntry_152 kc_i1 ?_
          refine ri_icmp_ne C 245 dJ19_deleteEntry_153 rfl (fun h153 => ?_) (fun h153 => ?_)
          · exact ri_vret C hQ dJ19_deleteEntry_245 (Nat.le_of_ble_eq_true rfl) (Nat.le_of_ble_eq_true rfl) ⟨rfl, _, K1, V1, D1, H, hpr2, hsub2, hfr2⟩
          · first | refine ri_aload_n C dJ19_deleteEntry_156 rfl ?_ | refine ri_aload_nQ C dJ19_deleteEntry_156 rfl ?_ | refine ri_aload_nN C dJ19_deleteEntry_156 rfl ?_
            first | refine ri_aload_n C dJ19_deleteEntry_157 rfl ?_ | refine ri_aload_nQ C dJ19_deleteEntry_157 rfl ?_ | refine ri_aload_nN C dJ19_deleteEntry_157 rfl ?_
            refine ri_callV C km_J19_fixAfterDeletion q1999 qs37 dJ19_deleteEntry_158 (mt_J19_fixAfterDeletion (Bx := []) (xa := cn) (xl := cl) (xr := cr) htr H) rfl rfl (kx_rcN C H.1 rfl) ⟨⟨(Nat.le_of_ble_eq_true rfl), (Nat.le_of_ble_eq_true rfl)⟩, (Nat.le_of_ble_eq_true rfl), (Nat.le_of_ble_eq_true rfl), (Nat.le_of_ble_eq_true rfl)⟩ (fun v158 s158 h158 => ?_) (fun _ _ _ h => h.elim)
            obtain ⟨rfl, B9, D9, h9, i9, F9⟩ := h158
            refine ri_goto C 245 dJ19_deleteEntry_161 rfl ?_
            exact ri_vret C hQ dJ19_deleteEntry_245 (Nat.le_of_ble_eq_true rfl) (Nat.le_of_ble_eq_true rfl) ⟨rfl, _, K1, V1, D9, h9, by rw [i9]; exact hpr2, fun x hx => hsub2 x (by rw [← i9]; exact hx), hfr2.tr (F9.mon (fun z hz => by
              rcases hz with hz | ⟨y, hy, hz⟩
              · exact Or.inl hz
              · exact Or.inr ⟨y, hsub2 y hy, hz⟩))⟩
        · obtain ⟨⟨hp, hcl, hcr⟩, hK⟩ := (tt_H_p ((false, qn, ts) :: Bx) _).mp hU.2.1
          have hp : τ (ct, 100 + an) = some (an, .inr (19, [.ref (K1 an), .ref (V1 an), .null, .ref cn, .ref qn, .int (D1 an)])) := hp
          have nd := hU.2.2.1
          have hm := hU.1
          have ina : an ∈ L0 := hsub _ (by rw [tt_i_p]; simp [tt_i])
          have hq : τ (ct, 100 + qn) = some (qn, .inr (19, [.ref (K1 qn), .ref (V1 qn), va_rf (tt_r ts), .ref an, va_rf (tt_u Bx), .int (D1 qn)])) := hK.1
          have nqa : qn ≠ an := (by intro q; subst q; simp [tt_i_p, tt_p, tt_i, List.nodup_append] at nd)
          have hts : tt_r ts ≠ some an := (fun q9 => by
            obtain ⟨A9, C9, hA9⟩ := List.append_of_mem (tt_r_in q9)
            simp [tt_i_p, tt_p, tt_i, hA9, List.nodup_append] at nd)
          have inq : qn ∈ L0 := hsub _ (by rw [tt_i_p]; have g := (tt_ic_m (x := qn) (B := ((false, qn, ts) :: Bx))).mp (tt_u_in rfl); rcases g with g | g <;> simp [g])
          have hcn : τ (ct, 100 + cn) = some (cn, .inr (19, [.ref (K1 cn), .ref (V1 cn), va_rf (tt_r cl), va_rf (tt_r cr), .ref an, .int (D1 cn)])) := hcr.1
          have nca : cn ≠ an := (by intro q; subst q; simp [tt_i_p, tt_p, tt_i, List.nodup_append] at nd)
          have inc : cn ∈ L0 := hsub _ (by rw [tt_i_p]; simp [tt_i])
          have nqc : qn ≠ cn := (by intro q; subst q; simp [tt_i_p, tt_p, tt_i, List.nodup_append] at nd)
          first | refine ri_aload_n C dJ19_deleteEntry_57 rfl ?_ | refine ri_aload_nQ C dJ19_deleteEntry_57 rfl ?_ | refine ri_aload_nN C dJ19_deleteEntry_57 rfl ?_
          refine ri_getf C dJ19_deleteEntry_58 fr_q1086_19 (by first | assumption | (repeat (first | assumption | exact kx_rs (by assumption) | exact kx_ne2 (by omega) | exact kx_ne1 (by omega) | refine kx_ro (by assumption) ?_ ?_ | exact kx_rs rfl | refine kx_ro rfl ?_ ?_))) (by rfl) ?_
          refine ri_ifnullN C 71 dJ19_deleteEntry_61 rfl ?_
          first | refine ri_aload_n C dJ19_deleteEntry_71 rfl ?_ | refine ri_aload_nQ C dJ19_deleteEntry_71 rfl ?_ | refine ri_aload_nN C dJ19_deleteEntry_71 rfl ?_
          refine ri_getf C dJ19_deleteEntry_72 fr_q1087_19 (by first | assumption | (repeat (first | assumption | exact kx_rs (by assumption) | exact kx_ne2 (by omega) | exact kx_ne1 (by omega) | refine kx_ro (by assumption) ?_ ?_ | exact kx_rs rfl | refine kx_ro rfl ?_ ?_))) (by rfl) ?_
          first | refine ri_astore_n C dJ19_deleteEntry_75 rfl (by decide) ?_ | refine ri_astore_nQ C dJ19_deleteEntry_75 rfl (by decide) ?_ | refine ri_astore_nN C dJ19_deleteEntry_75 rfl (by decide) ?_
          first | refine ri_aload_n C dJ19_deleteEntry_76 rfl ?_ | refine ri_aload_nQ C dJ19_deleteEntry_76 rfl ?_ | refine ri_aload_nN C dJ19_deleteEntry_76 rfl ?_
          refine ri_ifnull C dJ19_deleteEntry_77 ?_
          first | refine ri_aload_n C dJ19_deleteEntry_80 rfl ?_ | refine ri_aload_nQ C dJ19_deleteEntry_80 rfl ?_ | refine ri_aload_nN C dJ19_deleteEntry_80 rfl ?_
          first | refine ri_aload_n C dJ19_deleteEntry_81 rfl ?_ | refine ri_aload_nQ C dJ19_deleteEntry_81 rfl ?_ | refine ri_aload_nN C dJ19_deleteEntry_81 rfl ?_
          refine ri_getf C dJ19_deleteEntry_82 fr_q1089_19 (by first | assumption | (repeat (first | assumption | exact kx_rs (by assumption) | exact kx_ne2 (by omega) | exact kx_ne1 (by omega) | refine kx_ro (by assumption) ?_ ?_ | exact kx_rs rfl | refine kx_ro rfl ?_ ?_))) (by rfl) ?_
          refine ri_putf C dJ19_deleteEntry_85 fd_q1089_19 (fun h => nomatch h) (by first | assumption | (repeat (first | assumption | exact kx_rs (by assumption) | exact kx_ne2 (by omega) | exact kx_ne1 (by omega) | refine kx_ro (by assumption) ?_ ?_ | exact kx_rs rfl | refine kx_ro rfl ?_ ?_))) (Nat.le_of_ble_eq_true rfl) (by rfl) (by rfl) (by dsimp only [List.set] <;> rfl) (fun s85 e85 => ?_)
          first | refine ri_aload_n C dJ19_deleteEntry_88 rfl ?_ | refine ri_aload_nQ C dJ19_deleteEntry_88 rfl ?_ | refine ri_aload_nN C dJ19_deleteEntry_88 rfl ?_
          refine ri_getf C dJ19_deleteEntry_89 fr_q1089_19 (by first | assumption | (repeat (first | assumption | exact kx_rs (by assumption) | exact kx_ne2 (by omega) | exact kx_ne1 (by omega) | refine kx_ro (by assumption) ?_ ?_ | exact kx_rs rfl | refine kx_ro rfl ?_ ?_))) (by rfl) ?_
          refine ri_ifnonnull C 103 dJ19_deleteEntry_92 rfl ?_
          first | refine ri_aload_n C dJ19_deleteEntry_103 rfl ?_ | refine ri_aload_nQ C dJ19_deleteEntry_103 rfl ?_ | refine ri_aload_nN C dJ19_deleteEntry_103 rfl ?_
          first | refine ri_aload_n C dJ19_deleteEntry_104 rfl ?_ | refine ri_aload_nQ C dJ19_deleteEntry_104 rfl ?_ | refine ri_aload_nN C dJ19_deleteEntry_104 rfl ?_
          refine ri_getf C dJ19_deleteEntry_105 fr_q1089_19 (by first | assumption | (repeat (first | assumption | exact kx_rs (by assumption) | exact kx_ne2 (by omega) | exact kx_ne1 (by omega) | refine kx_ro (by assumption) ?_ ?_ | exact kx_rs rfl | refine kx_ro rfl ?_ ?_))) (by rfl) ?_
          refine ri_getf C dJ19_deleteEntry_108 fr_q1086_19 (by first | assumption | (repeat (first | assumption | exact kx_rs (by assumption) | exact kx_ne2 (by omega) | exact kx_ne1 (by omega) | refine kx_ro (by assumption) ?_ ?_ | exact kx_rs rfl | refine kx_ro rfl ?_ ?_))) (by rfl) ?_
          refine ri_acmp_neS C 125 dJ19_deleteEntry_111 rfl (fun h111 => ?_) (fun h111 => ?_)
          · first | refine ri_aload_n C dJ19_deleteEntry_125 rfl ?_ | refine ri_aload_nQ C dJ19_deleteEntry_125 rfl ?_ | refine ri_aload_nN C dJ19_deleteEntry_125 rfl ?_
            refine ri_getf C dJ19_deleteEntry_126 fr_q1089_19 (by first | assumption | (repeat (first | assumption | exact kx_rs (by assumption) | exact kx_ne2 (by omega) | exact kx_ne1 (by omega) | refine kx_ro (by assumption) ?_ ?_ | exact kx_rs rfl | refine kx_ro rfl ?_ ?_))) (by rfl) ?_
            first | refine ri_aload_n C dJ19_deleteEntry_129 rfl ?_ | refine ri_aload_nQ C dJ19_deleteEntry_129 rfl ?_ | refine ri_aload_nN C dJ19_deleteEntry_129 rfl ?_
            refine ri_putf C dJ19_deleteEntry_130 fd_q1087_19 (fun h => nomatch h) (by first | assumption | (repeat (first | assumption | exact kx_rs (by assumption) | exact kx_ne2 (by omega) | exact kx_ne1 (by omega) | refine kx_ro (by assumption) ?_ ?_ | exact kx_rs rfl | refine kx_ro rfl ?_ ?_))) (Nat.le_of_ble_eq_true rfl) (by rfl) (by rfl) (by dsimp only [List.set] <;> rfl) (fun s130 e130 => ?_)
            first | refine ri_aload_n C dJ19_deleteEntry_133 rfl ?_ | refine ri_aload_nQ C dJ19_deleteEntry_133 rfl ?_ | refine ri_aload_nN C dJ19_deleteEntry_133 rfl ?_
            first | refine ri_aload_n C dJ19_deleteEntry_134 rfl ?_ | refine ri_aload_nQ C dJ19_deleteEntry_134 rfl ?_ | refine ri_aload_nN C dJ19_deleteEntry_134 rfl ?_
            first | refine ri_aload_n C dJ19_deleteEntry_135 rfl ?_ | refine ri_aload_nQ C dJ19_deleteEntry_135 rfl ?_ | refine ri_aload_nN C dJ19_deleteEntry_135 rfl ?_
            refine ri_aconst_null C dJ19_deleteEntry_136 ?_
            refine ri_dup_x1 C dJ19_deleteEntry_137 rfl rfl ?_
            refine ri_putf C dJ19_deleteEntry_138 fd_q1089_19 (fun h => nomatch h) (by first | assumption | (repeat (first | assumption | exact kx_rs (by assumption) | exact kx_ne2 (by omega) | exact kx_ne1 (by omega) | refine kx_ro (by assumption) ?_ ?_ | exact kx_rs rfl | refine kx_ro rfl ?_ ?_))) (Nat.le_of_ble_eq_true rfl) (by rfl) (by rfl) (by dsimp only [List.set] <;> rfl) (fun s138 e138 => ?_)
            refine ri_dup_x1 C dJ19_deleteEntry_141 rfl rfl ?_
            refine ri_putf C dJ19_deleteEntry_142 fd_q1087_19 (fun h => nomatch h) (by first | assumption | (repeat (first | assumption | exact kx_rs (by assumption) | exact kx_ne2 (by omega) | exact kx_ne1 (by omega) | refine kx_ro (by assumption) ?_ ?_ | exact kx_rs rfl | refine kx_ro rfl ?_ ?_))) (Nat.le_of_ble_eq_true rfl) (by rfl) (by rfl) (by dsimp only [List.set] <;> rfl) (fun s142 e142 => ?_)
            refine ri_putf C dJ19_deleteEntry_145 fd_q1086_19 (fun h => nomatch h) (by first | assumption | (repeat (first | assumption | exact kx_rs (by assumption) | exact kx_ne2 (by omega) | exact kx_ne1 (by omega) | refine kx_ro (by assumption) ?_ ?_ | exact kx_rs rfl | refine kx_ro rfl ?_ ?_))) (Nat.le_of_ble_eq_true rfl) (by rfl) (by rfl) (by dsimp only [List.set] <;> rfl) (fun s145 e145 => ?_)
            have hsl : (tt_lc ((false, qn, ts) :: Bx) ++ (tt_i (.branch cn cl cr) ++ tt_rc ((false, qn, ts) :: Bx))).Sublist (tt_lc ((false, qn, ts) :: Bx) ++ (tt_i (.branch an tt_n (.branch cn cl cr)) ++ tt_rc ((false, qn, ts) :: Bx))) := List.Sublist.append (List.Sublist.refl _) (List.Sublist.append (by exact List.sublist_cons_self _ _) (List.Sublist.refl _))
            have H : tm_H s145 ct mp (tt_p ((false, qn, ts) :: Bx) (.branch cn cl cr)) K1 V1 D1 vals sz (md + nI 1) := ⟨(by rw [tt_r_p _ _ _ (.branch an tt_n (.branch cn cl cr))]; exact (by first | assumption | (repeat (first | assumption | exact kx_rs (by assumption) | exact kx_ne2 (by omega) | exact kx_ne1 (by omega) | refine kx_ro (by assumption) ?_ ?_ | exact kx_rs rfl | refine kx_ro rfl ?_ ?_)))), tt_delR hU.2.2.1 hU.2.1 (tm_3 (D' := D1) hcr (by
                intro e l r hbe
                cases hbe
                exact (by first | assumption | (repeat (first | assumption | exact kx_rs (by assumption) | exact kx_ne2 (by omega) | exact kx_ne1 (by omega) | refine kx_ro (by assumption) ?_ ?_ | exact kx_rs rfl | refine kx_ro rfl ?_ ?_))))) (by first | assumption | (repeat (first | assumption | exact kx_rs (by assumption) | exact kx_ne2 (by omega) | exact kx_ne1 (by omega) | refine kx_ro (by assumption) ?_ ?_ | exact kx_rs rfl | refine kx_ro rfl ?_ ?_))) (by
                intro x h1 h3 h4 l r q h
                try (have h4' : x ≠ qn := fun z => h4 (by rw [z]; rfl))
                try (have h3' : x ≠ cn := fun z => h3 (by rw [z]; rfl))
                repeat (first | exact h | refine kx_ro (by assumption) ?_ ?_ | exact kx_ne2 (by omega))), (by have g := hU.2.2.1; rw [tt_i_p] at g ⊢; exact List.Nodup.sublist hsl g), hU.2.2.2⟩
            have hfr2 : kx_Fr (tm_T ct L0) σ s145 := (by repeat (first | exact hfr | refine kx_Fr.up2 ?_ (by assumption) ?_ | exact tm_T_m | exact tm_T_e inq | exact tm_T_e ina | exact tm_T_e inc))
            have hsub2 : ∀ x, x ∈ tt_i (tt_p ((false, qn, ts) :: Bx) (.branch cn cl cr)) → x ∈ L0 := fun x hx => hsub x (by rw [tt_i_p] at hx ⊢; exact hsl.subset hx)
            have hpr2 : tm_L K1 V1 (tt_i (tt_p ((false, qn, ts) :: Bx) (.branch cn cl cr))) = LP := (by rw [tt_i_p, ← hpr])
            first | refine ri_aload_n C dJ19_deleteEntry_148 rfl ?_ | refine ri_aload_nQ C dJ19_deleteEntry_148 rfl ?_ | refine ri_aload_nN C dJ19_deleteEntry_148 rfl ?_
            refine ri_getf C dJ19_deleteEntry_149 fr_q1091_19 (by first | assumption | (repeat (first | assumption | exact kx_rs (by assumption) | exact kx_ne2 (by omega) | exact kx_ne1 (by omega) | refine kx_ro (by assumption) ?_ ?_ | exact kx_rs rfl | refine kx_ro rfl ?_ ?_))) (by rfl) ?_
            refine ri_iconst C dJ19_deleteEntry_152 kc_i1 ?_
            refine ri_icmp_ne C 245 dJ19_deleteEntry_153 rfl (fun h153 => ?_) (fun h153 => ?_)
            · exact ri_vret C hQ dJ19_deleteEntry_245 (Nat.le_of_ble_eq_true rfl) (Nat.le_of_ble_eq_true rfl) ⟨rfl, _, K1, V1, D1, H, hpr2, hsub2, hfr2⟩
            · first | refine ri_aload_n C dJ19_deleteEntry_156 rfl ?_ | refine ri_aload_nQ C dJ19_deleteEntry_156 rfl ?_ | refine ri_aload_nN C dJ19_deleteEntry_156 rfl ?_
              first | refine ri_aload_n C dJ19_deleteEntry_157 rfl ?_ | refine ri_aload_nQ C dJ19_deleteEntry_157 rfl ?_ | refine ri_aload_nN C dJ19_deleteEntry_157 rfl ?_
              refine ri_callV C km_J19_fixAfterDeletion q1999 qs37 dJ19_deleteEntry_158 (mt_J19_fixAfterDeletion (Bx := ((false, qn, ts) :: Bx)) (xa := cn) (xl := cl) (xr := cr) htr H) rfl rfl (kx_rcN C H.1 rfl) ⟨⟨(Nat.le_of_ble_eq_true rfl), (Nat.le_of_ble_eq_true rfl)⟩, (Nat.le_of_ble_eq_true rfl), (Nat.le_of_ble_eq_true rfl), (Nat.le_of_ble_eq_true rfl)⟩ (fun v158 s158 h158 => ?_) (fun _ _ _ h => h.elim)
              obtain ⟨rfl, B9, D9, h9, i9, F9⟩ := h158
              refine ri_goto C 245 dJ19_deleteEntry_161 rfl ?_
              exact ri_vret C hQ dJ19_deleteEntry_245 (Nat.le_of_ble_eq_true rfl) (Nat.le_of_ble_eq_true rfl) ⟨rfl, _, K1, V1, D9, h9, by rw [i9]; exact hpr2, fun x hx => hsub2 x (by rw [← i9]; exact hx), hfr2.tr (F9.mon (fun z hz => by
                rcases hz with hz | ⟨y, hy, hz⟩
                · exact Or.inl hz
                · exact Or.inr ⟨y, hsub2 y hy, hz⟩))⟩
          · exact absurd h111.symm hts --dead
        · obtain ⟨⟨hp, hcl, hcr⟩, hK⟩ := (tt_H_p ((true, qn, ts) :: Bx) _).mp hU.2.1
          have hp : τ (ct, 100 + an) = some (an, .inr (19, [.ref (K1 an), .ref (V1 an), .null, .ref cn, .ref qn, .int (D1 an)])) := hp
          have nd := hU.2.2.1
          have hm := hU.1
          have ina : an ∈ L0 := hsub _ (by rw [tt_i_p]; simp [tt_i])
          have hq : τ (ct, 100 + qn) = some (qn, .inr (19, [.ref (K1 qn), .ref (V1 qn), .ref an, va_rf (tt_r ts), va_rf (tt_u Bx), .int (D1 qn)])) := hK.1
          have nqa : qn ≠ an := (by intro q; subst q; simp [tt_i_p, tt_p, tt_i, List.nodup_append] at nd)
          have hts : tt_r ts ≠ some an := (fun q9 => by
            obtain ⟨A9, C9, hA9⟩ := List.append_of_mem (tt_r_in q9)
            simp [tt_i_p, tt_p, tt_i, hA9, List.nodup_append] at nd)
          have inq : qn ∈ L0 := hsub _ (by rw [tt_i_p]; have g := (tt_ic_m (x := qn) (B := ((true, qn, ts) :: Bx))).mp (tt_u_in rfl); rcases g with g | g <;> simp [g])
          have hcn : τ (ct, 100 + cn) = some (cn, .inr (19, [.ref (K1 cn), .ref (V1 cn), va_rf (tt_r cl), va_rf (tt_r cr), .ref an, .int (D1 cn)])) := hcr.1
          have nca : cn ≠ an := (by intro q; subst q; simp [tt_i_p, tt_p, tt_i, List.nodup_append] at nd)
          have inc : cn ∈ L0 := hsub _ (by rw [tt_i_p]; simp [tt_i])
          have nqc : qn ≠ cn := (by intro q; subst q; simp [tt_i_p, tt_p, tt_i, List.nodup_append] at nd)
          first | refine ri_aload_n C dJ19_deleteEntry_57 rfl ?_ | refine ri_aload_nQ C dJ19_deleteEntry_57 rfl ?_ | refine ri_aload_nN C dJ19_deleteEntry_57 rfl ?_
          refine ri_getf C dJ19_deleteEntry_58 fr_q1086_19 (by first | assumption | (repeat (first | assumption | exact kx_rs (by assumption) | exact kx_ne2 (by omega) | exact kx_ne1 (by omega) | refine kx_ro (by assumption) ?_ ?_ | exact kx_rs rfl | refine kx_ro rfl ?_ ?_))) (by rfl) ?_
          refine ri_ifnullN C 71 dJ19_deleteEntry_61 rfl ?_
          first | refine ri_aload_n C dJ19_deleteEntry_71 rfl ?_ | refine ri_aload_nQ C dJ19_deleteEntry_71 rfl ?_ | refine ri_aload_nN C dJ19_deleteEntry_71 rfl ?_
          refine ri_getf C dJ19_deleteEntry_72 fr_q1087_19 (by first | assumption | (repeat (first | assumption | exact kx_rs (by assumption) | exact kx_ne2 (by omega) | exact kx_ne1 (by omega) | refine kx_ro (by assumption) ?_ ?_ | exact kx_rs rfl | refine kx_ro rfl ?_ ?_))) (by rfl) ?_
          first | refine ri_astore_n C dJ19_deleteEntry_75 rfl (by decide) ?_ | refine ri_astore_nQ C dJ19_deleteEntry_75 rfl (by decide) ?_ | refine ri_astore_nN C dJ19_deleteEntry_75 rfl (by decide) ?_
          first | refine ri_aload_n C dJ19_deleteEntry_76 rfl ?_ | refine ri_aload_nQ C dJ19_deleteEntry_76 rfl ?_ | refine ri_aload_nN C dJ19_deleteEntry_76 rfl ?_
          refine ri_ifnull C dJ19_deleteEntry_77 ?_
          first | refine ri_aload_n C dJ19_deleteEntry_80 rfl ?_ | refine ri_aload_nQ C dJ19_deleteEntry_80 rfl ?_ | refine ri_aload_nN C dJ19_deleteEntry_80 rfl ?_
          first | refine ri_aload_n C dJ19_deleteEntry_81 rfl ?_ | refine ri_aload_nQ C dJ19_deleteEntry_81 rfl ?_ | refine ri_aload_nN C dJ19_deleteEntry_81 rfl ?_
          refine ri_getf C dJ19_deleteEntry_82 fr_q1089_19 (by first | assumption | (repeat (first | assumption | exact kx_rs (by assumption) | exact kx_ne2 (by omega) | exact kx_ne1 (by omega) | refine kx_ro (by assumption) ?_ ?_ | exact kx_rs rfl | refine kx_ro rfl ?_ ?_))) (by rfl) ?_
          refine ri_putf C dJ19_deleteEntry_85 fd_q1089_19 (fun h => nomatch h) (by first | assumption | (repeat (first | assumption | exact kx_rs (by assumption) | exact kx_ne2 (by omega) | exact kx_ne1 (by omega) | refine kx_ro (by assumption) ?_ ?_ | exact kx_rs rfl | refine kx_ro rfl ?_ ?_))) (Nat.le_of_ble_eq_true rfl) (by rfl) (by rfl) (by dsimp only [List.set] <;> rfl) (fun s85 e85 => ?_)
          first | refine ri_aload_n C dJ19_deleteEntry_88 rfl ?_ | refine ri_aload_nQ C dJ19_deleteEntry_88 rfl ?_ | refine ri_aload_nN C dJ19_deleteEntry_88 rfl ?_
          refine ri_getf C dJ19_deleteEntry_89 fr_q1089_19 (by first | assumption | (repeat (first | assumption | exact kx_rs (by assumption) | exact kx_ne2 (by omega) | exact kx_ne1 (by omega) | refine kx_ro (by assumption) ?_ ?_ | exact kx_rs rfl | refine kx_ro rfl ?_ ?_))) (by rfl) ?_
          refine ri_ifnonnull C 103 dJ19_deleteEntry_92 rfl ?_
          first | refine ri_aload_n C dJ19_deleteEntry_103 rfl ?_ | refine ri_aload_nQ C dJ19_deleteEntry_103 rfl ?_ | refine ri_aload_nN C dJ19_deleteEntry_103 rfl ?_
          first | refine ri_aload_n C dJ19_deleteEntry_104 rfl ?_ | refine ri_aload_nQ C dJ19_deleteEntry_104 rfl ?_ | refine ri_aload_nN C dJ19_deleteEntry_104 rfl ?_
          refine ri_getf C dJ19_deleteEntry_105 fr_q1089_19 (by first | assumption | (repeat (first | assumption | exact kx_rs (by assumption) | exact kx_ne2 (by omega) | exact kx_ne1 (by omega) | refine kx_ro (by assumption) ?_ ?_ | exact kx_rs rfl | refine kx_ro rfl ?_ ?_))) (by rfl) ?_
          refine ri_getf C dJ19_deleteEntry_108 fr_q1086_19 (by first | assumption | (repeat (first | assumption | exact kx_rs (by assumption) | exact kx_ne2 (by omega) | exact kx_ne1 (by omega) | refine kx_ro (by assumption) ?_ ?_ | exact kx_rs rfl | refine kx_ro rfl ?_ ?_))) (by rfl) ?_
          refine ri_acmp_neR C 125 dJ19_deleteEntry_111 rfl (fun h111 => ?_) (fun h111 => ?_)
          · exact absurd rfl h111 --dead
          · first | refine ri_aload_n C dJ19_deleteEntry_114 rfl ?_ | refine ri_aload_nQ C dJ19_deleteEntry_114 rfl ?_ | refine ri_aload_nN C dJ19_deleteEntry_114 rfl ?_
            refine ri_getf C dJ19_deleteEntry_115 fr_q1089_19 (by first | assumption | (repeat (first | assumption | exact kx_rs (by assumption) | exact kx_ne2 (by omega) | exact kx_ne1 (by omega) | refine kx_ro (by assumption) ?_ ?_ | exact kx_rs rfl | refine kx_ro rfl ?_ ?_))) (by rfl) ?_
            first | refine ri_aload_n C dJ19_deleteEntry_118 rfl ?_ | refine ri_aload_nQ C dJ19_deleteEntry_118 rfl ?_ | refine ri_aload_nN C dJ19_deleteEntry_118 rfl ?_
            refine ri_putf C dJ19_deleteEntry_119 fd_q1086_19 (fun h => nomatch h) (by first | assumption | (repeat (first | assumption | exact kx_rs (by assumption) | exact kx_ne2 (by omega) | exact kx_ne1 (by omega) | refine kx_ro (by assumption) ?_ ?_ | exact kx_rs rfl | refine kx_ro rfl ?_ ?_))) (Nat.le_of_ble_eq_true rfl) (by rfl) (by rfl) (by dsimp only [List.set] <;> rfl) (fun s119 e119 => ?_)
            refine ri_goto C 133 dJ19_deleteEntry_122 rfl ?_
            first | refine ri_aload_n C dJ19_deleteEntry_133 rfl ?_ | refine ri_aload_nQ C dJ19_deleteEntry_133 rfl ?_ | refine ri_aload_nN C dJ19_deleteEntry_133 rfl ?_
            first | refine ri_aload_n C dJ19_deleteEntry_134 rfl ?_ | refine ri_aload_nQ C dJ19_deleteEntry_134 rfl ?_ | refine ri_aload_nN C dJ19_deleteEntry_134 rfl ?_
            first | refine ri_aload_n C dJ19_deleteEntry_135 rfl ?_ | refine ri_aload_nQ C dJ19_deleteEntry_135 rfl ?_ | refine ri_aload_nN C dJ19_deleteEntry_135 rfl ?_
            refine ri_aconst_null C dJ19_deleteEntry_136 ?_
            refine ri_dup_x1 C dJ19_deleteEntry_137 rfl rfl ?_
            refine ri_putf C dJ19_deleteEntry_138 fd_q1089_19 (fun h => nomatch h) (by first | assumption | (repeat (first | assumption | exact kx_rs (by assumption) | exact kx_ne2 (by omega) | exact kx_ne1 (by omega) | refine kx_ro (by assumption) ?_ ?_ | exact kx_rs rfl | refine kx_ro rfl ?_ ?_))) (Nat.le_of_ble_eq_true rfl) (by rfl) (by rfl) (by dsimp only [List.set] <;> rfl) (fun s138 e138 => ?_)
            refine ri_dup_x1 C dJ19_deleteEntry_141 rfl rfl ?_
            refine ri_putf C dJ19_deleteEntry_142 fd_q1087_19 (fun h => nomatch h) (by first | assumption | (repeat (first | assumption | exact kx_rs (by assumption) | exact kx_ne2 (by omega) | exact kx_ne1 (by omega) | refine kx_ro (by assumption) ?_ ?_ | exact kx_rs rfl | refine kx_ro rfl ?_ ?_))) (Nat.le_of_ble_eq_true rfl) (by rfl) (by rfl) (by dsimp only [List.set] <;> rfl) (fun s142 e142 => ?_)
            refine ri_putf C dJ19_deleteEntry_145 fd_q1086_19 (fun h => nomatch h) (by first | assumption | (repeat (first | assumption | exact kx_rs (by assumption) | exact kx_ne2 (by omega) | exact kx_ne1 (by omega) | refine kx_ro (by assumption) ?_ ?_ | exact kx_rs rfl | refine kx_ro rfl ?_ ?_))) (Nat.le_of_ble_eq_true rfl) (by rfl) (by rfl) (by dsimp only [List.set] <;> rfl) (fun s145 e145 => ?_)
            have hsl : (tt_lc ((true, qn, ts) :: Bx) ++ (tt_i (.branch cn cl cr) ++ tt_rc ((true, qn, ts) :: Bx))).Sublist (tt_lc ((true, qn, ts) :: Bx) ++ (tt_i (.branch an tt_n (.branch cn cl cr)) ++ tt_rc ((true, qn, ts) :: Bx))) := List.Sublist.append (List.Sublist.refl _) (List.Sublist.append (by exact List.sublist_cons_self _ _) (List.Sublist.refl _))
            have H : tm_H s145 ct mp (tt_p ((true, qn, ts) :: Bx) (.branch cn cl cr)) K1 V1 D1 vals sz (md + nI 1) := ⟨(by rw [tt_r_p _ _ _ (.branch an tt_n (.branch cn cl cr))]; exact (by first | assumption | (repeat (first | assumption | exact kx_rs (by assumption) | exact kx_ne2 (by omega) | exact kx_ne1 (by omega) | refine kx_ro (by assumption) ?_ ?_ | exact kx_rs rfl | refine kx_ro rfl ?_ ?_)))), tt_delR hU.2.2.1 hU.2.1 (tm_3 (D' := D1) hcr (by
                intro e l r hbe
                cases hbe
                exact (by first | assumption | (repeat (first | assumption | exact kx_rs (by assumption) | exact kx_ne2 (by omega) | exact kx_ne1 (by omega) | refine kx_ro (by assumption) ?_ ?_ | exact kx_rs rfl | refine kx_ro rfl ?_ ?_))))) (by first | assumption | (repeat (first | assumption | exact kx_rs (by assumption) | exact kx_ne2 (by omega) | exact kx_ne1 (by omega) | refine kx_ro (by assumption) ?_ ?_ | exact kx_rs rfl | refine kx_ro rfl ?_ ?_))) (by
                intro x h1 h3 h4 l r q h
                try (have h4' : x ≠ qn := fun z => h4 (by rw [z]; rfl))
                try (have h3' : x ≠ cn := fun z => h3 (by rw [z]; rfl))
                repeat (first | exact h | refine kx_ro (by assumption) ?_ ?_ | exact kx_ne2 (by omega))), (by have g := hU.2.2.1; rw [tt_i_p] at g ⊢; exact List.Nodup.sublist hsl g), hU.2.2.2⟩
            have hfr2 : kx_Fr (tm_T ct L0) σ s145 := (by repeat (first | exact hfr | refine kx_Fr.up2 ?_ (by assumption) ?_ | exact tm_T_m | exact tm_T_e inq | exact tm_T_e ina | exact tm_T_e inc))
            have hsub2 : ∀ x, x ∈ tt_i (tt_p ((true, qn, ts) :: Bx) (.branch cn cl cr)) → x ∈ L0 := fun x hx => hsub x (by rw [tt_i_p] at hx ⊢; exact hsl.subset hx)
            have hpr2 : tm_L K1 V1 (tt_i (tt_p ((true, qn, ts) :: Bx) (.branch cn cl cr))) = LP := (by rw [tt_i_p, ← hpr])
            first | refine ri_aload_n C dJ19_deleteEntry_148 rfl ?_ | refine ri_aload_nQ C dJ19_deleteEntry_148 rfl ?_ | refine ri_aload_nN C dJ19_deleteEntry_148 rfl ?_
            refine ri_getf C dJ19_deleteEntry_149 fr_q1091_19 (by first | assumption | (repeat (first | assumption | exact kx_rs (by assumption) | exact kx_ne2 (by omega) | exact kx_ne1 (by omega) | refine kx_ro (by assumption) ?_ ?_ | exact kx_rs rfl | refine kx_ro rfl ?_ ?_))) (by rfl) ?_
            refine ri_iconst C dJ19_deleteEntry_152 kc_i1 ?_
            refine ri_icmp_ne C 245 dJ19_deleteEntry_153 rfl (fun h153 => ?_) (fun h153 => ?_)
            · exact ri_vret C hQ dJ19_deleteEntry_245 (Nat.le_of_ble_eq_true rfl) (Nat.le_of_ble_eq_true rfl) ⟨rfl, _, K1, V1, D1, H, hpr2, hsub2, hfr2⟩
            · first | refine ri_aload_n C dJ19_deleteEntry_156 rfl ?_ | refine ri_aload_nQ C dJ19_deleteEntry_156 rfl ?_ | refine ri_aload_nN C dJ19_deleteEntry_156 rfl ?_
              first | refine ri_aload_n C dJ19_deleteEntry_157 rfl ?_ | refine ri_aload_nQ C dJ19_deleteEntry_157 rfl ?_ | refine ri_aload_nN C dJ19_deleteEntry_157 rfl ?_
              refine ri_callV C km_J19_fixAfterDeletion q1999 qs37 dJ19_deleteEntry_158 (mt_J19_fixAfterDeletion (Bx := ((true, qn, ts) :: Bx)) (xa := cn) (xl := cl) (xr := cr) htr H) rfl rfl (kx_rcN C H.1 rfl) ⟨⟨(Nat.le_of_ble_eq_true rfl), (Nat.le_of_ble_eq_true rfl)⟩, (Nat.le_of_ble_eq_true rfl), (Nat.le_of_ble_eq_true rfl), (Nat.le_of_ble_eq_true rfl)⟩ (fun v158 s158 h158 => ?_) (fun _ _ _ h => h.elim)
              obtain ⟨rfl, B9, D9, h9, i9, F9⟩ := h158
              refine ri_goto C 245 dJ19_deleteEntry_161 rfl ?_
              exact ri_vret C hQ dJ19_deleteEntry_245 (Nat.le_of_ble_eq_true rfl) (Nat.le_of_ble_eq_true rfl) ⟨rfl, _, K1, V1, D9, h9, by rw [i9]; exact hpr2, fun x hx => hsub2 x (by rw [← i9]; exact hx), hfr2.tr (F9.mon (fun z hz => by
                rcases hz with hz | ⟨y, hy, hz⟩
                · exact Or.inl hz
                · exact Or.inr ⟨y, hsub2 y hy, hz⟩))⟩
    · obtain rfl : tr = tt_n := hone.resolve_left (fun q => by cases q)
      have hpr : tm_L K1 V1 (tt_lc Bx ++ (tt_i (.branch cn cl cr : tt_T) ++ tt_rc Bx)) = LP := (by rw [← hpr]; simp [tt_i])
      rcases Bx with _ | ⟨⟨_ | _, qn, ts⟩, Bx⟩
      · obtain ⟨⟨hp, hcl, hcr⟩, hK⟩ := (tt_H_p [] _).mp hU.2.1
        have hp : τ (ct, 100 + an) = some (an, .inr (19, [.ref (K1 an), .ref (V1 an), .ref cn, .null, .null, .int (D1 an)])) := hp
        have nd := hU.2.2.1
        have hm := hU.1
        have ina : an ∈ L0 := hsub _ (by rw [tt_i_p]; simp [tt_i])
        have hcn : τ (ct, 100 + cn) = some (cn, .inr (19, [.ref (K1 cn), .ref (V1 cn), va_rf (tt_r cl), va_rf (tt_r cr), .ref an, .int (D1 cn)])) := hcl.1
        have nca : cn ≠ an := (by intro q; subst q; simp [tt_i_p, tt_p, tt_i, List.nodup_append] at nd)
        have inc : cn ∈ L0 := hsub _ (by rw [tt_i_p]; simp [tt_i])
        first | refine ri_aload_n C dJ19_deleteEntry_57 rfl ?_ | refine ri_aload_nQ C dJ19_deleteEntry_57 rfl ?_ | refine ri_aload_nN C dJ19_deleteEntry_57 rfl ?_
        refine ri_getf C dJ19_deleteEntry_58 fr_q1086_19 (by first | assumption | (repeat (first | assumption | exact kx_rs (by assumption) | exact kx_ne2 (by omega) | exact kx_ne1 (by omega) | refine kx_ro (by assumption) ?_ ?_ | exact kx_rs rfl | refine kx_ro rfl ?_ ?_))) (by rfl) ?_
        refine ri_ifnull C dJ19_deleteEntry_61 ?_
        first | refine ri_aload_n C dJ19_deleteEntry_64 rfl ?_ | refine ri_aload_nQ C dJ19_deleteEntry_64 rfl ?_ | refine ri_aload_nN C dJ19_deleteEntry_64 rfl ?_
        refine ri_getf C dJ19_deleteEntry_65 fr_q1086_19 (by first | assumption | (repeat (first | assumption | exact kx_rs (by assumption) | exact kx_ne2 (by omega) | exact kx_ne1 (by omega) | refine kx_ro (by assumption) ?_ ?_ | exact kx_rs rfl | refine kx_ro rfl ?_ ?_))) (by rfl) ?_
        refine ri_goto C 75 dJ19_deleteEntry_68 rfl ?_
        first | refine ri_astore_n C dJ19_deleteEntry_75 rfl (by decide) ?_ | refine ri_astore_nQ C dJ19_deleteEntry_75 rfl (by decide) ?_ | refine ri_astore_nN C dJ19_deleteEntry_75 rfl (by decide) ?_
        first | refine ri_aload_n C dJ19_deleteEntry_76 rfl ?_ | refine ri_aload_nQ C dJ19_deleteEntry_76 rfl ?_ | refine ri_aload_nN C dJ19_deleteEntry_76 rfl ?_
        refine ri_ifnull C dJ19_deleteEntry_77 ?_
        first | refine ri_aload_n C dJ19_deleteEntry_80 rfl ?_ | refine ri_aload_nQ C dJ19_deleteEntry_80 rfl ?_ | refine ri_aload_nN C dJ19_deleteEntry_80 rfl ?_
        first | refine ri_aload_n C dJ19_deleteEntry_81 rfl ?_ | refine ri_aload_nQ C dJ19_deleteEntry_81 rfl ?_ | refine ri_aload_nN C dJ19_deleteEntry_81 rfl ?_
        refine ri_getf C dJ19_deleteEntry_82 fr_q1089_19 (by first | assumption | (repeat (first | assumption | exact kx_rs (by assumption) | exact kx_ne2 (by omega) | exact kx_ne1 (by omega) | refine kx_ro (by assumption) ?_ ?_ | exact kx_rs rfl | refine kx_ro rfl ?_ ?_))) (by rfl) ?_
        refine ri_putf C dJ19_deleteEntry_85 fd_q1089_19 (fun h => nomatch h) (by first | assumption | (repeat (first | assumption | exact kx_rs (by assumption) | exact kx_ne2 (by omega) | exact kx_ne1 (by omega) | refine kx_ro (by assumption) ?_ ?_ | exact kx_rs rfl | refine kx_ro rfl ?_ ?_))) (Nat.le_of_ble_eq_true rfl) (by rfl) (by rfl) (by dsimp only [List.set] <;> rfl) (fun s85 e85 => ?_)
        first | refine ri_aload_n C dJ19_deleteEntry_88 rfl ?_ | refine ri_aload_nQ C dJ19_deleteEntry_88 rfl ?_ | refine ri_aload_nN C dJ19_deleteEntry_88 rfl ?_
        refine ri_getf C dJ19_deleteEntry_89 fr_q1089_19 (by first | assumption | (repeat (first | assumption | exact kx_rs (by assumption) | exact kx_ne2 (by omega) | exact kx_ne1 (by omega) | refine kx_ro (by assumption) ?_ ?_ | exact kx_rs rfl | refine kx_ro rfl ?_ ?_))) (by rfl) ?_
        refine ri_ifnonnullN C dJ19_deleteEntry_92 ?_
        first | refine ri_aload_n C dJ19_deleteEntry_95 rfl ?_ | refine ri_aload_nQ C dJ19_deleteEntry_95 rfl ?_ | refine ri_aload_nN C dJ19_deleteEntry_95 rfl ?_
        first | refine ri_aload_n C dJ19_deleteEntry_96 rfl ?_ | refine ri_aload_nQ C dJ19_deleteEntry_96 rfl ?_ | refine ri_aload_nN C dJ19_deleteEntry_96 rfl ?_
        refine ri_putf C dJ19_deleteEntry_97 fd_q577_18 (fun h => nomatch h) (by first | assumption | (repeat (first | assumption | exact kx_rs (by assumption) | exact kx_ne2 (by omega) | exact kx_ne1 (by omega) | refine kx_ro (by assumption) ?_ ?_ | exact kx_rs rfl | refine kx_ro rfl ?_ ?_))) (Nat.le_of_ble_eq_true rfl) (by rfl) (by rfl) (by dsimp only [List.set] <;> rfl) (fun s97 e97 => ?_)
        refine ri_goto C 133 dJ19_deleteEntry_100 rfl ?_
        first | refine ri_aload_n C dJ19_deleteEntry_133 rfl ?_ | refine ri_aload_nQ C dJ19_deleteEntry_133 rfl ?_ | refine ri_aload_nN C dJ19_deleteEntry_133 rfl ?_
        first | refine ri_aload_n C dJ19_deleteEntry_134 rfl ?_ | refine ri_aload_nQ C dJ19_deleteEntry_134 rfl ?_ | refine ri_aload_nN C dJ19_deleteEntry_134 rfl ?_
        first | refine ri_aload_n C dJ19_deleteEntry_135 rfl ?_ | refine ri_aload_nQ C dJ19_deleteEntry_135 rfl ?_ | refine ri_aload_nN C dJ19_deleteEntry_135 rfl ?_
        refine ri_aconst_null C dJ19_deleteEntry_136 ?_
        refine ri_dup_x1 C dJ19_deleteEntry_137 rfl rfl ?_
        refine ri_putf C dJ19_deleteEntry_138 fd_q1089_19 (fun h => nomatch h) (by first | assumption | (repeat (first | assumption | exact kx_rs (by assumption) | exact kx_ne2 (by omega) | exact kx_ne1 (by omega) | refine kx_ro (by assumption) ?_ ?_ | exact kx_rs rfl | refine kx_ro rfl ?_ ?_))) (Nat.le_of_ble_eq_true rfl) (by rfl) (by rfl) (by dsimp only [List.set] <;> rfl) (fun s138 e138 => ?_)
        refine ri_dup_x1 C dJ19_deleteEntry_141 rfl rfl ?_
        refine ri_putf C dJ19_deleteEntry_142 fd_q1087_19 (fun h => nomatch h) (by first | assumption | (repeat (first | assumption | exact kx_rs (by assumption) | exact kx_ne2 (by omega) | exact kx_ne1 (by omega) | refine kx_ro (by assumption) ?_ ?_ | exact kx_rs rfl | refine kx_ro rfl ?_ ?_))) (Nat.le_of_ble_eq_true rfl) (by rfl) (by rfl) (by dsimp only [List.set] <;> rfl) (fun s142 e142 => ?_)
        refine ri_putf C dJ19_deleteEntry_145 fd_q1086_19 (fun h => nomatch h) (by first | assumption | (repeat (first | assumption | exact kx_rs (by assumption) | exact kx_ne2 (by omega) | exact kx_ne1 (by omega) | refine kx_ro (by assumption) ?_ ?_ | exact kx_rs rfl | refine kx_ro rfl ?_ ?_))) (Nat.le_of_ble_eq_true rfl) (by rfl) (by rfl) (by dsimp only [List.set] <;> rfl) (fun s145 e145 => ?_)
        have hsl : (tt_lc [] ++ (tt_i (.branch cn cl cr) ++ tt_rc [])).Sublist (tt_lc [] ++ (tt_i (.branch an (.branch cn cl cr) tt_n) ++ tt_rc [])) := List.Sublist.append (List.Sublist.refl _) (List.Sublist.append (by exact List.sublist_append_left _ _) (List.Sublist.refl _))
        have H : tm_H s145 ct mp (tt_p [] (.branch cn cl cr)) K1 V1 D1 vals sz (md + nI 1) := ⟨(by first | assumption | (repeat (first | assumption | exact kx_rs (by assumption) | exact kx_ne2 (by omega) | exact kx_ne1 (by omega) | refine kx_ro (by assumption) ?_ ?_ | exact kx_rs rfl | refine kx_ro rfl ?_ ?_))), tt_delL hU.2.2.1 hU.2.1 (tm_3 (D' := D1) hcl (by
            intro e l r hbe
            cases hbe
            exact (by first | assumption | (repeat (first | assumption | exact kx_rs (by assumption) | exact kx_ne2 (by omega) | exact kx_ne1 (by omega) | refine kx_ro (by assumption) ?_ ?_ | exact kx_rs rfl | refine kx_ro rfl ?_ ?_))))) trivial (by
            intro x h1 h3 h4 l r q h
            try (have h3' : x ≠ cn := fun z => h3 (by rw [z]; rfl))
            repeat (first | exact h | refine kx_ro (by assumption) ?_ ?_ | exact kx_ne2 (by omega))), (by have g := hU.2.2.1; rw [tt_i_p] at g ⊢; exact List.Nodup.sublist hsl g), hU.2.2.2⟩
        have hfr2 : kx_Fr (tm_T ct L0) σ s145 := (by repeat (first | exact hfr | refine kx_Fr.up2 ?_ (by assumption) ?_ | exact tm_T_m | exact tm_T_e inq | exact tm_T_e ina | exact tm_T_e inc))
        have hsub2 : ∀ x, x ∈ tt_i (tt_p [] (.branch cn cl cr)) → x ∈ L0 := fun x hx => hsub x (by rw [tt_i_p] at hx ⊢; exact hsl.subset hx)
        have hpr2 : tm_L K1 V1 (tt_i (tt_p [] (.branch cn cl cr))) = LP := (by rw [tt_i_p, ← hpr])
        first | refine ri_aload_n C dJ19_deleteEntry_148 rfl ?_ | refine ri_aload_nQ C dJ19_deleteEntry_148 rfl ?_ | refine ri_aload_nN C dJ19_deleteEntry_148 rfl ?_
        refine ri_getf C dJ19_deleteEntry_149 fr_q1091_19 (by first | assumption | (repeat (first | assumption | exact kx_rs (by assumption) | exact kx_ne2 (by omega) | exact kx_ne1 (by omega) | refine kx_ro (by assumption) ?_ ?_ | exact kx_rs rfl | refine kx_ro rfl ?_ ?_))) (by rfl) ?_
        refine ri_iconst C dJ19_deleteEntry_152 kc_i1 ?_
        refine ri_icmp_ne C 245 dJ19_deleteEntry_153 rfl (fun h153 => ?_) (fun h153 => ?_)
        · exact ri_vret C hQ dJ19_deleteEntry_245 (Nat.le_of_ble_eq_true rfl) (Nat.le_of_ble_eq_true rfl) ⟨rfl, _, K1, V1, D1, H, hpr2, hsub2, hfr2⟩
        · first | refine ri_aload_n C dJ19_deleteEntry_156 rfl ?_ | refine ri_aload_nQ C dJ19_deleteEntry_156 rfl ?_ | refine ri_aload_nN C dJ19_deleteEntry_156 rfl ?_
          first | refine ri_aload_n C dJ19_deleteEntry_157 rfl ?_ | refine ri_aload_nQ C dJ19_deleteEntry_157 rfl ?_ | refine ri_aload_nN C dJ19_deleteEntry_157 rfl ?_
          refine ri_callV C km_J19_fixAfterDeletion q1999 qs37 dJ19_deleteEntry_158 (mt_J19_fixAfterDeletion (Bx := []) (xa := cn) (xl := cl) (xr := cr) htr H) rfl rfl (kx_rcN C H.1 rfl) ⟨⟨(Nat.le_of_ble_eq_true rfl), (Nat.le_of_ble_eq_true rfl)⟩, (Nat.le_of_ble_eq_true rfl), (Nat.le_of_ble_eq_true rfl), (Nat.le_of_ble_eq_true rfl)⟩ (fun v158 s158 h158 => ?_) (fun _ _ _ h => h.elim)
          obtain ⟨rfl, B9, D9, h9, i9, F9⟩ := h158
          refine ri_goto C 245 dJ19_deleteEntry_161 rfl ?_
          exact ri_vret C hQ dJ19_deleteEntry_245 (Nat.le_of_ble_eq_true rfl) (Nat.le_of_ble_eq_true rfl) ⟨rfl, _, K1, V1, D9, h9, by rw [i9]; exact hpr2, fun x hx => hsub2 x (by rw [← i9]; exact hx), hfr2.tr (F9.mon (fun z hz => by
            rcases hz with hz | ⟨y, hy, hz⟩
            · exact Or.inl hz
            · exact Or.inr ⟨y, hsub2 y hy, hz⟩))⟩
      · obtain ⟨⟨hp, hcl, hcr⟩, hK⟩ := (tt_H_p ((false, qn, ts) :: Bx) _).mp hU.2.1
        have hp : τ (ct, 100 + an) = some (an, .inr (19, [.ref (K1 an), .ref (V1 an), .ref cn, .null, .ref qn, .int (D1 an)])) := hp
        have nd := hU.2.2.1
        have hm := hU.1
        have ina : an ∈ L0 := hsub _ (by rw [tt_i_p]; simp [tt_i])
        have hq : τ (ct, 100 + qn) = some (qn, .inr (19, [.ref (K1 qn), .ref (V1 qn), va_rf (tt_r ts), .ref an, va_rf (tt_u Bx), .int (D1 qn)])) := hK.1
        have nqa : qn ≠ an := (by intro q; subst q; simp [tt_i_p, tt_p, tt_i, List.nodup_append] at nd)
        have hts : tt_r ts ≠ some an := (fun q9 => by
          obtain ⟨A9, C9, hA9⟩ := List.append_of_mem (tt_r_in q9)
          simp [tt_i_p, tt_p, tt_i, hA9, List.nodup_append] at nd)
        have inq : qn ∈ L0 := hsub _ (by rw [tt_i_p]; have g := (tt_ic_m (x := qn) (B := ((false, qn, ts) :: Bx))).mp (tt_u_in rfl); rcases g with g | g <;> simp [g])
        have hcn : τ (ct, 100 + cn) = some (cn, .inr (19, [.ref (K1 cn), .ref (V1 cn), va_rf (tt_r cl), va_rf (tt_r cr), .ref an, .int (D1 cn)])) := hcl.1
        have nca : cn ≠ an := (by intro q; subst q; simp [tt_i_p, tt_p, tt_i, List.nodup_append] at nd)
        have inc : cn ∈ L0 := hsub _ (by rw [tt_i_p]; simp [tt_i])
        have nqc : qn ≠ cn := (by intro q; subst q; simp [tt_i_p, tt_p, tt_i, List.nodup_append] at nd)
        first | refine ri_aload_n C dJ19_deleteEntry_57 rfl ?_ | refine ri_aload_nQ C dJ19_deleteEntry_57 rfl ?_ | refine ri_aload_nN C dJ19_deleteEntry_57 rfl ?_
        refine ri_getf C dJ19_deleteEntry_58 fr_q1086_19 (by first | assumption | (repeat (first | assumption | exact kx_rs (by assumption) | exact kx_ne2 (by omega) | exact kx_ne1 (by omega) | refine kx_ro (by assumption) ?_ ?_ | exact kx_rs rfl | refine kx_ro rfl ?_ ?_))) (by rfl) ?_
        refine ri_ifnull C dJ19_deleteEntry_61 ?_
        first | refine ri_aload_n C dJ19_deleteEntry_64 rfl ?_ | refine ri_aload_nQ C dJ19_deleteEntry_64 rfl ?_ | refine ri_aload_nN C dJ19_deleteEntry_64 rfl ?_
        refine ri_getf C dJ19_deleteEntry_65 fr_q1086_19 (by first | assumption | (repeat (first | assumption | exact kx_rs (by assumption) | exact kx_ne2 (by omega) | exact kx_ne1 (by omega) | refine kx_ro (by assumption) ?_ ?_ | exact kx_rs rfl | refine kx_ro rfl ?_ ?_))) (by rfl) ?_
        refine ri_goto C 75 dJ19_deleteEntry_68 rfl ?_
        first | refine ri_astore_n C dJ19_deleteEntry_75 rfl (by decide) ?_ | refine ri_astore_nQ C dJ19_deleteEntry_75 rfl (by decide) ?_ | refine ri_astore_nN C dJ19_deleteEntry_75 rfl (by decide) ?_
        first | refine ri_aload_n C dJ19_deleteEntry_76 rfl ?_ | refine ri_aload_nQ C dJ19_deleteEntry_76 rfl ?_ | refine ri_aload_nN C dJ19_deleteEntry_76 rfl ?_
        refine ri_ifnull C dJ19_deleteEntry_77 ?_
        first | refine ri_aload_n C dJ19_deleteEntry_80 rfl ?_ | refine ri_aload_nQ C dJ19_deleteEntry_80 rfl ?_ | refine ri_aload_nN C dJ19_deleteEntry_80 rfl ?_
        first | refine ri_aload_n C dJ19_deleteEntry_81 rfl ?_ | refine ri_aload_nQ C dJ19_deleteEntry_81 rfl ?_ | refine ri_aload_nN C dJ19_deleteEntry_81 rfl ?_
        refine ri_getf C dJ19_deleteEntry_82 fr_q1089_19 (by first | assumption | (repeat (first | assumption | exact kx_rs (by assumption) | exact kx_ne2 (by omega) | exact kx_ne1 (by omega) | refine kx_ro (by assumption) ?_ ?_ | exact kx_rs rfl | refine kx_ro rfl ?_ ?_))) (by rfl) ?_
        refine ri_putf C dJ19_deleteEntry_85 fd_q1089_19 (fun h => nomatch h) (by first | assumption | (repeat (first | assumption | exact kx_rs (by assumption) | exact kx_ne2 (by omega) | exact kx_ne1 (by omega) | refine kx_ro (by assumption) ?_ ?_ | exact kx_rs rfl | refine kx_ro rfl ?_ ?_))) (Nat.le_of_ble_eq_true rfl) (by rfl) (by rfl) (by dsimp only [List.set] <;> rfl) (fun s85 e85 => ?_)
        first | refine ri_aload_n C dJ19_deleteEntry_88 rfl ?_ | refine ri_aload_nQ C dJ19_deleteEntry_88 rfl ?_ | refine ri_aload_nN C dJ19_deleteEntry_88 rfl ?_
        refine ri_getf C dJ19_deleteEntry_89 fr_q1089_19 (by first | assumption | (repeat (first | assumption | exact kx_rs (by assumption) | exact kx_ne2 (by omega) | exact kx_ne1 (by omega) | refine kx_ro (by assumption) ?_ ?_ | exact kx_rs rfl | refine kx_ro rfl ?_ ?_))) (by rfl) ?_
        refine ri_ifnonnull C 103 dJ19_deleteEntry_92 rfl ?_
        first | refine ri_aload_n C dJ19_deleteEntry_103 rfl ?_ | refine ri_aload_nQ C dJ19_deleteEntry_103 rfl ?_ | refine ri_aload_nN C dJ19_deleteEntry_103 rfl ?_
        first | refine ri_aload_n C dJ19_deleteEntry_104 rfl ?_ | refine ri_aload_nQ C dJ19_deleteEntry_104 rfl ?_ | refine ri_aload_nN C dJ19_deleteEntry_104 rfl ?_
        refine ri_getf C dJ19_deleteEntry_105 fr_q1089_19 (by first | assumption | (repeat (first | assumption | exact kx_rs (by assumption) | exact kx_ne2 (by omega) | exact kx_ne1 (by omega) | refine kx_ro (by assumption) ?_ ?_ | exact kx_rs rfl | refine kx_ro rfl ?_ ?_))) (by rfl) ?_
        refine ri_getf C dJ19_deleteEntry_108 fr_q1086_19 (by first | assumption | (repeat (first | assumption | exact kx_rs (by assumption) | exact kx_ne2 (by omega) | exact kx_ne1 (by omega) | refine kx_ro (by assumption) ?_ ?_ | exact kx_rs rfl | refine kx_ro rfl ?_ ?_))) (by rfl) ?_
        refine ri_acmp_neS C 125 dJ19_deleteEntry_111 rfl (fun h111 => ?_) (fun h111 => ?_)
        · first | refine ri_aload_n C dJ19_deleteEntry_125 rfl ?_ | refine ri_aload_nQ C dJ19_deleteEntry_125 rfl ?_ | refine ri_aload_nN C dJ19_deleteEntry_125 rfl ?_
          refine ri_getf C dJ19_deleteEntry_126 fr_q1089_19 (by first | assumption | (repeat (first | assumption | exact kx_rs (by assumption) | exact kx_ne2 (by omega) | exact kx_ne1 (by omega) | refine kx_ro (by assumption) ?_ ?_ | exact kx_rs rfl | refine kx_ro rfl ?_ ?_))) (by rfl) ?_
          first | refine ri_aload_n C dJ19_deleteEntry_129 rfl ?_ | refine ri_aload_nQ C dJ19_deleteEntry_129 rfl ?_ | refine ri_aload_nN C dJ19_deleteEntry_129 rfl ?_
          refine ri_putf C dJ19_deleteEntry_130 fd_q1087_19 (fun h => nomatch h) (by first | assumption | (repeat (first | assumption | exact kx_rs (by assumption) | exact kx_ne2 (by omega) | exact kx_ne1 (by omega) | refine kx_ro (by assumption) ?_ ?_ | exact kx_rs rfl | refine kx_ro rfl ?_ ?_))) (Nat.le_of_ble_eq_true rfl) (by rfl) (by rfl) (by dsimp only [List.set] <;> rfl) (fun s130 e130 => ?_)
          first | refine ri_aload_n C dJ19_deleteEntry_133 rfl ?_ | refine ri_aload_nQ C dJ19_deleteEntry_133 rfl ?_ | refine ri_aload_nN C dJ19_deleteEntry_133 rfl ?_
          first | refine ri_aload_n C dJ19_deleteEntry_134 rfl ?_ | refine ri_aload_nQ C dJ19_deleteEntry_134 rfl ?_ | refine ri_aload_nN C dJ19_deleteEntry_134 rfl ?_
          first | refine ri_aload_n C dJ19_deleteEntry_135 rfl ?_ | refine ri_aload_nQ C dJ19_deleteEntry_135 rfl ?_ | refine ri_aload_nN C dJ19_deleteEntry_135 rfl ?_
          refine ri_aconst_null C dJ19_deleteEntry_136 ?_
          refine ri_dup_x1 C dJ19_deleteEntry_137 rfl rfl ?_
          refine ri_putf C dJ19_deleteEntry_138 fd_q1089_19 (fun h => nomatch h) (by first | assumption | (repeat (first | assumption | exact kx_rs (by assumption) | exact kx_ne2 (by omega) | exact kx_ne1 (by omega) | refine kx_ro (by assumption) ?_ ?_ | exact kx_rs rfl | refine kx_ro rfl ?_ ?_))) (Nat.le_of_ble_eq_true rfl) (by rfl) (by rfl) (by dsimp only [List.set] <;> rfl) (fun s138 e138 => ?_)
          refine ri_dup_x1 C dJ19_deleteEntry_141 rfl rfl ?_
          refine ri_putf C dJ19_deleteEntry_142 fd_q1087_19 (fun h => nomatch h) (by first | assumption | (repeat (first | assumption | exact kx_rs (by assumption) | exact kx_ne2 (by omega) | exact kx_ne1 (by omega) | refine kx_ro (by assumption) ?_ ?_ | exact kx_rs rfl | refine kx_ro rfl ?_ ?_))) (Nat.le_of_ble_eq_true rfl) (by rfl) (by rfl) (by dsimp only [List.set] <;> rfl) (fun s142 e142 => ?_)
          refine ri_putf C dJ19_deleteEntry_145 fd_q1086_19 (fun h => nomatch h) (by first | assumption | (repeat (first | assumption | exact kx_rs (by assumption) | exact kx_ne2 (by omega) | exact kx_ne1 (by omega) | refine kx_ro (by assumption) ?_ ?_ | exact kx_rs rfl | refine kx_ro rfl ?_ ?_))) (Nat.le_of_ble_eq_true rfl) (by rfl) (by rfl) (by dsimp only [List.set] <;> rfl) (fun s145 e145 => ?_)
          have hsl : (tt_lc ((false, qn, ts) :: Bx) ++ (tt_i (.branch cn cl cr) ++ tt_rc ((false, qn, ts) :: Bx))).Sublist (tt_lc ((false, qn, ts) :: Bx) ++ (tt_i (.branch an (.branch cn cl cr) tt_n) ++ tt_rc ((false, qn, ts) :: Bx))) := List.Sublist.append (List.Sublist.refl _) (List.Sublist.append (by exact List.sublist_append_left _ _) (List.Sublist.refl _))
          have H : tm_H s145 ct mp (tt_p ((false, qn, ts) :: Bx) (.branch cn cl cr)) K1 V1 D1 vals sz (md + nI 1) := ⟨(by rw [tt_r_p _ _ _ (.branch an (.branch cn cl cr) tt_n)]; exact (by first | assumption | (repeat (first | assumption | exact kx_rs (by assumption) | exact kx_ne2 (by omega) | exact kx_ne1 (by omega) | refine kx_ro (by assumption) ?_ ?_ | exact kx_rs rfl | refine kx_ro rfl ?_ ?_)))), tt_delL hU.2.2.1 hU.2.1 (tm_3 (D' := D1) hcl (by
              intro e l r hbe
              cases hbe
              exact (by first | assumption | (repeat (first | assumption | exact kx_rs (by assumption) | exact kx_ne2 (by omega) | exact kx_ne1 (by omega) | refine kx_ro (by assumption) ?_ ?_ | exact kx_rs rfl | refine kx_ro rfl ?_ ?_))))) (by first | assumption | (repeat (first | assumption | exact kx_rs (by assumption) | exact kx_ne2 (by omega) | exact kx_ne1 (by omega) | refine kx_ro (by assumption) ?_ ?_ | exact kx_rs rfl | refine kx_ro rfl ?_ ?_))) (by
              intro x h1 h3 h4 l r q h
              try (have h4' : x ≠ qn := fun z => h4 (by rw [z]; rfl))
              try (have h3' : x ≠ cn := fun z => h3 (by rw [z]; rfl))
              repeat (first | exact h | refine kx_ro (by assumption) ?_ ?_ | exact kx_ne2 (by omega))), (by have g := hU.2.2.1; rw [tt_i_p] at g ⊢; exact List.Nodup.sublist hsl g), hU.2.2.2⟩
          have hfr2 : kx_Fr (tm_T ct L0) σ s145 := (by repeat (first | exact hfr | refine kx_Fr.up2 ?_ (by assumption) ?_ | exact tm_T_m | exact tm_T_e inq | exact tm_T_e ina | exact tm_T_e inc))
          have hsub2 : ∀ x, x ∈ tt_i (tt_p ((false, qn, ts) :: Bx) (.branch cn cl cr)) → x ∈ L0 := fun x hx => hsub x (by rw [tt_i_p] at hx ⊢; exact hsl.subset hx)
          have hpr2 : tm_L K1 V1 (tt_i (tt_p ((false, qn, ts) :: Bx) (.branch cn cl cr))) = LP := (by rw [tt_i_p, ← hpr])
          first | refine ri_aload_n C dJ19_deleteEntry_148 rfl ?_ | refine ri_aload_nQ C dJ19_deleteEntry_148 rfl ?_ | refine ri_aload_nN C dJ19_deleteEntry_148 rfl ?_
          refine ri_getf C dJ19_deleteEntry_149 fr_q1091_19 (by first | assumption | (repeat (first | assumption | exact kx_rs (by assumption) | exact kx_ne2 (by omega) | exact kx_ne1 (by omega) | refine kx_ro (by assumption) ?_ ?_ | exact kx_rs rfl | refine kx_ro rfl ?_ ?_))) (by rfl) ?_
          refine ri_iconst C dJ19_deleteEntry_152 kc_i1 ?_
          refine ri_icmp_ne C 245 dJ19_deleteEntry_153 rfl (fun h153 => ?_) (fun h153 => ?_)
          · exact ri_vret C hQ dJ19_deleteEntry_245 (Nat.le_of_ble_eq_true rfl) (Nat.le_of_ble_eq_true rfl) ⟨rfl, _, K1, V1, D1, H, hpr2, hsub2, hfr2⟩
          · first | refine ri_aload_n C dJ19_deleteEntry_156 rfl ?_ | refine ri_aload_nQ C dJ19_deleteEntry_156 rfl ?_ | refine ri_aload_nN C dJ19_deleteEntry_156 rfl ?_
            first | refine ri_aload_n C dJ19_deleteEntry_157 rfl ?_ | refine ri_aload_nQ C dJ19_deleteEntry_157 rfl ?_ | refine ri_aload_nN C dJ19_deleteEntry_157 rfl ?_
            refine ri_callV C km_J19_fixAfterDeletion q1999 qs37 dJ19_deleteEntry_158 (mt_J19_fixAfterDeletion (Bx := ((false, qn, ts) :: Bx)) (xa := cn) (xl := cl) (xr := cr) htr H) rfl rfl (kx_rcN C H.1 rfl) ⟨⟨(Nat.le_of_ble_eq_true rfl), (Nat.le_of_ble_eq_true rfl)⟩, (Nat.le_of_ble_eq_true rfl), (Nat.le_of_ble_eq_true rfl), (Nat.le_of_ble_eq_true rfl)⟩ (fun v158 s158 h158 => ?_) (fun _ _ _ h => h.elim)
            obtain ⟨rfl, B9, D9, h9, i9, F9⟩ := h158
            refine ri_goto C 245 dJ19_deleteEntry_161 rfl ?_
            exact ri_vret C hQ dJ19_deleteEntry_245 (Nat.le_of_ble_eq_true rfl) (Nat.le_of_ble_eq_true rfl) ⟨rfl, _, K1, V1, D9, h9, by rw [i9]; exact hpr2, fun x hx => hsub2 x (by rw [← i9]; exact hx), hfr2.tr (F9.mon (fun z hz => by
              rcases hz with hz | ⟨y, hy, hz⟩
              · exact Or.inl hz
              · exact Or.inr ⟨y, hsub2 y hy, hz⟩))⟩
        · exact absurd h111.symm hts --dead
      · obtain ⟨⟨hp, hcl, hcr⟩, hK⟩ := (tt_H_p ((true, qn, ts) :: Bx) _).mp hU.2.1
        have hp : τ (ct, 100 + an) = some (an, .inr (19, [.ref (K1 an), .ref (V1 an), .ref cn, .null, .ref qn, .int (D1 an)])) := hp
        have nd := hU.2.2.1
        have hm := hU.1
        have ina : an ∈ L0 := hsub _ (by rw [tt_i_p]; simp [tt_i])
        have hq : τ (ct, 100 + qn) = some (qn, .inr (19, [.ref (K1 qn), .ref (V1 qn), .ref an, va_rf (tt_r ts), va_rf (tt_u Bx), .int (D1 qn)])) := hK.1
        have nqa : qn ≠ an := (by intro q; subst q; simp [tt_i_p, tt_p, tt_i, List.nodup_append] at nd)
        have hts : tt_r ts ≠ some an := (fun q9 => by
          obtain ⟨A9, C9, hA9⟩ := List.append_of_mem (tt_r_in q9)
          simp [tt_i_p, tt_p, tt_i, hA9, List.nodup_append] at nd)
        have inq : qn ∈ L0 := hsub _ (by rw [tt_i_p]; have g := (tt_ic_m (x := qn) (B := ((true, qn, ts) :: Bx))).mp (tt_u_in rfl); rcases g with g | g <;> simp [g])
        have hcn : τ (ct, 100 + cn) = some (cn, .inr (19, [.ref (K1 cn), .ref (V1 cn), va_rf (tt_r cl), va_rf (tt_r cr), .ref an, .int (D1 cn)])) := hcl.1
        have nca : cn ≠ an := (by intro q; subst q; simp [tt_i_p, tt_p, tt_i, List.nodup_append] at nd)
        have inc : cn ∈ L0 := hsub _ (by rw [tt_i_p]; simp [tt_i])
        have nqc : qn ≠ cn := (by intro q; subst q; simp [tt_i_p, tt_p, tt_i, List.nodup_append] at nd)
        first | refine ri_aload_n C dJ19_deleteEntry_57 rfl ?_ | refine ri_aload_nQ C dJ19_deleteEntry_57 rfl ?_ | refine ri_aload_nN C dJ19_deleteEntry_57 rfl ?_
        refine ri_getf C dJ19_deleteEntry_58 fr_q1086_19 (by first | assumption | (repeat (first | assumption | exact kx_rs (by assumption) | exact kx_ne2 (by omega) | exact kx_ne1 (by omega) | refine kx_ro (by assumption) ?_ ?_ | exact kx_rs rfl | refine kx_ro rfl ?_ ?_))) (by rfl) ?_
        refine ri_ifnull C dJ19_deleteEntry_61 ?_
        first | refine ri_aload_n C dJ19_deleteEntry_64 rfl ?_ | refine ri_aload_nQ C dJ19_deleteEntry_64 rfl ?_ | refine ri_aload_nN C dJ19_deleteEntry_64 rfl ?_
        refine ri_getf C dJ19_deleteEntry_65 fr_q1086_19 (by first | assumption | (repeat (first | assumption | exact kx_rs (by assumption) | exact kx_ne2 (by omega) | exact kx_ne1 (by omega) | refine kx_ro (by assumption) ?_ ?_ | exact kx_rs rfl | refine kx_ro rfl ?_ ?_))) (by rfl) ?_
        refine ri_goto C 75 dJ19_deleteEntry_68 rfl ?_
        first | refine ri_astore_n C dJ19_deleteEntry_75 rfl (by decide) ?_ | refine ri_astore_nQ C dJ19_deleteEntry_75 rfl (by decide) ?_ | refine ri_astore_nN C dJ19_deleteEntry_75 rfl (by decide) ?_
        first | refine ri_aload_n C dJ19_deleteEntry_76 rfl ?_ | refine ri_aload_nQ C dJ19_deleteEntry_76 rfl ?_ | refine ri_aload_nN C dJ19_deleteEntry_76 rfl ?_
        refine ri_ifnull C dJ19_deleteEntry_77 ?_
        first | refine ri_aload_n C dJ19_deleteEntry_80 rfl ?_ | refine ri_aload_nQ C dJ19_deleteEntry_80 rfl ?_ | refine ri_aload_nN C dJ19_deleteEntry_80 rfl ?_
        first | refine ri_aload_n C dJ19_deleteEntry_81 rfl ?_ | refine ri_aload_nQ C dJ19_deleteEntry_81 rfl ?_ | refine ri_aload_nN C dJ19_deleteEntry_81 rfl ?_
        refine ri_getf C dJ19_deleteEntry_82 fr_q1089_19 (by first | assumption | (repeat (first | assumption | exact kx_rs (by assumption) | exact kx_ne2 (by omega) | exact kx_ne1 (by omega) | refine kx_ro (by assumption) ?_ ?_ | exact kx_rs rfl | refine kx_ro rfl ?_ ?_))) (by rfl) ?_
        refine ri_putf C dJ19_deleteEntry_85 fd_q1089_19 (fun h => nomatch h) (by first | assumption | (repeat (first | assumption | exact kx_rs (by assumption) | exact kx_ne2 (by omega) | exact kx_ne1 (by omega) | refine kx_ro (by assumption) ?_ ?_ | exact kx_rs rfl | refine kx_ro rfl ?_ ?_))) (Nat.le_of_ble_eq_true rfl) (by rfl) (by rfl) (by dsimp only [List.set] <;> rfl) (fun s85 e85 => ?_)
        first | refine ri_aload_n C dJ19_deleteEntry_88 rfl ?_ | refine ri_aload_nQ C dJ19_deleteEntry_88 rfl ?_ | refine ri_aload_nN C dJ19_deleteEntry_88 rfl ?_
        refine ri_getf C dJ19_deleteEntry_89 fr_q1089_19 (by first | assumption | (repeat (first | assumption | exact kx_rs (by assumption) | exact kx_ne2 (by omega) | exact kx_ne1 (by omega) | refine kx_ro (by assumption) ?_ ?_ | exact kx_rs rfl | refine kx_ro rfl ?_ ?_))) (by rfl) ?_
        refine ri_ifnonnull C 103 dJ19_deleteEntry_92 rfl ?_
        first | refine ri_aload_n C dJ19_deleteEntry_103 rfl ?_ | refine ri_aload_nQ C dJ19_deleteEntry_103 rfl ?_ | refine ri_aload_nN C dJ19_deleteEntry_103 rfl ?_
        first | refine ri_aload_n C dJ19_deleteEntry_104 rfl ?_ | refine ri_aload_nQ C dJ19_deleteEntry_104 rfl ?_ | refine ri_aload_nN C dJ19_deleteEntry_104 rfl ?_
        refine ri_getf C dJ19_deleteEntry_105 fr_q1089_19 (by first | assumption | (repeat (first | assumption | exact kx_rs (by assumption) | exact kx_ne2 (by omega) | exact kx_ne1 (by omega) | refine kx_ro (by assumption) ?_ ?_ | exact kx_rs rfl | refine kx_ro rfl ?_ ?_))) (by rfl) ?_
        refine ri_getf C dJ19_deleteEntry_108 fr_q1086_19 (by first | assumption | (repeat (first | assumption | exact kx_rs (by assumption) | exact kx_ne2 (by omega) | exact kx_ne1 (by omega) | refine kx_ro (by assumption) ?_ ?_ | exact kx_rs rfl | refine kx_ro rfl ?_ ?_))) (by rfl) ?_
        refine ri_acmp_neR C 125 dJ19_deleteEntry_111 rfl (fun h111 => ?_) (fun h111 => ?_)
        · exact absurd rfl h111 --dead
        · first | refine ri_aload_n C dJ19_deleteEntry_114 rfl ?_ | refine ri_aload_nQ C dJ19_deleteEntry_114 rfl ?_ | refine ri_aload_nN C dJ19_deleteEntry_114 rfl ?_
          refine ri_getf C dJ19_deleteEntry_115 fr_q1089_19 (by first | assumption | (repeat (first | assumption | exact kx_rs (by assumption) | exact kx_ne2 (by omega) | exact kx_ne1 (by omega) | refine kx_ro (by assumption) ?_ ?_ | exact kx_rs rfl | refine kx_ro rfl ?_ ?_))) (by rfl) ?_
          first | refine ri_aload_n C dJ19_deleteEntry_118 rfl ?_ | refine ri_aload_nQ C dJ19_deleteEntry_118 rfl ?_ | refine ri_aload_nN C dJ19_deleteEntry_118 rfl ?_
          refine ri_putf C dJ19_deleteEntry_119 fd_q1086_19 (fun h => nomatch h) (by first | assumption | (repeat (first | assumption | exact kx_rs (by assumption) | exact kx_ne2 (by omega) | exact kx_ne1 (by omega) | refine kx_ro (by assumption) ?_ ?_ | exact kx_rs rfl | refine kx_ro rfl ?_ ?_))) (Nat.le_of_ble_eq_true rfl) (by rfl) (by rfl) (by dsimp only [List.set] <;> rfl) (fun s119 e119 => ?_)
          refine ri_goto C 133 dJ19_deleteEntry_122 rfl ?_
          first | refine ri_aload_n C dJ19_deleteEntry_133 rfl ?_ | refine ri_aload_nQ C dJ19_deleteEntry_133 rfl ?_ | refine ri_aload_nN C dJ19_deleteEntry_133 rfl ?_
          first | refine ri_aload_n C dJ19_deleteEntry_134 rfl ?_ | refine ri_aload_nQ C dJ19_deleteEntry_134 rfl ?_ | refine ri_aload_nN C dJ19_deleteEntry_134 rfl ?_
          first | refine ri_aload_n C dJ19_deleteEntry_135 rfl ?_ | refine ri_aload_nQ C dJ19_deleteEntry_135 rfl ?_ | refine ri_aload_nN C dJ19_deleteEntry_135 rfl ?_
          refine ri_aconst_null C dJ19_deleteEntry_136 ?_
          refine ri_dup_x1 C dJ19_deleteEntry_137 rfl rfl ?_
          refine ri_putf C dJ19_deleteEntry_138 fd_q1089_19 (fun h => nomatch h) (by first | assumption | (repeat (first | assumption | exact kx_rs (by assumption) | exact kx_ne2 (by omega) | exact kx_ne1 (by omega) | refine kx_ro (by assumption) ?_ ?_ | exact kx_rs rfl | refine kx_ro rfl ?_ ?_))) (Nat.le_of_ble_eq_true rfl) (by rfl) (by rfl) (by dsimp only [List.set] <;> rfl) (fun s138 e138 => ?_)
          refine ri_dup_x1 C dJ19_deleteEntry_141 rfl rfl ?_
          refine ri_putf C dJ19_deleteEntry_142 fd_q1087_19 (fun h => nomatch h) (by first | assumption | (repeat (first | assumption | exact kx_rs (by assumption) | exact kx_ne2 (by omega) | exact kx_ne1 (by omega) | refine kx_ro (by assumption) ?_ ?_ | exact kx_rs rfl | refine kx_ro rfl ?_ ?_))) (Nat.le_of_ble_eq_true rfl) (by rfl) (by rfl) (by dsimp only [List.set] <;> rfl) (fun s142 e142 => ?_)
          refine ri_putf C dJ19_deleteEntry_145 fd_q1086_19 (fun h => nomatch h) (by first | assumption | (repeat (first | assumption | exact kx_rs (by assumption) | exact kx_ne2 (by omega) | exact kx_ne1 (by omega) | refine kx_ro (by assumption) ?_ ?_ | exact kx_rs rfl | refine kx_ro rfl ?_ ?_))) (Nat.le_of_ble_eq_true rfl) (by rfl) (by rfl) (by dsimp only [List.set] <;> rfl) (fun s145 e145 => ?_)
          have hsl : (tt_lc ((true, qn, ts) :: Bx) ++ (tt_i (.branch cn cl cr) ++ tt_rc ((true, qn, ts) :: Bx))).Sublist (tt_lc ((true, qn, ts) :: Bx) ++ (tt_i (.branch an (.branch cn cl cr) tt_n) ++ tt_rc ((true, qn, ts) :: Bx))) := List.Sublist.append (List.Sublist.refl _) (List.Sublist.append (by exact List.sublist_append_left _ _) (List.Sublist.refl _))
          have H : tm_H s145 ct mp (tt_p ((true, qn, ts) :: Bx) (.branch cn cl cr)) K1 V1 D1 vals sz (md + nI 1) := ⟨(by rw [tt_r_p _ _ _ (.branch an (.branch cn cl cr) tt_n)]; exact (by first | assumption | (repeat (first | assumption | exact kx_rs (by assumption) | exact kx_ne2 (by omega) | exact kx_ne1 (by omega) | refine kx_ro (by assumption) ?_ ?_ | exact kx_rs rfl | refine kx_ro rfl ?_ ?_)))), tt_delL hU.2.2.1 hU.2.1 (tm_3 (D' := D1) hcl (by
              intro e l r hbe
              cases hbe
              exact (by first | assumption | (repeat (first | assumption | exact kx_rs (by assumption) | exact kx_ne2 (by omega) | exact kx_ne1 (by omega) | refine kx_ro (by assumption) ?_ ?_ | exact kx_rs rfl | refine kx_ro rfl ?_ ?_))))) (by first | assumption | (repeat (first | assumption | exact kx_rs (by assumption) | exact kx_ne2 (by omega) | exact kx_ne1 (by omega) | refine kx_ro (by assumption) ?_ ?_ | exact kx_rs rfl | refine kx_ro rfl ?_ ?_))) (by
              intro x h1 h3 h4 l r q h
              try (have h4' : x ≠ qn := fun z => h4 (by rw [z]; rfl))
              try (have h3' : x ≠ cn := fun z => h3 (by rw [z]; rfl))
              repeat (first | exact h | refine kx_ro (by assumption) ?_ ?_ | exact kx_ne2 (by omega))), (by have g := hU.2.2.1; rw [tt_i_p] at g ⊢; exact List.Nodup.sublist hsl g), hU.2.2.2⟩
          have hfr2 : kx_Fr (tm_T ct L0) σ s145 := (by repeat (first | exact hfr | refine kx_Fr.up2 ?_ (by assumption) ?_ | exact tm_T_m | exact tm_T_e inq | exact tm_T_e ina | exact tm_T_e inc))
          have hsub2 : ∀ x, x ∈ tt_i (tt_p ((true, qn, ts) :: Bx) (.branch cn cl cr)) → x ∈ L0 := fun x hx => hsub x (by rw [tt_i_p] at hx ⊢; exact hsl.subset hx)
          have hpr2 : tm_L K1 V1 (tt_i (tt_p ((true, qn, ts) :: Bx) (.branch cn cl cr))) = LP := (by rw [tt_i_p, ← hpr])
          first | refine ri_aload_n C dJ19_deleteEntry_148 rfl ?_ | refine ri_aload_nQ C dJ19_deleteEntry_148 rfl ?_ | refine ri_aload_nN C dJ19_deleteEntry_148 rfl ?_
          refine ri_getf C dJ19_deleteEntry_149 fr_q1091_19 (by first | assumption | (repeat (first | assumption | exact kx_rs (by assumption) | exact kx_ne2 (by omega) | exact kx_ne1 (by omega) | refine kx_ro (by assumption) ?_ ?_ | exact kx_rs rfl | refine kx_ro rfl ?_ ?_))) (by rfl) ?_
          refine ri_iconst C dJ19_deleteEntry_152 kc_i1 ?_
          refine ri_icmp_ne C 245 dJ19_deleteEntry_153 rfl (fun h153 => ?_) (fun h153 => ?_)
          · exact ri_vret C hQ dJ19_deleteEntry_245 (Nat.le_of_ble_eq_true rfl) (Nat.le_of_ble_eq_true rfl) ⟨rfl, _, K1, V1, D1, H, hpr2, hsub2, hfr2⟩
          · first | refine ri_aload_n C dJ19_deleteEntry_156 rfl ?_ | refine ri_aload_nQ C dJ19_deleteEntry_156 rfl ?_ | refine ri_aload_nN C dJ19_deleteEntry_156 rfl ?_
            first | refine ri_aload_n C dJ19_deleteEntry_157 rfl ?_ | refine ri_aload_nQ C dJ19_deleteEntry_157 rfl ?_ | refine ri_aload_nN C dJ19_deleteEntry_157 rfl ?_
            refine ri_callV C km_J19_fixAfterDeletion q1999 qs37 dJ19_deleteEntry_158 (mt_J19_fixAfterDeletion (Bx := ((true, qn, ts) :: Bx)) (xa := cn) (xl := cl) (xr := cr) htr H) rfl rfl (kx_rcN C H.1 rfl) ⟨⟨(Nat.le_of_ble_eq_true rfl), (Nat.le_of_ble_eq_true rfl)⟩, (Nat.le_of_ble_eq_true rfl), (Nat.le_of_ble_eq_true rfl), (Nat.le_of_ble_eq_true rfl)⟩ (fun v158 s158 h158 => ?_) (fun _ _ _ h => h.elim)
            obtain ⟨rfl, B9, D9, h9, i9, F9⟩ := h158
            refine ri_goto C 245 dJ19_deleteEntry_161 rfl ?_
            exact ri_vret C hQ dJ19_deleteEntry_245 (Nat.le_of_ble_eq_true rfl) (Nat.le_of_ble_eq_true rfl) ⟨rfl, _, K1, V1, D9, h9, by rw [i9]; exact hpr2, fun x hx => hsub2 x (by rw [← i9]; exact hx), hfr2.tr (F9.mon (fun z hz => by
              rcases hz with hz | ⟨y, hy, hz⟩
              · exact Or.inl hz
              · exact Or.inr ⟨y, hsub2 y hy, hz⟩))⟩
  first | refine ri_aload_n C dJ19_deleteEntry_0 rfl ?_ | refine ri_aload_nQ C dJ19_deleteEntry_0 rfl ?_ | refine ri_aload_nN C dJ19_deleteEntry_0 rfl ?_
  refine ri_dup C dJ19_deleteEntry_1 rfl ?_
  refine ri_getf C dJ19_deleteEntry_2 fr_q579_18 h.1 (by rfl) ?_
  refine ri_iconst C dJ19_deleteEntry_5 kc_i1 ?_
  first | refine ri_iaddN C dJ19_deleteEntry_6 ?_ | refine ri_iadd C dJ19_deleteEntry_6 ?_
  refine ri_putf C dJ19_deleteEntry_7 fd_q579_18 (fun h => nomatch h) h.1 (Nat.le_of_ble_eq_true rfl) (by rfl) (by rfl) (by dsimp only [List.set] <;> rfl) (fun s7 e7 => ?_)
  have m7 := kx_rs e7
  first | refine ri_aload_n C dJ19_deleteEntry_10 rfl ?_ | refine ri_aload_nQ C dJ19_deleteEntry_10 rfl ?_ | refine ri_aload_nN C dJ19_deleteEntry_10 rfl ?_
  refine ri_dup C dJ19_deleteEntry_11 rfl ?_
  refine ri_getf C dJ19_deleteEntry_12 fr_q578_18 m7 (by rfl) ?_
  refine ri_iconst C dJ19_deleteEntry_15 kc_i1 ?_
  first | refine ri_isubN C dJ19_deleteEntry_16 (by omega) ?_ | refine ri_isub C dJ19_deleteEntry_16 ?_
  rw [Nat.add_sub_cancel]
  refine ri_putf C dJ19_deleteEntry_17 fd_q578_18 (fun h => nomatch h) m7 (Nat.le_of_ble_eq_true rfl) (by rfl) (by rfl) (by dsimp only [List.set] <;> rfl) (fun s17 e17 => ?_)
  have h7 := tm_map h e7
  have h17 := tm_map h7 e17
  have F17 : kx_Fr (tm_T ct L0) σ s17 := kx_Fr.up2 (kx_Fr.up2 kx_Fr.rf e7 tm_T_m) e17 tm_T_m
  obtain ⟨⟨hp, hl, hr⟩, hK⟩ := (tt_H_p Bx _).mp h17.2.1
  first | refine ri_aload_n C dJ19_deleteEntry_20 rfl ?_ | refine ri_aload_nQ C dJ19_deleteEntry_20 rfl ?_ | refine ri_aload_nN C dJ19_deleteEntry_20 rfl ?_
  refine ri_getf C dJ19_deleteEntry_21 fr_q1086_19 (by first | assumption | (repeat (first | assumption | exact kx_rs (by assumption) | exact kx_ne2 (by omega) | exact kx_ne1 (by omega) | refine kx_ro (by assumption) ?_ ?_ | exact kx_rs rfl | refine kx_ro rfl ?_ ?_))) (by rfl) ?_
  rcases tl with ⟨_⟩ | ⟨cn, cl, cr⟩
  · refine ri_ifnullN C 57 dJ19_deleteEntry_24 rfl ?_
    refine ri_lv2 (RL Bx an tt_n tr K V D _ h17 (Or.inl rfl) hLP.symm (fun x hx => by rw [hL0]; exact hx) F17) ⟨rfl, rfl, trivial⟩
  · refine ri_ifnull C dJ19_deleteEntry_24 ?_
    first | refine ri_aload_n C dJ19_deleteEntry_27 rfl ?_ | refine ri_aload_nQ C dJ19_deleteEntry_27 rfl ?_ | refine ri_aload_nN C dJ19_deleteEntry_27 rfl ?_
    refine ri_getf C dJ19_deleteEntry_28 fr_q1087_19 (by first | assumption | (repeat (first | assumption | exact kx_rs (by assumption) | exact kx_ne2 (by omega) | exact kx_ne1 (by omega) | refine kx_ro (by assumption) ?_ ?_ | exact kx_rs rfl | refine kx_ro rfl ?_ ?_))) (by rfl) ?_
    rcases tr with ⟨_⟩ | ⟨bn, bl, br⟩
    · refine ri_ifnullN C 57 dJ19_deleteEntry_31 rfl ?_
      refine ri_lv2 (RL Bx an _ tt_n K V D _ h17 (Or.inr rfl) hLP.symm (fun x hx => by rw [hL0]; exact hx) F17) ⟨rfl, rfl, trivial⟩
    · obtain ⟨A, sn, sr, hA, hAl⟩ := tt_lm (a := bn) (l := bl) (r := br)
      have hid : tt_i (.branch bn bl br) = sn :: (tt_i sr ++ tt_rc A) := (by rw [hA, tt_i_p, hAl]; rfl)
      have hTT : tt_p Bx (.branch an (.branch cn cl cr) (.branch bn bl br)) = tt_p (A ++ (false, an, .branch cn cl cr) :: Bx) (.branch sn tt_n sr) := (by rw [tt_p_a, ← hA]; rfl)
      have nd := h.2.2.1
      have hsn : tm_M s17 ct K V D sn none (tt_r sr) (tt_u (A ++ (false, an, .branch cn cl cr) :: Bx)) := (by have g9 := h17.2.1; rw [hTT] at g9; exact ((tt_H_p (A ++ (false, an, .branch cn cl cr) :: Bx) (.branch sn tt_n sr)).mp g9).1.1)
      have nsa : sn ≠ an := (fun q => by subst q; simp [tt_i_p, tt_p, hid, tt_i_b, List.nodup_append] at nd)
      refine ri_ifnull C dJ19_deleteEntry_31 ?_
      first | refine ri_aload_n C dJ19_deleteEntry_34 rfl ?_ | refine ri_aload_nQ C dJ19_deleteEntry_34 rfl ?_ | refine ri_aload_nN C dJ19_deleteEntry_34 rfl ?_
      refine ri_callS C km_J19_successor q1996 dJ19_deleteEntry_35 (mt_J19_successor htr h17 (Bx := Bx) (an := an) (tl := .branch cn cl cr) (tr := .branch bn bl br) rfl) rfl rfl ⟨⟨(Nat.le_of_ble_eq_true rfl), (Nat.le_of_ble_eq_true rfl)⟩, (Nat.le_of_ble_eq_true rfl), (Nat.le_of_ble_eq_true rfl), (Nat.le_of_ble_eq_true rfl)⟩ (fun v35 s35 h35 => ?_) (fun _ _ _ h => h.elim)
      obtain ⟨rfl, rfl⟩ := h35
      rw [show ((tt_i (.branch bn bl br) ++ tt_rc Bx).head?) = some sn by rw [hid]; rfl]
      refine ri_astore_n (x := sn) C dJ19_deleteEntry_38 rfl (by decide) ?_
      first | refine ri_aload_n C dJ19_deleteEntry_39 rfl ?_ | refine ri_aload_nQ C dJ19_deleteEntry_39 rfl ?_ | refine ri_aload_nN C dJ19_deleteEntry_39 rfl ?_
      first | refine ri_aload_n C dJ19_deleteEntry_40 rfl ?_ | refine ri_aload_nQ C dJ19_deleteEntry_40 rfl ?_ | refine ri_aload_nN C dJ19_deleteEntry_40 rfl ?_
      refine ri_getf C dJ19_deleteEntry_41 fr_q1082_19 hsn (by rfl) ?_
      refine ri_putf C dJ19_deleteEntry_44 fd_q1082_19 (fun h => nomatch h) hp (Nat.le_of_ble_eq_true rfl) (by rfl) (by rfl) (by dsimp only [List.set] <;> rfl) (fun s44 e44 => ?_)
      have hp2 := kx_rs e44
      have hs2 := kx_ro e44 hsn (tm_x nsa)
      first | refine ri_aload_n C dJ19_deleteEntry_47 rfl ?_ | refine ri_aload_nQ C dJ19_deleteEntry_47 rfl ?_ | refine ri_aload_nN C dJ19_deleteEntry_47 rfl ?_
      first | refine ri_aload_n C dJ19_deleteEntry_48 rfl ?_ | refine ri_aload_nQ C dJ19_deleteEntry_48 rfl ?_ | refine ri_aload_nN C dJ19_deleteEntry_48 rfl ?_
      refine ri_getf C dJ19_deleteEntry_49 fr_q1085_19 hs2 (by rfl) ?_
      refine ri_putf C dJ19_deleteEntry_52 fd_q1085_19 (fun h => nomatch h) hp2 (Nat.le_of_ble_eq_true rfl) (by rfl) (by rfl) (by dsimp only [List.set] <;> rfl) (fun s52 e52 => ?_)
      have e52' : s52 = kx_up s35 (ct, 100 + an) (an, .inr (19, [.ref (K sn), .ref (V sn), va_rf (tt_r (.branch cn cl cr)), va_rf (tt_r (.branch bn bl br)), va_rf (tt_u Bx), .int (D an)])) := (by rw [e52, e44, kx_up_u] <;> rfl)
      have h52 := tm_set_k h17 hp e52'
      rw [hTT] at h52
      have F52 : kx_Fr (tm_T ct L0) σ s52 := kx_Fr.up2 F17 e52' (tm_T_e (by rw [hL0, tt_i_p]; simp [tt_i]))
      have hpr52 : tm_L (tm_u K an (K sn)) (tm_u V an (V sn)) (tt_lc (A ++ (false, an, .branch cn cl cr) :: Bx) ++ (tt_i tt_n ++ tt_i sr) ++ tt_rc (A ++ (false, an, .branch cn cl cr) :: Bx)) = LP := (by
        have ha1 : an ∉ tt_lc Bx ++ tt_i (.branch cn cl cr) := fun hm => by
          have g := nd
          rw [tt_i_p, tt_i_b] at g
          have g2 : ((tt_lc Bx ++ tt_i (.branch cn cl cr)) ++ an :: (tt_i (.branch bn bl br) ++ tt_rc Bx)).Nodup := by simpa using g
          exact (List.nodup_append.mp g2).2.2 an hm an (by simp) rfl
        have ha2 : an ∉ tt_i (.branch bn bl br) ++ tt_rc Bx := fun hm => by
          have g := nd
          rw [tt_i_p, tt_i_b] at g
          have g2 : ((tt_lc Bx ++ tt_i (.branch cn cl cr)) ++ an :: (tt_i (.branch bn bl br) ++ tt_rc Bx)).Nodup := by simpa using g
          exact (List.nodup_cons.mp (List.nodup_append.mp g2).2.1).1 hm
        rw [tt_lc_a, tt_rc_a, hAl, hLP]
        have e1 : tt_lc ((false, an, .branch cn cl cr) :: Bx) ++ [] ++ (tt_i tt_n ++ tt_i sr) ++ (tt_rc A ++ tt_rc ((false, an, .branch cn cl cr) :: Bx)) = (tt_lc Bx ++ tt_i (.branch cn cl cr)) ++ an :: (tt_i sr ++ tt_rc A ++ tt_rc Bx) := (by simp [tt_lc, tt_rc, tt_i])
        have e2 : tt_lc Bx ++ (tt_i (.branch cn cl cr) ++ tt_i (.branch bn bl br)) ++ tt_rc Bx = (tt_lc Bx ++ tt_i (.branch cn cl cr)) ++ sn :: (tt_i sr ++ tt_rc A ++ tt_rc Bx) := (by rw [hid]; simp)
        rw [e1, e2, tm_L_a (A := tt_lc Bx ++ tt_i (.branch cn cl cr)) (B := an :: _), tm_L_a (A := tt_lc Bx ++ tt_i (.branch cn cl cr)) (B := sn :: _), tm_L_u ha1]
        have e3 : an ∉ tt_i sr ++ tt_rc A ++ tt_rc Bx := fun hm => ha2 (by rw [hid]; simp only [List.mem_append, List.mem_cons] at hm ⊢; rcases hm with (hm | hm) | hm <;> simp [hm])
        show _ ++ (tm_u K an (K sn) an, tm_u V an (V sn) an) :: tm_L (tm_u K an (K sn)) (tm_u V an (V sn)) (tt_i sr ++ tt_rc A ++ tt_rc Bx) = _ ++ (K sn, V sn) :: tm_L K V (tt_i sr ++ tt_rc A ++ tt_rc Bx)
        rw [tm_u_s, tm_u_s, tm_L_u e3])
      first | refine ri_aload_n C dJ19_deleteEntry_55 rfl ?_ | refine ri_aload_nQ C dJ19_deleteEntry_55 rfl ?_ | refine ri_aload_nN C dJ19_deleteEntry_55 rfl ?_
      first | refine ri_astore_n C dJ19_deleteEntry_56 rfl (by decide) ?_ | refine ri_astore_nQ C dJ19_deleteEntry_56 rfl (by decide) ?_ | refine ri_astore_nN C dJ19_deleteEntry_56 rfl (by decide) ?_
      refine ri_lv2 (RL (A ++ (false, an, .branch cn cl cr) :: Bx) sn tt_n sr _ _ D _ h52 (Or.inl rfl) hpr52 (fun x hx => by rw [hL0, hTT]; exact hx) F52) ⟨rfl, rfl, trivial⟩
