/-! THE PURE SIDE: a script's grammar -/
set_option maxRecDepth 100000
abbrev dd_D := Nat × List Nat
def pn_ss (inp : Nat → Nat) (N m s : Nat) : (Nat × Nat) ⊕ (dd_D × Nat) :=
  if sc_w inp N s = 0 then .inl (1, s) else if m = 30 then .inl (3, s) else match pn_tr inp N (sc_w inp N s) s with
  | .inl e => .inl e
  | .inr x => match pn_semi inp N x.2 with
    | .inl e => .inl e
    | .inr y => .inr ((sc_w inp N s, x.1), y.2)
def pn_sc (inp : Nat → Nat) (N : Nat) : Nat → List dd_D → Nat → (Nat × Nat) ⊕ List dd_D
  | 0, _, _ => .inl (0, 0)
  | f + 1, D, s => if pt_k inp N s = 0 then .inr D else match pn_ss inp N D.length s with
    | .inl e => .inl e
    | .inr x => pn_sc inp N f (D ++ [x.1]) x.2
theorem pn_tr_s {inp : Nat → Nat} {N t s : Nat} {x : List Nat × Nat} (hs : s ≤ N) (ht : 1 ≤ t ∧ t ≤ 5) (h : pn_tr inp N t s = .inr x) : s ≤ x.2 ∧ x.2 ≤ N ∧ dd_in t x.1 := by
  have g0 := pt_n_ge (inp := inp) hs
  have g1 := pt_n_N (inp := inp) hs
  unfold pn_tr at h
  split at h
  · rename_i e; subst e
    obtain ⟨x0, h0, h⟩ := pn_bind_i h
    obtain ⟨x1, h1, h⟩ := pn_bind_i h
    injection h with h; subst h
    have a0 := pn_num_s g1 h0
    have a1 := pn_num_s a0.2 h1
    have b0 := (pn_num_b h0).2
    have b1 := (pn_num_b h1).2
    exact ⟨by simp only; omega, a1.2, Or.inl ⟨rfl, x0.1, x1.1, rfl, by omega, by omega⟩⟩
  · split at h
    · rename_i e; subst e
      have a := pn_prov_s g1 h
      obtain ⟨q0, q1, q2, q3, q4, q5, hl, h1, h2, h3, h4, h5, h6, h7⟩ := pn_prov_b h
      exact ⟨by omega, a.2, Or.inr (Or.inl ⟨rfl, q0, q1, q2, q3, q4, q5, hl, by omega, by omega, by omega, by omega, by omega, h6, h7⟩)⟩
    · split at h
      · rename_i e; subst e
        obtain ⟨x0, h0, h⟩ := pn_bind_i h
        injection h with h; subst h
        have a0 := pn_num_s g1 h0
        have b0 := (pn_num_b h0).2
        exact ⟨by simp only; omega, a0.2, Or.inr (Or.inr (Or.inl ⟨rfl, x0.1, rfl, by omega⟩))⟩
      · split at h
        · rename_i e; subst e
          obtain ⟨x0, h0, h⟩ := pn_bind_i h
          obtain ⟨x1, h1, h⟩ := pn_bind_i h
          injection h with h; subst h
          have a0 := pn_num_s g1 h0
          have a1 := pn_num_s a0.2 h1
          have b0 := (pn_num_b h0).2
          have b1 := pn_num_b h1
          exact ⟨by simp only; omega, a1.2, Or.inr (Or.inr (Or.inr (Or.inl ⟨rfl, x0.1, x1.1, rfl, by omega, b1.1, b1.2⟩)))⟩
        · split at h
          · cases h
          · rename_i k hk
            obtain ⟨x0, h0, h⟩ := pn_bind_i h
            injection h with h; subst h
            have a0 := pn_num_s g1 h0
            have b0 := (pn_num_b h0).2
            have hr := st_w_r hk
            exact ⟨by simp only; omega, a0.2, Or.inr (Or.inr (Or.inr (Or.inr ⟨by omega, x0.1, k, rfl, hr.1, hr.2, b0⟩)))⟩
theorem sc_w_5 {inp : Nat → Nat} {N s : Nat} : sc_w inp N s ≤ 5 := by
  unfold sc_w
  repeat (first | omega | split)
theorem pn_ss_s {inp : Nat → Nat} {N m s : Nat} {x : dd_D × Nat} (hs : s ≤ N) (h : pn_ss inp N m s = .inr x) : s < x.2 ∧ x.2 ≤ N ∧ dd_in x.1.1 x.1.2 ∧ m ≠ 30 := by
  unfold pn_ss at h
  split at h
  · cases h
  · split at h
    · cases h
    · rename_i hm
      split at h
      · cases h
      · rename_i y hy
        have h5 := sc_w_5 (inp := inp) (N := N) (s := s)
        have g := pn_tr_s hs (by omega) hy
        split at h
        · cases h
        · rename_i w hw
          have g3 := pn_semi_s g.2.1 hw
          injection h with h; subst h
          exact ⟨by simp only; omega, g3.2, g.2.2, hm⟩
theorem pn_sc_s {inp : Nat → Nat} {N f s : Nat} {D : List dd_D} : pn_sc inp N (f + 1) D s = (if pt_k inp N s = 0 then .inr D else match pn_ss inp N D.length s with
    | .inl e => .inl e
    | .inr x => pn_sc inp N f (D ++ [x.1]) x.2) := rfl
