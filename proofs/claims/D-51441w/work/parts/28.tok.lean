/-! THE PURE SIDE: tokens of a text (bytes inp, N of them) -/
set_option maxRecDepth 100000
def pt_b (inp : Nat → Nat) (N k : Nat) : Option Nat := if k < N then some (inp k) else none
def pt_in (a b : Nat) (o : Option Nat) : Bool := match o with
  | none => false
  | some c => decide (a ≤ c ∧ c ≤ b)
def pt_sp (inp : Nat → Nat) (N k : Nat) : Bool := decide (pt_b inp N k = some 32) || decide (pt_b inp N k = some 10)
def pt_al (inp : Nat → Nat) (N k : Nat) : Bool := pt_in 97 122 (pt_b inp N k)
def pt_di (inp : Nat → Nat) (N k : Nat) : Bool := pt_in 48 57 (pt_b inp N k)
def pt_past (P : Nat → Bool) : Nat → Nat → Nat
  | 0, p => p
  | f + 1, p => if P p then pt_past P f (p + 1) else p
theorem pt_past_is {P : Nat → Bool} : ∀ {f p q : Nat}, p ≤ q → q < p + f → (∀ k, p ≤ k → k < q → P k = true) → P q = false → pt_past P f p = q
  | 0, p, q, h1, h2, _, _ => absurd h2 (by omega)
  | f + 1, p, q, h1, h2, h3, h4 => by
    unfold pt_past
    by_cases e : p = q
    · subst e; rw [h4]; rfl
    · rw [h3 p (Nat.le_refl _) (by omega)]
      exact pt_past_is (by omega) (by omega) (fun k hk => h3 k (by omega)) h4
theorem pt_past_le {P : Nat → Bool} : ∀ {f p : Nat}, p ≤ pt_past P f p
  | 0, p => Nat.le_refl _
  | f + 1, p => by
    unfold pt_past
    split
    · exact Nat.le_trans (Nat.le_succ p) pt_past_le
    · exact Nat.le_refl _
theorem pt_past_N {P : Nat → Bool} {N : Nat} (h : ∀ k, N ≤ k → P k = false) : ∀ {f p : Nat}, p ≤ N → pt_past P f p ≤ N
  | 0, p, hp => hp
  | f + 1, p, hp => by
    unfold pt_past
    split
    · rename_i g
      refine pt_past_N h ?_
      by_cases e : N ≤ p
      · rw [h p e] at g; exact absurd g (by decide)
      · omega
    · exact hp
theorem pt_past_all {P : Nat → Bool} : ∀ {f p : Nat} (k : Nat), p ≤ k → k < pt_past P f p → P k = true
  | 0, p, k, h1, h2 => absurd h2 (by unfold pt_past; omega)
  | f + 1, p, k, h1, h2 => by
    unfold pt_past at h2
    split at h2
    · rename_i g
      by_cases e : k = p
      · subst e; exact g
      · exact pt_past_all k (by omega) h2
    · omega
theorem pt_b_N {inp : Nat → Nat} {N k : Nat} (h : N ≤ k) : pt_b inp N k = none := if_neg (by omega)
theorem pt_al_N {inp : Nat → Nat} {N : Nat} (k : Nat) (h : N ≤ k) : pt_al inp N k = false := by unfold pt_al; rw [pt_b_N h]; rfl
theorem pt_di_N {inp : Nat → Nat} {N : Nat} (k : Nat) (h : N ≤ k) : pt_di inp N k = false := by unfold pt_di; rw [pt_b_N h]; rfl
theorem pt_sp_N {inp : Nat → Nat} {N : Nat} (k : Nat) (h : N ≤ k) : pt_sp inp N k = false := by unfold pt_sp; rw [pt_b_N h]; rfl
/-- where the token behind p begins -/
def pt_s (inp : Nat → Nat) (N p : Nat) : Nat := pt_past (pt_sp inp N) 1000 p
/-- where the token that begins at s ends -/
def pt_e (inp : Nat → Nat) (N s : Nat) : Nat := match pt_b inp N s with
  | none => s
  | some _ => if pt_al inp N s then pt_past (pt_al inp N) 1000 s else if pt_di inp N s then pt_past (pt_di inp N) 1000 s else s + 1
/-- its kind: 0 the end, 1 a word, 2 a number, 3 a semicolon, 4 another one -/
def pt_k (inp : Nat → Nat) (N s : Nat) : Nat := match pt_b inp N s with
  | none => 0
  | some c => if pt_al inp N s then (if 8 < pt_e inp N s - s then 4 else 1) else if pt_di inp N s then (if 3 < pt_e inp N s - s then 4 else 2) else if c = 59 then 3 else 4
def pt_num (inp : Nat → Nat) (s : Nat) : Nat → Nat
  | 0 => 0
  | n + 1 => 10 * pt_num inp s n + (inp (s + n) - 48)
/-- its value, where it is a number -/
def pt_v (inp : Nat → Nat) (N s : Nat) : Nat := if pt_di inp N s then pt_num inp s (Nat.min 3 (pt_e inp N s - s)) else 0
theorem pt_s_N {inp : Nat → Nat} {N p : Nat} (h : p ≤ N) : p ≤ pt_s inp N p ∧ pt_s inp N p ≤ N := ⟨pt_past_le, pt_past_N pt_sp_N h⟩
theorem pt_e_N {inp : Nat → Nat} {N s : Nat} (h : s ≤ N) : s ≤ pt_e inp N s ∧ pt_e inp N s ≤ N := by
  unfold pt_e
  cases hb : pt_b inp N s with
  | none => exact ⟨Nat.le_refl _, h⟩
  | some c =>
    have hs : s < N := by
      by_cases g : s < N
      · exact g
      · rw [pt_b_N (by omega)] at hb; cases hb
    simp only
    split
    · exact ⟨pt_past_le, pt_past_N pt_al_N h⟩
    · split
      · exact ⟨pt_past_le, pt_past_N pt_di_N h⟩
      · omega
theorem pt_b_is {inp : Nat → Nat} {N k c : Nat} (hi : ∀ k, k < N → inp k < 256) : (mx_o (pt_b inp N k) = nI c) ↔ (c < 2147483648 → pt_b inp N k = some c) ∧ mx_o (pt_b inp N k) = nI c := ⟨fun h => ⟨fun hc => by
    unfold pt_b at h ⊢
    split
    · rename_i g
      rw [if_pos g] at h
      have e := congrArg Int32.toInt h
      have := hi k g
      simp only [mx_o] at e
      rw [nI_toInt (by omega), nI_toInt (by omega)] at e
      rw [show inp k = c by omega]
    · rename_i g
      rw [if_neg g] at h
      exact absurd h.symm (nI_m1 hc), h⟩, fun h => h.2⟩
theorem pt_in_0 {a b : Nat} {o : Option Nat} (ho : ∀ c, o = some c → c < 256) (ha : a < 1000) (hb : b < 1000) : decide (nI a ≤ mx_o o ∧ mx_o o ≤ nI b) = pt_in a b o := by
  cases o with
  | none =>
    refine decide_eq_false (fun h => ?_)
    have h1 := h.1
    rw [Int32.le_iff_toInt_le, nI_toInt (by omega), show (mx_o none).toInt = -1 from by decide] at h1
    omega
  | some c =>
    have hc := ho c rfl
    refine decide_eq_decide.mpr ?_
    simp only [mx_o]
    rw [Int32.le_iff_toInt_le, Int32.le_iff_toInt_le, nI_toInt (by omega), nI_toInt (by omega), nI_toInt (by omega)]
    omega
theorem pt_num_le {inp : Nat → Nat} {s : Nat} : ∀ {n : Nat}, n ≤ 3 → (∀ k, k < n → inp (s + k) ≤ 57) → pt_num inp s n ≤ 999 := by
  intro n hn h
  match n, hn, h with
  | 0, _, _ => exact Nat.zero_le _
  | 1, _, h => have := h 0 (by omega); simp only [pt_num]; omega
  | 2, _, h => have := h 0 (by omega); have := h 1 (by omega); simp only [pt_num]; omega
  | 3, _, h => have := h 0 (by omega); have := h 1 (by omega); have := h 2 (by omega); simp only [pt_num]; omega
theorem pt_di_b {inp : Nat → Nat} {N k : Nat} (h : pt_di inp N k = true) : k < N ∧ 48 ≤ inp k ∧ inp k ≤ 57 := by
  unfold pt_di pt_b at h
  by_cases g : k < N
  · rw [if_pos g] at h
    have := of_decide_eq_true h
    omega
  · rw [if_neg g] at h; exact absurd h (by decide)
theorem pt_v_le {inp : Nat → Nat} {N s : Nat} : pt_v inp N s ≤ 999 := by
  unfold pt_v
  split
  · rename_i hd
    refine pt_num_le (by rw [mx_mn]; split <;> omega) (fun k hk => ?_)
    have hs := pt_di_b hd
    have hb : pt_b inp N s = some (inp s) := if_pos hs.1
    have ha : pt_al inp N s = false := by
      unfold pt_al; rw [hb]; exact decide_eq_false (by omega)
    have he : pt_e inp N s = pt_past (pt_di inp N) 1000 s := by
      unfold pt_e; rw [hb, ha, hd]; rfl
    have hk2 : k < pt_e inp N s - s := Nat.lt_of_lt_of_le hk (by rw [mx_mn]; split <;> omega)
    rw [he] at hk2
    exact (pt_di_b (pt_past_all (P := pt_di inp N) (f := 1000) (p := s) (s + k) (by omega) (by omega))).2.2
  · exact Nat.zero_le _
/-- the reference's fields 16 .. 19 -/
def mo_tok (z : Nat → Int32) (a b c d : Int32) : Nat → Int32 := fun j => if j = 16 then a else if j = 17 then b else if j = 18 then c else if j = 19 then d else z j
theorem mo_tok_id {z : Nat → Int32} : mo_tok z (z 16) (z 17) (z 18) (z 19) = z := by
  funext j; unfold mo_tok
  split
  · rename_i e; rw [e]
  · split
    · rename_i e; rw [e]
    · split
      · rename_i e; rw [e]
      · split
        · rename_i e; rw [e]
        · rfl
theorem mo_tok_16 {z : Nat → Int32} {a b c d x : Int32} : mo_z (mo_tok z a b c d) 16 x = mo_tok z x b c d := by
  funext j; unfold mo_z mo_tok; split <;> rfl
theorem mo_tok_17 {z : Nat → Int32} {a b c d x : Int32} : mo_z (mo_tok z a b c d) 17 x = mo_tok z a x c d := by
  funext j; unfold mo_z mo_tok
  by_cases h : j = 17
  · subst h; rfl
  · simp [h]
theorem mo_tok_18 {z : Nat → Int32} {a b c d x : Int32} : mo_z (mo_tok z a b c d) 18 x = mo_tok z a b x d := by
  funext j; unfold mo_z mo_tok
  by_cases h : j = 18
  · subst h; rfl
  · simp [h]
theorem mo_tok_19 {z : Nat → Int32} {a b c d x : Int32} : mo_z (mo_tok z a b c d) 19 x = mo_tok z a b c x := by
  funext j; unfold mo_z mo_tok
  by_cases h : j = 19
  · subst h; rfl
  · simp [h]
/-- the reference's fields behind the token at p -/
def mo_adv (z : Nat → Int32) (inp : Nat → Nat) (N p : Nat) : Nat → Int32 := mo_tok z (nI (pt_e inp N (pt_s inp N p))) (nI (pt_s inp N p)) (nI (pt_v inp N (pt_s inp N p))) (nI (pt_k inp N (pt_s inp N p)))
