/-! fractions of whole numbers are numbers -/
set_option maxRecDepth 100000
def fp_ok (f : Jvm.FP.Core.Fmt) : Jvm.FP.Core.Datum → Prop
  | .nan => False
  | .inf _ => True
  | .fin _ c q => c < 2 ^ f.p ∧ q ≤ f.qmax
theorem fp_bound {f : Jvm.FP.Core.Fmt} {s : Bool} {c : Nat} {q : Int} (h : c < 2 ^ f.p) : fp_ok f (Jvm.FP.Core.bound f s c q) := by
  unfold Jvm.FP.Core.bound
  split
  · rename_i g; exact ⟨h, g⟩
  · trivial
theorem fp_rr {f : Jvm.FP.Core.Fmt} (hf : f = Jvm.FP.Core.b32 ∨ f = Jvm.FP.Core.b64) {s : Bool} {num den : Nat} {e : Int} : fp_ok f (Jvm.FP.Core.roundRatio f s num den e) := by
  unfold Jvm.FP.Core.roundRatio
  split
  · rcases hf with rfl | rfl
    · exact ⟨by decide, by decide⟩
    · exact ⟨by decide, by decide⟩
  · unfold Jvm.FP.Core.roundAt Jvm.FP.Core.settle
    split
    · rename_i g; exact fp_bound g
    · refine fp_bound ?_
      rcases hf with rfl | rfl <;> decide
theorem fp_e32 {d : Jvm.FP.Core.Datum} (h : fp_ok Jvm.FP.Core.b32 d) : ∃ s E T, Jvm.FP.Core.encode Jvm.FP.Core.b32 d = (s * 256 + E) * 8388608 + T ∧ E * 8388608 + T ≤ 2139095040 := by
  cases d with
  | nan => exact h.elim
  | inf s => exact ⟨s.toNat, 255, 0, rfl, by decide⟩
  | fin s c q =>
    have h1 : c < 16777216 := h.1
    have h2 : q ≤ 104 := h.2
    have ht : Jvm.FP.Core.b32.tails = 8388608 := by decide
    have hq : Jvm.FP.Core.b32.qmin = -149 := by decide
    by_cases g : c < 8388608
    · refine ⟨s.toNat, 0, c, ?_, by omega⟩
      show (if c < Jvm.FP.Core.b32.tails then _ else _) = _
      rw [ht, if_pos g]; rfl
    · refine ⟨s.toNat, (q - -149).toNat + 1, c - 8388608, ?_, by omega⟩
      show (if c < Jvm.FP.Core.b32.tails then _ else _) = _
      rw [ht, if_neg g, hq]; rfl
theorem fp_e64 {d : Jvm.FP.Core.Datum} (h : fp_ok Jvm.FP.Core.b64 d) : ∃ s E T, Jvm.FP.Core.encode Jvm.FP.Core.b64 d = (s * 2048 + E) * 4503599627370496 + T ∧ E * 4503599627370496 + T ≤ 9218868437227405312 := by
  cases d with
  | nan => exact h.elim
  | inf s => exact ⟨s.toNat, 2047, 0, rfl, by decide⟩
  | fin s c q =>
    have h1 : c < 9007199254740992 := h.1
    have h2 : q ≤ 971 := h.2
    have ht : Jvm.FP.Core.b64.tails = 4503599627370496 := by decide
    have hq : Jvm.FP.Core.b64.qmin = -1074 := by decide
    by_cases g : c < 4503599627370496
    · refine ⟨s.toNat, 0, c, ?_, by omega⟩
      show (if c < Jvm.FP.Core.b64.tails then _ else _) = _
      rw [ht, if_pos g]; rfl
    · refine ⟨s.toNat, (q - -1074).toNat + 1, c - 4503599627370496, ?_, by omega⟩
      show (if c < Jvm.FP.Core.b64.tails then _ else _) = _
      rw [ht, if_neg g, hq]; rfl
theorem fp_m32 {n : Nat} : (UInt32.ofNat n &&& 0x7fffffff).toNat = n % 2147483648 := by
  rw [UInt32.toNat_and, UInt32.toNat_ofNat', show (0x7fffffff : UInt32).toNat = 2 ^ 31 - 1 from rfl, Nat.and_two_pow_sub_one_eq_mod]
  omega
theorem fp_m64 {n : Nat} : (UInt64.ofNat n &&& 0x7fffffffffffffff).toNat = n % 9223372036854775808 := by
  rw [UInt64.toNat_and, UInt64.toNat_ofNat', show (0x7fffffffffffffff : UInt64).toNat = 2 ^ 63 - 1 from rfl, Nat.and_two_pow_sub_one_eq_mod]
  omega
theorem fp_n32 {d : Jvm.FP.Core.Datum} (h : fp_ok Jvm.FP.Core.b32 d) : vf_n32 (UInt32.ofNat (Jvm.FP.Core.encode Jvm.FP.Core.b32 d)) := by
  obtain ⟨s, E, T, e, g⟩ := fp_e32 h
  unfold vf_n32
  rw [UInt32.le_iff_toNat_le, fp_m32, e, show (0x7f800000 : UInt32).toNat = 2139095040 from rfl]
  omega
theorem fp_n64 {d : Jvm.FP.Core.Datum} (h : fp_ok Jvm.FP.Core.b64 d) : vf_n64 (UInt64.ofNat (Jvm.FP.Core.encode Jvm.FP.Core.b64 d)) := by
  obtain ⟨s, E, T, e, g⟩ := fp_e64 h
  unfold vf_n64
  rw [UInt64.le_iff_toNat_le, fp_m64, e, show (0x7ff0000000000000 : UInt64).toNat = 9218868437227405312 from rfl]
  omega
theorem fp_d32 {d : Jvm.FP.Core.Datum} (h : fp_ok Jvm.FP.Core.b32 d) : Jvm.FP.Core.decode Jvm.FP.Core.b32 (UInt32.ofNat (Jvm.FP.Core.encode Jvm.FP.Core.b32 d)).toNat ≠ .nan := by
  obtain ⟨s, E, T, e, g⟩ := fp_e32 h
  rw [e, UInt32.toNat_ofNat']
  unfold Jvm.FP.Core.decode Jvm.FP.Core.fieldE Jvm.FP.Core.fieldT
  rw [show Jvm.FP.Core.b32.tails = 8388608 by decide, show Jvm.FP.Core.b32.exps = 256 by decide]
  split
  · split
    · exact fun h => nomatch h
    · exfalso; omega
  · split <;> exact fun h => nomatch h
theorem fp_d64 {d : Jvm.FP.Core.Datum} (h : fp_ok Jvm.FP.Core.b64 d) : Jvm.FP.Core.decode Jvm.FP.Core.b64 (UInt64.ofNat (Jvm.FP.Core.encode Jvm.FP.Core.b64 d)).toNat ≠ .nan := by
  obtain ⟨s, E, T, e, g⟩ := fp_e64 h
  rw [e, UInt64.toNat_ofNat']
  unfold Jvm.FP.Core.decode Jvm.FP.Core.fieldE Jvm.FP.Core.fieldT
  rw [show Jvm.FP.Core.b64.tails = 4503599627370496 by decide, show Jvm.FP.Core.b64.exps = 2048 by decide]
  split
  · split
    · exact fun h => nomatch h
    · exfalso; omega
  · split <;> exact fun h => nomatch h
def fp_nz : Jvm.FP.Core.Datum → Bool
  | .fin _ c _ => !Nat.beq c 0
  | _ => false
theorem fp_qo {f : Jvm.FP.Core.Fmt} (hf : f = Jvm.FP.Core.b32 ∨ f = Jvm.FP.Core.b64) {x y : Jvm.FP.Core.Datum} (hx : x ≠ .nan) (hy : fp_nz y = true) : fp_ok f (Jvm.FP.Core.quotient f x y) := by
  cases y with
  | nan => cases hy
  | inf s => cases hy
  | fin t d r =>
    cases x with
    | nan => exact absurd rfl hx
    | inf s => trivial
    | fin s c q =>
      show fp_ok f (if d = 0 then _ else _)
      rw [if_neg (by intro e; subst e; cases hy)]
      exact fp_rr hf
theorem fp_z32 : ∀ k, k < 25 → 0 < k → fp_nz (Jvm.FP.Core.decode Jvm.FP.Core.b32 (Jvm.FP.i2f (nI k)).toNat) = true := by decide +kernel
theorem fp_z64 : ∀ k, k < 1000 → 0 < k → fp_nz (Jvm.FP.Core.decode Jvm.FP.Core.b64 (Jvm.FP.i2d (nI k)).toNat) = true := by decide +kernel
theorem fp_fdiv {x : Int32} {k : Nat} (h : k < 25) (h0 : 0 < k) : vf_n32 (Jvm.FP.fdiv (Jvm.FP.i2f x) (Jvm.FP.i2f (nI k))) :=
  fp_n32 (fp_qo (Or.inl rfl) (fp_d32 (fp_rr (Or.inl rfl))) (fp_z32 k h h0))
theorem fp_ddiv {x : Int32} {k : Nat} (h : k < 1000) (h0 : 0 < k) : vf_n64 (Jvm.FP.ddiv (Jvm.FP.i2d x) (Jvm.FP.i2d (nI k))) :=
  fp_n64 (fp_qo (Or.inr rfl) (fp_d64 (fp_rr (Or.inr rfl))) (fp_z64 k h h0))
def an_truth (u : Nat → Nat) : UInt64 := if u 9 + u 10 = 0 then 0 else Jvm.FP.ddiv (Jvm.FP.i2d (nI (u 9))) (Jvm.FP.i2d (nI (u 9 + u 10)))
def an_mean (u : Nat → Nat) : UInt32 := if mx_lm u = 0 then 0 else Jvm.FP.fdiv (Jvm.FP.i2f (nI (mx_aw u))) (Jvm.FP.i2f (nI (mx_lm u)))
