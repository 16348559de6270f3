section
/-! doubles, pure: my own small theory of the model's rounding, in units of 2^-1074 -/
abbrev Bf : FP.Core.Fmt := FP.Core.b64
theorem bf_qmin : Bf.qmin = -1074 := by decide
theorem bf_qmax : Bf.qmax = 971 := by decide
theorem bf_tails : Bf.tails = 4503599627370496 := by decide
theorem bf_exps : Bf.exps = 2048 := by decide
theorem bf_p : Bf.p = 53 := rfl
theorem n_le {A B m : Nat} (hB : 0 < B) (h : A ≤ m * B) : FP.Core.nearest A B ≤ m := by
  have h1 : A / B ≤ m := by
    refine Nat.div_le_of_le_mul ?_
    rw [Nat.mul_comm]
    exact h
  have h2 := Nat.div_add_mod A B
  have h3 := Nat.mod_lt A hB
  unfold FP.Core.nearest
  by_cases e : A / B = m
  · have h4 : A % B = 0 := by
      rw [e, Nat.mul_comm] at h2
      omega
    rw [if_pos (by omega)]
    exact h1
  · split
    · exact h1
    · split
      · omega
      · have := Nat.mod_lt (A / B) (show 0 < 2 by decide)
        omega
theorem n_ge {A B m : Nat} (hB : 0 < B) (h : m * B ≤ A) : m ≤ FP.Core.nearest A B := by
  have h1 : m ≤ A / B := (Nat.le_div_iff_mul_le hB).mpr h
  unfold FP.Core.nearest
  split
  · exact h1
  · split
    · omega
    · omega
theorem n_scale {A B k : Nat} (hk : 0 < k) : FP.Core.nearest (A * k) (B * k) = FP.Core.nearest A B := by
  unfold FP.Core.nearest
  rw [Nat.mul_mod_mul_right, Nat.mul_div_mul_right _ _ hk]
  have e1 : 2 * (A % B * k) < B * k ↔ 2 * (A % B) < B := by
    rw [← Nat.mul_assoc]
    exact Nat.mul_lt_mul_right hk
  have e2 : B * k < 2 * (A % B * k) ↔ B < 2 * (A % B) := by
    rw [← Nat.mul_assoc]
    exact Nat.mul_lt_mul_right hk
  simp only [e1, e2]
theorem pw_split {a b c : Nat} (h : a + b = c) : 2 ^ a * 2 ^ b = 2 ^ c := by rw [← Nat.pow_add, h]
/-- the leading digit's place -/
theorem lead_spec {num den : Nat} (hn : 0 < num) (hd : 0 < den) (P : Nat) (hP : den.log2 + 1 ≤ P) :
    ∃ j : Nat, (j : Int) = FP.Core.leading num den + P ∧ den * 2 ^ j ≤ num * 2 ^ P ∧ num * 2 ^ P < den * 2 ^ (j + 1) := by
  have a1 : 2 ^ num.log2 ≤ num := Nat.log2_self_le (Nat.ne_of_gt hn)
  have a2 : num < 2 ^ (num.log2 + 1) := Nat.lt_log2_self
  have b1 : 2 ^ den.log2 ≤ den := Nat.log2_self_le (Nat.ne_of_gt hd)
  have b2 : den < 2 ^ (den.log2 + 1) := Nat.lt_log2_self
  unfold FP.Core.leading
  generalize num.log2 = a at *
  generalize den.log2 = b at *
  dsimp only
  by_cases h : den * 2 ^ ((a : Int) - (b : Int)).toNat ≤ num * 2 ^ (-((a : Int) - (b : Int))).toNat
  · rw [if_pos h]
    refine ⟨a + P - b, by omega, ?_, ?_⟩
    · by_cases hab : b ≤ a
      · rw [show ((a : Int) - (b : Int)).toNat = a - b by omega, show (-((a : Int) - (b : Int))).toNat = 0 by omega, Nat.pow_zero, Nat.mul_one] at h
        rw [← pw_split (show (a - b) + P = a + P - b by omega), ← Nat.mul_assoc]
        exact Nat.mul_le_mul_right _ h
      · rw [show ((a : Int) - (b : Int)).toNat = 0 by omega, show (-((a : Int) - (b : Int))).toNat = b - a by omega, Nat.pow_zero, Nat.mul_one] at h
        rw [← pw_split (show (b - a) + (a + P - b) = P by omega), ← Nat.mul_assoc]
        exact Nat.mul_le_mul_right _ h
    · refine Nat.lt_of_lt_of_le (Nat.mul_lt_mul_of_pos_right a2 (Nat.two_pow_pos P)) ?_
      rw [pw_split (show a + 1 + P = b + (a + P - b + 1) by omega), Nat.pow_add]
      exact Nat.mul_le_mul_right _ b1
  · rw [if_neg h]
    refine ⟨a + P - b - 1, by omega, ?_, ?_⟩
    · refine Nat.le_trans (Nat.mul_le_mul_right _ (Nat.le_of_lt b2)) ?_
      rw [pw_split (show b + 1 + (a + P - b - 1) = a + P by omega), Nat.pow_add]
      exact Nat.mul_le_mul_right _ a1
    · have h := Nat.not_le.mp h
      rw [show a + P - b - 1 + 1 = a + P - b by omega]
      by_cases hab : b ≤ a
      · rw [show ((a : Int) - (b : Int)).toNat = a - b by omega, show (-((a : Int) - (b : Int))).toNat = 0 by omega, Nat.pow_zero, Nat.mul_one] at h
        rw [← pw_split (show (a - b) + P = a + P - b by omega), ← Nat.mul_assoc]
        exact Nat.mul_lt_mul_of_pos_right h (Nat.two_pow_pos P)
      · rw [show ((a : Int) - (b : Int)).toNat = 0 by omega, show (-((a : Int) - (b : Int))).toNat = b - a by omega, Nat.pow_zero, Nat.mul_one] at h
        rw [← pw_split (show (b - a) + (a + P - b) = P by omega), ← Nat.mul_assoc]
        exact Nat.mul_lt_mul_of_pos_right h (Nat.two_pow_pos _)
/-- a number of units that a double holds -/
def RP (n : Nat) : Prop := ∃ c j : Nat, c < 2 ^ 53 ∧ j ≤ 2045 ∧ n = c * 2 ^ j
/-- rounding, in one: what is rounded is num * 2^P / (den * 2^m) units -/
theorem rr_main (s : Bool) {num den : Nat} {e : Int} {m P : Nat} (hn : 0 < num) (hd : 0 < den) (hP : (P : Int) = e + m + 1074) (hl : den.log2 + 1 ≤ P) :
    ∃ Z : Nat, ((∃ (c : Nat) (q : Int), FP.Core.roundRatio Bf s num den e = .fin s c q ∧ FP.Core.fits Bf (.fin s c q) ∧ c * 2 ^ (q + 1074).toNat = Z) ∨ (FP.Core.roundRatio Bf s num den e = .inf s ∧ 2 ^ 2098 ≤ Z)) ∧
      (∀ n, RP n → num * 2 ^ P ≤ n * den * 2 ^ m → Z ≤ n) ∧ (∀ n, RP n → n * den * 2 ^ m ≤ num * 2 ^ P → n ≤ Z) := by
  obtain ⟨j, hj, l1, l2⟩ := lead_spec hn hd P hl
  have hq : FP.Core.quantum Bf num den e = max (-1074) (FP.Core.leading num den + e - 52) := by
    unfold FP.Core.quantum
    rw [bf_qmin, bf_p]
    rfl
  obtain ⟨Q, hQ⟩ : ∃ Q : Nat, (Q : Int) = FP.Core.quantum Bf num den e + 1074 := ⟨(FP.Core.quantum Bf num den e + 1074).toNat, by rw [hq]; omega⟩
  have hQj : Q = 0 ∧ j < m + 53 ∨ Q + m + 52 = j := by omega
  have hden : 0 < den * 2 ^ (Q + m) := Nat.mul_pos hd (Nat.two_pow_pos _)
  have hnear : FP.Core.nearest (FP.Core.unitsNum num e (FP.Core.quantum Bf num den e)) (FP.Core.unitsDen den e (FP.Core.quantum Bf num den e)) = FP.Core.nearest (num * 2 ^ P) (den * 2 ^ (Q + m)) := by
    unfold FP.Core.unitsNum FP.Core.unitsDen
    generalize FP.Core.quantum Bf num den e = q at hQ
    by_cases h : q ≤ e
    · rw [show (q - e).toNat = 0 by omega, Nat.pow_zero, Nat.mul_one, ← n_scale (Nat.two_pow_pos (Q + m)), Nat.mul_assoc, pw_split (show (e - q).toNat + (Q + m) = P by omega)]
    · rw [show (e - q).toNat = 0 by omega, Nat.pow_zero, Nat.mul_one, ← n_scale (Nat.two_pow_pos P), Nat.mul_assoc, pw_split (show (q - e).toNat + P = Q + m by omega)]
  have hc1 : FP.Core.nearest (num * 2 ^ P) (den * 2 ^ (Q + m)) ≤ 2 ^ 53 := by
    refine n_le hden ?_
    refine Nat.le_trans (Nat.le_of_lt l2) ?_
    rw [Nat.mul_left_comm]
    refine Nat.mul_le_mul_left _ ?_
    rw [pw_split (show 53 + (Q + m) = Q + m + 53 by omega)]
    exact Nat.pow_le_pow_right (by decide) (by omega)
  have hc2 : 0 < Q → 2 ^ 52 ≤ FP.Core.nearest (num * 2 ^ P) (den * 2 ^ (Q + m)) := by
    intro h0
    refine n_ge hden ?_
    rw [Nat.mul_left_comm, pw_split (show 52 + (Q + m) = j by omega)]
    exact l1
  have hround : FP.Core.roundRatio Bf s num den e = FP.Core.settle Bf s (FP.Core.nearest (num * 2 ^ P) (den * 2 ^ (Q + m))) (FP.Core.quantum Bf num den e) := by
    unfold FP.Core.roundRatio
    rw [if_neg (Nat.ne_of_gt hn)]
    unfold FP.Core.roundAt
    rw [hnear]
  refine ⟨FP.Core.nearest (num * 2 ^ P) (den * 2 ^ (Q + m)) * 2 ^ Q, ?_, ?_, ?_⟩
  · rw [hround]
    generalize FP.Core.nearest (num * 2 ^ P) (den * 2 ^ (Q + m)) = c at hc1 hc2
    generalize FP.Core.quantum Bf num den e = q at hQ
    unfold FP.Core.settle FP.Core.bound
    rw [bf_p, bf_qmax, bf_tails]
    by_cases h53 : c < 2 ^ 53
    · rw [if_pos h53]
      by_cases hqm : q ≤ 971
      · rw [if_pos hqm]
        refine Or.inl ⟨c, q, rfl, ⟨h53, by rw [bf_qmin]; omega, by rw [bf_qmax]; exact hqm, ?_⟩, by rw [show (q + 1074).toNat = Q by omega]⟩
        rw [bf_qmin, bf_tails]
        by_cases h0 : 0 < Q
        · exact Or.inr (hc2 h0)
        · exact Or.inl (by omega)
      · rw [if_neg hqm]
        refine Or.inr ⟨rfl, ?_⟩
        rw [← pw_split (show 52 + 2046 = 2098 by omega)]
        exact Nat.mul_le_mul (hc2 (by omega)) (Nat.pow_le_pow_right (by decide) (by omega))
    · rw [if_neg h53]
      have hcc : c = 2 ^ 53 := by omega
      by_cases hqm : q + 1 ≤ 971
      · rw [if_pos hqm]
        refine Or.inl ⟨4503599627370496, q + 1, rfl, ⟨by rw [bf_p]; decide, by rw [bf_qmin]; omega, by rw [bf_qmax]; exact hqm, Or.inr (by rw [bf_tails]; exact Nat.le_refl _)⟩, ?_⟩
        rw [hcc, show (q + 1 + 1074).toNat = 1 + Q by omega, ← pw_split (rfl : 1 + Q = 1 + Q), ← Nat.mul_assoc]
      · rw [if_neg hqm]
        refine Or.inr ⟨rfl, ?_⟩
        rw [hcc, pw_split (rfl : 53 + Q = 53 + Q)]
        exact Nat.pow_le_pow_right (by decide) (by omega)
  · rintro n ⟨c0, j0, h1, h2, rfl⟩ h
    by_cases hj0 : Q ≤ j0
    · rw [← pw_split (show (j0 - Q) + Q = j0 by omega), ← Nat.mul_assoc]
      refine Nat.mul_le_mul_right _ (n_le hden ?_)
      refine Nat.le_trans h (Nat.le_of_eq ?_)
      rw [← pw_split (show (j0 - Q) + Q = j0 by omega), ← pw_split (rfl : Q + m = Q + m)]
      ac_rfl
    · exfalso
      have e1 : den * 2 ^ j ≤ c0 * 2 ^ j0 * den * 2 ^ m := Nat.le_trans l1 h
      have e2 : c0 * 2 ^ j0 * den * 2 ^ m < den * 2 ^ j := by
        rw [show c0 * 2 ^ j0 * den * 2 ^ m = den * (c0 * (2 ^ j0 * 2 ^ m)) by ac_rfl]
        refine Nat.mul_lt_mul_of_pos_left ?_ hd
        rw [pw_split (rfl : j0 + m = j0 + m)]
        refine Nat.lt_of_lt_of_le (Nat.mul_lt_mul_of_pos_right h1 (Nat.two_pow_pos _)) ?_
        rw [pw_split (rfl : 53 + (j0 + m) = 53 + (j0 + m))]
        exact Nat.pow_le_pow_right (by decide) (by omega)
      omega
  · rintro n ⟨c0, j0, h1, h2, rfl⟩ h
    by_cases hj0 : Q ≤ j0
    · rw [← pw_split (show (j0 - Q) + Q = j0 by omega), ← Nat.mul_assoc]
      refine Nat.mul_le_mul_right _ (n_ge hden ?_)
      refine Nat.le_trans (Nat.le_of_eq ?_) h
      rw [← pw_split (show (j0 - Q) + Q = j0 by omega), ← pw_split (rfl : Q + m = Q + m)]
      ac_rfl
    · refine Nat.le_trans ?_ (Nat.mul_le_mul_right _ (hc2 (by omega)))
      rw [pw_split (rfl : 52 + Q = 52 + Q)]
      refine Nat.le_trans (Nat.le_of_lt (Nat.mul_lt_mul_of_pos_right h1 (Nat.two_pow_pos _))) ?_
      rw [pw_split (rfl : 53 + j0 = 53 + j0)]
      exact Nat.pow_le_pow_right (by decide) (by omega)
/-! bits and data -/
theorem asm_lt (s : Bool) {e t : Nat} (he : e < 2048) (ht : t < 4503599627370496) : FP.Core.assemble Bf s e t < 2 ^ 64 := by
  unfold FP.Core.assemble
  rw [bf_exps, bf_tails]
  cases s
  · show (0 * 2048 + e) * 4503599627370496 + t < _
    omega
  · show (1 * 2048 + e) * 4503599627370496 + t < _
    omega
theorem asm_f (s : Bool) {e t : Nat} (he : e < 2048) (ht : t < 4503599627370496) : FP.Core.fieldT Bf (FP.Core.assemble Bf s e t) = t ∧ FP.Core.fieldE Bf (FP.Core.assemble Bf s e t) = e ∧ FP.Core.fieldS Bf (FP.Core.assemble Bf s e t) = s := by
  unfold FP.Core.fieldT FP.Core.fieldE FP.Core.fieldS FP.Core.assemble
  rw [bf_exps, bf_tails]
  cases s
  · show ((0 * 2048 + e) * 4503599627370496 + t) % 4503599627370496 = t ∧ ((0 * 2048 + e) * 4503599627370496 + t) / 4503599627370496 % 2048 = e ∧ (((0 * 2048 + e) * 4503599627370496 + t) / 4503599627370496 / 2048 % 2 == 1) = false
    refine ⟨by omega, by omega, ?_⟩
    rw [show ((0 * 2048 + e) * 4503599627370496 + t) / 4503599627370496 / 2048 % 2 = 0 by omega]
    rfl
  · show ((1 * 2048 + e) * 4503599627370496 + t) % 4503599627370496 = t ∧ ((1 * 2048 + e) * 4503599627370496 + t) / 4503599627370496 % 2048 = e ∧ (((1 * 2048 + e) * 4503599627370496 + t) / 4503599627370496 / 2048 % 2 == 1) = true
    refine ⟨by omega, by omega, ?_⟩
    rw [show ((1 * 2048 + e) * 4503599627370496 + t) / 4503599627370496 / 2048 % 2 = 1 by omega]
    rfl
theorem dec_asm (s : Bool) {e t : Nat} (he : e < 2048) (ht : t < 4503599627370496) : FP.Core.decode Bf (FP.Core.assemble Bf s e t) = if e = 2047 then (if t = 0 then .inf s else .nan) else if e = 0 then .fin s t (-1074) else .fin s (4503599627370496 + t) (-1074 + ((e : Int) - 1)) := by
  obtain ⟨h1, h2, h3⟩ := asm_f s he ht
  unfold FP.Core.decode
  rw [h1, h2, h3, bf_exps, bf_tails, bf_qmin]
theorem dec_enc {d : FP.Core.Datum} (h : FP.Core.fits Bf d) : FP.Core.decode Bf (FP.Core.encode Bf d) = d ∧ FP.Core.encode Bf d < 2 ^ 64 := by
  cases d with
  | nan =>
    exact ⟨by decide +kernel, by decide +kernel⟩
  | inf s =>
    cases s <;> exact ⟨by decide +kernel, by decide +kernel⟩
  | fin s c q =>
    obtain ⟨h1, h2, h3, h4⟩ := h
    rw [bf_p] at h1
    rw [bf_qmin] at h2 h4
    rw [bf_qmax] at h3
    rw [bf_tails] at h4
    have henc : FP.Core.encode Bf (.fin s c q) = if c < 4503599627370496 then FP.Core.assemble Bf s 0 c else FP.Core.assemble Bf s ((q - -1074).toNat + 1) (c - 4503599627370496) := by
      show (if c < Bf.tails then FP.Core.assemble Bf s 0 c else FP.Core.assemble Bf s ((q - Bf.qmin).toNat + 1) (c - Bf.tails)) = _
      rw [bf_tails, bf_qmin]
    rw [henc]
    by_cases hc : c < 4503599627370496
    · rw [if_pos hc]
      refine ⟨?_, asm_lt s (by decide) hc⟩
      rw [dec_asm s (by decide) hc, if_neg (by decide), if_pos rfl, show q = -1074 by omega]
    · rw [if_neg hc]
      have t1 : c - 4503599627370496 < 4503599627370496 := by omega
      have t2 : (q - -1074).toNat + 1 < 2048 := by omega
      refine ⟨?_, asm_lt s t2 t1⟩
      rw [dec_asm s t2 t1, if_neg (by omega), if_neg (by omega), show 4503599627370496 + (c - 4503599627370496) = c by omega, show -1074 + ((((q - -1074).toNat + 1 : Nat) : Int) - 1) = q by omega]
/-- the datum that a double's bits stand for -/
def vl (a : UInt64) : FP.Core.Datum := FP.Core.decode Bf a.toNat
theorem vl_of {d : FP.Core.Datum} (h : FP.Core.fits Bf d) : vl (UInt64.ofNat (FP.Core.encode Bf d)) = d := by
  obtain ⟨h1, h2⟩ := dec_enc h
  unfold vl
  rw [UInt64.toNat_ofNat', Nat.mod_eq_of_lt h2]
  exact h1
theorem vl_fits (a : UInt64) : FP.Core.fits Bf (vl a) := by
  unfold vl FP.Core.decode
  have hT : FP.Core.fieldT Bf a.toNat < 4503599627370496 := by
    unfold FP.Core.fieldT
    rw [bf_tails]
    exact Nat.mod_lt _ (by decide)
  have hE : FP.Core.fieldE Bf a.toNat < 2048 := by
    unfold FP.Core.fieldE
    rw [bf_exps]
    exact Nat.mod_lt _ (by decide)
  generalize FP.Core.fieldT Bf a.toNat = t at hT
  generalize FP.Core.fieldE Bf a.toNat = e at hE
  rw [bf_exps, bf_tails, bf_qmin]
  split
  · split
    · exact trivial
    · exact trivial
  · split
    · refine ⟨by rw [bf_p]; omega, by rw [bf_qmin]; omega, by rw [bf_qmax]; omega, Or.inl (by rw [bf_qmin])⟩
    · refine ⟨by rw [bf_p]; omega, by rw [bf_qmin]; omega, by rw [bf_qmax]; omega, Or.inr (by rw [bf_tails]; omega)⟩
def NN (a : UInt64) : Prop := vl a ≠ .nan
def DF (a : UInt64) : Prop := ∃ (s : Bool) (c : Nat) (q : Int), vl a = .fin s c q
def zmD : FP.Core.Datum → Nat
  | .nan => 0
  | .inf _ => 2 ^ 2098
  | .fin _ c q => c * 2 ^ (q + 1074).toNat
def sgD : FP.Core.Datum → Bool
  | .nan => false
  | .inf s => s
  | .fin s _ _ => s
def zvD (d : FP.Core.Datum) : Int := if sgD d then -(zmD d : Int) else (zmD d : Int)
def zm (a : UInt64) : Nat := zmD (vl a)
def zv (a : UInt64) : Int := zvD (vl a)
theorem zv_abs (a : UInt64) : (zv a).natAbs = zm a := by
  unfold zv zvD zm
  split <;> omega
theorem DF.nn {a : UInt64} (h : DF a) : NN a := by
  obtain ⟨s, c, q, h⟩ := h
  intro h2
  rw [h] at h2
  cases h2
theorem df_of {a : UInt64} (hn : NN a) (h : zm a < 2 ^ 2098) : DF a := by
  unfold zm at h
  unfold NN at hn
  unfold DF
  cases e : vl a with
  | nan => exact absurd e hn
  | inf s =>
    rw [e] at h
    exact absurd h (Nat.lt_irrefl _)
  | fin s c q => exact ⟨s, c, q, rfl⟩
end
section
/-! doubles, pure: the operations -/
theorem NN.n64 {r : UInt64} (h : NN r) : vf_n64 r := by
  unfold vf_n64
  rw [UInt64.le_iff_toNat_le, UInt64.toNat_and]
  have e : (0x7fffffffffffffff : UInt64).toNat = 2 ^ 63 - 1 := by decide
  rw [e, Nat.and_two_pow_sub_one_eq_mod]
  show r.toNat % 2 ^ 63 ≤ 9218868437227405312
  refine Nat.not_lt.mp fun q => h ?_
  unfold vl FP.Core.decode
  have h1 : FP.Core.fieldE Bf r.toNat = 2047 := by
    unfold FP.Core.fieldE
    rw [bf_exps, bf_tails]
    have := r.toNat_lt
    omega
  have h2 : FP.Core.fieldT Bf r.toNat ≠ 0 := by
    unfold FP.Core.fieldT
    rw [bf_tails]
    have := r.toNat_lt
    omega
  rw [h1, bf_exps, if_pos (by decide), if_neg h2]
theorem DF.n64 {r : UInt64} (h : DF r) : vf_n64 r := h.nn.n64
theorem rr_fits (s : Bool) {num den : Nat} (e : Int) (hd : 0 < den) : FP.Core.fits Bf (FP.Core.roundRatio Bf s num den e) ∧ FP.Core.roundRatio Bf s num den e ≠ .nan ∧ sgD (FP.Core.roundRatio Bf s num den e) = s := by
  by_cases hn : num = 0
  · subst hn
    have h0 : FP.Core.roundRatio Bf s 0 den e = .fin s 0 (-1074) := by
      unfold FP.Core.roundRatio
      rw [if_pos rfl, bf_qmin]
    rw [h0]
    refine ⟨⟨by decide, by rw [bf_qmin]; omega, by rw [bf_qmax]; omega, Or.inl (by rw [bf_qmin])⟩, (fun h => by cases h), rfl⟩
  · obtain ⟨m, P, hP, hl⟩ : ∃ m P : Nat, (P : Int) = e + m + 1074 ∧ den.log2 + 1 ≤ P := ⟨e.natAbs + den.log2 + 1, (e + (e.natAbs + den.log2 + 1 : Nat) + 1074).toNat, by omega, by omega⟩
    obtain ⟨Z, h, -, -⟩ := rr_main s (Nat.pos_of_ne_zero hn) hd hP hl
    rcases h with ⟨c, q, h1, h2, -⟩ | ⟨h1, -⟩
    · rw [h1]
      exact ⟨h2, (fun h => by cases h), rfl⟩
    · rw [h1]
      exact ⟨trivial, (fun h => by cases h), rfl⟩
theorem rd_fits (d : FP.Core.Datum) : FP.Core.fits Bf (FP.Core.round Bf d) := by
  cases d with
  | nan => exact trivial
  | inf s => exact trivial
  | fin s c q => exact (rr_fits s q (by decide)).1
theorem rd_nan {d : FP.Core.Datum} (h : d ≠ .nan) : FP.Core.round Bf d ≠ .nan := by
  cases d with
  | nan => exact absurd rfl h
  | inf s => intro h; cases h
  | fin s c q => exact (rr_fits s q (by decide)).2.1
theorem vl_add (a b : UInt64) : vl (FP.dadd a b) = FP.Core.round Bf (FP.Core.exactSum (vl a) (vl b)) := vl_of (rd_fits _)
theorem vl_sub (a b : UInt64) : vl (FP.dsub a b) = FP.Core.round Bf (FP.Core.exactSum (vl a) (FP.Core.negate (vl b))) := vl_of (rd_fits _)
theorem vl_mul (a b : UInt64) : vl (FP.dmul a b) = FP.Core.round Bf (FP.Core.exactProduct (vl a) (vl b)) := vl_of (rd_fits _)
theorem vl_i2d (k : Int32) : vl (FP.i2d k) = FP.Core.round Bf (FP.Core.ofInt k.toInt) := vl_of (rd_fits _)
theorem vl_l2d (k : Int64) : vl (FP.l2d k) = FP.Core.round Bf (FP.Core.ofInt k.toInt) := vl_of (rd_fits _)
theorem qt_fits (x y : FP.Core.Datum) : FP.Core.fits Bf (FP.Core.quotient Bf x y) := by
  have z : ∀ s : Bool, FP.Core.fits Bf (.fin s 0 Bf.qmin) := fun s => by
    rw [bf_qmin]
    exact ⟨by decide, by rw [bf_qmin]; omega, by rw [bf_qmax]; omega, Or.inl (by rw [bf_qmin])⟩
  cases x with
  | nan => exact trivial
  | inf s => cases y <;> exact trivial
  | fin s c q =>
    cases y with
    | nan => exact trivial
    | inf t => exact z _
    | fin t d r =>
      unfold FP.Core.quotient
      dsimp only
      split
      · split <;> exact trivial
      · rename_i h
        exact (rr_fits _ _ (Nat.pos_of_ne_zero h)).1
theorem vl_div (a b : UInt64) : vl (FP.ddiv a b) = FP.Core.quotient Bf (vl a) (vl b) := vl_of (qt_fits _ _)
theorem vl_neg (a : UInt64) : vl (FP.dneg a) = FP.Core.negate (vl a) := by
  have ha := a.toNat_lt
  have hx : (FP.dneg a).toNat = a.toNat ^^^ 2 ^ 63 := by
    unfold FP.dneg
    rw [UInt64.toNat_xor]
    rfl
  have hm : (a.toNat ^^^ 2 ^ 63) % 2 ^ 63 = a.toNat % 2 ^ 63 := by rw [Nat.xor_mod_two_pow, Nat.mod_self, Nat.xor_zero]
  have hd : (a.toNat ^^^ 2 ^ 63) / 2 ^ 63 = (a.toNat / 2 ^ 63) ^^^ 1 := by rw [Nat.xor_div_two_pow, Nat.div_self (by decide)]
  have hb : a.toNat / 2 ^ 63 = 0 ∨ a.toNat / 2 ^ 63 = 1 := by omega
  unfold vl
  rw [hx]
  generalize a.toNat ^^^ 2 ^ 63 = n at hm hd
  have hT : FP.Core.fieldT Bf n = FP.Core.fieldT Bf a.toNat := by
    unfold FP.Core.fieldT
    rw [bf_tails]
    omega
  have hE : FP.Core.fieldE Bf n = FP.Core.fieldE Bf a.toNat := by
    unfold FP.Core.fieldE
    rw [bf_tails, bf_exps]
    omega
  have hS : FP.Core.fieldS Bf n = !FP.Core.fieldS Bf a.toNat := by
    unfold FP.Core.fieldS
    rw [bf_tails, bf_exps]
    rcases hb with h | h
    · rw [h] at hd
      have e1 : n / 2 ^ 63 = 1 := hd
      rw [show n / 4503599627370496 / 2048 % 2 = 1 by omega, show a.toNat / 4503599627370496 / 2048 % 2 = 0 by omega]
      rfl
    · rw [h] at hd
      have e1 : n / 2 ^ 63 = 0 := hd
      rw [show n / 4503599627370496 / 2048 % 2 = 0 by omega, show a.toNat / 4503599627370496 / 2048 % 2 = 1 by omega]
      rfl
  unfold FP.Core.decode
  rw [hT, hE, hS]
  split
  · split <;> rfl
  · split <;> rfl
theorem zmD_neg (d : FP.Core.Datum) : zmD (FP.Core.negate d) = zmD d := by cases d <;> rfl
theorem zv_neg (a : UInt64) : zv (FP.dneg a) = -zv a := by
  unfold zv
  rw [vl_neg]
  generalize vl a = d
  cases d with
  | nan => rfl
  | inf s => cases s <;> simp [zvD, sgD, zmD, FP.Core.negate]
  | fin s c q => cases s <;> simp [zvD, sgD, zmD, FP.Core.negate]
theorem zm_neg (a : UInt64) : zm (FP.dneg a) = zm a := by
  unfold zm
  rw [vl_neg, zmD_neg]
theorem DF.neg {a : UInt64} (h : DF a) : DF (FP.dneg a) := by
  obtain ⟨s, c, q, h⟩ := h
  exact ⟨!s, c, q, by rw [vl_neg, h]; rfl⟩
theorem NN.neg {a : UInt64} (h : NN a) : NN (FP.dneg a) := by
  unfold NN at h ⊢
  rw [vl_neg]
  intro e
  cases h2 : vl a with
  | nan => exact h h2
  | inf s => rw [h2] at e; cases e
  | fin s c q => rw [h2] at e; cases e
theorem vl_sub_neg (a b : UInt64) : vl (FP.dsub a b) = vl (FP.dadd a (FP.dneg b)) := by rw [vl_sub, vl_add, vl_neg]
theorem NN.sub_of {a b : UInt64} (h : NN (FP.dadd a (FP.dneg b))) : NN (FP.dsub a b) := by
  unfold NN at h ⊢
  rw [vl_sub_neg]
  exact h
theorem zv_sub (a b : UInt64) : zv (FP.dsub a b) = zv (FP.dadd a (FP.dneg b)) := by
  unfold zv
  rw [vl_sub_neg]
theorem zm_sub (a b : UInt64) : zm (FP.dsub a b) = zm (FP.dadd a (FP.dneg b)) := by
  unfold zm
  rw [vl_sub_neg]
theorem NN.add {a b : UInt64} (ha : NN a) (hb : DF b) : NN (FP.dadd a b) := by
  obtain ⟨t, d, r, hb⟩ := hb
  unfold NN at ha ⊢
  rw [vl_add, hb]
  refine rd_nan ?_
  cases h : vl a with
  | nan => exact absurd h ha
  | inf s => intro e; cases e
  | fin s c q => intro e; cases e
theorem NN.add' {a b : UInt64} (ha : DF a) (hb : NN b) : NN (FP.dadd a b) := by
  obtain ⟨t, d, r, ha⟩ := ha
  unfold NN at hb ⊢
  rw [vl_add, ha]
  refine rd_nan ?_
  cases h : vl b with
  | nan => exact absurd h hb
  | inf s => intro e; cases e
  | fin s c q => intro e; cases e
theorem NN.sub {a b : UInt64} (ha : NN a) (hb : DF b) : NN (FP.dsub a b) := NN.sub_of (NN.add ha hb.neg)
theorem NN.sub' {a b : UInt64} (ha : DF a) (hb : NN b) : NN (FP.dsub a b) := NN.sub_of (NN.add' ha hb.neg)
theorem NN.mul {a b : UInt64} (ha : DF a) (hb : DF b) : NN (FP.dmul a b) := by
  obtain ⟨s, c, q, ha⟩ := ha
  obtain ⟨t, d, r, hb⟩ := hb
  unfold NN
  rw [vl_mul, ha, hb]
  exact rd_nan (by intro e; cases e)
theorem fin_ne0 {b : UInt64} {t : Bool} {d : Nat} {r : Int} (eb : vl b = .fin t d r) (hz : zm b ≠ 0) : d ≠ 0 := by
  rintro rfl
  apply hz
  unfold zm
  rw [eb]
  exact Nat.zero_mul _
theorem NN.mulz {a b : UInt64} (ha : NN a) (hb : DF b) (hz : zm b ≠ 0) : NN (FP.dmul a b) := by
  obtain ⟨t, d, r, hb⟩ := hb
  have hd := fin_ne0 hb hz
  unfold NN at ha ⊢
  rw [vl_mul, hb]
  refine rd_nan ?_
  cases h : vl a with
  | nan => exact absurd h ha
  | inf s =>
    show (if d = 0 then FP.Core.Datum.nan else _) ≠ _
    rw [if_neg hd]
    intro e; cases e
  | fin s c q => intro e; cases e
theorem NN.mulz' {a b : UInt64} (ha : DF a) (hz : zm a ≠ 0) (hb : NN b) : NN (FP.dmul a b) := by
  obtain ⟨t, d, r, ha⟩ := ha
  have hd := fin_ne0 ha hz
  unfold NN at hb ⊢
  rw [vl_mul, ha]
  refine rd_nan ?_
  cases h : vl b with
  | nan => exact absurd h hb
  | inf s =>
    show (if d = 0 then FP.Core.Datum.nan else _) ≠ _
    rw [if_neg hd]
    intro e; cases e
  | fin s c q => intro e; cases e
theorem NN.div {a b : UInt64} (ha : NN a) (hb : DF b) (hz : zm b ≠ 0) : NN (FP.ddiv a b) := by
  obtain ⟨t, d, r, hb⟩ := hb
  have hd := fin_ne0 hb hz
  unfold NN at ha ⊢
  rw [vl_div, hb]
  cases h : vl a with
  | nan => exact absurd h ha
  | inf s => intro e; cases e
  | fin s c q =>
    show (if d = 0 then _ else _) ≠ _
    rw [if_neg hd]
    exact (rr_fits _ _ (Nat.pos_of_ne_zero hd)).2.1
/-! rounding against a number of units -/
theorem RP.lt {n : Nat} (h : RP n) : n < 2 ^ 2098 := by
  obtain ⟨c, j, h1, h2, rfl⟩ := h
  refine Nat.lt_of_lt_of_le (Nat.mul_lt_mul_of_pos_right h1 (Nat.two_pow_pos _)) ?_
  rw [pw_split (rfl : 53 + j = 53 + j)]
  exact Nat.pow_le_pow_right (by decide) (by omega)
theorem rp_pw {j : Nat} (h : j ≤ 2045) : RP (2 ^ j) := ⟨1, j, by decide, h, (Nat.one_mul _).symm⟩
theorem rp_pw' {j : Nat} (h : j ≤ 2097) : RP (2 ^ j) := by
  by_cases hj : j ≤ 2045
  · exact rp_pw hj
  · exact ⟨2 ^ (j - 2045), 2045, Nat.pow_lt_pow_right (by decide) (by omega), Nat.le_refl _, (pw_split (by omega)).symm⟩
theorem rp_i {n : Nat} (h : n < 2 ^ 53) : RP (n * 2 ^ 1074) := ⟨n, 1074, h, by omega, rfl⟩
theorem rp_zm {a : UInt64} (h : DF a) : RP (zm a) := by
  obtain ⟨s, c, q, h⟩ := h
  have hf := vl_fits a
  unfold zm
  rw [h] at hf ⊢
  obtain ⟨h1, h2, h3, -⟩ := hf
  rw [bf_p] at h1
  rw [bf_qmin] at h2
  rw [bf_qmax] at h3
  exact ⟨c, (q + 1074).toNat, h1, by omega, rfl⟩
theorem rr_le (s : Bool) {num den n : Nat} {e : Int} {m P : Nat} (hd : 0 < den) (hP : (P : Int) = e + m + 1074) (hn : RP n) (h : num * 2 ^ P ≤ n * den * 2 ^ m) : zmD (FP.Core.roundRatio Bf s num den e) ≤ n := by
  by_cases h0 : num = 0
  · subst h0
    unfold FP.Core.roundRatio
    rw [if_pos rfl]
    show 0 * _ ≤ n
    omega
  · obtain ⟨m', P', hP', hl, hx, hy⟩ : ∃ m' P' : Nat, (P' : Int) = e + m' + 1074 ∧ den.log2 + 1 ≤ P' ∧ P' = P + (den.log2 + 1) ∧ m' = m + (den.log2 + 1) := ⟨m + (den.log2 + 1), P + (den.log2 + 1), by omega, by omega, rfl, rfl⟩
    obtain ⟨Z, h1, h2, -⟩ := rr_main s (Nat.pos_of_ne_zero h0) hd hP' hl
    have h3 : Z ≤ n := h2 n hn (by
      subst hx hy
      rw [← pw_split (rfl : P + (den.log2 + 1) = P + (den.log2 + 1)), ← pw_split (rfl : m + (den.log2 + 1) = m + (den.log2 + 1)), ← Nat.mul_assoc, ← Nat.mul_assoc]
      exact Nat.mul_le_mul_right _ h)
    have h4 := hn.lt
    rcases h1 with ⟨c, q, e1, -, e2⟩ | ⟨-, e2⟩
    · rw [e1]
      show c * 2 ^ (q + 1074).toNat ≤ n
      omega
    · omega
theorem rr_ge (s : Bool) {num den n : Nat} {e : Int} {m P : Nat} (hd : 0 < den) (hP : (P : Int) = e + m + 1074) (hn : RP n) (h : n * den * 2 ^ m ≤ num * 2 ^ P) : n ≤ zmD (FP.Core.roundRatio Bf s num den e) := by
  by_cases h0 : num = 0
  · subst h0
    rw [Nat.zero_mul] at h
    have h5 := Nat.le_zero.mp h
    have h6 : n = 0 := by
      rcases Nat.mul_eq_zero.mp h5 with h7 | h7
      · rcases Nat.mul_eq_zero.mp h7 with h8 | h8
        · exact h8
        · omega
      · have := Nat.two_pow_pos m
        omega
    rw [h6]
    exact Nat.zero_le _
  · obtain ⟨m', P', hP', hl, hx, hy⟩ : ∃ m' P' : Nat, (P' : Int) = e + m' + 1074 ∧ den.log2 + 1 ≤ P' ∧ P' = P + (den.log2 + 1) ∧ m' = m + (den.log2 + 1) := ⟨m + (den.log2 + 1), P + (den.log2 + 1), by omega, by omega, rfl, rfl⟩
    obtain ⟨Z, h1, -, h2⟩ := rr_main s (Nat.pos_of_ne_zero h0) hd hP' hl
    have h3 : n ≤ Z := h2 n hn (by
      subst hx hy
      rw [← pw_split (rfl : P + (den.log2 + 1) = P + (den.log2 + 1)), ← pw_split (rfl : m + (den.log2 + 1) = m + (den.log2 + 1)), ← Nat.mul_assoc, ← Nat.mul_assoc]
      exact Nat.mul_le_mul_right _ h)
    have h4 := hn.lt
    rcases h1 with ⟨c, q, e1, -, e2⟩ | ⟨e1, -⟩
    · rw [e1]
      show n ≤ c * 2 ^ (q + 1074).toNat
      omega
    · rw [e1]
      exact Nat.le_of_lt h4
end
section
/-! doubles, pure: bounds of sums, products, quotients -/
def o64 : Nat := 2 ^ 1074
abbrev O64 : Int := (o64 : Int)
theorem o64_pos : 0 < o64 := Nat.two_pow_pos 1074
theorem O64_pos : (0 : Int) < O64 := Int.natCast_pos.mpr o64_pos
theorem rs_le (sg : Bool) {A B : Nat} {e : Int} {m P : Nat} {w V : Int} (hB : 0 < B) (hP : (P : Int) = e + m + 1074) (hA : A * 2 ^ P = w.natAbs) (h1 : sg = true → w ≤ 0) (h2 : sg = false → 0 ≤ w) (hV : RP V.natAbs) (h : w ≤ V * (B * 2 ^ m : Nat)) : zvD (FP.Core.roundRatio Bf sg A B e) ≤ V := by
  have hs := (rr_fits sg (num := A) e hB).2.2
  have hk : (0 : Int) < (B * 2 ^ m : Nat) := Int.natCast_pos.mpr (Nat.mul_pos hB (Nat.two_pow_pos m))
  unfold zvD
  rw [hs]
  by_cases hV0 : 0 ≤ V
  · cases sg with
    | true =>
      rw [if_pos rfl]
      omega
    | false =>
      rw [if_neg (by decide)]
      have hw := h2 rfl
      have := rr_le false (num := A) hB hP hV (by
        rw [hA, Nat.mul_assoc]
        have e1 : ((w.natAbs : Nat) : Int) = w := Int.natAbs_of_nonneg hw
        have e2 : ((V.natAbs * (B * 2 ^ m) : Nat) : Int) = V * (B * 2 ^ m : Nat) := by
          rw [Int.natCast_mul, Int.natAbs_of_nonneg hV0]
        refine Int.ofNat_le.mp ?_
        rw [e1, e2]
        exact h)
      omega
  · have hneg : V * (B * 2 ^ m : Nat) < 0 := Int.mul_neg_of_neg_of_pos (by omega) hk
    cases sg with
    | false =>
      have := h2 rfl
      omega
    | true =>
      rw [if_pos rfl]
      have := rr_ge true (num := A) hB hP hV (by
        rw [hA, Nat.mul_assoc]
        have e1 : ((w.natAbs : Nat) : Int) = -w := by omega
        have e2 : ((V.natAbs * (B * 2 ^ m) : Nat) : Int) = -(V * (B * 2 ^ m : Nat)) := by
          rw [Int.natCast_mul, show ((V.natAbs : Nat) : Int) = -V by omega, Int.neg_mul]
        refine Int.ofNat_le.mp ?_
        rw [e1, e2]
        omega)
      omega
theorem rs_ge (sg : Bool) {A B : Nat} {e : Int} {m P : Nat} {w V : Int} (hB : 0 < B) (hP : (P : Int) = e + m + 1074) (hA : A * 2 ^ P = w.natAbs) (h1 : sg = true → w ≤ 0) (h2 : sg = false → 0 ≤ w) (hV : RP V.natAbs) (h : V * (B * 2 ^ m : Nat) ≤ w) : V ≤ zvD (FP.Core.roundRatio Bf sg A B e) := by
  have hs := (rr_fits sg (num := A) e hB).2.2
  have hk : (0 : Int) < (B * 2 ^ m : Nat) := Int.natCast_pos.mpr (Nat.mul_pos hB (Nat.two_pow_pos m))
  unfold zvD
  rw [hs]
  by_cases hV0 : V ≤ 0
  · cases sg with
    | false =>
      rw [if_neg (by decide)]
      omega
    | true =>
      rw [if_pos rfl]
      have hw := h1 rfl
      have := rr_le true (num := A) hB hP hV (by
        rw [hA, Nat.mul_assoc]
        have e1 : ((w.natAbs : Nat) : Int) = -w := by omega
        have e2 : ((V.natAbs * (B * 2 ^ m) : Nat) : Int) = -(V * (B * 2 ^ m : Nat)) := by
          rw [Int.natCast_mul, show ((V.natAbs : Nat) : Int) = -V by omega, Int.neg_mul]
        refine Int.ofNat_le.mp ?_
        rw [e1, e2]
        omega)
      omega
  · have hpos : 0 < V * (B * 2 ^ m : Nat) := Int.mul_pos (by omega) hk
    cases sg with
    | true =>
      have := h1 rfl
      omega
    | false =>
      rw [if_neg (by decide)]
      have := rr_ge false (num := A) hB hP hV (by
        rw [hA, Nat.mul_assoc]
        have e1 : ((w.natAbs : Nat) : Int) = w := by omega
        have e2 : ((V.natAbs * (B * 2 ^ m) : Nat) : Int) = V * (B * 2 ^ m : Nat) := by
          rw [Int.natCast_mul, show ((V.natAbs : Nat) : Int) = V by omega]
        refine Int.ofNat_le.mp ?_
        rw [e1, e2]
        exact h)
      omega
theorem zvD_fin (s : Bool) (c : Nat) (q : Int) : zvD (.fin s c q) = FP.Core.signed s (c * 2 ^ (q + 1074).toNat) := by cases s <;> rfl
theorem signed_mulN (s : Bool) (c k : Nat) : FP.Core.signed s (c * k) = FP.Core.signed s c * (k : Int) := by
  cases s
  · show ((c * k : Nat) : Int) = (c : Int) * k
    exact Int.natCast_mul c k
  · show -((c * k : Nat) : Int) = -(c : Int) * k
    rw [Int.natCast_mul, Int.neg_mul]
theorem signed_abs (s : Bool) (c : Nat) : (FP.Core.signed s c).natAbs = c := by
  cases s
  · exact Int.natAbs_natCast c
  · show (-(c : Int)).natAbs = c
    omega
/-- the exact sum, in units -/
theorem add_eq {a b : UInt64} (ha : DF a) (hb : DF b) : ∃ (sg : Bool) (A : Nat) (e : Int) (P : Nat), vl (FP.dadd a b) = FP.Core.roundRatio Bf sg A 1 e ∧ (P : Int) = e + (0 : Nat) + 1074 ∧ A * 2 ^ P = (zv a + zv b).natAbs ∧ (sg = true → zv a + zv b ≤ 0) ∧ (sg = false → 0 ≤ zv a + zv b) := by
  obtain ⟨s, c, q, ha⟩ := ha
  obtain ⟨t, d, r, hb⟩ := hb
  have fa := vl_fits a
  have fb := vl_fits b
  rw [ha] at fa
  rw [hb] at fb
  have q1 : -1074 ≤ q := by rw [← bf_qmin]; exact fa.2.1
  have r1 : -1074 ≤ r := by rw [← bf_qmin]; exact fb.2.1
  have hz : zv a + zv b = FP.Core.sumUnits s c q t d r (min q r) * ((2 ^ (min q r + 1074).toNat : Nat) : Int) := by
    unfold zv
    rw [ha, hb, zvD_fin, zvD_fin]
    unfold FP.Core.sumUnits FP.Core.inUnits
    rw [Int.add_mul, ← signed_mulN, ← signed_mulN, Nat.mul_assoc, Nat.mul_assoc, pw_split (show (q - min q r).toNat + (min q r + 1074).toNat = (q + 1074).toNat by omega), pw_split (show (r - min q r).toNat + (min q r + 1074).toNat = (r + 1074).toNat by omega)]
  refine ⟨FP.Core.sumSign s t (FP.Core.sumUnits s c q t d r (min q r)), (FP.Core.sumUnits s c q t d r (min q r)).natAbs, min q r, (min q r + 1074).toNat, ?_, by omega, ?_, ?_, ?_⟩
  · rw [vl_add, ha, hb]
    rfl
  · rw [hz, Int.natAbs_mul, Int.natAbs_natCast]
  · intro h
    rw [hz]
    generalize FP.Core.sumUnits s c q t d r (min q r) = v at h
    unfold FP.Core.sumSign at h
    by_cases h0 : v = 0
    · rw [h0, Int.zero_mul]
      exact Int.le_refl _
    · rw [if_neg h0] at h
      have := of_decide_eq_true h
      exact Int.mul_nonpos_of_nonpos_of_nonneg (by omega) (Int.natCast_nonneg _)
  · intro h
    rw [hz]
    generalize FP.Core.sumUnits s c q t d r (min q r) = v at h
    unfold FP.Core.sumSign at h
    by_cases h0 : v = 0
    · rw [h0, Int.zero_mul]
      exact Int.le_refl _
    · rw [if_neg h0] at h
      have := of_decide_eq_false h
      exact Int.mul_nonneg (by omega) (Int.natCast_nonneg _)
theorem mul_eq {a b : UInt64} (ha : DF a) (hb : DF b) : ∃ (sg : Bool) (A : Nat) (e : Int) (P : Nat), vl (FP.dmul a b) = FP.Core.roundRatio Bf sg A 1 e ∧ (P : Int) = e + (1074 : Nat) + 1074 ∧ A * 2 ^ P = (zv a * zv b).natAbs ∧ (sg = true → zv a * zv b ≤ 0) ∧ (sg = false → 0 ≤ zv a * zv b) := by
  obtain ⟨s, c, q, ha⟩ := ha
  obtain ⟨t, d, r, hb⟩ := hb
  have fa := vl_fits a
  have fb := vl_fits b
  rw [ha] at fa
  rw [hb] at fb
  have q1 : -1074 ≤ q := by rw [← bf_qmin]; exact fa.2.1
  have r1 : -1074 ≤ r := by rw [← bf_qmin]; exact fb.2.1
  have za : zv a = FP.Core.signed s (c * 2 ^ (q + 1074).toNat) := by
    unfold zv
    rw [ha, zvD_fin]
  have zb : zv b = FP.Core.signed t (d * 2 ^ (r + 1074).toNat) := by
    unfold zv
    rw [hb, zvD_fin]
  refine ⟨s != t, c * d, q + r, (q + r + 2148).toNat, ?_, by omega, ?_, ?_, ?_⟩
  · rw [vl_mul, ha, hb]
    rfl
  · rw [za, zb, Int.natAbs_mul, signed_abs, signed_abs, ← pw_split (show (q + 1074).toNat + (r + 1074).toNat = (q + r + 2148).toNat by omega)]
    generalize 2 ^ (q + 1074).toNat = x
    generalize 2 ^ (r + 1074).toNat = y
    ac_rfl
  · intro h
    rw [za, zb]
    generalize c * 2 ^ (q + 1074).toNat = x
    generalize d * 2 ^ (r + 1074).toNat = y
    cases s <;> cases t
    · cases h
    · show (x : Int) * (-(y : Int)) ≤ 0
      rw [Int.mul_neg, ← Int.natCast_mul]
      omega
    · show (-(x : Int)) * (y : Int) ≤ 0
      rw [Int.neg_mul, ← Int.natCast_mul]
      omega
    · cases h
  · intro h
    rw [za, zb]
    generalize c * 2 ^ (q + 1074).toNat = x
    generalize d * 2 ^ (r + 1074).toNat = y
    cases s <;> cases t
    · show 0 ≤ (x : Int) * (y : Int)
      rw [← Int.natCast_mul]
      omega
    · cases h
    · cases h
    · show 0 ≤ (-(x : Int)) * (-(y : Int))
      rw [Int.neg_mul_neg, ← Int.natCast_mul]
      omega
theorem fl_add_le {a b : UInt64} (ha : DF a) (hb : DF b) {V : Int} (hV : RP V.natAbs) (h : zv a + zv b ≤ V) : zv (FP.dadd a b) ≤ V := by
  obtain ⟨sg, A, e, P, h1, h2, h3, h4, h5⟩ := add_eq ha hb
  show zvD (vl (FP.dadd a b)) ≤ V
  rw [h1]
  refine rs_le sg (by decide) h2 h3 h4 h5 hV ?_
  rw [Nat.pow_zero, Nat.mul_one]
  show _ ≤ V * 1
  omega
theorem fl_add_ge {a b : UInt64} (ha : DF a) (hb : DF b) {V : Int} (hV : RP V.natAbs) (h : V ≤ zv a + zv b) : V ≤ zv (FP.dadd a b) := by
  obtain ⟨sg, A, e, P, h1, h2, h3, h4, h5⟩ := add_eq ha hb
  show V ≤ zvD (vl (FP.dadd a b))
  rw [h1]
  refine rs_ge sg (by decide) h2 h3 h4 h5 hV ?_
  rw [Nat.pow_zero, Nat.mul_one]
  show V * 1 ≤ _
  omega
theorem fl_mul_le {a b : UInt64} (ha : DF a) (hb : DF b) {V : Int} (hV : RP V.natAbs) (h : zv a * zv b ≤ V * O64) : zv (FP.dmul a b) ≤ V := by
  obtain ⟨sg, A, e, P, h1, h2, h3, h4, h5⟩ := mul_eq ha hb
  show zvD (vl (FP.dmul a b)) ≤ V
  rw [h1]
  refine rs_le sg (by decide) h2 h3 h4 h5 hV ?_
  rw [Nat.one_mul]
  exact h
theorem fl_mul_ge {a b : UInt64} (ha : DF a) (hb : DF b) {V : Int} (hV : RP V.natAbs) (h : V * O64 ≤ zv a * zv b) : V ≤ zv (FP.dmul a b) := by
  obtain ⟨sg, A, e, P, h1, h2, h3, h4, h5⟩ := mul_eq ha hb
  show V ≤ zvD (vl (FP.dmul a b))
  rw [h1]
  refine rs_ge sg (by decide) h2 h3 h4 h5 hV ?_
  rw [Nat.one_mul]
  exact h
theorem zm_zv {a : UInt64} {n : Nat} (h1 : -(n : Int) ≤ zv a) (h2 : zv a ≤ (n : Int)) : zm a ≤ n := by
  rw [← zv_abs]
  omega
theorem zv_zm {a : UInt64} {n : Nat} (h : zm a ≤ n) : -(n : Int) ≤ zv a ∧ zv a ≤ (n : Int) := by
  rw [← zv_abs] at h
  omega
theorem fl_add_zm {a b : UInt64} (ha : DF a) (hb : DF b) {n : Nat} (hV : RP n) (h : zm a + zm b ≤ n) : zm (FP.dadd a b) ≤ n := by
  obtain ⟨sg, A, e, P, h1, h2, h3, h4, h5⟩ := add_eq ha hb
  show zmD (vl (FP.dadd a b)) ≤ n
  rw [h1]
  refine rr_le sg (by decide) h2 hV ?_
  rw [h3, Nat.pow_zero, Nat.mul_one, Nat.mul_one]
  refine Nat.le_trans (Int.natAbs_add_le _ _) ?_
  rw [zv_abs, zv_abs]
  exact h
theorem fl_mul_zm {a b : UInt64} (ha : DF a) (hb : DF b) {n : Nat} (hV : RP n) (h : zm a * zm b ≤ n * o64) : zm (FP.dmul a b) ≤ n := by
  obtain ⟨sg, A, e, P, h1, h2, h3, h4, h5⟩ := mul_eq ha hb
  show zmD (vl (FP.dmul a b)) ≤ n
  rw [h1]
  refine rr_le sg (by decide) h2 hV ?_
  rw [h3, Int.natAbs_mul, zv_abs, zv_abs, Nat.mul_one]
  exact h
theorem div_eq {a b : UInt64} (ha : DF a) (hb : DF b) (hz : zm b ≠ 0) : ∃ (s t : Bool) (c d : Nat) (q r : Int), vl a = .fin s c q ∧ vl b = .fin t d r ∧ d ≠ 0 ∧ vl (FP.ddiv a b) = FP.Core.roundRatio Bf (s != t) c d (q - r) := by
  obtain ⟨s, c, q, ha⟩ := ha
  obtain ⟨t, d, r, hb⟩ := hb
  have hd := fin_ne0 hb hz
  refine ⟨s, t, c, d, q, r, ha, hb, hd, ?_⟩
  rw [vl_div, ha, hb]
  show (if d = 0 then _ else _) = _
  rw [if_neg hd]
theorem fl_div_zm {a b : UInt64} (ha : DF a) (hb : DF b) (hz : zm b ≠ 0) {n : Nat} (hV : RP n) (h : zm a * o64 ≤ n * zm b) : zm (FP.ddiv a b) ≤ n := by
  obtain ⟨s, t, c, d, q, r, ea, eb, hd, e1⟩ := div_eq ha hb hz
  have fa := vl_fits a
  have fb := vl_fits b
  unfold zm at h
  rw [ea] at fa h
  rw [eb] at fb h
  have q1 : -1074 ≤ q := by rw [← bf_qmin]; exact fa.2.1
  have r1 : -1074 ≤ r := by rw [← bf_qmin]; exact fb.2.1
  show zmD (vl (FP.ddiv a b)) ≤ n
  rw [e1]
  refine rr_le (m := (r + 1074).toNat) (P := (q + 2148).toNat) _ (Nat.pos_of_ne_zero hd) (by omega) hV ?_
  have h2 : c * 2 ^ (q + 1074).toNat * 2 ^ 1074 ≤ n * (d * 2 ^ (r + 1074).toNat) := h
  rw [← pw_split (show (q + 1074).toNat + 1074 = (q + 2148).toNat by omega), ← Nat.mul_assoc, Nat.mul_assoc n]
  exact h2
theorem zv_pos_sg {a : UInt64} {s : Bool} {c : Nat} {q : Int} (e : vl a = .fin s c q) (h : 0 < zv a) : s = false := by
  unfold zv at h
  rw [e, zvD_fin] at h
  cases s with
  | false => rfl
  | true =>
    have : FP.Core.signed true (c * 2 ^ (q + 1074).toNat) = -((c * 2 ^ (q + 1074).toNat : Nat) : Int) := rfl
    rw [this] at h
    omega
theorem fl_div_nonneg {a b : UInt64} (ha : DF a) (hb : DF b) (h1 : 0 < zv a) (h2 : 0 < zv b) : 0 ≤ zv (FP.ddiv a b) := by
  have hz : zm b ≠ 0 := by
    rw [← zv_abs]
    omega
  obtain ⟨s, t, c, d, q, r, ea, eb, hd, e1⟩ := div_eq ha hb hz
  have hs := zv_pos_sg ea h1
  have ht := zv_pos_sg eb h2
  subst hs
  subst ht
  show 0 ≤ zvD (vl (FP.ddiv a b))
  rw [e1]
  have h3 := (rr_fits (false != false) (num := c) (q - r) (Nat.pos_of_ne_zero hd)).2.2
  unfold zvD
  rw [h3]
  exact Int.natCast_nonneg _
end
section
/-! doubles, pure: whole numbers, sizes, powers, comparisons -/
theorem rp_o {n : Nat} (h : n < 2 ^ 53) : RP (n * o64) := rp_i h
theorem rp_I {n : Int} (h1 : -9007199254740991 ≤ n) (h2 : n ≤ 9007199254740991) : RP (n * O64).natAbs := by
  rw [Int.natAbs_mul]
  exact rp_i (by omega)
theorem ofI_eq (i : Int) : ∃ (sg : Bool) (A : Nat) (P : Nat), FP.Core.round Bf (FP.Core.ofInt i) = FP.Core.roundRatio Bf sg A 1 0 ∧ (P : Int) = 0 + (0 : Nat) + 1074 ∧ A * 2 ^ P = (i * O64).natAbs ∧ (sg = true → i * O64 ≤ 0) ∧ (sg = false → 0 ≤ i * O64) := by
  refine ⟨decide (i < 0), i.natAbs, 1074, rfl, by omega, ?_, ?_, ?_⟩
  · rw [Int.natAbs_mul]
    rfl
  · intro h
    have := of_decide_eq_true h
    exact Int.mul_nonpos_of_nonpos_of_nonneg (by omega) (Int.le_of_lt O64_pos)
  · intro h
    have := of_decide_eq_false h
    exact Int.mul_nonneg (by omega) (Int.le_of_lt O64_pos)
theorem ofI_zv {i : Int} (h1 : -9007199254740991 ≤ i) (h2 : i ≤ 9007199254740991) : zvD (FP.Core.round Bf (FP.Core.ofInt i)) = i * O64 := by
  obtain ⟨sg, A, P, e1, e2, e3, e4, e5⟩ := ofI_eq i
  rw [e1]
  have g1 := rs_le sg (B := 1) (by decide) e2 e3 e4 e5 (rp_I h1 h2) (by rw [Nat.pow_zero, Nat.mul_one]; show _ ≤ _ * 1; omega)
  have g2 := rs_ge sg (B := 1) (by decide) e2 e3 e4 e5 (rp_I h1 h2) (by rw [Nat.pow_zero, Nat.mul_one]; show _ * 1 ≤ _; omega)
  omega
theorem zv_i2d (k : Int32) : zv (FP.i2d k) = k.toInt * O64 := by
  show zvD (vl (FP.i2d k)) = _
  rw [vl_i2d]
  have h1 := k.le_toInt
  have h2 := k.toInt_lt
  exact ofI_zv (by omega) (by omega)
theorem nn_i2d (k : Int32) : NN (FP.i2d k) := by
  unfold NN
  rw [vl_i2d]
  exact rd_nan (by intro h; cases h)
theorem nn_l2d (k : Int64) : NN (FP.l2d k) := by
  unfold NN
  rw [vl_l2d]
  exact rd_nan (by intro h; cases h)
theorem df_zv {a : UInt64} (hn : NN a) {n : Nat} (hr : RP n) (h1 : -(n : Int) ≤ zv a) (h2 : zv a ≤ (n : Int)) : DF a := df_of hn (Nat.lt_of_le_of_lt (zm_zv h1 h2) hr.lt)
theorem df_zvI {a : UInt64} (hn : NN a) {lo hi : Int} (l1 : -2147483648 ≤ lo) (l2 : hi ≤ 2147483647) (h1 : lo * O64 ≤ zv a) (h2 : zv a ≤ hi * O64) : DF a := by
  have hp := O64_pos
  have g1 : (-2147483648) * O64 ≤ lo * O64 := Int.mul_le_mul_of_nonneg_right l1 (Int.le_of_lt hp)
  have g2 : hi * O64 ≤ 2147483647 * O64 := Int.mul_le_mul_of_nonneg_right l2 (Int.le_of_lt hp)
  have hO : O64 = (o64 : Int) := rfl
  refine df_zv hn (rp_o (n := 2147483648) (by decide)) ?_ ?_
  · rw [Int.natCast_mul]
    omega
  · rw [Int.natCast_mul]
    omega
/-- between two whole numbers -/
def DB (a : UInt64) (lo hi : Int) : Prop := DF a ∧ lo * O64 ≤ zv a ∧ zv a ≤ hi * O64
theorem DB.weak {a : UInt64} {l h l' h' : Int} (d : DB a l h) (h1 : l' ≤ l) (h2 : h ≤ h') : DB a l' h' :=
  ⟨d.1, Int.le_trans (Int.mul_le_mul_of_nonneg_right h1 (Int.le_of_lt O64_pos)) d.2.1, Int.le_trans d.2.2 (Int.mul_le_mul_of_nonneg_right h2 (Int.le_of_lt O64_pos))⟩
theorem DB.mk' {a : UInt64} {lo hi : Int} (hn : NN a) (hl : -2147483648 ≤ lo) (hh : hi ≤ 2147483647) (h1 : lo * O64 ≤ zv a) (h2 : zv a ≤ hi * O64) : DB a lo hi := ⟨df_zvI hn hl hh h1 h2, h1, h2⟩
theorem db_i2d (k : Int32) : DB (FP.i2d k) k.toInt k.toInt := by
  have h1 := k.le_toInt
  have h2 := k.toInt_lt
  exact DB.mk' (nn_i2d k) (by omega) (by omega) (Int.le_of_eq (zv_i2d k).symm) (Int.le_of_eq (zv_i2d k))
theorem df_i2d (k : Int32) : DF (FP.i2d k) := (db_i2d k).1
theorem fl_add_leI {a b : UInt64} (ha : DF a) (hb : DF b) {n : Int} (n1 : -2147483648 ≤ n) (n2 : n ≤ 2147483647) (h : zv a + zv b ≤ n * O64) : zv (FP.dadd a b) ≤ n * O64 := fl_add_le ha hb (rp_I (by omega) (by omega)) h
theorem fl_add_geI {a b : UInt64} (ha : DF a) (hb : DF b) {n : Int} (n1 : -2147483648 ≤ n) (n2 : n ≤ 2147483647) (h : n * O64 ≤ zv a + zv b) : n * O64 ≤ zv (FP.dadd a b) := fl_add_ge ha hb (rp_I (by omega) (by omega)) h
theorem fl_mul_leI {a b : UInt64} (ha : DF a) (hb : DF b) {n : Int} (n1 : -2147483648 ≤ n) (n2 : n ≤ 2147483647) (h : zv a * zv b ≤ n * O64 * O64) : zv (FP.dmul a b) ≤ n * O64 := fl_mul_le ha hb (rp_I (by omega) (by omega)) h
theorem fl_mul_geI {a b : UInt64} (ha : DF a) (hb : DF b) {n : Int} (n1 : -2147483648 ≤ n) (n2 : n ≤ 2147483647) (h : n * O64 * O64 ≤ zv a * zv b) : n * O64 ≤ zv (FP.dmul a b) := fl_mul_ge ha hb (rp_I (by omega) (by omega)) h
theorem DB.add {a b : UInt64} {l1 h1 l2 h2 : Int} (ha : DB a l1 h1) (hb : DB b l2 h2) (r1 : -2147483648 ≤ l1 + l2) (r2 : l1 + l2 ≤ 2147483647) (r3 : -2147483648 ≤ h1 + h2) (r4 : h1 + h2 ≤ 2147483647) : DB (FP.dadd a b) (l1 + l2) (h1 + h2) := by
  have p1 := ha.2.1
  have p2 := ha.2.2
  have p3 := hb.2.1
  have p4 := hb.2.2
  refine DB.mk' (NN.add ha.1.nn hb.1) r1 r4 (fl_add_geI ha.1 hb.1 r1 r2 ?_) (fl_add_leI ha.1 hb.1 r3 r4 ?_)
  · rw [Int.add_mul]
    omega
  · rw [Int.add_mul]
    omega
theorem DB.neg {a : UInt64} {l h : Int} (d : DB a l h) : DB (FP.dneg a) (-h) (-l) := by
  have p1 := d.2.1
  have p2 := d.2.2
  refine ⟨d.1.neg, ?_, ?_⟩
  · rw [zv_neg, Int.neg_mul]
    omega
  · rw [zv_neg, Int.neg_mul]
    omega
theorem DB.sub {a b : UInt64} {l1 h1 l2 h2 : Int} (ha : DB a l1 h1) (hb : DB b l2 h2) (r1 : -2147483648 ≤ l1 - h2) (r2 : l1 - h2 ≤ 2147483647) (r3 : -2147483648 ≤ h1 - l2) (r4 : h1 - l2 ≤ 2147483647) : DB (FP.dsub a b) (l1 - h2) (h1 - l2) := by
  have h := DB.add ha hb.neg (by omega) (by omega) (by omega) (by omega)
  refine DB.mk' (NN.sub ha.1.nn hb.1) r1 r4 ?_ ?_
  · rw [zv_sub, show l1 - h2 = l1 + -h2 by omega]
    exact h.2.1
  · rw [zv_sub, show h1 - l2 = h1 + -l2 by omega]
    exact h.2.2
theorem abs_mul_le {x y m n : Int} (hx1 : -m ≤ x) (hx2 : x ≤ m) (hy1 : -n ≤ y) (hy2 : y ≤ n) (hm : 0 ≤ m) (hn : 0 ≤ n) : x * y ≤ m * n ∧ -(m * n) ≤ x * y := by
  have e : (x * y).natAbs ≤ (m * n).natAbs := by
    rw [Int.natAbs_mul, Int.natAbs_mul]
    exact Nat.mul_le_mul (by omega) (by omega)
  have h0 : 0 ≤ m * n := Int.mul_nonneg hm hn
  omega
theorem zm_i2d (k : Int32) : zm (FP.i2d k) = k.toInt.natAbs * o64 := by
  rw [← zv_abs, zv_i2d, Int.natAbs_mul]
  rfl
theorem i2d_z {k : Int32} (h : k ≠ 0) : zm (FP.i2d k) ≠ 0 := by
  rw [zm_i2d]
  have h1 : k.toInt ≠ 0 := fun e => h (Int32.toInt_inj.mp (by rw [e]; rfl))
  exact Nat.ne_of_gt (Nat.mul_pos (by omega) o64_pos)
/-- at most n in size -/
def SZ (a : UInt64) (n : Nat) : Prop := DF a ∧ zm a ≤ n * o64
theorem SZ.mk' {a : UInt64} {n : Nat} (hn : NN a) (h : n < 2 ^ 53) (hz : zm a ≤ n * o64) : SZ a n := ⟨df_of hn (Nat.lt_of_le_of_lt hz (rp_i h).lt), hz⟩
theorem SZ.weak {a : UInt64} {m n : Nat} (h : SZ a m) (hmn : m ≤ n) : SZ a n := ⟨h.1, Nat.le_trans h.2 (Nat.mul_le_mul_right _ hmn)⟩
theorem SZ.add {a b : UInt64} {m n : Nat} (ha : SZ a m) (hb : SZ b n) (h : m + n < 2 ^ 53) : SZ (FP.dadd a b) (m + n) := by
  refine SZ.mk' (NN.add ha.1.nn hb.1) h (fl_add_zm ha.1 hb.1 (rp_i h) ?_)
  rw [Nat.add_mul]
  exact Nat.add_le_add ha.2 hb.2
theorem SZ.neg {a : UInt64} {m : Nat} (ha : SZ a m) : SZ (FP.dneg a) m := ⟨ha.1.neg, by rw [zm_neg]; exact ha.2⟩
theorem SZ.sub {a b : UInt64} {m n : Nat} (ha : SZ a m) (hb : SZ b n) (h : m + n < 2 ^ 53) : SZ (FP.dsub a b) (m + n) := by
  have := SZ.add ha hb.neg h
  refine SZ.mk' (NN.sub ha.1.nn hb.1) h ?_
  rw [zm_sub]
  exact this.2
theorem SZ.mul {a b : UInt64} {m n : Nat} (ha : SZ a m) (hb : SZ b n) (h : m * n < 2 ^ 53) : SZ (FP.dmul a b) (m * n) := by
  refine SZ.mk' (NN.mul ha.1 hb.1) h (fl_mul_zm ha.1 hb.1 (rp_i h) ?_)
  refine Nat.le_trans (Nat.mul_le_mul ha.2 hb.2) (Nat.le_of_eq ?_)
  show m * o64 * (n * o64) = m * n * o64 * o64
  generalize o64 = x
  ac_rfl
theorem SZ.div {a b : UInt64} {m n : Nat} (ha : SZ a m) (hb : DF b) (hz : zm b ≠ 0) (h : n < 2 ^ 53) (hm : m * o64 * o64 ≤ n * o64 * zm b) : SZ (FP.ddiv a b) n :=
  SZ.mk' (NN.div ha.1.nn hb hz) h (fl_div_zm ha.1 hb hz (rp_i h) (Nat.le_trans (Nat.mul_le_mul_right _ ha.2) hm))
theorem SZ.divI {a : UInt64} {m n : Nat} {k : Int32} (ha : SZ a m) (hk : k ≠ 0) (hm : m ≤ n * k.toInt.natAbs) (h : n < 2 ^ 53) : SZ (FP.ddiv a (FP.i2d k)) n := by
  refine SZ.div ha (df_i2d k) (i2d_z hk) h ?_
  rw [zm_i2d]
  refine Nat.le_trans (Nat.mul_le_mul_right _ (Nat.mul_le_mul_right _ hm)) (Nat.le_of_eq ?_)
  generalize o64 = x
  ac_rfl
theorem sz_i2d (k : Int32) {n : Nat} (h : k.toInt.natAbs ≤ n) : SZ (FP.i2d k) n := ⟨df_i2d k, by rw [zm_i2d]; exact Nat.mul_le_mul_right _ h⟩
theorem sz_db {a : UInt64} {n : Nat} (h : DB a (-(n : Int)) n) : SZ a n := by
  refine ⟨h.1, zm_zv ?_ ?_⟩
  · have := h.2.1
    rw [Int.natCast_mul]
    rw [Int.neg_mul] at this
    exact this
  · have := h.2.2
    rw [Int.natCast_mul]
    exact this
theorem db_sz {a : UInt64} {n : Nat} (h : SZ a n) : DB a (-(n : Int)) n := by
  obtain ⟨h1, h2⟩ := zv_zm h.2
  rw [Int.natCast_mul] at h1 h2
  refine ⟨h.1, ?_, h2⟩
  rw [Int.neg_mul]
  exact h1
/-- at most 2^j units -/
def PW (a : UInt64) (j : Nat) : Prop := DF a ∧ zm a ≤ 2 ^ j
theorem PW.mk' {a : UInt64} {j : Nat} (hn : NN a) (h : j ≤ 2097) (hz : zm a ≤ 2 ^ j) : PW a j := ⟨df_of hn (Nat.lt_of_le_of_lt hz (rp_pw' h).lt), hz⟩
theorem PW.weak {a : UInt64} {i j : Nat} (h : PW a i) (hij : i ≤ j) : PW a j := ⟨h.1, Nat.le_trans h.2 (Nat.pow_le_pow_right (by decide) hij)⟩
theorem PW.neg {a : UInt64} {j : Nat} (ha : PW a j) : PW (FP.dneg a) j := ⟨ha.1.neg, by rw [zm_neg]; exact ha.2⟩
theorem PW.add {a b : UInt64} {j : Nat} (ha : PW a j) (hb : PW b j) (h : j + 1 ≤ 2097) : PW (FP.dadd a b) (j + 1) := by
  refine PW.mk' (NN.add ha.1.nn hb.1) h (fl_add_zm ha.1 hb.1 (rp_pw' h) ?_)
  have h1 := ha.2
  have h2 := hb.2
  rw [Nat.pow_succ]
  omega
theorem PW.mul {a b : UInt64} {i j k : Nat} (ha : PW a i) (hb : PW b j) (e : i + j = k + 1074) (h : k ≤ 2097) : PW (FP.dmul a b) k := by
  refine PW.mk' (NN.mul ha.1 hb.1) h (fl_mul_zm ha.1 hb.1 (rp_pw' h) ?_)
  refine Nat.le_trans (Nat.mul_le_mul ha.2 hb.2) ?_
  rw [pw_split e, Nat.pow_add]
  exact Nat.le_refl _
theorem PW.divI {a : UInt64} {j : Nat} {k : Int32} (ha : PW a j) (hk : k ≠ 0) (h : j ≤ 2097) : PW (FP.ddiv a (FP.i2d k)) j := by
  refine PW.mk' (NN.div ha.1.nn (df_i2d k) (i2d_z hk)) h (fl_div_zm ha.1 (df_i2d k) (i2d_z hk) (rp_pw' h) ?_)
  rw [zm_i2d]
  have h1 : k.toInt ≠ 0 := fun e => hk (Int32.toInt_inj.mp (by rw [e]; rfl))
  refine Nat.mul_le_mul ha.2 ?_
  exact Nat.le_mul_of_pos_left _ (by omega)
theorem pw_l2d (k : Int64) : PW (FP.l2d k) 1137 := by
  refine PW.mk' (nn_l2d k) (by decide) ?_
  show zmD (vl (FP.l2d k)) ≤ _
  rw [vl_l2d]
  obtain ⟨sg, A, P, e1, e2, e3, e4, e5⟩ := ofI_eq k.toInt
  rw [e1]
  refine rr_le sg (by decide) e2 (rp_pw' (by decide)) ?_
  rw [e3, Int.natAbs_mul, Nat.pow_zero, Nat.mul_one, Nat.mul_one, ← pw_split (show 63 + 1074 = 1137 by omega)]
  have h1 := k.le_toInt
  have h2 := k.toInt_lt
  exact Nat.mul_le_mul (by omega) (Nat.le_refl _)
/-! comparisons -/
theorem cvl_le (u : Option Ordering) : Op.cmpValue u CmpOp.l ≤ 0 ↔ u ≠ some .gt := by
  rcases u with _ | (_ | _ | _) <;> decide
theorem cvl_lt (u : Option Ordering) : Op.cmpValue u CmpOp.l < 0 ↔ (u = some .lt ∨ u = none) := by
  rcases u with _ | (_ | _ | _) <;> decide
theorem cvl_eq (u : Option Ordering) : Op.cmpValue u CmpOp.l = 0 ↔ u = some .eq := by
  rcases u with _ | (_ | _ | _) <;> decide
theorem cvl_gt (u : Option Ordering) : 0 < Op.cmpValue u CmpOp.l ↔ u = some .gt := by
  rcases u with _ | (_ | _ | _) <;> decide
theorem cvg_ge (u : Option Ordering) : 0 ≤ Op.cmpValue u CmpOp.g ↔ u ≠ some .lt := by
  rcases u with _ | (_ | _ | _) <;> decide
theorem cvg_gt (u : Option Ordering) : 0 < Op.cmpValue u CmpOp.g ↔ (u = some .gt ∨ u = none) := by
  rcases u with _ | (_ | _ | _) <;> decide
theorem cmp_lt (a b : Int) : compare a b = .lt ↔ a < b := by
  unfold compare
  show (if a < b then Ordering.lt else if a = b then .eq else .gt) = .lt ↔ _
  split
  · simp_all
  · split <;> simp_all
theorem cmp_eq (a b : Int) : compare a b = .eq ↔ a = b := by
  show (if a < b then Ordering.lt else if a = b then .eq else .gt) = .eq ↔ _
  split
  · rename_i h
    constructor
    · intro q; cases q
    · intro q; omega
  · split <;> simp_all
theorem cmp_gt (a b : Int) : compare a b = .gt ↔ b < a := by
  show (if a < b then Ordering.lt else if a = b then .eq else .gt) = .gt ↔ _
  split
  · rename_i h
    constructor
    · intro q; cases q
    · intro q; omega
  · split
    · rename_i h
      constructor
      · intro q; cases q
      · intro q; omega
    · rename_i h1 h2
      constructor
      · intro q; omega
      · intro q; rfl
theorem cmp_scale {a b : Int} {k : Nat} (hk : 0 < k) : compare (a * (k : Int)) (b * (k : Int)) = compare a b := by
  have hk' : (0 : Int) < k := Int.natCast_pos.mpr hk
  rcases Int.lt_trichotomy a b with h | h | h
  · rw [(cmp_lt a b).mpr h, (cmp_lt _ _).mpr (Int.mul_lt_mul_of_pos_right h hk')]
  · rw [h, (cmp_eq b b).mpr rfl, (cmp_eq _ _).mpr rfl]
  · rw [(cmp_gt a b).mpr h, (cmp_gt _ _).mpr (Int.mul_lt_mul_of_pos_right h hk')]
/-- an infinity's place: beyond every number -/
theorem zmD_lt {d : FP.Core.Datum} {s : Bool} {c : Nat} {q : Int} (h : FP.Core.fits Bf d) (e : d = .fin s c q) : zmD d < 2 ^ 2098 := by
  subst e
  obtain ⟨h1, h2, h3, -⟩ := h
  rw [bf_p] at h1
  rw [bf_qmin] at h2
  rw [bf_qmax] at h3
  exact RP.lt ⟨c, (q + 1074).toNat, h1, by omega, rfl⟩
theorem cmp_zv {x y : UInt64} (hx : NN x) (hy : NN y) : FP.dcmp x y = some (compare (zv x) (zv y)) := by
  show FP.Core.order (vl x) (vl y) = _
  have fx := vl_fits x
  have fy := vl_fits y
  unfold NN at hx hy
  unfold zv
  generalize vl x = d at hx fx
  generalize vl y = g at hy fy
  have hT : (0 : Int) < ((2 ^ 2098 : Nat) : Int) := Int.natCast_pos.mpr (Nat.two_pow_pos _)
  cases d with
  | nan => exact absurd rfl hx
  | inf s =>
    cases g with
    | nan => exact absurd rfl hy
    | inf t =>
      show some (compare (FP.Core.signed s 1) (FP.Core.signed t 1)) = _
      have e : ∀ u : Bool, zvD (.inf u) = FP.Core.signed u 1 * ((2 ^ 2098 : Nat) : Int) := fun u => by
        cases u
        · show ((2 ^ 2098 : Nat) : Int) = 1 * _
          omega
        · show -((2 ^ 2098 : Nat) : Int) = -1 * _
          omega
      rw [e, e, cmp_scale (Nat.two_pow_pos _)]
    | fin t c q =>
      have hl := zmD_lt fy rfl
      show some (compare (FP.Core.signed s 1) 0) = _
      have hb : zvD (.fin t c q) = FP.Core.signed t (c * 2 ^ (q + 1074).toNat) := zvD_fin _ _ _
      have hl' : (c * 2 ^ (q + 1074).toNat) < 2 ^ 2098 := hl
      rw [hb]
      generalize c * 2 ^ (q + 1074).toNat = w at hl'
      have hl2 : (w : Int) < ((2 ^ 2098 : Nat) : Int) := Int.ofNat_lt.mpr hl'
      cases s
      · have g2 : compare (zvD (.inf false)) (FP.Core.signed t w) = .gt := (cmp_gt _ _).mpr (by
          show FP.Core.signed t w < ((2 ^ 2098 : Nat) : Int)
          cases t
          · exact hl2
          · show -(w : Int) < _
            omega)
        rw [g2]
        rfl
      · have g2 : compare (zvD (.inf true)) (FP.Core.signed t w) = .lt := (cmp_lt _ _).mpr (by
          show -((2 ^ 2098 : Nat) : Int) < FP.Core.signed t w
          cases t
          · show _ < (w : Int)
            omega
          · show _ < -(w : Int)
            omega)
        rw [g2]
        rfl
  | fin s c q =>
    cases g with
    | nan => exact absurd rfl hy
    | inf t =>
      have hl := zmD_lt fx rfl
      show some (compare 0 (FP.Core.signed t 1)) = _
      have hb : zvD (.fin s c q) = FP.Core.signed s (c * 2 ^ (q + 1074).toNat) := zvD_fin _ _ _
      have hl' : (c * 2 ^ (q + 1074).toNat) < 2 ^ 2098 := hl
      rw [hb]
      generalize c * 2 ^ (q + 1074).toNat = w at hl'
      have hl2 : (w : Int) < ((2 ^ 2098 : Nat) : Int) := Int.ofNat_lt.mpr hl'
      cases t
      · have g2 : compare (FP.Core.signed s w) (zvD (.inf false)) = .lt := (cmp_lt _ _).mpr (by
          show FP.Core.signed s w < ((2 ^ 2098 : Nat) : Int)
          cases s
          · exact hl2
          · show -(w : Int) < _
            omega)
        rw [g2]
        rfl
      · have g2 : compare (FP.Core.signed s w) (zvD (.inf true)) = .gt := (cmp_gt _ _).mpr (by
          show -((2 ^ 2098 : Nat) : Int) < FP.Core.signed s w
          cases s
          · show _ < (w : Int)
            omega
          · show _ < -(w : Int)
            omega)
        rw [g2]
        rfl
    | fin t d r =>
      have q1 : -1074 ≤ q := by rw [← bf_qmin]; exact fx.2.1
      have r1 : -1074 ≤ r := by rw [← bf_qmin]; exact fy.2.1
      show some (compare (FP.Core.signed s (FP.Core.inUnits c q (min q r))) (FP.Core.signed t (FP.Core.inUnits d r (min q r)))) = _
      rw [zvD_fin, zvD_fin, ← cmp_scale (Nat.two_pow_pos (min q r + 1074).toNat)]
      unfold FP.Core.inUnits
      rw [← signed_mulN, ← signed_mulN, Nat.mul_assoc, Nat.mul_assoc, pw_split (show (q - min q r).toNat + (min q r + 1074).toNat = (q + 1074).toNat by omega), pw_split (show (r - min q r).toNat + (min q r + 1074).toNat = (r + 1074).toNat by omega)]
theorem cmp_nan {x y : UInt64} (h : FP.dcmp x y ≠ none) : NN x ∧ NN y := by
  have e : FP.dcmp x y = FP.Core.order (vl x) (vl y) := rfl
  rw [e] at h
  refine ⟨fun q => h ?_, fun q => h ?_⟩
  · rw [q]
    rfl
  · rw [q]
    cases vl x <;> rfl
theorem cvl_le_zv {x y : UInt64} (hx : NN x) (hy : NN y) : Op.cmpValue (FP.dcmp x y) CmpOp.l ≤ 0 ↔ zv x ≤ zv y := by
  rw [cvl_le, cmp_zv hx hy]
  have h := cmp_gt (zv x) (zv y)
  constructor
  · intro k
    exact Int.not_lt.mp fun q => k (by rw [h.mpr q])
  · intro k q
    have := h.mp (Option.some.inj q)
    omega
theorem cvl_lt_zv {x y : UInt64} (hx : NN x) (hy : NN y) : Op.cmpValue (FP.dcmp x y) CmpOp.l < 0 ↔ zv x < zv y := by
  rw [cvl_lt, cmp_zv hx hy]
  have h := cmp_lt (zv x) (zv y)
  constructor
  · rintro (k | k)
    · exact h.mp (Option.some.inj k)
    · cases k
  · intro k
    exact Or.inl (by rw [h.mpr k])
theorem cvl_eq_zv {x y : UInt64} (hx : NN x) (hy : NN y) : Op.cmpValue (FP.dcmp x y) CmpOp.l = 0 ↔ zv x = zv y := by
  rw [cvl_eq, cmp_zv hx hy]
  have h := cmp_eq (zv x) (zv y)
  constructor
  · intro k
    exact h.mp (Option.some.inj k)
  · intro k
    rw [h.mpr k]
theorem cvl_gt_zv {x y : UInt64} (hx : NN x) (hy : NN y) : 0 < Op.cmpValue (FP.dcmp x y) CmpOp.l ↔ zv y < zv x := by
  rw [cvl_gt, cmp_zv hx hy]
  have h := cmp_gt (zv x) (zv y)
  constructor
  · intro k
    exact h.mp (Option.some.inj k)
  · intro k
    rw [h.mpr k]
theorem cvg_ge_zv {x y : UInt64} (hx : NN x) (hy : NN y) : 0 ≤ Op.cmpValue (FP.dcmp x y) CmpOp.g ↔ zv y ≤ zv x := by
  rw [cvg_ge, cmp_zv hx hy]
  have h := cmp_lt (zv x) (zv y)
  constructor
  · intro k
    exact Int.not_lt.mp fun q => k (by rw [h.mpr q])
  · intro k q
    have := h.mp (Option.some.inj q)
    omega
theorem cvg_gt_zv {x y : UInt64} (hx : NN x) (hy : NN y) : 0 < Op.cmpValue (FP.dcmp x y) CmpOp.g ↔ zv y < zv x := by
  rw [cvg_gt, cmp_zv hx hy]
  have h := cmp_gt (zv x) (zv y)
  constructor
  · rintro (k | k)
    · exact h.mp (Option.some.inj k)
    · cases k
  · intro k
    exact Or.inl (by rw [h.mpr k])
/-- what d2i keeps -/
theorem d2i_zm {a : UInt64} (h : DF a) : (FP.d2i a).toInt = max (-2147483648) (min 2147483647 (FP.Core.signed (sgD (vl a)) (zm a / o64))) := by
  obtain ⟨s, c, q, e⟩ := h
  have f := vl_fits a
  rw [e] at f
  have q1 : -1074 ≤ q := by rw [← bf_qmin]; exact f.2.1
  have e1 : FP.d2i a = FP.Core.toI (vl a) := rfl
  have e2 : FP.Core.truncate s c q = FP.Core.signed s (zm a / o64) := by
    unfold FP.Core.truncate zm
    rw [e]
    show _ = FP.Core.signed s (c * 2 ^ (q + 1074).toNat / 2 ^ 1074)
    congr 1
    by_cases hq : 0 ≤ q
    · rw [show (-q).toNat = 0 by omega, Nat.pow_zero, Nat.div_one, ← pw_split (show q.toNat + 1074 = (q + 1074).toNat by omega), ← Nat.mul_assoc, Nat.mul_div_cancel _ (Nat.two_pow_pos _)]
    · rw [show q.toNat = 0 by omega, Nat.pow_zero, Nat.mul_one, ← pw_split (show (-q).toNat + (q + 1074).toNat = 1074 by omega), Nat.mul_div_mul_right _ _ (Nat.two_pow_pos _)]
  rw [e1, e]
  show (Int32.ofInt (max (-2 ^ 31) (min (2 ^ 31 - 1) (FP.Core.truncate s c q)))).toInt = _
  rw [e2]
  show (Int32.ofInt (max (-2147483648) (min 2147483647 (FP.Core.signed s (zm a / o64))))).toInt = _
  exact Int32.toInt_ofInt_of_le (by omega) (by omega)
end
section
/-! what the functions compute, on bits -/
def s_num (x : UInt64) : Int32 := if 0 < Op.cmpValue (FP.dcmp x (4726483295884279808 : UInt64)) CmpOp.g then 0 else if Op.cmpValue (FP.dcmp x (13949855332739055616 : UInt64)) CmpOp.l < 0 then 0 else 1
theorem s_num_tw (x : UInt64) : (if Op.cmpValue (FP.dcmp x (13949855332739055616 : UInt64)) CmpOp.l < 0 then (0 : Int32) else if 0 < Op.cmpValue (FP.dcmp x (4726483295884279808 : UInt64)) CmpOp.g then 0 else 1) = s_num x := by
  unfold s_num
  split <;> split <;> rfl
def s_size (x : UInt64) : UInt64 := if 0 ≤ Op.cmpValue (FP.dcmp x FP.dconst0) CmpOp.g then x else FP.dneg x
def s_up : Nat → UInt64 → UInt64
  | 0, v => v
  | n + 1, v => s_up n (FP.dmul v (4611686018427387904 : UInt64))
def s_dn : Nat → UInt64 → UInt64
  | 0, v => v
  | n + 1, v => s_dn n (FP.dmul v (4602678819172646912 : UInt64))
def s_scaled (v : UInt64) (k : Int32) : UInt64 := s_dn (-k.toInt).toNat (s_up k.toInt.toNat v)
def s_of (x : UInt64) : UInt64 := FP.dadd (FP.dmul x (4609176140021203710 : UInt64)) (4602678819172646912 : UInt64)
def s_k (x : UInt64) : Int32 := FP.d2i (s_of x) - (if Op.cmpValue (FP.dcmp (FP.i2d (FP.d2i (s_of x))) (s_of x)) CmpOp.l ≤ 0 then 0 else 1)
def s_r (x : UInt64) : UInt64 := FP.dsub x (FP.dmul (FP.i2d (s_k x)) (4604418534313441775 : UInt64))
def s_pl (r : UInt64) : Nat → UInt64 → UInt64
  | 0, v => v
  | n + 1, v => s_pl r n (FP.dadd FP.dconst1 (FP.dmul (FP.ddiv r (FP.i2d (nI (n + 1)))) v))
def s_exp (x : UInt64) : UInt64 := if 0 ≤ Op.cmpValue (FP.dcmp x (13872740517789302784 : UInt64)) CmpOp.g then s_scaled (s_pl (s_r x) 14 FP.dconst1) (s_k x) else FP.dconst0
def s_l1 : Nat → UInt64 × Int32 → UInt64 × Int32
  | 0, q => q
  | n + 1, q => if Op.cmpValue (FP.dcmp q.1 (4609434218613702656 : UInt64)) CmpOp.l < 0 then q else s_l1 n (FP.dmul q.1 (4602678819172646912 : UInt64), q.2 + 1)
def s_l2 : Nat → UInt64 × Int32 → UInt64 × Int32
  | 0, q => q
  | n + 1, q => if 0 ≤ Op.cmpValue (FP.dcmp q.1 (4604930618986332160 : UInt64)) CmpOp.g then q else s_l2 n (FP.dmul q.1 (4611686018427387904 : UInt64), q.2 + (-1))
def s_lm (x : UInt64) : UInt64 × Int32 := s_l2 8 (s_l1 40 (x, 0))
def s_ly (m : UInt64) : UInt64 := FP.ddiv (FP.dsub m FP.dconst1) (FP.dadd m FP.dconst1)
def s_lt (j : Nat) : UInt64 := FP.ddiv FP.dconst1 (FP.i2d (nI (2 * j + 1)))
def s_ls (q : UInt64) : Nat → UInt64 → UInt64
  | 0, v => v
  | n + 1, v => s_ls q n (FP.dadd (s_lt n) (FP.dmul q v))
def s_lv (m : UInt64) (k : Int32) : UInt64 := FP.dadd (FP.dmul (FP.dmul (4611686018427387904 : UInt64) (s_ly m)) (s_ls (FP.dmul (s_ly m) (s_ly m)) 14 FP.dconst0)) (FP.dmul (FP.i2d k) (4604418534313441775 : UInt64))
def s_log (x : UInt64) : UInt64 := s_lv (s_lm x).1 (s_lm x).2
def s_q1 : Nat → UInt64 × Int32 → UInt64 × Int32
  | 0, q => q
  | n + 1, q => if Op.cmpValue (FP.dcmp q.1 (4616189618054758400 : UInt64)) CmpOp.l < 0 then q else s_q1 n (FP.dmul q.1 (4598175219545276416 : UInt64), q.2 + 1)
def s_q2 : Nat → UInt64 × Int32 → UInt64 × Int32
  | 0, q => q
  | n + 1, q => if 0 ≤ Op.cmpValue (FP.dcmp q.1 FP.dconst1) CmpOp.g then q else s_q2 n (FP.dmul q.1 (4616189618054758400 : UInt64), q.2 + (-1))
def s_qm (x : UInt64) : UInt64 × Int32 := s_q2 8 (s_q1 40 (x, 0))
def s_qr (m : UInt64) : Nat → UInt64 → UInt64
  | 0, v => v
  | n + 1, v => s_qr m n (FP.dmul (FP.dadd v (FP.ddiv m v)) (4602678819172646912 : UInt64))
def s_q0 (m : UInt64) : UInt64 := FP.dadd (FP.dmul m (4602678819172646912 : UInt64)) (4602678819172646912 : UInt64)
def s_root (x : UInt64) : UInt64 := if Op.cmpValue (FP.dcmp x FP.dconst0) CmpOp.l = 0 then FP.dconst0 else s_scaled (s_qr (s_qm x).1 6 (s_q0 (s_qm x).1)) (s_qm x).2
def s_nt (q : UInt64) (n : Nat) (t : UInt64) : UInt64 := FP.ddiv (FP.dmul (FP.dneg t) q) (FP.i2d (nI (n + 1)))
def s_nl (q : UInt64) : Nat → Nat → UInt64 → UInt64 → UInt64
  | 0, _, _, v => v
  | f + 1, n, t, v => s_nl q f (n + 1) (s_nt q n t) (FP.dadd v (FP.ddiv (s_nt q n t) (FP.i2d (nI (2 * n + 3)))))
def s_near (a : UInt64) : UInt64 := FP.dmul (s_nl (FP.dmul a a) 60 0 a a) (4607760587169110893 : UInt64)
def s_fl (a : UInt64) : Nat → UInt64 → UInt64
  | 0, c => c
  | n + 1, c => s_fl a n (FP.ddiv (FP.dmul (FP.i2d (nI (n + 1))) (4602678819172646912 : UInt64)) (FP.dadd a c))
def s_far (a : UInt64) : UInt64 := FP.dsub FP.dconst1 (FP.ddiv (FP.dmul (s_exp (FP.dmul (FP.dneg a) a)) (4603256987541740397 : UInt64)) (FP.dadd a (s_fl a 40 FP.dconst0)))
def s_errv (a : UInt64) : UInt64 := if Op.cmpValue (FP.dcmp a (4618441417868443648 : UInt64)) CmpOp.l < 0 then (if 0 ≤ Op.cmpValue (FP.dcmp a (4612811918334230528 : UInt64)) CmpOp.g then s_far a else s_near a) else FP.dconst1
def s_err (x : UInt64) : UInt64 := if 0 ≤ Op.cmpValue (FP.dcmp x FP.dconst0) CmpOp.g then s_errv (s_size x) else FP.dneg (s_errv (s_size x))
def s_nh (h : Int64) : Int64 := h * 6364136223846793005 + 1442695040888963407
def s_nu (h : Int64) : Int64 := (h.toUInt64 >>> ((11 : Int32).toInt64.toUInt64 &&& Int64.toUInt64 63)).toInt64
def s_ns (k : Nat) (h : Int64) (v : UInt64) : UInt64 := if k < 3 then v else FP.dadd v (FP.dmul (FP.l2d (s_nu h)) (4368491638549381120 : UInt64))
def s_nm : Nat → Nat → Int64 → UInt64 → UInt64
  | 0, _, _, v => v
  | f + 1, k, h, v => s_nm f (k + 1) (s_nh h) (s_ns k (s_nh h) v)
def s_n0 (sd : Int64) (b : Int32) (t : Int64) (u : Int32) : Int64 := sd + b.toInt64 * (-7046029254386353131) + t * (-4658895280553007687) + u.toInt64 * (-7723592293110705685)
def s_normal (sd : Int64) (b : Int32) (t : Int64) (u : Int32) : UInt64 := FP.dsub (s_nm 15 0 (s_n0 sd b t u) FP.dconst0) (4618441417868443648 : UInt64)
def s_cE (x : UInt64) : Int32 := if s_num x = 0 then 5 else if Op.cmpValue (FP.dcmp x (4649368480934526976 : UInt64)) CmpOp.l ≤ 0 then 0 else 1
def s_cL (x : UInt64) : Int32 := if s_num x = 0 then 5 else if 0 ≤ Op.cmpValue (FP.dcmp x FP.dconst0) CmpOp.g then (if Op.cmpValue (FP.dcmp x FP.dconst0) CmpOp.l = 0 then 2 else 0) else 3
def s_cR (x : UInt64) : Int32 := if s_num x = 0 then 5 else if 0 ≤ Op.cmpValue (FP.dcmp x FP.dconst0) CmpOp.g then 0 else 3
def s_cX (x : UInt64) : Int32 := if s_num x = 0 then 5 else 0
def fl (u : Option Nat) : Int32 := match u with
  | none => 0
  | some _ => 1
def tE (j : Nat) : UInt64 := if j < 15 then FP.i2d (nI j) else 0
def tL (j : Nat) : UInt64 := if j < 14 then s_lt j else 0
def tX (j : Nat) : UInt64 := if j < 120 then (if j % 2 = 0 then FP.i2d (nI (j / 2 + 1)) else FP.i2d (nI (j + 2))) else 0
end
section
/-! exp: no NaN, and a number -/
theorem nn_c (x : UInt64) (h : decide (vl x = .nan) = false) : NN x := of_decide_eq_false h
theorem df_c (x : UInt64) (h : decide (vl x ≠ .nan ∧ zm x < 2 ^ 2098) = true) : DF x := df_of (of_decide_eq_true h).1 (of_decide_eq_true h).2

theorem zv_FAR : zv (4726483295884279808 : UInt64) = 100000000 * O64 := by decide +kernel
theorem zv_nFAR : zv (13949855332739055616 : UInt64) = (-100000000) * O64 := by decide +kernel
theorem zv_c700 : zv (4649368480934526976 : UInt64) = 700 * O64 := by decide +kernel
theorem zv_n700 : zv (13872740517789302784 : UInt64) = (-700) * O64 := by decide +kernel
theorem zv_six : zv (4618441417868443648 : UInt64) = 6 * O64 := by decide +kernel
theorem zv_two : zv (4611686018427387904 : UInt64) = 2 * O64 := by decide +kernel
theorem zv_four : zv (4616189618054758400 : UInt64) = 4 * O64 := by decide +kernel
theorem zv_0 : zv FP.dconst0 = 0 := by decide +kernel
theorem zv_1 : zv FP.dconst1 = O64 := by decide +kernel
theorem zv_half : 2 * zv (4602678819172646912 : UInt64) = O64 := by decide +kernel
theorem df_0 : DF FP.dconst0 := df_c _ (by decide +kernel)
theorem df_1 : DF FP.dconst1 := df_c _ (by decide +kernel)
theorem db_half : DB (4602678819172646912 : UInt64) 0 1 := ⟨df_c _ (by decide +kernel), by decide +kernel, by decide +kernel⟩
theorem num_facts {x : UInt64} (h : s_num x ≠ 0) : DB x (-100000000) 100000000 := by
  unfold s_num at h
  split at h
  · exact absurd rfl h
  · rename_i c1
    split at h
    · exact absurd rfl h
    · rename_i c2
      have hF : NN (4726483295884279808 : UInt64) := nn_c _ (by decide +kernel)
      have hG : NN (13949855332739055616 : UInt64) := nn_c _ (by decide +kernel)
      have hn : NN x := (cmp_nan (x := x) (y := (4726483295884279808 : UInt64)) (fun e => c1 ((cvg_gt _).mpr (Or.inr e)))).1
      rw [cvg_gt_zv hn hF, zv_FAR] at c1
      rw [cvl_lt_zv hn hG, zv_nFAR] at c2
      exact DB.mk' hn (by decide) (by decide) (by omega) (by omega)
/-! exp -/
theorem k_L1 : 14000 * (O64 * O64) ≤ 10000 * (O64 * zv (4609176140021203710 : UInt64)) := by decide +kernel
theorem k_L2 : 10000 * zv (4609176140021203710 : UInt64) ≤ 14430 * O64 := by decide +kernel
theorem k_L0 : 0 < zv (4609176140021203710 : UInt64) := by decide +kernel
theorem k_W : 0 < zv (4604418534313441775 : UInt64) ∧ zv (4604418534313441775 : UInt64) ≤ O64 := by decide +kernel
theorem k_D : -(O64 * O64) ≤ 1000000 * (zv (4604418534313441775 : UInt64) * zv (4609176140021203710 : UInt64) - O64 * O64) ∧ 1000000 * (zv (4604418534313441775 : UInt64) * zv (4609176140021203710 : UInt64) - O64 * O64) ≤ O64 * O64 := by decide +kernel
theorem df_L : DF (4609176140021203710 : UInt64) := df_c _ (by decide +kernel)
theorem df_W : DF (4604418534313441775 : UInt64) := df_c _ (by decide +kernel)
/-- what is cut off -/
theorem d2i_cut {a : UInt64} (h : DB a (-1000000) 1000000) : ((FP.d2i a).toInt - 1) * O64 < zv a ∧ zv a < ((FP.d2i a).toInt + 1) * O64 ∧ -1000000 ≤ (FP.d2i a).toInt ∧ (FP.d2i a).toInt ≤ 1000000 := by
  have hn := h.1.nn
  have e := d2i_zm h.1
  have hp : 0 < o64 := o64_pos
  have hz : zv a = FP.Core.signed (sgD (vl a)) (zm a) := by
    unfold zv zvD zm
    cases sgD (vl a) <;> rfl
  have h1 := h.2.1
  have h2 := h.2.2
  have eO : O64 = (o64 : Int) := rfl
  have hm : zm a ≤ 1000000 * o64 := zm_zv (n := 1000000 * o64) (by rw [Int.natCast_mul]; omega) (by rw [Int.natCast_mul]; omega)
  have hd : zm a / o64 ≤ 1000000 := by
    refine Nat.div_le_of_le_mul ?_
    rw [Nat.mul_comm]
    exact hm
  have hq := Nat.div_add_mod (zm a) o64
  have hr := Nat.mod_lt (zm a) hp
  generalize zm a / o64 = q at hd hq e
  rw [hz]
  have hcast : (zm a : Int) = (q : Int) * O64 + ((zm a % o64 : Nat) : Int) := by
    have : ((o64 * q + zm a % o64 : Nat) : Int) = ((zm a : Nat) : Int) := by rw [hq]
    rw [Int.natCast_add, Int.natCast_mul] at this
    rw [Int.mul_comm (q : Int), eO]
    omega
  have hr2 : ((zm a % o64 : Nat) : Int) < O64 := by rw [eO]; exact Int.ofNat_lt.mpr hr
  have hr3 : (0 : Int) ≤ ((zm a % o64 : Nat) : Int) := Int.natCast_nonneg _
  clear hz
  generalize sgD (vl a) = sg at e ⊢
  cases sg with
  | false =>
    have e1 : FP.Core.signed false q = (q : Int) := rfl
    have e2 : FP.Core.signed false (zm a) = (zm a : Int) := rfl
    rw [e1] at e
    rw [e2]
    have e3 : (FP.d2i a).toInt = (q : Int) := by rw [e]; omega
    rw [e3, Int.sub_mul, Int.add_mul, Int.one_mul]
    omega
  | true =>
    have e1 : FP.Core.signed true q = -(q : Int) := rfl
    have e2 : FP.Core.signed true (zm a) = -(zm a : Int) := rfl
    rw [e1] at e
    rw [e2]
    have e3 : (FP.d2i a).toInt = -(q : Int) := by rw [e]; omega
    rw [e3, Int.sub_mul, Int.add_mul, Int.one_mul, Int.neg_mul]
    omega
theorem s_k_floor {x : UInt64} (h : DB (s_of x) (-1011) 1012) : (s_k x).toInt * O64 ≤ zv (s_of x) ∧ zv (s_of x) < ((s_k x).toInt + 1) * O64 ∧ -1012 ≤ (s_k x).toInt ∧ (s_k x).toInt ≤ 1012 := by
  obtain ⟨h1, h2, h3, h4⟩ := d2i_cut (h.weak (by decide) (by decide))
  have hi : zv (FP.i2d (FP.d2i (s_of x))) = (FP.d2i (s_of x)).toInt * O64 := zv_i2d _
  have hp := O64_pos
  have b1 := h.2.1
  have b2 := h.2.2
  have hc := cvl_le_zv (nn_i2d (FP.d2i (s_of x))) h.1.nn
  unfold s_k
  generalize FP.d2i (s_of x) = k0 at *
  rw [hi] at hc
  by_cases c : Op.cmpValue (FP.dcmp (FP.i2d k0) (s_of x)) CmpOp.l ≤ 0
  · rw [if_pos c, Int32.sub_zero]
    have c2 := hc.mp c
    refine ⟨c2, h2, ?_, ?_⟩
    · refine Int.not_lt.mp fun q => ?_
      have : (k0.toInt + 1) * O64 ≤ (-1012) * O64 := Int.mul_le_mul_of_nonneg_right (by omega) (Int.le_of_lt hp)
      omega
    · refine Int.not_lt.mp fun q => ?_
      have : 1013 * O64 ≤ k0.toInt * O64 := Int.mul_le_mul_of_nonneg_right (by omega) (Int.le_of_lt hp)
      omega
  · rw [if_neg c]
    have c2 : ¬ k0.toInt * O64 ≤ zv (s_of x) := fun q => c (hc.mpr q)
    have e : (k0 - 1).toInt = k0.toInt - 1 := by
      rw [Int32.toInt_sub]
      have : (1 : Int32).toInt = 1 := rfl
      rw [this]
      exact Int.bmod_eq_of_le (by omega) (by omega)
    rw [e]
    refine ⟨Int.le_of_lt h1, by rw [Int.sub_add_cancel]; omega, ?_, ?_⟩
    · refine Int.not_lt.mp fun q => ?_
      have : k0.toInt * O64 ≤ (-1011) * O64 := Int.mul_le_mul_of_nonneg_right (by omega) (Int.le_of_lt hp)
      omega
    · refine Int.not_lt.mp fun q => ?_
      have : 1013 * O64 ≤ (k0.toInt - 1) * O64 := Int.mul_le_mul_of_nonneg_right (by omega) (Int.le_of_lt hp)
      omega
theorem exp_of {x : UInt64} (hx : DB x (-700) 700) : DB (FP.dmul x (4609176140021203710 : UInt64)) (-1011) 1011 ∧ DB (s_of x) (-1011) 1012 := by
  have hp := O64_pos
  have x1 := hx.2.1
  have x2 := hx.2.2
  have L0 := k_L0
  have L2 := k_L2
  have hM : (0 : Int) ≤ 700 * O64 := by omega
  obtain ⟨e1, e2⟩ := abs_mul_le (x := zv x) (y := zv (4609176140021203710 : UInt64)) (m := 700 * O64) (n := zv (4609176140021203710 : UInt64)) (by omega) (by omega) (by omega) (by omega) hM (by omega)
  have e3 : 700 * O64 * zv (4609176140021203710 : UInt64) ≤ 1011 * O64 * O64 := by
    have h1 : O64 * (10000 * zv (4609176140021203710 : UInt64)) ≤ O64 * (14430 * O64) := Int.mul_le_mul_of_nonneg_left L2 (Int.le_of_lt hp)
    have h2 : O64 * (10000 * zv (4609176140021203710 : UInt64)) = 10000 * (O64 * zv (4609176140021203710 : UInt64)) := by rw [Int.mul_left_comm]
    have h3 : O64 * (14430 * O64) = 14430 * (O64 * O64) := by rw [Int.mul_left_comm]
    have h4 : 700 * O64 * zv (4609176140021203710 : UInt64) = 700 * (O64 * zv (4609176140021203710 : UInt64)) := Int.mul_assoc _ _ _
    have h5 : 1011 * O64 * O64 = 1011 * (O64 * O64) := Int.mul_assoc _ _ _
    have h6 : 0 ≤ O64 * O64 := Int.mul_nonneg (Int.le_of_lt hp) (Int.le_of_lt hp)
    rw [h2, h3] at h1
    rw [h4, h5]
    omega
  have ht : DB (FP.dmul x (4609176140021203710 : UInt64)) (-1011) 1011 := by
    refine DB.mk' (NN.mul hx.1 df_L) (by decide) (by decide) (fl_mul_geI hx.1 df_L (by decide) (by decide) ?_) (fl_mul_leI hx.1 df_L (by decide) (by decide) ?_)
    · rw [Int.neg_mul, Int.neg_mul]
      omega
    · omega
  refine ⟨ht, ?_⟩
  have h := DB.add ht db_half (by decide) (by decide) (by decide) (by decide)
  exact h
theorem exp_w {k : Int32} (h1 : -1012 ≤ k.toInt) (h2 : k.toInt ≤ 1012) : DF (FP.dmul (FP.i2d k) (4604418534313441775 : UInt64)) ∧ k.toInt * zv (4604418534313441775 : UInt64) - O64 ≤ zv (FP.dmul (FP.i2d k) (4604418534313441775 : UInt64)) ∧ zv (FP.dmul (FP.i2d k) (4604418534313441775 : UInt64)) ≤ k.toInt * zv (4604418534313441775 : UInt64) + O64 := by
  have hp := O64_pos
  have hi : zv (FP.i2d k) = k.toInt * O64 := zv_i2d k
  obtain ⟨w0, w1⟩ := k_W
  generalize hW : zv (4604418534313441775 : UInt64) = W at w0 w1 ⊢
  obtain ⟨b1, b2⟩ := abs_mul_le (x := k.toInt) (y := W) (m := 1012) (n := O64) h1 h2 (by omega) w1 (by decide) (Int.le_of_lt hp)
  have hdm := Int.mul_ediv_add_emod (k.toInt * W) O64
  have hr0 := Int.emod_nonneg (k.toInt * W) (Int.ne_of_gt hp)
  have hr1 := Int.emod_lt_of_pos (k.toInt * W) hp
  generalize hq : k.toInt * W / O64 = q at hdm
  rw [Int.mul_comm O64 q] at hdm
  have q1 : -1013 ≤ q := by
    refine Int.not_lt.mp fun z => ?_
    have : q * O64 ≤ (-1014) * O64 := Int.mul_le_mul_of_nonneg_right (by omega) (Int.le_of_lt hp)
    omega
  have q2 : q ≤ 1012 := by
    refine Int.not_lt.mp fun z => ?_
    have : 1013 * O64 ≤ q * O64 := Int.mul_le_mul_of_nonneg_right (by omega) (Int.le_of_lt hp)
    omega
  have e1 : zv (FP.i2d k) * zv (4604418534313441775 : UInt64) = k.toInt * W * O64 := by
    rw [hi, hW, Int.mul_assoc, Int.mul_comm O64, ← Int.mul_assoc]
  have g1 := fl_mul_geI (df_i2d k) df_W (n := q) (by omega) (by omega) (by
    rw [e1]
    exact Int.mul_le_mul_of_nonneg_right (by omega) (Int.le_of_lt hp))
  have g2 := fl_mul_leI (df_i2d k) df_W (n := q + 1) (by omega) (by omega) (by
    rw [e1]
    refine Int.mul_le_mul_of_nonneg_right ?_ (Int.le_of_lt hp)
    rw [Int.add_mul, Int.one_mul]
    omega)
  have g3 := DB.mk' (lo := q) (hi := q + 1) (NN.mul (df_i2d k) df_W) (by omega) (by omega) g1 g2
  rw [Int.add_mul, Int.one_mul] at g2
  exact ⟨g3.1, by omega, by omega⟩
theorem exp_core {X L W S k : Int} (hO : 0 < O64) (hS : O64 * O64 = S) (hk1 : -1012 ≤ k) (hk2 : k ≤ 1012) (hL0 : 0 < L) (hL1 : 14000 * S ≤ 10000 * (O64 * L)) (hD1 : -S ≤ 1000000 * (W * L - S)) (hD2 : 1000000 * (W * L - S) ≤ S) (h1 : X * L < (k + 1) * S) (h2 : (k - 2) * S < X * L) : -(2 * O64) ≤ X - k * W ∧ X - k * W ≤ O64 := by
  have hS0 : 0 < S := by rw [← hS]; exact Int.mul_pos hO hO
  obtain ⟨b1, b2⟩ := abs_mul_le (x := k) (y := 1000000 * (W * L - S)) (m := 1012) (n := S) hk1 hk2 hD1 hD2 (by decide) (Int.le_of_lt hS0)
  have e0 : k * (1000000 * (W * L - S)) = 1000000 * (k * W * L) - 1000000 * (k * S) := by
    rw [Int.mul_left_comm, Int.mul_sub, Int.mul_sub, Int.mul_assoc k W L]
  rw [e0] at b1 b2
  rw [Int.add_mul, Int.one_mul] at h1
  rw [Int.sub_mul] at h2
  constructor
  · refine Int.not_lt.mp fun z => ?_
    have z1 : X ≤ k * W - 2 * O64 := by omega
    have z2 : X * L ≤ (k * W - 2 * O64) * L := Int.mul_le_mul_of_nonneg_right z1 (Int.le_of_lt hL0)
    rw [Int.sub_mul, Int.mul_assoc 2 O64 L] at z2
    omega
  · refine Int.not_lt.mp fun z => ?_
    have z1 : k * W + O64 ≤ X := by omega
    have z2 : (k * W + O64) * L ≤ X * L := Int.mul_le_mul_of_nonneg_right z1 (Int.le_of_lt hL0)
    rw [Int.add_mul] at z2
    omega
/-- all that is reckoned ahead of exp's sum -/
theorem exp_facts {x : UInt64} (hn : NN x) (h1 : Op.cmpValue (FP.dcmp x (4649368480934526976 : UInt64)) CmpOp.l ≤ 0) (h2 : 0 ≤ Op.cmpValue (FP.dcmp x (13872740517789302784 : UInt64)) CmpOp.g) :
    DF (FP.dmul x (4609176140021203710 : UInt64)) ∧ DF (s_of x) ∧ DF (FP.dmul (FP.i2d (s_k x)) (4604418534313441775 : UInt64)) ∧ SZ (s_r x) 3 ∧ (s_k x).toInt ≤ 1012 := by
  rw [cvl_le_zv hn (nn_c _ (by decide +kernel)), zv_c700] at h1
  rw [cvg_ge_zv hn (nn_c _ (by decide +kernel)), zv_n700] at h2
  have hx : DB x (-700) 700 := DB.mk' hn (by decide) (by decide) h2 h1
  obtain ⟨ht, hof⟩ := exp_of hx
  obtain ⟨k1, k2, k3, k4⟩ := s_k_floor hof
  obtain ⟨hw, w1, w2⟩ := exp_w k3 k4
  have hp := O64_pos
  have hh := zv_half
  have hmk : ∀ n : Int, (n + 1) * O64 = n * O64 + O64 := fun n => by rw [Int.add_mul, Int.one_mul]
  have hmk2 : ∀ n : Int, (n - 2) * O64 = n * O64 - 2 * O64 := fun n => by rw [Int.sub_mul]
  have hmk1 : ∀ n : Int, (n - 1) * O64 = n * O64 - O64 := fun n => by rw [Int.sub_mul, Int.one_mul]
  -- t below k + 1
  have t1 : zv (FP.dmul x (4609176140021203710 : UInt64)) < ((s_k x).toInt + 1) * O64 := by
    refine Int.not_le.mp fun q => ?_
    have := fl_add_geI ht.1 db_half.1 (n := (s_k x).toInt + 1) (by omega) (by omega) (by omega)
    have e : zv (s_of x) = zv (FP.dadd (FP.dmul x (4609176140021203710 : UInt64)) (4602678819172646912 : UInt64)) := rfl
    omega
  have t2 : ((s_k x).toInt - 2) * O64 < zv (FP.dmul x (4609176140021203710 : UInt64)) := by
    refine Int.not_le.mp fun q => ?_
    have := fl_add_leI ht.1 db_half.1 (n := (s_k x).toInt - 1) (by omega) (by omega) (by rw [hmk1]; rw [hmk2] at q; omega)
    have e : zv (s_of x) = zv (FP.dadd (FP.dmul x (4609176140021203710 : UInt64)) (4602678819172646912 : UInt64)) := rfl
    rw [hmk1] at this
    omega
  have x1 : zv x * zv (4609176140021203710 : UInt64) < ((s_k x).toInt + 1) * (O64 * O64) := by
    refine Int.not_le.mp fun q => ?_
    have := fl_mul_geI hx.1 df_L (n := (s_k x).toInt + 1) (by omega) (by omega) (by rw [Int.mul_assoc]; exact q)
    omega
  have x2 : ((s_k x).toInt - 2) * (O64 * O64) < zv x * zv (4609176140021203710 : UInt64) := by
    refine Int.not_le.mp fun q => ?_
    have := fl_mul_leI hx.1 df_L (n := (s_k x).toInt - 2) (by omega) (by omega) (by rw [Int.mul_assoc]; exact q)
    omega
  obtain ⟨c1, c2⟩ := exp_core hp rfl k3 k4 k_L0 k_L1 k_D.1 k_D.2 x1 x2
  have hr : DB (s_r x) (-3) 3 := by
    refine DB.mk' (NN.sub hx.1.nn hw) (by decide) (by decide) ?_ ?_
    · rw [show zv (s_r x) = zv (FP.dadd x (FP.dneg (FP.dmul (FP.i2d (s_k x)) (4604418534313441775 : UInt64)))) from zv_sub _ _]
      refine fl_add_geI hx.1 hw.neg (by decide) (by decide) ?_
      rw [zv_neg]
      omega
    · rw [show zv (s_r x) = zv (FP.dadd x (FP.dneg (FP.dmul (FP.i2d (s_k x)) (4604418534313441775 : UInt64)))) from zv_sub _ _]
      refine fl_add_leI hx.1 hw.neg (by decide) (by decide) ?_
      rw [zv_neg]
      omega
  exact ⟨ht.1, hof.1, hw, sz_db (n := 3) hr, k4⟩
def pb (n : Nat) : Nat := if 2 ≤ n then 15 - n else if n = 1 then 27 else 82
theorem sz_1 : SZ FP.dconst1 1 := ⟨df_1, by decide +kernel⟩
theorem nI_abs {n : Nat} (h : n < 2 ^ 31) : (nI n).toInt.natAbs = n := by rw [nI_toInt h]; rfl
theorem nI_nz {n : Nat} (h0 : 0 < n) (h : n < 2 ^ 31) : nI n ≠ 0 := nI_ne0 h0 h
/-- a step of exp's sum -/
theorem exp_step {r v : UInt64} {n : Nat} (hn : n + 1 ≤ 14) (hr : SZ r 3) (hv : SZ v (pb (n + 1))) : DF (FP.ddiv r (FP.i2d (nI (n + 1)))) ∧ DF (FP.dmul (FP.ddiv r (FP.i2d (nI (n + 1)))) v) ∧ SZ (FP.dadd FP.dconst1 (FP.dmul (FP.ddiv r (FP.i2d (nI (n + 1)))) v)) (pb n) := by
  have ha : (nI (n + 1)).toInt.natAbs = n + 1 := nI_abs (by omega)
  have hz : nI (n + 1) ≠ 0 := nI_nz (by omega) (by omega)
  have key : ∃ d : Nat, 3 ≤ d * (n + 1) ∧ d ≤ 3 ∧ 1 + d * pb (n + 1) ≤ pb n := by
    unfold pb
    by_cases h3 : 3 ≤ n + 1
    · refine ⟨1, by omega, by omega, ?_⟩
      rw [if_pos (by omega), if_pos (by omega)]
      omega
    · by_cases h2 : n = 1
      · subst h2
        exact ⟨2, by decide, by decide, by decide⟩
      · have h1 : n = 0 := by omega
        subst h1
        exact ⟨3, by decide, by decide, by decide⟩
  obtain ⟨d, d1, d2, d3⟩ := key
  have hpb : pb n ≤ 82 := by
    unfold pb
    split
    · omega
    · split <;> omega
  have e1 := SZ.divI (n := d) hr hz (by rw [ha]; exact d1) (by omega)
  have e2 := SZ.mul e1 hv (by omega)
  have e3 := SZ.add sz_1 e2 (by omega)
  exact ⟨e1.1, e2.1, e3.weak d3⟩
theorem exp_sum {r : UInt64} (hr : SZ r 3) : ∀ (n : Nat) (v : UInt64), n ≤ 14 → SZ v (pb n) → SZ (s_pl r n v) 82
  | 0, v, _, hv => hv
  | n + 1, v, hn, hv => exp_sum hr n _ (by omega) (exp_step hn hr hv).2.2
theorem z_two : zm (4611686018427387904 : UInt64) ≠ 0 := by decide +kernel
theorem z_half : zm (4602678819172646912 : UInt64) ≠ 0 := by decide +kernel
theorem df_two : DF (4611686018427387904 : UInt64) := df_c _ (by decide +kernel)
theorem df_half : DF (4602678819172646912 : UInt64) := df_c _ (by decide +kernel)
theorem pw_two : PW (4611686018427387904 : UInt64) 1075 := ⟨df_two, by decide +kernel⟩
theorem pw_half : PW (4602678819172646912 : UInt64) 1074 := ⟨df_half, by decide +kernel⟩
theorem nn_dbl {v : UInt64} (h : NN v) : NN (FP.dmul v (4611686018427387904 : UInt64)) := NN.mulz h df_two z_two
theorem nn_hlf {v : UInt64} (h : NN v) : NN (FP.dmul v (4602678819172646912 : UInt64)) := NN.mulz h df_half z_half
theorem nn_up : ∀ (n : Nat) (v : UInt64), NN v → NN (s_up n v)
  | 0, _, h => h
  | n + 1, _, h => nn_up n _ (nn_dbl h)
theorem nn_dn : ∀ (n : Nat) (v : UInt64), NN v → NN (s_dn n v)
  | 0, _, h => h
  | n + 1, _, h => nn_dn n _ (nn_hlf h)
theorem nn_scaled {v : UInt64} (h : NN v) (k : Int32) : NN (s_scaled v k) := nn_dn _ _ (nn_up _ _ h)
theorem pw_up : ∀ (n j : Nat) (v : UInt64), j + n ≤ 2097 → PW v j → PW (s_up n v) (j + n)
  | 0, _, _, _, h => h
  | n + 1, j, v, h2, h => by
    have := pw_up n (j + 1) _ (by omega) (PW.mul h pw_two (by omega) (by omega))
    rw [show j + (n + 1) = j + 1 + n by omega]
    exact this
theorem pw_dn : ∀ (n j : Nat) (v : UInt64), j ≤ 2097 → PW v j → PW (s_dn n v) j
  | 0, _, _, _, h => h
  | n + 1, j, v, h2, h => pw_dn n j _ h2 (PW.mul h pw_half (by omega) (by omega))
theorem o64_pw : 82 * o64 ≤ 2 ^ 1081 := by decide +kernel
/-- exp's value is a number -/
theorem exp_fin {x : UInt64} (hn : NN x) (h1 : Op.cmpValue (FP.dcmp x (4649368480934526976 : UInt64)) CmpOp.l ≤ 0) : DF (s_exp x) := by
  unfold s_exp
  by_cases h2 : 0 ≤ Op.cmpValue (FP.dcmp x (13872740517789302784 : UInt64)) CmpOp.g
  · rw [if_pos h2]
    obtain ⟨-, -, -, hr, hk⟩ := exp_facts hn h1 h2
    have hs := exp_sum hr 14 FP.dconst1 (by omega) sz_1
    have hm : PW (s_pl (s_r x) 14 FP.dconst1) 1081 := ⟨hs.1, Nat.le_trans hs.2 o64_pw⟩
    have m1 := pw_up (s_k x).toInt.toNat 1081 _ (by omega) hm
    exact (pw_dn (-(s_k x).toInt).toNat (1081 + (s_k x).toInt.toNat) _ (by omega) m1).1
  · rw [if_neg h2]
    exact df_0
end
section
/-! log and root: the loops end, no NaN -/
def P2 (j : Nat) : Int := ((2 ^ j : Nat) : Int)
theorem P2_pos (j : Nat) : 0 < P2 j := Int.natCast_pos.mpr (Nat.two_pow_pos j)
theorem P2_le {i j : Nat} (h : i ≤ j) : P2 i ≤ P2 j := Int.ofNat_le.mpr (Nat.pow_le_pow_right (by decide) h)
theorem P2_mul {i j k : Nat} (h : i + j = k) : P2 i * P2 j = P2 k := by
  unfold P2
  rw [← Int.natCast_mul, pw_split h]
theorem P2_succ (j : Nat) : P2 (j + 1) = 2 * P2 j := by
  unfold P2
  rw [Nat.pow_succ, Int.natCast_mul]
  omega
theorem P2_abs (j : Nat) : (P2 j).natAbs = 2 ^ j := Int.natAbs_natCast _
theorem rp_P2 {j : Nat} (h : j ≤ 2097) : RP (P2 j).natAbs := by
  rw [P2_abs]
  exact rp_pw' h
theorem O64_pw : O64 = P2 1074 := rfl
theorem s_l1_s (n : Nat) (m : UInt64) (k : Int32) : s_l1 (n + 1) (m, k) = if Op.cmpValue (FP.dcmp m (4609434218613702656 : UInt64)) CmpOp.l < 0 then (m, k) else s_l1 n (FP.dmul m (4602678819172646912 : UInt64), k + 1) := rfl
theorem s_l2_s (n : Nat) (m : UInt64) (k : Int32) : s_l2 (n + 1) (m, k) = if 0 ≤ Op.cmpValue (FP.dcmp m (4604930618986332160 : UInt64)) CmpOp.g then (m, k) else s_l2 n (FP.dmul m (4611686018427387904 : UInt64), k + (-1)) := rfl
theorem s_q1_s (n : Nat) (m : UInt64) (k : Int32) : s_q1 (n + 1) (m, k) = if Op.cmpValue (FP.dcmp m (4616189618054758400 : UInt64)) CmpOp.l < 0 then (m, k) else s_q1 n (FP.dmul m (4598175219545276416 : UInt64), k + 1) := rfl
theorem s_q2_s (n : Nat) (m : UInt64) (k : Int32) : s_q2 (n + 1) (m, k) = if 0 ≤ Op.cmpValue (FP.dcmp m FP.dconst1) CmpOp.g then (m, k) else s_q2 n (FP.dmul m (4616189618054758400 : UInt64), k + (-1)) := rfl
theorem zv_c0125 : zv (4593671619917905920 : UInt64) = P2 1071 := by decide +kernel
theorem zv_halfP : zv (4602678819172646912 : UInt64) = P2 1073 := by decide +kernel
theorem zv_quart : zv (4598175219545276416 : UInt64) = P2 1072 := by decide +kernel
theorem zv_c15 : 2 * zv (4609434218613702656 : UInt64) = 3 * O64 := by decide +kernel
theorem zv_c075 : 4 * zv (4604930618986332160 : UInt64) = 3 * O64 := by decide +kernel
theorem df_c0125 : DF (4593671619917905920 : UInt64) := df_c _ (by decide +kernel)
theorem df_quart : DF (4598175219545276416 : UInt64) := df_c _ (by decide +kernel)
theorem df_four : DF (4616189618054758400 : UInt64) := df_c _ (by decide +kernel)
theorem nn_c15 : NN (4609434218613702656 : UInt64) := nn_c _ (by decide +kernel)
theorem nn_c075 : NN (4604930618986332160 : UInt64) := nn_c _ (by decide +kernel)
theorem sz_half : SZ (4602678819172646912 : UInt64) 1 := ⟨df_half, by decide +kernel⟩
theorem sz_LN2 : SZ (4604418534313441775 : UInt64) 1 := ⟨df_W, by decide +kernel⟩
theorem sz_two : SZ (4611686018427387904 : UInt64) 2 := ⟨df_two, by decide +kernel⟩
theorem sz_0 : SZ FP.dconst0 0 := ⟨df_0, by decide +kernel⟩
/-- a cell of the script, as a double -/
def XV (x : UInt64) : Prop := ∃ v : Int32, x = FP.dmul (FP.i2d v) (4593671619917905920 : UInt64)
theorem XV.df {x : UInt64} (h : XV x) : DF x := by
  obtain ⟨v, rfl⟩ := h
  have h1 := v.le_toInt
  have h2 := v.toInt_lt
  exact (SZ.mul (sz_i2d v (n := 2147483648) (by omega)) (⟨df_c0125, by decide +kernel⟩ : SZ _ 1) (by decide)).1
theorem XV.pos {x : UInt64} (h : XV x) (h0 : 0 < zv x) : P2 1071 ≤ zv x := by
  obtain ⟨v, rfl⟩ := h
  have hz := zv_i2d v
  have hp := O64_pos
  have hc : (0 : Int) < P2 1071 := P2_pos _
  by_cases hv : 1 ≤ v.toInt
  · refine fl_mul_ge (df_i2d v) df_c0125 (V := P2 1071) (rp_P2 (by omega)) ?_
    rw [hz, zv_c0125]
    generalize P2 1071 = c at hc ⊢
    rw [Int.mul_comm c]
    refine Int.mul_le_mul_of_nonneg_right ?_ (Int.le_of_lt hc)
    have : 1 * O64 ≤ v.toInt * O64 := Int.mul_le_mul_of_nonneg_right hv (Int.le_of_lt hp)
    omega
  · exfalso
    have h1 := fl_mul_le (df_i2d v) df_c0125 (V := 0) ⟨0, 0, by decide, by decide, rfl⟩ (by
      rw [hz, zv_c0125, Int.zero_mul]
      refine Int.mul_nonpos_of_nonpos_of_nonneg ?_ (Int.le_of_lt hc)
      exact Int.mul_nonpos_of_nonpos_of_nonneg (by omega) (Int.le_of_lt hp))
    omega
/-- bounds by halves, by powers of two -/
theorem half_le {m : UInt64} {n : Nat} (h : DF m) (hn : n ≤ 1000) (hm : zv m ≤ P2 (n + 1 + 1074)) : zv (FP.dmul m (4602678819172646912 : UInt64)) ≤ P2 (n + 1074) := by
  refine fl_mul_le h df_half (rp_P2 (by omega)) ?_
  rw [zv_halfP]
  refine Int.le_trans (Int.mul_le_mul_of_nonneg_right hm (Int.le_of_lt (P2_pos _))) (Int.le_of_eq ?_)
  rw [O64_pw, P2_mul (show n + 1 + 1074 + 1073 = n + 1074 + 1074 by omega), P2_mul (rfl : n + 1074 + 1074 = n + 1074 + 1074)]
theorem quart_le {m : UInt64} {n : Nat} (h : DF m) (hn : n ≤ 1000) (hm : zv m ≤ P2 (n + 1 + 1074)) : zv (FP.dmul m (4598175219545276416 : UInt64)) ≤ P2 (n + 1074) := by
  refine fl_mul_le h df_quart (rp_P2 (by omega)) ?_
  rw [zv_quart]
  refine Int.le_trans (Int.mul_le_mul_of_nonneg_right hm (Int.le_of_lt (P2_pos _))) ?_
  rw [O64_pw, P2_mul (rfl : n + 1 + 1074 + 1072 = n + 1 + 1074 + 1072), P2_mul (rfl : n + 1074 + 1074 = n + 1074 + 1074)]
  exact P2_le (by omega)
theorem df_pw {m : UInt64} {j : Nat} (hn : NN m) (hj : j ≤ 2097) (h0 : 0 ≤ zv m) (h : zv m ≤ P2 j) : DF m := by
  have h1 := P2_pos j
  have h2 : zm m ≤ 2 ^ j := by
    rw [← zv_abs, ← P2_abs]
    omega
  exact df_of hn (Nat.lt_of_le_of_lt h2 (rp_pw' hj).lt)
theorem i32_add1 {k : Int32} (h1 : -1000 ≤ k.toInt) (h2 : k.toInt ≤ 1000) : (k + 1).toInt = k.toInt + 1 := by
  rw [Int32.toInt_add]
  have : (1 : Int32).toInt = 1 := rfl
  rw [this]
  exact Int.bmod_eq_of_le (by omega) (by omega)
theorem i32_sub1 {k : Int32} (h1 : -1000 ≤ k.toInt) (h2 : k.toInt ≤ 1000) : (k + (-1)).toInt = k.toInt - 1 := by
  rw [Int32.toInt_add]
  have : (-1 : Int32).toInt = -1 := rfl
  rw [this]
  exact Int.bmod_eq_of_le (by omega) (by omega)
theorem kb_dn {n : Nat} {k : Int32} (k1 : -100 + ((n + 1 : Nat) : Int) ≤ k.toInt) (k2 : k.toInt ≤ 100) : -100 + (n : Int) ≤ (k + (-1)).toInt ∧ (k + (-1)).toInt ≤ 100 := by
  have hk := i32_sub1 (k := k) (by generalize k.toInt = z at *; omega) (by generalize k.toInt = z at *; omega)
  rw [hk]
  generalize k.toInt = z at *
  omega
/-- log's first loop: it ends; what it leaves -/
theorem l1_facts : ∀ (n : Nat) (m : UInt64) (k : Int32), n ≤ 100 → DF m → P2 1071 ≤ zv m → zv m ≤ P2 (n + 1074) → 0 ≤ k.toInt → k.toInt + n ≤ 100 →
    DF (s_l1 n (m, k)).1 ∧ P2 1071 ≤ zv (s_l1 n (m, k)).1 ∧ Op.cmpValue (FP.dcmp (s_l1 n (m, k)).1 (4609434218613702656 : UInt64)) CmpOp.l < 0 ∧ 0 ≤ (s_l1 n (m, k)).2.toInt ∧ (s_l1 n (m, k)).2.toInt ≤ k.toInt + n := by
  intro n
  induction n with
  | zero =>
    intro m k _ hd h1 h2 k1 k2
    refine ⟨hd, h1, ?_, k1, by show k.toInt ≤ _; omega⟩
    show Op.cmpValue (FP.dcmp m (4609434218613702656 : UInt64)) CmpOp.l < 0
    rw [cvl_lt_zv hd.nn nn_c15]
    have := zv_c15
    have hp := O64_pos
    rw [Nat.zero_add, ← O64_pw] at h2
    omega
  | succ n ih =>
    intro m k hn hd h1 h2 k1 k2
    rw [s_l1_s]
    by_cases c : Op.cmpValue (FP.dcmp m (4609434218613702656 : UInt64)) CmpOp.l < 0
    · rw [if_pos c]
      exact ⟨hd, h1, c, k1, by show k.toInt ≤ _; omega⟩
    · rw [if_neg c]
      rw [cvl_lt_zv hd.nn nn_c15] at c
      have hp := O64_pos
      have h15 := zv_c15
      have g1 := half_le hd (by omega) h2
      have g0 : P2 1071 ≤ zv (FP.dmul m (4602678819172646912 : UInt64)) := by
        refine fl_mul_ge hd df_half (rp_P2 (by omega)) ?_
        rw [zv_halfP]
        have e1 : P2 1071 * O64 = P2 1072 * P2 1073 := by
          rw [O64_pw, P2_mul (show 1071 + 1074 = 2145 by omega), P2_mul (show 1072 + 1073 = 2145 by omega)]
        rw [e1]
        refine Int.mul_le_mul_of_nonneg_right ?_ (Int.le_of_lt (P2_pos _))
        have e2 := P2_le (show 1072 ≤ 1074 by omega)
        rw [← O64_pw] at e2
        omega
      have gd : DF (FP.dmul m (4602678819172646912 : UInt64)) := df_pw (NN.mul hd df_half) (by omega) (by have := P2_pos 1071; omega) g1
      have hk := i32_add1 (k := k) (by omega) (by omega)
      have := ih (FP.dmul m (4602678819172646912 : UInt64)) (k + 1) (by omega) gd g0 g1 (by omega) (by omega)
      refine ⟨this.1, this.2.1, this.2.2.1, this.2.2.2.1, ?_⟩
      have h5 := this.2.2.2.2
      show (s_l1 n (FP.dmul m (4602678819172646912 : UInt64), k + 1)).2.toInt ≤ _
      omega
theorem l2_facts : ∀ (n j : Nat) (m : UInt64) (k : Int32), n + j = 1074 → n ≤ 100 → DF m → P2 j ≤ zv m → zv m ≤ 2 * O64 → -100 + n ≤ k.toInt → k.toInt ≤ 100 →
    DF (s_l2 n (m, k)).1 ∧ 0 ≤ zv (s_l2 n (m, k)).1 ∧ zv (s_l2 n (m, k)).1 ≤ 2 * O64 ∧ 0 ≤ Op.cmpValue (FP.dcmp (s_l2 n (m, k)).1 (4604930618986332160 : UInt64)) CmpOp.g ∧ -100 ≤ (s_l2 n (m, k)).2.toInt ∧ (s_l2 n (m, k)).2.toInt ≤ 100 := by
  intro n
  induction n with
  | zero =>
    intro j m k hj _ hd h1 h2 k1 k2
    have hp := O64_pos
    rw [show j = 1074 by omega, ← O64_pw] at h1
    refine ⟨hd, by show 0 ≤ zv m; omega, h2, ?_, by show -100 ≤ k.toInt; omega, k2⟩
    show 0 ≤ Op.cmpValue (FP.dcmp m (4604930618986332160 : UInt64)) CmpOp.g
    rw [cvg_ge_zv hd.nn nn_c075]
    have := zv_c075
    omega
  | succ n ih =>
    intro j m k hj hn hd h1 h2 k1 k2
    have hp := O64_pos
    have hnn := P2_pos j
    rw [s_l2_s]
    by_cases c : 0 ≤ Op.cmpValue (FP.dcmp m (4604930618986332160 : UInt64)) CmpOp.g
    · rw [if_pos c]
      exact ⟨hd, by show 0 ≤ zv m; omega, h2, c, by show -100 ≤ k.toInt; omega, k2⟩
    · rw [if_neg c]
      rw [cvg_ge_zv hd.nn nn_c075] at c
      have h75 := zv_c075
      have z2 := zv_two
      have g0 : P2 (j + 1) ≤ zv (FP.dmul m (4611686018427387904 : UInt64)) := by
        refine fl_mul_ge hd df_two (rp_P2 (by omega)) ?_
        have e1 : P2 (j + 1) * O64 = P2 j * (2 * O64) := by
          rw [P2_succ, Int.mul_comm 2 (P2 j), Int.mul_assoc]
        rw [z2, e1]
        exact Int.mul_le_mul_of_nonneg_right h1 (by omega)
      have g1 : zv (FP.dmul m (4611686018427387904 : UInt64)) ≤ 2 * O64 := by
        refine fl_mul_leI hd df_two (by decide) (by decide) ?_
        rw [z2, Int.mul_comm (zv m)]
        exact Int.mul_le_mul_of_nonneg_left (by omega) (by omega)
      have gd : DF (FP.dmul m (4611686018427387904 : UInt64)) := df_zvI (lo := 0) (hi := 2) (NN.mul hd df_two) (by decide) (by decide) (by have := P2_pos (j + 1); omega) g1
      obtain ⟨q1, q2⟩ := kb_dn k1 k2
      have q0 : n ≤ 100 := by omega
      exact ih (j + 1) (FP.dmul m (4611686018427387904 : UInt64)) (k + (-1)) (by omega) q0 gd g0 g1 q1 q2
theorem far_pw : 100000000 * O64 ≤ P2 (40 + 1074) := by decide +kernel
/-- all that log's loops leave -/
theorem lm_facts {x : UInt64} (hd : DF x) (h1 : P2 1071 ≤ zv x) (h2 : zv x ≤ 100000000 * O64) :
    Op.cmpValue (FP.dcmp (s_l1 40 (x, 0)).1 (4609434218613702656 : UInt64)) CmpOp.l < 0 ∧ NN (s_l1 40 (x, 0)).1 ∧ 0 ≤ Op.cmpValue (FP.dcmp (s_lm x).1 (4604930618986332160 : UInt64)) CmpOp.g ∧ DB (s_lm x).1 0 2 ∧ -100 ≤ (s_lm x).2.toInt ∧ (s_lm x).2.toInt ≤ 100 := by
  obtain ⟨a1, a2, a3, a4, a5⟩ := l1_facts 40 x 0 (by omega) hd h1 (Int.le_trans h2 far_pw) (by decide) (by decide)
  have a6 := a3
  rw [cvl_lt_zv a1.nn nn_c15] at a6
  have h15 := zv_c15
  have hp := O64_pos
  have e0 : (0 : Int32).toInt = 0 := rfl
  rw [e0] at a5
  have := l2_facts 8 1066 (s_l1 40 (x, 0)).1 (s_l1 40 (x, 0)).2 rfl (by omega) a1 (Int.le_trans (P2_le (by omega)) a2) (by omega) (by omega) (by omega)
  obtain ⟨b1, b2, b3, b4, b5, b6⟩ := this
  exact ⟨a3, a1.nn, b4, ⟨b1, by rw [Int.zero_mul]; exact b2, b3⟩, b5, b6⟩
theorem db_1 : DB FP.dconst1 1 1 := ⟨df_1, by decide +kernel, by decide +kernel⟩
theorem ly_facts {m : UInt64} (h : DB m 0 2) : DF (FP.dsub m FP.dconst1) ∧ DF (FP.dadd m FP.dconst1) ∧ SZ (s_ly m) 1 ∧ SZ (FP.dmul (s_ly m) (s_ly m)) 1 := by
  have g1 := DB.sub h db_1 (by decide) (by decide) (by decide) (by decide)
  have g2 := DB.add h db_1 (by decide) (by decide) (by decide) (by decide)
  have s1 : SZ (FP.dsub m FP.dconst1) 1 := sz_db (n := 1) g1
  have l2 := g2.2.1
  have hp := O64_pos
  have hz : o64 ≤ zm (FP.dadd m FP.dconst1) := by
    rw [← zv_abs]
    have : O64 = (o64 : Int) := rfl
    omega
  have hz0 : zm (FP.dadd m FP.dconst1) ≠ 0 := by
    have := o64_pos
    omega
  have s2 : SZ (s_ly m) 1 := SZ.div s1 g2.1 hz0 (by decide) (Nat.mul_le_mul_left _ hz)
  exact ⟨g1.1, g2.1, s2, (SZ.mul s2 s2 (by decide)).weak (by decide)⟩
theorem lt_sz {j : Nat} (h : j < 1000) : SZ (s_lt j) 1 := SZ.divI sz_1 (nI_nz (by omega) (by omega)) (by rw [nI_abs (by omega)]; omega) (by decide)
theorem ls_step {q v : UInt64} {n b : Nat} (hn : n < 1000) (hq : SZ q 1) (hv : SZ v b) (hb : b ≤ 1000) : DF (FP.dmul q v) ∧ SZ (FP.dadd (s_lt n) (FP.dmul q v)) (b + 1) := by
  have g := SZ.mul hq hv (by omega)
  have g2 := SZ.add (lt_sz hn) g (by omega)
  exact ⟨g.1, g2.weak (by omega)⟩
theorem ls_sum {q : UInt64} (hq : SZ q 1) : ∀ (n b : Nat) (v : UInt64), n ≤ 100 → n + b ≤ 100 → SZ v b → SZ (s_ls q n v) (b + n)
  | 0, _, _, _, _, hv => hv
  | n + 1, b, v, hn, hb, hv => by
    have := ls_sum hq n (b + 1) _ (by omega) (by omega) (ls_step (n := n) (by omega) hq hv (by omega)).2
    rw [show b + (n + 1) = b + 1 + n by omega]
    exact this
theorem lv_facts {m : UInt64} {k : Int32} (h : DB m 0 2) (k1 : -100 ≤ k.toInt) (k2 : k.toInt ≤ 100) : DF (FP.dmul (4611686018427387904 : UInt64) (s_ly m)) ∧ DF (FP.dmul (FP.dmul (4611686018427387904 : UInt64) (s_ly m)) (s_ls (FP.dmul (s_ly m) (s_ly m)) 14 FP.dconst0)) ∧ DF (FP.dmul (FP.i2d k) (4604418534313441775 : UInt64)) ∧ SZ (s_lv m k) 128 := by
  obtain ⟨-, -, s2, s3⟩ := ly_facts h
  have g1 := SZ.mul sz_two s2 (by decide)
  have g2 := ls_sum s3 14 0 FP.dconst0 (by omega) (by omega) sz_0
  have g3 := SZ.mul g1 g2 (by decide)
  have g4 := SZ.mul (sz_i2d k (n := 100) (by omega)) sz_LN2 (by decide)
  exact ⟨g1.1, g3.1, g4.1, (SZ.add g3 g4 (by decide)).weak (by decide)⟩
theorem log_sz {x : UInt64} (hd : DF x) (h1 : P2 1071 ≤ zv x) (h2 : zv x ≤ 100000000 * O64) : SZ (s_log x) 128 := by
  obtain ⟨-, -, -, h3, k1, k2⟩ := lm_facts hd h1 h2
  exact (lv_facts h3 k1 k2).2.2.2
/-! root -/
theorem q1_facts : ∀ (n : Nat) (m : UInt64) (k : Int32), n ≤ 100 → DF m → P2 1071 ≤ zv m → zv m ≤ P2 (n + 1074) →
    DF (s_q1 n (m, k)).1 ∧ P2 1071 ≤ zv (s_q1 n (m, k)).1 ∧ Op.cmpValue (FP.dcmp (s_q1 n (m, k)).1 (4616189618054758400 : UInt64)) CmpOp.l < 0 := by
  intro n
  induction n with
  | zero =>
    intro m k _ hd h1 h2
    refine ⟨hd, h1, ?_⟩
    show Op.cmpValue (FP.dcmp m (4616189618054758400 : UInt64)) CmpOp.l < 0
    rw [cvl_lt_zv hd.nn df_four.nn, zv_four]
    have hp := O64_pos
    rw [Nat.zero_add, ← O64_pw] at h2
    omega
  | succ n ih =>
    intro m k hn hd h1 h2
    rw [s_q1_s]
    by_cases c : Op.cmpValue (FP.dcmp m (4616189618054758400 : UInt64)) CmpOp.l < 0
    · rw [if_pos c]
      exact ⟨hd, h1, c⟩
    · rw [if_neg c]
      rw [cvl_lt_zv hd.nn df_four.nn, zv_four] at c
      have hp := O64_pos
      have g1 := quart_le hd (by omega) h2
      have g0 : P2 1071 ≤ zv (FP.dmul m (4598175219545276416 : UInt64)) := by
        refine fl_mul_ge hd df_quart (rp_P2 (by omega)) ?_
        rw [zv_quart]
        have e1 : P2 1071 * O64 = P2 1073 * P2 1072 := by
          rw [O64_pw, P2_mul (show 1071 + 1074 = 2145 by omega), P2_mul (show 1073 + 1072 = 2145 by omega)]
        rw [e1]
        refine Int.mul_le_mul_of_nonneg_right ?_ (Int.le_of_lt (P2_pos _))
        have e2 := P2_le (show 1073 ≤ 1074 by omega)
        rw [← O64_pw] at e2
        omega
      have gd : DF (FP.dmul m (4598175219545276416 : UInt64)) := df_pw (NN.mul hd df_quart) (by omega) (by have := P2_pos 1071; omega) g1
      exact ih (FP.dmul m (4598175219545276416 : UInt64)) (k + 1) (by omega) gd g0 g1
theorem q2_facts : ∀ (n j : Nat) (m : UInt64) (k : Int32), n + j = 1074 → n ≤ 100 → DF m → P2 j ≤ zv m → zv m ≤ 4 * O64 →
    DB (s_q2 n (m, k)).1 1 4 ∧ 0 ≤ Op.cmpValue (FP.dcmp (s_q2 n (m, k)).1 FP.dconst1) CmpOp.g := by
  intro n
  induction n with
  | zero =>
    intro j m k hj _ hd h1 h2
    rw [show j = 1074 by omega, ← O64_pw] at h1
    refine ⟨⟨hd, by show 1 * O64 ≤ zv m; omega, h2⟩, ?_⟩
    show 0 ≤ Op.cmpValue (FP.dcmp m FP.dconst1) CmpOp.g
    rw [cvg_ge_zv hd.nn df_1.nn, zv_1]
    exact h1
  | succ n ih =>
    intro j m k hj hn hd h1 h2
    have hp := O64_pos
    rw [s_q2_s]
    by_cases c : 0 ≤ Op.cmpValue (FP.dcmp m FP.dconst1) CmpOp.g
    · rw [if_pos c]
      have c2 := c
      rw [cvg_ge_zv hd.nn df_1.nn, zv_1] at c2
      exact ⟨⟨hd, by show 1 * O64 ≤ zv m; omega, h2⟩, c⟩
    · rw [if_neg c]
      rw [cvg_ge_zv hd.nn df_1.nn, zv_1] at c
      have z4 := zv_four
      have hnn := P2_pos j
      have g0 : P2 (j + 1) ≤ zv (FP.dmul m (4616189618054758400 : UInt64)) := by
        refine fl_mul_ge hd df_four (rp_P2 (by omega)) ?_
        have e1 : P2 (j + 1) * O64 = P2 j * (2 * O64) := by
          rw [P2_succ, Int.mul_comm 2 (P2 j), Int.mul_assoc]
        rw [z4, e1]
        refine Int.le_trans (Int.mul_le_mul_of_nonneg_right h1 (by omega)) ?_
        exact Int.mul_le_mul_of_nonneg_left (by omega) (by omega)
      have g1 : zv (FP.dmul m (4616189618054758400 : UInt64)) ≤ 4 * O64 := by
        refine fl_mul_leI hd df_four (by decide) (by decide) ?_
        rw [z4, Int.mul_comm (zv m)]
        exact Int.mul_le_mul_of_nonneg_left (by omega) (by omega)
      have gd : DF (FP.dmul m (4616189618054758400 : UInt64)) := df_zvI (lo := 0) (hi := 4) (NN.mul hd df_four) (by decide) (by decide) (by have := P2_pos (j + 1); omega) g1
      exact ih (j + 1) (FP.dmul m (4616189618054758400 : UInt64)) (k + (-1)) (by omega) (by omega) gd g0 g1
theorem qm_facts {x : UInt64} (hd : DF x) (h1 : P2 1071 ≤ zv x) (h2 : zv x ≤ 100000000 * O64) :
    Op.cmpValue (FP.dcmp (s_q1 40 (x, 0)).1 (4616189618054758400 : UInt64)) CmpOp.l < 0 ∧ 0 ≤ Op.cmpValue (FP.dcmp (s_qm x).1 FP.dconst1) CmpOp.g ∧ DB (s_qm x).1 1 4 := by
  obtain ⟨a1, a2, a3⟩ := q1_facts 40 x 0 (by omega) hd h1 (Int.le_trans h2 far_pw)
  have a6 := a3
  rw [cvl_lt_zv a1.nn df_four.nn, zv_four] at a6
  obtain ⟨b1, b2⟩ := q2_facts 8 1066 (s_q1 40 (x, 0)).1 (s_q1 40 (x, 0)).2 rfl (by omega) a1 (Int.le_trans (P2_le (by omega)) a2) (by omega)
  exact ⟨a3, b2, b1⟩
/-- a step of the root: i of six steps are left -/
def QI (m v : UInt64) (n : Nat) : Prop := SZ v (5 + 1024 * (6 - n)) ∧ P2 (1067 + n) ≤ zv v
theorem q0_facts {m : UInt64} (h : DB m 1 4) : DF (FP.dmul m (4602678819172646912 : UInt64)) ∧ QI m (s_q0 m) 6 := by
  have hp := O64_pos
  have hm := h.2.1
  have s4 : SZ m 4 := sz_db (n := 4) (h.weak (by decide) (by decide))
  have g1 := SZ.mul s4 sz_half (by decide)
  have g2 := SZ.add g1 sz_half (by decide)
  refine ⟨g1.1, g2, ?_⟩
  have e0 : 0 ≤ zv (FP.dmul m (4602678819172646912 : UInt64)) := by
    have := fl_mul_geI h.1 df_half (n := 0) (by decide) (by decide) (by
      rw [Int.zero_mul, Int.zero_mul]
      refine Int.mul_nonneg (by omega) ?_
      rw [zv_halfP]
      exact Int.le_of_lt (P2_pos _))
    rw [Int.zero_mul] at this
    exact this
  refine fl_add_ge g1.1 df_half (rp_P2 (by omega)) ?_
  have e6 : P2 (1067 + 6) = P2 1073 := rfl
  rw [zv_halfP, e6]
  omega
theorem qi_step {m v : UInt64} {n : Nat} (hn : n + 1 ≤ 6) (h : DB m 1 4) (hv : QI m v (n + 1)) : DF (FP.ddiv m v) ∧ DF (FP.dadd v (FP.ddiv m v)) ∧ QI m (FP.dmul (FP.dadd v (FP.ddiv m v)) (4602678819172646912 : UInt64)) n := by
  have hp := O64_pos
  have hm := h.2.1
  obtain ⟨hs, hl⟩ := hv
  have s4 : SZ m 4 := sz_db (n := 4) (h.weak (by decide) (by decide))
  have hpos : (0 : Int) < P2 (1067 + (n + 1)) := P2_pos _
  have hzv : zm v = (zv v).natAbs := (zv_abs v).symm
  have hz1 : 2 ^ (1067 + (n + 1)) ≤ zm v := by
    rw [hzv, ← P2_abs]
    omega
  have hz0 : zm v ≠ 0 := by
    rw [hzv]
    omega
  have d1 : SZ (FP.ddiv m v) 1024 := by
    refine SZ.div s4 hs.1 hz0 (by decide) ?_
    have e1 : 4 * o64 ≤ 1024 * zm v := by
      have e2 : 2 ^ 1067 ≤ zm v := Nat.le_trans (Nat.pow_le_pow_right (by decide) (by omega)) hz1
      exact Nat.le_trans (show 4 * o64 ≤ 1024 * 2 ^ 1067 by decide +kernel) (Nat.mul_le_mul_left _ e2)
    calc 4 * o64 * o64 ≤ 1024 * zm v * o64 := Nat.mul_le_mul_right _ e1
      _ = 1024 * o64 * zm v := by rw [Nat.mul_right_comm]
  have d2 := SZ.add hs d1 (by omega)
  have d3 := SZ.mul d2 sz_half (by omega)
  have d0 := fl_div_nonneg h.1 hs.1 (by omega) (by omega)
  have u : P2 (1067 + (n + 1)) ≤ zv (FP.dadd v (FP.ddiv m v)) := fl_add_ge hs.1 d1.1 (rp_P2 (by omega)) (by omega)
  refine ⟨d1.1, d2.1, d3.weak (by omega), ?_⟩
  refine fl_mul_ge d2.1 df_half (rp_P2 (by omega)) ?_
  rw [zv_halfP]
  refine Int.le_trans (Int.le_of_eq ?_) (Int.mul_le_mul_of_nonneg_right u (Int.le_of_lt (P2_pos _)))
  rw [O64_pw, P2_mul (show 1067 + n + 1074 = 1067 + (n + 1) + 1073 by omega), P2_mul (rfl : 1067 + (n + 1) + 1073 = 1067 + (n + 1) + 1073)]
theorem qr_facts {m : UInt64} (h : DB m 1 4) : ∀ (n : Nat) (v : UInt64), n ≤ 6 → QI m v n → DF (s_qr m n v)
  | 0, _, _, hv => hv.1.1
  | n + 1, v, hn, hv => qr_facts h n _ (by omega) (qi_step hn h hv).2.2
theorem root_nn {x : UInt64} (hd : DF x) (h1 : 0 < zv x → P2 1071 ≤ zv x) (h0 : 0 ≤ zv x) (h2 : zv x ≤ 100000000 * O64) : NN (s_root x) := by
  unfold s_root
  by_cases c : Op.cmpValue (FP.dcmp x FP.dconst0) CmpOp.l = 0
  · rw [if_pos c]
    exact df_0.nn
  · rw [if_neg c]
    rw [cvl_eq_zv hd.nn df_0.nn, zv_0] at c
    obtain ⟨-, -, b⟩ := qm_facts hd (h1 (by omega)) h2
    exact nn_scaled (qr_facts b 6 _ (by omega) (q0_facts b).2).nn _
end
section
/-! errorPart, normal, law: no NaN -/
theorem size_facts {x : UInt64} {n : Nat} (h : SZ x n) : SZ (s_size x) n ∧ 0 ≤ zv (s_size x) := by
  unfold s_size
  by_cases c : 0 ≤ Op.cmpValue (FP.dcmp x FP.dconst0) CmpOp.g
  · rw [if_pos c]
    rw [cvg_ge_zv h.1.nn df_0.nn, zv_0] at c
    exact ⟨h, c⟩
  · rw [if_neg c]
    rw [cvg_ge_zv h.1.nn df_0.nn, zv_0] at c
    refine ⟨h.neg, ?_⟩
    rw [zv_neg]
    omega
theorem size_df {x : UInt64} (h : DF x) : DF (s_size x) ∧ 0 ≤ zv (s_size x) := by
  unfold s_size
  by_cases c : 0 ≤ Op.cmpValue (FP.dcmp x FP.dconst0) CmpOp.g
  · rw [if_pos c]
    rw [cvg_ge_zv h.nn df_0.nn, zv_0] at c
    exact ⟨h, c⟩
  · rw [if_neg c]
    rw [cvg_ge_zv h.nn df_0.nn, zv_0] at c
    refine ⟨h.neg, ?_⟩
    rw [zv_neg]
    omega
theorem zv_c25 : 2 * zv (4612811918334230528 : UInt64) = 5 * O64 := by decide +kernel
theorem df_c25 : DF (4612811918334230528 : UInt64) := df_c _ (by decide +kernel)
theorem df_six : DF (4618441417868443648 : UInt64) := df_c _ (by decide +kernel)
theorem df_c1128 : DF (4607760587169110893 : UInt64) := df_c _ (by decide +kernel)
theorem df_c564 : DF (4603256987541740397 : UInt64) := df_c _ (by decide +kernel)
theorem four_pw : 4 * O64 ≤ P2 1076 := by decide +kernel
/-- near: t and s after n steps -/
def NI (q t v : UInt64) (n : Nat) : Prop := PW q 1078 ∧ PW t (1076 + 4 * n) ∧ PW v (1077 + 4 * n)
theorem near_0 {a : UInt64} (h0 : 0 ≤ zv a) (hd : DF a) (h : ¬ 0 ≤ Op.cmpValue (FP.dcmp a (4612811918334230528 : UInt64)) CmpOp.g) : DF (FP.dmul a a) ∧ NI (FP.dmul a a) a a 0 := by
  rw [cvg_ge_zv hd.nn df_c25.nn] at h
  have e := zv_c25
  have hp := O64_pos
  have f := four_pw
  have hz : zm a ≤ 2 ^ 1076 := by
    rw [← zv_abs, ← P2_abs]
    omega
  have pa : PW a 1076 := ⟨hd, hz⟩
  have pq : PW (FP.dmul a a) 1078 := PW.mul pa pa (by omega) (by omega)
  exact ⟨pq.1, pq, pa, pa.weak (by omega)⟩
theorem near_step {q t v : UInt64} {n : Nat} (hn : n < 60) (h : NI q t v n) : DF (FP.dmul (FP.dneg t) q) ∧ DF (s_nt q n t) ∧ DF (FP.ddiv (s_nt q n t) (FP.i2d (nI (2 * n + 3)))) ∧ DF (FP.dadd v (FP.ddiv (s_nt q n t) (FP.i2d (nI (2 * n + 3))))) ∧ NI q (s_nt q n t) (FP.dadd v (FP.ddiv (s_nt q n t) (FP.i2d (nI (2 * n + 3))))) (n + 1) := by
  obtain ⟨h1, h2, h3⟩ := h
  have g1 : PW (FP.dmul (FP.dneg t) q) (1076 + 4 * (n + 1)) := PW.mul h2.neg h1 (by omega) (by omega)
  have g2 : PW (s_nt q n t) (1076 + 4 * (n + 1)) := PW.divI g1 (nI_nz (by omega) (by omega)) (by omega)
  have g3 : PW (FP.ddiv (s_nt q n t) (FP.i2d (nI (2 * n + 3)))) (1076 + 4 * (n + 1)) := PW.divI g2 (nI_nz (by omega) (by omega)) (by omega)
  have g4 : PW (FP.dadd v (FP.ddiv (s_nt q n t) (FP.i2d (nI (2 * n + 3))))) (1076 + 4 * (n + 1) + 1) := PW.add (h3.weak (by omega)) g3 (by omega)
  exact ⟨g1.1, g2.1, g3.1, g4.1, h1, g2, g4.weak (by omega)⟩
theorem near_sum {q : UInt64} : ∀ (f n : Nat) (t v : UInt64), f + n = 60 → NI q t v n → DF (s_nl q f n t v) := by
  intro f
  induction f with
  | zero =>
    intro n t v _ h
    exact h.2.2.1
  | succ f ih =>
    intro n t v hf h
    exact ih (n + 1) _ _ (by omega) (near_step (by omega) h).2.2.2.2
theorem near_nn {a : UInt64} (h0 : 0 ≤ zv a) (hd : DF a) (h : ¬ 0 ≤ Op.cmpValue (FP.dcmp a (4612811918334230528 : UInt64)) CmpOp.g) : NN (s_near a) := NN.mul (near_sum 60 0 a a rfl (near_0 h0 hd h).2) df_c1128
/-- far: c so far -/
def FI (a c : UInt64) : Prop := DF a ∧ 2 * O64 ≤ zv a ∧ DB c 0 20
theorem far_0 {a : UInt64} (hd : DF a) (h : 0 ≤ Op.cmpValue (FP.dcmp a (4612811918334230528 : UInt64)) CmpOp.g) : FI a FP.dconst0 := by
  rw [cvg_ge_zv hd.nn df_c25.nn] at h
  have e := zv_c25
  have hp := O64_pos
  exact ⟨hd, by omega, df_0, by decide +kernel, by decide +kernel⟩
theorem far_sum {a c : UInt64} (h6 : zv a ≤ 6 * O64) (h : FI a c) : DF (FP.dadd a c) ∧ 2 * O64 ≤ zv (FP.dadd a c) ∧ zm (FP.dadd a c) ≠ 0 := by
  obtain ⟨h1, h2, h3⟩ := h
  have hp := O64_pos
  have h4 := h3.2.1
  have da : DB a 2 6 := ⟨h1, h2, h6⟩
  have g := DB.add da h3 (by decide) (by decide) (by decide) (by decide)
  have g2 : 2 * O64 ≤ zv (FP.dadd a c) := g.2.1
  refine ⟨g.1, g2, ?_⟩
  rw [← zv_abs]
  omega
theorem far_step {a c : UInt64} {n : Nat} (hn : n < 40) (h6 : zv a ≤ 6 * O64) (h : FI a c) : DF (FP.dmul (FP.i2d (nI (n + 1))) (4602678819172646912 : UInt64)) ∧ DF (FP.dadd a c) ∧ DF (FP.ddiv (FP.dmul (FP.i2d (nI (n + 1))) (4602678819172646912 : UInt64)) (FP.dadd a c)) ∧ FI a (FP.ddiv (FP.dmul (FP.i2d (nI (n + 1))) (4602678819172646912 : UInt64)) (FP.dadd a c)) := by
  obtain ⟨s1, s2, s3⟩ := far_sum h6 h
  have hp := O64_pos
  have hi : (nI (n + 1)).toInt = ((n + 1 : Nat) : Int) := nI_toInt (by omega)
  have ha : (nI (n + 1)).toInt.natAbs = n + 1 := nI_abs (by omega)
  have g1 : SZ (FP.dmul (FP.i2d (nI (n + 1))) (4602678819172646912 : UInt64)) 40 := (SZ.mul (sz_i2d _ (n := 40) (by omega)) sz_half (by decide)).weak (by decide)
  have hz := zv_i2d (nI (n + 1))
  rw [hi] at hz
  have hh := zv_halfP
  have hq : 0 < zv (FP.dmul (FP.i2d (nI (n + 1))) (4602678819172646912 : UInt64)) := by
    have := fl_mul_ge (df_i2d (nI (n + 1))) df_half (V := P2 1073) (rp_P2 (by omega)) (by
      rw [hz, hh, Int.mul_comm (P2 1073)]
      refine Int.mul_le_mul_of_nonneg_right ?_ (Int.le_of_lt (P2_pos _))
      have : 1 * O64 ≤ ((n + 1 : Nat) : Int) * O64 := Int.mul_le_mul_of_nonneg_right (by omega) (Int.le_of_lt hp)
      omega)
    have := P2_pos 1073
    omega
  have d0 := fl_div_nonneg g1.1 s1 hq (by omega)
  have ez : 2 * o64 ≤ zm (FP.dadd a c) := by
    rw [← zv_abs]
    have : O64 = (o64 : Int) := rfl
    omega
  have g2 : SZ (FP.ddiv (FP.dmul (FP.i2d (nI (n + 1))) (4602678819172646912 : UInt64)) (FP.dadd a c)) 20 := by
    refine SZ.div g1 s1 s3 (by decide) ?_
    calc 40 * o64 * o64 = 20 * o64 * (2 * o64) := by
          generalize o64 = y
          rw [Nat.mul_assoc 40, Nat.mul_assoc 20, Nat.mul_left_comm y 2 y, ← Nat.mul_assoc 20 2]
      _ ≤ 20 * o64 * zm (FP.dadd a c) := Nat.mul_le_mul_left _ ez
  refine ⟨g1.1, s1, g2.1, h.1, h.2.1, g2.1, ?_, (db_sz g2).2.2⟩
  rw [Int.zero_mul]
  exact d0
theorem far_loop {a : UInt64} (h6 : zv a ≤ 6 * O64) : ∀ (n : Nat) (c : UInt64), n ≤ 40 → FI a c → FI a (s_fl a n c) := by
  intro n
  induction n with
  | zero =>
    intro c _ h
    exact h
  | succ n ih =>
    intro c hn h
    exact ih _ (by omega) (far_step (by omega) h6 h).2.2.2
/-- far's call of exp -/
theorem far_arg {a : UInt64} (hd : DF a) (h6 : zv a ≤ 6 * O64) (h2 : 2 * O64 ≤ zv a) : DF (FP.dmul (FP.dneg a) a) ∧ Op.cmpValue (FP.dcmp (FP.dmul (FP.dneg a) a) (4649368480934526976 : UInt64)) CmpOp.l ≤ 0 ∧ 0 ≤ Op.cmpValue (FP.dcmp (FP.dmul (FP.dneg a) a) (13872740517789302784 : UInt64)) CmpOp.g := by
  have hp := O64_pos
  have da : SZ a 6 := sz_db (n := 6) ⟨hd, by rw [Int.neg_mul]; show -(6 * O64) ≤ zv a; omega, h6⟩
  have g := SZ.mul da.neg da (by decide)
  have g2 := db_sz g
  refine ⟨g.1, ?_, ?_⟩
  · rw [cvl_le_zv g.1.nn (nn_c _ (by decide +kernel)), zv_c700]
    have := g2.2.2
    omega
  · rw [cvg_ge_zv g.1.nn (nn_c _ (by decide +kernel)), zv_n700]
    have := g2.2.1
    omega
theorem far_facts {a : UInt64} (hd : DF a) (h6 : zv a ≤ 6 * O64) (h : 0 ≤ Op.cmpValue (FP.dcmp a (4612811918334230528 : UInt64)) CmpOp.g) : DF (s_exp (FP.dmul (FP.dneg a) a)) ∧ NN (FP.dmul (s_exp (FP.dmul (FP.dneg a) a)) (4603256987541740397 : UInt64)) ∧ DF (FP.dadd a (s_fl a 40 FP.dconst0)) ∧ NN (FP.ddiv (FP.dmul (s_exp (FP.dmul (FP.dneg a) a)) (4603256987541740397 : UInt64)) (FP.dadd a (s_fl a 40 FP.dconst0))) ∧ NN (s_far a) := by
  have f0 := far_0 hd h
  have f1 := far_loop h6 40 FP.dconst0 (by omega) f0
  obtain ⟨s1, s2, s3⟩ := far_sum h6 f1
  obtain ⟨e1, e2, -⟩ := far_arg hd h6 f0.2.1
  have x := exp_fin e1.nn e2
  have y := NN.mul x df_c564
  have z := NN.div y s1 s3
  exact ⟨x, y, s1, z, NN.sub' df_1 z⟩
theorem errv_nn {a : UInt64} (hd : DF a) (h0 : 0 ≤ zv a) : NN (s_errv a) := by
  unfold s_errv
  by_cases c : Op.cmpValue (FP.dcmp a (4618441417868443648 : UInt64)) CmpOp.l < 0
  · rw [if_pos c]
    by_cases c2 : 0 ≤ Op.cmpValue (FP.dcmp a (4612811918334230528 : UInt64)) CmpOp.g
    · rw [if_pos c2]
      rw [cvl_lt_zv hd.nn df_six.nn, zv_six] at c
      exact (far_facts hd (Int.le_of_lt c) c2).2.2.2.2
    · rw [if_neg c2]
      exact near_nn h0 hd c2
  · rw [if_neg c]
    exact df_1.nn
theorem err_nn {x : UInt64} (hd : DF x) : NN (s_err x) := by
  obtain ⟨a, b⟩ := size_df hd
  unfold s_err
  split
  · exact errv_nn a b
  · exact (errv_nn a b).neg
/-! normal -/
theorem df_unit : DF (4368491638549381120 : UInt64) := df_c _ (by decide +kernel)
theorem pw_unit : PW (4368491638549381120 : UInt64) 1074 := ⟨df_unit, by decide +kernel⟩
theorem norm_mul (h : Int64) : PW (FP.dmul (FP.l2d (s_nu h)) (4368491638549381120 : UInt64)) 1137 := PW.mul (pw_l2d _) pw_unit (by omega) (by omega)
theorem norm_step {v : UInt64} {k : Nat} (h : Int64) (hk : k < 15) (hv : PW v (1137 + k)) : PW (FP.dadd v (FP.dmul (FP.l2d (s_nu h)) (4368491638549381120 : UInt64))) (1137 + (k + 1)) := PW.add (j := 1137 + k) hv ((norm_mul h).weak (by omega)) (by omega)
theorem norm_s {v : UInt64} {k : Nat} (h : Int64) (hk : k < 15) (hv : PW v (1137 + k)) : PW (s_ns k h v) (1137 + (k + 1)) := by
  unfold s_ns
  split
  · exact hv.weak (by omega)
  · exact norm_step h hk hv
theorem norm_sum : ∀ (f k : Nat) (h : Int64) (v : UInt64), f + k = 15 → PW v (1137 + k) → DF (s_nm f k h v) := by
  intro f
  induction f with
  | zero =>
    intro k h v _ hv
    exact hv.1
  | succ f ih =>
    intro k h v hf hv
    exact ih (k + 1) _ _ (by omega) (norm_s _ (by omega) hv)
theorem pw_0 : PW FP.dconst0 1137 := ⟨df_0, by decide +kernel⟩
theorem normal_nn (sd : Int64) (b : Int32) (t : Int64) (u : Int32) : NN (s_normal sd b t u) := NN.sub (norm_sum 15 0 _ _ rfl pw_0).nn df_six
/-! law -/
theorem df_gas : DF (4620870244398284740 : UInt64) := df_c _ (by decide +kernel)
theorem zv_gas : O64 ≤ zv (4620870244398284740 : UInt64) := by decide +kernel
theorem sz_gas : SZ (4620870244398284740 : UInt64) 9 := ⟨df_gas, by decide +kernel⟩
theorem law_facts {en ke : UInt64} (h1 : DB en (-100000000) 100000000) (h2 : DB ke (-100000000) 100000000) (hk : 0 < zv ke) : DF (FP.dmul (4620870244398284740 : UInt64) ke) ∧ NN (FP.ddiv (FP.dneg en) (FP.dmul (4620870244398284740 : UInt64) ke)) := by
  have s2 : SZ ke 100000000 := sz_db (n := 100000000) h2
  have g := SZ.mul sz_gas s2 (by decide)
  have hp := O64_pos
  have z : 0 < zv (FP.dmul (4620870244398284740 : UInt64) ke) := by
    have := fl_mul_ge df_gas h2.1 (V := zv ke) (by rw [zv_abs]; exact rp_zm h2.1) (by
      rw [Int.mul_comm (zv ke)]
      exact Int.mul_le_mul_of_nonneg_right zv_gas (Int.le_of_lt hk))
    omega
  refine ⟨g.1, NN.div h1.1.neg.nn g.1 ?_⟩
  rw [← zv_abs]
  omega
/-! bounds -/
theorem sz_e13 : SZ (4412443251819771522 : UInt64) 1 := ⟨df_c _ (by decide +kernel), by decide +kernel⟩
theorem sz_e14 : SZ (4397347889687374747 : UInt64) 1 := ⟨df_c _ (by decide +kernel), by decide +kernel⟩
theorem sz_e15 : SZ (4382569440205035030 : UInt64) 1 := ⟨df_c _ (by decide +kernel), by decide +kernel⟩
theorem z_e15 : zm (4382569440205035030 : UInt64) ≠ 0 := by decide +kernel
theorem bE_facts {x : UInt64} (h : DB x (-100000000) 100000000) : DF (FP.dadd FP.dconst1 (s_size x)) ∧ DF (FP.dmul (4412443251819771522 : UInt64) (FP.dadd FP.dconst1 (s_size x))) := by
  have s1 : SZ x 100000000 := sz_db (n := 100000000) h
  have g := SZ.add sz_1 (size_facts s1).1 (by decide)
  exact ⟨g.1, (SZ.mul sz_e13 g (by decide)).1⟩
theorem bL_facts {v : UInt64} (h : SZ v 128) : DF (FP.dmul (4382569440205035030 : UInt64) (s_size v)) ∧ NN (FP.dadd (4397347889687374747 : UInt64) (FP.dmul (4382569440205035030 : UInt64) (s_size v))) := by
  have g := SZ.mul sz_e15 (size_facts h).1 (by decide)
  exact ⟨g.1, (SZ.add sz_e14 g (by decide)).1.nn⟩
theorem one_cmp {v : UInt64} (h : DF v) : NN (FP.dmul FP.dconst1 v) ∧ FP.dcmp (FP.dmul FP.dconst1 v) v = some .eq := by
  have hn := NN.mul df_1 h
  refine ⟨hn, ?_⟩
  have hr : RP (zv v).natAbs := by
    rw [zv_abs]
    exact rp_zm h
  have g1 := fl_mul_le df_1 h hr (by rw [zv_1, Int.mul_comm]; exact Int.le_refl _)
  have g2 := fl_mul_ge df_1 h hr (by rw [zv_1, Int.mul_comm]; exact Int.le_refl _)
  rw [cmp_zv hn h.nn, (cmp_eq _ _).mpr (Int.le_antisymm g1 g2)]
theorem self_cmp {v : UInt64} (h : NN v) : FP.dcmp v v = some .eq := by rw [cmp_zv h h, (cmp_eq _ _).mpr rfl]
end
section
-- ===== PART A: goes FIRST, ahead of the names: the tables' words, and 'selects' of the private methods out of them =====
/-- a private method of a class that the tables say can be made, by its rows of tables_1 -/
def lw_okq (q : MethodName × Nat) : Prop := (q.1.cls ≠ "java/lang/invoke/MethodHandle" ∧ q.1.cls ≠ "java/lang/invoke/VarHandle") ∧ Cond.instantiable q.1.cls q.2 ∈ tables_1 ∧ Cond.privateMethod q.1 ∈ tables_1 ∧ Cond.instanceMethod q.1 ∈ tables_1
set_option maxRecDepth 100000
theorem lw_t1 {w : Cond} (h : w ∈ tables_1_1) : w ∈ tables_1 := List.mem_append_left _ h
theorem lw_t2 {w : Cond} (h : w ∈ tables_1_2) : w ∈ tables_1 := List.mem_append_right _ h
theorem lw_p0 : lw_okq (⟨"BrewFunctions", "ask", "(LBrewFunctions$Function;D)D"⟩, 6) := ⟨⟨by decide +kernel, by decide +kernel⟩, lw_t1 (List.mem_of_getElem? (i := 9) rfl), lw_t1 (List.mem_of_getElem? (i := 80) rfl), lw_t1 (List.mem_of_getElem? (i := 81) rfl)⟩
theorem lw_p1 : lw_okq (⟨"BrewFunctions$ErrorPart", "near", "(D)D"⟩, 2) := ⟨⟨by decide +kernel, by decide +kernel⟩, lw_t1 (List.mem_of_getElem? (i := 46) rfl), lw_t1 (List.mem_of_getElem? (i := 119) rfl), lw_t1 (List.mem_of_getElem? (i := 120) rfl)⟩
theorem lw_p2 : lw_okq (⟨"BrewFunctions$ErrorPart", "far", "(D)D"⟩, 2) := ⟨⟨by decide +kernel, by decide +kernel⟩, lw_t1 (List.mem_of_getElem? (i := 46) rfl), lw_t1 (List.mem_of_getElem? (i := 145) rfl), lw_t1 (List.mem_of_getElem? (i := 146) rfl)⟩
theorem lw_p3 : lw_okq (⟨"BrewFunctions", "raised", "(DD)D"⟩, 6) := ⟨⟨by decide +kernel, by decide +kernel⟩, lw_t1 (List.mem_of_getElem? (i := 9) rfl), lw_t1 (List.mem_of_getElem? (i := 197) rfl), lw_t1 (List.mem_of_getElem? (i := 198) rfl)⟩
theorem lw_p4 : lw_okq (⟨"BrewFunctionsModel", "exp", "(D)D"⟩, 6) := ⟨⟨by decide +kernel, by decide +kernel⟩, lw_t2 (List.mem_of_getElem? (i := 40) rfl), lw_t2 (List.mem_of_getElem? (i := 74) rfl), lw_t2 (List.mem_of_getElem? (i := 75) rfl)⟩
theorem lw_p5 : lw_okq (⟨"BrewFunctionsModel", "none", "(I)D"⟩, 6) := ⟨⟨by decide +kernel, by decide +kernel⟩, lw_t2 (List.mem_of_getElem? (i := 40) rfl), lw_t2 (List.mem_of_getElem? (i := 79) rfl), lw_t2 (List.mem_of_getElem? (i := 80) rfl)⟩
theorem lw_p6 : lw_okq (⟨"BrewFunctionsModel", "told", "(ZD)D"⟩, 6) := ⟨⟨by decide +kernel, by decide +kernel⟩, lw_t2 (List.mem_of_getElem? (i := 40) rfl), lw_t2 (List.mem_of_getElem? (i := 88) rfl), lw_t2 (List.mem_of_getElem? (i := 89) rfl)⟩
theorem lw_p7 : lw_okq (⟨"BrewFunctionsModel", "log", "(D)D"⟩, 6) := ⟨⟨by decide +kernel, by decide +kernel⟩, lw_t2 (List.mem_of_getElem? (i := 40) rfl), lw_t2 (List.mem_of_getElem? (i := 96) rfl), lw_t2 (List.mem_of_getElem? (i := 97) rfl)⟩
theorem lw_p8 : lw_okq (⟨"BrewFunctionsModel", "pow", "(DD)D"⟩, 6) := ⟨⟨by decide +kernel, by decide +kernel⟩, lw_t2 (List.mem_of_getElem? (i := 40) rfl), lw_t2 (List.mem_of_getElem? (i := 106) rfl), lw_t2 (List.mem_of_getElem? (i := 107) rfl)⟩
theorem lw_p9 : lw_okq (⟨"BrewFunctionsModel", "sqrt", "(D)D"⟩, 6) := ⟨⟨by decide +kernel, by decide +kernel⟩, lw_t2 (List.mem_of_getElem? (i := 40) rfl), lw_t2 (List.mem_of_getElem? (i := 114) rfl), lw_t2 (List.mem_of_getElem? (i := 115) rfl)⟩
theorem lw_p10 : lw_okq (⟨"BrewFunctionsModel", "erf", "(D)D"⟩, 6) := ⟨⟨by decide +kernel, by decide +kernel⟩, lw_t2 (List.mem_of_getElem? (i := 40) rfl), lw_t2 (List.mem_of_getElem? (i := 124) rfl), lw_t2 (List.mem_of_getElem? (i := 125) rfl)⟩
def lw_privs_1 : List (MethodName × Nat) := [(⟨"BrewFunctions", "ask", "(LBrewFunctions$Function;D)D"⟩, 6), (⟨"BrewFunctions$ErrorPart", "near", "(D)D"⟩, 2), (⟨"BrewFunctions$ErrorPart", "far", "(D)D"⟩, 2), (⟨"BrewFunctions", "raised", "(DD)D"⟩, 6), (⟨"BrewFunctionsModel", "exp", "(D)D"⟩, 6), (⟨"BrewFunctionsModel", "none", "(I)D"⟩, 6), (⟨"BrewFunctionsModel", "told", "(ZD)D"⟩, 6), (⟨"BrewFunctionsModel", "log", "(D)D"⟩, 6), (⟨"BrewFunctionsModel", "pow", "(DD)D"⟩, 6), (⟨"BrewFunctionsModel", "sqrt", "(D)D"⟩, 6), (⟨"BrewFunctionsModel", "erf", "(D)D"⟩, 6)]
theorem lw_r1 : ∀ q ∈ lw_privs_1, lw_okq q := List.forall_mem_cons.mpr ⟨lw_p0, List.forall_mem_cons.mpr ⟨lw_p1, List.forall_mem_cons.mpr ⟨lw_p2, List.forall_mem_cons.mpr ⟨lw_p3, List.forall_mem_cons.mpr ⟨lw_p4, List.forall_mem_cons.mpr ⟨lw_p5, List.forall_mem_cons.mpr ⟨lw_p6, List.forall_mem_cons.mpr ⟨lw_p7, List.forall_mem_cons.mpr ⟨lw_p8, List.forall_mem_cons.mpr ⟨lw_p9, List.forall_mem_cons.mpr ⟨lw_p10, fun _ h => absurd h List.not_mem_nil⟩⟩⟩⟩⟩⟩⟩⟩⟩⟩⟩
def lw_privs : List (MethodName × Nat) := lw_privs_1
def lw_tbl : List Cond := k2_sels lw_privs ++ tables_1
theorem lw_privs_ok : ∀ q ∈ lw_privs, lw_okq q := lw_r1
-- ===== ONE list of words for every method: the tables' words that hold all through a run =====
def lw_all : List Cond := lw_tbl.filter goodWord
/-- a word of the tables by its place: claim/WORDS.tsv -/
theorem lw_w {w : Cond} (i : Nat) (h : lw_tbl[i]? = some w) (g : goodWord w = true) : w ∈ lw_all := List.mem_filter.mpr ⟨List.mem_of_getElem? h, g⟩
theorem lw_all_tbl {w : Cond} (h : w ∈ lw_all) : w ∈ lw_tbl := (List.mem_filter.mp h).1
theorem lw_self : GoodIn lw_all lw_all := fun w h => ⟨h, good_of_word (List.mem_filter.mp h).2⟩
/-- a class's field words, by their places -/
theorem lw_in (ws : List Cond) (ps : List Nat) (hp : ws = ps.filterMap (fun i => lw_tbl[i]?)) (hg : ws.all goodWord = true) : ∀ w ∈ ws, w ∈ lw_all := by
  intro w h
  have h1 := List.all_eq_true.mp hg w h
  rw [hp] at h
  obtain ⟨i, -, hi⟩ := List.mem_filterMap.mp h
  exact lw_w i hi h1
/-- the words of a contract for the method y with code b, L locals, answer r -/
abbrev ws_ (y : MethodName) (b : ByteArray) (L : Nat) (r : Option FieldType) : List Cond := Cond.code y b L r :: lw_all
theorem lw_meth {y : MethodName} {b : ByteArray} {L : Nat} {r : Option FieldType} (h : Cond.code y b L r ∈ lw_all) : GoodIn lw_all (ws_ y b L r) := by
  intro w hw
  rcases List.mem_cons.mp hw with e | e
  · rw [e]
    exact lw_self _ h
  · exact lw_self _ e
theorem lw_app {a c : List Cond} (ha : ∀ w ∈ a, w ∈ lw_all) (hc : GoodIn lw_all c) : GoodIn lw_all (a ++ c) := by
  intro w hw
  rcases List.mem_append.mp hw with e | e
  · exact lw_self w (ha w e)
  · exact hc w e
/-- what a call through an object asks: cwV n hts (lw_V ..) -/
theorem lw_V {own : String} {idx : Nat} {C : String} {y : MethodName} {b : ByteArray} {L : Nat} {r : Option FieldType} (h1 : Cond.methodLink own idx y ∈ lw_all) (h2 : Cond.instanceMethod y ∈ lw_all) (h3 : Cond.selects C y y ∈ lw_all) (h4 : Cond.initialized C ∈ lw_all) (h5 : Cond.code y b L r ∈ lw_all) : GoodIn lw_all (wsV own idx C y (ws_ y b L r)) := by
  refine lw_app ?_ (lw_meth h5)
  intro w hw
  simp only [List.mem_cons, List.not_mem_nil, or_false] at hw
  rcases hw with e | e | e | e
  · rw [e]; exact h1
  · rw [e]; exact h2
  · rw [e]; exact h3
  · rw [e]; exact h4
/-- what a static call asks: va_cwS n hts (lw_S ..) -/
theorem lw_S {own : String} {idx : Nat} {y : MethodName} {b : ByteArray} {L : Nat} {r : Option FieldType} (h1 : Cond.methodLink own idx y ∈ lw_all) (h2 : Cond.static y ∈ lw_all) (h3 : Cond.initialized y.cls ∈ lw_all) (h4 : Cond.code y b L r ∈ lw_all) : GoodIn lw_all (va_wsS own idx y (ws_ y b L r)) := by
  refine lw_app ?_ (lw_meth h4)
  intro w hw
  simp only [List.mem_cons, List.not_mem_nil, or_false] at hw
  rcases hw with e | e | e
  · rw [e]; exact h1
  · rw [e]; exact h2
  · rw [e]; exact h3
/-- the words of a contract for a method WITH HANDLERS (hh: its table) -/
abbrev wsW_ (y : MethodName) (b : ByteArray) (L : Nat) (r : Option FieldType) (hh : List (Nat × Nat × Nat × Nat)) : List Cond := Cond.codeWith y b L r hh :: lw_all
theorem lw_methW {y : MethodName} {b : ByteArray} {L : Nat} {r : Option FieldType} {hh : List (Nat × Nat × Nat × Nat)} (h : Cond.codeWith y b L r hh ∈ lw_all) : GoodIn lw_all (wsW_ y b L r hh) := by
  intro w hw
  rcases List.mem_cons.mp hw with e | e
  · rw [e]
    exact lw_self _ h
  · exact lw_self _ e
/-- any list of words by their places (lw_in), good -/
theorem lw_good {ws : List Cond} (h : ∀ w ∈ ws, w ∈ lw_all) : GoodIn lw_all ws := fun w hw => lw_self w (h w hw)
/-- what a call of a method with handlers asks: vx_cwVW n hts (lw_VW ..), vx_cwSW n hts (lw_SW ..) -/
theorem lw_VW {own : String} {idx : Nat} {C : String} {y : MethodName} {b : ByteArray} {L : Nat} {r : Option FieldType} {hh : List (Nat × Nat × Nat × Nat)} (h1 : Cond.methodLink own idx y ∈ lw_all) (h2 : Cond.instanceMethod y ∈ lw_all) (h3 : Cond.selects C y y ∈ lw_all) (h4 : Cond.initialized C ∈ lw_all) (h5 : Cond.codeWith y b L r hh ∈ lw_all) : GoodIn lw_all (wsV own idx C y (wsW_ y b L r hh)) := by
  refine lw_app ?_ (lw_methW h5)
  intro w hw
  simp only [List.mem_cons, List.not_mem_nil, or_false] at hw
  rcases hw with e | e | e | e
  · rw [e]; exact h1
  · rw [e]; exact h2
  · rw [e]; exact h3
  · rw [e]; exact h4
theorem lw_SW {own : String} {idx : Nat} {y : MethodName} {b : ByteArray} {L : Nat} {r : Option FieldType} {hh : List (Nat × Nat × Nat × Nat)} (h1 : Cond.methodLink own idx y ∈ lw_all) (h2 : Cond.static y ∈ lw_all) (h3 : Cond.initialized y.cls ∈ lw_all) (h4 : Cond.codeWith y b L r hh ∈ lw_all) : GoodIn lw_all (va_wsS own idx y (wsW_ y b L r hh)) := by
  refine lw_app ?_ (lw_methW h4)
  intro w hw
  simp only [List.mem_cons, List.not_mem_nil, or_false] at hw
  rcases hw with e | e | e
  · rw [e]; exact h1
  · rw [e]; exact h2
  · rw [e]; exact h3
/-- a word by its place in its run of the tables -/
theorem lw_at {r : List Cond} (hr : ∀ w ∈ r, w ∈ lw_tbl) {w : Cond} (i : Nat) (h : r[i]? = some w) : w ∈ lw_tbl := hr w (List.mem_of_getElem? h)
theorem lw_g {w : Cond} (h : w ∈ lw_tbl) (g : goodWord w = true) : w ∈ lw_all := List.mem_filter.mpr ⟨h, g⟩
theorem lw_ms : ∀ w ∈ k2_sels lw_privs, w ∈ lw_tbl := fun w h => show w ∈ k2_sels lw_privs ++ tables_1 from List.mem_append_left _ h
theorem lw_m1 : ∀ w ∈ tables_1_1, w ∈ lw_tbl := fun w h => show w ∈ k2_sels lw_privs ++ tables_1 from List.mem_append_right (k2_sels lw_privs) (show w ∈ tables_1 from List.mem_append_left _ h)
theorem lw_m2 : ∀ w ∈ tables_1_2, w ∈ lw_tbl := fun w h => show w ∈ k2_sels lw_privs ++ tables_1 from List.mem_append_right (k2_sels lw_privs) (show w ∈ tables_1 from List.mem_append_right _ h)
theorem qs0 : (Cond.selects "BrewFunctions" ⟨"BrewFunctions", "ask", "(LBrewFunctions$Function;D)D"⟩ ⟨"BrewFunctions", "ask", "(LBrewFunctions$Function;D)D"⟩) ∈ lw_all := lw_g (lw_at lw_ms 0 rfl) rfl
theorem qs1 : (Cond.selects "BrewFunctions$ErrorPart" ⟨"BrewFunctions$ErrorPart", "near", "(D)D"⟩ ⟨"BrewFunctions$ErrorPart", "near", "(D)D"⟩) ∈ lw_all := lw_g (lw_at lw_ms 1 rfl) rfl
theorem qs2 : (Cond.selects "BrewFunctions$ErrorPart" ⟨"BrewFunctions$ErrorPart", "far", "(D)D"⟩ ⟨"BrewFunctions$ErrorPart", "far", "(D)D"⟩) ∈ lw_all := lw_g (lw_at lw_ms 2 rfl) rfl
theorem qs3 : (Cond.selects "BrewFunctions" ⟨"BrewFunctions", "raised", "(DD)D"⟩ ⟨"BrewFunctions", "raised", "(DD)D"⟩) ∈ lw_all := lw_g (lw_at lw_ms 3 rfl) rfl
theorem qs4 : (Cond.selects "BrewFunctionsModel" ⟨"BrewFunctionsModel", "exp", "(D)D"⟩ ⟨"BrewFunctionsModel", "exp", "(D)D"⟩) ∈ lw_all := lw_g (lw_at lw_ms 4 rfl) rfl
theorem qs5 : (Cond.selects "BrewFunctionsModel" ⟨"BrewFunctionsModel", "none", "(I)D"⟩ ⟨"BrewFunctionsModel", "none", "(I)D"⟩) ∈ lw_all := lw_g (lw_at lw_ms 5 rfl) rfl
theorem qs6 : (Cond.selects "BrewFunctionsModel" ⟨"BrewFunctionsModel", "told", "(ZD)D"⟩ ⟨"BrewFunctionsModel", "told", "(ZD)D"⟩) ∈ lw_all := lw_g (lw_at lw_ms 6 rfl) rfl
theorem qs7 : (Cond.selects "BrewFunctionsModel" ⟨"BrewFunctionsModel", "log", "(D)D"⟩ ⟨"BrewFunctionsModel", "log", "(D)D"⟩) ∈ lw_all := lw_g (lw_at lw_ms 7 rfl) rfl
theorem qs8 : (Cond.selects "BrewFunctionsModel" ⟨"BrewFunctionsModel", "pow", "(DD)D"⟩ ⟨"BrewFunctionsModel", "pow", "(DD)D"⟩) ∈ lw_all := lw_g (lw_at lw_ms 8 rfl) rfl
theorem qs9 : (Cond.selects "BrewFunctionsModel" ⟨"BrewFunctionsModel", "sqrt", "(D)D"⟩ ⟨"BrewFunctionsModel", "sqrt", "(D)D"⟩) ∈ lw_all := lw_g (lw_at lw_ms 9 rfl) rfl
theorem qs10 : (Cond.selects "BrewFunctionsModel" ⟨"BrewFunctionsModel", "erf", "(D)D"⟩ ⟨"BrewFunctionsModel", "erf", "(D)D"⟩) ∈ lw_all := lw_g (lw_at lw_ms 10 rfl) rfl
end
section
/-! java/lang/Object -/
set_option maxRecDepth 100000
def RJ0 : String := "java/lang/Object"
abbrev cJ0_init : ByteArray := object_method_1_code
def yJ0_init : MethodName := ⟨RJ0, "<init>", "()V"⟩
theorem dJ0_init_0 : decode cJ0_init 0 = .ok (.return_, 1) := by decide +kernel
theorem q25 : (Jvm.Cond.instanceMethod ({ cls := "java/lang/Object", name := "<init>", desc := "()V" } : Jvm.MethodName)) ∈ lw_all := lw_g (lw_at lw_m1 14 rfl) rfl
theorem q26 : (Jvm.Cond.code ({ cls := "java/lang/Object", name := "<init>", desc := "()V" } : Jvm.MethodName) object_method_1_code (1 : Nat) (Option.none : Option Jvm.ClassFile.FieldType)) ∈ lw_all := lw_g (lw_at lw_m1 15 rfl) rfl
theorem q196 : (Jvm.Cond.arrayClass Jvm.ClassFile.FieldType.double) ∈ lw_all := lw_g (lw_at lw_m1 185 rfl) rfl
/-! BrewFunctionsLaw -/
def RX0 : String := "BrewFunctionsLaw"
abbrev cX0_cell : ByteArray := method_2_code
def yX0_cell : MethodName := ⟨RX0, "cell", "([II)I"⟩
theorem dX0_cell_0 : decode cX0_cell 0 = .ok (.iload_n 1, 1) := by decide +kernel
theorem dX0_cell_1 : decode cX0_cell 1 = .ok (.aload_n 0, 1) := by decide +kernel
theorem dX0_cell_2 : decode cX0_cell 2 = .ok (.arraylength, 1) := by decide +kernel
theorem dX0_cell_3 : decode cX0_cell 3 = .ok (.if_icmp .ge 9, 3) := by decide +kernel
theorem dX0_cell_6 : decode cX0_cell 6 = .ok (.aload_n 0, 1) := by decide +kernel
theorem dX0_cell_7 : decode cX0_cell 7 = .ok (.iload_n 1, 1) := by decide +kernel
theorem dX0_cell_8 : decode cX0_cell 8 = .ok (.iaload, 1) := by decide +kernel
theorem dX0_cell_9 : decode cX0_cell 9 = .ok (.goto 4, 3) := by decide +kernel
theorem dX0_cell_12 : decode cX0_cell 12 = .ok (.iconst 0, 1) := by decide +kernel
theorem dX0_cell_13 : decode cX0_cell 13 = .ok (.ireturn, 1) := by decide +kernel
theorem q11 : (Jvm.Cond.initialized "BrewFunctionsLaw") ∈ lw_all := lw_g (lw_at lw_m1 0 rfl) rfl
theorem q19 : (Jvm.Cond.classLink "BrewFunctionsLaw" (7 : Nat) "BrewFunctions") ∈ lw_all := lw_g (lw_at lw_m1 8 rfl) rfl
theorem q21 : (Jvm.Cond.methodLink "BrewFunctionsLaw" (15 : Nat) ({ cls := "BrewFunctions", name := "<init>", desc := "(J)V" } : Jvm.MethodName)) ∈ lw_all := lw_g (lw_at lw_m1 10 rfl) rfl
theorem q86 : (Jvm.Cond.methodLink "BrewFunctionsLaw" (23 : Nat) ({ cls := "BrewFunctions", name := "exponential", desc := "(D)D" } : Jvm.MethodName)) ∈ lw_all := lw_g (lw_at lw_m1 75 rfl) rfl
theorem q197 : (Jvm.Cond.methodLink "BrewFunctionsLaw" (28 : Nat) ({ cls := "BrewFunctions", name := "logarithm", desc := "(D)D" } : Jvm.MethodName)) ∈ lw_all := lw_g (lw_at lw_m1 186 rfl) rfl
theorem q201 : (Jvm.Cond.methodLink "BrewFunctionsLaw" (32 : Nat) ({ cls := "BrewFunctions", name := "power", desc := "(DD)D" } : Jvm.MethodName)) ∈ lw_all := lw_g (lw_at lw_m1 190 rfl) rfl
theorem q213 : (Jvm.Cond.methodLink "BrewFunctionsLaw" (37 : Nat) ({ cls := "BrewFunctions", name := "root", desc := "(D)D" } : Jvm.MethodName)) ∈ lw_all := lw_g (lw_at lw_m1 202 rfl) rfl
theorem q217 : (Jvm.Cond.methodLink "BrewFunctionsLaw" (41 : Nat) ({ cls := "BrewFunctions", name := "errorPart", desc := "(D)D" } : Jvm.MethodName)) ∈ lw_all := lw_g (lw_at lw_m1 206 rfl) rfl
theorem q221 : (Jvm.Cond.methodLink "BrewFunctionsLaw" (45 : Nat) ({ cls := "BrewFunctions", name := "law", desc := "(DDD)D" } : Jvm.MethodName)) ∈ lw_all := lw_g (lw_at lw_m1 210 rfl) rfl
theorem q226 : (Jvm.Cond.methodLink "BrewFunctionsLaw" (52 : Nat) ({ cls := "BrewFunctions", name := "normal", desc := "(IJI)D" } : Jvm.MethodName)) ∈ lw_all := lw_g (lw_at lw_m1 215 rfl) rfl
theorem q237 : (Jvm.Cond.methodLink "BrewFunctionsLaw" (57 : Nat) ({ cls := "BrewFunctions", name := "bound", desc := "(ID)D" } : Jvm.MethodName)) ∈ lw_all := lw_g (lw_at lw_m1 226 rfl) rfl
theorem q267 : (Jvm.Cond.methodLink "BrewFunctionsLaw" (62 : Nat) ({ cls := "BrewFunctions", name := "code", desc := "()I" } : Jvm.MethodName)) ∈ lw_all := lw_g (lw_at lw_m2 16 rfl) rfl
theorem q271 : (Jvm.Cond.methodLink "BrewFunctionsLaw" (67 : Nat) ({ cls := "BrewFunctions", name := "made", desc := "()I" } : Jvm.MethodName)) ∈ lw_all := lw_g (lw_at lw_m2 20 rfl) rfl
theorem q287 : (Jvm.Cond.methodLink "BrewFunctionsLaw" (9 : Nat) ({ cls := "BrewFunctionsLaw", name := "cell", desc := "([II)I" } : Jvm.MethodName)) ∈ lw_all := lw_g (lw_at lw_m2 36 rfl) rfl
theorem q288 : (Jvm.Cond.static ({ cls := "BrewFunctionsLaw", name := "cell", desc := "([II)I" } : Jvm.MethodName)) ∈ lw_all := lw_g (lw_at lw_m2 37 rfl) rfl
theorem q289 : (Jvm.Cond.code ({ cls := "BrewFunctionsLaw", name := "cell", desc := "([II)I" } : Jvm.MethodName) method_2_code (2 : Nat) (Option.some Jvm.ClassFile.FieldType.int)) ∈ lw_all := lw_g (lw_at lw_m2 38 rfl) rfl
theorem q290 : (Jvm.Cond.classLink "BrewFunctionsLaw" (18 : Nat) "BrewFunctionsModel") ∈ lw_all := lw_g (lw_at lw_m2 39 rfl) rfl
theorem q292 : (Jvm.Cond.methodLink "BrewFunctionsLaw" (20 : Nat) ({ cls := "BrewFunctionsModel", name := "<init>", desc := "(J)V" } : Jvm.MethodName)) ∈ lw_all := lw_g (lw_at lw_m2 41 rfl) rfl
theorem q315 : (Jvm.Cond.methodLink "BrewFunctionsLaw" (27 : Nat) ({ cls := "BrewFunctionsModel", name := "exponential", desc := "(D)D" } : Jvm.MethodName)) ∈ lw_all := lw_g (lw_at lw_m2 64 rfl) rfl
theorem q342 : (Jvm.Cond.methodLink "BrewFunctionsLaw" (31 : Nat) ({ cls := "BrewFunctionsModel", name := "logarithm", desc := "(D)D" } : Jvm.MethodName)) ∈ lw_all := lw_g (lw_at lw_m2 91 rfl) rfl
theorem q352 : (Jvm.Cond.methodLink "BrewFunctionsLaw" (36 : Nat) ({ cls := "BrewFunctionsModel", name := "power", desc := "(DD)D" } : Jvm.MethodName)) ∈ lw_all := lw_g (lw_at lw_m2 101 rfl) rfl
theorem q360 : (Jvm.Cond.methodLink "BrewFunctionsLaw" (40 : Nat) ({ cls := "BrewFunctionsModel", name := "root", desc := "(D)D" } : Jvm.MethodName)) ∈ lw_all := lw_g (lw_at lw_m2 109 rfl) rfl
theorem q370 : (Jvm.Cond.methodLink "BrewFunctionsLaw" (44 : Nat) ({ cls := "BrewFunctionsModel", name := "errorPart", desc := "(D)D" } : Jvm.MethodName)) ∈ lw_all := lw_g (lw_at lw_m2 119 rfl) rfl
theorem q382 : (Jvm.Cond.methodLink "BrewFunctionsLaw" (49 : Nat) ({ cls := "BrewFunctionsModel", name := "law", desc := "(DDD)D" } : Jvm.MethodName)) ∈ lw_all := lw_g (lw_at lw_m2 131 rfl) rfl
theorem q387 : (Jvm.Cond.methodLink "BrewFunctionsLaw" (56 : Nat) ({ cls := "BrewFunctionsModel", name := "normal", desc := "(IJI)D" } : Jvm.MethodName)) ∈ lw_all := lw_g (lw_at lw_m2 136 rfl) rfl
theorem q397 : (Jvm.Cond.methodLink "BrewFunctionsLaw" (61 : Nat) ({ cls := "BrewFunctionsModel", name := "bound", desc := "(ID)D" } : Jvm.MethodName)) ∈ lw_all := lw_g (lw_at lw_m2 146 rfl) rfl
theorem q406 : (Jvm.Cond.methodLink "BrewFunctionsLaw" (66 : Nat) ({ cls := "BrewFunctionsModel", name := "code", desc := "()I" } : Jvm.MethodName)) ∈ lw_all := lw_g (lw_at lw_m2 155 rfl) rfl
theorem q410 : (Jvm.Cond.methodLink "BrewFunctionsLaw" (70 : Nat) ({ cls := "BrewFunctionsModel", name := "made", desc := "()I" } : Jvm.MethodName)) ∈ lw_all := lw_g (lw_at lw_m2 159 rfl) rfl
theorem q414 : (Jvm.Cond.constantDouble "BrewFunctionsLaw" (21 : Nat) (4593671619917905920 : UInt64)) ∈ lw_all := lw_g (lw_at lw_m2 163 rfl) rfl
theorem q415 : (Jvm.Cond.constantLong "BrewFunctionsLaw" (50 : Nat) (4294967295 : Int64)) ∈ lw_all := lw_g (lw_at lw_m2 164 rfl) rfl
/-! BrewFunctions$Function -/
def RX2 : String := "BrewFunctions$Function"
abbrev cX2_init : ByteArray := prog_4_method_1_code
def yX2_init : MethodName := ⟨RX2, "<init>", "()V"⟩
theorem dX2_init_0 : decode cX2_init 0 = .ok (.aload_n 0, 1) := by decide +kernel
theorem dX2_init_1 : decode cX2_init 1 = .ok (.invokespecial 1, 3) := by decide +kernel
theorem dX2_init_4 : decode cX2_init 4 = .ok (.return_, 1) := by decide +kernel
abbrev cX2_at : ByteArray := prog_4_method_6_code
def yX2_at : MethodName := ⟨RX2, "at", "(I)D"⟩
theorem dX2_at_0 : decode cX2_at 0 = .ok (.aload_n 0, 1) := by decide +kernel
theorem dX2_at_1 : decode cX2_at 1 = .ok (.getfield 7, 3) := by decide +kernel
theorem dX2_at_4 : decode cX2_at 4 = .ok (.ifnonnull 11, 3) := by decide +kernel
theorem dX2_at_7 : decode cX2_at 7 = .ok (.aload_n 0, 1) := by decide +kernel
theorem dX2_at_8 : decode cX2_at 8 = .ok (.aload_n 0, 1) := by decide +kernel
theorem dX2_at_9 : decode cX2_at 9 = .ok (.invokevirtual 13, 3) := by decide +kernel
theorem dX2_at_12 : decode cX2_at 12 = .ok (.putfield 7, 3) := by decide +kernel
theorem dX2_at_15 : decode cX2_at 15 = .ok (.aload_n 0, 1) := by decide +kernel
theorem dX2_at_16 : decode cX2_at 16 = .ok (.getfield 7, 3) := by decide +kernel
theorem dX2_at_19 : decode cX2_at 19 = .ok (.iload_n 1, 1) := by decide +kernel
theorem dX2_at_20 : decode cX2_at 20 = .ok (.daload, 1) := by decide +kernel
theorem dX2_at_21 : decode cX2_at 21 = .ok (.dreturn, 1) := by decide +kernel
abbrev cX2_isMade : ByteArray := prog_4_method_7_code
def yX2_isMade : MethodName := ⟨RX2, "isMade", "()Z"⟩
theorem dX2_isMade_0 : decode cX2_isMade 0 = .ok (.aload_n 0, 1) := by decide +kernel
theorem dX2_isMade_1 : decode cX2_isMade 1 = .ok (.getfield 7, 3) := by decide +kernel
theorem dX2_isMade_4 : decode cX2_isMade 4 = .ok (.ifnull 7, 3) := by decide +kernel
theorem dX2_isMade_7 : decode cX2_isMade 7 = .ok (.iconst 1, 1) := by decide +kernel
theorem dX2_isMade_8 : decode cX2_isMade 8 = .ok (.goto 4, 3) := by decide +kernel
theorem dX2_isMade_11 : decode cX2_isMade 11 = .ok (.iconst 0, 1) := by decide +kernel
theorem dX2_isMade_12 : decode cX2_isMade 12 = .ok (.ireturn, 1) := by decide +kernel
theorem q13 : (Jvm.Cond.initialized "BrewFunctions$Function") ∈ lw_all := lw_g (lw_at lw_m1 2 rfl) rfl
theorem q33 : (Jvm.Cond.instanceMethod ({ cls := "BrewFunctions$Function", name := "<init>", desc := "()V" } : Jvm.MethodName)) ∈ lw_all := lw_g (lw_at lw_m1 22 rfl) rfl
theorem q34 : (Jvm.Cond.code ({ cls := "BrewFunctions$Function", name := "<init>", desc := "()V" } : Jvm.MethodName) prog_4_method_1_code (1 : Nat) (Option.none : Option Jvm.ClassFile.FieldType)) ∈ lw_all := lw_g (lw_at lw_m1 23 rfl) rfl
theorem q35 : (Jvm.Cond.methodLink "BrewFunctions$Function" (1 : Nat) ({ cls := "java/lang/Object", name := "<init>", desc := "()V" } : Jvm.MethodName)) ∈ lw_all := lw_g (lw_at lw_m1 24 rfl) rfl
theorem q36 : (Jvm.Cond.fieldLink "BrewFunctions$Function" (7 : Nat) "BrewFunctions$Function" "table" "[D") ∈ lw_all := lw_g (lw_at lw_m1 25 rfl) rfl
theorem q38 : (Jvm.Cond.soleField "BrewFunctions$Function" "table") ∈ lw_all := lw_g (lw_at lw_m1 27 rfl) rfl
theorem q95 : (Jvm.Cond.declares ({ cls := "BrewFunctions$Function", name := "codeOf", desc := "(D)I" } : Jvm.MethodName)) ∈ lw_tbl := lw_at lw_m1 84 rfl
theorem q96 : (Jvm.Cond.sameMethod "BrewFunctions$Function" "BrewFunctions$Function" "codeOf" "(D)I") ∈ lw_all := lw_g (lw_at lw_m1 85 rfl) rfl
theorem q119 : (Jvm.Cond.declares ({ cls := "BrewFunctions$Function", name := "valueOf", desc := "(D)D" } : Jvm.MethodName)) ∈ lw_tbl := lw_at lw_m1 108 rfl
theorem q120 : (Jvm.Cond.sameMethod "BrewFunctions$Function" "BrewFunctions$Function" "valueOf" "(D)D") ∈ lw_all := lw_g (lw_at lw_m1 109 rfl) rfl
theorem q135 : (Jvm.Cond.declares ({ cls := "BrewFunctions$Function", name := "at", desc := "(I)D" } : Jvm.MethodName)) ∈ lw_tbl := lw_at lw_m1 124 rfl
theorem q137 : (Jvm.Cond.instanceMethod ({ cls := "BrewFunctions$Function", name := "at", desc := "(I)D" } : Jvm.MethodName)) ∈ lw_all := lw_g (lw_at lw_m1 126 rfl) rfl
theorem q138 : (Jvm.Cond.code ({ cls := "BrewFunctions$Function", name := "at", desc := "(I)D" } : Jvm.MethodName) prog_4_method_6_code (2 : Nat) (Option.some Jvm.ClassFile.FieldType.double)) ∈ lw_all := lw_g (lw_at lw_m1 127 rfl) rfl
theorem q139 : (Jvm.Cond.methodLink "BrewFunctions$Function" (13 : Nat) ({ cls := "BrewFunctions$Function", name := "make", desc := "()[D" } : Jvm.MethodName)) ∈ lw_all := lw_g (lw_at lw_m1 128 rfl) rfl
theorem q140 : (Jvm.Cond.declares ({ cls := "BrewFunctions$Function", name := "make", desc := "()[D" } : Jvm.MethodName)) ∈ lw_tbl := lw_at lw_m1 129 rfl
theorem q141 : (Jvm.Cond.sameMethod "BrewFunctions$Function" "BrewFunctions$Function" "make" "()[D") ∈ lw_all := lw_g (lw_at lw_m1 130 rfl) rfl
theorem q243 : (Jvm.Cond.declares ({ cls := "BrewFunctions$Function", name := "boundOf", desc := "(D)D" } : Jvm.MethodName)) ∈ lw_tbl := lw_at lw_m1 232 rfl
theorem q244 : (Jvm.Cond.sameMethod "BrewFunctions$Function" "BrewFunctions$Function" "boundOf" "(D)D") ∈ lw_all := lw_g (lw_at lw_m1 233 rfl) rfl
theorem q277 : (Jvm.Cond.declares ({ cls := "BrewFunctions$Function", name := "isMade", desc := "()Z" } : Jvm.MethodName)) ∈ lw_tbl := lw_at lw_m2 26 rfl
theorem q279 : (Jvm.Cond.instanceMethod ({ cls := "BrewFunctions$Function", name := "isMade", desc := "()Z" } : Jvm.MethodName)) ∈ lw_all := lw_g (lw_at lw_m2 28 rfl) rfl
theorem q280 : (Jvm.Cond.code ({ cls := "BrewFunctions$Function", name := "isMade", desc := "()Z" } : Jvm.MethodName) prog_4_method_7_code (1 : Nat) (Option.some Jvm.ClassFile.FieldType.boolean)) ∈ lw_all := lw_g (lw_at lw_m2 29 rfl) rfl
/-! BrewFunctions$Exponential -/
def RX3 : String := "BrewFunctions$Exponential"
def TX3 : u_T := fun k => match k with
  | _ => ("BrewFunctions$Function", "table", "[D", false)
def tyX3 : Nat → FieldType := fun k => match k with
  | _ => .array .double
abbrev wsX30 : List Cond := u_ws RX3 TX3 1
theorem nmX3 : ∀ a, a < 1 → ∀ b, b < 1 → a ≠ b → (TX3 a).2.1 ≠ (TX3 b).2.1 := by decide +kernel
theorem tyX3_ok : ∀ k, k < 1 → parseFieldDescriptor (TX3 k).2.2.1 = some (tyX3 k) := by decide +kernel
abbrev cX3_init : ByteArray := prog_3_method_1_code
def yX3_init : MethodName := ⟨RX3, "<init>", "()V"⟩
theorem dX3_init_0 : decode cX3_init 0 = .ok (.aload_n 0, 1) := by decide +kernel
theorem dX3_init_1 : decode cX3_init 1 = .ok (.invokespecial 3, 3) := by decide +kernel
theorem dX3_init_4 : decode cX3_init 4 = .ok (.return_, 1) := by decide +kernel
abbrev cX3_codeOf : ByteArray := prog_3_method_2_code
def yX3_codeOf : MethodName := ⟨RX3, "codeOf", "(D)I"⟩
theorem dX3_codeOf_0 : decode cX3_codeOf 0 = .ok (.dload_n 1, 1) := by decide +kernel
theorem dX3_codeOf_1 : decode cX3_codeOf 1 = .ok (.invokestatic 9, 3) := by decide +kernel
theorem dX3_codeOf_4 : decode cX3_codeOf 4 = .ok (.ifCond .ne 7, 3) := by decide +kernel
theorem dX3_codeOf_7 : decode cX3_codeOf 7 = .ok (.iconst 5, 1) := by decide +kernel
theorem dX3_codeOf_8 : decode cX3_codeOf 8 = .ok (.goto 16, 3) := by decide +kernel
theorem dX3_codeOf_11 : decode cX3_codeOf 11 = .ok (.dload_n 1, 1) := by decide +kernel
theorem dX3_codeOf_12 : decode cX3_codeOf 12 = .ok (.ldc2_w 13, 3) := by decide +kernel
theorem dX3_codeOf_15 : decode cX3_codeOf 15 = .ok (.dcmp .l, 1) := by decide +kernel
theorem dX3_codeOf_16 : decode cX3_codeOf 16 = .ok (.ifCond .le 7, 3) := by decide +kernel
theorem dX3_codeOf_19 : decode cX3_codeOf 19 = .ok (.iconst 1, 1) := by decide +kernel
theorem dX3_codeOf_20 : decode cX3_codeOf 20 = .ok (.goto 4, 3) := by decide +kernel
theorem dX3_codeOf_23 : decode cX3_codeOf 23 = .ok (.iconst 0, 1) := by decide +kernel
theorem dX3_codeOf_24 : decode cX3_codeOf 24 = .ok (.ireturn, 1) := by decide +kernel
abbrev cX3_make : ByteArray := prog_3_method_3_code
def yX3_make : MethodName := ⟨RX3, "make", "()[D"⟩
theorem dX3_make_0 : decode cX3_make 0 = .ok (.bipush 15, 2) := by decide +kernel
theorem dX3_make_2 : decode cX3_make 2 = .ok (.newarray .double, 2) := by decide +kernel
theorem dX3_make_4 : decode cX3_make 4 = .ok (.astore_n 1, 1) := by decide +kernel
theorem dX3_make_5 : decode cX3_make 5 = .ok (.iconst 0, 1) := by decide +kernel
theorem dX3_make_6 : decode cX3_make 6 = .ok (.istore_n 2, 1) := by decide +kernel
theorem dX3_make_7 : decode cX3_make 7 = .ok (.iload_n 2, 1) := by decide +kernel
theorem dX3_make_8 : decode cX3_make 8 = .ok (.bipush 15, 2) := by decide +kernel
theorem dX3_make_10 : decode cX3_make 10 = .ok (.if_icmp .ge 14, 3) := by decide +kernel
theorem dX3_make_13 : decode cX3_make 13 = .ok (.aload_n 1, 1) := by decide +kernel
theorem dX3_make_14 : decode cX3_make 14 = .ok (.iload_n 2, 1) := by decide +kernel
theorem dX3_make_15 : decode cX3_make 15 = .ok (.iload_n 2, 1) := by decide +kernel
theorem dX3_make_16 : decode cX3_make 16 = .ok (.i2d, 1) := by decide +kernel
theorem dX3_make_17 : decode cX3_make 17 = .ok (.dastore, 1) := by decide +kernel
theorem dX3_make_18 : decode cX3_make 18 = .ok (.iinc 2 1, 3) := by decide +kernel
theorem dX3_make_21 : decode cX3_make 21 = .ok (.goto (-14), 3) := by decide +kernel
theorem dX3_make_24 : decode cX3_make 24 = .ok (.aload_n 1, 1) := by decide +kernel
theorem dX3_make_25 : decode cX3_make 25 = .ok (.areturn, 1) := by decide +kernel
abbrev cX3_valueOf : ByteArray := prog_3_method_4_code
def yX3_valueOf : MethodName := ⟨RX3, "valueOf", "(D)D"⟩
theorem dX3_valueOf_0 : decode cX3_valueOf 0 = .ok (.dload_n 1, 1) := by decide +kernel
theorem dX3_valueOf_1 : decode cX3_valueOf 1 = .ok (.ldc2_w 15, 3) := by decide +kernel
theorem dX3_valueOf_4 : decode cX3_valueOf 4 = .ok (.dcmp .g, 1) := by decide +kernel
theorem dX3_valueOf_5 : decode cX3_valueOf 5 = .ok (.ifCond .ge 5, 3) := by decide +kernel
theorem dX3_valueOf_8 : decode cX3_valueOf 8 = .ok (.dconst 0, 1) := by decide +kernel
theorem dX3_valueOf_9 : decode cX3_valueOf 9 = .ok (.dreturn, 1) := by decide +kernel
theorem dX3_valueOf_10 : decode cX3_valueOf 10 = .ok (.dload_n 1, 1) := by decide +kernel
theorem dX3_valueOf_11 : decode cX3_valueOf 11 = .ok (.ldc2_w 17, 3) := by decide +kernel
theorem dX3_valueOf_14 : decode cX3_valueOf 14 = .ok (.dmul, 1) := by decide +kernel
theorem dX3_valueOf_15 : decode cX3_valueOf 15 = .ok (.ldc2_w 19, 3) := by decide +kernel
theorem dX3_valueOf_18 : decode cX3_valueOf 18 = .ok (.dadd, 1) := by decide +kernel
theorem dX3_valueOf_19 : decode cX3_valueOf 19 = .ok (.dstore_n 3, 1) := by decide +kernel
theorem dX3_valueOf_20 : decode cX3_valueOf 20 = .ok (.dload_n 3, 1) := by decide +kernel
theorem dX3_valueOf_21 : decode cX3_valueOf 21 = .ok (.d2i, 1) := by decide +kernel
theorem dX3_valueOf_22 : decode cX3_valueOf 22 = .ok (.istore 5, 2) := by decide +kernel
theorem dX3_valueOf_24 : decode cX3_valueOf 24 = .ok (.iload 5, 2) := by decide +kernel
theorem dX3_valueOf_26 : decode cX3_valueOf 26 = .ok (.iload 5, 2) := by decide +kernel
theorem dX3_valueOf_28 : decode cX3_valueOf 28 = .ok (.i2d, 1) := by decide +kernel
theorem dX3_valueOf_29 : decode cX3_valueOf 29 = .ok (.dload_n 3, 1) := by decide +kernel
theorem dX3_valueOf_30 : decode cX3_valueOf 30 = .ok (.dcmp .l, 1) := by decide +kernel
theorem dX3_valueOf_31 : decode cX3_valueOf 31 = .ok (.ifCond .le 7, 3) := by decide +kernel
theorem dX3_valueOf_34 : decode cX3_valueOf 34 = .ok (.iconst 1, 1) := by decide +kernel
theorem dX3_valueOf_35 : decode cX3_valueOf 35 = .ok (.goto 4, 3) := by decide +kernel
theorem dX3_valueOf_38 : decode cX3_valueOf 38 = .ok (.iconst 0, 1) := by decide +kernel
theorem dX3_valueOf_39 : decode cX3_valueOf 39 = .ok (.isub, 1) := by decide +kernel
theorem dX3_valueOf_40 : decode cX3_valueOf 40 = .ok (.istore 5, 2) := by decide +kernel
theorem dX3_valueOf_42 : decode cX3_valueOf 42 = .ok (.dload_n 1, 1) := by decide +kernel
theorem dX3_valueOf_43 : decode cX3_valueOf 43 = .ok (.iload 5, 2) := by decide +kernel
theorem dX3_valueOf_45 : decode cX3_valueOf 45 = .ok (.i2d, 1) := by decide +kernel
theorem dX3_valueOf_46 : decode cX3_valueOf 46 = .ok (.ldc2_w 21, 3) := by decide +kernel
theorem dX3_valueOf_49 : decode cX3_valueOf 49 = .ok (.dmul, 1) := by decide +kernel
theorem dX3_valueOf_50 : decode cX3_valueOf 50 = .ok (.dsub, 1) := by decide +kernel
theorem dX3_valueOf_51 : decode cX3_valueOf 51 = .ok (.dstore 6, 2) := by decide +kernel
theorem dX3_valueOf_53 : decode cX3_valueOf 53 = .ok (.dconst 1, 1) := by decide +kernel
theorem dX3_valueOf_54 : decode cX3_valueOf 54 = .ok (.dstore 8, 2) := by decide +kernel
theorem dX3_valueOf_56 : decode cX3_valueOf 56 = .ok (.bipush 14, 2) := by decide +kernel
theorem dX3_valueOf_58 : decode cX3_valueOf 58 = .ok (.istore 10, 2) := by decide +kernel
theorem dX3_valueOf_60 : decode cX3_valueOf 60 = .ok (.iload 10, 2) := by decide +kernel
theorem dX3_valueOf_62 : decode cX3_valueOf 62 = .ok (.ifCond .le 25, 3) := by decide +kernel
theorem dX3_valueOf_65 : decode cX3_valueOf 65 = .ok (.dconst 1, 1) := by decide +kernel
theorem dX3_valueOf_66 : decode cX3_valueOf 66 = .ok (.dload 6, 2) := by decide +kernel
theorem dX3_valueOf_68 : decode cX3_valueOf 68 = .ok (.aload_n 0, 1) := by decide +kernel
theorem dX3_valueOf_69 : decode cX3_valueOf 69 = .ok (.iload 10, 2) := by decide +kernel
theorem dX3_valueOf_71 : decode cX3_valueOf 71 = .ok (.invokevirtual 23, 3) := by decide +kernel
theorem dX3_valueOf_74 : decode cX3_valueOf 74 = .ok (.ddiv, 1) := by decide +kernel
theorem dX3_valueOf_75 : decode cX3_valueOf 75 = .ok (.dload 8, 2) := by decide +kernel
theorem dX3_valueOf_77 : decode cX3_valueOf 77 = .ok (.dmul, 1) := by decide +kernel
theorem dX3_valueOf_78 : decode cX3_valueOf 78 = .ok (.dadd, 1) := by decide +kernel
theorem dX3_valueOf_79 : decode cX3_valueOf 79 = .ok (.dstore 8, 2) := by decide +kernel
theorem dX3_valueOf_81 : decode cX3_valueOf 81 = .ok (.iinc 10 (-1), 3) := by decide +kernel
theorem dX3_valueOf_84 : decode cX3_valueOf 84 = .ok (.goto (-24), 3) := by decide +kernel
theorem dX3_valueOf_87 : decode cX3_valueOf 87 = .ok (.dload 8, 2) := by decide +kernel
theorem dX3_valueOf_89 : decode cX3_valueOf 89 = .ok (.iload 5, 2) := by decide +kernel
theorem dX3_valueOf_91 : decode cX3_valueOf 91 = .ok (.invokestatic 29, 3) := by decide +kernel
theorem dX3_valueOf_94 : decode cX3_valueOf 94 = .ok (.dreturn, 1) := by decide +kernel
abbrev cX3_boundOf : ByteArray := prog_3_method_5_code
def yX3_boundOf : MethodName := ⟨RX3, "boundOf", "(D)D"⟩
theorem dX3_boundOf_0 : decode cX3_boundOf 0 = .ok (.ldc2_w 33, 3) := by decide +kernel
theorem dX3_boundOf_3 : decode cX3_boundOf 3 = .ok (.dconst 1, 1) := by decide +kernel
theorem dX3_boundOf_4 : decode cX3_boundOf 4 = .ok (.dload_n 1, 1) := by decide +kernel
theorem dX3_boundOf_5 : decode cX3_boundOf 5 = .ok (.invokestatic 35, 3) := by decide +kernel
theorem dX3_boundOf_8 : decode cX3_boundOf 8 = .ok (.dadd, 1) := by decide +kernel
theorem dX3_boundOf_9 : decode cX3_boundOf 9 = .ok (.dmul, 1) := by decide +kernel
theorem dX3_boundOf_10 : decode cX3_boundOf 10 = .ok (.aload_n 0, 1) := by decide +kernel
theorem dX3_boundOf_11 : decode cX3_boundOf 11 = .ok (.dload_n 1, 1) := by decide +kernel
theorem dX3_boundOf_12 : decode cX3_boundOf 12 = .ok (.invokevirtual 39, 3) := by decide +kernel
theorem dX3_boundOf_15 : decode cX3_boundOf 15 = .ok (.dmul, 1) := by decide +kernel
theorem dX3_boundOf_16 : decode cX3_boundOf 16 = .ok (.dreturn, 1) := by decide +kernel
theorem q14 : (Jvm.Cond.initialized "BrewFunctions$Exponential") ∈ lw_all := lw_g (lw_at lw_m1 3 rfl) rfl
theorem q28 : (Jvm.Cond.instantiable "BrewFunctions$Exponential" (1 : Nat)) ∈ lw_all := lw_g (lw_at lw_m1 17 rfl) rfl
theorem q30 : (Jvm.Cond.instanceMethod ({ cls := "BrewFunctions$Exponential", name := "<init>", desc := "()V" } : Jvm.MethodName)) ∈ lw_all := lw_g (lw_at lw_m1 19 rfl) rfl
theorem q31 : (Jvm.Cond.code ({ cls := "BrewFunctions$Exponential", name := "<init>", desc := "()V" } : Jvm.MethodName) prog_3_method_1_code (1 : Nat) (Option.none : Option Jvm.ClassFile.FieldType)) ∈ lw_all := lw_g (lw_at lw_m1 20 rfl) rfl
theorem q32 : (Jvm.Cond.methodLinkNest "BrewFunctions$Exponential" (3 : Nat) ({ cls := "BrewFunctions$Function", name := "<init>", desc := "()V" } : Jvm.MethodName) "BrewFunctions") ∈ lw_tbl := lw_at lw_m1 21 rfl
theorem q37 : (Jvm.Cond.lays "BrewFunctions$Exponential" "BrewFunctions$Function" "table" "[D") ∈ lw_all := lw_g (lw_at lw_m1 26 rfl) rfl
theorem q39 : (Jvm.Cond.superclass "BrewFunctions$Exponential" "BrewFunctions$Function") ∈ lw_all := lw_g (lw_at lw_m1 28 rfl) rfl
theorem q105 : (Jvm.Cond.selects "BrewFunctions$Exponential" ({ cls := "BrewFunctions$Function", name := "codeOf", desc := "(D)I" } : Jvm.MethodName) ({ cls := "BrewFunctions$Exponential", name := "codeOf", desc := "(D)I" } : Jvm.MethodName)) ∈ lw_all := lw_g (lw_at lw_m1 94 rfl) rfl
theorem q106 : (Jvm.Cond.instanceMethod ({ cls := "BrewFunctions$Exponential", name := "codeOf", desc := "(D)I" } : Jvm.MethodName)) ∈ lw_all := lw_g (lw_at lw_m1 95 rfl) rfl
theorem q107 : (Jvm.Cond.code ({ cls := "BrewFunctions$Exponential", name := "codeOf", desc := "(D)I" } : Jvm.MethodName) prog_3_method_2_code (3 : Nat) (Option.some Jvm.ClassFile.FieldType.int)) ∈ lw_all := lw_g (lw_at lw_m1 96 rfl) rfl
theorem q108 : (Jvm.Cond.methodLinkNest "BrewFunctions$Exponential" (9 : Nat) ({ cls := "BrewFunctions", name := "isNumber", desc := "(D)Z" } : Jvm.MethodName) "BrewFunctions") ∈ lw_tbl := lw_at lw_m1 97 rfl
theorem q109 : (Jvm.Cond.constantDouble "BrewFunctions$Exponential" (13 : Nat) (4649368480934526976 : UInt64)) ∈ lw_all := lw_g (lw_at lw_m1 98 rfl) rfl
theorem q145 : (Jvm.Cond.selects "BrewFunctions$Exponential" ({ cls := "BrewFunctions$Function", name := "make", desc := "()[D" } : Jvm.MethodName) ({ cls := "BrewFunctions$Exponential", name := "make", desc := "()[D" } : Jvm.MethodName)) ∈ lw_all := lw_g (lw_at lw_m1 134 rfl) rfl
theorem q146 : (Jvm.Cond.instanceMethod ({ cls := "BrewFunctions$Exponential", name := "make", desc := "()[D" } : Jvm.MethodName)) ∈ lw_all := lw_g (lw_at lw_m1 135 rfl) rfl
theorem q147 : (Jvm.Cond.code ({ cls := "BrewFunctions$Exponential", name := "make", desc := "()[D" } : Jvm.MethodName) prog_3_method_3_code (3 : Nat) (Option.some (Jvm.ClassFile.FieldType.array Jvm.ClassFile.FieldType.double))) ∈ lw_all := lw_g (lw_at lw_m1 136 rfl) rfl
theorem q161 : (Jvm.Cond.instanceMethod ({ cls := "BrewFunctions$Exponential", name := "valueOf", desc := "(D)D" } : Jvm.MethodName)) ∈ lw_all := lw_g (lw_at lw_m1 150 rfl) rfl
theorem q162 : (Jvm.Cond.selects "BrewFunctions$Exponential" ({ cls := "BrewFunctions$Exponential", name := "valueOf", desc := "(D)D" } : Jvm.MethodName) ({ cls := "BrewFunctions$Exponential", name := "valueOf", desc := "(D)D" } : Jvm.MethodName)) ∈ lw_all := lw_g (lw_at lw_m1 151 rfl) rfl
theorem q163 : (Jvm.Cond.code ({ cls := "BrewFunctions$Exponential", name := "valueOf", desc := "(D)D" } : Jvm.MethodName) prog_3_method_4_code (11 : Nat) (Option.some Jvm.ClassFile.FieldType.double)) ∈ lw_all := lw_g (lw_at lw_m1 152 rfl) rfl
theorem q164 : (Jvm.Cond.constantDouble "BrewFunctions$Exponential" (15 : Nat) (13872740517789302784 : UInt64)) ∈ lw_all := lw_g (lw_at lw_m1 153 rfl) rfl
theorem q165 : (Jvm.Cond.constantDouble "BrewFunctions$Exponential" (17 : Nat) (4609176140021203710 : UInt64)) ∈ lw_all := lw_g (lw_at lw_m1 154 rfl) rfl
theorem q166 : (Jvm.Cond.constantDouble "BrewFunctions$Exponential" (19 : Nat) (4602678819172646912 : UInt64)) ∈ lw_all := lw_g (lw_at lw_m1 155 rfl) rfl
theorem q167 : (Jvm.Cond.constantDouble "BrewFunctions$Exponential" (21 : Nat) (4604418534313441775 : UInt64)) ∈ lw_all := lw_g (lw_at lw_m1 156 rfl) rfl
theorem q168 : (Jvm.Cond.methodLink "BrewFunctions$Exponential" (23 : Nat) ({ cls := "BrewFunctions$Exponential", name := "at", desc := "(I)D" } : Jvm.MethodName)) ∈ lw_all := lw_g (lw_at lw_m1 157 rfl) rfl
theorem q169 : (Jvm.Cond.sameMethod "BrewFunctions$Exponential" "BrewFunctions$Function" "at" "(I)D") ∈ lw_all := lw_g (lw_at lw_m1 158 rfl) rfl
theorem q170 : (Jvm.Cond.selects "BrewFunctions$Exponential" ({ cls := "BrewFunctions$Exponential", name := "at", desc := "(I)D" } : Jvm.MethodName) ({ cls := "BrewFunctions$Function", name := "at", desc := "(I)D" } : Jvm.MethodName)) ∈ lw_all := lw_g (lw_at lw_m1 159 rfl) rfl
theorem q171 : (Jvm.Cond.methodLinkNest "BrewFunctions$Exponential" (29 : Nat) ({ cls := "BrewFunctions", name := "scaled", desc := "(DI)D" } : Jvm.MethodName) "BrewFunctions") ∈ lw_tbl := lw_at lw_m1 160 rfl
theorem q177 : (Jvm.Cond.selects "BrewFunctions$Exponential" ({ cls := "BrewFunctions$Function", name := "valueOf", desc := "(D)D" } : Jvm.MethodName) ({ cls := "BrewFunctions$Exponential", name := "valueOf", desc := "(D)D" } : Jvm.MethodName)) ∈ lw_all := lw_g (lw_at lw_m1 166 rfl) rfl
theorem q249 : (Jvm.Cond.selects "BrewFunctions$Exponential" ({ cls := "BrewFunctions$Function", name := "boundOf", desc := "(D)D" } : Jvm.MethodName) ({ cls := "BrewFunctions$Exponential", name := "boundOf", desc := "(D)D" } : Jvm.MethodName)) ∈ lw_all := lw_g (lw_at lw_m1 238 rfl) rfl
theorem q250 : (Jvm.Cond.instanceMethod ({ cls := "BrewFunctions$Exponential", name := "boundOf", desc := "(D)D" } : Jvm.MethodName)) ∈ lw_all := lw_g (lw_at lw_m1 239 rfl) rfl
theorem q251 : (Jvm.Cond.code ({ cls := "BrewFunctions$Exponential", name := "boundOf", desc := "(D)D" } : Jvm.MethodName) prog_3_method_5_code (3 : Nat) (Option.some Jvm.ClassFile.FieldType.double)) ∈ lw_all := lw_g (lw_at lw_m2 0 rfl) rfl
theorem q252 : (Jvm.Cond.constantDouble "BrewFunctions$Exponential" (33 : Nat) (4412443251819771522 : UInt64)) ∈ lw_all := lw_g (lw_at lw_m2 1 rfl) rfl
theorem q253 : (Jvm.Cond.methodLinkNest "BrewFunctions$Exponential" (35 : Nat) ({ cls := "BrewFunctions", name := "size", desc := "(D)D" } : Jvm.MethodName) "BrewFunctions") ∈ lw_tbl := lw_at lw_m2 2 rfl
theorem q254 : (Jvm.Cond.methodLink "BrewFunctions$Exponential" (39 : Nat) ({ cls := "BrewFunctions$Exponential", name := "valueOf", desc := "(D)D" } : Jvm.MethodName)) ∈ lw_all := lw_g (lw_at lw_m2 3 rfl) rfl
theorem q276 : (Jvm.Cond.sameMethod "BrewFunctions$Exponential" "BrewFunctions$Function" "isMade" "()Z") ∈ lw_all := lw_g (lw_at lw_m2 25 rfl) rfl
theorem q278 : (Jvm.Cond.selects "BrewFunctions$Exponential" ({ cls := "BrewFunctions$Exponential", name := "isMade", desc := "()Z" } : Jvm.MethodName) ({ cls := "BrewFunctions$Function", name := "isMade", desc := "()Z" } : Jvm.MethodName)) ∈ lw_all := lw_g (lw_at lw_m2 27 rfl) rfl
theorem in_X3 : ∀ w ∈ wsX30, w ∈ lw_all := lw_in wsX30 [37] (by decide +kernel) (by decide +kernel)
end
section
/-! BrewFunctions$Logarithm -/
set_option maxRecDepth 100000
def RX4 : String := "BrewFunctions$Logarithm"
def TX4 : u_T := fun k => match k with
  | _ => ("BrewFunctions$Function", "table", "[D", false)
def tyX4 : Nat → FieldType := fun k => match k with
  | _ => .array .double
abbrev wsX40 : List Cond := u_ws RX4 TX4 1
theorem nmX4 : ∀ a, a < 1 → ∀ b, b < 1 → a ≠ b → (TX4 a).2.1 ≠ (TX4 b).2.1 := by decide +kernel
theorem tyX4_ok : ∀ k, k < 1 → parseFieldDescriptor (TX4 k).2.2.1 = some (tyX4 k) := by decide +kernel
abbrev cX4_init : ByteArray := prog_5_method_1_code
def yX4_init : MethodName := ⟨RX4, "<init>", "()V"⟩
theorem dX4_init_0 : decode cX4_init 0 = .ok (.aload_n 0, 1) := by decide +kernel
theorem dX4_init_1 : decode cX4_init 1 = .ok (.invokespecial 3, 3) := by decide +kernel
theorem dX4_init_4 : decode cX4_init 4 = .ok (.return_, 1) := by decide +kernel
abbrev cX4_codeOf : ByteArray := prog_5_method_2_code
def yX4_codeOf : MethodName := ⟨RX4, "codeOf", "(D)I"⟩
theorem dX4_codeOf_0 : decode cX4_codeOf 0 = .ok (.dload_n 1, 1) := by decide +kernel
theorem dX4_codeOf_1 : decode cX4_codeOf 1 = .ok (.invokestatic 9, 3) := by decide +kernel
theorem dX4_codeOf_4 : decode cX4_codeOf 4 = .ok (.ifCond .ne 7, 3) := by decide +kernel
theorem dX4_codeOf_7 : decode cX4_codeOf 7 = .ok (.iconst 5, 1) := by decide +kernel
theorem dX4_codeOf_8 : decode cX4_codeOf 8 = .ok (.goto 24, 3) := by decide +kernel
theorem dX4_codeOf_11 : decode cX4_codeOf 11 = .ok (.dload_n 1, 1) := by decide +kernel
theorem dX4_codeOf_12 : decode cX4_codeOf 12 = .ok (.dconst 0, 1) := by decide +kernel
theorem dX4_codeOf_13 : decode cX4_codeOf 13 = .ok (.dcmp .g, 1) := by decide +kernel
theorem dX4_codeOf_14 : decode cX4_codeOf 14 = .ok (.ifCond .ge 7, 3) := by decide +kernel
theorem dX4_codeOf_17 : decode cX4_codeOf 17 = .ok (.iconst 3, 1) := by decide +kernel
theorem dX4_codeOf_18 : decode cX4_codeOf 18 = .ok (.goto 14, 3) := by decide +kernel
theorem dX4_codeOf_21 : decode cX4_codeOf 21 = .ok (.dload_n 1, 1) := by decide +kernel
theorem dX4_codeOf_22 : decode cX4_codeOf 22 = .ok (.dconst 0, 1) := by decide +kernel
theorem dX4_codeOf_23 : decode cX4_codeOf 23 = .ok (.dcmp .l, 1) := by decide +kernel
theorem dX4_codeOf_24 : decode cX4_codeOf 24 = .ok (.ifCond .ne 7, 3) := by decide +kernel
theorem dX4_codeOf_27 : decode cX4_codeOf 27 = .ok (.iconst 2, 1) := by decide +kernel
theorem dX4_codeOf_28 : decode cX4_codeOf 28 = .ok (.goto 4, 3) := by decide +kernel
theorem dX4_codeOf_31 : decode cX4_codeOf 31 = .ok (.iconst 0, 1) := by decide +kernel
theorem dX4_codeOf_32 : decode cX4_codeOf 32 = .ok (.ireturn, 1) := by decide +kernel
abbrev cX4_make : ByteArray := prog_5_method_3_code
def yX4_make : MethodName := ⟨RX4, "make", "()[D"⟩
theorem dX4_make_0 : decode cX4_make 0 = .ok (.bipush 14, 2) := by decide +kernel
theorem dX4_make_2 : decode cX4_make 2 = .ok (.newarray .double, 2) := by decide +kernel
theorem dX4_make_4 : decode cX4_make 4 = .ok (.astore_n 1, 1) := by decide +kernel
theorem dX4_make_5 : decode cX4_make 5 = .ok (.iconst 0, 1) := by decide +kernel
theorem dX4_make_6 : decode cX4_make 6 = .ok (.istore_n 2, 1) := by decide +kernel
theorem dX4_make_7 : decode cX4_make 7 = .ok (.iload_n 2, 1) := by decide +kernel
theorem dX4_make_8 : decode cX4_make 8 = .ok (.bipush 14, 2) := by decide +kernel
theorem dX4_make_10 : decode cX4_make 10 = .ok (.if_icmp .ge 20, 3) := by decide +kernel
theorem dX4_make_13 : decode cX4_make 13 = .ok (.aload_n 1, 1) := by decide +kernel
theorem dX4_make_14 : decode cX4_make 14 = .ok (.iload_n 2, 1) := by decide +kernel
theorem dX4_make_15 : decode cX4_make 15 = .ok (.dconst 1, 1) := by decide +kernel
theorem dX4_make_16 : decode cX4_make 16 = .ok (.iconst 2, 1) := by decide +kernel
theorem dX4_make_17 : decode cX4_make 17 = .ok (.iload_n 2, 1) := by decide +kernel
theorem dX4_make_18 : decode cX4_make 18 = .ok (.imul, 1) := by decide +kernel
theorem dX4_make_19 : decode cX4_make 19 = .ok (.iconst 1, 1) := by decide +kernel
theorem dX4_make_20 : decode cX4_make 20 = .ok (.iadd, 1) := by decide +kernel
theorem dX4_make_21 : decode cX4_make 21 = .ok (.i2d, 1) := by decide +kernel
theorem dX4_make_22 : decode cX4_make 22 = .ok (.ddiv, 1) := by decide +kernel
theorem dX4_make_23 : decode cX4_make 23 = .ok (.dastore, 1) := by decide +kernel
theorem dX4_make_24 : decode cX4_make 24 = .ok (.iinc 2 1, 3) := by decide +kernel
theorem dX4_make_27 : decode cX4_make 27 = .ok (.goto (-20), 3) := by decide +kernel
theorem dX4_make_30 : decode cX4_make 30 = .ok (.aload_n 1, 1) := by decide +kernel
theorem dX4_make_31 : decode cX4_make 31 = .ok (.areturn, 1) := by decide +kernel
abbrev cX4_valueOf : ByteArray := prog_5_method_4_code
def yX4_valueOf : MethodName := ⟨RX4, "valueOf", "(D)D"⟩
theorem dX4_valueOf_0 : decode cX4_valueOf 0 = .ok (.dload_n 1, 1) := by decide +kernel
theorem dX4_valueOf_1 : decode cX4_valueOf 1 = .ok (.dstore_n 3, 1) := by decide +kernel
theorem dX4_valueOf_2 : decode cX4_valueOf 2 = .ok (.iconst 0, 1) := by decide +kernel
theorem dX4_valueOf_3 : decode cX4_valueOf 3 = .ok (.istore 5, 2) := by decide +kernel
theorem dX4_valueOf_5 : decode cX4_valueOf 5 = .ok (.dload_n 3, 1) := by decide +kernel
theorem dX4_valueOf_6 : decode cX4_valueOf 6 = .ok (.ldc2_w 13, 3) := by decide +kernel
theorem dX4_valueOf_9 : decode cX4_valueOf 9 = .ok (.dcmp .l, 1) := by decide +kernel
theorem dX4_valueOf_10 : decode cX4_valueOf 10 = .ok (.ifCond .lt 15, 3) := by decide +kernel
theorem dX4_valueOf_13 : decode cX4_valueOf 13 = .ok (.dload_n 3, 1) := by decide +kernel
theorem dX4_valueOf_14 : decode cX4_valueOf 14 = .ok (.ldc2_w 15, 3) := by decide +kernel
theorem dX4_valueOf_17 : decode cX4_valueOf 17 = .ok (.dmul, 1) := by decide +kernel
theorem dX4_valueOf_18 : decode cX4_valueOf 18 = .ok (.dstore_n 3, 1) := by decide +kernel
theorem dX4_valueOf_19 : decode cX4_valueOf 19 = .ok (.iinc 5 1, 3) := by decide +kernel
theorem dX4_valueOf_22 : decode cX4_valueOf 22 = .ok (.goto (-17), 3) := by decide +kernel
theorem dX4_valueOf_25 : decode cX4_valueOf 25 = .ok (.dload_n 3, 1) := by decide +kernel
theorem dX4_valueOf_26 : decode cX4_valueOf 26 = .ok (.ldc2_w 17, 3) := by decide +kernel
theorem dX4_valueOf_29 : decode cX4_valueOf 29 = .ok (.dcmp .g, 1) := by decide +kernel
theorem dX4_valueOf_30 : decode cX4_valueOf 30 = .ok (.ifCond .ge 15, 3) := by decide +kernel
theorem dX4_valueOf_33 : decode cX4_valueOf 33 = .ok (.dload_n 3, 1) := by decide +kernel
theorem dX4_valueOf_34 : decode cX4_valueOf 34 = .ok (.ldc2_w 19, 3) := by decide +kernel
theorem dX4_valueOf_37 : decode cX4_valueOf 37 = .ok (.dmul, 1) := by decide +kernel
theorem dX4_valueOf_38 : decode cX4_valueOf 38 = .ok (.dstore_n 3, 1) := by decide +kernel
theorem dX4_valueOf_39 : decode cX4_valueOf 39 = .ok (.iinc 5 (-1), 3) := by decide +kernel
theorem dX4_valueOf_42 : decode cX4_valueOf 42 = .ok (.goto (-17), 3) := by decide +kernel
theorem dX4_valueOf_45 : decode cX4_valueOf 45 = .ok (.dload_n 3, 1) := by decide +kernel
theorem dX4_valueOf_46 : decode cX4_valueOf 46 = .ok (.dconst 1, 1) := by decide +kernel
theorem dX4_valueOf_47 : decode cX4_valueOf 47 = .ok (.dsub, 1) := by decide +kernel
theorem dX4_valueOf_48 : decode cX4_valueOf 48 = .ok (.dload_n 3, 1) := by decide +kernel
theorem dX4_valueOf_49 : decode cX4_valueOf 49 = .ok (.dconst 1, 1) := by decide +kernel
theorem dX4_valueOf_50 : decode cX4_valueOf 50 = .ok (.dadd, 1) := by decide +kernel
theorem dX4_valueOf_51 : decode cX4_valueOf 51 = .ok (.ddiv, 1) := by decide +kernel
theorem dX4_valueOf_52 : decode cX4_valueOf 52 = .ok (.dstore 6, 2) := by decide +kernel
theorem dX4_valueOf_54 : decode cX4_valueOf 54 = .ok (.dload 6, 2) := by decide +kernel
theorem dX4_valueOf_56 : decode cX4_valueOf 56 = .ok (.dload 6, 2) := by decide +kernel
theorem dX4_valueOf_58 : decode cX4_valueOf 58 = .ok (.dmul, 1) := by decide +kernel
theorem dX4_valueOf_59 : decode cX4_valueOf 59 = .ok (.dstore 8, 2) := by decide +kernel
theorem dX4_valueOf_61 : decode cX4_valueOf 61 = .ok (.dconst 0, 1) := by decide +kernel
theorem dX4_valueOf_62 : decode cX4_valueOf 62 = .ok (.dstore 10, 2) := by decide +kernel
theorem dX4_valueOf_64 : decode cX4_valueOf 64 = .ok (.bipush 13, 2) := by decide +kernel
theorem dX4_valueOf_66 : decode cX4_valueOf 66 = .ok (.istore 12, 2) := by decide +kernel
theorem dX4_valueOf_68 : decode cX4_valueOf 68 = .ok (.iload 12, 2) := by decide +kernel
theorem dX4_valueOf_70 : decode cX4_valueOf 70 = .ok (.ifCond .lt 23, 3) := by decide +kernel
theorem dX4_valueOf_73 : decode cX4_valueOf 73 = .ok (.aload_n 0, 1) := by decide +kernel
theorem dX4_valueOf_74 : decode cX4_valueOf 74 = .ok (.iload 12, 2) := by decide +kernel
theorem dX4_valueOf_76 : decode cX4_valueOf 76 = .ok (.invokevirtual 21, 3) := by decide +kernel
theorem dX4_valueOf_79 : decode cX4_valueOf 79 = .ok (.dload 8, 2) := by decide +kernel
theorem dX4_valueOf_81 : decode cX4_valueOf 81 = .ok (.dload 10, 2) := by decide +kernel
theorem dX4_valueOf_83 : decode cX4_valueOf 83 = .ok (.dmul, 1) := by decide +kernel
theorem dX4_valueOf_84 : decode cX4_valueOf 84 = .ok (.dadd, 1) := by decide +kernel
theorem dX4_valueOf_85 : decode cX4_valueOf 85 = .ok (.dstore 10, 2) := by decide +kernel
theorem dX4_valueOf_87 : decode cX4_valueOf 87 = .ok (.iinc 12 (-1), 3) := by decide +kernel
theorem dX4_valueOf_90 : decode cX4_valueOf 90 = .ok (.goto (-22), 3) := by decide +kernel
theorem dX4_valueOf_93 : decode cX4_valueOf 93 = .ok (.ldc2_w 19, 3) := by decide +kernel
theorem dX4_valueOf_96 : decode cX4_valueOf 96 = .ok (.dload 6, 2) := by decide +kernel
theorem dX4_valueOf_98 : decode cX4_valueOf 98 = .ok (.dmul, 1) := by decide +kernel
theorem dX4_valueOf_99 : decode cX4_valueOf 99 = .ok (.dload 10, 2) := by decide +kernel
theorem dX4_valueOf_101 : decode cX4_valueOf 101 = .ok (.dmul, 1) := by decide +kernel
theorem dX4_valueOf_102 : decode cX4_valueOf 102 = .ok (.iload 5, 2) := by decide +kernel
theorem dX4_valueOf_104 : decode cX4_valueOf 104 = .ok (.i2d, 1) := by decide +kernel
theorem dX4_valueOf_105 : decode cX4_valueOf 105 = .ok (.ldc2_w 27, 3) := by decide +kernel
theorem dX4_valueOf_108 : decode cX4_valueOf 108 = .ok (.dmul, 1) := by decide +kernel
theorem dX4_valueOf_109 : decode cX4_valueOf 109 = .ok (.dadd, 1) := by decide +kernel
theorem dX4_valueOf_110 : decode cX4_valueOf 110 = .ok (.dreturn, 1) := by decide +kernel
abbrev cX4_boundOf : ByteArray := prog_5_method_5_code
def yX4_boundOf : MethodName := ⟨RX4, "boundOf", "(D)D"⟩
theorem dX4_boundOf_0 : decode cX4_boundOf 0 = .ok (.ldc2_w 29, 3) := by decide +kernel
theorem dX4_boundOf_3 : decode cX4_boundOf 3 = .ok (.ldc2_w 31, 3) := by decide +kernel
theorem dX4_boundOf_6 : decode cX4_boundOf 6 = .ok (.aload_n 0, 1) := by decide +kernel
theorem dX4_boundOf_7 : decode cX4_boundOf 7 = .ok (.dload_n 1, 1) := by decide +kernel
theorem dX4_boundOf_8 : decode cX4_boundOf 8 = .ok (.invokevirtual 33, 3) := by decide +kernel
theorem dX4_boundOf_11 : decode cX4_boundOf 11 = .ok (.invokestatic 37, 3) := by decide +kernel
theorem dX4_boundOf_14 : decode cX4_boundOf 14 = .ok (.dmul, 1) := by decide +kernel
theorem dX4_boundOf_15 : decode cX4_boundOf 15 = .ok (.dadd, 1) := by decide +kernel
theorem dX4_boundOf_16 : decode cX4_boundOf 16 = .ok (.dreturn, 1) := by decide +kernel
theorem q15 : (Jvm.Cond.initialized "BrewFunctions$Logarithm") ∈ lw_all := lw_g (lw_at lw_m1 4 rfl) rfl
theorem q41 : (Jvm.Cond.instantiable "BrewFunctions$Logarithm" (1 : Nat)) ∈ lw_all := lw_g (lw_at lw_m1 30 rfl) rfl
theorem q43 : (Jvm.Cond.instanceMethod ({ cls := "BrewFunctions$Logarithm", name := "<init>", desc := "()V" } : Jvm.MethodName)) ∈ lw_all := lw_g (lw_at lw_m1 32 rfl) rfl
theorem q44 : (Jvm.Cond.code ({ cls := "BrewFunctions$Logarithm", name := "<init>", desc := "()V" } : Jvm.MethodName) prog_5_method_1_code (1 : Nat) (Option.none : Option Jvm.ClassFile.FieldType)) ∈ lw_all := lw_g (lw_at lw_m1 33 rfl) rfl
theorem q45 : (Jvm.Cond.methodLinkNest "BrewFunctions$Logarithm" (3 : Nat) ({ cls := "BrewFunctions$Function", name := "<init>", desc := "()V" } : Jvm.MethodName) "BrewFunctions") ∈ lw_tbl := lw_at lw_m1 34 rfl
theorem q46 : (Jvm.Cond.lays "BrewFunctions$Logarithm" "BrewFunctions$Function" "table" "[D") ∈ lw_all := lw_g (lw_at lw_m1 35 rfl) rfl
theorem q47 : (Jvm.Cond.superclass "BrewFunctions$Logarithm" "BrewFunctions$Function") ∈ lw_all := lw_g (lw_at lw_m1 36 rfl) rfl
theorem q110 : (Jvm.Cond.selects "BrewFunctions$Logarithm" ({ cls := "BrewFunctions$Function", name := "codeOf", desc := "(D)I" } : Jvm.MethodName) ({ cls := "BrewFunctions$Logarithm", name := "codeOf", desc := "(D)I" } : Jvm.MethodName)) ∈ lw_all := lw_g (lw_at lw_m1 99 rfl) rfl
theorem q111 : (Jvm.Cond.instanceMethod ({ cls := "BrewFunctions$Logarithm", name := "codeOf", desc := "(D)I" } : Jvm.MethodName)) ∈ lw_all := lw_g (lw_at lw_m1 100 rfl) rfl
theorem q112 : (Jvm.Cond.code ({ cls := "BrewFunctions$Logarithm", name := "codeOf", desc := "(D)I" } : Jvm.MethodName) prog_5_method_2_code (3 : Nat) (Option.some Jvm.ClassFile.FieldType.int)) ∈ lw_all := lw_g (lw_at lw_m1 101 rfl) rfl
theorem q113 : (Jvm.Cond.methodLinkNest "BrewFunctions$Logarithm" (9 : Nat) ({ cls := "BrewFunctions", name := "isNumber", desc := "(D)Z" } : Jvm.MethodName) "BrewFunctions") ∈ lw_tbl := lw_at lw_m1 102 rfl
theorem q148 : (Jvm.Cond.selects "BrewFunctions$Logarithm" ({ cls := "BrewFunctions$Function", name := "make", desc := "()[D" } : Jvm.MethodName) ({ cls := "BrewFunctions$Logarithm", name := "make", desc := "()[D" } : Jvm.MethodName)) ∈ lw_all := lw_g (lw_at lw_m1 137 rfl) rfl
theorem q149 : (Jvm.Cond.instanceMethod ({ cls := "BrewFunctions$Logarithm", name := "make", desc := "()[D" } : Jvm.MethodName)) ∈ lw_all := lw_g (lw_at lw_m1 138 rfl) rfl
theorem q150 : (Jvm.Cond.code ({ cls := "BrewFunctions$Logarithm", name := "make", desc := "()[D" } : Jvm.MethodName) prog_5_method_3_code (3 : Nat) (Option.some (Jvm.ClassFile.FieldType.array Jvm.ClassFile.FieldType.double))) ∈ lw_all := lw_g (lw_at lw_m1 139 rfl) rfl
theorem q178 : (Jvm.Cond.selects "BrewFunctions$Logarithm" ({ cls := "BrewFunctions$Function", name := "valueOf", desc := "(D)D" } : Jvm.MethodName) ({ cls := "BrewFunctions$Logarithm", name := "valueOf", desc := "(D)D" } : Jvm.MethodName)) ∈ lw_all := lw_g (lw_at lw_m1 167 rfl) rfl
theorem q179 : (Jvm.Cond.instanceMethod ({ cls := "BrewFunctions$Logarithm", name := "valueOf", desc := "(D)D" } : Jvm.MethodName)) ∈ lw_all := lw_g (lw_at lw_m1 168 rfl) rfl
theorem q180 : (Jvm.Cond.code ({ cls := "BrewFunctions$Logarithm", name := "valueOf", desc := "(D)D" } : Jvm.MethodName) prog_5_method_4_code (13 : Nat) (Option.some Jvm.ClassFile.FieldType.double)) ∈ lw_all := lw_g (lw_at lw_m1 169 rfl) rfl
theorem q181 : (Jvm.Cond.constantDouble "BrewFunctions$Logarithm" (13 : Nat) (4609434218613702656 : UInt64)) ∈ lw_all := lw_g (lw_at lw_m1 170 rfl) rfl
theorem q182 : (Jvm.Cond.constantDouble "BrewFunctions$Logarithm" (15 : Nat) (4602678819172646912 : UInt64)) ∈ lw_all := lw_g (lw_at lw_m1 171 rfl) rfl
theorem q183 : (Jvm.Cond.constantDouble "BrewFunctions$Logarithm" (17 : Nat) (4604930618986332160 : UInt64)) ∈ lw_all := lw_g (lw_at lw_m1 172 rfl) rfl
theorem q184 : (Jvm.Cond.constantDouble "BrewFunctions$Logarithm" (19 : Nat) (4611686018427387904 : UInt64)) ∈ lw_all := lw_g (lw_at lw_m1 173 rfl) rfl
theorem q185 : (Jvm.Cond.methodLink "BrewFunctions$Logarithm" (21 : Nat) ({ cls := "BrewFunctions$Logarithm", name := "at", desc := "(I)D" } : Jvm.MethodName)) ∈ lw_all := lw_g (lw_at lw_m1 174 rfl) rfl
theorem q186 : (Jvm.Cond.sameMethod "BrewFunctions$Logarithm" "BrewFunctions$Function" "at" "(I)D") ∈ lw_all := lw_g (lw_at lw_m1 175 rfl) rfl
theorem q187 : (Jvm.Cond.selects "BrewFunctions$Logarithm" ({ cls := "BrewFunctions$Logarithm", name := "at", desc := "(I)D" } : Jvm.MethodName) ({ cls := "BrewFunctions$Function", name := "at", desc := "(I)D" } : Jvm.MethodName)) ∈ lw_all := lw_g (lw_at lw_m1 176 rfl) rfl
theorem q188 : (Jvm.Cond.constantDouble "BrewFunctions$Logarithm" (27 : Nat) (4604418534313441775 : UInt64)) ∈ lw_all := lw_g (lw_at lw_m1 177 rfl) rfl
theorem q255 : (Jvm.Cond.selects "BrewFunctions$Logarithm" ({ cls := "BrewFunctions$Function", name := "boundOf", desc := "(D)D" } : Jvm.MethodName) ({ cls := "BrewFunctions$Logarithm", name := "boundOf", desc := "(D)D" } : Jvm.MethodName)) ∈ lw_all := lw_g (lw_at lw_m2 4 rfl) rfl
theorem q256 : (Jvm.Cond.instanceMethod ({ cls := "BrewFunctions$Logarithm", name := "boundOf", desc := "(D)D" } : Jvm.MethodName)) ∈ lw_all := lw_g (lw_at lw_m2 5 rfl) rfl
theorem q257 : (Jvm.Cond.code ({ cls := "BrewFunctions$Logarithm", name := "boundOf", desc := "(D)D" } : Jvm.MethodName) prog_5_method_5_code (3 : Nat) (Option.some Jvm.ClassFile.FieldType.double)) ∈ lw_all := lw_g (lw_at lw_m2 6 rfl) rfl
theorem q258 : (Jvm.Cond.constantDouble "BrewFunctions$Logarithm" (29 : Nat) (4397347889687374747 : UInt64)) ∈ lw_all := lw_g (lw_at lw_m2 7 rfl) rfl
theorem q259 : (Jvm.Cond.constantDouble "BrewFunctions$Logarithm" (31 : Nat) (4382569440205035030 : UInt64)) ∈ lw_all := lw_g (lw_at lw_m2 8 rfl) rfl
theorem q260 : (Jvm.Cond.methodLink "BrewFunctions$Logarithm" (33 : Nat) ({ cls := "BrewFunctions$Logarithm", name := "valueOf", desc := "(D)D" } : Jvm.MethodName)) ∈ lw_all := lw_g (lw_at lw_m2 9 rfl) rfl
theorem q261 : (Jvm.Cond.methodLinkNest "BrewFunctions$Logarithm" (37 : Nat) ({ cls := "BrewFunctions", name := "size", desc := "(D)D" } : Jvm.MethodName) "BrewFunctions") ∈ lw_tbl := lw_at lw_m2 10 rfl
theorem q282 : (Jvm.Cond.sameMethod "BrewFunctions$Logarithm" "BrewFunctions$Function" "isMade" "()Z") ∈ lw_all := lw_g (lw_at lw_m2 31 rfl) rfl
theorem q283 : (Jvm.Cond.selects "BrewFunctions$Logarithm" ({ cls := "BrewFunctions$Logarithm", name := "isMade", desc := "()Z" } : Jvm.MethodName) ({ cls := "BrewFunctions$Function", name := "isMade", desc := "()Z" } : Jvm.MethodName)) ∈ lw_all := lw_g (lw_at lw_m2 32 rfl) rfl
theorem q416 : (Jvm.Cond.selects "BrewFunctions$Logarithm" ({ cls := "BrewFunctions$Logarithm", name := "valueOf", desc := "(D)D" } : Jvm.MethodName) ({ cls := "BrewFunctions$Logarithm", name := "valueOf", desc := "(D)D" } : Jvm.MethodName)) ∈ lw_all := lw_g (lw_at lw_m2 165 rfl) rfl
theorem in_X4 : ∀ w ∈ wsX40, w ∈ lw_all := lw_in wsX40 [46] (by decide +kernel) (by decide +kernel)
/-! BrewFunctions$Root -/
def RX5 : String := "BrewFunctions$Root"
def TX5 : u_T := fun k => match k with
  | _ => ("BrewFunctions$Function", "table", "[D", false)
def tyX5 : Nat → FieldType := fun k => match k with
  | _ => .array .double
abbrev wsX50 : List Cond := u_ws RX5 TX5 1
theorem nmX5 : ∀ a, a < 1 → ∀ b, b < 1 → a ≠ b → (TX5 a).2.1 ≠ (TX5 b).2.1 := by decide +kernel
theorem tyX5_ok : ∀ k, k < 1 → parseFieldDescriptor (TX5 k).2.2.1 = some (tyX5 k) := by decide +kernel
abbrev cX5_init : ByteArray := prog_6_method_1_code
def yX5_init : MethodName := ⟨RX5, "<init>", "()V"⟩
theorem dX5_init_0 : decode cX5_init 0 = .ok (.aload_n 0, 1) := by decide +kernel
theorem dX5_init_1 : decode cX5_init 1 = .ok (.invokespecial 3, 3) := by decide +kernel
theorem dX5_init_4 : decode cX5_init 4 = .ok (.return_, 1) := by decide +kernel
abbrev cX5_codeOf : ByteArray := prog_6_method_2_code
def yX5_codeOf : MethodName := ⟨RX5, "codeOf", "(D)I"⟩
theorem dX5_codeOf_0 : decode cX5_codeOf 0 = .ok (.dload_n 1, 1) := by decide +kernel
theorem dX5_codeOf_1 : decode cX5_codeOf 1 = .ok (.invokestatic 9, 3) := by decide +kernel
theorem dX5_codeOf_4 : decode cX5_codeOf 4 = .ok (.ifCond .ne 7, 3) := by decide +kernel
theorem dX5_codeOf_7 : decode cX5_codeOf 7 = .ok (.iconst 5, 1) := by decide +kernel
theorem dX5_codeOf_8 : decode cX5_codeOf 8 = .ok (.goto 14, 3) := by decide +kernel
theorem dX5_codeOf_11 : decode cX5_codeOf 11 = .ok (.dload_n 1, 1) := by decide +kernel
theorem dX5_codeOf_12 : decode cX5_codeOf 12 = .ok (.dconst 0, 1) := by decide +kernel
theorem dX5_codeOf_13 : decode cX5_codeOf 13 = .ok (.dcmp .g, 1) := by decide +kernel
theorem dX5_codeOf_14 : decode cX5_codeOf 14 = .ok (.ifCond .ge 7, 3) := by decide +kernel
theorem dX5_codeOf_17 : decode cX5_codeOf 17 = .ok (.iconst 3, 1) := by decide +kernel
theorem dX5_codeOf_18 : decode cX5_codeOf 18 = .ok (.goto 4, 3) := by decide +kernel
theorem dX5_codeOf_21 : decode cX5_codeOf 21 = .ok (.iconst 0, 1) := by decide +kernel
theorem dX5_codeOf_22 : decode cX5_codeOf 22 = .ok (.ireturn, 1) := by decide +kernel
abbrev cX5_make : ByteArray := prog_6_method_3_code
def yX5_make : MethodName := ⟨RX5, "make", "()[D"⟩
theorem dX5_make_0 : decode cX5_make 0 = .ok (.iconst 0, 1) := by decide +kernel
theorem dX5_make_1 : decode cX5_make 1 = .ok (.newarray .double, 2) := by decide +kernel
theorem dX5_make_3 : decode cX5_make 3 = .ok (.areturn, 1) := by decide +kernel
abbrev cX5_valueOf : ByteArray := prog_6_method_4_code
def yX5_valueOf : MethodName := ⟨RX5, "valueOf", "(D)D"⟩
theorem dX5_valueOf_0 : decode cX5_valueOf 0 = .ok (.dload_n 1, 1) := by decide +kernel
theorem dX5_valueOf_1 : decode cX5_valueOf 1 = .ok (.dconst 0, 1) := by decide +kernel
theorem dX5_valueOf_2 : decode cX5_valueOf 2 = .ok (.dcmp .l, 1) := by decide +kernel
theorem dX5_valueOf_3 : decode cX5_valueOf 3 = .ok (.ifCond .ne 5, 3) := by decide +kernel
theorem dX5_valueOf_6 : decode cX5_valueOf 6 = .ok (.dconst 0, 1) := by decide +kernel
theorem dX5_valueOf_7 : decode cX5_valueOf 7 = .ok (.dreturn, 1) := by decide +kernel
theorem dX5_valueOf_8 : decode cX5_valueOf 8 = .ok (.dload_n 1, 1) := by decide +kernel
theorem dX5_valueOf_9 : decode cX5_valueOf 9 = .ok (.dstore_n 3, 1) := by decide +kernel
theorem dX5_valueOf_10 : decode cX5_valueOf 10 = .ok (.iconst 0, 1) := by decide +kernel
theorem dX5_valueOf_11 : decode cX5_valueOf 11 = .ok (.istore 5, 2) := by decide +kernel
theorem dX5_valueOf_13 : decode cX5_valueOf 13 = .ok (.dload_n 3, 1) := by decide +kernel
theorem dX5_valueOf_14 : decode cX5_valueOf 14 = .ok (.ldc2_w 13, 3) := by decide +kernel
theorem dX5_valueOf_17 : decode cX5_valueOf 17 = .ok (.dcmp .l, 1) := by decide +kernel
theorem dX5_valueOf_18 : decode cX5_valueOf 18 = .ok (.ifCond .lt 15, 3) := by decide +kernel
theorem dX5_valueOf_21 : decode cX5_valueOf 21 = .ok (.dload_n 3, 1) := by decide +kernel
theorem dX5_valueOf_22 : decode cX5_valueOf 22 = .ok (.ldc2_w 15, 3) := by decide +kernel
theorem dX5_valueOf_25 : decode cX5_valueOf 25 = .ok (.dmul, 1) := by decide +kernel
theorem dX5_valueOf_26 : decode cX5_valueOf 26 = .ok (.dstore_n 3, 1) := by decide +kernel
theorem dX5_valueOf_27 : decode cX5_valueOf 27 = .ok (.iinc 5 1, 3) := by decide +kernel
theorem dX5_valueOf_30 : decode cX5_valueOf 30 = .ok (.goto (-17), 3) := by decide +kernel
theorem dX5_valueOf_33 : decode cX5_valueOf 33 = .ok (.dload_n 3, 1) := by decide +kernel
theorem dX5_valueOf_34 : decode cX5_valueOf 34 = .ok (.dconst 1, 1) := by decide +kernel
theorem dX5_valueOf_35 : decode cX5_valueOf 35 = .ok (.dcmp .g, 1) := by decide +kernel
theorem dX5_valueOf_36 : decode cX5_valueOf 36 = .ok (.ifCond .ge 15, 3) := by decide +kernel
theorem dX5_valueOf_39 : decode cX5_valueOf 39 = .ok (.dload_n 3, 1) := by decide +kernel
theorem dX5_valueOf_40 : decode cX5_valueOf 40 = .ok (.ldc2_w 13, 3) := by decide +kernel
theorem dX5_valueOf_43 : decode cX5_valueOf 43 = .ok (.dmul, 1) := by decide +kernel
theorem dX5_valueOf_44 : decode cX5_valueOf 44 = .ok (.dstore_n 3, 1) := by decide +kernel
theorem dX5_valueOf_45 : decode cX5_valueOf 45 = .ok (.iinc 5 (-1), 3) := by decide +kernel
theorem dX5_valueOf_48 : decode cX5_valueOf 48 = .ok (.goto (-15), 3) := by decide +kernel
theorem dX5_valueOf_51 : decode cX5_valueOf 51 = .ok (.dload_n 3, 1) := by decide +kernel
theorem dX5_valueOf_52 : decode cX5_valueOf 52 = .ok (.ldc2_w 17, 3) := by decide +kernel
theorem dX5_valueOf_55 : decode cX5_valueOf 55 = .ok (.dmul, 1) := by decide +kernel
theorem dX5_valueOf_56 : decode cX5_valueOf 56 = .ok (.ldc2_w 17, 3) := by decide +kernel
theorem dX5_valueOf_59 : decode cX5_valueOf 59 = .ok (.dadd, 1) := by decide +kernel
theorem dX5_valueOf_60 : decode cX5_valueOf 60 = .ok (.dstore 6, 2) := by decide +kernel
theorem dX5_valueOf_62 : decode cX5_valueOf 62 = .ok (.iconst 0, 1) := by decide +kernel
theorem dX5_valueOf_63 : decode cX5_valueOf 63 = .ok (.istore 8, 2) := by decide +kernel
theorem dX5_valueOf_65 : decode cX5_valueOf 65 = .ok (.iload 8, 2) := by decide +kernel
theorem dX5_valueOf_67 : decode cX5_valueOf 67 = .ok (.bipush 6, 2) := by decide +kernel
theorem dX5_valueOf_69 : decode cX5_valueOf 69 = .ok (.if_icmp .ge 22, 3) := by decide +kernel
theorem dX5_valueOf_72 : decode cX5_valueOf 72 = .ok (.dload 6, 2) := by decide +kernel
theorem dX5_valueOf_74 : decode cX5_valueOf 74 = .ok (.dload_n 3, 1) := by decide +kernel
theorem dX5_valueOf_75 : decode cX5_valueOf 75 = .ok (.dload 6, 2) := by decide +kernel
theorem dX5_valueOf_77 : decode cX5_valueOf 77 = .ok (.ddiv, 1) := by decide +kernel
theorem dX5_valueOf_78 : decode cX5_valueOf 78 = .ok (.dadd, 1) := by decide +kernel
theorem dX5_valueOf_79 : decode cX5_valueOf 79 = .ok (.ldc2_w 17, 3) := by decide +kernel
theorem dX5_valueOf_82 : decode cX5_valueOf 82 = .ok (.dmul, 1) := by decide +kernel
theorem dX5_valueOf_83 : decode cX5_valueOf 83 = .ok (.dstore 6, 2) := by decide +kernel
theorem dX5_valueOf_85 : decode cX5_valueOf 85 = .ok (.iinc 8 1, 3) := by decide +kernel
theorem dX5_valueOf_88 : decode cX5_valueOf 88 = .ok (.goto (-23), 3) := by decide +kernel
theorem dX5_valueOf_91 : decode cX5_valueOf 91 = .ok (.dload 6, 2) := by decide +kernel
theorem dX5_valueOf_93 : decode cX5_valueOf 93 = .ok (.iload 5, 2) := by decide +kernel
theorem dX5_valueOf_95 : decode cX5_valueOf 95 = .ok (.invokestatic 19, 3) := by decide +kernel
theorem dX5_valueOf_98 : decode cX5_valueOf 98 = .ok (.dreturn, 1) := by decide +kernel
abbrev cX5_boundOf : ByteArray := prog_6_method_5_code
def yX5_boundOf : MethodName := ⟨RX5, "boundOf", "(D)D"⟩
theorem dX5_boundOf_0 : decode cX5_boundOf 0 = .ok (.ldc2_w 23, 3) := by decide +kernel
theorem dX5_boundOf_3 : decode cX5_boundOf 3 = .ok (.aload_n 0, 1) := by decide +kernel
theorem dX5_boundOf_4 : decode cX5_boundOf 4 = .ok (.dload_n 1, 1) := by decide +kernel
theorem dX5_boundOf_5 : decode cX5_boundOf 5 = .ok (.invokevirtual 25, 3) := by decide +kernel
theorem dX5_boundOf_8 : decode cX5_boundOf 8 = .ok (.dmul, 1) := by decide +kernel
theorem dX5_boundOf_9 : decode cX5_boundOf 9 = .ok (.dreturn, 1) := by decide +kernel
theorem q16 : (Jvm.Cond.initialized "BrewFunctions$Root") ∈ lw_all := lw_g (lw_at lw_m1 5 rfl) rfl
theorem q49 : (Jvm.Cond.instantiable "BrewFunctions$Root" (1 : Nat)) ∈ lw_all := lw_g (lw_at lw_m1 38 rfl) rfl
theorem q51 : (Jvm.Cond.instanceMethod ({ cls := "BrewFunctions$Root", name := "<init>", desc := "()V" } : Jvm.MethodName)) ∈ lw_all := lw_g (lw_at lw_m1 40 rfl) rfl
theorem q52 : (Jvm.Cond.code ({ cls := "BrewFunctions$Root", name := "<init>", desc := "()V" } : Jvm.MethodName) prog_6_method_1_code (1 : Nat) (Option.none : Option Jvm.ClassFile.FieldType)) ∈ lw_all := lw_g (lw_at lw_m1 41 rfl) rfl
theorem q53 : (Jvm.Cond.methodLinkNest "BrewFunctions$Root" (3 : Nat) ({ cls := "BrewFunctions$Function", name := "<init>", desc := "()V" } : Jvm.MethodName) "BrewFunctions") ∈ lw_tbl := lw_at lw_m1 42 rfl
theorem q54 : (Jvm.Cond.lays "BrewFunctions$Root" "BrewFunctions$Function" "table" "[D") ∈ lw_all := lw_g (lw_at lw_m1 43 rfl) rfl
theorem q55 : (Jvm.Cond.superclass "BrewFunctions$Root" "BrewFunctions$Function") ∈ lw_all := lw_g (lw_at lw_m1 44 rfl) rfl
theorem q114 : (Jvm.Cond.selects "BrewFunctions$Root" ({ cls := "BrewFunctions$Function", name := "codeOf", desc := "(D)I" } : Jvm.MethodName) ({ cls := "BrewFunctions$Root", name := "codeOf", desc := "(D)I" } : Jvm.MethodName)) ∈ lw_all := lw_g (lw_at lw_m1 103 rfl) rfl
theorem q115 : (Jvm.Cond.instanceMethod ({ cls := "BrewFunctions$Root", name := "codeOf", desc := "(D)I" } : Jvm.MethodName)) ∈ lw_all := lw_g (lw_at lw_m1 104 rfl) rfl
theorem q116 : (Jvm.Cond.code ({ cls := "BrewFunctions$Root", name := "codeOf", desc := "(D)I" } : Jvm.MethodName) prog_6_method_2_code (3 : Nat) (Option.some Jvm.ClassFile.FieldType.int)) ∈ lw_all := lw_g (lw_at lw_m1 105 rfl) rfl
theorem q117 : (Jvm.Cond.methodLinkNest "BrewFunctions$Root" (9 : Nat) ({ cls := "BrewFunctions", name := "isNumber", desc := "(D)Z" } : Jvm.MethodName) "BrewFunctions") ∈ lw_tbl := lw_at lw_m1 106 rfl
theorem q151 : (Jvm.Cond.selects "BrewFunctions$Root" ({ cls := "BrewFunctions$Function", name := "make", desc := "()[D" } : Jvm.MethodName) ({ cls := "BrewFunctions$Root", name := "make", desc := "()[D" } : Jvm.MethodName)) ∈ lw_all := lw_g (lw_at lw_m1 140 rfl) rfl
theorem q152 : (Jvm.Cond.instanceMethod ({ cls := "BrewFunctions$Root", name := "make", desc := "()[D" } : Jvm.MethodName)) ∈ lw_all := lw_g (lw_at lw_m1 141 rfl) rfl
theorem q153 : (Jvm.Cond.code ({ cls := "BrewFunctions$Root", name := "make", desc := "()[D" } : Jvm.MethodName) prog_6_method_3_code (1 : Nat) (Option.some (Jvm.ClassFile.FieldType.array Jvm.ClassFile.FieldType.double))) ∈ lw_all := lw_g (lw_at lw_m1 142 rfl) rfl
theorem q189 : (Jvm.Cond.selects "BrewFunctions$Root" ({ cls := "BrewFunctions$Function", name := "valueOf", desc := "(D)D" } : Jvm.MethodName) ({ cls := "BrewFunctions$Root", name := "valueOf", desc := "(D)D" } : Jvm.MethodName)) ∈ lw_all := lw_g (lw_at lw_m1 178 rfl) rfl
theorem q190 : (Jvm.Cond.instanceMethod ({ cls := "BrewFunctions$Root", name := "valueOf", desc := "(D)D" } : Jvm.MethodName)) ∈ lw_all := lw_g (lw_at lw_m1 179 rfl) rfl
theorem q191 : (Jvm.Cond.code ({ cls := "BrewFunctions$Root", name := "valueOf", desc := "(D)D" } : Jvm.MethodName) prog_6_method_4_code (9 : Nat) (Option.some Jvm.ClassFile.FieldType.double)) ∈ lw_all := lw_g (lw_at lw_m1 180 rfl) rfl
theorem q192 : (Jvm.Cond.constantDouble "BrewFunctions$Root" (13 : Nat) (4616189618054758400 : UInt64)) ∈ lw_all := lw_g (lw_at lw_m1 181 rfl) rfl
theorem q193 : (Jvm.Cond.constantDouble "BrewFunctions$Root" (15 : Nat) (4598175219545276416 : UInt64)) ∈ lw_all := lw_g (lw_at lw_m1 182 rfl) rfl
theorem q194 : (Jvm.Cond.constantDouble "BrewFunctions$Root" (17 : Nat) (4602678819172646912 : UInt64)) ∈ lw_all := lw_g (lw_at lw_m1 183 rfl) rfl
theorem q195 : (Jvm.Cond.methodLinkNest "BrewFunctions$Root" (19 : Nat) ({ cls := "BrewFunctions", name := "scaled", desc := "(DI)D" } : Jvm.MethodName) "BrewFunctions") ∈ lw_tbl := lw_at lw_m1 184 rfl
theorem q262 : (Jvm.Cond.selects "BrewFunctions$Root" ({ cls := "BrewFunctions$Function", name := "boundOf", desc := "(D)D" } : Jvm.MethodName) ({ cls := "BrewFunctions$Root", name := "boundOf", desc := "(D)D" } : Jvm.MethodName)) ∈ lw_all := lw_g (lw_at lw_m2 11 rfl) rfl
theorem q263 : (Jvm.Cond.instanceMethod ({ cls := "BrewFunctions$Root", name := "boundOf", desc := "(D)D" } : Jvm.MethodName)) ∈ lw_all := lw_g (lw_at lw_m2 12 rfl) rfl
theorem q264 : (Jvm.Cond.code ({ cls := "BrewFunctions$Root", name := "boundOf", desc := "(D)D" } : Jvm.MethodName) prog_6_method_5_code (3 : Nat) (Option.some Jvm.ClassFile.FieldType.double)) ∈ lw_all := lw_g (lw_at lw_m2 13 rfl) rfl
theorem q265 : (Jvm.Cond.constantDouble "BrewFunctions$Root" (23 : Nat) (4382569440205035030 : UInt64)) ∈ lw_all := lw_g (lw_at lw_m2 14 rfl) rfl
theorem q266 : (Jvm.Cond.methodLink "BrewFunctions$Root" (25 : Nat) ({ cls := "BrewFunctions$Root", name := "valueOf", desc := "(D)D" } : Jvm.MethodName)) ∈ lw_all := lw_g (lw_at lw_m2 15 rfl) rfl
theorem q417 : (Jvm.Cond.selects "BrewFunctions$Root" ({ cls := "BrewFunctions$Root", name := "valueOf", desc := "(D)D" } : Jvm.MethodName) ({ cls := "BrewFunctions$Root", name := "valueOf", desc := "(D)D" } : Jvm.MethodName)) ∈ lw_all := lw_g (lw_at lw_m2 166 rfl) rfl
theorem in_X5 : ∀ w ∈ wsX50, w ∈ lw_all := lw_in wsX50 [54] (by decide +kernel) (by decide +kernel)
end
section
/-! BrewFunctions$ErrorPart -/
set_option maxRecDepth 100000
def RX6 : String := "BrewFunctions$ErrorPart"
def TX6 : u_T := fun k => match k with
  | 0 => ("BrewFunctions$Function", "table", "[D", false)
  | _ => ("BrewFunctions$ErrorPart", "exponential", "LBrewFunctions$Exponential;", true)
def tyX6 : Nat → FieldType := fun k => match k with
  | 0 => .array .double
  | _ => .object "BrewFunctions$Exponential"
abbrev wsX60 : List Cond := u_ws RX6 TX6 2
theorem nmX6 : ∀ a, a < 2 → ∀ b, b < 2 → a ≠ b → (TX6 a).2.1 ≠ (TX6 b).2.1 := by decide +kernel
theorem tyX6_ok : ∀ k, k < 2 → parseFieldDescriptor (TX6 k).2.2.1 = some (tyX6 k) := by decide +kernel
abbrev cX6_init : ByteArray := prog_2_method_1_code
def yX6_init : MethodName := ⟨RX6, "<init>", "(LBrewFunctions$Exponential;)V"⟩
theorem dX6_init_0 : decode cX6_init 0 = .ok (.aload_n 0, 1) := by decide +kernel
theorem dX6_init_1 : decode cX6_init 1 = .ok (.invokespecial 3, 3) := by decide +kernel
theorem dX6_init_4 : decode cX6_init 4 = .ok (.aload_n 0, 1) := by decide +kernel
theorem dX6_init_5 : decode cX6_init 5 = .ok (.aload_n 1, 1) := by decide +kernel
theorem dX6_init_6 : decode cX6_init 6 = .ok (.putfield 9, 3) := by decide +kernel
theorem dX6_init_9 : decode cX6_init 9 = .ok (.return_, 1) := by decide +kernel
abbrev cX6_codeOf : ByteArray := prog_2_method_2_code
def yX6_codeOf : MethodName := ⟨RX6, "codeOf", "(D)I"⟩
theorem dX6_codeOf_0 : decode cX6_codeOf 0 = .ok (.dload_n 1, 1) := by decide +kernel
theorem dX6_codeOf_1 : decode cX6_codeOf 1 = .ok (.invokestatic 15, 3) := by decide +kernel
theorem dX6_codeOf_4 : decode cX6_codeOf 4 = .ok (.ifCond .eq 7, 3) := by decide +kernel
theorem dX6_codeOf_7 : decode cX6_codeOf 7 = .ok (.iconst 0, 1) := by decide +kernel
theorem dX6_codeOf_8 : decode cX6_codeOf 8 = .ok (.goto 4, 3) := by decide +kernel
theorem dX6_codeOf_11 : decode cX6_codeOf 11 = .ok (.iconst 5, 1) := by decide +kernel
theorem dX6_codeOf_12 : decode cX6_codeOf 12 = .ok (.ireturn, 1) := by decide +kernel
abbrev cX6_valueOf : ByteArray := prog_2_method_6_code
def yX6_valueOf : MethodName := ⟨RX6, "valueOf", "(D)D"⟩
theorem dX6_valueOf_0 : decode cX6_valueOf 0 = .ok (.dload_n 1, 1) := by decide +kernel
theorem dX6_valueOf_1 : decode cX6_valueOf 1 = .ok (.invokestatic 35, 3) := by decide +kernel
theorem dX6_valueOf_4 : decode cX6_valueOf 4 = .ok (.dstore_n 3, 1) := by decide +kernel
theorem dX6_valueOf_5 : decode cX6_valueOf 5 = .ok (.dload_n 3, 1) := by decide +kernel
theorem dX6_valueOf_6 : decode cX6_valueOf 6 = .ok (.ldc2_w 38, 3) := by decide +kernel
theorem dX6_valueOf_9 : decode cX6_valueOf 9 = .ok (.dcmp .l, 1) := by decide +kernel
theorem dX6_valueOf_10 : decode cX6_valueOf 10 = .ok (.ifCond .lt 7, 3) := by decide +kernel
theorem dX6_valueOf_13 : decode cX6_valueOf 13 = .ok (.dconst 1, 1) := by decide +kernel
theorem dX6_valueOf_14 : decode cX6_valueOf 14 = .ok (.goto 24, 3) := by decide +kernel
theorem dX6_valueOf_17 : decode cX6_valueOf 17 = .ok (.dload_n 3, 1) := by decide +kernel
theorem dX6_valueOf_18 : decode cX6_valueOf 18 = .ok (.ldc2_w 40, 3) := by decide +kernel
theorem dX6_valueOf_21 : decode cX6_valueOf 21 = .ok (.dcmp .g, 1) := by decide +kernel
theorem dX6_valueOf_22 : decode cX6_valueOf 22 = .ok (.ifCond .ge 11, 3) := by decide +kernel
theorem dX6_valueOf_25 : decode cX6_valueOf 25 = .ok (.aload_n 0, 1) := by decide +kernel
theorem dX6_valueOf_26 : decode cX6_valueOf 26 = .ok (.dload_n 3, 1) := by decide +kernel
theorem dX6_valueOf_27 : decode cX6_valueOf 27 = .ok (.invokevirtual 42, 3) := by decide +kernel
theorem dX6_valueOf_30 : decode cX6_valueOf 30 = .ok (.goto 8, 3) := by decide +kernel
theorem dX6_valueOf_33 : decode cX6_valueOf 33 = .ok (.aload_n 0, 1) := by decide +kernel
theorem dX6_valueOf_34 : decode cX6_valueOf 34 = .ok (.dload_n 3, 1) := by decide +kernel
theorem dX6_valueOf_35 : decode cX6_valueOf 35 = .ok (.invokevirtual 45, 3) := by decide +kernel
theorem dX6_valueOf_38 : decode cX6_valueOf 38 = .ok (.dstore 5, 2) := by decide +kernel
theorem dX6_valueOf_40 : decode cX6_valueOf 40 = .ok (.dload_n 1, 1) := by decide +kernel
theorem dX6_valueOf_41 : decode cX6_valueOf 41 = .ok (.dconst 0, 1) := by decide +kernel
theorem dX6_valueOf_42 : decode cX6_valueOf 42 = .ok (.dcmp .g, 1) := by decide +kernel
theorem dX6_valueOf_43 : decode cX6_valueOf 43 = .ok (.ifCond .ge 9, 3) := by decide +kernel
theorem dX6_valueOf_46 : decode cX6_valueOf 46 = .ok (.dload 5, 2) := by decide +kernel
theorem dX6_valueOf_48 : decode cX6_valueOf 48 = .ok (.dneg, 1) := by decide +kernel
theorem dX6_valueOf_49 : decode cX6_valueOf 49 = .ok (.goto 5, 3) := by decide +kernel
theorem dX6_valueOf_52 : decode cX6_valueOf 52 = .ok (.dload 5, 2) := by decide +kernel
theorem dX6_valueOf_54 : decode cX6_valueOf 54 = .ok (.dreturn, 1) := by decide +kernel
abbrev cX6_near : ByteArray := prog_2_method_4_code
def yX6_near : MethodName := ⟨RX6, "near", "(D)D"⟩
theorem dX6_near_0 : decode cX6_near 0 = .ok (.dload_n 1, 1) := by decide +kernel
theorem dX6_near_1 : decode cX6_near 1 = .ok (.dload_n 1, 1) := by decide +kernel
theorem dX6_near_2 : decode cX6_near 2 = .ok (.dmul, 1) := by decide +kernel
theorem dX6_near_3 : decode cX6_near 3 = .ok (.dstore_n 3, 1) := by decide +kernel
theorem dX6_near_4 : decode cX6_near 4 = .ok (.dload_n 1, 1) := by decide +kernel
theorem dX6_near_5 : decode cX6_near 5 = .ok (.dstore 5, 2) := by decide +kernel
theorem dX6_near_7 : decode cX6_near 7 = .ok (.dload_n 1, 1) := by decide +kernel
theorem dX6_near_8 : decode cX6_near 8 = .ok (.dstore 7, 2) := by decide +kernel
theorem dX6_near_10 : decode cX6_near 10 = .ok (.iconst 0, 1) := by decide +kernel
theorem dX6_near_11 : decode cX6_near 11 = .ok (.istore 9, 2) := by decide +kernel
theorem dX6_near_13 : decode cX6_near 13 = .ok (.iload 9, 2) := by decide +kernel
theorem dX6_near_15 : decode cX6_near 15 = .ok (.bipush 60, 2) := by decide +kernel
theorem dX6_near_17 : decode cX6_near 17 = .ok (.if_icmp .ge 43, 3) := by decide +kernel
theorem dX6_near_20 : decode cX6_near 20 = .ok (.dload 5, 2) := by decide +kernel
theorem dX6_near_22 : decode cX6_near 22 = .ok (.dneg, 1) := by decide +kernel
theorem dX6_near_23 : decode cX6_near 23 = .ok (.dload_n 3, 1) := by decide +kernel
theorem dX6_near_24 : decode cX6_near 24 = .ok (.dmul, 1) := by decide +kernel
theorem dX6_near_25 : decode cX6_near 25 = .ok (.aload_n 0, 1) := by decide +kernel
theorem dX6_near_26 : decode cX6_near 26 = .ok (.iconst 2, 1) := by decide +kernel
theorem dX6_near_27 : decode cX6_near 27 = .ok (.iload 9, 2) := by decide +kernel
theorem dX6_near_29 : decode cX6_near 29 = .ok (.imul, 1) := by decide +kernel
theorem dX6_near_30 : decode cX6_near 30 = .ok (.invokevirtual 19, 3) := by decide +kernel
theorem dX6_near_33 : decode cX6_near 33 = .ok (.ddiv, 1) := by decide +kernel
theorem dX6_near_34 : decode cX6_near 34 = .ok (.dstore 5, 2) := by decide +kernel
theorem dX6_near_36 : decode cX6_near 36 = .ok (.dload 7, 2) := by decide +kernel
theorem dX6_near_38 : decode cX6_near 38 = .ok (.dload 5, 2) := by decide +kernel
theorem dX6_near_40 : decode cX6_near 40 = .ok (.aload_n 0, 1) := by decide +kernel
theorem dX6_near_41 : decode cX6_near 41 = .ok (.iconst 2, 1) := by decide +kernel
theorem dX6_near_42 : decode cX6_near 42 = .ok (.iload 9, 2) := by decide +kernel
theorem dX6_near_44 : decode cX6_near 44 = .ok (.imul, 1) := by decide +kernel
theorem dX6_near_45 : decode cX6_near 45 = .ok (.iconst 1, 1) := by decide +kernel
theorem dX6_near_46 : decode cX6_near 46 = .ok (.iadd, 1) := by decide +kernel
theorem dX6_near_47 : decode cX6_near 47 = .ok (.invokevirtual 19, 3) := by decide +kernel
theorem dX6_near_50 : decode cX6_near 50 = .ok (.ddiv, 1) := by decide +kernel
theorem dX6_near_51 : decode cX6_near 51 = .ok (.dadd, 1) := by decide +kernel
theorem dX6_near_52 : decode cX6_near 52 = .ok (.dstore 7, 2) := by decide +kernel
theorem dX6_near_54 : decode cX6_near 54 = .ok (.iinc 9 1, 3) := by decide +kernel
theorem dX6_near_57 : decode cX6_near 57 = .ok (.goto (-44), 3) := by decide +kernel
theorem dX6_near_60 : decode cX6_near 60 = .ok (.dload 7, 2) := by decide +kernel
theorem dX6_near_62 : decode cX6_near 62 = .ok (.ldc2_w 23, 3) := by decide +kernel
theorem dX6_near_65 : decode cX6_near 65 = .ok (.dmul, 1) := by decide +kernel
theorem dX6_near_66 : decode cX6_near 66 = .ok (.dreturn, 1) := by decide +kernel
abbrev cX6_make : ByteArray := prog_2_method_3_code
def yX6_make : MethodName := ⟨RX6, "make", "()[D"⟩
theorem dX6_make_0 : decode cX6_make 0 = .ok (.bipush 120, 2) := by decide +kernel
theorem dX6_make_2 : decode cX6_make 2 = .ok (.newarray .double, 2) := by decide +kernel
theorem dX6_make_4 : decode cX6_make 4 = .ok (.astore_n 1, 1) := by decide +kernel
theorem dX6_make_5 : decode cX6_make 5 = .ok (.iconst 1, 1) := by decide +kernel
theorem dX6_make_6 : decode cX6_make 6 = .ok (.istore_n 2, 1) := by decide +kernel
theorem dX6_make_7 : decode cX6_make 7 = .ok (.iload_n 2, 1) := by decide +kernel
theorem dX6_make_8 : decode cX6_make 8 = .ok (.bipush 60, 2) := by decide +kernel
theorem dX6_make_10 : decode cX6_make 10 = .ok (.if_icmp .gt 31, 3) := by decide +kernel
theorem dX6_make_13 : decode cX6_make 13 = .ok (.aload_n 1, 1) := by decide +kernel
theorem dX6_make_14 : decode cX6_make 14 = .ok (.iconst 2, 1) := by decide +kernel
theorem dX6_make_15 : decode cX6_make 15 = .ok (.iload_n 2, 1) := by decide +kernel
theorem dX6_make_16 : decode cX6_make 16 = .ok (.imul, 1) := by decide +kernel
theorem dX6_make_17 : decode cX6_make 17 = .ok (.iconst 2, 1) := by decide +kernel
theorem dX6_make_18 : decode cX6_make 18 = .ok (.isub, 1) := by decide +kernel
theorem dX6_make_19 : decode cX6_make 19 = .ok (.iload_n 2, 1) := by decide +kernel
theorem dX6_make_20 : decode cX6_make 20 = .ok (.i2d, 1) := by decide +kernel
theorem dX6_make_21 : decode cX6_make 21 = .ok (.dastore, 1) := by decide +kernel
theorem dX6_make_22 : decode cX6_make 22 = .ok (.aload_n 1, 1) := by decide +kernel
theorem dX6_make_23 : decode cX6_make 23 = .ok (.iconst 2, 1) := by decide +kernel
theorem dX6_make_24 : decode cX6_make 24 = .ok (.iload_n 2, 1) := by decide +kernel
theorem dX6_make_25 : decode cX6_make 25 = .ok (.imul, 1) := by decide +kernel
theorem dX6_make_26 : decode cX6_make 26 = .ok (.iconst 1, 1) := by decide +kernel
theorem dX6_make_27 : decode cX6_make 27 = .ok (.isub, 1) := by decide +kernel
theorem dX6_make_28 : decode cX6_make 28 = .ok (.iconst 2, 1) := by decide +kernel
theorem dX6_make_29 : decode cX6_make 29 = .ok (.iload_n 2, 1) := by decide +kernel
theorem dX6_make_30 : decode cX6_make 30 = .ok (.imul, 1) := by decide +kernel
theorem dX6_make_31 : decode cX6_make 31 = .ok (.iconst 1, 1) := by decide +kernel
theorem dX6_make_32 : decode cX6_make 32 = .ok (.iadd, 1) := by decide +kernel
theorem dX6_make_33 : decode cX6_make 33 = .ok (.i2d, 1) := by decide +kernel
theorem dX6_make_34 : decode cX6_make 34 = .ok (.dastore, 1) := by decide +kernel
theorem dX6_make_35 : decode cX6_make 35 = .ok (.iinc 2 1, 3) := by decide +kernel
theorem dX6_make_38 : decode cX6_make 38 = .ok (.goto (-31), 3) := by decide +kernel
theorem dX6_make_41 : decode cX6_make 41 = .ok (.aload_n 1, 1) := by decide +kernel
theorem dX6_make_42 : decode cX6_make 42 = .ok (.areturn, 1) := by decide +kernel
abbrev cX6_far : ByteArray := prog_2_method_5_code
def yX6_far : MethodName := ⟨RX6, "far", "(D)D"⟩
theorem dX6_far_0 : decode cX6_far 0 = .ok (.dconst 0, 1) := by decide +kernel
theorem dX6_far_1 : decode cX6_far 1 = .ok (.dstore_n 3, 1) := by decide +kernel
theorem dX6_far_2 : decode cX6_far 2 = .ok (.bipush 40, 2) := by decide +kernel
theorem dX6_far_4 : decode cX6_far 4 = .ok (.istore 5, 2) := by decide +kernel
theorem dX6_far_6 : decode cX6_far 6 = .ok (.iload 5, 2) := by decide +kernel
theorem dX6_far_8 : decode cX6_far 8 = .ok (.ifCond .le 21, 3) := by decide +kernel
theorem dX6_far_11 : decode cX6_far 11 = .ok (.iload 5, 2) := by decide +kernel
theorem dX6_far_13 : decode cX6_far 13 = .ok (.i2d, 1) := by decide +kernel
theorem dX6_far_14 : decode cX6_far 14 = .ok (.ldc2_w 25, 3) := by decide +kernel
theorem dX6_far_17 : decode cX6_far 17 = .ok (.dmul, 1) := by decide +kernel
theorem dX6_far_18 : decode cX6_far 18 = .ok (.dload_n 1, 1) := by decide +kernel
theorem dX6_far_19 : decode cX6_far 19 = .ok (.dload_n 3, 1) := by decide +kernel
theorem dX6_far_20 : decode cX6_far 20 = .ok (.dadd, 1) := by decide +kernel
theorem dX6_far_21 : decode cX6_far 21 = .ok (.ddiv, 1) := by decide +kernel
theorem dX6_far_22 : decode cX6_far 22 = .ok (.dstore_n 3, 1) := by decide +kernel
theorem dX6_far_23 : decode cX6_far 23 = .ok (.iinc 5 (-1), 3) := by decide +kernel
theorem dX6_far_26 : decode cX6_far 26 = .ok (.goto (-20), 3) := by decide +kernel
theorem dX6_far_29 : decode cX6_far 29 = .ok (.dconst 1, 1) := by decide +kernel
theorem dX6_far_30 : decode cX6_far 30 = .ok (.aload_n 0, 1) := by decide +kernel
theorem dX6_far_31 : decode cX6_far 31 = .ok (.getfield 9, 3) := by decide +kernel
theorem dX6_far_34 : decode cX6_far 34 = .ok (.dload_n 1, 1) := by decide +kernel
theorem dX6_far_35 : decode cX6_far 35 = .ok (.dneg, 1) := by decide +kernel
theorem dX6_far_36 : decode cX6_far 36 = .ok (.dload_n 1, 1) := by decide +kernel
theorem dX6_far_37 : decode cX6_far 37 = .ok (.dmul, 1) := by decide +kernel
theorem dX6_far_38 : decode cX6_far 38 = .ok (.invokevirtual 27, 3) := by decide +kernel
theorem dX6_far_41 : decode cX6_far 41 = .ok (.ldc2_w 33, 3) := by decide +kernel
theorem dX6_far_44 : decode cX6_far 44 = .ok (.dmul, 1) := by decide +kernel
theorem dX6_far_45 : decode cX6_far 45 = .ok (.dload_n 1, 1) := by decide +kernel
theorem dX6_far_46 : decode cX6_far 46 = .ok (.dload_n 3, 1) := by decide +kernel
theorem dX6_far_47 : decode cX6_far 47 = .ok (.dadd, 1) := by decide +kernel
theorem dX6_far_48 : decode cX6_far 48 = .ok (.ddiv, 1) := by decide +kernel
theorem dX6_far_49 : decode cX6_far 49 = .ok (.dsub, 1) := by decide +kernel
theorem dX6_far_50 : decode cX6_far 50 = .ok (.dreturn, 1) := by decide +kernel
abbrev cX6_boundOf : ByteArray := prog_2_method_7_code
def yX6_boundOf : MethodName := ⟨RX6, "boundOf", "(D)D"⟩
theorem dX6_boundOf_0 : decode cX6_boundOf 0 = .ok (.ldc2_w 48, 3) := by decide +kernel
theorem dX6_boundOf_3 : decode cX6_boundOf 3 = .ok (.dreturn, 1) := by decide +kernel
theorem q17 : (Jvm.Cond.initialized "BrewFunctions$ErrorPart") ∈ lw_all := lw_g (lw_at lw_m1 6 rfl) rfl
theorem q57 : (Jvm.Cond.instantiable "BrewFunctions$ErrorPart" (2 : Nat)) ∈ lw_all := lw_g (lw_at lw_m1 46 rfl) rfl
theorem q59 : (Jvm.Cond.instanceMethod ({ cls := "BrewFunctions$ErrorPart", name := "<init>", desc := "(LBrewFunctions$Exponential;)V" } : Jvm.MethodName)) ∈ lw_all := lw_g (lw_at lw_m1 48 rfl) rfl
theorem q60 : (Jvm.Cond.code ({ cls := "BrewFunctions$ErrorPart", name := "<init>", desc := "(LBrewFunctions$Exponential;)V" } : Jvm.MethodName) prog_2_method_1_code (2 : Nat) (Option.none : Option Jvm.ClassFile.FieldType)) ∈ lw_all := lw_g (lw_at lw_m1 49 rfl) rfl
theorem q61 : (Jvm.Cond.methodLinkNest "BrewFunctions$ErrorPart" (3 : Nat) ({ cls := "BrewFunctions$Function", name := "<init>", desc := "()V" } : Jvm.MethodName) "BrewFunctions") ∈ lw_tbl := lw_at lw_m1 50 rfl
theorem q62 : (Jvm.Cond.fieldLink "BrewFunctions$ErrorPart" (9 : Nat) "BrewFunctions$ErrorPart" "exponential" "LBrewFunctions$Exponential;") ∈ lw_all := lw_g (lw_at lw_m1 51 rfl) rfl
theorem q63 : (Jvm.Cond.laysFinal "BrewFunctions$ErrorPart" "BrewFunctions$ErrorPart" "exponential" "LBrewFunctions$Exponential;") ∈ lw_all := lw_g (lw_at lw_m1 52 rfl) rfl
theorem q64 : (Jvm.Cond.soleField "BrewFunctions$ErrorPart" "exponential") ∈ lw_all := lw_g (lw_at lw_m1 53 rfl) rfl
theorem q65 : (Jvm.Cond.lays "BrewFunctions$ErrorPart" "BrewFunctions$Function" "table" "[D") ∈ lw_all := lw_g (lw_at lw_m1 54 rfl) rfl
theorem q66 : (Jvm.Cond.superclass "BrewFunctions$ErrorPart" "BrewFunctions$Function") ∈ lw_all := lw_g (lw_at lw_m1 55 rfl) rfl
theorem q97 : (Jvm.Cond.selects "BrewFunctions$ErrorPart" ({ cls := "BrewFunctions$Function", name := "codeOf", desc := "(D)I" } : Jvm.MethodName) ({ cls := "BrewFunctions$ErrorPart", name := "codeOf", desc := "(D)I" } : Jvm.MethodName)) ∈ lw_all := lw_g (lw_at lw_m1 86 rfl) rfl
theorem q98 : (Jvm.Cond.instanceMethod ({ cls := "BrewFunctions$ErrorPart", name := "codeOf", desc := "(D)I" } : Jvm.MethodName)) ∈ lw_all := lw_g (lw_at lw_m1 87 rfl) rfl
theorem q99 : (Jvm.Cond.code ({ cls := "BrewFunctions$ErrorPart", name := "codeOf", desc := "(D)I" } : Jvm.MethodName) prog_2_method_2_code (3 : Nat) (Option.some Jvm.ClassFile.FieldType.int)) ∈ lw_all := lw_g (lw_at lw_m1 88 rfl) rfl
theorem q100 : (Jvm.Cond.methodLinkNest "BrewFunctions$ErrorPart" (15 : Nat) ({ cls := "BrewFunctions", name := "isNumber", desc := "(D)Z" } : Jvm.MethodName) "BrewFunctions") ∈ lw_tbl := lw_at lw_m1 89 rfl
theorem q121 : (Jvm.Cond.selects "BrewFunctions$ErrorPart" ({ cls := "BrewFunctions$Function", name := "valueOf", desc := "(D)D" } : Jvm.MethodName) ({ cls := "BrewFunctions$ErrorPart", name := "valueOf", desc := "(D)D" } : Jvm.MethodName)) ∈ lw_all := lw_g (lw_at lw_m1 110 rfl) rfl
theorem q122 : (Jvm.Cond.instanceMethod ({ cls := "BrewFunctions$ErrorPart", name := "valueOf", desc := "(D)D" } : Jvm.MethodName)) ∈ lw_all := lw_g (lw_at lw_m1 111 rfl) rfl
theorem q123 : (Jvm.Cond.code ({ cls := "BrewFunctions$ErrorPart", name := "valueOf", desc := "(D)D" } : Jvm.MethodName) prog_2_method_6_code (7 : Nat) (Option.some Jvm.ClassFile.FieldType.double)) ∈ lw_all := lw_g (lw_at lw_m1 112 rfl) rfl
theorem q124 : (Jvm.Cond.methodLinkNest "BrewFunctions$ErrorPart" (35 : Nat) ({ cls := "BrewFunctions", name := "size", desc := "(D)D" } : Jvm.MethodName) "BrewFunctions") ∈ lw_tbl := lw_at lw_m1 113 rfl
theorem q127 : (Jvm.Cond.constantDouble "BrewFunctions$ErrorPart" (38 : Nat) (4618441417868443648 : UInt64)) ∈ lw_all := lw_g (lw_at lw_m1 116 rfl) rfl
theorem q128 : (Jvm.Cond.constantDouble "BrewFunctions$ErrorPart" (40 : Nat) (4612811918334230528 : UInt64)) ∈ lw_all := lw_g (lw_at lw_m1 117 rfl) rfl
theorem q129 : (Jvm.Cond.methodLink "BrewFunctions$ErrorPart" (42 : Nat) ({ cls := "BrewFunctions$ErrorPart", name := "near", desc := "(D)D" } : Jvm.MethodName)) ∈ lw_all := lw_g (lw_at lw_m1 118 rfl) rfl
theorem q130 : (Jvm.Cond.privateMethod ({ cls := "BrewFunctions$ErrorPart", name := "near", desc := "(D)D" } : Jvm.MethodName)) ∈ lw_tbl := lw_at lw_m1 119 rfl
theorem q131 : (Jvm.Cond.instanceMethod ({ cls := "BrewFunctions$ErrorPart", name := "near", desc := "(D)D" } : Jvm.MethodName)) ∈ lw_all := lw_g (lw_at lw_m1 120 rfl) rfl
theorem q132 : (Jvm.Cond.code ({ cls := "BrewFunctions$ErrorPart", name := "near", desc := "(D)D" } : Jvm.MethodName) prog_2_method_4_code (10 : Nat) (Option.some Jvm.ClassFile.FieldType.double)) ∈ lw_all := lw_g (lw_at lw_m1 121 rfl) rfl
theorem q133 : (Jvm.Cond.methodLink "BrewFunctions$ErrorPart" (19 : Nat) ({ cls := "BrewFunctions$ErrorPart", name := "at", desc := "(I)D" } : Jvm.MethodName)) ∈ lw_all := lw_g (lw_at lw_m1 122 rfl) rfl
theorem q134 : (Jvm.Cond.sameMethod "BrewFunctions$ErrorPart" "BrewFunctions$Function" "at" "(I)D") ∈ lw_all := lw_g (lw_at lw_m1 123 rfl) rfl
theorem q136 : (Jvm.Cond.selects "BrewFunctions$ErrorPart" ({ cls := "BrewFunctions$ErrorPart", name := "at", desc := "(I)D" } : Jvm.MethodName) ({ cls := "BrewFunctions$Function", name := "at", desc := "(I)D" } : Jvm.MethodName)) ∈ lw_all := lw_g (lw_at lw_m1 125 rfl) rfl
theorem q142 : (Jvm.Cond.selects "BrewFunctions$ErrorPart" ({ cls := "BrewFunctions$Function", name := "make", desc := "()[D" } : Jvm.MethodName) ({ cls := "BrewFunctions$ErrorPart", name := "make", desc := "()[D" } : Jvm.MethodName)) ∈ lw_all := lw_g (lw_at lw_m1 131 rfl) rfl
theorem q143 : (Jvm.Cond.instanceMethod ({ cls := "BrewFunctions$ErrorPart", name := "make", desc := "()[D" } : Jvm.MethodName)) ∈ lw_all := lw_g (lw_at lw_m1 132 rfl) rfl
theorem q144 : (Jvm.Cond.code ({ cls := "BrewFunctions$ErrorPart", name := "make", desc := "()[D" } : Jvm.MethodName) prog_2_method_3_code (3 : Nat) (Option.some (Jvm.ClassFile.FieldType.array Jvm.ClassFile.FieldType.double))) ∈ lw_all := lw_g (lw_at lw_m1 133 rfl) rfl
theorem q154 : (Jvm.Cond.constantDouble "BrewFunctions$ErrorPart" (23 : Nat) (4607760587169110893 : UInt64)) ∈ lw_all := lw_g (lw_at lw_m1 143 rfl) rfl
theorem q155 : (Jvm.Cond.methodLink "BrewFunctions$ErrorPart" (45 : Nat) ({ cls := "BrewFunctions$ErrorPart", name := "far", desc := "(D)D" } : Jvm.MethodName)) ∈ lw_all := lw_g (lw_at lw_m1 144 rfl) rfl
theorem q156 : (Jvm.Cond.privateMethod ({ cls := "BrewFunctions$ErrorPart", name := "far", desc := "(D)D" } : Jvm.MethodName)) ∈ lw_tbl := lw_at lw_m1 145 rfl
theorem q157 : (Jvm.Cond.instanceMethod ({ cls := "BrewFunctions$ErrorPart", name := "far", desc := "(D)D" } : Jvm.MethodName)) ∈ lw_all := lw_g (lw_at lw_m1 146 rfl) rfl
theorem q158 : (Jvm.Cond.code ({ cls := "BrewFunctions$ErrorPart", name := "far", desc := "(D)D" } : Jvm.MethodName) prog_2_method_5_code (6 : Nat) (Option.some Jvm.ClassFile.FieldType.double)) ∈ lw_all := lw_g (lw_at lw_m1 147 rfl) rfl
theorem q159 : (Jvm.Cond.constantDouble "BrewFunctions$ErrorPart" (25 : Nat) (4602678819172646912 : UInt64)) ∈ lw_all := lw_g (lw_at lw_m1 148 rfl) rfl
theorem q160 : (Jvm.Cond.methodLink "BrewFunctions$ErrorPart" (27 : Nat) ({ cls := "BrewFunctions$Exponential", name := "valueOf", desc := "(D)D" } : Jvm.MethodName)) ∈ lw_all := lw_g (lw_at lw_m1 149 rfl) rfl
theorem q176 : (Jvm.Cond.constantDouble "BrewFunctions$ErrorPart" (33 : Nat) (4603256987541740397 : UInt64)) ∈ lw_all := lw_g (lw_at lw_m1 165 rfl) rfl
theorem q245 : (Jvm.Cond.selects "BrewFunctions$ErrorPart" ({ cls := "BrewFunctions$Function", name := "boundOf", desc := "(D)D" } : Jvm.MethodName) ({ cls := "BrewFunctions$ErrorPart", name := "boundOf", desc := "(D)D" } : Jvm.MethodName)) ∈ lw_all := lw_g (lw_at lw_m1 234 rfl) rfl
theorem q246 : (Jvm.Cond.instanceMethod ({ cls := "BrewFunctions$ErrorPart", name := "boundOf", desc := "(D)D" } : Jvm.MethodName)) ∈ lw_all := lw_g (lw_at lw_m1 235 rfl) rfl
theorem q247 : (Jvm.Cond.code ({ cls := "BrewFunctions$ErrorPart", name := "boundOf", desc := "(D)D" } : Jvm.MethodName) prog_2_method_7_code (3 : Nat) (Option.some Jvm.ClassFile.FieldType.double)) ∈ lw_all := lw_g (lw_at lw_m1 236 rfl) rfl
theorem q248 : (Jvm.Cond.constantDouble "BrewFunctions$ErrorPart" (48 : Nat) (4427486594234968593 : UInt64)) ∈ lw_all := lw_g (lw_at lw_m1 237 rfl) rfl
theorem q285 : (Jvm.Cond.sameMethod "BrewFunctions$ErrorPart" "BrewFunctions$Function" "isMade" "()Z") ∈ lw_all := lw_g (lw_at lw_m2 34 rfl) rfl
theorem q286 : (Jvm.Cond.selects "BrewFunctions$ErrorPart" ({ cls := "BrewFunctions$ErrorPart", name := "isMade", desc := "()Z" } : Jvm.MethodName) ({ cls := "BrewFunctions$Function", name := "isMade", desc := "()Z" } : Jvm.MethodName)) ∈ lw_all := lw_g (lw_at lw_m2 35 rfl) rfl
theorem in_X6 : ∀ w ∈ wsX60, w ∈ lw_all := lw_in wsX60 [65, 63] (by decide +kernel) (by decide +kernel)
end
section
/-! BrewFunctions -/
set_option maxRecDepth 100000
def RX1 : String := "BrewFunctions"
def TX1 : u_T := fun k => match k with
  | 0 => ("BrewFunctions", "seed", "J", true)
  | 1 => ("BrewFunctions", "exponential", "LBrewFunctions$Exponential;", true)
  | 2 => ("BrewFunctions", "logarithm", "LBrewFunctions$Logarithm;", true)
  | 3 => ("BrewFunctions", "root", "LBrewFunctions$Root;", true)
  | 4 => ("BrewFunctions", "errorPart", "LBrewFunctions$ErrorPart;", true)
  | _ => ("BrewFunctions", "code", "I", false)
def tyX1 : Nat → FieldType := fun k => match k with
  | 0 => .long
  | 1 => .object "BrewFunctions$Exponential"
  | 2 => .object "BrewFunctions$Logarithm"
  | 3 => .object "BrewFunctions$Root"
  | 4 => .object "BrewFunctions$ErrorPart"
  | _ => .int
abbrev wsX10 : List Cond := u_ws RX1 TX1 6
theorem nmX1 : ∀ a, a < 6 → ∀ b, b < 6 → a ≠ b → (TX1 a).2.1 ≠ (TX1 b).2.1 := by decide +kernel
theorem tyX1_ok : ∀ k, k < 6 → parseFieldDescriptor (TX1 k).2.2.1 = some (tyX1 k) := by decide +kernel
abbrev cX1_init : ByteArray := prog_1_method_4_code
def yX1_init : MethodName := ⟨RX1, "<init>", "(J)V"⟩
theorem dX1_init_0 : decode cX1_init 0 = .ok (.aload_n 0, 1) := by decide +kernel
theorem dX1_init_1 : decode cX1_init 1 = .ok (.invokespecial 11, 3) := by decide +kernel
theorem dX1_init_4 : decode cX1_init 4 = .ok (.aload_n 0, 1) := by decide +kernel
theorem dX1_init_5 : decode cX1_init 5 = .ok (.new 17, 3) := by decide +kernel
theorem dX1_init_8 : decode cX1_init 8 = .ok (.dup, 1) := by decide +kernel
theorem dX1_init_9 : decode cX1_init 9 = .ok (.invokespecial 19, 3) := by decide +kernel
theorem dX1_init_12 : decode cX1_init 12 = .ok (.putfield 20, 3) := by decide +kernel
theorem dX1_init_15 : decode cX1_init 15 = .ok (.aload_n 0, 1) := by decide +kernel
theorem dX1_init_16 : decode cX1_init 16 = .ok (.new 24, 3) := by decide +kernel
theorem dX1_init_19 : decode cX1_init 19 = .ok (.dup, 1) := by decide +kernel
theorem dX1_init_20 : decode cX1_init 20 = .ok (.invokespecial 26, 3) := by decide +kernel
theorem dX1_init_23 : decode cX1_init 23 = .ok (.putfield 27, 3) := by decide +kernel
theorem dX1_init_26 : decode cX1_init 26 = .ok (.aload_n 0, 1) := by decide +kernel
theorem dX1_init_27 : decode cX1_init 27 = .ok (.new 31, 3) := by decide +kernel
theorem dX1_init_30 : decode cX1_init 30 = .ok (.dup, 1) := by decide +kernel
theorem dX1_init_31 : decode cX1_init 31 = .ok (.invokespecial 33, 3) := by decide +kernel
theorem dX1_init_34 : decode cX1_init 34 = .ok (.putfield 34, 3) := by decide +kernel
theorem dX1_init_37 : decode cX1_init 37 = .ok (.aload_n 0, 1) := by decide +kernel
theorem dX1_init_38 : decode cX1_init 38 = .ok (.new 38, 3) := by decide +kernel
theorem dX1_init_41 : decode cX1_init 41 = .ok (.dup, 1) := by decide +kernel
theorem dX1_init_42 : decode cX1_init 42 = .ok (.aload_n 0, 1) := by decide +kernel
theorem dX1_init_43 : decode cX1_init 43 = .ok (.getfield 20, 3) := by decide +kernel
theorem dX1_init_46 : decode cX1_init 46 = .ok (.invokespecial 40, 3) := by decide +kernel
theorem dX1_init_49 : decode cX1_init 49 = .ok (.putfield 43, 3) := by decide +kernel
theorem dX1_init_52 : decode cX1_init 52 = .ok (.aload_n 0, 1) := by decide +kernel
theorem dX1_init_53 : decode cX1_init 53 = .ok (.lload_n 1, 1) := by decide +kernel
theorem dX1_init_54 : decode cX1_init 54 = .ok (.putfield 47, 3) := by decide +kernel
theorem dX1_init_57 : decode cX1_init 57 = .ok (.return_, 1) := by decide +kernel
abbrev cX1_exponential : ByteArray := prog_1_method_6_code
def yX1_exponential : MethodName := ⟨RX1, "exponential", "(D)D"⟩
theorem dX1_exponential_0 : decode cX1_exponential 0 = .ok (.aload_n 0, 1) := by decide +kernel
theorem dX1_exponential_1 : decode cX1_exponential 1 = .ok (.aload_n 0, 1) := by decide +kernel
theorem dX1_exponential_2 : decode cX1_exponential 2 = .ok (.getfield 20, 3) := by decide +kernel
theorem dX1_exponential_5 : decode cX1_exponential 5 = .ok (.dload_n 1, 1) := by decide +kernel
theorem dX1_exponential_6 : decode cX1_exponential 6 = .ok (.invokevirtual 65, 3) := by decide +kernel
theorem dX1_exponential_9 : decode cX1_exponential 9 = .ok (.dreturn, 1) := by decide +kernel
abbrev cX1_ask : ByteArray := prog_1_method_5_code
def yX1_ask : MethodName := ⟨RX1, "ask", "(LBrewFunctions$Function;D)D"⟩
theorem dX1_ask_0 : decode cX1_ask 0 = .ok (.aload_n 0, 1) := by decide +kernel
theorem dX1_ask_1 : decode cX1_ask 1 = .ok (.aload_n 1, 1) := by decide +kernel
theorem dX1_ask_2 : decode cX1_ask 2 = .ok (.dload_n 2, 1) := by decide +kernel
theorem dX1_ask_3 : decode cX1_ask 3 = .ok (.invokevirtual 51, 3) := by decide +kernel
theorem dX1_ask_6 : decode cX1_ask 6 = .ok (.putfield 57, 3) := by decide +kernel
theorem dX1_ask_9 : decode cX1_ask 9 = .ok (.aload_n 0, 1) := by decide +kernel
theorem dX1_ask_10 : decode cX1_ask 10 = .ok (.getfield 57, 3) := by decide +kernel
theorem dX1_ask_13 : decode cX1_ask 13 = .ok (.ifCond .ne 11, 3) := by decide +kernel
theorem dX1_ask_16 : decode cX1_ask 16 = .ok (.aload_n 1, 1) := by decide +kernel
theorem dX1_ask_17 : decode cX1_ask 17 = .ok (.dload_n 2, 1) := by decide +kernel
theorem dX1_ask_18 : decode cX1_ask 18 = .ok (.invokevirtual 61, 3) := by decide +kernel
theorem dX1_ask_21 : decode cX1_ask 21 = .ok (.goto 4, 3) := by decide +kernel
theorem dX1_ask_24 : decode cX1_ask 24 = .ok (.dconst 0, 1) := by decide +kernel
theorem dX1_ask_25 : decode cX1_ask 25 = .ok (.dreturn, 1) := by decide +kernel
abbrev cX1_isNumber : ByteArray := prog_1_method_1_code
def yX1_isNumber : MethodName := ⟨RX1, "isNumber", "(D)Z"⟩
theorem dX1_isNumber_0 : decode cX1_isNumber 0 = .ok (.dload_n 0, 1) := by decide +kernel
theorem dX1_isNumber_1 : decode cX1_isNumber 1 = .ok (.ldc2_w 3, 3) := by decide +kernel
theorem dX1_isNumber_4 : decode cX1_isNumber 4 = .ok (.dcmp .g, 1) := by decide +kernel
theorem dX1_isNumber_5 : decode cX1_isNumber 5 = .ok (.ifCond .gt 15, 3) := by decide +kernel
theorem dX1_isNumber_8 : decode cX1_isNumber 8 = .ok (.dload_n 0, 1) := by decide +kernel
theorem dX1_isNumber_9 : decode cX1_isNumber 9 = .ok (.ldc2_w 5, 3) := by decide +kernel
theorem dX1_isNumber_12 : decode cX1_isNumber 12 = .ok (.dcmp .l, 1) := by decide +kernel
theorem dX1_isNumber_13 : decode cX1_isNumber 13 = .ok (.ifCond .lt 7, 3) := by decide +kernel
theorem dX1_isNumber_16 : decode cX1_isNumber 16 = .ok (.iconst 1, 1) := by decide +kernel
theorem dX1_isNumber_17 : decode cX1_isNumber 17 = .ok (.goto 4, 3) := by decide +kernel
theorem dX1_isNumber_20 : decode cX1_isNumber 20 = .ok (.iconst 0, 1) := by decide +kernel
theorem dX1_isNumber_21 : decode cX1_isNumber 21 = .ok (.ireturn, 1) := by decide +kernel
abbrev cX1_size : ByteArray := prog_1_method_2_code
def yX1_size : MethodName := ⟨RX1, "size", "(D)D"⟩
theorem dX1_size_0 : decode cX1_size 0 = .ok (.dload_n 0, 1) := by decide +kernel
theorem dX1_size_1 : decode cX1_size 1 = .ok (.dconst 0, 1) := by decide +kernel
theorem dX1_size_2 : decode cX1_size 2 = .ok (.dcmp .g, 1) := by decide +kernel
theorem dX1_size_3 : decode cX1_size 3 = .ok (.ifCond .ge 8, 3) := by decide +kernel
theorem dX1_size_6 : decode cX1_size 6 = .ok (.dload_n 0, 1) := by decide +kernel
theorem dX1_size_7 : decode cX1_size 7 = .ok (.dneg, 1) := by decide +kernel
theorem dX1_size_8 : decode cX1_size 8 = .ok (.goto 4, 3) := by decide +kernel
theorem dX1_size_11 : decode cX1_size 11 = .ok (.dload_n 0, 1) := by decide +kernel
theorem dX1_size_12 : decode cX1_size 12 = .ok (.dreturn, 1) := by decide +kernel
abbrev cX1_scaled : ByteArray := prog_1_method_3_code
def yX1_scaled : MethodName := ⟨RX1, "scaled", "(DI)D"⟩
theorem dX1_scaled_0 : decode cX1_scaled 0 = .ok (.dload_n 0, 1) := by decide +kernel
theorem dX1_scaled_1 : decode cX1_scaled 1 = .ok (.dstore_n 3, 1) := by decide +kernel
theorem dX1_scaled_2 : decode cX1_scaled 2 = .ok (.iconst 0, 1) := by decide +kernel
theorem dX1_scaled_3 : decode cX1_scaled 3 = .ok (.istore 5, 2) := by decide +kernel
theorem dX1_scaled_5 : decode cX1_scaled 5 = .ok (.iload 5, 2) := by decide +kernel
theorem dX1_scaled_7 : decode cX1_scaled 7 = .ok (.iload_n 2, 1) := by decide +kernel
theorem dX1_scaled_8 : decode cX1_scaled 8 = .ok (.if_icmp .ge 15, 3) := by decide +kernel
theorem dX1_scaled_11 : decode cX1_scaled 11 = .ok (.dload_n 3, 1) := by decide +kernel
theorem dX1_scaled_12 : decode cX1_scaled 12 = .ok (.ldc2_w 7, 3) := by decide +kernel
theorem dX1_scaled_15 : decode cX1_scaled 15 = .ok (.dmul, 1) := by decide +kernel
theorem dX1_scaled_16 : decode cX1_scaled 16 = .ok (.dstore_n 3, 1) := by decide +kernel
theorem dX1_scaled_17 : decode cX1_scaled 17 = .ok (.iinc 5 1, 3) := by decide +kernel
theorem dX1_scaled_20 : decode cX1_scaled 20 = .ok (.goto (-15), 3) := by decide +kernel
theorem dX1_scaled_23 : decode cX1_scaled 23 = .ok (.iconst 0, 1) := by decide +kernel
theorem dX1_scaled_24 : decode cX1_scaled 24 = .ok (.istore 5, 2) := by decide +kernel
theorem dX1_scaled_26 : decode cX1_scaled 26 = .ok (.iload 5, 2) := by decide +kernel
theorem dX1_scaled_28 : decode cX1_scaled 28 = .ok (.iload_n 2, 1) := by decide +kernel
theorem dX1_scaled_29 : decode cX1_scaled 29 = .ok (.if_icmp .le 15, 3) := by decide +kernel
theorem dX1_scaled_32 : decode cX1_scaled 32 = .ok (.dload_n 3, 1) := by decide +kernel
theorem dX1_scaled_33 : decode cX1_scaled 33 = .ok (.ldc2_w 9, 3) := by decide +kernel
theorem dX1_scaled_36 : decode cX1_scaled 36 = .ok (.dmul, 1) := by decide +kernel
theorem dX1_scaled_37 : decode cX1_scaled 37 = .ok (.dstore_n 3, 1) := by decide +kernel
theorem dX1_scaled_38 : decode cX1_scaled 38 = .ok (.iinc 5 (-1), 3) := by decide +kernel
theorem dX1_scaled_41 : decode cX1_scaled 41 = .ok (.goto (-15), 3) := by decide +kernel
theorem dX1_scaled_44 : decode cX1_scaled 44 = .ok (.dload_n 3, 1) := by decide +kernel
theorem dX1_scaled_45 : decode cX1_scaled 45 = .ok (.dreturn, 1) := by decide +kernel
abbrev cX1_logarithm : ByteArray := prog_1_method_7_code
def yX1_logarithm : MethodName := ⟨RX1, "logarithm", "(D)D"⟩
theorem dX1_logarithm_0 : decode cX1_logarithm 0 = .ok (.aload_n 0, 1) := by decide +kernel
theorem dX1_logarithm_1 : decode cX1_logarithm 1 = .ok (.aload_n 0, 1) := by decide +kernel
theorem dX1_logarithm_2 : decode cX1_logarithm 2 = .ok (.getfield 27, 3) := by decide +kernel
theorem dX1_logarithm_5 : decode cX1_logarithm 5 = .ok (.dload_n 1, 1) := by decide +kernel
theorem dX1_logarithm_6 : decode cX1_logarithm 6 = .ok (.invokevirtual 65, 3) := by decide +kernel
theorem dX1_logarithm_9 : decode cX1_logarithm 9 = .ok (.dreturn, 1) := by decide +kernel
abbrev cX1_power : ByteArray := prog_1_method_8_code
def yX1_power : MethodName := ⟨RX1, "power", "(DD)D"⟩
theorem dX1_power_0 : decode cX1_power 0 = .ok (.aload_n 0, 1) := by decide +kernel
theorem dX1_power_1 : decode cX1_power 1 = .ok (.dload_n 1, 1) := by decide +kernel
theorem dX1_power_2 : decode cX1_power 2 = .ok (.invokestatic 69, 3) := by decide +kernel
theorem dX1_power_5 : decode cX1_power 5 = .ok (.ifCond .eq 10, 3) := by decide +kernel
theorem dX1_power_8 : decode cX1_power 8 = .ok (.dload_n 3, 1) := by decide +kernel
theorem dX1_power_9 : decode cX1_power 9 = .ok (.invokestatic 69, 3) := by decide +kernel
theorem dX1_power_12 : decode cX1_power 12 = .ok (.ifCond .ne 7, 3) := by decide +kernel
theorem dX1_power_15 : decode cX1_power 15 = .ok (.iconst 5, 1) := by decide +kernel
theorem dX1_power_16 : decode cX1_power 16 = .ok (.goto 30, 3) := by decide +kernel
theorem dX1_power_19 : decode cX1_power 19 = .ok (.dload_n 1, 1) := by decide +kernel
theorem dX1_power_20 : decode cX1_power 20 = .ok (.dconst 0, 1) := by decide +kernel
theorem dX1_power_21 : decode cX1_power 21 = .ok (.dcmp .g, 1) := by decide +kernel
theorem dX1_power_22 : decode cX1_power 22 = .ok (.ifCond .ge 7, 3) := by decide +kernel
theorem dX1_power_25 : decode cX1_power 25 = .ok (.iconst 3, 1) := by decide +kernel
theorem dX1_power_26 : decode cX1_power 26 = .ok (.goto 20, 3) := by decide +kernel
theorem dX1_power_29 : decode cX1_power 29 = .ok (.dload_n 1, 1) := by decide +kernel
theorem dX1_power_30 : decode cX1_power 30 = .ok (.dconst 0, 1) := by decide +kernel
theorem dX1_power_31 : decode cX1_power 31 = .ok (.dcmp .l, 1) := by decide +kernel
theorem dX1_power_32 : decode cX1_power 32 = .ok (.ifCond .ne 13, 3) := by decide +kernel
theorem dX1_power_35 : decode cX1_power 35 = .ok (.dload_n 3, 1) := by decide +kernel
theorem dX1_power_36 : decode cX1_power 36 = .ok (.dconst 0, 1) := by decide +kernel
theorem dX1_power_37 : decode cX1_power 37 = .ok (.dcmp .g, 1) := by decide +kernel
theorem dX1_power_38 : decode cX1_power 38 = .ok (.ifCond .ge 7, 3) := by decide +kernel
theorem dX1_power_41 : decode cX1_power 41 = .ok (.iconst 2, 1) := by decide +kernel
theorem dX1_power_42 : decode cX1_power 42 = .ok (.goto 4, 3) := by decide +kernel
theorem dX1_power_45 : decode cX1_power 45 = .ok (.iconst 0, 1) := by decide +kernel
theorem dX1_power_46 : decode cX1_power 46 = .ok (.putfield 57, 3) := by decide +kernel
theorem dX1_power_49 : decode cX1_power 49 = .ok (.aload_n 0, 1) := by decide +kernel
theorem dX1_power_50 : decode cX1_power 50 = .ok (.getfield 57, 3) := by decide +kernel
theorem dX1_power_53 : decode cX1_power 53 = .ok (.ifCond .eq 5, 3) := by decide +kernel
theorem dX1_power_56 : decode cX1_power 56 = .ok (.dconst 0, 1) := by decide +kernel
theorem dX1_power_57 : decode cX1_power 57 = .ok (.dreturn, 1) := by decide +kernel
theorem dX1_power_58 : decode cX1_power 58 = .ok (.dload_n 1, 1) := by decide +kernel
theorem dX1_power_59 : decode cX1_power 59 = .ok (.dconst 0, 1) := by decide +kernel
theorem dX1_power_60 : decode cX1_power 60 = .ok (.dcmp .l, 1) := by decide +kernel
theorem dX1_power_61 : decode cX1_power 61 = .ok (.ifCond .ne 15, 3) := by decide +kernel
theorem dX1_power_64 : decode cX1_power 64 = .ok (.dload_n 3, 1) := by decide +kernel
theorem dX1_power_65 : decode cX1_power 65 = .ok (.dconst 0, 1) := by decide +kernel
theorem dX1_power_66 : decode cX1_power 66 = .ok (.dcmp .l, 1) := by decide +kernel
theorem dX1_power_67 : decode cX1_power 67 = .ok (.ifCond .ne 7, 3) := by decide +kernel
theorem dX1_power_70 : decode cX1_power 70 = .ok (.dconst 1, 1) := by decide +kernel
theorem dX1_power_71 : decode cX1_power 71 = .ok (.goto 4, 3) := by decide +kernel
theorem dX1_power_74 : decode cX1_power 74 = .ok (.dconst 0, 1) := by decide +kernel
theorem dX1_power_75 : decode cX1_power 75 = .ok (.dreturn, 1) := by decide +kernel
theorem dX1_power_76 : decode cX1_power 76 = .ok (.aload_n 0, 1) := by decide +kernel
theorem dX1_power_77 : decode cX1_power 77 = .ok (.dconst 1, 1) := by decide +kernel
theorem dX1_power_78 : decode cX1_power 78 = .ok (.dload_n 3, 1) := by decide +kernel
theorem dX1_power_79 : decode cX1_power 79 = .ok (.aload_n 0, 1) := by decide +kernel
theorem dX1_power_80 : decode cX1_power 80 = .ok (.getfield 27, 3) := by decide +kernel
theorem dX1_power_83 : decode cX1_power 83 = .ok (.dload_n 1, 1) := by decide +kernel
theorem dX1_power_84 : decode cX1_power 84 = .ok (.invokevirtual 73, 3) := by decide +kernel
theorem dX1_power_87 : decode cX1_power 87 = .ok (.dmul, 1) := by decide +kernel
theorem dX1_power_88 : decode cX1_power 88 = .ok (.invokevirtual 74, 3) := by decide +kernel
theorem dX1_power_91 : decode cX1_power 91 = .ok (.dreturn, 1) := by decide +kernel
abbrev cX1_raised : ByteArray := prog_1_method_9_code
def yX1_raised : MethodName := ⟨RX1, "raised", "(DD)D"⟩
theorem dX1_raised_0 : decode cX1_raised 0 = .ok (.aload_n 0, 1) := by decide +kernel
theorem dX1_raised_1 : decode cX1_raised 1 = .ok (.dload_n 3, 1) := by decide +kernel
theorem dX1_raised_2 : decode cX1_raised 2 = .ok (.ldc2_w 78, 3) := by decide +kernel
theorem dX1_raised_5 : decode cX1_raised 5 = .ok (.dcmp .l, 1) := by decide +kernel
theorem dX1_raised_6 : decode cX1_raised 6 = .ok (.ifCond .le 7, 3) := by decide +kernel
theorem dX1_raised_9 : decode cX1_raised 9 = .ok (.iconst 1, 1) := by decide +kernel
theorem dX1_raised_10 : decode cX1_raised 10 = .ok (.goto 4, 3) := by decide +kernel
theorem dX1_raised_13 : decode cX1_raised 13 = .ok (.iconst 0, 1) := by decide +kernel
theorem dX1_raised_14 : decode cX1_raised 14 = .ok (.putfield 57, 3) := by decide +kernel
theorem dX1_raised_17 : decode cX1_raised 17 = .ok (.aload_n 0, 1) := by decide +kernel
theorem dX1_raised_18 : decode cX1_raised 18 = .ok (.getfield 57, 3) := by decide +kernel
theorem dX1_raised_21 : decode cX1_raised 21 = .ok (.ifCond .ne 16, 3) := by decide +kernel
theorem dX1_raised_24 : decode cX1_raised 24 = .ok (.dload_n 1, 1) := by decide +kernel
theorem dX1_raised_25 : decode cX1_raised 25 = .ok (.aload_n 0, 1) := by decide +kernel
theorem dX1_raised_26 : decode cX1_raised 26 = .ok (.getfield 20, 3) := by decide +kernel
theorem dX1_raised_29 : decode cX1_raised 29 = .ok (.dload_n 3, 1) := by decide +kernel
theorem dX1_raised_30 : decode cX1_raised 30 = .ok (.invokevirtual 80, 3) := by decide +kernel
theorem dX1_raised_33 : decode cX1_raised 33 = .ok (.dmul, 1) := by decide +kernel
theorem dX1_raised_34 : decode cX1_raised 34 = .ok (.goto 4, 3) := by decide +kernel
theorem dX1_raised_37 : decode cX1_raised 37 = .ok (.dconst 0, 1) := by decide +kernel
theorem dX1_raised_38 : decode cX1_raised 38 = .ok (.dreturn, 1) := by decide +kernel
abbrev cX1_root : ByteArray := prog_1_method_10_code
def yX1_root : MethodName := ⟨RX1, "root", "(D)D"⟩
theorem dX1_root_0 : decode cX1_root 0 = .ok (.aload_n 0, 1) := by decide +kernel
theorem dX1_root_1 : decode cX1_root 1 = .ok (.aload_n 0, 1) := by decide +kernel
theorem dX1_root_2 : decode cX1_root 2 = .ok (.getfield 34, 3) := by decide +kernel
theorem dX1_root_5 : decode cX1_root 5 = .ok (.dload_n 1, 1) := by decide +kernel
theorem dX1_root_6 : decode cX1_root 6 = .ok (.invokevirtual 65, 3) := by decide +kernel
theorem dX1_root_9 : decode cX1_root 9 = .ok (.dreturn, 1) := by decide +kernel
abbrev cX1_errorPart : ByteArray := prog_1_method_11_code
def yX1_errorPart : MethodName := ⟨RX1, "errorPart", "(D)D"⟩
theorem dX1_errorPart_0 : decode cX1_errorPart 0 = .ok (.aload_n 0, 1) := by decide +kernel
theorem dX1_errorPart_1 : decode cX1_errorPart 1 = .ok (.aload_n 0, 1) := by decide +kernel
theorem dX1_errorPart_2 : decode cX1_errorPart 2 = .ok (.getfield 43, 3) := by decide +kernel
theorem dX1_errorPart_5 : decode cX1_errorPart 5 = .ok (.dload_n 1, 1) := by decide +kernel
theorem dX1_errorPart_6 : decode cX1_errorPart 6 = .ok (.invokevirtual 65, 3) := by decide +kernel
theorem dX1_errorPart_9 : decode cX1_errorPart 9 = .ok (.dreturn, 1) := by decide +kernel
abbrev cX1_law : ByteArray := prog_1_method_12_code
def yX1_law : MethodName := ⟨RX1, "law", "(DDD)D"⟩
theorem dX1_law_0 : decode cX1_law 0 = .ok (.aload_n 0, 1) := by decide +kernel
theorem dX1_law_1 : decode cX1_law 1 = .ok (.dload_n 1, 1) := by decide +kernel
theorem dX1_law_2 : decode cX1_law 2 = .ok (.invokestatic 69, 3) := by decide +kernel
theorem dX1_law_5 : decode cX1_law 5 = .ok (.ifCond .eq 18, 3) := by decide +kernel
theorem dX1_law_8 : decode cX1_law 8 = .ok (.dload_n 3, 1) := by decide +kernel
theorem dX1_law_9 : decode cX1_law 9 = .ok (.invokestatic 69, 3) := by decide +kernel
theorem dX1_law_12 : decode cX1_law 12 = .ok (.ifCond .eq 11, 3) := by decide +kernel
theorem dX1_law_15 : decode cX1_law 15 = .ok (.dload 5, 2) := by decide +kernel
theorem dX1_law_17 : decode cX1_law 17 = .ok (.invokestatic 69, 3) := by decide +kernel
theorem dX1_law_20 : decode cX1_law 20 = .ok (.ifCond .ne 7, 3) := by decide +kernel
theorem dX1_law_23 : decode cX1_law 23 = .ok (.iconst 5, 1) := by decide +kernel
theorem dX1_law_24 : decode cX1_law 24 = .ok (.goto 15, 3) := by decide +kernel
theorem dX1_law_27 : decode cX1_law 27 = .ok (.dload 5, 2) := by decide +kernel
theorem dX1_law_29 : decode cX1_law 29 = .ok (.dconst 0, 1) := by decide +kernel
theorem dX1_law_30 : decode cX1_law 30 = .ok (.dcmp .g, 1) := by decide +kernel
theorem dX1_law_31 : decode cX1_law 31 = .ok (.ifCond .gt 7, 3) := by decide +kernel
theorem dX1_law_34 : decode cX1_law 34 = .ok (.iconst 4, 1) := by decide +kernel
theorem dX1_law_35 : decode cX1_law 35 = .ok (.goto 4, 3) := by decide +kernel
theorem dX1_law_38 : decode cX1_law 38 = .ok (.iconst 0, 1) := by decide +kernel
theorem dX1_law_39 : decode cX1_law 39 = .ok (.putfield 57, 3) := by decide +kernel
theorem dX1_law_42 : decode cX1_law 42 = .ok (.aload_n 0, 1) := by decide +kernel
theorem dX1_law_43 : decode cX1_law 43 = .ok (.getfield 57, 3) := by decide +kernel
theorem dX1_law_46 : decode cX1_law 46 = .ok (.ifCond .ne 20, 3) := by decide +kernel
theorem dX1_law_49 : decode cX1_law 49 = .ok (.aload_n 0, 1) := by decide +kernel
theorem dX1_law_50 : decode cX1_law 50 = .ok (.dload_n 1, 1) := by decide +kernel
theorem dX1_law_51 : decode cX1_law 51 = .ok (.dload_n 3, 1) := by decide +kernel
theorem dX1_law_52 : decode cX1_law 52 = .ok (.dneg, 1) := by decide +kernel
theorem dX1_law_53 : decode cX1_law 53 = .ok (.ldc2_w 81, 3) := by decide +kernel
theorem dX1_law_56 : decode cX1_law 56 = .ok (.dload 5, 2) := by decide +kernel
theorem dX1_law_58 : decode cX1_law 58 = .ok (.dmul, 1) := by decide +kernel
theorem dX1_law_59 : decode cX1_law 59 = .ok (.ddiv, 1) := by decide +kernel
theorem dX1_law_60 : decode cX1_law 60 = .ok (.invokevirtual 74, 3) := by decide +kernel
theorem dX1_law_63 : decode cX1_law 63 = .ok (.goto 4, 3) := by decide +kernel
theorem dX1_law_66 : decode cX1_law 66 = .ok (.dconst 0, 1) := by decide +kernel
theorem dX1_law_67 : decode cX1_law 67 = .ok (.dreturn, 1) := by decide +kernel
abbrev cX1_normal : ByteArray := prog_1_method_13_code
def yX1_normal : MethodName := ⟨RX1, "normal", "(IJI)D"⟩
theorem dX1_normal_0 : decode cX1_normal 0 = .ok (.aload_n 0, 1) := by decide +kernel
theorem dX1_normal_1 : decode cX1_normal 1 = .ok (.iload_n 1, 1) := by decide +kernel
theorem dX1_normal_2 : decode cX1_normal 2 = .ok (.ifCond .lt 14, 3) := by decide +kernel
theorem dX1_normal_5 : decode cX1_normal 5 = .ok (.lload_n 2, 1) := by decide +kernel
theorem dX1_normal_6 : decode cX1_normal 6 = .ok (.lconst 0, 1) := by decide +kernel
theorem dX1_normal_7 : decode cX1_normal 7 = .ok (.lcmp, 1) := by decide +kernel
theorem dX1_normal_8 : decode cX1_normal 8 = .ok (.ifCond .lt 8, 3) := by decide +kernel
theorem dX1_normal_11 : decode cX1_normal 11 = .ok (.iload 4, 2) := by decide +kernel
theorem dX1_normal_13 : decode cX1_normal 13 = .ok (.ifCond .ge 7, 3) := by decide +kernel
theorem dX1_normal_16 : decode cX1_normal 16 = .ok (.iconst 3, 1) := by decide +kernel
theorem dX1_normal_17 : decode cX1_normal 17 = .ok (.goto 4, 3) := by decide +kernel
theorem dX1_normal_20 : decode cX1_normal 20 = .ok (.iconst 0, 1) := by decide +kernel
theorem dX1_normal_21 : decode cX1_normal 21 = .ok (.putfield 57, 3) := by decide +kernel
theorem dX1_normal_24 : decode cX1_normal 24 = .ok (.aload_n 0, 1) := by decide +kernel
theorem dX1_normal_25 : decode cX1_normal 25 = .ok (.getfield 57, 3) := by decide +kernel
theorem dX1_normal_28 : decode cX1_normal 28 = .ok (.ifCond .eq 5, 3) := by decide +kernel
theorem dX1_normal_31 : decode cX1_normal 31 = .ok (.dconst 0, 1) := by decide +kernel
theorem dX1_normal_32 : decode cX1_normal 32 = .ok (.dreturn, 1) := by decide +kernel
theorem dX1_normal_33 : decode cX1_normal 33 = .ok (.aload_n 0, 1) := by decide +kernel
theorem dX1_normal_34 : decode cX1_normal 34 = .ok (.getfield 47, 3) := by decide +kernel
theorem dX1_normal_37 : decode cX1_normal 37 = .ok (.iload_n 1, 1) := by decide +kernel
theorem dX1_normal_38 : decode cX1_normal 38 = .ok (.i2l, 1) := by decide +kernel
theorem dX1_normal_39 : decode cX1_normal 39 = .ok (.ldc2_w 83, 3) := by decide +kernel
theorem dX1_normal_42 : decode cX1_normal 42 = .ok (.lmul, 1) := by decide +kernel
theorem dX1_normal_43 : decode cX1_normal 43 = .ok (.ladd, 1) := by decide +kernel
theorem dX1_normal_44 : decode cX1_normal 44 = .ok (.lload_n 2, 1) := by decide +kernel
theorem dX1_normal_45 : decode cX1_normal 45 = .ok (.ldc2_w 85, 3) := by decide +kernel
theorem dX1_normal_48 : decode cX1_normal 48 = .ok (.lmul, 1) := by decide +kernel
theorem dX1_normal_49 : decode cX1_normal 49 = .ok (.ladd, 1) := by decide +kernel
theorem dX1_normal_50 : decode cX1_normal 50 = .ok (.iload 4, 2) := by decide +kernel
theorem dX1_normal_52 : decode cX1_normal 52 = .ok (.i2l, 1) := by decide +kernel
theorem dX1_normal_53 : decode cX1_normal 53 = .ok (.ldc2_w 87, 3) := by decide +kernel
theorem dX1_normal_56 : decode cX1_normal 56 = .ok (.lmul, 1) := by decide +kernel
theorem dX1_normal_57 : decode cX1_normal 57 = .ok (.ladd, 1) := by decide +kernel
theorem dX1_normal_58 : decode cX1_normal 58 = .ok (.lstore 5, 2) := by decide +kernel
theorem dX1_normal_60 : decode cX1_normal 60 = .ok (.dconst 0, 1) := by decide +kernel
theorem dX1_normal_61 : decode cX1_normal 61 = .ok (.dstore 7, 2) := by decide +kernel
theorem dX1_normal_63 : decode cX1_normal 63 = .ok (.iconst 0, 1) := by decide +kernel
theorem dX1_normal_64 : decode cX1_normal 64 = .ok (.istore 9, 2) := by decide +kernel
theorem dX1_normal_66 : decode cX1_normal 66 = .ok (.iload 9, 2) := by decide +kernel
theorem dX1_normal_68 : decode cX1_normal 68 = .ok (.bipush 15, 2) := by decide +kernel
theorem dX1_normal_70 : decode cX1_normal 70 = .ok (.if_icmp .ge 47, 3) := by decide +kernel
theorem dX1_normal_73 : decode cX1_normal 73 = .ok (.lload 5, 2) := by decide +kernel
theorem dX1_normal_75 : decode cX1_normal 75 = .ok (.ldc2_w 89, 3) := by decide +kernel
theorem dX1_normal_78 : decode cX1_normal 78 = .ok (.lmul, 1) := by decide +kernel
theorem dX1_normal_79 : decode cX1_normal 79 = .ok (.ldc2_w 91, 3) := by decide +kernel
theorem dX1_normal_82 : decode cX1_normal 82 = .ok (.ladd, 1) := by decide +kernel
theorem dX1_normal_83 : decode cX1_normal 83 = .ok (.lstore 5, 2) := by decide +kernel
theorem dX1_normal_85 : decode cX1_normal 85 = .ok (.iload 9, 2) := by decide +kernel
theorem dX1_normal_87 : decode cX1_normal 87 = .ok (.iconst 3, 1) := by decide +kernel
theorem dX1_normal_88 : decode cX1_normal 88 = .ok (.if_icmp .ge 8, 3) := by decide +kernel
theorem dX1_normal_91 : decode cX1_normal 91 = .ok (.dload 7, 2) := by decide +kernel
theorem dX1_normal_93 : decode cX1_normal 93 = .ok (.goto 16, 3) := by decide +kernel
theorem dX1_normal_96 : decode cX1_normal 96 = .ok (.dload 7, 2) := by decide +kernel
theorem dX1_normal_98 : decode cX1_normal 98 = .ok (.lload 5, 2) := by decide +kernel
theorem dX1_normal_100 : decode cX1_normal 100 = .ok (.bipush 11, 2) := by decide +kernel
theorem dX1_normal_102 : decode cX1_normal 102 = .ok (.lushr, 1) := by decide +kernel
theorem dX1_normal_103 : decode cX1_normal 103 = .ok (.l2d, 1) := by decide +kernel
theorem dX1_normal_104 : decode cX1_normal 104 = .ok (.ldc2_w 93, 3) := by decide +kernel
theorem dX1_normal_107 : decode cX1_normal 107 = .ok (.dmul, 1) := by decide +kernel
theorem dX1_normal_108 : decode cX1_normal 108 = .ok (.dadd, 1) := by decide +kernel
theorem dX1_normal_109 : decode cX1_normal 109 = .ok (.dstore 7, 2) := by decide +kernel
theorem dX1_normal_111 : decode cX1_normal 111 = .ok (.iinc 9 1, 3) := by decide +kernel
theorem dX1_normal_114 : decode cX1_normal 114 = .ok (.goto (-48), 3) := by decide +kernel
theorem dX1_normal_117 : decode cX1_normal 117 = .ok (.dload 7, 2) := by decide +kernel
theorem dX1_normal_119 : decode cX1_normal 119 = .ok (.ldc2_w 95, 3) := by decide +kernel
theorem dX1_normal_122 : decode cX1_normal 122 = .ok (.dsub, 1) := by decide +kernel
theorem dX1_normal_123 : decode cX1_normal 123 = .ok (.dreturn, 1) := by decide +kernel
abbrev cX1_bound : ByteArray := prog_1_method_14_code
def yX1_bound : MethodName := ⟨RX1, "bound", "(ID)D"⟩
theorem dX1_bound_0 : decode cX1_bound 0 = .ok (.iload_n 1, 1) := by decide +kernel
theorem dX1_bound_1 : decode cX1_bound 1 = .ok (.ifCond .ne 10, 3) := by decide +kernel
theorem dX1_bound_4 : decode cX1_bound 4 = .ok (.aload_n 0, 1) := by decide +kernel
theorem dX1_bound_5 : decode cX1_bound 5 = .ok (.getfield 20, 3) := by decide +kernel
theorem dX1_bound_8 : decode cX1_bound 8 = .ok (.goto 40, 3) := by decide +kernel
theorem dX1_bound_11 : decode cX1_bound 11 = .ok (.iload_n 1, 1) := by decide +kernel
theorem dX1_bound_12 : decode cX1_bound 12 = .ok (.iconst 1, 1) := by decide +kernel
theorem dX1_bound_13 : decode cX1_bound 13 = .ok (.if_icmp .ne 10, 3) := by decide +kernel
theorem dX1_bound_16 : decode cX1_bound 16 = .ok (.aload_n 0, 1) := by decide +kernel
theorem dX1_bound_17 : decode cX1_bound 17 = .ok (.getfield 27, 3) := by decide +kernel
theorem dX1_bound_20 : decode cX1_bound 20 = .ok (.goto 28, 3) := by decide +kernel
theorem dX1_bound_23 : decode cX1_bound 23 = .ok (.iload_n 1, 1) := by decide +kernel
theorem dX1_bound_24 : decode cX1_bound 24 = .ok (.iconst 2, 1) := by decide +kernel
theorem dX1_bound_25 : decode cX1_bound 25 = .ok (.if_icmp .ne 10, 3) := by decide +kernel
theorem dX1_bound_28 : decode cX1_bound 28 = .ok (.aload_n 0, 1) := by decide +kernel
theorem dX1_bound_29 : decode cX1_bound 29 = .ok (.getfield 34, 3) := by decide +kernel
theorem dX1_bound_32 : decode cX1_bound 32 = .ok (.goto 16, 3) := by decide +kernel
theorem dX1_bound_35 : decode cX1_bound 35 = .ok (.iload_n 1, 1) := by decide +kernel
theorem dX1_bound_36 : decode cX1_bound 36 = .ok (.iconst 3, 1) := by decide +kernel
theorem dX1_bound_37 : decode cX1_bound 37 = .ok (.if_icmp .ne 10, 3) := by decide +kernel
theorem dX1_bound_40 : decode cX1_bound 40 = .ok (.aload_n 0, 1) := by decide +kernel
theorem dX1_bound_41 : decode cX1_bound 41 = .ok (.getfield 43, 3) := by decide +kernel
theorem dX1_bound_44 : decode cX1_bound 44 = .ok (.goto 4, 3) := by decide +kernel
theorem dX1_bound_47 : decode cX1_bound 47 = .ok (.aconst_null, 1) := by decide +kernel
theorem dX1_bound_48 : decode cX1_bound 48 = .ok (.astore 4, 2) := by decide +kernel
theorem dX1_bound_50 : decode cX1_bound 50 = .ok (.aload 4, 2) := by decide +kernel
theorem dX1_bound_52 : decode cX1_bound 52 = .ok (.ifnull 12, 3) := by decide +kernel
theorem dX1_bound_55 : decode cX1_bound 55 = .ok (.aload 4, 2) := by decide +kernel
theorem dX1_bound_57 : decode cX1_bound 57 = .ok (.dload_n 2, 1) := by decide +kernel
theorem dX1_bound_58 : decode cX1_bound 58 = .ok (.invokevirtual 51, 3) := by decide +kernel
theorem dX1_bound_61 : decode cX1_bound 61 = .ok (.ifCond .eq 9, 3) := by decide +kernel
theorem dX1_bound_64 : decode cX1_bound 64 = .ok (.ldc2_w 97, 3) := by decide +kernel
theorem dX1_bound_67 : decode cX1_bound 67 = .ok (.goto 9, 3) := by decide +kernel
theorem dX1_bound_70 : decode cX1_bound 70 = .ok (.aload 4, 2) := by decide +kernel
theorem dX1_bound_72 : decode cX1_bound 72 = .ok (.dload_n 2, 1) := by decide +kernel
theorem dX1_bound_73 : decode cX1_bound 73 = .ok (.invokevirtual 99, 3) := by decide +kernel
theorem dX1_bound_76 : decode cX1_bound 76 = .ok (.dreturn, 1) := by decide +kernel
abbrev cX1_code : ByteArray := prog_1_method_15_code
def yX1_code : MethodName := ⟨RX1, "code", "()I"⟩
theorem dX1_code_0 : decode cX1_code 0 = .ok (.aload_n 0, 1) := by decide +kernel
theorem dX1_code_1 : decode cX1_code 1 = .ok (.getfield 57, 3) := by decide +kernel
theorem dX1_code_4 : decode cX1_code 4 = .ok (.ireturn, 1) := by decide +kernel
abbrev cX1_made : ByteArray := prog_1_method_16_code
def yX1_made : MethodName := ⟨RX1, "made", "()I"⟩
theorem dX1_made_0 : decode cX1_made 0 = .ok (.aload_n 0, 1) := by decide +kernel
theorem dX1_made_1 : decode cX1_made 1 = .ok (.getfield 20, 3) := by decide +kernel
theorem dX1_made_4 : decode cX1_made 4 = .ok (.invokevirtual 102, 3) := by decide +kernel
theorem dX1_made_7 : decode cX1_made 7 = .ok (.ifCond .eq 7, 3) := by decide +kernel
theorem dX1_made_10 : decode cX1_made 10 = .ok (.iconst 1, 1) := by decide +kernel
theorem dX1_made_11 : decode cX1_made 11 = .ok (.goto 4, 3) := by decide +kernel
theorem dX1_made_14 : decode cX1_made 14 = .ok (.iconst 0, 1) := by decide +kernel
theorem dX1_made_15 : decode cX1_made 15 = .ok (.aload_n 0, 1) := by decide +kernel
theorem dX1_made_16 : decode cX1_made 16 = .ok (.getfield 27, 3) := by decide +kernel
theorem dX1_made_19 : decode cX1_made 19 = .ok (.invokevirtual 106, 3) := by decide +kernel
theorem dX1_made_22 : decode cX1_made 22 = .ok (.ifCond .eq 7, 3) := by decide +kernel
theorem dX1_made_25 : decode cX1_made 25 = .ok (.iconst 1, 1) := by decide +kernel
theorem dX1_made_26 : decode cX1_made 26 = .ok (.goto 4, 3) := by decide +kernel
theorem dX1_made_29 : decode cX1_made 29 = .ok (.iconst 0, 1) := by decide +kernel
theorem dX1_made_30 : decode cX1_made 30 = .ok (.iadd, 1) := by decide +kernel
theorem dX1_made_31 : decode cX1_made 31 = .ok (.aload_n 0, 1) := by decide +kernel
theorem dX1_made_32 : decode cX1_made 32 = .ok (.getfield 43, 3) := by decide +kernel
theorem dX1_made_35 : decode cX1_made 35 = .ok (.invokevirtual 107, 3) := by decide +kernel
theorem dX1_made_38 : decode cX1_made 38 = .ok (.ifCond .eq 7, 3) := by decide +kernel
theorem dX1_made_41 : decode cX1_made 41 = .ok (.iconst 1, 1) := by decide +kernel
theorem dX1_made_42 : decode cX1_made 42 = .ok (.goto 4, 3) := by decide +kernel
theorem dX1_made_45 : decode cX1_made 45 = .ok (.iconst 0, 1) := by decide +kernel
theorem dX1_made_46 : decode cX1_made 46 = .ok (.iadd, 1) := by decide +kernel
theorem dX1_made_47 : decode cX1_made 47 = .ok (.ireturn, 1) := by decide +kernel
theorem q12 : (Jvm.Cond.initialized "BrewFunctions") ∈ lw_all := lw_g (lw_at lw_m1 1 rfl) rfl
theorem q20 : (Jvm.Cond.instantiable "BrewFunctions" (6 : Nat)) ∈ lw_all := lw_g (lw_at lw_m1 9 rfl) rfl
theorem q22 : (Jvm.Cond.instanceMethod ({ cls := "BrewFunctions", name := "<init>", desc := "(J)V" } : Jvm.MethodName)) ∈ lw_all := lw_g (lw_at lw_m1 11 rfl) rfl
theorem q23 : (Jvm.Cond.code ({ cls := "BrewFunctions", name := "<init>", desc := "(J)V" } : Jvm.MethodName) prog_1_method_4_code (3 : Nat) (Option.none : Option Jvm.ClassFile.FieldType)) ∈ lw_all := lw_g (lw_at lw_m1 12 rfl) rfl
theorem q24 : (Jvm.Cond.methodLink "BrewFunctions" (11 : Nat) ({ cls := "java/lang/Object", name := "<init>", desc := "()V" } : Jvm.MethodName)) ∈ lw_all := lw_g (lw_at lw_m1 13 rfl) rfl
theorem q27 : (Jvm.Cond.classLink "BrewFunctions" (17 : Nat) "BrewFunctions$Exponential") ∈ lw_all := lw_g (lw_at lw_m1 16 rfl) rfl
theorem q29 : (Jvm.Cond.methodLinkNest "BrewFunctions" (19 : Nat) ({ cls := "BrewFunctions$Exponential", name := "<init>", desc := "()V" } : Jvm.MethodName) "BrewFunctions") ∈ lw_tbl := lw_at lw_m1 18 rfl
theorem q40 : (Jvm.Cond.classLink "BrewFunctions" (24 : Nat) "BrewFunctions$Logarithm") ∈ lw_all := lw_g (lw_at lw_m1 29 rfl) rfl
theorem q42 : (Jvm.Cond.methodLinkNest "BrewFunctions" (26 : Nat) ({ cls := "BrewFunctions$Logarithm", name := "<init>", desc := "()V" } : Jvm.MethodName) "BrewFunctions") ∈ lw_tbl := lw_at lw_m1 31 rfl
theorem q48 : (Jvm.Cond.classLink "BrewFunctions" (31 : Nat) "BrewFunctions$Root") ∈ lw_all := lw_g (lw_at lw_m1 37 rfl) rfl
theorem q50 : (Jvm.Cond.methodLinkNest "BrewFunctions" (33 : Nat) ({ cls := "BrewFunctions$Root", name := "<init>", desc := "()V" } : Jvm.MethodName) "BrewFunctions") ∈ lw_tbl := lw_at lw_m1 39 rfl
theorem q56 : (Jvm.Cond.classLink "BrewFunctions" (38 : Nat) "BrewFunctions$ErrorPart") ∈ lw_all := lw_g (lw_at lw_m1 45 rfl) rfl
theorem q58 : (Jvm.Cond.methodLink "BrewFunctions" (40 : Nat) ({ cls := "BrewFunctions$ErrorPart", name := "<init>", desc := "(LBrewFunctions$Exponential;)V" } : Jvm.MethodName)) ∈ lw_all := lw_g (lw_at lw_m1 47 rfl) rfl
theorem q67 : (Jvm.Cond.fieldLink "BrewFunctions" (47 : Nat) "BrewFunctions" "seed" "J") ∈ lw_all := lw_g (lw_at lw_m1 56 rfl) rfl
theorem q68 : (Jvm.Cond.fieldLink "BrewFunctions" (20 : Nat) "BrewFunctions" "exponential" "LBrewFunctions$Exponential;") ∈ lw_all := lw_g (lw_at lw_m1 57 rfl) rfl
theorem q69 : (Jvm.Cond.fieldLink "BrewFunctions" (27 : Nat) "BrewFunctions" "logarithm" "LBrewFunctions$Logarithm;") ∈ lw_all := lw_g (lw_at lw_m1 58 rfl) rfl
theorem q70 : (Jvm.Cond.fieldLink "BrewFunctions" (34 : Nat) "BrewFunctions" "root" "LBrewFunctions$Root;") ∈ lw_all := lw_g (lw_at lw_m1 59 rfl) rfl
theorem q71 : (Jvm.Cond.fieldLink "BrewFunctions" (43 : Nat) "BrewFunctions" "errorPart" "LBrewFunctions$ErrorPart;") ∈ lw_all := lw_g (lw_at lw_m1 60 rfl) rfl
theorem q72 : (Jvm.Cond.fieldLink "BrewFunctions" (57 : Nat) "BrewFunctions" "code" "I") ∈ lw_all := lw_g (lw_at lw_m1 61 rfl) rfl
theorem q73 : (Jvm.Cond.laysFinal "BrewFunctions" "BrewFunctions" "seed" "J") ∈ lw_all := lw_g (lw_at lw_m1 62 rfl) rfl
theorem q74 : (Jvm.Cond.soleField "BrewFunctions" "seed") ∈ lw_all := lw_g (lw_at lw_m1 63 rfl) rfl
theorem q75 : (Jvm.Cond.laysFinal "BrewFunctions" "BrewFunctions" "exponential" "LBrewFunctions$Exponential;") ∈ lw_all := lw_g (lw_at lw_m1 64 rfl) rfl
theorem q76 : (Jvm.Cond.soleField "BrewFunctions" "exponential") ∈ lw_all := lw_g (lw_at lw_m1 65 rfl) rfl
theorem q77 : (Jvm.Cond.laysFinal "BrewFunctions" "BrewFunctions" "logarithm" "LBrewFunctions$Logarithm;") ∈ lw_all := lw_g (lw_at lw_m1 66 rfl) rfl
theorem q78 : (Jvm.Cond.soleField "BrewFunctions" "logarithm") ∈ lw_all := lw_g (lw_at lw_m1 67 rfl) rfl
theorem q79 : (Jvm.Cond.laysFinal "BrewFunctions" "BrewFunctions" "root" "LBrewFunctions$Root;") ∈ lw_all := lw_g (lw_at lw_m1 68 rfl) rfl
theorem q80 : (Jvm.Cond.soleField "BrewFunctions" "root") ∈ lw_all := lw_g (lw_at lw_m1 69 rfl) rfl
theorem q81 : (Jvm.Cond.laysFinal "BrewFunctions" "BrewFunctions" "errorPart" "LBrewFunctions$ErrorPart;") ∈ lw_all := lw_g (lw_at lw_m1 70 rfl) rfl
theorem q82 : (Jvm.Cond.soleField "BrewFunctions" "errorPart") ∈ lw_all := lw_g (lw_at lw_m1 71 rfl) rfl
theorem q83 : (Jvm.Cond.lays "BrewFunctions" "BrewFunctions" "code" "I") ∈ lw_all := lw_g (lw_at lw_m1 72 rfl) rfl
theorem q84 : (Jvm.Cond.soleField "BrewFunctions" "code") ∈ lw_all := lw_g (lw_at lw_m1 73 rfl) rfl
theorem q85 : (Jvm.Cond.superclass "BrewFunctions" "java/lang/Object") ∈ lw_all := lw_g (lw_at lw_m1 74 rfl) rfl
theorem q87 : (Jvm.Cond.instanceMethod ({ cls := "BrewFunctions", name := "exponential", desc := "(D)D" } : Jvm.MethodName)) ∈ lw_all := lw_g (lw_at lw_m1 76 rfl) rfl
theorem q88 : (Jvm.Cond.selects "BrewFunctions" ({ cls := "BrewFunctions", name := "exponential", desc := "(D)D" } : Jvm.MethodName) ({ cls := "BrewFunctions", name := "exponential", desc := "(D)D" } : Jvm.MethodName)) ∈ lw_all := lw_g (lw_at lw_m1 77 rfl) rfl
theorem q89 : (Jvm.Cond.code ({ cls := "BrewFunctions", name := "exponential", desc := "(D)D" } : Jvm.MethodName) prog_1_method_6_code (3 : Nat) (Option.some Jvm.ClassFile.FieldType.double)) ∈ lw_all := lw_g (lw_at lw_m1 78 rfl) rfl
theorem q90 : (Jvm.Cond.methodLink "BrewFunctions" (65 : Nat) ({ cls := "BrewFunctions", name := "ask", desc := "(LBrewFunctions$Function;D)D" } : Jvm.MethodName)) ∈ lw_all := lw_g (lw_at lw_m1 79 rfl) rfl
theorem q91 : (Jvm.Cond.privateMethod ({ cls := "BrewFunctions", name := "ask", desc := "(LBrewFunctions$Function;D)D" } : Jvm.MethodName)) ∈ lw_tbl := lw_at lw_m1 80 rfl
theorem q92 : (Jvm.Cond.instanceMethod ({ cls := "BrewFunctions", name := "ask", desc := "(LBrewFunctions$Function;D)D" } : Jvm.MethodName)) ∈ lw_all := lw_g (lw_at lw_m1 81 rfl) rfl
theorem q93 : (Jvm.Cond.code ({ cls := "BrewFunctions", name := "ask", desc := "(LBrewFunctions$Function;D)D" } : Jvm.MethodName) prog_1_method_5_code (4 : Nat) (Option.some Jvm.ClassFile.FieldType.double)) ∈ lw_all := lw_g (lw_at lw_m1 82 rfl) rfl
theorem q94 : (Jvm.Cond.methodLink "BrewFunctions" (51 : Nat) ({ cls := "BrewFunctions$Function", name := "codeOf", desc := "(D)I" } : Jvm.MethodName)) ∈ lw_all := lw_g (lw_at lw_m1 83 rfl) rfl
theorem q101 : (Jvm.Cond.static ({ cls := "BrewFunctions", name := "isNumber", desc := "(D)Z" } : Jvm.MethodName)) ∈ lw_all := lw_g (lw_at lw_m1 90 rfl) rfl
theorem q102 : (Jvm.Cond.code ({ cls := "BrewFunctions", name := "isNumber", desc := "(D)Z" } : Jvm.MethodName) prog_1_method_1_code (2 : Nat) (Option.some Jvm.ClassFile.FieldType.boolean)) ∈ lw_all := lw_g (lw_at lw_m1 91 rfl) rfl
theorem q103 : (Jvm.Cond.constantDouble "BrewFunctions" (3 : Nat) (4726483295884279808 : UInt64)) ∈ lw_all := lw_g (lw_at lw_m1 92 rfl) rfl
theorem q104 : (Jvm.Cond.constantDouble "BrewFunctions" (5 : Nat) (13949855332739055616 : UInt64)) ∈ lw_all := lw_g (lw_at lw_m1 93 rfl) rfl
theorem q118 : (Jvm.Cond.methodLink "BrewFunctions" (61 : Nat) ({ cls := "BrewFunctions$Function", name := "valueOf", desc := "(D)D" } : Jvm.MethodName)) ∈ lw_all := lw_g (lw_at lw_m1 107 rfl) rfl
theorem q125 : (Jvm.Cond.static ({ cls := "BrewFunctions", name := "size", desc := "(D)D" } : Jvm.MethodName)) ∈ lw_all := lw_g (lw_at lw_m1 114 rfl) rfl
theorem q126 : (Jvm.Cond.code ({ cls := "BrewFunctions", name := "size", desc := "(D)D" } : Jvm.MethodName) prog_1_method_2_code (2 : Nat) (Option.some Jvm.ClassFile.FieldType.double)) ∈ lw_all := lw_g (lw_at lw_m1 115 rfl) rfl
theorem q172 : (Jvm.Cond.static ({ cls := "BrewFunctions", name := "scaled", desc := "(DI)D" } : Jvm.MethodName)) ∈ lw_all := lw_g (lw_at lw_m1 161 rfl) rfl
theorem q173 : (Jvm.Cond.code ({ cls := "BrewFunctions", name := "scaled", desc := "(DI)D" } : Jvm.MethodName) prog_1_method_3_code (6 : Nat) (Option.some Jvm.ClassFile.FieldType.double)) ∈ lw_all := lw_g (lw_at lw_m1 162 rfl) rfl
theorem q174 : (Jvm.Cond.constantDouble "BrewFunctions" (7 : Nat) (4611686018427387904 : UInt64)) ∈ lw_all := lw_g (lw_at lw_m1 163 rfl) rfl
theorem q175 : (Jvm.Cond.constantDouble "BrewFunctions" (9 : Nat) (4602678819172646912 : UInt64)) ∈ lw_all := lw_g (lw_at lw_m1 164 rfl) rfl
theorem q198 : (Jvm.Cond.instanceMethod ({ cls := "BrewFunctions", name := "logarithm", desc := "(D)D" } : Jvm.MethodName)) ∈ lw_all := lw_g (lw_at lw_m1 187 rfl) rfl
theorem q199 : (Jvm.Cond.selects "BrewFunctions" ({ cls := "BrewFunctions", name := "logarithm", desc := "(D)D" } : Jvm.MethodName) ({ cls := "BrewFunctions", name := "logarithm", desc := "(D)D" } : Jvm.MethodName)) ∈ lw_all := lw_g (lw_at lw_m1 188 rfl) rfl
theorem q200 : (Jvm.Cond.code ({ cls := "BrewFunctions", name := "logarithm", desc := "(D)D" } : Jvm.MethodName) prog_1_method_7_code (3 : Nat) (Option.some Jvm.ClassFile.FieldType.double)) ∈ lw_all := lw_g (lw_at lw_m1 189 rfl) rfl
theorem q202 : (Jvm.Cond.instanceMethod ({ cls := "BrewFunctions", name := "power", desc := "(DD)D" } : Jvm.MethodName)) ∈ lw_all := lw_g (lw_at lw_m1 191 rfl) rfl
theorem q203 : (Jvm.Cond.selects "BrewFunctions" ({ cls := "BrewFunctions", name := "power", desc := "(DD)D" } : Jvm.MethodName) ({ cls := "BrewFunctions", name := "power", desc := "(DD)D" } : Jvm.MethodName)) ∈ lw_all := lw_g (lw_at lw_m1 192 rfl) rfl
theorem q204 : (Jvm.Cond.code ({ cls := "BrewFunctions", name := "power", desc := "(DD)D" } : Jvm.MethodName) prog_1_method_8_code (5 : Nat) (Option.some Jvm.ClassFile.FieldType.double)) ∈ lw_all := lw_g (lw_at lw_m1 193 rfl) rfl
theorem q205 : (Jvm.Cond.methodLink "BrewFunctions" (69 : Nat) ({ cls := "BrewFunctions", name := "isNumber", desc := "(D)Z" } : Jvm.MethodName)) ∈ lw_all := lw_g (lw_at lw_m1 194 rfl) rfl
theorem q206 : (Jvm.Cond.methodLink "BrewFunctions" (73 : Nat) ({ cls := "BrewFunctions$Logarithm", name := "valueOf", desc := "(D)D" } : Jvm.MethodName)) ∈ lw_all := lw_g (lw_at lw_m1 195 rfl) rfl
theorem q207 : (Jvm.Cond.methodLink "BrewFunctions" (74 : Nat) ({ cls := "BrewFunctions", name := "raised", desc := "(DD)D" } : Jvm.MethodName)) ∈ lw_all := lw_g (lw_at lw_m1 196 rfl) rfl
theorem q208 : (Jvm.Cond.privateMethod ({ cls := "BrewFunctions", name := "raised", desc := "(DD)D" } : Jvm.MethodName)) ∈ lw_tbl := lw_at lw_m1 197 rfl
theorem q209 : (Jvm.Cond.instanceMethod ({ cls := "BrewFunctions", name := "raised", desc := "(DD)D" } : Jvm.MethodName)) ∈ lw_all := lw_g (lw_at lw_m1 198 rfl) rfl
theorem q210 : (Jvm.Cond.code ({ cls := "BrewFunctions", name := "raised", desc := "(DD)D" } : Jvm.MethodName) prog_1_method_9_code (5 : Nat) (Option.some Jvm.ClassFile.FieldType.double)) ∈ lw_all := lw_g (lw_at lw_m1 199 rfl) rfl
theorem q211 : (Jvm.Cond.constantDouble "BrewFunctions" (78 : Nat) (4649368480934526976 : UInt64)) ∈ lw_all := lw_g (lw_at lw_m1 200 rfl) rfl
theorem q212 : (Jvm.Cond.methodLink "BrewFunctions" (80 : Nat) ({ cls := "BrewFunctions$Exponential", name := "valueOf", desc := "(D)D" } : Jvm.MethodName)) ∈ lw_all := lw_g (lw_at lw_m1 201 rfl) rfl
theorem q214 : (Jvm.Cond.instanceMethod ({ cls := "BrewFunctions", name := "root", desc := "(D)D" } : Jvm.MethodName)) ∈ lw_all := lw_g (lw_at lw_m1 203 rfl) rfl
theorem q215 : (Jvm.Cond.selects "BrewFunctions" ({ cls := "BrewFunctions", name := "root", desc := "(D)D" } : Jvm.MethodName) ({ cls := "BrewFunctions", name := "root", desc := "(D)D" } : Jvm.MethodName)) ∈ lw_all := lw_g (lw_at lw_m1 204 rfl) rfl
theorem q216 : (Jvm.Cond.code ({ cls := "BrewFunctions", name := "root", desc := "(D)D" } : Jvm.MethodName) prog_1_method_10_code (3 : Nat) (Option.some Jvm.ClassFile.FieldType.double)) ∈ lw_all := lw_g (lw_at lw_m1 205 rfl) rfl
theorem q218 : (Jvm.Cond.instanceMethod ({ cls := "BrewFunctions", name := "errorPart", desc := "(D)D" } : Jvm.MethodName)) ∈ lw_all := lw_g (lw_at lw_m1 207 rfl) rfl
theorem q219 : (Jvm.Cond.selects "BrewFunctions" ({ cls := "BrewFunctions", name := "errorPart", desc := "(D)D" } : Jvm.MethodName) ({ cls := "BrewFunctions", name := "errorPart", desc := "(D)D" } : Jvm.MethodName)) ∈ lw_all := lw_g (lw_at lw_m1 208 rfl) rfl
theorem q220 : (Jvm.Cond.code ({ cls := "BrewFunctions", name := "errorPart", desc := "(D)D" } : Jvm.MethodName) prog_1_method_11_code (3 : Nat) (Option.some Jvm.ClassFile.FieldType.double)) ∈ lw_all := lw_g (lw_at lw_m1 209 rfl) rfl
theorem q222 : (Jvm.Cond.instanceMethod ({ cls := "BrewFunctions", name := "law", desc := "(DDD)D" } : Jvm.MethodName)) ∈ lw_all := lw_g (lw_at lw_m1 211 rfl) rfl
theorem q223 : (Jvm.Cond.selects "BrewFunctions" ({ cls := "BrewFunctions", name := "law", desc := "(DDD)D" } : Jvm.MethodName) ({ cls := "BrewFunctions", name := "law", desc := "(DDD)D" } : Jvm.MethodName)) ∈ lw_all := lw_g (lw_at lw_m1 212 rfl) rfl
theorem q224 : (Jvm.Cond.code ({ cls := "BrewFunctions", name := "law", desc := "(DDD)D" } : Jvm.MethodName) prog_1_method_12_code (7 : Nat) (Option.some Jvm.ClassFile.FieldType.double)) ∈ lw_all := lw_g (lw_at lw_m1 213 rfl) rfl
theorem q225 : (Jvm.Cond.constantDouble "BrewFunctions" (81 : Nat) (4620870244398284740 : UInt64)) ∈ lw_all := lw_g (lw_at lw_m1 214 rfl) rfl
theorem q227 : (Jvm.Cond.instanceMethod ({ cls := "BrewFunctions", name := "normal", desc := "(IJI)D" } : Jvm.MethodName)) ∈ lw_all := lw_g (lw_at lw_m1 216 rfl) rfl
theorem q228 : (Jvm.Cond.selects "BrewFunctions" ({ cls := "BrewFunctions", name := "normal", desc := "(IJI)D" } : Jvm.MethodName) ({ cls := "BrewFunctions", name := "normal", desc := "(IJI)D" } : Jvm.MethodName)) ∈ lw_all := lw_g (lw_at lw_m1 217 rfl) rfl
theorem q229 : (Jvm.Cond.code ({ cls := "BrewFunctions", name := "normal", desc := "(IJI)D" } : Jvm.MethodName) prog_1_method_13_code (10 : Nat) (Option.some Jvm.ClassFile.FieldType.double)) ∈ lw_all := lw_g (lw_at lw_m1 218 rfl) rfl
theorem q230 : (Jvm.Cond.constantLong "BrewFunctions" (83 : Nat) (-7046029254386353131 : Int64)) ∈ lw_all := lw_g (lw_at lw_m1 219 rfl) rfl
theorem q231 : (Jvm.Cond.constantLong "BrewFunctions" (85 : Nat) (-4658895280553007687 : Int64)) ∈ lw_all := lw_g (lw_at lw_m1 220 rfl) rfl
theorem q232 : (Jvm.Cond.constantLong "BrewFunctions" (87 : Nat) (-7723592293110705685 : Int64)) ∈ lw_all := lw_g (lw_at lw_m1 221 rfl) rfl
theorem q233 : (Jvm.Cond.constantLong "BrewFunctions" (89 : Nat) (6364136223846793005 : Int64)) ∈ lw_all := lw_g (lw_at lw_m1 222 rfl) rfl
theorem q234 : (Jvm.Cond.constantLong "BrewFunctions" (91 : Nat) (1442695040888963407 : Int64)) ∈ lw_all := lw_g (lw_at lw_m1 223 rfl) rfl
theorem q235 : (Jvm.Cond.constantDouble "BrewFunctions" (93 : Nat) (4368491638549381120 : UInt64)) ∈ lw_all := lw_g (lw_at lw_m1 224 rfl) rfl
theorem q236 : (Jvm.Cond.constantDouble "BrewFunctions" (95 : Nat) (4618441417868443648 : UInt64)) ∈ lw_all := lw_g (lw_at lw_m1 225 rfl) rfl
theorem q238 : (Jvm.Cond.instanceMethod ({ cls := "BrewFunctions", name := "bound", desc := "(ID)D" } : Jvm.MethodName)) ∈ lw_all := lw_g (lw_at lw_m1 227 rfl) rfl
theorem q239 : (Jvm.Cond.selects "BrewFunctions" ({ cls := "BrewFunctions", name := "bound", desc := "(ID)D" } : Jvm.MethodName) ({ cls := "BrewFunctions", name := "bound", desc := "(ID)D" } : Jvm.MethodName)) ∈ lw_all := lw_g (lw_at lw_m1 228 rfl) rfl
theorem q240 : (Jvm.Cond.code ({ cls := "BrewFunctions", name := "bound", desc := "(ID)D" } : Jvm.MethodName) prog_1_method_14_code (5 : Nat) (Option.some Jvm.ClassFile.FieldType.double)) ∈ lw_all := lw_g (lw_at lw_m1 229 rfl) rfl
theorem q241 : (Jvm.Cond.constantDouble "BrewFunctions" (97 : Nat) (13830554455654793216 : UInt64)) ∈ lw_all := lw_g (lw_at lw_m1 230 rfl) rfl
theorem q242 : (Jvm.Cond.methodLink "BrewFunctions" (99 : Nat) ({ cls := "BrewFunctions$Function", name := "boundOf", desc := "(D)D" } : Jvm.MethodName)) ∈ lw_all := lw_g (lw_at lw_m1 231 rfl) rfl
theorem q268 : (Jvm.Cond.instanceMethod ({ cls := "BrewFunctions", name := "code", desc := "()I" } : Jvm.MethodName)) ∈ lw_all := lw_g (lw_at lw_m2 17 rfl) rfl
theorem q269 : (Jvm.Cond.selects "BrewFunctions" ({ cls := "BrewFunctions", name := "code", desc := "()I" } : Jvm.MethodName) ({ cls := "BrewFunctions", name := "code", desc := "()I" } : Jvm.MethodName)) ∈ lw_all := lw_g (lw_at lw_m2 18 rfl) rfl
theorem q270 : (Jvm.Cond.code ({ cls := "BrewFunctions", name := "code", desc := "()I" } : Jvm.MethodName) prog_1_method_15_code (1 : Nat) (Option.some Jvm.ClassFile.FieldType.int)) ∈ lw_all := lw_g (lw_at lw_m2 19 rfl) rfl
theorem q272 : (Jvm.Cond.instanceMethod ({ cls := "BrewFunctions", name := "made", desc := "()I" } : Jvm.MethodName)) ∈ lw_all := lw_g (lw_at lw_m2 21 rfl) rfl
theorem q273 : (Jvm.Cond.selects "BrewFunctions" ({ cls := "BrewFunctions", name := "made", desc := "()I" } : Jvm.MethodName) ({ cls := "BrewFunctions", name := "made", desc := "()I" } : Jvm.MethodName)) ∈ lw_all := lw_g (lw_at lw_m2 22 rfl) rfl
theorem q274 : (Jvm.Cond.code ({ cls := "BrewFunctions", name := "made", desc := "()I" } : Jvm.MethodName) prog_1_method_16_code (1 : Nat) (Option.some Jvm.ClassFile.FieldType.int)) ∈ lw_all := lw_g (lw_at lw_m2 23 rfl) rfl
theorem q275 : (Jvm.Cond.methodLink "BrewFunctions" (102 : Nat) ({ cls := "BrewFunctions$Exponential", name := "isMade", desc := "()Z" } : Jvm.MethodName)) ∈ lw_all := lw_g (lw_at lw_m2 24 rfl) rfl
theorem q281 : (Jvm.Cond.methodLink "BrewFunctions" (106 : Nat) ({ cls := "BrewFunctions$Logarithm", name := "isMade", desc := "()Z" } : Jvm.MethodName)) ∈ lw_all := lw_g (lw_at lw_m2 30 rfl) rfl
theorem q284 : (Jvm.Cond.methodLink "BrewFunctions" (107 : Nat) ({ cls := "BrewFunctions$ErrorPart", name := "isMade", desc := "()Z" } : Jvm.MethodName)) ∈ lw_all := lw_g (lw_at lw_m2 33 rfl) rfl
theorem in_X1 : ∀ w ∈ wsX10, w ∈ lw_all := lw_in wsX10 [73, 75, 77, 79, 81, 83] (by decide +kernel) (by decide +kernel)
end
section
/-! BrewFunctionsModel -/
set_option maxRecDepth 100000
def RX7 : String := "BrewFunctionsModel"
def TX7 : u_T := fun k => match k with
  | 0 => ("BrewFunctionsModel", "seed", "J", true)
  | 1 => ("BrewFunctionsModel", "code", "I", false)
  | 2 => ("BrewFunctionsModel", "found", "I", false)
  | 3 => ("BrewFunctionsModel", "exponentials", "Z", false)
  | 4 => ("BrewFunctionsModel", "logarithms", "Z", false)
  | _ => ("BrewFunctionsModel", "errors", "Z", false)
def tyX7 : Nat → FieldType := fun k => match k with
  | 0 => .long
  | 1 => .int
  | 2 => .int
  | 3 => .boolean
  | 4 => .boolean
  | _ => .boolean
abbrev wsX70 : List Cond := u_ws RX7 TX7 6
theorem nmX7 : ∀ a, a < 6 → ∀ b, b < 6 → a ≠ b → (TX7 a).2.1 ≠ (TX7 b).2.1 := by decide +kernel
theorem tyX7_ok : ∀ k, k < 6 → parseFieldDescriptor (TX7 k).2.2.1 = some (tyX7 k) := by decide +kernel
abbrev cX7_init : ByteArray := prog_8_method_1_code
def yX7_init : MethodName := ⟨RX7, "<init>", "(J)V"⟩
theorem dX7_init_0 : decode cX7_init 0 = .ok (.aload_n 0, 1) := by decide +kernel
theorem dX7_init_1 : decode cX7_init 1 = .ok (.invokespecial 1, 3) := by decide +kernel
theorem dX7_init_4 : decode cX7_init 4 = .ok (.aload_n 0, 1) := by decide +kernel
theorem dX7_init_5 : decode cX7_init 5 = .ok (.lload_n 1, 1) := by decide +kernel
theorem dX7_init_6 : decode cX7_init 6 = .ok (.putfield 7, 3) := by decide +kernel
theorem dX7_init_9 : decode cX7_init 9 = .ok (.return_, 1) := by decide +kernel
abbrev cX7_exponential : ByteArray := prog_8_method_10_code
def yX7_exponential : MethodName := ⟨RX7, "exponential", "(D)D"⟩
theorem dX7_exponential_0 : decode cX7_exponential 0 = .ok (.dload_n 1, 1) := by decide +kernel
theorem dX7_exponential_1 : decode cX7_exponential 1 = .ok (.invokestatic 73, 3) := by decide +kernel
theorem dX7_exponential_4 : decode cX7_exponential 4 = .ok (.istore_n 3, 1) := by decide +kernel
theorem dX7_exponential_5 : decode cX7_exponential 5 = .ok (.aload_n 0, 1) := by decide +kernel
theorem dX7_exponential_6 : decode cX7_exponential 6 = .ok (.iload_n 3, 1) := by decide +kernel
theorem dX7_exponential_7 : decode cX7_exponential 7 = .ok (.iload_n 3, 1) := by decide +kernel
theorem dX7_exponential_8 : decode cX7_exponential 8 = .ok (.ifCond .eq 11, 3) := by decide +kernel
theorem dX7_exponential_11 : decode cX7_exponential 11 = .ok (.aload_n 0, 1) := by decide +kernel
theorem dX7_exponential_12 : decode cX7_exponential 12 = .ok (.dload_n 1, 1) := by decide +kernel
theorem dX7_exponential_13 : decode cX7_exponential 13 = .ok (.invokevirtual 52, 3) := by decide +kernel
theorem dX7_exponential_16 : decode cX7_exponential 16 = .ok (.goto 4, 3) := by decide +kernel
theorem dX7_exponential_19 : decode cX7_exponential 19 = .ok (.dconst 0, 1) := by decide +kernel
theorem dX7_exponential_20 : decode cX7_exponential 20 = .ok (.invokevirtual 77, 3) := by decide +kernel
theorem dX7_exponential_23 : decode cX7_exponential 23 = .ok (.dreturn, 1) := by decide +kernel
abbrev cX7_isNumber : ByteArray := prog_8_method_2_code
def yX7_isNumber : MethodName := ⟨RX7, "isNumber", "(D)Z"⟩
theorem dX7_isNumber_0 : decode cX7_isNumber 0 = .ok (.dload_n 0, 1) := by decide +kernel
theorem dX7_isNumber_1 : decode cX7_isNumber 1 = .ok (.ldc2_w 13, 3) := by decide +kernel
theorem dX7_isNumber_4 : decode cX7_isNumber 4 = .ok (.dcmp .l, 1) := by decide +kernel
theorem dX7_isNumber_5 : decode cX7_isNumber 5 = .ok (.ifCond .lt 15, 3) := by decide +kernel
theorem dX7_isNumber_8 : decode cX7_isNumber 8 = .ok (.dload_n 0, 1) := by decide +kernel
theorem dX7_isNumber_9 : decode cX7_isNumber 9 = .ok (.ldc2_w 15, 3) := by decide +kernel
theorem dX7_isNumber_12 : decode cX7_isNumber 12 = .ok (.dcmp .g, 1) := by decide +kernel
theorem dX7_isNumber_13 : decode cX7_isNumber 13 = .ok (.ifCond .gt 7, 3) := by decide +kernel
theorem dX7_isNumber_16 : decode cX7_isNumber 16 = .ok (.iconst 1, 1) := by decide +kernel
theorem dX7_isNumber_17 : decode cX7_isNumber 17 = .ok (.goto 4, 3) := by decide +kernel
theorem dX7_isNumber_20 : decode cX7_isNumber 20 = .ok (.iconst 0, 1) := by decide +kernel
theorem dX7_isNumber_21 : decode cX7_isNumber 21 = .ok (.ireturn, 1) := by decide +kernel
abbrev cX7_exp : ByteArray := prog_8_method_4_code
def yX7_exp : MethodName := ⟨RX7, "exp", "(D)D"⟩
theorem dX7_exp_0 : decode cX7_exp 0 = .ok (.aload_n 0, 1) := by decide +kernel
theorem dX7_exp_1 : decode cX7_exp 1 = .ok (.iconst 0, 1) := by decide +kernel
theorem dX7_exp_2 : decode cX7_exp 2 = .ok (.putfield 17, 3) := by decide +kernel
theorem dX7_exp_5 : decode cX7_exp 5 = .ok (.dload_n 1, 1) := by decide +kernel
theorem dX7_exp_6 : decode cX7_exp 6 = .ok (.ldc2_w 21, 3) := by decide +kernel
theorem dX7_exp_9 : decode cX7_exp 9 = .ok (.dcmp .l, 1) := by decide +kernel
theorem dX7_exp_10 : decode cX7_exp 10 = .ok (.ifCond .le 9, 3) := by decide +kernel
theorem dX7_exp_13 : decode cX7_exp 13 = .ok (.aload_n 0, 1) := by decide +kernel
theorem dX7_exp_14 : decode cX7_exp 14 = .ok (.iconst 1, 1) := by decide +kernel
theorem dX7_exp_15 : decode cX7_exp 15 = .ok (.invokevirtual 23, 3) := by decide +kernel
theorem dX7_exp_18 : decode cX7_exp 18 = .ok (.dreturn, 1) := by decide +kernel
theorem dX7_exp_19 : decode cX7_exp 19 = .ok (.dload_n 1, 1) := by decide +kernel
theorem dX7_exp_20 : decode cX7_exp 20 = .ok (.ldc2_w 27, 3) := by decide +kernel
theorem dX7_exp_23 : decode cX7_exp 23 = .ok (.dcmp .g, 1) := by decide +kernel
theorem dX7_exp_24 : decode cX7_exp 24 = .ok (.ifCond .ge 5, 3) := by decide +kernel
theorem dX7_exp_27 : decode cX7_exp 27 = .ok (.dconst 0, 1) := by decide +kernel
theorem dX7_exp_28 : decode cX7_exp 28 = .ok (.dreturn, 1) := by decide +kernel
theorem dX7_exp_29 : decode cX7_exp 29 = .ok (.aload_n 0, 1) := by decide +kernel
theorem dX7_exp_30 : decode cX7_exp 30 = .ok (.iconst 1, 1) := by decide +kernel
theorem dX7_exp_31 : decode cX7_exp 31 = .ok (.putfield 29, 3) := by decide +kernel
theorem dX7_exp_34 : decode cX7_exp 34 = .ok (.dload_n 1, 1) := by decide +kernel
theorem dX7_exp_35 : decode cX7_exp 35 = .ok (.ldc2_w 33, 3) := by decide +kernel
theorem dX7_exp_38 : decode cX7_exp 38 = .ok (.dmul, 1) := by decide +kernel
theorem dX7_exp_39 : decode cX7_exp 39 = .ok (.ldc2_w 35, 3) := by decide +kernel
theorem dX7_exp_42 : decode cX7_exp 42 = .ok (.dadd, 1) := by decide +kernel
theorem dX7_exp_43 : decode cX7_exp 43 = .ok (.dstore_n 3, 1) := by decide +kernel
theorem dX7_exp_44 : decode cX7_exp 44 = .ok (.dload_n 3, 1) := by decide +kernel
theorem dX7_exp_45 : decode cX7_exp 45 = .ok (.d2i, 1) := by decide +kernel
theorem dX7_exp_46 : decode cX7_exp 46 = .ok (.istore 5, 2) := by decide +kernel
theorem dX7_exp_48 : decode cX7_exp 48 = .ok (.iload 5, 2) := by decide +kernel
theorem dX7_exp_50 : decode cX7_exp 50 = .ok (.iload 5, 2) := by decide +kernel
theorem dX7_exp_52 : decode cX7_exp 52 = .ok (.i2d, 1) := by decide +kernel
theorem dX7_exp_53 : decode cX7_exp 53 = .ok (.dload_n 3, 1) := by decide +kernel
theorem dX7_exp_54 : decode cX7_exp 54 = .ok (.dcmp .l, 1) := by decide +kernel
theorem dX7_exp_55 : decode cX7_exp 55 = .ok (.ifCond .le 7, 3) := by decide +kernel
theorem dX7_exp_58 : decode cX7_exp 58 = .ok (.iconst 1, 1) := by decide +kernel
theorem dX7_exp_59 : decode cX7_exp 59 = .ok (.goto 4, 3) := by decide +kernel
theorem dX7_exp_62 : decode cX7_exp 62 = .ok (.iconst 0, 1) := by decide +kernel
theorem dX7_exp_63 : decode cX7_exp 63 = .ok (.isub, 1) := by decide +kernel
theorem dX7_exp_64 : decode cX7_exp 64 = .ok (.istore 5, 2) := by decide +kernel
theorem dX7_exp_66 : decode cX7_exp 66 = .ok (.dload_n 1, 1) := by decide +kernel
theorem dX7_exp_67 : decode cX7_exp 67 = .ok (.iload 5, 2) := by decide +kernel
theorem dX7_exp_69 : decode cX7_exp 69 = .ok (.i2d, 1) := by decide +kernel
theorem dX7_exp_70 : decode cX7_exp 70 = .ok (.ldc2_w 37, 3) := by decide +kernel
theorem dX7_exp_73 : decode cX7_exp 73 = .ok (.dmul, 1) := by decide +kernel
theorem dX7_exp_74 : decode cX7_exp 74 = .ok (.dsub, 1) := by decide +kernel
theorem dX7_exp_75 : decode cX7_exp 75 = .ok (.dstore 6, 2) := by decide +kernel
theorem dX7_exp_77 : decode cX7_exp 77 = .ok (.dconst 1, 1) := by decide +kernel
theorem dX7_exp_78 : decode cX7_exp 78 = .ok (.dstore 8, 2) := by decide +kernel
theorem dX7_exp_80 : decode cX7_exp 80 = .ok (.bipush 14, 2) := by decide +kernel
theorem dX7_exp_82 : decode cX7_exp 82 = .ok (.istore 10, 2) := by decide +kernel
theorem dX7_exp_84 : decode cX7_exp 84 = .ok (.iload 10, 2) := by decide +kernel
theorem dX7_exp_86 : decode cX7_exp 86 = .ok (.iconst 1, 1) := by decide +kernel
theorem dX7_exp_87 : decode cX7_exp 87 = .ok (.if_icmp .lt 22, 3) := by decide +kernel
theorem dX7_exp_90 : decode cX7_exp 90 = .ok (.dconst 1, 1) := by decide +kernel
theorem dX7_exp_91 : decode cX7_exp 91 = .ok (.dload 6, 2) := by decide +kernel
theorem dX7_exp_93 : decode cX7_exp 93 = .ok (.iload 10, 2) := by decide +kernel
theorem dX7_exp_95 : decode cX7_exp 95 = .ok (.i2d, 1) := by decide +kernel
theorem dX7_exp_96 : decode cX7_exp 96 = .ok (.ddiv, 1) := by decide +kernel
theorem dX7_exp_97 : decode cX7_exp 97 = .ok (.dload 8, 2) := by decide +kernel
theorem dX7_exp_99 : decode cX7_exp 99 = .ok (.dmul, 1) := by decide +kernel
theorem dX7_exp_100 : decode cX7_exp 100 = .ok (.dadd, 1) := by decide +kernel
theorem dX7_exp_101 : decode cX7_exp 101 = .ok (.dstore 8, 2) := by decide +kernel
theorem dX7_exp_103 : decode cX7_exp 103 = .ok (.iinc 10 (-1), 3) := by decide +kernel
theorem dX7_exp_106 : decode cX7_exp 106 = .ok (.goto (-22), 3) := by decide +kernel
theorem dX7_exp_109 : decode cX7_exp 109 = .ok (.iconst 0, 1) := by decide +kernel
theorem dX7_exp_110 : decode cX7_exp 110 = .ok (.istore 10, 2) := by decide +kernel
theorem dX7_exp_112 : decode cX7_exp 112 = .ok (.iload 10, 2) := by decide +kernel
theorem dX7_exp_114 : decode cX7_exp 114 = .ok (.iload 5, 2) := by decide +kernel
theorem dX7_exp_116 : decode cX7_exp 116 = .ok (.if_icmp .ge 17, 3) := by decide +kernel
theorem dX7_exp_119 : decode cX7_exp 119 = .ok (.dload 8, 2) := by decide +kernel
theorem dX7_exp_121 : decode cX7_exp 121 = .ok (.ldc2_w 39, 3) := by decide +kernel
theorem dX7_exp_124 : decode cX7_exp 124 = .ok (.dmul, 1) := by decide +kernel
theorem dX7_exp_125 : decode cX7_exp 125 = .ok (.dstore 8, 2) := by decide +kernel
theorem dX7_exp_127 : decode cX7_exp 127 = .ok (.iinc 10 1, 3) := by decide +kernel
theorem dX7_exp_130 : decode cX7_exp 130 = .ok (.goto (-18), 3) := by decide +kernel
theorem dX7_exp_133 : decode cX7_exp 133 = .ok (.iconst 0, 1) := by decide +kernel
theorem dX7_exp_134 : decode cX7_exp 134 = .ok (.istore 10, 2) := by decide +kernel
theorem dX7_exp_136 : decode cX7_exp 136 = .ok (.iload 10, 2) := by decide +kernel
theorem dX7_exp_138 : decode cX7_exp 138 = .ok (.iload 5, 2) := by decide +kernel
theorem dX7_exp_140 : decode cX7_exp 140 = .ok (.if_icmp .le 17, 3) := by decide +kernel
theorem dX7_exp_143 : decode cX7_exp 143 = .ok (.dload 8, 2) := by decide +kernel
theorem dX7_exp_145 : decode cX7_exp 145 = .ok (.ldc2_w 35, 3) := by decide +kernel
theorem dX7_exp_148 : decode cX7_exp 148 = .ok (.dmul, 1) := by decide +kernel
theorem dX7_exp_149 : decode cX7_exp 149 = .ok (.dstore 8, 2) := by decide +kernel
theorem dX7_exp_151 : decode cX7_exp 151 = .ok (.iinc 10 (-1), 3) := by decide +kernel
theorem dX7_exp_154 : decode cX7_exp 154 = .ok (.goto (-18), 3) := by decide +kernel
theorem dX7_exp_157 : decode cX7_exp 157 = .ok (.dload 8, 2) := by decide +kernel
theorem dX7_exp_159 : decode cX7_exp 159 = .ok (.dreturn, 1) := by decide +kernel
abbrev cX7_none : ByteArray := prog_8_method_3_code
def yX7_none : MethodName := ⟨RX7, "none", "(I)D"⟩
theorem dX7_none_0 : decode cX7_none 0 = .ok (.aload_n 0, 1) := by decide +kernel
theorem dX7_none_1 : decode cX7_none 1 = .ok (.iload_n 1, 1) := by decide +kernel
theorem dX7_none_2 : decode cX7_none 2 = .ok (.putfield 17, 3) := by decide +kernel
theorem dX7_none_5 : decode cX7_none 5 = .ok (.dconst 0, 1) := by decide +kernel
theorem dX7_none_6 : decode cX7_none 6 = .ok (.dreturn, 1) := by decide +kernel
abbrev cX7_told : ByteArray := prog_8_method_9_code
def yX7_told : MethodName := ⟨RX7, "told", "(ZD)D"⟩
theorem dX7_told_0 : decode cX7_told 0 = .ok (.aload_n 0, 1) := by decide +kernel
theorem dX7_told_1 : decode cX7_told 1 = .ok (.iload_n 1, 1) := by decide +kernel
theorem dX7_told_2 : decode cX7_told 2 = .ok (.ifCond .eq 10, 3) := by decide +kernel
theorem dX7_told_5 : decode cX7_told 5 = .ok (.aload_n 0, 1) := by decide +kernel
theorem dX7_told_6 : decode cX7_told 6 = .ok (.getfield 17, 3) := by decide +kernel
theorem dX7_told_9 : decode cX7_told 9 = .ok (.goto 4, 3) := by decide +kernel
theorem dX7_told_12 : decode cX7_told 12 = .ok (.iconst 5, 1) := by decide +kernel
theorem dX7_told_13 : decode cX7_told 13 = .ok (.putfield 70, 3) := by decide +kernel
theorem dX7_told_16 : decode cX7_told 16 = .ok (.aload_n 0, 1) := by decide +kernel
theorem dX7_told_17 : decode cX7_told 17 = .ok (.getfield 70, 3) := by decide +kernel
theorem dX7_told_20 : decode cX7_told 20 = .ok (.ifCond .ne 7, 3) := by decide +kernel
theorem dX7_told_23 : decode cX7_told 23 = .ok (.dload_n 2, 1) := by decide +kernel
theorem dX7_told_24 : decode cX7_told 24 = .ok (.goto 4, 3) := by decide +kernel
theorem dX7_told_27 : decode cX7_told 27 = .ok (.dconst 0, 1) := by decide +kernel
theorem dX7_told_28 : decode cX7_told 28 = .ok (.dreturn, 1) := by decide +kernel
abbrev cX7_logarithm : ByteArray := prog_8_method_11_code
def yX7_logarithm : MethodName := ⟨RX7, "logarithm", "(D)D"⟩
theorem dX7_logarithm_0 : decode cX7_logarithm 0 = .ok (.dload_n 1, 1) := by decide +kernel
theorem dX7_logarithm_1 : decode cX7_logarithm 1 = .ok (.invokestatic 73, 3) := by decide +kernel
theorem dX7_logarithm_4 : decode cX7_logarithm 4 = .ok (.istore_n 3, 1) := by decide +kernel
theorem dX7_logarithm_5 : decode cX7_logarithm 5 = .ok (.aload_n 0, 1) := by decide +kernel
theorem dX7_logarithm_6 : decode cX7_logarithm 6 = .ok (.iload_n 3, 1) := by decide +kernel
theorem dX7_logarithm_7 : decode cX7_logarithm 7 = .ok (.iload_n 3, 1) := by decide +kernel
theorem dX7_logarithm_8 : decode cX7_logarithm 8 = .ok (.ifCond .eq 11, 3) := by decide +kernel
theorem dX7_logarithm_11 : decode cX7_logarithm 11 = .ok (.aload_n 0, 1) := by decide +kernel
theorem dX7_logarithm_12 : decode cX7_logarithm 12 = .ok (.dload_n 1, 1) := by decide +kernel
theorem dX7_logarithm_13 : decode cX7_logarithm 13 = .ok (.invokevirtual 48, 3) := by decide +kernel
theorem dX7_logarithm_16 : decode cX7_logarithm 16 = .ok (.goto 4, 3) := by decide +kernel
theorem dX7_logarithm_19 : decode cX7_logarithm 19 = .ok (.dconst 0, 1) := by decide +kernel
theorem dX7_logarithm_20 : decode cX7_logarithm 20 = .ok (.invokevirtual 77, 3) := by decide +kernel
theorem dX7_logarithm_23 : decode cX7_logarithm 23 = .ok (.dreturn, 1) := by decide +kernel
abbrev cX7_log : ByteArray := prog_8_method_5_code
def yX7_log : MethodName := ⟨RX7, "log", "(D)D"⟩
theorem dX7_log_0 : decode cX7_log 0 = .ok (.aload_n 0, 1) := by decide +kernel
theorem dX7_log_1 : decode cX7_log 1 = .ok (.iconst 0, 1) := by decide +kernel
theorem dX7_log_2 : decode cX7_log 2 = .ok (.putfield 17, 3) := by decide +kernel
theorem dX7_log_5 : decode cX7_log 5 = .ok (.dload_n 1, 1) := by decide +kernel
theorem dX7_log_6 : decode cX7_log 6 = .ok (.dconst 0, 1) := by decide +kernel
theorem dX7_log_7 : decode cX7_log 7 = .ok (.dcmp .g, 1) := by decide +kernel
theorem dX7_log_8 : decode cX7_log 8 = .ok (.ifCond .ge 9, 3) := by decide +kernel
theorem dX7_log_11 : decode cX7_log 11 = .ok (.aload_n 0, 1) := by decide +kernel
theorem dX7_log_12 : decode cX7_log 12 = .ok (.iconst 3, 1) := by decide +kernel
theorem dX7_log_13 : decode cX7_log 13 = .ok (.invokevirtual 23, 3) := by decide +kernel
theorem dX7_log_16 : decode cX7_log 16 = .ok (.dreturn, 1) := by decide +kernel
theorem dX7_log_17 : decode cX7_log 17 = .ok (.dload_n 1, 1) := by decide +kernel
theorem dX7_log_18 : decode cX7_log 18 = .ok (.dconst 0, 1) := by decide +kernel
theorem dX7_log_19 : decode cX7_log 19 = .ok (.dcmp .l, 1) := by decide +kernel
theorem dX7_log_20 : decode cX7_log 20 = .ok (.ifCond .ne 9, 3) := by decide +kernel
theorem dX7_log_23 : decode cX7_log 23 = .ok (.aload_n 0, 1) := by decide +kernel
theorem dX7_log_24 : decode cX7_log 24 = .ok (.iconst 2, 1) := by decide +kernel
theorem dX7_log_25 : decode cX7_log 25 = .ok (.invokevirtual 23, 3) := by decide +kernel
theorem dX7_log_28 : decode cX7_log 28 = .ok (.dreturn, 1) := by decide +kernel
theorem dX7_log_29 : decode cX7_log 29 = .ok (.aload_n 0, 1) := by decide +kernel
theorem dX7_log_30 : decode cX7_log 30 = .ok (.iconst 1, 1) := by decide +kernel
theorem dX7_log_31 : decode cX7_log 31 = .ok (.putfield 41, 3) := by decide +kernel
theorem dX7_log_34 : decode cX7_log 34 = .ok (.dload_n 1, 1) := by decide +kernel
theorem dX7_log_35 : decode cX7_log 35 = .ok (.dstore_n 3, 1) := by decide +kernel
theorem dX7_log_36 : decode cX7_log 36 = .ok (.iconst 0, 1) := by decide +kernel
theorem dX7_log_37 : decode cX7_log 37 = .ok (.istore 5, 2) := by decide +kernel
theorem dX7_log_39 : decode cX7_log 39 = .ok (.dload_n 3, 1) := by decide +kernel
theorem dX7_log_40 : decode cX7_log 40 = .ok (.ldc2_w 44, 3) := by decide +kernel
theorem dX7_log_43 : decode cX7_log 43 = .ok (.dcmp .l, 1) := by decide +kernel
theorem dX7_log_44 : decode cX7_log 44 = .ok (.ifCond .lt 15, 3) := by decide +kernel
theorem dX7_log_47 : decode cX7_log 47 = .ok (.dload_n 3, 1) := by decide +kernel
theorem dX7_log_48 : decode cX7_log 48 = .ok (.ldc2_w 35, 3) := by decide +kernel
theorem dX7_log_51 : decode cX7_log 51 = .ok (.dmul, 1) := by decide +kernel
theorem dX7_log_52 : decode cX7_log 52 = .ok (.dstore_n 3, 1) := by decide +kernel
theorem dX7_log_53 : decode cX7_log 53 = .ok (.iinc 5 1, 3) := by decide +kernel
theorem dX7_log_56 : decode cX7_log 56 = .ok (.goto (-17), 3) := by decide +kernel
theorem dX7_log_59 : decode cX7_log 59 = .ok (.dload_n 3, 1) := by decide +kernel
theorem dX7_log_60 : decode cX7_log 60 = .ok (.ldc2_w 46, 3) := by decide +kernel
theorem dX7_log_63 : decode cX7_log 63 = .ok (.dcmp .g, 1) := by decide +kernel
theorem dX7_log_64 : decode cX7_log 64 = .ok (.ifCond .ge 15, 3) := by decide +kernel
theorem dX7_log_67 : decode cX7_log 67 = .ok (.dload_n 3, 1) := by decide +kernel
theorem dX7_log_68 : decode cX7_log 68 = .ok (.ldc2_w 39, 3) := by decide +kernel
theorem dX7_log_71 : decode cX7_log 71 = .ok (.dmul, 1) := by decide +kernel
theorem dX7_log_72 : decode cX7_log 72 = .ok (.dstore_n 3, 1) := by decide +kernel
theorem dX7_log_73 : decode cX7_log 73 = .ok (.iinc 5 (-1), 3) := by decide +kernel
theorem dX7_log_76 : decode cX7_log 76 = .ok (.goto (-17), 3) := by decide +kernel
theorem dX7_log_79 : decode cX7_log 79 = .ok (.dload_n 3, 1) := by decide +kernel
theorem dX7_log_80 : decode cX7_log 80 = .ok (.dconst 1, 1) := by decide +kernel
theorem dX7_log_81 : decode cX7_log 81 = .ok (.dsub, 1) := by decide +kernel
theorem dX7_log_82 : decode cX7_log 82 = .ok (.dload_n 3, 1) := by decide +kernel
theorem dX7_log_83 : decode cX7_log 83 = .ok (.dconst 1, 1) := by decide +kernel
theorem dX7_log_84 : decode cX7_log 84 = .ok (.dadd, 1) := by decide +kernel
theorem dX7_log_85 : decode cX7_log 85 = .ok (.ddiv, 1) := by decide +kernel
theorem dX7_log_86 : decode cX7_log 86 = .ok (.dstore 6, 2) := by decide +kernel
theorem dX7_log_88 : decode cX7_log 88 = .ok (.dload 6, 2) := by decide +kernel
theorem dX7_log_90 : decode cX7_log 90 = .ok (.dload 6, 2) := by decide +kernel
theorem dX7_log_92 : decode cX7_log 92 = .ok (.dmul, 1) := by decide +kernel
theorem dX7_log_93 : decode cX7_log 93 = .ok (.dstore 8, 2) := by decide +kernel
theorem dX7_log_95 : decode cX7_log 95 = .ok (.dconst 0, 1) := by decide +kernel
theorem dX7_log_96 : decode cX7_log 96 = .ok (.dstore 10, 2) := by decide +kernel
theorem dX7_log_98 : decode cX7_log 98 = .ok (.bipush 27, 2) := by decide +kernel
theorem dX7_log_100 : decode cX7_log 100 = .ok (.istore 12, 2) := by decide +kernel
theorem dX7_log_102 : decode cX7_log 102 = .ok (.iload 12, 2) := by decide +kernel
theorem dX7_log_104 : decode cX7_log 104 = .ok (.iconst 1, 1) := by decide +kernel
theorem dX7_log_105 : decode cX7_log 105 = .ok (.if_icmp .lt 22, 3) := by decide +kernel
theorem dX7_log_108 : decode cX7_log 108 = .ok (.dconst 1, 1) := by decide +kernel
theorem dX7_log_109 : decode cX7_log 109 = .ok (.iload 12, 2) := by decide +kernel
theorem dX7_log_111 : decode cX7_log 111 = .ok (.i2d, 1) := by decide +kernel
theorem dX7_log_112 : decode cX7_log 112 = .ok (.ddiv, 1) := by decide +kernel
theorem dX7_log_113 : decode cX7_log 113 = .ok (.dload 8, 2) := by decide +kernel
theorem dX7_log_115 : decode cX7_log 115 = .ok (.dload 10, 2) := by decide +kernel
theorem dX7_log_117 : decode cX7_log 117 = .ok (.dmul, 1) := by decide +kernel
theorem dX7_log_118 : decode cX7_log 118 = .ok (.dadd, 1) := by decide +kernel
theorem dX7_log_119 : decode cX7_log 119 = .ok (.dstore 10, 2) := by decide +kernel
theorem dX7_log_121 : decode cX7_log 121 = .ok (.iinc 12 (-2), 3) := by decide +kernel
theorem dX7_log_124 : decode cX7_log 124 = .ok (.goto (-22), 3) := by decide +kernel
theorem dX7_log_127 : decode cX7_log 127 = .ok (.ldc2_w 39, 3) := by decide +kernel
theorem dX7_log_130 : decode cX7_log 130 = .ok (.dload 6, 2) := by decide +kernel
theorem dX7_log_132 : decode cX7_log 132 = .ok (.dmul, 1) := by decide +kernel
theorem dX7_log_133 : decode cX7_log 133 = .ok (.dload 10, 2) := by decide +kernel
theorem dX7_log_135 : decode cX7_log 135 = .ok (.dmul, 1) := by decide +kernel
theorem dX7_log_136 : decode cX7_log 136 = .ok (.iload 5, 2) := by decide +kernel
theorem dX7_log_138 : decode cX7_log 138 = .ok (.i2d, 1) := by decide +kernel
theorem dX7_log_139 : decode cX7_log 139 = .ok (.ldc2_w 37, 3) := by decide +kernel
theorem dX7_log_142 : decode cX7_log 142 = .ok (.dmul, 1) := by decide +kernel
theorem dX7_log_143 : decode cX7_log 143 = .ok (.dadd, 1) := by decide +kernel
theorem dX7_log_144 : decode cX7_log 144 = .ok (.dreturn, 1) := by decide +kernel
abbrev cX7_power : ByteArray := prog_8_method_12_code
def yX7_power : MethodName := ⟨RX7, "power", "(DD)D"⟩
theorem dX7_power_0 : decode cX7_power 0 = .ok (.dload_n 1, 1) := by decide +kernel
theorem dX7_power_1 : decode cX7_power 1 = .ok (.invokestatic 73, 3) := by decide +kernel
theorem dX7_power_4 : decode cX7_power 4 = .ok (.ifCond .eq 14, 3) := by decide +kernel
theorem dX7_power_7 : decode cX7_power 7 = .ok (.dload_n 3, 1) := by decide +kernel
theorem dX7_power_8 : decode cX7_power 8 = .ok (.invokestatic 73, 3) := by decide +kernel
theorem dX7_power_11 : decode cX7_power 11 = .ok (.ifCond .eq 7, 3) := by decide +kernel
theorem dX7_power_14 : decode cX7_power 14 = .ok (.iconst 1, 1) := by decide +kernel
theorem dX7_power_15 : decode cX7_power 15 = .ok (.goto 4, 3) := by decide +kernel
theorem dX7_power_18 : decode cX7_power 18 = .ok (.iconst 0, 1) := by decide +kernel
theorem dX7_power_19 : decode cX7_power 19 = .ok (.istore 5, 2) := by decide +kernel
theorem dX7_power_21 : decode cX7_power 21 = .ok (.aload_n 0, 1) := by decide +kernel
theorem dX7_power_22 : decode cX7_power 22 = .ok (.iload 5, 2) := by decide +kernel
theorem dX7_power_24 : decode cX7_power 24 = .ok (.iload 5, 2) := by decide +kernel
theorem dX7_power_26 : decode cX7_power 26 = .ok (.ifCond .eq 12, 3) := by decide +kernel
theorem dX7_power_29 : decode cX7_power 29 = .ok (.aload_n 0, 1) := by decide +kernel
theorem dX7_power_30 : decode cX7_power 30 = .ok (.dload_n 1, 1) := by decide +kernel
theorem dX7_power_31 : decode cX7_power 31 = .ok (.dload_n 3, 1) := by decide +kernel
theorem dX7_power_32 : decode cX7_power 32 = .ok (.invokevirtual 81, 3) := by decide +kernel
theorem dX7_power_35 : decode cX7_power 35 = .ok (.goto 4, 3) := by decide +kernel
theorem dX7_power_38 : decode cX7_power 38 = .ok (.dconst 0, 1) := by decide +kernel
theorem dX7_power_39 : decode cX7_power 39 = .ok (.invokevirtual 77, 3) := by decide +kernel
theorem dX7_power_42 : decode cX7_power 42 = .ok (.dreturn, 1) := by decide +kernel
abbrev cX7_pow : ByteArray := prog_8_method_6_code
def yX7_pow : MethodName := ⟨RX7, "pow", "(DD)D"⟩
theorem dX7_pow_0 : decode cX7_pow 0 = .ok (.aload_n 0, 1) := by decide +kernel
theorem dX7_pow_1 : decode cX7_pow 1 = .ok (.iconst 0, 1) := by decide +kernel
theorem dX7_pow_2 : decode cX7_pow 2 = .ok (.putfield 17, 3) := by decide +kernel
theorem dX7_pow_5 : decode cX7_pow 5 = .ok (.dload_n 1, 1) := by decide +kernel
theorem dX7_pow_6 : decode cX7_pow 6 = .ok (.dconst 0, 1) := by decide +kernel
theorem dX7_pow_7 : decode cX7_pow 7 = .ok (.dcmp .g, 1) := by decide +kernel
theorem dX7_pow_8 : decode cX7_pow 8 = .ok (.ifCond .ge 9, 3) := by decide +kernel
theorem dX7_pow_11 : decode cX7_pow 11 = .ok (.aload_n 0, 1) := by decide +kernel
theorem dX7_pow_12 : decode cX7_pow 12 = .ok (.iconst 3, 1) := by decide +kernel
theorem dX7_pow_13 : decode cX7_pow 13 = .ok (.invokevirtual 23, 3) := by decide +kernel
theorem dX7_pow_16 : decode cX7_pow 16 = .ok (.dreturn, 1) := by decide +kernel
theorem dX7_pow_17 : decode cX7_pow 17 = .ok (.dload_n 1, 1) := by decide +kernel
theorem dX7_pow_18 : decode cX7_pow 18 = .ok (.dconst 0, 1) := by decide +kernel
theorem dX7_pow_19 : decode cX7_pow 19 = .ok (.dcmp .l, 1) := by decide +kernel
theorem dX7_pow_20 : decode cX7_pow 20 = .ok (.ifCond .ne 29, 3) := by decide +kernel
theorem dX7_pow_23 : decode cX7_pow 23 = .ok (.dload_n 3, 1) := by decide +kernel
theorem dX7_pow_24 : decode cX7_pow 24 = .ok (.dconst 0, 1) := by decide +kernel
theorem dX7_pow_25 : decode cX7_pow 25 = .ok (.dcmp .l, 1) := by decide +kernel
theorem dX7_pow_26 : decode cX7_pow 26 = .ok (.ifCond .ne 7, 3) := by decide +kernel
theorem dX7_pow_29 : decode cX7_pow 29 = .ok (.dconst 1, 1) := by decide +kernel
theorem dX7_pow_30 : decode cX7_pow 30 = .ok (.goto 18, 3) := by decide +kernel
theorem dX7_pow_33 : decode cX7_pow 33 = .ok (.dload_n 3, 1) := by decide +kernel
theorem dX7_pow_34 : decode cX7_pow 34 = .ok (.dconst 0, 1) := by decide +kernel
theorem dX7_pow_35 : decode cX7_pow 35 = .ok (.dcmp .l, 1) := by decide +kernel
theorem dX7_pow_36 : decode cX7_pow 36 = .ok (.ifCond .le 7, 3) := by decide +kernel
theorem dX7_pow_39 : decode cX7_pow 39 = .ok (.dconst 0, 1) := by decide +kernel
theorem dX7_pow_40 : decode cX7_pow 40 = .ok (.goto 8, 3) := by decide +kernel
theorem dX7_pow_43 : decode cX7_pow 43 = .ok (.aload_n 0, 1) := by decide +kernel
theorem dX7_pow_44 : decode cX7_pow 44 = .ok (.iconst 2, 1) := by decide +kernel
theorem dX7_pow_45 : decode cX7_pow 45 = .ok (.invokevirtual 23, 3) := by decide +kernel
theorem dX7_pow_48 : decode cX7_pow 48 = .ok (.dreturn, 1) := by decide +kernel
theorem dX7_pow_49 : decode cX7_pow 49 = .ok (.aload_n 0, 1) := by decide +kernel
theorem dX7_pow_50 : decode cX7_pow 50 = .ok (.dload_n 3, 1) := by decide +kernel
theorem dX7_pow_51 : decode cX7_pow 51 = .ok (.aload_n 0, 1) := by decide +kernel
theorem dX7_pow_52 : decode cX7_pow 52 = .ok (.dload_n 1, 1) := by decide +kernel
theorem dX7_pow_53 : decode cX7_pow 53 = .ok (.invokevirtual 48, 3) := by decide +kernel
theorem dX7_pow_56 : decode cX7_pow 56 = .ok (.dmul, 1) := by decide +kernel
theorem dX7_pow_57 : decode cX7_pow 57 = .ok (.invokevirtual 52, 3) := by decide +kernel
theorem dX7_pow_60 : decode cX7_pow 60 = .ok (.dreturn, 1) := by decide +kernel
abbrev cX7_root : ByteArray := prog_8_method_13_code
def yX7_root : MethodName := ⟨RX7, "root", "(D)D"⟩
theorem dX7_root_0 : decode cX7_root 0 = .ok (.dload_n 1, 1) := by decide +kernel
theorem dX7_root_1 : decode cX7_root 1 = .ok (.invokestatic 73, 3) := by decide +kernel
theorem dX7_root_4 : decode cX7_root 4 = .ok (.istore_n 3, 1) := by decide +kernel
theorem dX7_root_5 : decode cX7_root 5 = .ok (.aload_n 0, 1) := by decide +kernel
theorem dX7_root_6 : decode cX7_root 6 = .ok (.iload_n 3, 1) := by decide +kernel
theorem dX7_root_7 : decode cX7_root 7 = .ok (.iload_n 3, 1) := by decide +kernel
theorem dX7_root_8 : decode cX7_root 8 = .ok (.ifCond .eq 11, 3) := by decide +kernel
theorem dX7_root_11 : decode cX7_root 11 = .ok (.aload_n 0, 1) := by decide +kernel
theorem dX7_root_12 : decode cX7_root 12 = .ok (.dload_n 1, 1) := by decide +kernel
theorem dX7_root_13 : decode cX7_root 13 = .ok (.invokevirtual 85, 3) := by decide +kernel
theorem dX7_root_16 : decode cX7_root 16 = .ok (.goto 4, 3) := by decide +kernel
theorem dX7_root_19 : decode cX7_root 19 = .ok (.dconst 0, 1) := by decide +kernel
theorem dX7_root_20 : decode cX7_root 20 = .ok (.invokevirtual 77, 3) := by decide +kernel
theorem dX7_root_23 : decode cX7_root 23 = .ok (.dreturn, 1) := by decide +kernel
abbrev cX7_sqrt : ByteArray := prog_8_method_7_code
def yX7_sqrt : MethodName := ⟨RX7, "sqrt", "(D)D"⟩
theorem dX7_sqrt_0 : decode cX7_sqrt 0 = .ok (.aload_n 0, 1) := by decide +kernel
theorem dX7_sqrt_1 : decode cX7_sqrt 1 = .ok (.iconst 0, 1) := by decide +kernel
theorem dX7_sqrt_2 : decode cX7_sqrt 2 = .ok (.putfield 17, 3) := by decide +kernel
theorem dX7_sqrt_5 : decode cX7_sqrt 5 = .ok (.dload_n 1, 1) := by decide +kernel
theorem dX7_sqrt_6 : decode cX7_sqrt 6 = .ok (.dconst 0, 1) := by decide +kernel
theorem dX7_sqrt_7 : decode cX7_sqrt 7 = .ok (.dcmp .g, 1) := by decide +kernel
theorem dX7_sqrt_8 : decode cX7_sqrt 8 = .ok (.ifCond .ge 9, 3) := by decide +kernel
theorem dX7_sqrt_11 : decode cX7_sqrt 11 = .ok (.aload_n 0, 1) := by decide +kernel
theorem dX7_sqrt_12 : decode cX7_sqrt 12 = .ok (.iconst 3, 1) := by decide +kernel
theorem dX7_sqrt_13 : decode cX7_sqrt 13 = .ok (.invokevirtual 23, 3) := by decide +kernel
theorem dX7_sqrt_16 : decode cX7_sqrt 16 = .ok (.dreturn, 1) := by decide +kernel
theorem dX7_sqrt_17 : decode cX7_sqrt 17 = .ok (.dload_n 1, 1) := by decide +kernel
theorem dX7_sqrt_18 : decode cX7_sqrt 18 = .ok (.dconst 0, 1) := by decide +kernel
theorem dX7_sqrt_19 : decode cX7_sqrt 19 = .ok (.dcmp .l, 1) := by decide +kernel
theorem dX7_sqrt_20 : decode cX7_sqrt 20 = .ok (.ifCond .ne 5, 3) := by decide +kernel
theorem dX7_sqrt_23 : decode cX7_sqrt 23 = .ok (.dconst 0, 1) := by decide +kernel
theorem dX7_sqrt_24 : decode cX7_sqrt 24 = .ok (.dreturn, 1) := by decide +kernel
theorem dX7_sqrt_25 : decode cX7_sqrt 25 = .ok (.dload_n 1, 1) := by decide +kernel
theorem dX7_sqrt_26 : decode cX7_sqrt 26 = .ok (.dstore_n 3, 1) := by decide +kernel
theorem dX7_sqrt_27 : decode cX7_sqrt 27 = .ok (.iconst 0, 1) := by decide +kernel
theorem dX7_sqrt_28 : decode cX7_sqrt 28 = .ok (.istore 5, 2) := by decide +kernel
theorem dX7_sqrt_30 : decode cX7_sqrt 30 = .ok (.dload_n 3, 1) := by decide +kernel
theorem dX7_sqrt_31 : decode cX7_sqrt 31 = .ok (.ldc2_w 55, 3) := by decide +kernel
theorem dX7_sqrt_34 : decode cX7_sqrt 34 = .ok (.dcmp .l, 1) := by decide +kernel
theorem dX7_sqrt_35 : decode cX7_sqrt 35 = .ok (.ifCond .lt 15, 3) := by decide +kernel
theorem dX7_sqrt_38 : decode cX7_sqrt 38 = .ok (.dload_n 3, 1) := by decide +kernel
theorem dX7_sqrt_39 : decode cX7_sqrt 39 = .ok (.ldc2_w 57, 3) := by decide +kernel
theorem dX7_sqrt_42 : decode cX7_sqrt 42 = .ok (.dmul, 1) := by decide +kernel
theorem dX7_sqrt_43 : decode cX7_sqrt 43 = .ok (.dstore_n 3, 1) := by decide +kernel
theorem dX7_sqrt_44 : decode cX7_sqrt 44 = .ok (.iinc 5 1, 3) := by decide +kernel
theorem dX7_sqrt_47 : decode cX7_sqrt 47 = .ok (.goto (-17), 3) := by decide +kernel
theorem dX7_sqrt_50 : decode cX7_sqrt 50 = .ok (.dload_n 3, 1) := by decide +kernel
theorem dX7_sqrt_51 : decode cX7_sqrt 51 = .ok (.dconst 1, 1) := by decide +kernel
theorem dX7_sqrt_52 : decode cX7_sqrt 52 = .ok (.dcmp .g, 1) := by decide +kernel
theorem dX7_sqrt_53 : decode cX7_sqrt 53 = .ok (.ifCond .ge 15, 3) := by decide +kernel
theorem dX7_sqrt_56 : decode cX7_sqrt 56 = .ok (.dload_n 3, 1) := by decide +kernel
theorem dX7_sqrt_57 : decode cX7_sqrt 57 = .ok (.ldc2_w 55, 3) := by decide +kernel
theorem dX7_sqrt_60 : decode cX7_sqrt 60 = .ok (.dmul, 1) := by decide +kernel
theorem dX7_sqrt_61 : decode cX7_sqrt 61 = .ok (.dstore_n 3, 1) := by decide +kernel
theorem dX7_sqrt_62 : decode cX7_sqrt 62 = .ok (.iinc 5 (-1), 3) := by decide +kernel
theorem dX7_sqrt_65 : decode cX7_sqrt 65 = .ok (.goto (-15), 3) := by decide +kernel
theorem dX7_sqrt_68 : decode cX7_sqrt 68 = .ok (.dload_n 3, 1) := by decide +kernel
theorem dX7_sqrt_69 : decode cX7_sqrt 69 = .ok (.ldc2_w 35, 3) := by decide +kernel
theorem dX7_sqrt_72 : decode cX7_sqrt 72 = .ok (.dmul, 1) := by decide +kernel
theorem dX7_sqrt_73 : decode cX7_sqrt 73 = .ok (.ldc2_w 35, 3) := by decide +kernel
theorem dX7_sqrt_76 : decode cX7_sqrt 76 = .ok (.dadd, 1) := by decide +kernel
theorem dX7_sqrt_77 : decode cX7_sqrt 77 = .ok (.dstore 6, 2) := by decide +kernel
theorem dX7_sqrt_79 : decode cX7_sqrt 79 = .ok (.iconst 0, 1) := by decide +kernel
theorem dX7_sqrt_80 : decode cX7_sqrt 80 = .ok (.istore 8, 2) := by decide +kernel
theorem dX7_sqrt_82 : decode cX7_sqrt 82 = .ok (.iload 8, 2) := by decide +kernel
theorem dX7_sqrt_84 : decode cX7_sqrt 84 = .ok (.bipush 6, 2) := by decide +kernel
theorem dX7_sqrt_86 : decode cX7_sqrt 86 = .ok (.if_icmp .ge 22, 3) := by decide +kernel
theorem dX7_sqrt_89 : decode cX7_sqrt 89 = .ok (.dload 6, 2) := by decide +kernel
theorem dX7_sqrt_91 : decode cX7_sqrt 91 = .ok (.dload_n 3, 1) := by decide +kernel
theorem dX7_sqrt_92 : decode cX7_sqrt 92 = .ok (.dload 6, 2) := by decide +kernel
theorem dX7_sqrt_94 : decode cX7_sqrt 94 = .ok (.ddiv, 1) := by decide +kernel
theorem dX7_sqrt_95 : decode cX7_sqrt 95 = .ok (.dadd, 1) := by decide +kernel
theorem dX7_sqrt_96 : decode cX7_sqrt 96 = .ok (.ldc2_w 35, 3) := by decide +kernel
theorem dX7_sqrt_99 : decode cX7_sqrt 99 = .ok (.dmul, 1) := by decide +kernel
theorem dX7_sqrt_100 : decode cX7_sqrt 100 = .ok (.dstore 6, 2) := by decide +kernel
theorem dX7_sqrt_102 : decode cX7_sqrt 102 = .ok (.iinc 8 1, 3) := by decide +kernel
theorem dX7_sqrt_105 : decode cX7_sqrt 105 = .ok (.goto (-23), 3) := by decide +kernel
theorem dX7_sqrt_108 : decode cX7_sqrt 108 = .ok (.iconst 0, 1) := by decide +kernel
theorem dX7_sqrt_109 : decode cX7_sqrt 109 = .ok (.istore 8, 2) := by decide +kernel
theorem dX7_sqrt_111 : decode cX7_sqrt 111 = .ok (.iload 8, 2) := by decide +kernel
theorem dX7_sqrt_113 : decode cX7_sqrt 113 = .ok (.iload 5, 2) := by decide +kernel
theorem dX7_sqrt_115 : decode cX7_sqrt 115 = .ok (.if_icmp .ge 17, 3) := by decide +kernel
theorem dX7_sqrt_118 : decode cX7_sqrt 118 = .ok (.dload 6, 2) := by decide +kernel
theorem dX7_sqrt_120 : decode cX7_sqrt 120 = .ok (.ldc2_w 39, 3) := by decide +kernel
theorem dX7_sqrt_123 : decode cX7_sqrt 123 = .ok (.dmul, 1) := by decide +kernel
theorem dX7_sqrt_124 : decode cX7_sqrt 124 = .ok (.dstore 6, 2) := by decide +kernel
theorem dX7_sqrt_126 : decode cX7_sqrt 126 = .ok (.iinc 8 1, 3) := by decide +kernel
theorem dX7_sqrt_129 : decode cX7_sqrt 129 = .ok (.goto (-18), 3) := by decide +kernel
theorem dX7_sqrt_132 : decode cX7_sqrt 132 = .ok (.iconst 0, 1) := by decide +kernel
theorem dX7_sqrt_133 : decode cX7_sqrt 133 = .ok (.istore 8, 2) := by decide +kernel
theorem dX7_sqrt_135 : decode cX7_sqrt 135 = .ok (.iload 8, 2) := by decide +kernel
theorem dX7_sqrt_137 : decode cX7_sqrt 137 = .ok (.iload 5, 2) := by decide +kernel
theorem dX7_sqrt_139 : decode cX7_sqrt 139 = .ok (.if_icmp .le 17, 3) := by decide +kernel
theorem dX7_sqrt_142 : decode cX7_sqrt 142 = .ok (.dload 6, 2) := by decide +kernel
theorem dX7_sqrt_144 : decode cX7_sqrt 144 = .ok (.ldc2_w 35, 3) := by decide +kernel
theorem dX7_sqrt_147 : decode cX7_sqrt 147 = .ok (.dmul, 1) := by decide +kernel
theorem dX7_sqrt_148 : decode cX7_sqrt 148 = .ok (.dstore 6, 2) := by decide +kernel
theorem dX7_sqrt_150 : decode cX7_sqrt 150 = .ok (.iinc 8 (-1), 3) := by decide +kernel
theorem dX7_sqrt_153 : decode cX7_sqrt 153 = .ok (.goto (-18), 3) := by decide +kernel
theorem dX7_sqrt_156 : decode cX7_sqrt 156 = .ok (.dload 6, 2) := by decide +kernel
theorem dX7_sqrt_158 : decode cX7_sqrt 158 = .ok (.dreturn, 1) := by decide +kernel
abbrev cX7_errorPart : ByteArray := prog_8_method_14_code
def yX7_errorPart : MethodName := ⟨RX7, "errorPart", "(D)D"⟩
theorem dX7_errorPart_0 : decode cX7_errorPart 0 = .ok (.dload_n 1, 1) := by decide +kernel
theorem dX7_errorPart_1 : decode cX7_errorPart 1 = .ok (.invokestatic 73, 3) := by decide +kernel
theorem dX7_errorPart_4 : decode cX7_errorPart 4 = .ok (.istore_n 3, 1) := by decide +kernel
theorem dX7_errorPart_5 : decode cX7_errorPart 5 = .ok (.aload_n 0, 1) := by decide +kernel
theorem dX7_errorPart_6 : decode cX7_errorPart 6 = .ok (.iload_n 3, 1) := by decide +kernel
theorem dX7_errorPart_7 : decode cX7_errorPart 7 = .ok (.iload_n 3, 1) := by decide +kernel
theorem dX7_errorPart_8 : decode cX7_errorPart 8 = .ok (.ifCond .eq 11, 3) := by decide +kernel
theorem dX7_errorPart_11 : decode cX7_errorPart 11 = .ok (.aload_n 0, 1) := by decide +kernel
theorem dX7_errorPart_12 : decode cX7_errorPart 12 = .ok (.dload_n 1, 1) := by decide +kernel
theorem dX7_errorPart_13 : decode cX7_errorPart 13 = .ok (.invokevirtual 88, 3) := by decide +kernel
theorem dX7_errorPart_16 : decode cX7_errorPart 16 = .ok (.goto 4, 3) := by decide +kernel
theorem dX7_errorPart_19 : decode cX7_errorPart 19 = .ok (.dconst 0, 1) := by decide +kernel
theorem dX7_errorPart_20 : decode cX7_errorPart 20 = .ok (.invokevirtual 77, 3) := by decide +kernel
theorem dX7_errorPart_23 : decode cX7_errorPart 23 = .ok (.dreturn, 1) := by decide +kernel
end
section
set_option maxRecDepth 100000
abbrev cX7_erf : ByteArray := prog_8_method_8_code
def yX7_erf : MethodName := ⟨RX7, "erf", "(D)D"⟩
theorem dX7_erf_0 : decode cX7_erf 0 = .ok (.aload_n 0, 1) := by decide +kernel
theorem dX7_erf_1 : decode cX7_erf 1 = .ok (.iconst 0, 1) := by decide +kernel
theorem dX7_erf_2 : decode cX7_erf 2 = .ok (.putfield 17, 3) := by decide +kernel
theorem dX7_erf_5 : decode cX7_erf 5 = .ok (.dload_n 1, 1) := by decide +kernel
theorem dX7_erf_6 : decode cX7_erf 6 = .ok (.dconst 0, 1) := by decide +kernel
theorem dX7_erf_7 : decode cX7_erf 7 = .ok (.dcmp .g, 1) := by decide +kernel
theorem dX7_erf_8 : decode cX7_erf 8 = .ok (.ifCond .ge 8, 3) := by decide +kernel
theorem dX7_erf_11 : decode cX7_erf 11 = .ok (.dload_n 1, 1) := by decide +kernel
theorem dX7_erf_12 : decode cX7_erf 12 = .ok (.dneg, 1) := by decide +kernel
theorem dX7_erf_13 : decode cX7_erf 13 = .ok (.goto 4, 3) := by decide +kernel
theorem dX7_erf_16 : decode cX7_erf 16 = .ok (.dload_n 1, 1) := by decide +kernel
theorem dX7_erf_17 : decode cX7_erf 17 = .ok (.dstore_n 3, 1) := by decide +kernel
theorem dX7_erf_18 : decode cX7_erf 18 = .ok (.dconst 1, 1) := by decide +kernel
theorem dX7_erf_19 : decode cX7_erf 19 = .ok (.dstore 5, 2) := by decide +kernel
theorem dX7_erf_21 : decode cX7_erf 21 = .ok (.dload_n 3, 1) := by decide +kernel
theorem dX7_erf_22 : decode cX7_erf 22 = .ok (.ldc2_w 59, 3) := by decide +kernel
theorem dX7_erf_25 : decode cX7_erf 25 = .ok (.dcmp .g, 1) := by decide +kernel
theorem dX7_erf_26 : decode cX7_erf 26 = .ok (.ifCond .ge 73, 3) := by decide +kernel
theorem dX7_erf_29 : decode cX7_erf 29 = .ok (.aload_n 0, 1) := by decide +kernel
theorem dX7_erf_30 : decode cX7_erf 30 = .ok (.iconst 1, 1) := by decide +kernel
theorem dX7_erf_31 : decode cX7_erf 31 = .ok (.putfield 61, 3) := by decide +kernel
theorem dX7_erf_34 : decode cX7_erf 34 = .ok (.dload_n 3, 1) := by decide +kernel
theorem dX7_erf_35 : decode cX7_erf 35 = .ok (.dload_n 3, 1) := by decide +kernel
theorem dX7_erf_36 : decode cX7_erf 36 = .ok (.dmul, 1) := by decide +kernel
theorem dX7_erf_37 : decode cX7_erf 37 = .ok (.dstore 7, 2) := by decide +kernel
theorem dX7_erf_39 : decode cX7_erf 39 = .ok (.dload_n 3, 1) := by decide +kernel
theorem dX7_erf_40 : decode cX7_erf 40 = .ok (.dstore 9, 2) := by decide +kernel
theorem dX7_erf_42 : decode cX7_erf 42 = .ok (.dload_n 3, 1) := by decide +kernel
theorem dX7_erf_43 : decode cX7_erf 43 = .ok (.dstore 11, 2) := by decide +kernel
theorem dX7_erf_45 : decode cX7_erf 45 = .ok (.iconst 1, 1) := by decide +kernel
theorem dX7_erf_46 : decode cX7_erf 46 = .ok (.istore 13, 2) := by decide +kernel
theorem dX7_erf_48 : decode cX7_erf 48 = .ok (.iload 13, 2) := by decide +kernel
theorem dX7_erf_50 : decode cX7_erf 50 = .ok (.bipush 60, 2) := by decide +kernel
theorem dX7_erf_52 : decode cX7_erf 52 = .ok (.if_icmp .gt 36, 3) := by decide +kernel
theorem dX7_erf_55 : decode cX7_erf 55 = .ok (.dload 9, 2) := by decide +kernel
theorem dX7_erf_57 : decode cX7_erf 57 = .ok (.dneg, 1) := by decide +kernel
theorem dX7_erf_58 : decode cX7_erf 58 = .ok (.dload 7, 2) := by decide +kernel
theorem dX7_erf_60 : decode cX7_erf 60 = .ok (.dmul, 1) := by decide +kernel
theorem dX7_erf_61 : decode cX7_erf 61 = .ok (.iload 13, 2) := by decide +kernel
theorem dX7_erf_63 : decode cX7_erf 63 = .ok (.i2d, 1) := by decide +kernel
theorem dX7_erf_64 : decode cX7_erf 64 = .ok (.ddiv, 1) := by decide +kernel
theorem dX7_erf_65 : decode cX7_erf 65 = .ok (.dstore 9, 2) := by decide +kernel
theorem dX7_erf_67 : decode cX7_erf 67 = .ok (.dload 11, 2) := by decide +kernel
theorem dX7_erf_69 : decode cX7_erf 69 = .ok (.dload 9, 2) := by decide +kernel
theorem dX7_erf_71 : decode cX7_erf 71 = .ok (.iconst 2, 1) := by decide +kernel
theorem dX7_erf_72 : decode cX7_erf 72 = .ok (.iload 13, 2) := by decide +kernel
theorem dX7_erf_74 : decode cX7_erf 74 = .ok (.imul, 1) := by decide +kernel
theorem dX7_erf_75 : decode cX7_erf 75 = .ok (.iconst 1, 1) := by decide +kernel
theorem dX7_erf_76 : decode cX7_erf 76 = .ok (.iadd, 1) := by decide +kernel
theorem dX7_erf_77 : decode cX7_erf 77 = .ok (.i2d, 1) := by decide +kernel
theorem dX7_erf_78 : decode cX7_erf 78 = .ok (.ddiv, 1) := by decide +kernel
theorem dX7_erf_79 : decode cX7_erf 79 = .ok (.dadd, 1) := by decide +kernel
theorem dX7_erf_80 : decode cX7_erf 80 = .ok (.dstore 11, 2) := by decide +kernel
theorem dX7_erf_82 : decode cX7_erf 82 = .ok (.iinc 13 1, 3) := by decide +kernel
theorem dX7_erf_85 : decode cX7_erf 85 = .ok (.goto (-37), 3) := by decide +kernel
theorem dX7_erf_88 : decode cX7_erf 88 = .ok (.dload 11, 2) := by decide +kernel
theorem dX7_erf_90 : decode cX7_erf 90 = .ok (.ldc2_w 64, 3) := by decide +kernel
theorem dX7_erf_93 : decode cX7_erf 93 = .ok (.dmul, 1) := by decide +kernel
theorem dX7_erf_94 : decode cX7_erf 94 = .ok (.dstore 5, 2) := by decide +kernel
theorem dX7_erf_96 : decode cX7_erf 96 = .ok (.goto 65, 3) := by decide +kernel
theorem dX7_erf_99 : decode cX7_erf 99 = .ok (.dload_n 3, 1) := by decide +kernel
theorem dX7_erf_100 : decode cX7_erf 100 = .ok (.ldc2_w 66, 3) := by decide +kernel
theorem dX7_erf_103 : decode cX7_erf 103 = .ok (.dcmp .g, 1) := by decide +kernel
theorem dX7_erf_104 : decode cX7_erf 104 = .ok (.ifCond .ge 57, 3) := by decide +kernel
theorem dX7_erf_107 : decode cX7_erf 107 = .ok (.dconst 0, 1) := by decide +kernel
theorem dX7_erf_108 : decode cX7_erf 108 = .ok (.dstore 7, 2) := by decide +kernel
theorem dX7_erf_110 : decode cX7_erf 110 = .ok (.bipush 40, 2) := by decide +kernel
theorem dX7_erf_112 : decode cX7_erf 112 = .ok (.istore 9, 2) := by decide +kernel
theorem dX7_erf_114 : decode cX7_erf 114 = .ok (.iload 9, 2) := by decide +kernel
theorem dX7_erf_116 : decode cX7_erf 116 = .ok (.iconst 1, 1) := by decide +kernel
theorem dX7_erf_117 : decode cX7_erf 117 = .ok (.if_icmp .lt 23, 3) := by decide +kernel
theorem dX7_erf_120 : decode cX7_erf 120 = .ok (.iload 9, 2) := by decide +kernel
theorem dX7_erf_122 : decode cX7_erf 122 = .ok (.i2d, 1) := by decide +kernel
theorem dX7_erf_123 : decode cX7_erf 123 = .ok (.ldc2_w 35, 3) := by decide +kernel
theorem dX7_erf_126 : decode cX7_erf 126 = .ok (.dmul, 1) := by decide +kernel
theorem dX7_erf_127 : decode cX7_erf 127 = .ok (.dload_n 3, 1) := by decide +kernel
theorem dX7_erf_128 : decode cX7_erf 128 = .ok (.dload 7, 2) := by decide +kernel
theorem dX7_erf_130 : decode cX7_erf 130 = .ok (.dadd, 1) := by decide +kernel
theorem dX7_erf_131 : decode cX7_erf 131 = .ok (.ddiv, 1) := by decide +kernel
theorem dX7_erf_132 : decode cX7_erf 132 = .ok (.dstore 7, 2) := by decide +kernel
theorem dX7_erf_134 : decode cX7_erf 134 = .ok (.iinc 9 (-1), 3) := by decide +kernel
theorem dX7_erf_137 : decode cX7_erf 137 = .ok (.goto (-23), 3) := by decide +kernel
theorem dX7_erf_140 : decode cX7_erf 140 = .ok (.dconst 1, 1) := by decide +kernel
theorem dX7_erf_141 : decode cX7_erf 141 = .ok (.aload_n 0, 1) := by decide +kernel
theorem dX7_erf_142 : decode cX7_erf 142 = .ok (.dload_n 3, 1) := by decide +kernel
theorem dX7_erf_143 : decode cX7_erf 143 = .ok (.dneg, 1) := by decide +kernel
theorem dX7_erf_144 : decode cX7_erf 144 = .ok (.dload_n 3, 1) := by decide +kernel
theorem dX7_erf_145 : decode cX7_erf 145 = .ok (.dmul, 1) := by decide +kernel
theorem dX7_erf_146 : decode cX7_erf 146 = .ok (.invokevirtual 52, 3) := by decide +kernel
theorem dX7_erf_149 : decode cX7_erf 149 = .ok (.ldc2_w 68, 3) := by decide +kernel
theorem dX7_erf_152 : decode cX7_erf 152 = .ok (.dmul, 1) := by decide +kernel
theorem dX7_erf_153 : decode cX7_erf 153 = .ok (.dload_n 3, 1) := by decide +kernel
theorem dX7_erf_154 : decode cX7_erf 154 = .ok (.dload 7, 2) := by decide +kernel
theorem dX7_erf_156 : decode cX7_erf 156 = .ok (.dadd, 1) := by decide +kernel
theorem dX7_erf_157 : decode cX7_erf 157 = .ok (.ddiv, 1) := by decide +kernel
theorem dX7_erf_158 : decode cX7_erf 158 = .ok (.dsub, 1) := by decide +kernel
theorem dX7_erf_159 : decode cX7_erf 159 = .ok (.dstore 5, 2) := by decide +kernel
theorem dX7_erf_161 : decode cX7_erf 161 = .ok (.dload_n 1, 1) := by decide +kernel
theorem dX7_erf_162 : decode cX7_erf 162 = .ok (.dconst 0, 1) := by decide +kernel
theorem dX7_erf_163 : decode cX7_erf 163 = .ok (.dcmp .g, 1) := by decide +kernel
theorem dX7_erf_164 : decode cX7_erf 164 = .ok (.ifCond .ge 9, 3) := by decide +kernel
theorem dX7_erf_167 : decode cX7_erf 167 = .ok (.dload 5, 2) := by decide +kernel
theorem dX7_erf_169 : decode cX7_erf 169 = .ok (.dneg, 1) := by decide +kernel
theorem dX7_erf_170 : decode cX7_erf 170 = .ok (.goto 5, 3) := by decide +kernel
theorem dX7_erf_173 : decode cX7_erf 173 = .ok (.dload 5, 2) := by decide +kernel
theorem dX7_erf_175 : decode cX7_erf 175 = .ok (.dreturn, 1) := by decide +kernel
abbrev cX7_law : ByteArray := prog_8_method_15_code
def yX7_law : MethodName := ⟨RX7, "law", "(DDD)D"⟩
theorem dX7_law_0 : decode cX7_law 0 = .ok (.dload_n 1, 1) := by decide +kernel
theorem dX7_law_1 : decode cX7_law 1 = .ok (.invokestatic 73, 3) := by decide +kernel
theorem dX7_law_4 : decode cX7_law 4 = .ok (.ifCond .eq 22, 3) := by decide +kernel
theorem dX7_law_7 : decode cX7_law 7 = .ok (.dload_n 3, 1) := by decide +kernel
theorem dX7_law_8 : decode cX7_law 8 = .ok (.invokestatic 73, 3) := by decide +kernel
theorem dX7_law_11 : decode cX7_law 11 = .ok (.ifCond .eq 15, 3) := by decide +kernel
theorem dX7_law_14 : decode cX7_law 14 = .ok (.dload 5, 2) := by decide +kernel
theorem dX7_law_16 : decode cX7_law 16 = .ok (.invokestatic 73, 3) := by decide +kernel
theorem dX7_law_19 : decode cX7_law 19 = .ok (.ifCond .eq 7, 3) := by decide +kernel
theorem dX7_law_22 : decode cX7_law 22 = .ok (.iconst 1, 1) := by decide +kernel
theorem dX7_law_23 : decode cX7_law 23 = .ok (.goto 4, 3) := by decide +kernel
theorem dX7_law_26 : decode cX7_law 26 = .ok (.iconst 0, 1) := by decide +kernel
theorem dX7_law_27 : decode cX7_law 27 = .ok (.istore 7, 2) := by decide +kernel
theorem dX7_law_29 : decode cX7_law 29 = .ok (.iload 7, 2) := by decide +kernel
theorem dX7_law_31 : decode cX7_law 31 = .ok (.ifCond .eq 22, 3) := by decide +kernel
theorem dX7_law_34 : decode cX7_law 34 = .ok (.dload 5, 2) := by decide +kernel
theorem dX7_law_36 : decode cX7_law 36 = .ok (.dconst 0, 1) := by decide +kernel
theorem dX7_law_37 : decode cX7_law 37 = .ok (.dcmp .l, 1) := by decide +kernel
theorem dX7_law_38 : decode cX7_law 38 = .ok (.ifCond .gt 15, 3) := by decide +kernel
theorem dX7_law_41 : decode cX7_law 41 = .ok (.aload_n 0, 1) := by decide +kernel
theorem dX7_law_42 : decode cX7_law 42 = .ok (.iconst 4, 1) := by decide +kernel
theorem dX7_law_43 : decode cX7_law 43 = .ok (.putfield 17, 3) := by decide +kernel
theorem dX7_law_46 : decode cX7_law 46 = .ok (.aload_n 0, 1) := by decide +kernel
theorem dX7_law_47 : decode cX7_law 47 = .ok (.iconst 1, 1) := by decide +kernel
theorem dX7_law_48 : decode cX7_law 48 = .ok (.dconst 0, 1) := by decide +kernel
theorem dX7_law_49 : decode cX7_law 49 = .ok (.invokevirtual 77, 3) := by decide +kernel
theorem dX7_law_52 : decode cX7_law 52 = .ok (.dreturn, 1) := by decide +kernel
theorem dX7_law_53 : decode cX7_law 53 = .ok (.aload_n 0, 1) := by decide +kernel
theorem dX7_law_54 : decode cX7_law 54 = .ok (.iload 7, 2) := by decide +kernel
theorem dX7_law_56 : decode cX7_law 56 = .ok (.iload 7, 2) := by decide +kernel
theorem dX7_law_58 : decode cX7_law 58 = .ok (.ifCond .eq 21, 3) := by decide +kernel
theorem dX7_law_61 : decode cX7_law 61 = .ok (.dload_n 1, 1) := by decide +kernel
theorem dX7_law_62 : decode cX7_law 62 = .ok (.aload_n 0, 1) := by decide +kernel
theorem dX7_law_63 : decode cX7_law 63 = .ok (.dload_n 3, 1) := by decide +kernel
theorem dX7_law_64 : decode cX7_law 64 = .ok (.dneg, 1) := by decide +kernel
theorem dX7_law_65 : decode cX7_law 65 = .ok (.ldc2_w 91, 3) := by decide +kernel
theorem dX7_law_68 : decode cX7_law 68 = .ok (.dload 5, 2) := by decide +kernel
theorem dX7_law_70 : decode cX7_law 70 = .ok (.dmul, 1) := by decide +kernel
theorem dX7_law_71 : decode cX7_law 71 = .ok (.ddiv, 1) := by decide +kernel
theorem dX7_law_72 : decode cX7_law 72 = .ok (.invokevirtual 52, 3) := by decide +kernel
theorem dX7_law_75 : decode cX7_law 75 = .ok (.dmul, 1) := by decide +kernel
theorem dX7_law_76 : decode cX7_law 76 = .ok (.goto 4, 3) := by decide +kernel
theorem dX7_law_79 : decode cX7_law 79 = .ok (.dconst 0, 1) := by decide +kernel
theorem dX7_law_80 : decode cX7_law 80 = .ok (.invokevirtual 77, 3) := by decide +kernel
theorem dX7_law_83 : decode cX7_law 83 = .ok (.dreturn, 1) := by decide +kernel
abbrev cX7_normal : ByteArray := prog_8_method_16_code
def yX7_normal : MethodName := ⟨RX7, "normal", "(IJI)D"⟩
theorem dX7_normal_0 : decode cX7_normal 0 = .ok (.iload_n 1, 1) := by decide +kernel
theorem dX7_normal_1 : decode cX7_normal 1 = .ok (.ifCond .lt 14, 3) := by decide +kernel
theorem dX7_normal_4 : decode cX7_normal 4 = .ok (.lload_n 2, 1) := by decide +kernel
theorem dX7_normal_5 : decode cX7_normal 5 = .ok (.lconst 0, 1) := by decide +kernel
theorem dX7_normal_6 : decode cX7_normal 6 = .ok (.lcmp, 1) := by decide +kernel
theorem dX7_normal_7 : decode cX7_normal 7 = .ok (.ifCond .lt 8, 3) := by decide +kernel
theorem dX7_normal_10 : decode cX7_normal 10 = .ok (.iload 4, 2) := by decide +kernel
theorem dX7_normal_12 : decode cX7_normal 12 = .ok (.ifCond .ge 10, 3) := by decide +kernel
theorem dX7_normal_15 : decode cX7_normal 15 = .ok (.aload_n 0, 1) := by decide +kernel
theorem dX7_normal_16 : decode cX7_normal 16 = .ok (.iconst 3, 1) := by decide +kernel
theorem dX7_normal_17 : decode cX7_normal 17 = .ok (.putfield 70, 3) := by decide +kernel
theorem dX7_normal_20 : decode cX7_normal 20 = .ok (.dconst 0, 1) := by decide +kernel
theorem dX7_normal_21 : decode cX7_normal 21 = .ok (.dreturn, 1) := by decide +kernel
theorem dX7_normal_22 : decode cX7_normal 22 = .ok (.aload_n 0, 1) := by decide +kernel
theorem dX7_normal_23 : decode cX7_normal 23 = .ok (.iconst 0, 1) := by decide +kernel
theorem dX7_normal_24 : decode cX7_normal 24 = .ok (.putfield 70, 3) := by decide +kernel
theorem dX7_normal_27 : decode cX7_normal 27 = .ok (.aload_n 0, 1) := by decide +kernel
theorem dX7_normal_28 : decode cX7_normal 28 = .ok (.getfield 7, 3) := by decide +kernel
theorem dX7_normal_31 : decode cX7_normal 31 = .ok (.iload_n 1, 1) := by decide +kernel
theorem dX7_normal_32 : decode cX7_normal 32 = .ok (.i2l, 1) := by decide +kernel
theorem dX7_normal_33 : decode cX7_normal 33 = .ok (.ldc2_w 93, 3) := by decide +kernel
theorem dX7_normal_36 : decode cX7_normal 36 = .ok (.lmul, 1) := by decide +kernel
theorem dX7_normal_37 : decode cX7_normal 37 = .ok (.ladd, 1) := by decide +kernel
theorem dX7_normal_38 : decode cX7_normal 38 = .ok (.lload_n 2, 1) := by decide +kernel
theorem dX7_normal_39 : decode cX7_normal 39 = .ok (.ldc2_w 95, 3) := by decide +kernel
theorem dX7_normal_42 : decode cX7_normal 42 = .ok (.lmul, 1) := by decide +kernel
theorem dX7_normal_43 : decode cX7_normal 43 = .ok (.ladd, 1) := by decide +kernel
theorem dX7_normal_44 : decode cX7_normal 44 = .ok (.iload 4, 2) := by decide +kernel
theorem dX7_normal_46 : decode cX7_normal 46 = .ok (.i2l, 1) := by decide +kernel
theorem dX7_normal_47 : decode cX7_normal 47 = .ok (.ldc2_w 97, 3) := by decide +kernel
theorem dX7_normal_50 : decode cX7_normal 50 = .ok (.lmul, 1) := by decide +kernel
theorem dX7_normal_51 : decode cX7_normal 51 = .ok (.ladd, 1) := by decide +kernel
theorem dX7_normal_52 : decode cX7_normal 52 = .ok (.lstore 5, 2) := by decide +kernel
theorem dX7_normal_54 : decode cX7_normal 54 = .ok (.dconst 0, 1) := by decide +kernel
theorem dX7_normal_55 : decode cX7_normal 55 = .ok (.dstore 7, 2) := by decide +kernel
theorem dX7_normal_57 : decode cX7_normal 57 = .ok (.iconst 0, 1) := by decide +kernel
theorem dX7_normal_58 : decode cX7_normal 58 = .ok (.istore 9, 2) := by decide +kernel
theorem dX7_normal_60 : decode cX7_normal 60 = .ok (.iload 9, 2) := by decide +kernel
theorem dX7_normal_62 : decode cX7_normal 62 = .ok (.bipush 15, 2) := by decide +kernel
theorem dX7_normal_64 : decode cX7_normal 64 = .ok (.if_icmp .ge 47, 3) := by decide +kernel
theorem dX7_normal_67 : decode cX7_normal 67 = .ok (.lload 5, 2) := by decide +kernel
theorem dX7_normal_69 : decode cX7_normal 69 = .ok (.ldc2_w 99, 3) := by decide +kernel
theorem dX7_normal_72 : decode cX7_normal 72 = .ok (.lmul, 1) := by decide +kernel
theorem dX7_normal_73 : decode cX7_normal 73 = .ok (.ldc2_w 101, 3) := by decide +kernel
theorem dX7_normal_76 : decode cX7_normal 76 = .ok (.ladd, 1) := by decide +kernel
theorem dX7_normal_77 : decode cX7_normal 77 = .ok (.lstore 5, 2) := by decide +kernel
theorem dX7_normal_79 : decode cX7_normal 79 = .ok (.iload 9, 2) := by decide +kernel
theorem dX7_normal_81 : decode cX7_normal 81 = .ok (.iconst 3, 1) := by decide +kernel
theorem dX7_normal_82 : decode cX7_normal 82 = .ok (.if_icmp .ge 8, 3) := by decide +kernel
theorem dX7_normal_85 : decode cX7_normal 85 = .ok (.dload 7, 2) := by decide +kernel
theorem dX7_normal_87 : decode cX7_normal 87 = .ok (.goto 16, 3) := by decide +kernel
theorem dX7_normal_90 : decode cX7_normal 90 = .ok (.dload 7, 2) := by decide +kernel
theorem dX7_normal_92 : decode cX7_normal 92 = .ok (.lload 5, 2) := by decide +kernel
theorem dX7_normal_94 : decode cX7_normal 94 = .ok (.bipush 11, 2) := by decide +kernel
theorem dX7_normal_96 : decode cX7_normal 96 = .ok (.lushr, 1) := by decide +kernel
theorem dX7_normal_97 : decode cX7_normal 97 = .ok (.l2d, 1) := by decide +kernel
theorem dX7_normal_98 : decode cX7_normal 98 = .ok (.ldc2_w 103, 3) := by decide +kernel
theorem dX7_normal_101 : decode cX7_normal 101 = .ok (.dmul, 1) := by decide +kernel
theorem dX7_normal_102 : decode cX7_normal 102 = .ok (.dadd, 1) := by decide +kernel
theorem dX7_normal_103 : decode cX7_normal 103 = .ok (.dstore 7, 2) := by decide +kernel
theorem dX7_normal_105 : decode cX7_normal 105 = .ok (.iinc 9 1, 3) := by decide +kernel
theorem dX7_normal_108 : decode cX7_normal 108 = .ok (.goto (-48), 3) := by decide +kernel
theorem dX7_normal_111 : decode cX7_normal 111 = .ok (.dload 7, 2) := by decide +kernel
theorem dX7_normal_113 : decode cX7_normal 113 = .ok (.ldc2_w 66, 3) := by decide +kernel
theorem dX7_normal_116 : decode cX7_normal 116 = .ok (.dsub, 1) := by decide +kernel
theorem dX7_normal_117 : decode cX7_normal 117 = .ok (.dreturn, 1) := by decide +kernel
abbrev cX7_bound : ByteArray := prog_8_method_17_code
def yX7_bound : MethodName := ⟨RX7, "bound", "(ID)D"⟩
theorem dX7_bound_0 : decode cX7_bound 0 = .ok (.iload_n 1, 1) := by decide +kernel
theorem dX7_bound_1 : decode cX7_bound 1 = .ok (.ifCond .lt 15, 3) := by decide +kernel
theorem dX7_bound_4 : decode cX7_bound 4 = .ok (.iload_n 1, 1) := by decide +kernel
theorem dX7_bound_5 : decode cX7_bound 5 = .ok (.iconst 3, 1) := by decide +kernel
theorem dX7_bound_6 : decode cX7_bound 6 = .ok (.if_icmp .gt 10, 3) := by decide +kernel
theorem dX7_bound_9 : decode cX7_bound 9 = .ok (.dload_n 2, 1) := by decide +kernel
theorem dX7_bound_10 : decode cX7_bound 10 = .ok (.invokestatic 73, 3) := by decide +kernel
theorem dX7_bound_13 : decode cX7_bound 13 = .ok (.ifCond .ne 7, 3) := by decide +kernel
theorem dX7_bound_16 : decode cX7_bound 16 = .ok (.ldc2_w 105, 3) := by decide +kernel
theorem dX7_bound_19 : decode cX7_bound 19 = .ok (.dreturn, 1) := by decide +kernel
theorem dX7_bound_20 : decode cX7_bound 20 = .ok (.iload_n 1, 1) := by decide +kernel
theorem dX7_bound_21 : decode cX7_bound 21 = .ok (.iconst 3, 1) := by decide +kernel
theorem dX7_bound_22 : decode cX7_bound 22 = .ok (.if_icmp .ne 7, 3) := by decide +kernel
theorem dX7_bound_25 : decode cX7_bound 25 = .ok (.ldc2_w 107, 3) := by decide +kernel
theorem dX7_bound_28 : decode cX7_bound 28 = .ok (.dreturn, 1) := by decide +kernel
theorem dX7_bound_29 : decode cX7_bound 29 = .ok (.dload_n 2, 1) := by decide +kernel
theorem dX7_bound_30 : decode cX7_bound 30 = .ok (.dconst 0, 1) := by decide +kernel
theorem dX7_bound_31 : decode cX7_bound 31 = .ok (.dcmp .g, 1) := by decide +kernel
theorem dX7_bound_32 : decode cX7_bound 32 = .ok (.ifCond .ge 8, 3) := by decide +kernel
theorem dX7_bound_35 : decode cX7_bound 35 = .ok (.dload_n 2, 1) := by decide +kernel
theorem dX7_bound_36 : decode cX7_bound 36 = .ok (.dneg, 1) := by decide +kernel
theorem dX7_bound_37 : decode cX7_bound 37 = .ok (.goto 4, 3) := by decide +kernel
theorem dX7_bound_40 : decode cX7_bound 40 = .ok (.dload_n 2, 1) := by decide +kernel
theorem dX7_bound_41 : decode cX7_bound 41 = .ok (.dstore 4, 2) := by decide +kernel
theorem dX7_bound_43 : decode cX7_bound 43 = .ok (.iload_n 1, 1) := by decide +kernel
theorem dX7_bound_44 : decode cX7_bound 44 = .ok (.ifCond .ne 11, 3) := by decide +kernel
theorem dX7_bound_47 : decode cX7_bound 47 = .ok (.aload_n 0, 1) := by decide +kernel
theorem dX7_bound_48 : decode cX7_bound 48 = .ok (.dload_n 2, 1) := by decide +kernel
theorem dX7_bound_49 : decode cX7_bound 49 = .ok (.invokevirtual 52, 3) := by decide +kernel
theorem dX7_bound_52 : decode cX7_bound 52 = .ok (.goto 21, 3) := by decide +kernel
theorem dX7_bound_55 : decode cX7_bound 55 = .ok (.iload_n 1, 1) := by decide +kernel
theorem dX7_bound_56 : decode cX7_bound 56 = .ok (.iconst 1, 1) := by decide +kernel
theorem dX7_bound_57 : decode cX7_bound 57 = .ok (.if_icmp .ne 11, 3) := by decide +kernel
theorem dX7_bound_60 : decode cX7_bound 60 = .ok (.aload_n 0, 1) := by decide +kernel
theorem dX7_bound_61 : decode cX7_bound 61 = .ok (.dload_n 2, 1) := by decide +kernel
theorem dX7_bound_62 : decode cX7_bound 62 = .ok (.invokevirtual 48, 3) := by decide +kernel
theorem dX7_bound_65 : decode cX7_bound 65 = .ok (.goto 8, 3) := by decide +kernel
theorem dX7_bound_68 : decode cX7_bound 68 = .ok (.aload_n 0, 1) := by decide +kernel
theorem dX7_bound_69 : decode cX7_bound 69 = .ok (.dload_n 2, 1) := by decide +kernel
theorem dX7_bound_70 : decode cX7_bound 70 = .ok (.invokevirtual 85, 3) := by decide +kernel
theorem dX7_bound_73 : decode cX7_bound 73 = .ok (.dstore 6, 2) := by decide +kernel
theorem dX7_bound_75 : decode cX7_bound 75 = .ok (.aload_n 0, 1) := by decide +kernel
theorem dX7_bound_76 : decode cX7_bound 76 = .ok (.getfield 17, 3) := by decide +kernel
theorem dX7_bound_79 : decode cX7_bound 79 = .ok (.ifCond .eq 7, 3) := by decide +kernel
theorem dX7_bound_82 : decode cX7_bound 82 = .ok (.ldc2_w 105, 3) := by decide +kernel
theorem dX7_bound_85 : decode cX7_bound 85 = .ok (.dreturn, 1) := by decide +kernel
theorem dX7_bound_86 : decode cX7_bound 86 = .ok (.dload 6, 2) := by decide +kernel
theorem dX7_bound_88 : decode cX7_bound 88 = .ok (.dconst 0, 1) := by decide +kernel
theorem dX7_bound_89 : decode cX7_bound 89 = .ok (.dcmp .g, 1) := by decide +kernel
theorem dX7_bound_90 : decode cX7_bound 90 = .ok (.ifCond .ge 9, 3) := by decide +kernel
theorem dX7_bound_93 : decode cX7_bound 93 = .ok (.dload 6, 2) := by decide +kernel
theorem dX7_bound_95 : decode cX7_bound 95 = .ok (.dneg, 1) := by decide +kernel
theorem dX7_bound_96 : decode cX7_bound 96 = .ok (.goto 5, 3) := by decide +kernel
theorem dX7_bound_99 : decode cX7_bound 99 = .ok (.dload 6, 2) := by decide +kernel
theorem dX7_bound_101 : decode cX7_bound 101 = .ok (.dstore 8, 2) := by decide +kernel
theorem dX7_bound_103 : decode cX7_bound 103 = .ok (.iload_n 1, 1) := by decide +kernel
theorem dX7_bound_104 : decode cX7_bound 104 = .ok (.ifCond .ne 17, 3) := by decide +kernel
theorem dX7_bound_107 : decode cX7_bound 107 = .ok (.ldc2_w 109, 3) := by decide +kernel
theorem dX7_bound_110 : decode cX7_bound 110 = .ok (.dconst 1, 1) := by decide +kernel
theorem dX7_bound_111 : decode cX7_bound 111 = .ok (.dload 4, 2) := by decide +kernel
theorem dX7_bound_113 : decode cX7_bound 113 = .ok (.dadd, 1) := by decide +kernel
theorem dX7_bound_114 : decode cX7_bound 114 = .ok (.dmul, 1) := by decide +kernel
theorem dX7_bound_115 : decode cX7_bound 115 = .ok (.dload 6, 2) := by decide +kernel
theorem dX7_bound_117 : decode cX7_bound 117 = .ok (.dmul, 1) := by decide +kernel
theorem dX7_bound_118 : decode cX7_bound 118 = .ok (.goto 27, 3) := by decide +kernel
theorem dX7_bound_121 : decode cX7_bound 121 = .ok (.iload_n 1, 1) := by decide +kernel
theorem dX7_bound_122 : decode cX7_bound 122 = .ok (.iconst 1, 1) := by decide +kernel
theorem dX7_bound_123 : decode cX7_bound 123 = .ok (.if_icmp .ne 16, 3) := by decide +kernel
theorem dX7_bound_126 : decode cX7_bound 126 = .ok (.ldc2_w 111, 3) := by decide +kernel
theorem dX7_bound_129 : decode cX7_bound 129 = .ok (.ldc2_w 113, 3) := by decide +kernel
theorem dX7_bound_132 : decode cX7_bound 132 = .ok (.dload 8, 2) := by decide +kernel
theorem dX7_bound_134 : decode cX7_bound 134 = .ok (.dmul, 1) := by decide +kernel
theorem dX7_bound_135 : decode cX7_bound 135 = .ok (.dadd, 1) := by decide +kernel
theorem dX7_bound_136 : decode cX7_bound 136 = .ok (.goto 9, 3) := by decide +kernel
theorem dX7_bound_139 : decode cX7_bound 139 = .ok (.ldc2_w 113, 3) := by decide +kernel
theorem dX7_bound_142 : decode cX7_bound 142 = .ok (.dload 6, 2) := by decide +kernel
theorem dX7_bound_144 : decode cX7_bound 144 = .ok (.dmul, 1) := by decide +kernel
theorem dX7_bound_145 : decode cX7_bound 145 = .ok (.dreturn, 1) := by decide +kernel
abbrev cX7_code : ByteArray := prog_8_method_18_code
def yX7_code : MethodName := ⟨RX7, "code", "()I"⟩
theorem dX7_code_0 : decode cX7_code 0 = .ok (.aload_n 0, 1) := by decide +kernel
theorem dX7_code_1 : decode cX7_code 1 = .ok (.getfield 70, 3) := by decide +kernel
theorem dX7_code_4 : decode cX7_code 4 = .ok (.ireturn, 1) := by decide +kernel
abbrev cX7_made : ByteArray := prog_8_method_19_code
def yX7_made : MethodName := ⟨RX7, "made", "()I"⟩
theorem dX7_made_0 : decode cX7_made 0 = .ok (.aload_n 0, 1) := by decide +kernel
theorem dX7_made_1 : decode cX7_made 1 = .ok (.getfield 29, 3) := by decide +kernel
theorem dX7_made_4 : decode cX7_made 4 = .ok (.ifCond .eq 7, 3) := by decide +kernel
theorem dX7_made_7 : decode cX7_made 7 = .ok (.iconst 1, 1) := by decide +kernel
theorem dX7_made_8 : decode cX7_made 8 = .ok (.goto 4, 3) := by decide +kernel
theorem dX7_made_11 : decode cX7_made 11 = .ok (.iconst 0, 1) := by decide +kernel
theorem dX7_made_12 : decode cX7_made 12 = .ok (.aload_n 0, 1) := by decide +kernel
theorem dX7_made_13 : decode cX7_made 13 = .ok (.getfield 41, 3) := by decide +kernel
theorem dX7_made_16 : decode cX7_made 16 = .ok (.ifCond .eq 7, 3) := by decide +kernel
theorem dX7_made_19 : decode cX7_made 19 = .ok (.iconst 1, 1) := by decide +kernel
theorem dX7_made_20 : decode cX7_made 20 = .ok (.goto 4, 3) := by decide +kernel
theorem dX7_made_23 : decode cX7_made 23 = .ok (.iconst 0, 1) := by decide +kernel
theorem dX7_made_24 : decode cX7_made 24 = .ok (.iadd, 1) := by decide +kernel
theorem dX7_made_25 : decode cX7_made 25 = .ok (.aload_n 0, 1) := by decide +kernel
theorem dX7_made_26 : decode cX7_made 26 = .ok (.getfield 61, 3) := by decide +kernel
theorem dX7_made_29 : decode cX7_made 29 = .ok (.ifCond .eq 7, 3) := by decide +kernel
theorem dX7_made_32 : decode cX7_made 32 = .ok (.iconst 1, 1) := by decide +kernel
theorem dX7_made_33 : decode cX7_made 33 = .ok (.goto 4, 3) := by decide +kernel
theorem dX7_made_36 : decode cX7_made 36 = .ok (.iconst 0, 1) := by decide +kernel
theorem dX7_made_37 : decode cX7_made 37 = .ok (.iadd, 1) := by decide +kernel
theorem dX7_made_38 : decode cX7_made 38 = .ok (.ireturn, 1) := by decide +kernel
theorem q18 : (Jvm.Cond.initialized "BrewFunctionsModel") ∈ lw_all := lw_g (lw_at lw_m1 7 rfl) rfl
theorem q291 : (Jvm.Cond.instantiable "BrewFunctionsModel" (6 : Nat)) ∈ lw_all := lw_g (lw_at lw_m2 40 rfl) rfl
theorem q293 : (Jvm.Cond.instanceMethod ({ cls := "BrewFunctionsModel", name := "<init>", desc := "(J)V" } : Jvm.MethodName)) ∈ lw_all := lw_g (lw_at lw_m2 42 rfl) rfl
theorem q294 : (Jvm.Cond.code ({ cls := "BrewFunctionsModel", name := "<init>", desc := "(J)V" } : Jvm.MethodName) prog_8_method_1_code (3 : Nat) (Option.none : Option Jvm.ClassFile.FieldType)) ∈ lw_all := lw_g (lw_at lw_m2 43 rfl) rfl
theorem q295 : (Jvm.Cond.methodLink "BrewFunctionsModel" (1 : Nat) ({ cls := "java/lang/Object", name := "<init>", desc := "()V" } : Jvm.MethodName)) ∈ lw_all := lw_g (lw_at lw_m2 44 rfl) rfl
theorem q296 : (Jvm.Cond.fieldLink "BrewFunctionsModel" (7 : Nat) "BrewFunctionsModel" "seed" "J") ∈ lw_all := lw_g (lw_at lw_m2 45 rfl) rfl
theorem q297 : (Jvm.Cond.fieldLink "BrewFunctionsModel" (70 : Nat) "BrewFunctionsModel" "code" "I") ∈ lw_all := lw_g (lw_at lw_m2 46 rfl) rfl
theorem q298 : (Jvm.Cond.fieldLink "BrewFunctionsModel" (17 : Nat) "BrewFunctionsModel" "found" "I") ∈ lw_all := lw_g (lw_at lw_m2 47 rfl) rfl
theorem q299 : (Jvm.Cond.fieldLink "BrewFunctionsModel" (29 : Nat) "BrewFunctionsModel" "exponentials" "Z") ∈ lw_all := lw_g (lw_at lw_m2 48 rfl) rfl
theorem q300 : (Jvm.Cond.fieldLink "BrewFunctionsModel" (41 : Nat) "BrewFunctionsModel" "logarithms" "Z") ∈ lw_all := lw_g (lw_at lw_m2 49 rfl) rfl
theorem q301 : (Jvm.Cond.fieldLink "BrewFunctionsModel" (61 : Nat) "BrewFunctionsModel" "errors" "Z") ∈ lw_all := lw_g (lw_at lw_m2 50 rfl) rfl
theorem q302 : (Jvm.Cond.laysFinal "BrewFunctionsModel" "BrewFunctionsModel" "seed" "J") ∈ lw_all := lw_g (lw_at lw_m2 51 rfl) rfl
theorem q303 : (Jvm.Cond.soleField "BrewFunctionsModel" "seed") ∈ lw_all := lw_g (lw_at lw_m2 52 rfl) rfl
theorem q304 : (Jvm.Cond.lays "BrewFunctionsModel" "BrewFunctionsModel" "code" "I") ∈ lw_all := lw_g (lw_at lw_m2 53 rfl) rfl
theorem q305 : (Jvm.Cond.soleField "BrewFunctionsModel" "code") ∈ lw_all := lw_g (lw_at lw_m2 54 rfl) rfl
theorem q306 : (Jvm.Cond.lays "BrewFunctionsModel" "BrewFunctionsModel" "found" "I") ∈ lw_all := lw_g (lw_at lw_m2 55 rfl) rfl
theorem q307 : (Jvm.Cond.soleField "BrewFunctionsModel" "found") ∈ lw_all := lw_g (lw_at lw_m2 56 rfl) rfl
theorem q308 : (Jvm.Cond.lays "BrewFunctionsModel" "BrewFunctionsModel" "exponentials" "Z") ∈ lw_all := lw_g (lw_at lw_m2 57 rfl) rfl
theorem q309 : (Jvm.Cond.soleField "BrewFunctionsModel" "exponentials") ∈ lw_all := lw_g (lw_at lw_m2 58 rfl) rfl
theorem q310 : (Jvm.Cond.lays "BrewFunctionsModel" "BrewFunctionsModel" "logarithms" "Z") ∈ lw_all := lw_g (lw_at lw_m2 59 rfl) rfl
theorem q311 : (Jvm.Cond.soleField "BrewFunctionsModel" "logarithms") ∈ lw_all := lw_g (lw_at lw_m2 60 rfl) rfl
theorem q312 : (Jvm.Cond.lays "BrewFunctionsModel" "BrewFunctionsModel" "errors" "Z") ∈ lw_all := lw_g (lw_at lw_m2 61 rfl) rfl
theorem q313 : (Jvm.Cond.soleField "BrewFunctionsModel" "errors") ∈ lw_all := lw_g (lw_at lw_m2 62 rfl) rfl
theorem q314 : (Jvm.Cond.superclass "BrewFunctionsModel" "java/lang/Object") ∈ lw_all := lw_g (lw_at lw_m2 63 rfl) rfl
theorem q316 : (Jvm.Cond.instanceMethod ({ cls := "BrewFunctionsModel", name := "exponential", desc := "(D)D" } : Jvm.MethodName)) ∈ lw_all := lw_g (lw_at lw_m2 65 rfl) rfl
theorem q317 : (Jvm.Cond.selects "BrewFunctionsModel" ({ cls := "BrewFunctionsModel", name := "exponential", desc := "(D)D" } : Jvm.MethodName) ({ cls := "BrewFunctionsModel", name := "exponential", desc := "(D)D" } : Jvm.MethodName)) ∈ lw_all := lw_g (lw_at lw_m2 66 rfl) rfl
theorem q318 : (Jvm.Cond.code ({ cls := "BrewFunctionsModel", name := "exponential", desc := "(D)D" } : Jvm.MethodName) prog_8_method_10_code (4 : Nat) (Option.some Jvm.ClassFile.FieldType.double)) ∈ lw_all := lw_g (lw_at lw_m2 67 rfl) rfl
theorem q319 : (Jvm.Cond.methodLink "BrewFunctionsModel" (73 : Nat) ({ cls := "BrewFunctionsModel", name := "isNumber", desc := "(D)Z" } : Jvm.MethodName)) ∈ lw_all := lw_g (lw_at lw_m2 68 rfl) rfl
theorem q320 : (Jvm.Cond.static ({ cls := "BrewFunctionsModel", name := "isNumber", desc := "(D)Z" } : Jvm.MethodName)) ∈ lw_all := lw_g (lw_at lw_m2 69 rfl) rfl
theorem q321 : (Jvm.Cond.code ({ cls := "BrewFunctionsModel", name := "isNumber", desc := "(D)Z" } : Jvm.MethodName) prog_8_method_2_code (2 : Nat) (Option.some Jvm.ClassFile.FieldType.boolean)) ∈ lw_all := lw_g (lw_at lw_m2 70 rfl) rfl
theorem q322 : (Jvm.Cond.constantDouble "BrewFunctionsModel" (13 : Nat) (13949855332739055616 : UInt64)) ∈ lw_all := lw_g (lw_at lw_m2 71 rfl) rfl
theorem q323 : (Jvm.Cond.constantDouble "BrewFunctionsModel" (15 : Nat) (4726483295884279808 : UInt64)) ∈ lw_all := lw_g (lw_at lw_m2 72 rfl) rfl
theorem q324 : (Jvm.Cond.methodLink "BrewFunctionsModel" (52 : Nat) ({ cls := "BrewFunctionsModel", name := "exp", desc := "(D)D" } : Jvm.MethodName)) ∈ lw_all := lw_g (lw_at lw_m2 73 rfl) rfl
theorem q325 : (Jvm.Cond.privateMethod ({ cls := "BrewFunctionsModel", name := "exp", desc := "(D)D" } : Jvm.MethodName)) ∈ lw_tbl := lw_at lw_m2 74 rfl
theorem q326 : (Jvm.Cond.instanceMethod ({ cls := "BrewFunctionsModel", name := "exp", desc := "(D)D" } : Jvm.MethodName)) ∈ lw_all := lw_g (lw_at lw_m2 75 rfl) rfl
theorem q327 : (Jvm.Cond.code ({ cls := "BrewFunctionsModel", name := "exp", desc := "(D)D" } : Jvm.MethodName) prog_8_method_4_code (11 : Nat) (Option.some Jvm.ClassFile.FieldType.double)) ∈ lw_all := lw_g (lw_at lw_m2 76 rfl) rfl
theorem q328 : (Jvm.Cond.constantDouble "BrewFunctionsModel" (21 : Nat) (4649368480934526976 : UInt64)) ∈ lw_all := lw_g (lw_at lw_m2 77 rfl) rfl
theorem q329 : (Jvm.Cond.methodLink "BrewFunctionsModel" (23 : Nat) ({ cls := "BrewFunctionsModel", name := "none", desc := "(I)D" } : Jvm.MethodName)) ∈ lw_all := lw_g (lw_at lw_m2 78 rfl) rfl
theorem q330 : (Jvm.Cond.privateMethod ({ cls := "BrewFunctionsModel", name := "none", desc := "(I)D" } : Jvm.MethodName)) ∈ lw_tbl := lw_at lw_m2 79 rfl
theorem q331 : (Jvm.Cond.instanceMethod ({ cls := "BrewFunctionsModel", name := "none", desc := "(I)D" } : Jvm.MethodName)) ∈ lw_all := lw_g (lw_at lw_m2 80 rfl) rfl
theorem q332 : (Jvm.Cond.code ({ cls := "BrewFunctionsModel", name := "none", desc := "(I)D" } : Jvm.MethodName) prog_8_method_3_code (2 : Nat) (Option.some Jvm.ClassFile.FieldType.double)) ∈ lw_all := lw_g (lw_at lw_m2 81 rfl) rfl
theorem q333 : (Jvm.Cond.constantDouble "BrewFunctionsModel" (27 : Nat) (13872740517789302784 : UInt64)) ∈ lw_all := lw_g (lw_at lw_m2 82 rfl) rfl
theorem q334 : (Jvm.Cond.constantDouble "BrewFunctionsModel" (33 : Nat) (4609176140021203710 : UInt64)) ∈ lw_all := lw_g (lw_at lw_m2 83 rfl) rfl
theorem q335 : (Jvm.Cond.constantDouble "BrewFunctionsModel" (35 : Nat) (4602678819172646912 : UInt64)) ∈ lw_all := lw_g (lw_at lw_m2 84 rfl) rfl
theorem q336 : (Jvm.Cond.constantDouble "BrewFunctionsModel" (37 : Nat) (4604418534313441775 : UInt64)) ∈ lw_all := lw_g (lw_at lw_m2 85 rfl) rfl
theorem q337 : (Jvm.Cond.constantDouble "BrewFunctionsModel" (39 : Nat) (4611686018427387904 : UInt64)) ∈ lw_all := lw_g (lw_at lw_m2 86 rfl) rfl
theorem q338 : (Jvm.Cond.methodLink "BrewFunctionsModel" (77 : Nat) ({ cls := "BrewFunctionsModel", name := "told", desc := "(ZD)D" } : Jvm.MethodName)) ∈ lw_all := lw_g (lw_at lw_m2 87 rfl) rfl
theorem q339 : (Jvm.Cond.privateMethod ({ cls := "BrewFunctionsModel", name := "told", desc := "(ZD)D" } : Jvm.MethodName)) ∈ lw_tbl := lw_at lw_m2 88 rfl
theorem q340 : (Jvm.Cond.instanceMethod ({ cls := "BrewFunctionsModel", name := "told", desc := "(ZD)D" } : Jvm.MethodName)) ∈ lw_all := lw_g (lw_at lw_m2 89 rfl) rfl
theorem q341 : (Jvm.Cond.code ({ cls := "BrewFunctionsModel", name := "told", desc := "(ZD)D" } : Jvm.MethodName) prog_8_method_9_code (4 : Nat) (Option.some Jvm.ClassFile.FieldType.double)) ∈ lw_all := lw_g (lw_at lw_m2 90 rfl) rfl
theorem q343 : (Jvm.Cond.instanceMethod ({ cls := "BrewFunctionsModel", name := "logarithm", desc := "(D)D" } : Jvm.MethodName)) ∈ lw_all := lw_g (lw_at lw_m2 92 rfl) rfl
theorem q344 : (Jvm.Cond.selects "BrewFunctionsModel" ({ cls := "BrewFunctionsModel", name := "logarithm", desc := "(D)D" } : Jvm.MethodName) ({ cls := "BrewFunctionsModel", name := "logarithm", desc := "(D)D" } : Jvm.MethodName)) ∈ lw_all := lw_g (lw_at lw_m2 93 rfl) rfl
theorem q345 : (Jvm.Cond.code ({ cls := "BrewFunctionsModel", name := "logarithm", desc := "(D)D" } : Jvm.MethodName) prog_8_method_11_code (4 : Nat) (Option.some Jvm.ClassFile.FieldType.double)) ∈ lw_all := lw_g (lw_at lw_m2 94 rfl) rfl
theorem q346 : (Jvm.Cond.methodLink "BrewFunctionsModel" (48 : Nat) ({ cls := "BrewFunctionsModel", name := "log", desc := "(D)D" } : Jvm.MethodName)) ∈ lw_all := lw_g (lw_at lw_m2 95 rfl) rfl
theorem q347 : (Jvm.Cond.privateMethod ({ cls := "BrewFunctionsModel", name := "log", desc := "(D)D" } : Jvm.MethodName)) ∈ lw_tbl := lw_at lw_m2 96 rfl
theorem q348 : (Jvm.Cond.instanceMethod ({ cls := "BrewFunctionsModel", name := "log", desc := "(D)D" } : Jvm.MethodName)) ∈ lw_all := lw_g (lw_at lw_m2 97 rfl) rfl
theorem q349 : (Jvm.Cond.code ({ cls := "BrewFunctionsModel", name := "log", desc := "(D)D" } : Jvm.MethodName) prog_8_method_5_code (13 : Nat) (Option.some Jvm.ClassFile.FieldType.double)) ∈ lw_all := lw_g (lw_at lw_m2 98 rfl) rfl
theorem q350 : (Jvm.Cond.constantDouble "BrewFunctionsModel" (44 : Nat) (4609434218613702656 : UInt64)) ∈ lw_all := lw_g (lw_at lw_m2 99 rfl) rfl
theorem q351 : (Jvm.Cond.constantDouble "BrewFunctionsModel" (46 : Nat) (4604930618986332160 : UInt64)) ∈ lw_all := lw_g (lw_at lw_m2 100 rfl) rfl
theorem q353 : (Jvm.Cond.instanceMethod ({ cls := "BrewFunctionsModel", name := "power", desc := "(DD)D" } : Jvm.MethodName)) ∈ lw_all := lw_g (lw_at lw_m2 102 rfl) rfl
theorem q354 : (Jvm.Cond.selects "BrewFunctionsModel" ({ cls := "BrewFunctionsModel", name := "power", desc := "(DD)D" } : Jvm.MethodName) ({ cls := "BrewFunctionsModel", name := "power", desc := "(DD)D" } : Jvm.MethodName)) ∈ lw_all := lw_g (lw_at lw_m2 103 rfl) rfl
theorem q355 : (Jvm.Cond.code ({ cls := "BrewFunctionsModel", name := "power", desc := "(DD)D" } : Jvm.MethodName) prog_8_method_12_code (6 : Nat) (Option.some Jvm.ClassFile.FieldType.double)) ∈ lw_all := lw_g (lw_at lw_m2 104 rfl) rfl
theorem q356 : (Jvm.Cond.methodLink "BrewFunctionsModel" (81 : Nat) ({ cls := "BrewFunctionsModel", name := "pow", desc := "(DD)D" } : Jvm.MethodName)) ∈ lw_all := lw_g (lw_at lw_m2 105 rfl) rfl
theorem q357 : (Jvm.Cond.privateMethod ({ cls := "BrewFunctionsModel", name := "pow", desc := "(DD)D" } : Jvm.MethodName)) ∈ lw_tbl := lw_at lw_m2 106 rfl
theorem q358 : (Jvm.Cond.instanceMethod ({ cls := "BrewFunctionsModel", name := "pow", desc := "(DD)D" } : Jvm.MethodName)) ∈ lw_all := lw_g (lw_at lw_m2 107 rfl) rfl
theorem q359 : (Jvm.Cond.code ({ cls := "BrewFunctionsModel", name := "pow", desc := "(DD)D" } : Jvm.MethodName) prog_8_method_6_code (5 : Nat) (Option.some Jvm.ClassFile.FieldType.double)) ∈ lw_all := lw_g (lw_at lw_m2 108 rfl) rfl
theorem q361 : (Jvm.Cond.instanceMethod ({ cls := "BrewFunctionsModel", name := "root", desc := "(D)D" } : Jvm.MethodName)) ∈ lw_all := lw_g (lw_at lw_m2 110 rfl) rfl
theorem q362 : (Jvm.Cond.selects "BrewFunctionsModel" ({ cls := "BrewFunctionsModel", name := "root", desc := "(D)D" } : Jvm.MethodName) ({ cls := "BrewFunctionsModel", name := "root", desc := "(D)D" } : Jvm.MethodName)) ∈ lw_all := lw_g (lw_at lw_m2 111 rfl) rfl
theorem q363 : (Jvm.Cond.code ({ cls := "BrewFunctionsModel", name := "root", desc := "(D)D" } : Jvm.MethodName) prog_8_method_13_code (4 : Nat) (Option.some Jvm.ClassFile.FieldType.double)) ∈ lw_all := lw_g (lw_at lw_m2 112 rfl) rfl
theorem q364 : (Jvm.Cond.methodLink "BrewFunctionsModel" (85 : Nat) ({ cls := "BrewFunctionsModel", name := "sqrt", desc := "(D)D" } : Jvm.MethodName)) ∈ lw_all := lw_g (lw_at lw_m2 113 rfl) rfl
theorem q365 : (Jvm.Cond.privateMethod ({ cls := "BrewFunctionsModel", name := "sqrt", desc := "(D)D" } : Jvm.MethodName)) ∈ lw_tbl := lw_at lw_m2 114 rfl
theorem q366 : (Jvm.Cond.instanceMethod ({ cls := "BrewFunctionsModel", name := "sqrt", desc := "(D)D" } : Jvm.MethodName)) ∈ lw_all := lw_g (lw_at lw_m2 115 rfl) rfl
theorem q367 : (Jvm.Cond.code ({ cls := "BrewFunctionsModel", name := "sqrt", desc := "(D)D" } : Jvm.MethodName) prog_8_method_7_code (9 : Nat) (Option.some Jvm.ClassFile.FieldType.double)) ∈ lw_all := lw_g (lw_at lw_m2 116 rfl) rfl
theorem q368 : (Jvm.Cond.constantDouble "BrewFunctionsModel" (55 : Nat) (4616189618054758400 : UInt64)) ∈ lw_all := lw_g (lw_at lw_m2 117 rfl) rfl
theorem q369 : (Jvm.Cond.constantDouble "BrewFunctionsModel" (57 : Nat) (4598175219545276416 : UInt64)) ∈ lw_all := lw_g (lw_at lw_m2 118 rfl) rfl
theorem q371 : (Jvm.Cond.instanceMethod ({ cls := "BrewFunctionsModel", name := "errorPart", desc := "(D)D" } : Jvm.MethodName)) ∈ lw_all := lw_g (lw_at lw_m2 120 rfl) rfl
theorem q372 : (Jvm.Cond.selects "BrewFunctionsModel" ({ cls := "BrewFunctionsModel", name := "errorPart", desc := "(D)D" } : Jvm.MethodName) ({ cls := "BrewFunctionsModel", name := "errorPart", desc := "(D)D" } : Jvm.MethodName)) ∈ lw_all := lw_g (lw_at lw_m2 121 rfl) rfl
theorem q373 : (Jvm.Cond.code ({ cls := "BrewFunctionsModel", name := "errorPart", desc := "(D)D" } : Jvm.MethodName) prog_8_method_14_code (4 : Nat) (Option.some Jvm.ClassFile.FieldType.double)) ∈ lw_all := lw_g (lw_at lw_m2 122 rfl) rfl
theorem q374 : (Jvm.Cond.methodLink "BrewFunctionsModel" (88 : Nat) ({ cls := "BrewFunctionsModel", name := "erf", desc := "(D)D" } : Jvm.MethodName)) ∈ lw_all := lw_g (lw_at lw_m2 123 rfl) rfl
theorem q375 : (Jvm.Cond.privateMethod ({ cls := "BrewFunctionsModel", name := "erf", desc := "(D)D" } : Jvm.MethodName)) ∈ lw_tbl := lw_at lw_m2 124 rfl
theorem q376 : (Jvm.Cond.instanceMethod ({ cls := "BrewFunctionsModel", name := "erf", desc := "(D)D" } : Jvm.MethodName)) ∈ lw_all := lw_g (lw_at lw_m2 125 rfl) rfl
theorem q377 : (Jvm.Cond.code ({ cls := "BrewFunctionsModel", name := "erf", desc := "(D)D" } : Jvm.MethodName) prog_8_method_8_code (14 : Nat) (Option.some Jvm.ClassFile.FieldType.double)) ∈ lw_all := lw_g (lw_at lw_m2 126 rfl) rfl
theorem q378 : (Jvm.Cond.constantDouble "BrewFunctionsModel" (59 : Nat) (4612811918334230528 : UInt64)) ∈ lw_all := lw_g (lw_at lw_m2 127 rfl) rfl
theorem q379 : (Jvm.Cond.constantDouble "BrewFunctionsModel" (64 : Nat) (4607760587169110893 : UInt64)) ∈ lw_all := lw_g (lw_at lw_m2 128 rfl) rfl
theorem q380 : (Jvm.Cond.constantDouble "BrewFunctionsModel" (66 : Nat) (4618441417868443648 : UInt64)) ∈ lw_all := lw_g (lw_at lw_m2 129 rfl) rfl
theorem q381 : (Jvm.Cond.constantDouble "BrewFunctionsModel" (68 : Nat) (4603256987541740397 : UInt64)) ∈ lw_all := lw_g (lw_at lw_m2 130 rfl) rfl
theorem q383 : (Jvm.Cond.instanceMethod ({ cls := "BrewFunctionsModel", name := "law", desc := "(DDD)D" } : Jvm.MethodName)) ∈ lw_all := lw_g (lw_at lw_m2 132 rfl) rfl
theorem q384 : (Jvm.Cond.selects "BrewFunctionsModel" ({ cls := "BrewFunctionsModel", name := "law", desc := "(DDD)D" } : Jvm.MethodName) ({ cls := "BrewFunctionsModel", name := "law", desc := "(DDD)D" } : Jvm.MethodName)) ∈ lw_all := lw_g (lw_at lw_m2 133 rfl) rfl
theorem q385 : (Jvm.Cond.code ({ cls := "BrewFunctionsModel", name := "law", desc := "(DDD)D" } : Jvm.MethodName) prog_8_method_15_code (8 : Nat) (Option.some Jvm.ClassFile.FieldType.double)) ∈ lw_all := lw_g (lw_at lw_m2 134 rfl) rfl
theorem q386 : (Jvm.Cond.constantDouble "BrewFunctionsModel" (91 : Nat) (4620870244398284740 : UInt64)) ∈ lw_all := lw_g (lw_at lw_m2 135 rfl) rfl
theorem q388 : (Jvm.Cond.instanceMethod ({ cls := "BrewFunctionsModel", name := "normal", desc := "(IJI)D" } : Jvm.MethodName)) ∈ lw_all := lw_g (lw_at lw_m2 137 rfl) rfl
theorem q389 : (Jvm.Cond.selects "BrewFunctionsModel" ({ cls := "BrewFunctionsModel", name := "normal", desc := "(IJI)D" } : Jvm.MethodName) ({ cls := "BrewFunctionsModel", name := "normal", desc := "(IJI)D" } : Jvm.MethodName)) ∈ lw_all := lw_g (lw_at lw_m2 138 rfl) rfl
theorem q390 : (Jvm.Cond.code ({ cls := "BrewFunctionsModel", name := "normal", desc := "(IJI)D" } : Jvm.MethodName) prog_8_method_16_code (10 : Nat) (Option.some Jvm.ClassFile.FieldType.double)) ∈ lw_all := lw_g (lw_at lw_m2 139 rfl) rfl
theorem q391 : (Jvm.Cond.constantLong "BrewFunctionsModel" (93 : Nat) (-7046029254386353131 : Int64)) ∈ lw_all := lw_g (lw_at lw_m2 140 rfl) rfl
theorem q392 : (Jvm.Cond.constantLong "BrewFunctionsModel" (95 : Nat) (-4658895280553007687 : Int64)) ∈ lw_all := lw_g (lw_at lw_m2 141 rfl) rfl
theorem q393 : (Jvm.Cond.constantLong "BrewFunctionsModel" (97 : Nat) (-7723592293110705685 : Int64)) ∈ lw_all := lw_g (lw_at lw_m2 142 rfl) rfl
theorem q394 : (Jvm.Cond.constantLong "BrewFunctionsModel" (99 : Nat) (6364136223846793005 : Int64)) ∈ lw_all := lw_g (lw_at lw_m2 143 rfl) rfl
theorem q395 : (Jvm.Cond.constantLong "BrewFunctionsModel" (101 : Nat) (1442695040888963407 : Int64)) ∈ lw_all := lw_g (lw_at lw_m2 144 rfl) rfl
theorem q396 : (Jvm.Cond.constantDouble "BrewFunctionsModel" (103 : Nat) (4368491638549381120 : UInt64)) ∈ lw_all := lw_g (lw_at lw_m2 145 rfl) rfl
theorem q398 : (Jvm.Cond.instanceMethod ({ cls := "BrewFunctionsModel", name := "bound", desc := "(ID)D" } : Jvm.MethodName)) ∈ lw_all := lw_g (lw_at lw_m2 147 rfl) rfl
theorem q399 : (Jvm.Cond.selects "BrewFunctionsModel" ({ cls := "BrewFunctionsModel", name := "bound", desc := "(ID)D" } : Jvm.MethodName) ({ cls := "BrewFunctionsModel", name := "bound", desc := "(ID)D" } : Jvm.MethodName)) ∈ lw_all := lw_g (lw_at lw_m2 148 rfl) rfl
theorem q400 : (Jvm.Cond.code ({ cls := "BrewFunctionsModel", name := "bound", desc := "(ID)D" } : Jvm.MethodName) prog_8_method_17_code (10 : Nat) (Option.some Jvm.ClassFile.FieldType.double)) ∈ lw_all := lw_g (lw_at lw_m2 149 rfl) rfl
theorem q401 : (Jvm.Cond.constantDouble "BrewFunctionsModel" (105 : Nat) (13830554455654793216 : UInt64)) ∈ lw_all := lw_g (lw_at lw_m2 150 rfl) rfl
theorem q402 : (Jvm.Cond.constantDouble "BrewFunctionsModel" (107 : Nat) (4427486594234968593 : UInt64)) ∈ lw_all := lw_g (lw_at lw_m2 151 rfl) rfl
theorem q403 : (Jvm.Cond.constantDouble "BrewFunctionsModel" (109 : Nat) (4412443251819771522 : UInt64)) ∈ lw_all := lw_g (lw_at lw_m2 152 rfl) rfl
theorem q404 : (Jvm.Cond.constantDouble "BrewFunctionsModel" (111 : Nat) (4397347889687374747 : UInt64)) ∈ lw_all := lw_g (lw_at lw_m2 153 rfl) rfl
theorem q405 : (Jvm.Cond.constantDouble "BrewFunctionsModel" (113 : Nat) (4382569440205035030 : UInt64)) ∈ lw_all := lw_g (lw_at lw_m2 154 rfl) rfl
theorem q407 : (Jvm.Cond.instanceMethod ({ cls := "BrewFunctionsModel", name := "code", desc := "()I" } : Jvm.MethodName)) ∈ lw_all := lw_g (lw_at lw_m2 156 rfl) rfl
theorem q408 : (Jvm.Cond.selects "BrewFunctionsModel" ({ cls := "BrewFunctionsModel", name := "code", desc := "()I" } : Jvm.MethodName) ({ cls := "BrewFunctionsModel", name := "code", desc := "()I" } : Jvm.MethodName)) ∈ lw_all := lw_g (lw_at lw_m2 157 rfl) rfl
theorem q409 : (Jvm.Cond.code ({ cls := "BrewFunctionsModel", name := "code", desc := "()I" } : Jvm.MethodName) prog_8_method_18_code (1 : Nat) (Option.some Jvm.ClassFile.FieldType.int)) ∈ lw_all := lw_g (lw_at lw_m2 158 rfl) rfl
theorem q411 : (Jvm.Cond.instanceMethod ({ cls := "BrewFunctionsModel", name := "made", desc := "()I" } : Jvm.MethodName)) ∈ lw_all := lw_g (lw_at lw_m2 160 rfl) rfl
theorem q412 : (Jvm.Cond.selects "BrewFunctionsModel" ({ cls := "BrewFunctionsModel", name := "made", desc := "()I" } : Jvm.MethodName) ({ cls := "BrewFunctionsModel", name := "made", desc := "()I" } : Jvm.MethodName)) ∈ lw_all := lw_g (lw_at lw_m2 161 rfl) rfl
theorem q413 : (Jvm.Cond.code ({ cls := "BrewFunctionsModel", name := "made", desc := "()I" } : Jvm.MethodName) prog_8_method_19_code (1 : Nat) (Option.some Jvm.ClassFile.FieldType.int)) ∈ lw_all := lw_g (lw_at lw_m2 162 rfl) rfl
theorem in_X7 : ∀ w ∈ wsX70, w ∈ lw_all := lw_in wsX70 [302, 304, 306, 308, 310, 312] (by decide +kernel) (by decide +kernel)
end
section
/-! the law's own entry -/
set_option maxRecDepth 100000
abbrev cL_law : ByteArray := code
theorem dL_law_0 : decode cL_law 0 = .ok (.new 7, 3) := by decide +kernel
theorem dL_law_3 : decode cL_law 3 = .ok (.dup, 1) := by decide +kernel
theorem dL_law_4 : decode cL_law 4 = .ok (.aload_n 0, 1) := by decide +kernel
theorem dL_law_5 : decode cL_law 5 = .ok (.iconst 0, 1) := by decide +kernel
theorem dL_law_6 : decode cL_law 6 = .ok (.invokestatic 9, 3) := by decide +kernel
theorem dL_law_9 : decode cL_law 9 = .ok (.i2l, 1) := by decide +kernel
theorem dL_law_10 : decode cL_law 10 = .ok (.invokespecial 15, 3) := by decide +kernel
theorem dL_law_13 : decode cL_law 13 = .ok (.astore_n 1, 1) := by decide +kernel
theorem dL_law_14 : decode cL_law 14 = .ok (.new 18, 3) := by decide +kernel
theorem dL_law_17 : decode cL_law 17 = .ok (.dup, 1) := by decide +kernel
theorem dL_law_18 : decode cL_law 18 = .ok (.aload_n 0, 1) := by decide +kernel
theorem dL_law_19 : decode cL_law 19 = .ok (.iconst 0, 1) := by decide +kernel
theorem dL_law_20 : decode cL_law 20 = .ok (.invokestatic 9, 3) := by decide +kernel
theorem dL_law_23 : decode cL_law 23 = .ok (.i2l, 1) := by decide +kernel
theorem dL_law_24 : decode cL_law 24 = .ok (.invokespecial 20, 3) := by decide +kernel
theorem dL_law_27 : decode cL_law 27 = .ok (.astore_n 2, 1) := by decide +kernel
theorem dL_law_28 : decode cL_law 28 = .ok (.iconst 1, 1) := by decide +kernel
theorem dL_law_29 : decode cL_law 29 = .ok (.istore_n 3, 1) := by decide +kernel
theorem dL_law_30 : decode cL_law 30 = .ok (.iload_n 3, 1) := by decide +kernel
theorem dL_law_31 : decode cL_law 31 = .ok (.aload_n 0, 1) := by decide +kernel
theorem dL_law_32 : decode cL_law 32 = .ok (.arraylength, 1) := by decide +kernel
theorem dL_law_33 : decode cL_law 33 = .ok (.iconst 5, 1) := by decide +kernel
theorem dL_law_34 : decode cL_law 34 = .ok (.isub, 1) := by decide +kernel
theorem dL_law_35 : decode cL_law 35 = .ok (.if_icmp .gt 695, 3) := by decide +kernel
theorem dL_law_38 : decode cL_law 38 = .ok (.aload_n 0, 1) := by decide +kernel
theorem dL_law_39 : decode cL_law 39 = .ok (.iload_n 3, 1) := by decide +kernel
theorem dL_law_40 : decode cL_law 40 = .ok (.iaload, 1) := by decide +kernel
theorem dL_law_41 : decode cL_law 41 = .ok (.bipush 15, 2) := by decide +kernel
theorem dL_law_43 : decode cL_law 43 = .ok (.iand, 1) := by decide +kernel
theorem dL_law_44 : decode cL_law 44 = .ok (.tableswitch 680 0 9 #[56, 117, 178, 259, 320, 381, 482, 583, 654, 667], 56) := by decide +kernel
theorem dL_law_100 : decode cL_law 100 = .ok (.aload_n 1, 1) := by decide +kernel
theorem dL_law_101 : decode cL_law 101 = .ok (.aload_n 0, 1) := by decide +kernel
theorem dL_law_102 : decode cL_law 102 = .ok (.iload_n 3, 1) := by decide +kernel
theorem dL_law_103 : decode cL_law 103 = .ok (.iconst 1, 1) := by decide +kernel
theorem dL_law_104 : decode cL_law 104 = .ok (.iadd, 1) := by decide +kernel
theorem dL_law_105 : decode cL_law 105 = .ok (.iaload, 1) := by decide +kernel
theorem dL_law_106 : decode cL_law 106 = .ok (.i2d, 1) := by decide +kernel
theorem dL_law_107 : decode cL_law 107 = .ok (.ldc2_w 21, 3) := by decide +kernel
theorem dL_law_110 : decode cL_law 110 = .ok (.dmul, 1) := by decide +kernel
theorem dL_law_111 : decode cL_law 111 = .ok (.invokevirtual 23, 3) := by decide +kernel
theorem dL_law_114 : decode cL_law 114 = .ok (.dstore 4, 2) := by decide +kernel
theorem dL_law_116 : decode cL_law 116 = .ok (.aload_n 2, 1) := by decide +kernel
theorem dL_law_117 : decode cL_law 117 = .ok (.aload_n 0, 1) := by decide +kernel
theorem dL_law_118 : decode cL_law 118 = .ok (.iload_n 3, 1) := by decide +kernel
theorem dL_law_119 : decode cL_law 119 = .ok (.iconst 1, 1) := by decide +kernel
theorem dL_law_120 : decode cL_law 120 = .ok (.iadd, 1) := by decide +kernel
theorem dL_law_121 : decode cL_law 121 = .ok (.iaload, 1) := by decide +kernel
theorem dL_law_122 : decode cL_law 122 = .ok (.i2d, 1) := by decide +kernel
theorem dL_law_123 : decode cL_law 123 = .ok (.ldc2_w 21, 3) := by decide +kernel
theorem dL_law_126 : decode cL_law 126 = .ok (.dmul, 1) := by decide +kernel
theorem dL_law_127 : decode cL_law 127 = .ok (.invokevirtual 27, 3) := by decide +kernel
theorem dL_law_130 : decode cL_law 130 = .ok (.dstore 6, 2) := by decide +kernel
theorem dL_law_132 : decode cL_law 132 = .ok (.dload 4, 2) := by decide +kernel
theorem dL_law_134 : decode cL_law 134 = .ok (.dload 6, 2) := by decide +kernel
theorem dL_law_136 : decode cL_law 136 = .ok (.dcmp .l, 1) := by decide +kernel
theorem dL_law_137 : decode cL_law 137 = .ok (.ifCond .eq 21, 3) := by decide +kernel
theorem dL_law_140 : decode cL_law 140 = .ok (.dload 4, 2) := by decide +kernel
theorem dL_law_142 : decode cL_law 142 = .ok (.dload 4, 2) := by decide +kernel
theorem dL_law_144 : decode cL_law 144 = .ok (.dcmp .l, 1) := by decide +kernel
theorem dL_law_145 : decode cL_law 145 = .ok (.ifCond .eq 11, 3) := by decide +kernel
theorem dL_law_148 : decode cL_law 148 = .ok (.dload 6, 2) := by decide +kernel
theorem dL_law_150 : decode cL_law 150 = .ok (.dload 6, 2) := by decide +kernel
theorem dL_law_152 : decode cL_law 152 = .ok (.dcmp .l, 1) := by decide +kernel
theorem dL_law_153 : decode cL_law 153 = .ok (.ifCond .ne 5, 3) := by decide +kernel
theorem dL_law_156 : decode cL_law 156 = .ok (.iconst 0, 1) := by decide +kernel
theorem dL_law_157 : decode cL_law 157 = .ok (.ireturn, 1) := by decide +kernel
theorem dL_law_158 : decode cL_law 158 = .ok (.goto 566, 3) := by decide +kernel
theorem dL_law_161 : decode cL_law 161 = .ok (.aload_n 1, 1) := by decide +kernel
theorem dL_law_162 : decode cL_law 162 = .ok (.aload_n 0, 1) := by decide +kernel
theorem dL_law_163 : decode cL_law 163 = .ok (.iload_n 3, 1) := by decide +kernel
theorem dL_law_164 : decode cL_law 164 = .ok (.iconst 1, 1) := by decide +kernel
theorem dL_law_165 : decode cL_law 165 = .ok (.iadd, 1) := by decide +kernel
theorem dL_law_166 : decode cL_law 166 = .ok (.iaload, 1) := by decide +kernel
theorem dL_law_167 : decode cL_law 167 = .ok (.i2d, 1) := by decide +kernel
theorem dL_law_168 : decode cL_law 168 = .ok (.ldc2_w 21, 3) := by decide +kernel
theorem dL_law_171 : decode cL_law 171 = .ok (.dmul, 1) := by decide +kernel
theorem dL_law_172 : decode cL_law 172 = .ok (.invokevirtual 28, 3) := by decide +kernel
theorem dL_law_175 : decode cL_law 175 = .ok (.dstore 4, 2) := by decide +kernel
theorem dL_law_177 : decode cL_law 177 = .ok (.aload_n 2, 1) := by decide +kernel
theorem dL_law_178 : decode cL_law 178 = .ok (.aload_n 0, 1) := by decide +kernel
theorem dL_law_179 : decode cL_law 179 = .ok (.iload_n 3, 1) := by decide +kernel
theorem dL_law_180 : decode cL_law 180 = .ok (.iconst 1, 1) := by decide +kernel
theorem dL_law_181 : decode cL_law 181 = .ok (.iadd, 1) := by decide +kernel
theorem dL_law_182 : decode cL_law 182 = .ok (.iaload, 1) := by decide +kernel
theorem dL_law_183 : decode cL_law 183 = .ok (.i2d, 1) := by decide +kernel
theorem dL_law_184 : decode cL_law 184 = .ok (.ldc2_w 21, 3) := by decide +kernel
theorem dL_law_187 : decode cL_law 187 = .ok (.dmul, 1) := by decide +kernel
theorem dL_law_188 : decode cL_law 188 = .ok (.invokevirtual 31, 3) := by decide +kernel
theorem dL_law_191 : decode cL_law 191 = .ok (.dstore 6, 2) := by decide +kernel
theorem dL_law_193 : decode cL_law 193 = .ok (.dload 4, 2) := by decide +kernel
theorem dL_law_195 : decode cL_law 195 = .ok (.dload 6, 2) := by decide +kernel
theorem dL_law_197 : decode cL_law 197 = .ok (.dcmp .l, 1) := by decide +kernel
theorem dL_law_198 : decode cL_law 198 = .ok (.ifCond .eq 21, 3) := by decide +kernel
theorem dL_law_201 : decode cL_law 201 = .ok (.dload 4, 2) := by decide +kernel
theorem dL_law_203 : decode cL_law 203 = .ok (.dload 4, 2) := by decide +kernel
theorem dL_law_205 : decode cL_law 205 = .ok (.dcmp .l, 1) := by decide +kernel
theorem dL_law_206 : decode cL_law 206 = .ok (.ifCond .eq 11, 3) := by decide +kernel
theorem dL_law_209 : decode cL_law 209 = .ok (.dload 6, 2) := by decide +kernel
theorem dL_law_211 : decode cL_law 211 = .ok (.dload 6, 2) := by decide +kernel
theorem dL_law_213 : decode cL_law 213 = .ok (.dcmp .l, 1) := by decide +kernel
theorem dL_law_214 : decode cL_law 214 = .ok (.ifCond .ne 5, 3) := by decide +kernel
theorem dL_law_217 : decode cL_law 217 = .ok (.iconst 0, 1) := by decide +kernel
theorem dL_law_218 : decode cL_law 218 = .ok (.ireturn, 1) := by decide +kernel
theorem dL_law_219 : decode cL_law 219 = .ok (.goto 505, 3) := by decide +kernel
theorem dL_law_222 : decode cL_law 222 = .ok (.aload_n 1, 1) := by decide +kernel
theorem dL_law_223 : decode cL_law 223 = .ok (.aload_n 0, 1) := by decide +kernel
theorem dL_law_224 : decode cL_law 224 = .ok (.iload_n 3, 1) := by decide +kernel
theorem dL_law_225 : decode cL_law 225 = .ok (.iconst 1, 1) := by decide +kernel
theorem dL_law_226 : decode cL_law 226 = .ok (.iadd, 1) := by decide +kernel
theorem dL_law_227 : decode cL_law 227 = .ok (.iaload, 1) := by decide +kernel
theorem dL_law_228 : decode cL_law 228 = .ok (.i2d, 1) := by decide +kernel
theorem dL_law_229 : decode cL_law 229 = .ok (.ldc2_w 21, 3) := by decide +kernel
theorem dL_law_232 : decode cL_law 232 = .ok (.dmul, 1) := by decide +kernel
theorem dL_law_233 : decode cL_law 233 = .ok (.aload_n 0, 1) := by decide +kernel
theorem dL_law_234 : decode cL_law 234 = .ok (.iload_n 3, 1) := by decide +kernel
theorem dL_law_235 : decode cL_law 235 = .ok (.iconst 2, 1) := by decide +kernel
theorem dL_law_236 : decode cL_law 236 = .ok (.iadd, 1) := by decide +kernel
theorem dL_law_237 : decode cL_law 237 = .ok (.iaload, 1) := by decide +kernel
theorem dL_law_238 : decode cL_law 238 = .ok (.i2d, 1) := by decide +kernel
theorem dL_law_239 : decode cL_law 239 = .ok (.ldc2_w 21, 3) := by decide +kernel
theorem dL_law_242 : decode cL_law 242 = .ok (.dmul, 1) := by decide +kernel
theorem dL_law_243 : decode cL_law 243 = .ok (.invokevirtual 32, 3) := by decide +kernel
theorem dL_law_246 : decode cL_law 246 = .ok (.dstore 4, 2) := by decide +kernel
theorem dL_law_248 : decode cL_law 248 = .ok (.aload_n 2, 1) := by decide +kernel
theorem dL_law_249 : decode cL_law 249 = .ok (.aload_n 0, 1) := by decide +kernel
theorem dL_law_250 : decode cL_law 250 = .ok (.iload_n 3, 1) := by decide +kernel
theorem dL_law_251 : decode cL_law 251 = .ok (.iconst 1, 1) := by decide +kernel
theorem dL_law_252 : decode cL_law 252 = .ok (.iadd, 1) := by decide +kernel
theorem dL_law_253 : decode cL_law 253 = .ok (.iaload, 1) := by decide +kernel
theorem dL_law_254 : decode cL_law 254 = .ok (.i2d, 1) := by decide +kernel
theorem dL_law_255 : decode cL_law 255 = .ok (.ldc2_w 21, 3) := by decide +kernel
theorem dL_law_258 : decode cL_law 258 = .ok (.dmul, 1) := by decide +kernel
theorem dL_law_259 : decode cL_law 259 = .ok (.aload_n 0, 1) := by decide +kernel
theorem dL_law_260 : decode cL_law 260 = .ok (.iload_n 3, 1) := by decide +kernel
theorem dL_law_261 : decode cL_law 261 = .ok (.iconst 2, 1) := by decide +kernel
theorem dL_law_262 : decode cL_law 262 = .ok (.iadd, 1) := by decide +kernel
theorem dL_law_263 : decode cL_law 263 = .ok (.iaload, 1) := by decide +kernel
theorem dL_law_264 : decode cL_law 264 = .ok (.i2d, 1) := by decide +kernel
theorem dL_law_265 : decode cL_law 265 = .ok (.ldc2_w 21, 3) := by decide +kernel
theorem dL_law_268 : decode cL_law 268 = .ok (.dmul, 1) := by decide +kernel
theorem dL_law_269 : decode cL_law 269 = .ok (.invokevirtual 36, 3) := by decide +kernel
theorem dL_law_272 : decode cL_law 272 = .ok (.dstore 6, 2) := by decide +kernel
theorem dL_law_274 : decode cL_law 274 = .ok (.dload 4, 2) := by decide +kernel
theorem dL_law_276 : decode cL_law 276 = .ok (.dload 6, 2) := by decide +kernel
theorem dL_law_278 : decode cL_law 278 = .ok (.dcmp .l, 1) := by decide +kernel
theorem dL_law_279 : decode cL_law 279 = .ok (.ifCond .eq 21, 3) := by decide +kernel
theorem dL_law_282 : decode cL_law 282 = .ok (.dload 4, 2) := by decide +kernel
theorem dL_law_284 : decode cL_law 284 = .ok (.dload 4, 2) := by decide +kernel
theorem dL_law_286 : decode cL_law 286 = .ok (.dcmp .l, 1) := by decide +kernel
theorem dL_law_287 : decode cL_law 287 = .ok (.ifCond .eq 11, 3) := by decide +kernel
theorem dL_law_290 : decode cL_law 290 = .ok (.dload 6, 2) := by decide +kernel
theorem dL_law_292 : decode cL_law 292 = .ok (.dload 6, 2) := by decide +kernel
theorem dL_law_294 : decode cL_law 294 = .ok (.dcmp .l, 1) := by decide +kernel
theorem dL_law_295 : decode cL_law 295 = .ok (.ifCond .ne 5, 3) := by decide +kernel
theorem dL_law_298 : decode cL_law 298 = .ok (.iconst 0, 1) := by decide +kernel
theorem dL_law_299 : decode cL_law 299 = .ok (.ireturn, 1) := by decide +kernel
theorem dL_law_300 : decode cL_law 300 = .ok (.goto 424, 3) := by decide +kernel
theorem dL_law_303 : decode cL_law 303 = .ok (.aload_n 1, 1) := by decide +kernel
theorem dL_law_304 : decode cL_law 304 = .ok (.aload_n 0, 1) := by decide +kernel
theorem dL_law_305 : decode cL_law 305 = .ok (.iload_n 3, 1) := by decide +kernel
theorem dL_law_306 : decode cL_law 306 = .ok (.iconst 1, 1) := by decide +kernel
theorem dL_law_307 : decode cL_law 307 = .ok (.iadd, 1) := by decide +kernel
theorem dL_law_308 : decode cL_law 308 = .ok (.iaload, 1) := by decide +kernel
theorem dL_law_309 : decode cL_law 309 = .ok (.i2d, 1) := by decide +kernel
theorem dL_law_310 : decode cL_law 310 = .ok (.ldc2_w 21, 3) := by decide +kernel
theorem dL_law_313 : decode cL_law 313 = .ok (.dmul, 1) := by decide +kernel
theorem dL_law_314 : decode cL_law 314 = .ok (.invokevirtual 37, 3) := by decide +kernel
theorem dL_law_317 : decode cL_law 317 = .ok (.dstore 4, 2) := by decide +kernel
theorem dL_law_319 : decode cL_law 319 = .ok (.aload_n 2, 1) := by decide +kernel
theorem dL_law_320 : decode cL_law 320 = .ok (.aload_n 0, 1) := by decide +kernel
theorem dL_law_321 : decode cL_law 321 = .ok (.iload_n 3, 1) := by decide +kernel
theorem dL_law_322 : decode cL_law 322 = .ok (.iconst 1, 1) := by decide +kernel
theorem dL_law_323 : decode cL_law 323 = .ok (.iadd, 1) := by decide +kernel
theorem dL_law_324 : decode cL_law 324 = .ok (.iaload, 1) := by decide +kernel
theorem dL_law_325 : decode cL_law 325 = .ok (.i2d, 1) := by decide +kernel
theorem dL_law_326 : decode cL_law 326 = .ok (.ldc2_w 21, 3) := by decide +kernel
theorem dL_law_329 : decode cL_law 329 = .ok (.dmul, 1) := by decide +kernel
theorem dL_law_330 : decode cL_law 330 = .ok (.invokevirtual 40, 3) := by decide +kernel
theorem dL_law_333 : decode cL_law 333 = .ok (.dstore 6, 2) := by decide +kernel
theorem dL_law_335 : decode cL_law 335 = .ok (.dload 4, 2) := by decide +kernel
theorem dL_law_337 : decode cL_law 337 = .ok (.dload 6, 2) := by decide +kernel
theorem dL_law_339 : decode cL_law 339 = .ok (.dcmp .l, 1) := by decide +kernel
theorem dL_law_340 : decode cL_law 340 = .ok (.ifCond .eq 21, 3) := by decide +kernel
theorem dL_law_343 : decode cL_law 343 = .ok (.dload 4, 2) := by decide +kernel
theorem dL_law_345 : decode cL_law 345 = .ok (.dload 4, 2) := by decide +kernel
theorem dL_law_347 : decode cL_law 347 = .ok (.dcmp .l, 1) := by decide +kernel
theorem dL_law_348 : decode cL_law 348 = .ok (.ifCond .eq 11, 3) := by decide +kernel
theorem dL_law_351 : decode cL_law 351 = .ok (.dload 6, 2) := by decide +kernel
theorem dL_law_353 : decode cL_law 353 = .ok (.dload 6, 2) := by decide +kernel
theorem dL_law_355 : decode cL_law 355 = .ok (.dcmp .l, 1) := by decide +kernel
theorem dL_law_356 : decode cL_law 356 = .ok (.ifCond .ne 5, 3) := by decide +kernel
theorem dL_law_359 : decode cL_law 359 = .ok (.iconst 0, 1) := by decide +kernel
theorem dL_law_360 : decode cL_law 360 = .ok (.ireturn, 1) := by decide +kernel
theorem dL_law_361 : decode cL_law 361 = .ok (.goto 363, 3) := by decide +kernel
theorem dL_law_364 : decode cL_law 364 = .ok (.aload_n 1, 1) := by decide +kernel
theorem dL_law_365 : decode cL_law 365 = .ok (.aload_n 0, 1) := by decide +kernel
theorem dL_law_366 : decode cL_law 366 = .ok (.iload_n 3, 1) := by decide +kernel
theorem dL_law_367 : decode cL_law 367 = .ok (.iconst 1, 1) := by decide +kernel
theorem dL_law_368 : decode cL_law 368 = .ok (.iadd, 1) := by decide +kernel
theorem dL_law_369 : decode cL_law 369 = .ok (.iaload, 1) := by decide +kernel
theorem dL_law_370 : decode cL_law 370 = .ok (.i2d, 1) := by decide +kernel
theorem dL_law_371 : decode cL_law 371 = .ok (.ldc2_w 21, 3) := by decide +kernel
theorem dL_law_374 : decode cL_law 374 = .ok (.dmul, 1) := by decide +kernel
theorem dL_law_375 : decode cL_law 375 = .ok (.invokevirtual 41, 3) := by decide +kernel
theorem dL_law_378 : decode cL_law 378 = .ok (.dstore 4, 2) := by decide +kernel
theorem dL_law_380 : decode cL_law 380 = .ok (.aload_n 2, 1) := by decide +kernel
theorem dL_law_381 : decode cL_law 381 = .ok (.aload_n 0, 1) := by decide +kernel
theorem dL_law_382 : decode cL_law 382 = .ok (.iload_n 3, 1) := by decide +kernel
theorem dL_law_383 : decode cL_law 383 = .ok (.iconst 1, 1) := by decide +kernel
theorem dL_law_384 : decode cL_law 384 = .ok (.iadd, 1) := by decide +kernel
theorem dL_law_385 : decode cL_law 385 = .ok (.iaload, 1) := by decide +kernel
theorem dL_law_386 : decode cL_law 386 = .ok (.i2d, 1) := by decide +kernel
theorem dL_law_387 : decode cL_law 387 = .ok (.ldc2_w 21, 3) := by decide +kernel
theorem dL_law_390 : decode cL_law 390 = .ok (.dmul, 1) := by decide +kernel
theorem dL_law_391 : decode cL_law 391 = .ok (.invokevirtual 44, 3) := by decide +kernel
theorem dL_law_394 : decode cL_law 394 = .ok (.dstore 6, 2) := by decide +kernel
theorem dL_law_396 : decode cL_law 396 = .ok (.dload 4, 2) := by decide +kernel
theorem dL_law_398 : decode cL_law 398 = .ok (.dload 6, 2) := by decide +kernel
theorem dL_law_400 : decode cL_law 400 = .ok (.dcmp .l, 1) := by decide +kernel
theorem dL_law_401 : decode cL_law 401 = .ok (.ifCond .eq 21, 3) := by decide +kernel
theorem dL_law_404 : decode cL_law 404 = .ok (.dload 4, 2) := by decide +kernel
theorem dL_law_406 : decode cL_law 406 = .ok (.dload 4, 2) := by decide +kernel
theorem dL_law_408 : decode cL_law 408 = .ok (.dcmp .l, 1) := by decide +kernel
theorem dL_law_409 : decode cL_law 409 = .ok (.ifCond .eq 11, 3) := by decide +kernel
theorem dL_law_412 : decode cL_law 412 = .ok (.dload 6, 2) := by decide +kernel
theorem dL_law_414 : decode cL_law 414 = .ok (.dload 6, 2) := by decide +kernel
theorem dL_law_416 : decode cL_law 416 = .ok (.dcmp .l, 1) := by decide +kernel
end
section
set_option maxRecDepth 100000
theorem dL_law_417 : decode cL_law 417 = .ok (.ifCond .ne 5, 3) := by decide +kernel
theorem dL_law_420 : decode cL_law 420 = .ok (.iconst 0, 1) := by decide +kernel
theorem dL_law_421 : decode cL_law 421 = .ok (.ireturn, 1) := by decide +kernel
theorem dL_law_422 : decode cL_law 422 = .ok (.goto 302, 3) := by decide +kernel
theorem dL_law_425 : decode cL_law 425 = .ok (.aload_n 1, 1) := by decide +kernel
theorem dL_law_426 : decode cL_law 426 = .ok (.aload_n 0, 1) := by decide +kernel
theorem dL_law_427 : decode cL_law 427 = .ok (.iload_n 3, 1) := by decide +kernel
theorem dL_law_428 : decode cL_law 428 = .ok (.iconst 1, 1) := by decide +kernel
theorem dL_law_429 : decode cL_law 429 = .ok (.iadd, 1) := by decide +kernel
theorem dL_law_430 : decode cL_law 430 = .ok (.iaload, 1) := by decide +kernel
theorem dL_law_431 : decode cL_law 431 = .ok (.i2d, 1) := by decide +kernel
theorem dL_law_432 : decode cL_law 432 = .ok (.ldc2_w 21, 3) := by decide +kernel
theorem dL_law_435 : decode cL_law 435 = .ok (.dmul, 1) := by decide +kernel
theorem dL_law_436 : decode cL_law 436 = .ok (.aload_n 0, 1) := by decide +kernel
theorem dL_law_437 : decode cL_law 437 = .ok (.iload_n 3, 1) := by decide +kernel
theorem dL_law_438 : decode cL_law 438 = .ok (.iconst 2, 1) := by decide +kernel
theorem dL_law_439 : decode cL_law 439 = .ok (.iadd, 1) := by decide +kernel
theorem dL_law_440 : decode cL_law 440 = .ok (.iaload, 1) := by decide +kernel
theorem dL_law_441 : decode cL_law 441 = .ok (.i2d, 1) := by decide +kernel
theorem dL_law_442 : decode cL_law 442 = .ok (.ldc2_w 21, 3) := by decide +kernel
theorem dL_law_445 : decode cL_law 445 = .ok (.dmul, 1) := by decide +kernel
theorem dL_law_446 : decode cL_law 446 = .ok (.aload_n 0, 1) := by decide +kernel
theorem dL_law_447 : decode cL_law 447 = .ok (.iload_n 3, 1) := by decide +kernel
theorem dL_law_448 : decode cL_law 448 = .ok (.iconst 3, 1) := by decide +kernel
theorem dL_law_449 : decode cL_law 449 = .ok (.iadd, 1) := by decide +kernel
theorem dL_law_450 : decode cL_law 450 = .ok (.iaload, 1) := by decide +kernel
theorem dL_law_451 : decode cL_law 451 = .ok (.i2d, 1) := by decide +kernel
theorem dL_law_452 : decode cL_law 452 = .ok (.ldc2_w 21, 3) := by decide +kernel
theorem dL_law_455 : decode cL_law 455 = .ok (.dmul, 1) := by decide +kernel
theorem dL_law_456 : decode cL_law 456 = .ok (.invokevirtual 45, 3) := by decide +kernel
theorem dL_law_459 : decode cL_law 459 = .ok (.dstore 4, 2) := by decide +kernel
theorem dL_law_461 : decode cL_law 461 = .ok (.aload_n 2, 1) := by decide +kernel
theorem dL_law_462 : decode cL_law 462 = .ok (.aload_n 0, 1) := by decide +kernel
theorem dL_law_463 : decode cL_law 463 = .ok (.iload_n 3, 1) := by decide +kernel
theorem dL_law_464 : decode cL_law 464 = .ok (.iconst 1, 1) := by decide +kernel
theorem dL_law_465 : decode cL_law 465 = .ok (.iadd, 1) := by decide +kernel
theorem dL_law_466 : decode cL_law 466 = .ok (.iaload, 1) := by decide +kernel
theorem dL_law_467 : decode cL_law 467 = .ok (.i2d, 1) := by decide +kernel
theorem dL_law_468 : decode cL_law 468 = .ok (.ldc2_w 21, 3) := by decide +kernel
theorem dL_law_471 : decode cL_law 471 = .ok (.dmul, 1) := by decide +kernel
theorem dL_law_472 : decode cL_law 472 = .ok (.aload_n 0, 1) := by decide +kernel
theorem dL_law_473 : decode cL_law 473 = .ok (.iload_n 3, 1) := by decide +kernel
theorem dL_law_474 : decode cL_law 474 = .ok (.iconst 2, 1) := by decide +kernel
theorem dL_law_475 : decode cL_law 475 = .ok (.iadd, 1) := by decide +kernel
theorem dL_law_476 : decode cL_law 476 = .ok (.iaload, 1) := by decide +kernel
theorem dL_law_477 : decode cL_law 477 = .ok (.i2d, 1) := by decide +kernel
theorem dL_law_478 : decode cL_law 478 = .ok (.ldc2_w 21, 3) := by decide +kernel
theorem dL_law_481 : decode cL_law 481 = .ok (.dmul, 1) := by decide +kernel
theorem dL_law_482 : decode cL_law 482 = .ok (.aload_n 0, 1) := by decide +kernel
theorem dL_law_483 : decode cL_law 483 = .ok (.iload_n 3, 1) := by decide +kernel
theorem dL_law_484 : decode cL_law 484 = .ok (.iconst 3, 1) := by decide +kernel
theorem dL_law_485 : decode cL_law 485 = .ok (.iadd, 1) := by decide +kernel
theorem dL_law_486 : decode cL_law 486 = .ok (.iaload, 1) := by decide +kernel
theorem dL_law_487 : decode cL_law 487 = .ok (.i2d, 1) := by decide +kernel
theorem dL_law_488 : decode cL_law 488 = .ok (.ldc2_w 21, 3) := by decide +kernel
theorem dL_law_491 : decode cL_law 491 = .ok (.dmul, 1) := by decide +kernel
theorem dL_law_492 : decode cL_law 492 = .ok (.invokevirtual 49, 3) := by decide +kernel
theorem dL_law_495 : decode cL_law 495 = .ok (.dstore 6, 2) := by decide +kernel
theorem dL_law_497 : decode cL_law 497 = .ok (.dload 4, 2) := by decide +kernel
theorem dL_law_499 : decode cL_law 499 = .ok (.dload 6, 2) := by decide +kernel
theorem dL_law_501 : decode cL_law 501 = .ok (.dcmp .l, 1) := by decide +kernel
theorem dL_law_502 : decode cL_law 502 = .ok (.ifCond .eq 21, 3) := by decide +kernel
theorem dL_law_505 : decode cL_law 505 = .ok (.dload 4, 2) := by decide +kernel
theorem dL_law_507 : decode cL_law 507 = .ok (.dload 4, 2) := by decide +kernel
theorem dL_law_509 : decode cL_law 509 = .ok (.dcmp .l, 1) := by decide +kernel
theorem dL_law_510 : decode cL_law 510 = .ok (.ifCond .eq 11, 3) := by decide +kernel
theorem dL_law_513 : decode cL_law 513 = .ok (.dload 6, 2) := by decide +kernel
theorem dL_law_515 : decode cL_law 515 = .ok (.dload 6, 2) := by decide +kernel
theorem dL_law_517 : decode cL_law 517 = .ok (.dcmp .l, 1) := by decide +kernel
theorem dL_law_518 : decode cL_law 518 = .ok (.ifCond .ne 5, 3) := by decide +kernel
theorem dL_law_521 : decode cL_law 521 = .ok (.iconst 0, 1) := by decide +kernel
theorem dL_law_522 : decode cL_law 522 = .ok (.ireturn, 1) := by decide +kernel
theorem dL_law_523 : decode cL_law 523 = .ok (.goto 201, 3) := by decide +kernel
theorem dL_law_526 : decode cL_law 526 = .ok (.aload_n 1, 1) := by decide +kernel
theorem dL_law_527 : decode cL_law 527 = .ok (.aload_n 0, 1) := by decide +kernel
theorem dL_law_528 : decode cL_law 528 = .ok (.iload_n 3, 1) := by decide +kernel
theorem dL_law_529 : decode cL_law 529 = .ok (.iconst 1, 1) := by decide +kernel
theorem dL_law_530 : decode cL_law 530 = .ok (.iadd, 1) := by decide +kernel
theorem dL_law_531 : decode cL_law 531 = .ok (.iaload, 1) := by decide +kernel
theorem dL_law_532 : decode cL_law 532 = .ok (.aload_n 0, 1) := by decide +kernel
theorem dL_law_533 : decode cL_law 533 = .ok (.iload_n 3, 1) := by decide +kernel
theorem dL_law_534 : decode cL_law 534 = .ok (.iconst 2, 1) := by decide +kernel
theorem dL_law_535 : decode cL_law 535 = .ok (.iadd, 1) := by decide +kernel
theorem dL_law_536 : decode cL_law 536 = .ok (.iaload, 1) := by decide +kernel
theorem dL_law_537 : decode cL_law 537 = .ok (.i2l, 1) := by decide +kernel
theorem dL_law_538 : decode cL_law 538 = .ok (.bipush 32, 2) := by decide +kernel
theorem dL_law_540 : decode cL_law 540 = .ok (.lshl, 1) := by decide +kernel
theorem dL_law_541 : decode cL_law 541 = .ok (.aload_n 0, 1) := by decide +kernel
theorem dL_law_542 : decode cL_law 542 = .ok (.iload_n 3, 1) := by decide +kernel
theorem dL_law_543 : decode cL_law 543 = .ok (.iconst 3, 1) := by decide +kernel
theorem dL_law_544 : decode cL_law 544 = .ok (.iadd, 1) := by decide +kernel
theorem dL_law_545 : decode cL_law 545 = .ok (.iaload, 1) := by decide +kernel
theorem dL_law_546 : decode cL_law 546 = .ok (.i2l, 1) := by decide +kernel
theorem dL_law_547 : decode cL_law 547 = .ok (.ldc2_w 50, 3) := by decide +kernel
theorem dL_law_550 : decode cL_law 550 = .ok (.land, 1) := by decide +kernel
theorem dL_law_551 : decode cL_law 551 = .ok (.lor, 1) := by decide +kernel
theorem dL_law_552 : decode cL_law 552 = .ok (.aload_n 0, 1) := by decide +kernel
theorem dL_law_553 : decode cL_law 553 = .ok (.iload_n 3, 1) := by decide +kernel
theorem dL_law_554 : decode cL_law 554 = .ok (.iconst 4, 1) := by decide +kernel
theorem dL_law_555 : decode cL_law 555 = .ok (.iadd, 1) := by decide +kernel
theorem dL_law_556 : decode cL_law 556 = .ok (.iaload, 1) := by decide +kernel
theorem dL_law_557 : decode cL_law 557 = .ok (.invokevirtual 52, 3) := by decide +kernel
theorem dL_law_560 : decode cL_law 560 = .ok (.dstore 4, 2) := by decide +kernel
theorem dL_law_562 : decode cL_law 562 = .ok (.aload_n 2, 1) := by decide +kernel
theorem dL_law_563 : decode cL_law 563 = .ok (.aload_n 0, 1) := by decide +kernel
theorem dL_law_564 : decode cL_law 564 = .ok (.iload_n 3, 1) := by decide +kernel
theorem dL_law_565 : decode cL_law 565 = .ok (.iconst 1, 1) := by decide +kernel
theorem dL_law_566 : decode cL_law 566 = .ok (.iadd, 1) := by decide +kernel
theorem dL_law_567 : decode cL_law 567 = .ok (.iaload, 1) := by decide +kernel
theorem dL_law_568 : decode cL_law 568 = .ok (.aload_n 0, 1) := by decide +kernel
theorem dL_law_569 : decode cL_law 569 = .ok (.iload_n 3, 1) := by decide +kernel
theorem dL_law_570 : decode cL_law 570 = .ok (.iconst 2, 1) := by decide +kernel
theorem dL_law_571 : decode cL_law 571 = .ok (.iadd, 1) := by decide +kernel
theorem dL_law_572 : decode cL_law 572 = .ok (.iaload, 1) := by decide +kernel
theorem dL_law_573 : decode cL_law 573 = .ok (.i2l, 1) := by decide +kernel
theorem dL_law_574 : decode cL_law 574 = .ok (.bipush 32, 2) := by decide +kernel
theorem dL_law_576 : decode cL_law 576 = .ok (.lshl, 1) := by decide +kernel
theorem dL_law_577 : decode cL_law 577 = .ok (.aload_n 0, 1) := by decide +kernel
theorem dL_law_578 : decode cL_law 578 = .ok (.iload_n 3, 1) := by decide +kernel
theorem dL_law_579 : decode cL_law 579 = .ok (.iconst 3, 1) := by decide +kernel
theorem dL_law_580 : decode cL_law 580 = .ok (.iadd, 1) := by decide +kernel
theorem dL_law_581 : decode cL_law 581 = .ok (.iaload, 1) := by decide +kernel
theorem dL_law_582 : decode cL_law 582 = .ok (.i2l, 1) := by decide +kernel
theorem dL_law_583 : decode cL_law 583 = .ok (.ldc2_w 50, 3) := by decide +kernel
theorem dL_law_586 : decode cL_law 586 = .ok (.land, 1) := by decide +kernel
theorem dL_law_587 : decode cL_law 587 = .ok (.lor, 1) := by decide +kernel
theorem dL_law_588 : decode cL_law 588 = .ok (.aload_n 0, 1) := by decide +kernel
theorem dL_law_589 : decode cL_law 589 = .ok (.iload_n 3, 1) := by decide +kernel
theorem dL_law_590 : decode cL_law 590 = .ok (.iconst 4, 1) := by decide +kernel
theorem dL_law_591 : decode cL_law 591 = .ok (.iadd, 1) := by decide +kernel
theorem dL_law_592 : decode cL_law 592 = .ok (.iaload, 1) := by decide +kernel
theorem dL_law_593 : decode cL_law 593 = .ok (.invokevirtual 56, 3) := by decide +kernel
theorem dL_law_596 : decode cL_law 596 = .ok (.dstore 6, 2) := by decide +kernel
theorem dL_law_598 : decode cL_law 598 = .ok (.dload 4, 2) := by decide +kernel
theorem dL_law_600 : decode cL_law 600 = .ok (.dload 6, 2) := by decide +kernel
theorem dL_law_602 : decode cL_law 602 = .ok (.dcmp .l, 1) := by decide +kernel
theorem dL_law_603 : decode cL_law 603 = .ok (.ifCond .eq 21, 3) := by decide +kernel
theorem dL_law_606 : decode cL_law 606 = .ok (.dload 4, 2) := by decide +kernel
theorem dL_law_608 : decode cL_law 608 = .ok (.dload 4, 2) := by decide +kernel
theorem dL_law_610 : decode cL_law 610 = .ok (.dcmp .l, 1) := by decide +kernel
theorem dL_law_611 : decode cL_law 611 = .ok (.ifCond .eq 11, 3) := by decide +kernel
theorem dL_law_614 : decode cL_law 614 = .ok (.dload 6, 2) := by decide +kernel
theorem dL_law_616 : decode cL_law 616 = .ok (.dload 6, 2) := by decide +kernel
theorem dL_law_618 : decode cL_law 618 = .ok (.dcmp .l, 1) := by decide +kernel
theorem dL_law_619 : decode cL_law 619 = .ok (.ifCond .ne 5, 3) := by decide +kernel
theorem dL_law_622 : decode cL_law 622 = .ok (.iconst 0, 1) := by decide +kernel
theorem dL_law_623 : decode cL_law 623 = .ok (.ireturn, 1) := by decide +kernel
theorem dL_law_624 : decode cL_law 624 = .ok (.goto 100, 3) := by decide +kernel
theorem dL_law_627 : decode cL_law 627 = .ok (.aload_n 1, 1) := by decide +kernel
theorem dL_law_628 : decode cL_law 628 = .ok (.aload_n 0, 1) := by decide +kernel
theorem dL_law_629 : decode cL_law 629 = .ok (.iload_n 3, 1) := by decide +kernel
theorem dL_law_630 : decode cL_law 630 = .ok (.iconst 1, 1) := by decide +kernel
theorem dL_law_631 : decode cL_law 631 = .ok (.iadd, 1) := by decide +kernel
theorem dL_law_632 : decode cL_law 632 = .ok (.iaload, 1) := by decide +kernel
theorem dL_law_633 : decode cL_law 633 = .ok (.aload_n 0, 1) := by decide +kernel
theorem dL_law_634 : decode cL_law 634 = .ok (.iload_n 3, 1) := by decide +kernel
theorem dL_law_635 : decode cL_law 635 = .ok (.iconst 2, 1) := by decide +kernel
theorem dL_law_636 : decode cL_law 636 = .ok (.iadd, 1) := by decide +kernel
theorem dL_law_637 : decode cL_law 637 = .ok (.iaload, 1) := by decide +kernel
theorem dL_law_638 : decode cL_law 638 = .ok (.i2d, 1) := by decide +kernel
theorem dL_law_639 : decode cL_law 639 = .ok (.ldc2_w 21, 3) := by decide +kernel
theorem dL_law_642 : decode cL_law 642 = .ok (.dmul, 1) := by decide +kernel
theorem dL_law_643 : decode cL_law 643 = .ok (.invokevirtual 57, 3) := by decide +kernel
theorem dL_law_646 : decode cL_law 646 = .ok (.dstore 4, 2) := by decide +kernel
theorem dL_law_648 : decode cL_law 648 = .ok (.aload_n 2, 1) := by decide +kernel
theorem dL_law_649 : decode cL_law 649 = .ok (.aload_n 0, 1) := by decide +kernel
theorem dL_law_650 : decode cL_law 650 = .ok (.iload_n 3, 1) := by decide +kernel
theorem dL_law_651 : decode cL_law 651 = .ok (.iconst 1, 1) := by decide +kernel
theorem dL_law_652 : decode cL_law 652 = .ok (.iadd, 1) := by decide +kernel
theorem dL_law_653 : decode cL_law 653 = .ok (.iaload, 1) := by decide +kernel
theorem dL_law_654 : decode cL_law 654 = .ok (.aload_n 0, 1) := by decide +kernel
theorem dL_law_655 : decode cL_law 655 = .ok (.iload_n 3, 1) := by decide +kernel
theorem dL_law_656 : decode cL_law 656 = .ok (.iconst 2, 1) := by decide +kernel
theorem dL_law_657 : decode cL_law 657 = .ok (.iadd, 1) := by decide +kernel
theorem dL_law_658 : decode cL_law 658 = .ok (.iaload, 1) := by decide +kernel
theorem dL_law_659 : decode cL_law 659 = .ok (.i2d, 1) := by decide +kernel
theorem dL_law_660 : decode cL_law 660 = .ok (.ldc2_w 21, 3) := by decide +kernel
theorem dL_law_663 : decode cL_law 663 = .ok (.dmul, 1) := by decide +kernel
theorem dL_law_664 : decode cL_law 664 = .ok (.invokevirtual 61, 3) := by decide +kernel
theorem dL_law_667 : decode cL_law 667 = .ok (.dstore 6, 2) := by decide +kernel
theorem dL_law_669 : decode cL_law 669 = .ok (.dload 4, 2) := by decide +kernel
theorem dL_law_671 : decode cL_law 671 = .ok (.dload 6, 2) := by decide +kernel
theorem dL_law_673 : decode cL_law 673 = .ok (.dcmp .l, 1) := by decide +kernel
theorem dL_law_674 : decode cL_law 674 = .ok (.ifCond .eq 21, 3) := by decide +kernel
theorem dL_law_677 : decode cL_law 677 = .ok (.dload 4, 2) := by decide +kernel
theorem dL_law_679 : decode cL_law 679 = .ok (.dload 4, 2) := by decide +kernel
theorem dL_law_681 : decode cL_law 681 = .ok (.dcmp .l, 1) := by decide +kernel
theorem dL_law_682 : decode cL_law 682 = .ok (.ifCond .eq 11, 3) := by decide +kernel
theorem dL_law_685 : decode cL_law 685 = .ok (.dload 6, 2) := by decide +kernel
theorem dL_law_687 : decode cL_law 687 = .ok (.dload 6, 2) := by decide +kernel
theorem dL_law_689 : decode cL_law 689 = .ok (.dcmp .l, 1) := by decide +kernel
theorem dL_law_690 : decode cL_law 690 = .ok (.ifCond .ne 5, 3) := by decide +kernel
theorem dL_law_693 : decode cL_law 693 = .ok (.iconst 0, 1) := by decide +kernel
theorem dL_law_694 : decode cL_law 694 = .ok (.ireturn, 1) := by decide +kernel
theorem dL_law_695 : decode cL_law 695 = .ok (.goto 29, 3) := by decide +kernel
theorem dL_law_698 : decode cL_law 698 = .ok (.aload_n 1, 1) := by decide +kernel
theorem dL_law_699 : decode cL_law 699 = .ok (.invokevirtual 62, 3) := by decide +kernel
theorem dL_law_702 : decode cL_law 702 = .ok (.aload_n 2, 1) := by decide +kernel
theorem dL_law_703 : decode cL_law 703 = .ok (.invokevirtual 66, 3) := by decide +kernel
theorem dL_law_706 : decode cL_law 706 = .ok (.if_icmp .eq 18, 3) := by decide +kernel
theorem dL_law_709 : decode cL_law 709 = .ok (.iconst 0, 1) := by decide +kernel
theorem dL_law_710 : decode cL_law 710 = .ok (.ireturn, 1) := by decide +kernel
theorem dL_law_711 : decode cL_law 711 = .ok (.aload_n 1, 1) := by decide +kernel
theorem dL_law_712 : decode cL_law 712 = .ok (.invokevirtual 67, 3) := by decide +kernel
theorem dL_law_715 : decode cL_law 715 = .ok (.aload_n 2, 1) := by decide +kernel
theorem dL_law_716 : decode cL_law 716 = .ok (.invokevirtual 70, 3) := by decide +kernel
theorem dL_law_719 : decode cL_law 719 = .ok (.if_icmp .eq 5, 3) := by decide +kernel
theorem dL_law_722 : decode cL_law 722 = .ok (.iconst 0, 1) := by decide +kernel
theorem dL_law_723 : decode cL_law 723 = .ok (.ireturn, 1) := by decide +kernel
theorem dL_law_724 : decode cL_law 724 = .ok (.iinc 3 5, 3) := by decide +kernel
theorem dL_law_727 : decode cL_law 727 = .ok (.goto (-697), 3) := by decide +kernel
theorem dL_law_730 : decode cL_law 730 = .ok (.iconst 1, 1) := by decide +kernel
theorem dL_law_731 : decode cL_law 731 = .ok (.ireturn, 1) := by decide +kernel
end
section
/-! the world: classes, cells, nest words, the form of a contract -/
set_option maxRecDepth 100000
abbrev vwCl : List vw_C := [(RX1, TX1, 6), (RX3, TX3, 1), (RX4, TX4, 1), (RX5, TX5, 1), (RX6, TX6, 2), (RX7, TX7, 6)]
/-- words that don't ride in the lists -/
def nw_ws : List Cond := [.methodLinkNest RX1 19 yX3_init RX1, .methodLinkNest RX3 3 yX2_init RX1, .methodLinkNest RX1 26 yX4_init RX1, .methodLinkNest RX4 3 yX2_init RX1, .methodLinkNest RX1 33 yX5_init RX1, .methodLinkNest RX5 3 yX2_init RX1, .methodLinkNest RX6 3 yX2_init RX1,
  .methodLinkNest RX6 15 yX1_isNumber RX1, .methodLinkNest RX3 9 yX1_isNumber RX1, .methodLinkNest RX4 9 yX1_isNumber RX1, .methodLinkNest RX5 9 yX1_isNumber RX1, .methodLinkNest RX6 35 yX1_size RX1, .methodLinkNest RX3 29 yX1_scaled RX1, .methodLinkNest RX5 19 yX1_scaled RX1, .methodLinkNest RX3 35 yX1_size RX1, .methodLinkNest RX4 37 yX1_size RX1,
  .declares ⟨RX2, "codeOf", "(D)I"⟩, .declares ⟨RX2, "valueOf", "(D)D"⟩, .declares ⟨RX2, "make", "()[D"⟩, .declares ⟨RX2, "boundOf", "(D)D"⟩]
def NW (U : State) : Prop := ∀ w ∈ nw_ws, va_Nw w U
theorem NW.at {U : State} (h : NW U) (i : Nat) {w : Cond} (hi : nw_ws[i]? = some w) : va_Nw w U := h w (List.mem_of_getElem? hi)
theorem nw_kind : ∀ w ∈ nw_ws, (∃ a i x h, w = .methodLinkNest a i x h) ∨ (∃ x, w = .declares x) := by
  intro w hw
  simp only [nw_ws, List.mem_cons, List.not_mem_nil, or_false] at hw
  rcases hw with rfl | rfl | rfl | rfl | rfl | rfl | rfl | rfl | rfl | rfl | rfl | rfl | rfl | rfl | rfl | rfl | rfl | rfl | rfl | rfl
  all_goals first | exact Or.inl ⟨_, _, _, _, rfl⟩ | exact Or.inr ⟨_, rfl⟩
theorem NW.moved {s U : State} (hW : s.WarmedH U.vm) (h : NW s) : NW U := by
  intro w hw
  rcases nw_kind w hw with ⟨a, i, x, hh, rfl⟩ | ⟨x, rfl⟩
  · exact va_Nw.warmM hW (h _ hw)
  · exact va_Nw.warmD hW (h _ hw)
theorem NW.same {s U : State} (hv : s.vm = U.vm) (h : NW s) : NW U := by
  intro w hw
  rcases nw_kind w hw with ⟨a, i, x, hh, rfl⟩ | ⟨x, rfl⟩
  · exact va_Nw.same rfl hv (h _ hw)
  · exact va_Nw.same rfl hv (h _ hw)
theorem NW.of {b : Addr} {s : State} (ht0 : ∀ w ∈ lw_tbl, w.before #[Value.ref b] s = true) : NW s := by
  intro w hw
  simp only [nw_ws, List.mem_cons, List.not_mem_nil, or_false] at hw
  rcases hw with rfl | rfl | rfl | rfl | rfl | rfl | rfl | rfl | rfl | rfl | rfl | rfl | rfl | rfl | rfl | rfl | rfl | rfl | rfl | rfl
  · exact va_Nw.of rfl (ht0 _ q29)
  · exact va_Nw.of rfl (ht0 _ q32)
  · exact va_Nw.of rfl (ht0 _ q42)
  · exact va_Nw.of rfl (ht0 _ q45)
  · exact va_Nw.of rfl (ht0 _ q50)
  · exact va_Nw.of rfl (ht0 _ q53)
  · exact va_Nw.of rfl (ht0 _ q61)
  · exact va_Nw.of rfl (ht0 _ q100)
  · exact va_Nw.of rfl (ht0 _ q108)
  · exact va_Nw.of rfl (ht0 _ q113)
  · exact va_Nw.of rfl (ht0 _ q117)
  · exact va_Nw.of rfl (ht0 _ q124)
  · exact va_Nw.of rfl (ht0 _ q171)
  · exact va_Nw.of rfl (ht0 _ q195)
  · exact va_Nw.of rfl (ht0 _ q253)
  · exact va_Nw.of rfl (ht0 _ q261)
  · exact va_Nw.of rfl (ht0 _ q95)
  · exact va_Nw.of rfl (ht0 _ q119)
  · exact va_Nw.of rfl (ht0 _ q140)
  · exact va_Nw.of rfl (ht0 _ q243)
/-- what a call of an inherited or abstract method asks -/
theorem lw_U {own : String} {idx : Nat} {C owner : String} {x y : MethodName} {b : ByteArray} {L : Nat} {r : Option FieldType} (h1 : Cond.methodLink own idx x ∈ lw_all) (h2 : Cond.sameMethod x.cls owner x.name x.desc ∈ lw_all) (h3 : Cond.selects C x y ∈ lw_all) (h4 : Cond.instanceMethod y ∈ lw_all) (h5 : Cond.initialized y.cls ∈ lw_all) (h6 : Cond.code y b L r ∈ lw_all) : GoodIn lw_all (va_wsU own idx C owner x y (ws_ y b L r)) := by
  refine lw_app ?_ (lw_meth h6)
  intro w hw
  simp only [List.mem_cons, List.not_mem_nil, or_false] at hw
  rcases hw with e | e | e | e | e
  · rw [e]; exact h1
  · rw [e]; exact h2
  · rw [e]; exact h3
  · rw [e]; exact h4
  · rw [e]; exact h5
/-- a table's cell, and what its field holds -/
def tb (dA : ClassId) (n : Nat) (f : Nat → UInt64) (u : Option Nat) : va_W := match u with
  | none => []
  | some a => [(a, .inl (dA, n, .inr (.inr (.inr (.inl f)))))]
def rf (u : Option Nat) : Value := match u with
  | none => .null
  | some a => .ref a
/-- the component's cells -/
def cw (dA : ClassId) (h0 hE hL hR hX : Nat) (sd : Int64) (cd : Int32) (uE uL uX : Option Nat) : va_W :=
  (h0, .inr (0, [.long sd, .ref hE, .ref hL, .ref hR, .ref hX, .int cd])) :: (hE, .inr (1, [rf uE])) :: (hL, .inr (2, [rf uL])) :: (hR, .inr (3, [.null])) :: (hX, .inr (4, [rf uX, .ref hE])) :: (tb dA 15 tE uE ++ (tb dA 14 tL uL ++ tb dA 120 tX uX))
/-- the twin's cell -/
def tw (h0 : Nat) (sd : Int64) (cd fd fe fl fx : Int32) : va_W := [(h0, .inr (5, [.long sd, .int cd, .int fd, .int fe, .int fl, .int fx]))]
def CB (D : va_G) (dA : ClassId) (w : va_W) (sz : Nat) (U : State) : Prop := U.heap.size = sz ∧ va_P D vwCl w U.heap ∧ va_K D vwCl [(dA, .double)] U ∧ NW U ∧ va_D (fun _ => True) w
def CE {S : Type} (D : va_G) (w : va_W) (Wf : S → va_W) (sz : Nat) (u : S) (t : State) : Prop := va_P D vwCl (Wf u) t.heap ∧ va_D (va_A w sz) (Wf u)
def CEr {S : Type} (D : va_G) (w : va_W) (Wf : S → Nat → va_W) (sz : Nat) (u : S) (a : Nat) (t : State) : Prop := va_P D vwCl (Wf u a) t.heap ∧ va_D (va_A w sz) (Wf u a)
theorem CB.blind {av : List Value} {D : va_G} {dA : ClassId} {w : va_W} {sz : Nat} : FrameBlind (va_Pc av (CB D dA w sz)) := by
  intro a U g mk q
  obtain ⟨q0, q1, qP, qK, qN, qD⟩ := q
  exact ⟨q0, q1, qP, va_K.moved (u := U) (U := U.calling g mk a) (Vm.Alike.refl U.vm) qK, NW.same (s := U) (U := U.calling g mk a) (show U.vm = (U.calling g mk a).vm from rfl) qN, qD⟩
/-- contracts: an answer that is a double, an int (boolean), nothing, a cell -/
def CMd {S : Type} (l : Launch) (D : va_G) (dA : ClassId) (y : MethodName) (cc : ByteArray) (nL : Nat) (rm : Room) (av : List Value) (w : va_W) (Wf : S → va_W) (post : UInt64 → S → Prop) : Prop :=
  ∀ sz, Met l y (ws_ y cc nL (some .double)) rm (va_Pc av (CB D dA w sz)) (va_Qd post (CE D w Wf sz) (va_A w sz)) rm.cells rm.slots (va_A w sz)
def CMi {S : Type} (l : Launch) (D : va_G) (dA : ClassId) (y : MethodName) (cc : ByteArray) (nL : Nat) (ty : FieldType) (rm : Room) (av : List Value) (w : va_W) (Wf : S → va_W) (post : Int32 → S → Prop) : Prop :=
  ∀ sz, Met l y (ws_ y cc nL (some ty)) rm (va_Pc av (CB D dA w sz)) (va_Qi post (CE D w Wf sz) (va_A w sz)) rm.cells rm.slots (va_A w sz)
def CMv {S : Type} (l : Launch) (D : va_G) (dA : ClassId) (y : MethodName) (cc : ByteArray) (nL : Nat) (rm : Room) (av : List Value) (w : va_W) (Wf : S → va_W) (post : S → Prop) : Prop :=
  ∀ sz, Met l y (ws_ y cc nL none) rm (va_Pc av (CB D dA w sz)) (va_Qv post (CE D w Wf sz) (va_A w sz)) rm.cells rm.slots (va_A w sz)
def CMr {S : Type} (l : Launch) (D : va_G) (dA : ClassId) (y : MethodName) (cc : ByteArray) (nL : Nat) (rm : Room) (av : List Value) (w : va_W) (Wf : S → Nat → va_W) (post : S → Prop) : Prop :=
  ∀ sz, Met l y (ws_ y cc nL (some (.array .double))) rm (va_Pc av (CB D dA w sz)) (va_Qr post (CEr D w Wf sz) (va_A w sz)) rm.cells rm.slots (va_A w sz)
section St
variable {S : Type} {l : Launch} {D : va_G} {dA : ClassId} {y : MethodName} {cc : ByteArray} {nL : Nat} {rm : Room} {av : List Value} {w : va_W}
theorem st_d {Wf : S → va_W} {post : UInt64 → S → Prop} (hpn : plainName y.cls = true) (hlen : (lg_sl av).length ≤ nL)
    (h : ∀ (p : Program) (e : Env) (s : State) (m : MethodId) (below : List Frame) (meth : Method) (c : Code) (A : Nat → Prop) (Q : State → Prop) (H : Heap) (locs : List Loc) (ls : Array Slot),
      CallFix p m c cc nL s av.toArray lw_all y.cls → va_K D vwCl [(dA, .double)] s → NW s → (∀ q, s.heap.size ≤ q → A q) → va_P D vwCl w H → va_D A w → va_S A s.heap H locs → lv_has ls nL (lv_args 0 av) →
      (∀ (H : Heap) (locs : List Loc) (cells slots pc : Nat) (ls : Array Slot) (v : UInt64) (u : S), decode cc pc = .ok (.dreturn, 1) → cells ≤ rm.cells → slots ≤ rm.slots → va_S A s.heap H locs → post v u → va_P D vwCl (Wf u) H → va_D A (Wf u) → W p l e rm s m av.toArray below meth c H locs cells slots Q (F0 m pc ls [.double v])) →
      W p l e rm s m av.toArray below meth c H locs 0 0 Q (F0 m 0 ls [])) : CMd l D dA y cc nL rm av w Wf post := by
  intro sz
  refine Met.ofW (cc := cc) (maxL := nL) (ret := some .double) hpn rfl ?_
  intro p e s m args below meth c s₁ B hml hv
  obtain ⟨rfl, hsz, hP, hK, hN, hD0⟩ := hv
  have hts := atoms_spec (ws := ws_ y cc nL (some .double)) B.pre
  have hts : ∀ w ∈ lw_all, w.before av.toArray s = true := fun w h => hts w (List.mem_cons_of_mem _ h)
  have hr := B.returns
  have hlocks := B.notSynchronized
  have hb := B.bytes
  have hx := B.exec
  subst hsz
  have hD := hD0.self (sz := s.heap.size)
  have hl := lv_entry av (n := nL) hlen
  rw [lg_entry_eq]
  refine h p e s m below meth c (va_A w s.heap.size) _ _ _ _ ⟨hx, hb, hml, findClass_of_methodNamed B.named, hts⟩ hK hN (fun q h => Or.inr h) hP hD va_S.rf hl ?_
  intro H locs cells slots pc ls v u hd hc hs hS hpo hP9 hD9
  refine W.widen hc hs ?_
  exact W.dret (v := v) hx hb hr (fun t ht hW => ⟨⟨v, u, rfl, hpo, by show va_P D vwCl (Wf u) t.heap; rw [ht]; exact hP9, hD9⟩, hS.F ht⟩) hS.2.2 hd
theorem st_i {Wf : S → va_W} {post : Int32 → S → Prop} {ty : FieldType} (hpn : plainName y.cls = true) (hlen : (lg_sl av).length ≤ nL)
    (h : ∀ (p : Program) (e : Env) (s : State) (m : MethodId) (below : List Frame) (meth : Method) (c : Code) (A : Nat → Prop) (Q : State → Prop) (H : Heap) (locs : List Loc) (ls : Array Slot),
      CallFix p m c cc nL s av.toArray lw_all y.cls → va_K D vwCl [(dA, .double)] s → NW s → (∀ q, s.heap.size ≤ q → A q) → va_P D vwCl w H → va_D A w → va_S A s.heap H locs → lv_has ls nL (lv_args 0 av) →
      (∀ (H : Heap) (locs : List Loc) (cells slots pc : Nat) (ls : Array Slot) (v : Int32) (u : S), decode cc pc = .ok (.ireturn, 1) → narrow ty (.int v) = .int v → cells ≤ rm.cells → slots ≤ rm.slots → va_S A s.heap H locs → post v u → va_P D vwCl (Wf u) H → va_D A (Wf u) → W p l e rm s m av.toArray below meth c H locs cells slots Q (F0 m pc ls [.int v])) →
      W p l e rm s m av.toArray below meth c H locs 0 0 Q (F0 m 0 ls [])) : CMi l D dA y cc nL ty rm av w Wf post := by
  intro sz
  refine Met.ofW (cc := cc) (maxL := nL) (ret := some ty) hpn rfl ?_
  intro p e s m args below meth c s₁ B hml hv
  obtain ⟨rfl, hsz, hP, hK, hN, hD0⟩ := hv
  have hts := atoms_spec (ws := ws_ y cc nL (some ty)) B.pre
  have hts : ∀ w ∈ lw_all, w.before av.toArray s = true := fun w h => hts w (List.mem_cons_of_mem _ h)
  have hr := B.returns
  have hlocks := B.notSynchronized
  have hb := B.bytes
  have hx := B.exec
  subst hsz
  have hD := hD0.self (sz := s.heap.size)
  have hl := lv_entry av (n := nL) hlen
  rw [lg_entry_eq]
  refine h p e s m below meth c (va_A w s.heap.size) _ _ _ _ ⟨hx, hb, hml, findClass_of_methodNamed B.named, hts⟩ hK hN (fun q h => Or.inr h) hP hD va_S.rf hl ?_
  intro H locs cells slots pc ls v u hd hn hc hs hS hpo hP9 hD9
  refine W.widen hc hs ?_
  exact W.zret (v := v) hx hb hr hn (fun t ht hW => ⟨⟨v, u, rfl, hpo, by show va_P D vwCl (Wf u) t.heap; rw [ht]; exact hP9, hD9⟩, hS.F ht⟩) hS.2.2 hd
theorem st_v {Wf : S → va_W} {post : S → Prop} (hpn : plainName y.cls = true) (hlen : (lg_sl av).length ≤ nL)
    (h : ∀ (p : Program) (e : Env) (s : State) (m : MethodId) (below : List Frame) (meth : Method) (c : Code) (A : Nat → Prop) (Q : State → Prop) (H : Heap) (locs : List Loc) (ls : Array Slot),
      CallFix p m c cc nL s av.toArray lw_all y.cls → meth.name = y.name → va_K D vwCl [(dA, .double)] s → NW s → (∀ q, s.heap.size ≤ q → A q) → va_P D vwCl w H → va_D A w → va_S A s.heap H locs → lv_has ls nL (lv_args 0 av) →
      (∀ (H : Heap) (locs : List Loc) (cells slots pc : Nat) (ls : Array Slot) (u : S), decode cc pc = .ok (.return_, 1) → cells ≤ rm.cells → slots ≤ rm.slots → va_S A s.heap H locs → post u → va_P D vwCl (Wf u) H → va_D A (Wf u) → W p l e rm s m av.toArray below meth c H locs cells slots Q (F0 m pc ls [])) →
      W p l e rm s m av.toArray below meth c H locs 0 0 Q (F0 m 0 ls [])) : CMv l D dA y cc nL rm av w Wf post := by
  intro sz
  refine Met.ofW (cc := cc) (maxL := nL) (ret := none) hpn rfl ?_
  intro p e s m args below meth c s₁ B hml hv
  obtain ⟨rfl, hsz, hP, hK, hN, hD0⟩ := hv
  have hts := atoms_spec (ws := ws_ y cc nL none) B.pre
  have hts : ∀ w ∈ lw_all, w.before av.toArray s = true := fun w h => hts w (List.mem_cons_of_mem _ h)
  have hr := B.returns
  have hlocks := B.notSynchronized
  have hb := B.bytes
  have hx := B.exec
  have hin := (name_of_methodNamed B.named B.method).1
  subst hsz
  have hD := hD0.self (sz := s.heap.size)
  have hl := lv_entry av (n := nL) hlen
  rw [lg_entry_eq]
  refine h p e s m below meth c (va_A w s.heap.size) _ _ _ _ ⟨hx, hb, hml, findClass_of_methodNamed B.named, hts⟩ hin hK hN (fun q h => Or.inr h) hP hD va_S.rf hl ?_
  intro H locs cells slots pc ls u hd hc hs hS hpo hP9 hD9
  refine W.widen hc hs ?_
  exact W.vret hx hb hr (fun t ht hW => ⟨⟨u, rfl, hpo, by show va_P D vwCl (Wf u) t.heap; rw [ht]; exact hP9, hD9⟩, hS.F ht⟩) hS.2.2 hd
theorem st_r {Wf : S → Nat → va_W} {post : S → Prop} (hpn : plainName y.cls = true) (hlen : (lg_sl av).length ≤ nL)
    (h : ∀ (p : Program) (e : Env) (s : State) (m : MethodId) (below : List Frame) (meth : Method) (c : Code) (A : Nat → Prop) (Q : State → Prop) (H : Heap) (locs : List Loc) (ls : Array Slot),
      CallFix p m c cc nL s av.toArray lw_all y.cls → va_K D vwCl [(dA, .double)] s → NW s → (∀ q, s.heap.size ≤ q → A q) → va_P D vwCl w H → va_D A w → va_S A s.heap H locs → lv_has ls nL (lv_args 0 av) →
      (∀ (H : Heap) (locs : List Loc) (cells slots pc : Nat) (ls : Array Slot) (a : Nat) (u : S), decode cc pc = .ok (.areturn, 1) → cells ≤ rm.cells → slots ≤ rm.slots → va_S A s.heap H locs → post u → va_P D vwCl (Wf u a) H → va_D A (Wf u a) → W p l e rm s m av.toArray below meth c H locs cells slots Q (F0 m pc ls [.ref a])) →
      W p l e rm s m av.toArray below meth c H locs 0 0 Q (F0 m 0 ls [])) : CMr l D dA y cc nL rm av w Wf post := by
  intro sz
  refine Met.ofW (cc := cc) (maxL := nL) (ret := some (.array .double)) hpn rfl ?_
  intro p e s m args below meth c s₁ B hml hv
  obtain ⟨rfl, hsz, hP, hK, hN, hD0⟩ := hv
  have hts := atoms_spec (ws := ws_ y cc nL (some (.array .double))) B.pre
  have hts : ∀ w ∈ lw_all, w.before av.toArray s = true := fun w h => hts w (List.mem_cons_of_mem _ h)
  have hr := B.returns
  have hlocks := B.notSynchronized
  have hb := B.bytes
  have hx := B.exec
  subst hsz
  have hD := hD0.self (sz := s.heap.size)
  have hl := lv_entry av (n := nL) hlen
  rw [lg_entry_eq]
  refine h p e s m below meth c (va_A w s.heap.size) _ _ _ _ ⟨hx, hb, hml, findClass_of_methodNamed B.named, hts⟩ hK hN (fun q h => Or.inr h) hP hD va_S.rf hl ?_
  intro H locs cells slots pc ls a u hd hc hs hS hpo hP9 hD9
  refine W.widen hc hs ?_
  exact W.aret (v := .ref a) hx hb hr (Or.inr ⟨_, rfl⟩) (Or.inr ⟨_, rfl⟩) (fun t ht hW => ⟨⟨u, a, rfl, hpo, by show va_P D vwCl (Wf u a) t.heap; rw [ht]; exact hP9, hD9⟩, hS.F ht⟩) hS.2.2 hd
end St
/-- what a call asks: the callee's cells, in the caller's heap -/
theorem pr_V {s : State} {H : Heap} {C : String} {b : Addr} {As : List Value} {D : va_G} {dA : ClassId} {A : Nat → Prop} {w : va_W} (hK : va_K D vwCl [(dA, .double)] s) (hN : NW s) (hP : va_P D vwCl w H) (hD : va_D A w)
    (hrec : ∃ cell : Cell, H[b]? = some cell ∧ cell.vm.isStatics = false ∧ s.vm.findClass C = some cell.cls) : PreV s H C b (va_Pc (.ref b :: As) (CB D dA w H.size)) As :=
  ⟨CB.blind, hrec, fun U hU hW => ⟨rfl, by rw [hU], by rw [hU]; exact hP, va_K.moved hW.alike hK, hN.moved hW, hD.weaken (fun _ _ _ _ => trivial)⟩⟩
theorem pr_S {s : State} {H : Heap} {As : List Value} {D : va_G} {dA : ClassId} {A : Nat → Prop} {w : va_W} (hK : va_K D vwCl [(dA, .double)] s) (hN : NW s) (hP : va_P D vwCl w H) (hD : va_D A w) : PreS s H (va_Pc As (CB D dA w H.size)) As :=
  ⟨CB.blind, fun U hU hW => ⟨rfl, by rw [hU], by rw [hU]; exact hP, va_K.moved hW.alike hK, hN.moved hW, hD.weaken (fun _ _ _ _ => trivial)⟩⟩
theorem p_nil {D : va_G} {H : Heap} : va_P D vwCl [] H := fun k q h => by simp at h
theorem d_nil {A : Nat → Prop} : va_D A [] := ⟨fun i j x y h => by simp at h, fun k q h => by simp at h⟩
theorem a_own {A0 : Nat → Prop} {w : va_W} {H0 H : Heap} {locs : List Loc} (hD : va_D A0 w) (hS : va_S A0 H0 H locs) (hA : ∀ q, H0.size ≤ q → A0 q) : ∀ q, va_A w H.size q → A0 q := by
  intro q h
  rcases h with ⟨k, e, h⟩ | h
  · exact hD.2 k (q, e) h
  · exact hA q (Nat.le_trans hS.1 h)
theorem p_stay {D : va_G} {w : va_W} {H H1 : Heap} (hP : va_P D vwCl w H) (hk : ∀ q : Nat, q < H.size → ¬ va_A [] H.size q → H1[q]? = H[q]?) : va_P D vwCl w H1 := by
  refine hP.kept (fun k q hq => ?_)
  have hl := (hP k q hq).lt
  refine hk q.1 hl (fun z => ?_)
  rcases z with ⟨k2, e, h⟩ | h
  · simp at h
  · omega
section Cl
variable {p : Program} {l : Launch} {e : Env} {R : Room} {s : State} {m : MethodId} {args : Array Value} {below : List Frame} {meth : Method} {c : Code} {H : Heap} {locs : List Loc} {cells slots : Nat} {Q : State → Prop}
variable {pc : Nat} {ls : Array Slot} {rest st0 : List Value} {a : Array Value} {A : Nat → Prop} {H0 : Heap} {mc ms : Nat} {D : va_G} {S : Type} {w w0 : va_W}
/-- a call in the caller's own cells -/
theorem cl_d {post : UInt64 → S → Prop} {Wf : S → va_W} (hr : va_Run p l e R s m args below meth c H locs cells slots mc ms (F0 m pc ls st0) rest (va_Qd post (CE D w Wf H.size) (va_A w H.size) a) (va_A w H.size)) (hS : va_S A H0 H locs) (hD : va_D A w) (hA : ∀ q, H0.size ≤ q → A q)
    (kk : ∀ (r : UInt64) (u : S) (H1 : Heap) (locs1 : List Loc), post r u → va_P D vwCl (Wf u) H1 → va_D A (Wf u) → va_S A H0 H1 locs1 → W p l e R s m args below meth c H1 locs1 (cells + mc) (slots + ms) Q (F0 m (pc + 3) ls (.double r :: rest))) : W p l e R s m args below meth c H locs cells slots Q (F0 m pc ls st0) := by
  have hF := a_own hD hS hA
  refine va_calld hr hS (fun q _ h => hF q h) hF (fun r u t H1 locs1 ht hvm hpo hB hz hk hS1 => ?_)
  obtain ⟨hP1, hD1⟩ := hB
  rw [ht] at hP1
  exact kk r u H1 locs1 hpo hP1 (hD1.weaken (fun _ q _ h => hF q.1 h)) hS1
theorem cl_i {post : Int32 → S → Prop} {Wf : S → va_W} (hr : va_Run p l e R s m args below meth c H locs cells slots mc ms (F0 m pc ls st0) rest (va_Qi post (CE D w Wf H.size) (va_A w H.size) a) (va_A w H.size)) (hS : va_S A H0 H locs) (hD : va_D A w) (hA : ∀ q, H0.size ≤ q → A q)
    (kk : ∀ (r : Int32) (u : S) (H1 : Heap) (locs1 : List Loc), post r u → va_P D vwCl (Wf u) H1 → va_D A (Wf u) → va_S A H0 H1 locs1 → W p l e R s m args below meth c H1 locs1 (cells + mc) (slots + ms) Q (F0 m (pc + 3) ls (.int r :: rest))) : W p l e R s m args below meth c H locs cells slots Q (F0 m pc ls st0) := by
  have hF := a_own hD hS hA
  refine va_calli hr hS (fun q _ h => hF q h) hF (fun r u t H1 locs1 ht hvm hpo hB hz hk hS1 => ?_)
  obtain ⟨hP1, hD1⟩ := hB
  rw [ht] at hP1
  exact kk r u H1 locs1 hpo hP1 (hD1.weaken (fun _ q _ h => hF q.1 h)) hS1
/-- a call that touches no cell of the caller's -/
theorem cl0_d {post : UInt64 → S → Prop} {Wf : S → va_W} (hr : va_Run p l e R s m args below meth c H locs cells slots mc ms (F0 m pc ls st0) rest (va_Qd post (CE D [] Wf H.size) (va_A [] H.size) a) (va_A [] H.size)) (hS : va_S A H0 H locs) (hP : va_P D vwCl w H) (hA : ∀ q, H0.size ≤ q → A q)
    (kk : ∀ (r : UInt64) (u : S) (H1 : Heap) (locs1 : List Loc), post r u → va_P D vwCl w H1 → va_S A H0 H1 locs1 → W p l e R s m args below meth c H1 locs1 (cells + mc) (slots + ms) Q (F0 m (pc + 3) ls (.double r :: rest))) : W p l e R s m args below meth c H locs cells slots Q (F0 m pc ls st0) := by
  have hF := a_own (d_nil (A := A)) hS hA
  refine va_calld hr hS (fun q _ h => hF q h) hF (fun r u t H1 locs1 ht hvm hpo hB hz hk hS1 => ?_)
  exact kk r u H1 locs1 hpo (p_stay hP hk) hS1
theorem cl0_i {post : Int32 → S → Prop} {Wf : S → va_W} (hr : va_Run p l e R s m args below meth c H locs cells slots mc ms (F0 m pc ls st0) rest (va_Qi post (CE D [] Wf H.size) (va_A [] H.size) a) (va_A [] H.size)) (hS : va_S A H0 H locs) (hP : va_P D vwCl w H) (hA : ∀ q, H0.size ≤ q → A q)
    (kk : ∀ (r : Int32) (u : S) (H1 : Heap) (locs1 : List Loc), post r u → va_P D vwCl w H1 → va_S A H0 H1 locs1 → W p l e R s m args below meth c H1 locs1 (cells + mc) (slots + ms) Q (F0 m (pc + 3) ls (.int r :: rest))) : W p l e R s m args below meth c H locs cells slots Q (F0 m pc ls st0) := by
  have hF := a_own (d_nil (A := A)) hS hA
  refine va_calli hr hS (fun q _ h => hF q h) hF (fun r u t H1 locs1 ht hvm hpo hB hz hk hS1 => ?_)
  exact kk r u H1 locs1 hpo (p_stay hP hk) hS1
/-- a call that touches no cell of the caller's, and makes some -/
theorem cl0_r {post : S → Prop} {Wf : S → Nat → va_W} (hr : va_Run p l e R s m args below meth c H locs cells slots mc ms (F0 m pc ls st0) rest (va_Qr post (CEr D [] Wf H.size) (va_A [] H.size) a) (va_A [] H.size)) (hS : va_S A H0 H locs) (hP : va_P D vwCl w H) (hD : va_D A w) (hA : ∀ q, H0.size ≤ q → A q)
    (kk : ∀ (u : S) (ra : Nat) (H1 : Heap) (locs1 : List Loc), post u → va_P D vwCl (w ++ Wf u ra) H1 → va_D A (w ++ Wf u ra) → va_S A H0 H1 locs1 → W p l e R s m args below meth c H1 locs1 (cells + mc) (slots + ms) Q (F0 m (pc + 3) ls (.ref ra :: rest))) : W p l e R s m args below meth c H locs cells slots Q (F0 m pc ls st0) := by
  have hF := a_own (d_nil (A := A)) hS hA
  refine va_callr hr hS (fun q _ h => hF q h) hF (fun u ra t H1 locs1 ht hvm hpo hB hz hk hS1 => ?_)
  obtain ⟨hP1, hD1⟩ := hB
  rw [ht] at hP1
  refine kk u ra H1 locs1 hpo ((p_stay hP hk).app hP1) (hD.app (hD1.weaken (fun _ q _ h => hF q.1 h)) (fun i j x y hx hy hxy => ?_)) hS1
  have h1 := (hP i x hx).lt
  rcases hD1.2 j y hy with ⟨k, e, h⟩ | h
  · simp at h
  · omega
end Cl
end
section
abbrev rm_c_isNumber : Room := { frames := 0, cells := 0, slots := 0, locals := 0 }
set_option maxHeartbeats 4000000 in
set_option maxRecDepth 100000 in
theorem c_isNumber (l : Launch) (D : va_G) (dA : ClassId) (x : UInt64) : CMi l D dA yX1_isNumber cX1_isNumber 2 .boolean rm_c_isNumber [.double x] [] (fun _ : Unit => []) (fun r _ => r = s_num x) := by
  refine st_i (by decide) (Nat.le_of_ble_eq_true rfl) ?_
  intro p e s m below meth c A Q H locs ls hCF hK hN hA hP hD hS hl hend
  obtain ⟨hx, hb, hml, hown, hts⟩ := hCF
  have hown : s.vm.findClass RX1 = some m.cls := hown
  have hl : lv_has ls 2 [(0, .double x)] := hl
  refine lv_dload_n hx hb dX1_isNumber_0 rfl (lv_at hl 0 rfl) ?_
  refine lv_ldc2d hx hb hown (hts _ q103) dX1_isNumber_1 ?_
  refine lv_dcmp hx hb dX1_isNumber_4 ?_
  refine lv_if_gt (tgt := 20) hx hb dX1_isNumber_5 (by decide) (fun c_5 => ?_) (fun c_5 => ?_)
  · refine lv_iconst (v := 0) hx hb dX1_isNumber_20 (by decide) ?_
    exact hend _ _ _ _ 21 _ 0 () dX1_isNumber_21 (by decide) (Nat.le_of_ble_eq_true rfl) (Nat.le_of_ble_eq_true rfl) hS (by unfold s_num; first | rw [if_pos c_5] | rw [if_neg c_5, if_pos c_13] | rw [if_neg c_5, if_neg c_13]) p_nil d_nil
  · refine lv_dload_n hx hb dX1_isNumber_8 rfl (lv_at hl 0 rfl) ?_
    refine lv_ldc2d hx hb hown (hts _ q104) dX1_isNumber_9 ?_
    refine lv_dcmp hx hb dX1_isNumber_12 ?_
    refine lv_if_lt (tgt := 20) hx hb dX1_isNumber_13 (by decide) (fun c_13 => ?_) (fun c_13 => ?_)
    · refine lv_iconst (v := 0) hx hb dX1_isNumber_20 (by decide) ?_
      exact hend _ _ _ _ 21 _ 0 () dX1_isNumber_21 (by decide) (Nat.le_of_ble_eq_true rfl) (Nat.le_of_ble_eq_true rfl) hS (by unfold s_num; first | rw [if_pos c_5] | rw [if_neg c_5, if_pos c_13] | rw [if_neg c_5, if_neg c_13]) p_nil d_nil
    · refine lv_iconst (v := 1) hx hb dX1_isNumber_16 (by decide) ?_
      refine lv_goto (tgt := 21) hx hb dX1_isNumber_17 (by decide) ?_
      exact hend _ _ _ _ 21 _ 1 () dX1_isNumber_21 (by decide) (Nat.le_of_ble_eq_true rfl) (Nat.le_of_ble_eq_true rfl) hS (by unfold s_num; first | rw [if_pos c_5] | rw [if_neg c_5, if_pos c_13] | rw [if_neg c_5, if_neg c_13]) p_nil d_nil
abbrev rm_c_size : Room := { frames := 0, cells := 0, slots := 0, locals := 0 }
set_option maxHeartbeats 4000000 in
set_option maxRecDepth 100000 in
theorem c_size (l : Launch) (D : va_G) (dA : ClassId) (x : UInt64) : CMd l D dA yX1_size cX1_size 2 rm_c_size [.double x] [] (fun _ : Unit => []) (fun r _ => r = s_size x) := by
  refine st_d (by decide) (Nat.le_of_ble_eq_true rfl) ?_
  intro p e s m below meth c A Q H locs ls hCF hK hN hA hP hD hS hl hend
  obtain ⟨hx, hb, hml, hown, hts⟩ := hCF
  have hown : s.vm.findClass RX1 = some m.cls := hown
  have hl : lv_has ls 2 [(0, .double x)] := hl
  refine lv_dload_n hx hb dX1_size_0 rfl (lv_at hl 0 rfl) ?_
  refine lv_dconst0 hx hb dX1_size_1 ?_
  refine lv_dcmp hx hb dX1_size_2 ?_
  refine lv_if_ge (tgt := 11) hx hb dX1_size_3 (by decide) (fun c_3 => ?_) (fun c_3 => ?_)
  · refine lv_dload_n hx hb dX1_size_11 rfl (lv_at hl 0 rfl) ?_
    exact hend _ _ _ _ 12 _ x () dX1_size_12 (Nat.le_of_ble_eq_true rfl) (Nat.le_of_ble_eq_true rfl) hS (by unfold s_size; first | rw [if_pos c_3] | rw [if_neg c_3]) p_nil d_nil
  · refine lv_dload_n hx hb dX1_size_6 rfl (lv_at hl 0 rfl) ?_
    refine lv_dneg hx hb dX1_size_7 ?_
    refine lv_goto (tgt := 12) hx hb dX1_size_8 (by decide) ?_
    exact hend _ _ _ _ 12 _ (FP.dneg x) () dX1_size_12 (Nat.le_of_ble_eq_true rfl) (Nat.le_of_ble_eq_true rfl) hS (by unfold s_size; first | rw [if_pos c_3] | rw [if_neg c_3]) p_nil d_nil
theorem i32_inc {i k : Int32} (h : i.toInt < k.toInt) : (i + 1).toInt = i.toInt + 1 := by
  rw [Int32.toInt_add]
  have h1 : (1 : Int32).toInt = 1 := rfl
  rw [h1]
  have h2 := k.toInt_lt
  have h3 := i.le_toInt
  exact Int.bmod_eq_of_le (by omega) (by omega)
theorem i32_dec {i k : Int32} (h : k.toInt < i.toInt) : (i + (-1)).toInt = i.toInt - 1 := by
  rw [Int32.toInt_add]
  have h1 : (-1 : Int32).toInt = -1 := rfl
  rw [h1]
  have h2 := i.toInt_lt
  have h3 := k.le_toInt
  exact Int.bmod_eq_of_le (by omega) (by omega)
theorem i32_0 : (0 : Int32).toInt = 0 := rfl
abbrev rm_c_scaled : Room := { frames := 0, cells := 0, slots := 0, locals := 0 }
set_option maxHeartbeats 4000000 in
set_option maxRecDepth 100000 in
theorem c_scaled (l : Launch) (D : va_G) (dA : ClassId) (v0 : UInt64) (k : Int32) (hv0 : NN v0) : CMd l D dA yX1_scaled cX1_scaled 6 rm_c_scaled [.double v0, .int k] [] (fun _ : Unit => []) (fun r _ => r = s_scaled v0 k) := by
  refine st_d (by decide) (Nat.le_of_ble_eq_true rfl) ?_
  intro p e s m below meth c A Q H locs ls hCF hK hN hA hP hD hS hl hend
  obtain ⟨hx, hb, hml, hown, hts⟩ := hCF
  have hown : s.vm.findClass RX1 = some m.cls := hown
  have hl : lv_has ls 6 [(0, .double v0), (2, .int k)] := hl
  have loop2 : ∀ (n : Nat) (i : Int32) (v : UInt64) (ls : Array Slot), NN v → (i.toInt = k.toInt + n ∨ (n = 0 ∧ i.toInt ≤ k.toInt)) → s_dn n v = s_scaled v0 k → lv_has ls 6 [(5, .int i), (3, .double v), (2, .int k), (0, .double v0)] → W p l e rm_c_scaled s m ([.double v0, .int k] : List Value).toArray below meth c H locs 0 0 Q (F0 m 26 ls []) := by
    intro n
    induction n with
    | zero =>
      intro i v ls hv hi hfin hl
      refine lv_iload hx hb dX1_scaled_26 (lv_at hl 0 rfl) ?_
      refine lv_iload_n hx hb dX1_scaled_28 rfl (lv_at hl 2 rfl) ?_
      refine lv_icmp_le (tgt := 44) hx hb dX1_scaled_29 (by decide) (fun c_29 => ?_) (fun c_29 => absurd (by rw [Int32.le_iff_toInt_le]; omega) c_29)
      refine lv_dload_n hx hb dX1_scaled_44 rfl (lv_at hl 1 rfl) ?_
      exact hend _ _ _ _ 45 _ v () dX1_scaled_45 (Nat.le_of_ble_eq_true rfl) (Nat.le_of_ble_eq_true rfl) hS hfin p_nil d_nil
    | succ n ih =>
      intro i v ls hv hi hfin hl
      refine lv_iload hx hb dX1_scaled_26 (lv_at hl 0 rfl) ?_
      refine lv_iload_n hx hb dX1_scaled_28 rfl (lv_at hl 2 rfl) ?_
      refine lv_icmp_le (tgt := 44) hx hb dX1_scaled_29 (by decide) (fun c_29 => absurd c_29 (by rw [Int32.le_iff_toInt_le]; omega)) (fun c_29 => ?_)
      refine lv_dload_n hx hb dX1_scaled_32 rfl (lv_at hl 1 rfl) ?_
      refine lv_ldc2d hx hb hown (hts _ q175) dX1_scaled_33 ?_
      refine lv_dmul hx hb dX1_scaled_36 ((nn_hlf hv).n64) ?_
      refine lv_dstore_n (lv' := [(3, .double (FP.dmul v (4602678819172646912 : UInt64))), (5, .int i), (2, .int k), (0, .double v0)]) hx hb dX1_scaled_37 rfl hl (by decide) rfl (fun ls hl => ?_)
      refine lv_iinc (v := i + (-1)) (lv' := [(5, .int (i + (-1))), (3, .double (FP.dmul v (4602678819172646912 : UInt64))), (2, .int k), (0, .double v0)]) hx hb dX1_scaled_38 hl (k := 1) rfl rfl (by decide) rfl (fun ls hl => ?_)
      refine lv_goto (tgt := 26) hx hb dX1_scaled_41 (by decide) ?_
      exact ih _ _ _ (nn_hlf hv) (by rw [i32_dec (i := i) (k := k) (by omega)]; omega) hfin (lv_sub hl [0, 1, 2, 3] rfl)
  have loop1 : ∀ (n : Nat) (i : Int32) (v : UInt64) (ls : Array Slot), NN v → (k.toInt = i.toInt + n ∨ (n = 0 ∧ k.toInt ≤ i.toInt)) → s_up n v = s_up k.toInt.toNat v0 → lv_has ls 6 [(5, .int i), (3, .double v), (2, .int k), (0, .double v0)] → W p l e rm_c_scaled s m ([.double v0, .int k] : List Value).toArray below meth c H locs 0 0 Q (F0 m 5 ls []) := by
    intro n
    induction n with
    | zero =>
      intro i v ls hv hi hfin hl
      refine lv_iload hx hb dX1_scaled_5 (lv_at hl 0 rfl) ?_
      refine lv_iload_n hx hb dX1_scaled_7 rfl (lv_at hl 2 rfl) ?_
      refine lv_icmp_ge (tgt := 23) hx hb dX1_scaled_8 (by decide) (fun c_8 => ?_) (fun c_8 => absurd (by rw [Int32.le_iff_toInt_le]; omega) c_8)
      refine lv_iconst (v := 0) hx hb dX1_scaled_23 (by decide) ?_
      refine lv_istore (lv' := [(5, .int 0), (3, .double v), (2, .int k), (0, .double v0)]) hx hb dX1_scaled_24 hl (by decide) rfl (fun ls hl => ?_)
      have hfin : v = s_up k.toInt.toNat v0 := hfin
      exact loop2 (-k.toInt).toNat 0 v _ hv (by rw [i32_0]; omega) (by rw [hfin]; rfl) (lv_sub hl [0, 1, 2, 3] rfl)
    | succ n ih =>
      intro i v ls hv hi hfin hl
      refine lv_iload hx hb dX1_scaled_5 (lv_at hl 0 rfl) ?_
      refine lv_iload_n hx hb dX1_scaled_7 rfl (lv_at hl 2 rfl) ?_
      refine lv_icmp_ge (tgt := 23) hx hb dX1_scaled_8 (by decide) (fun c_8 => absurd c_8 (by rw [Int32.le_iff_toInt_le]; omega)) (fun c_8 => ?_)
      refine lv_dload_n hx hb dX1_scaled_11 rfl (lv_at hl 1 rfl) ?_
      refine lv_ldc2d hx hb hown (hts _ q174) dX1_scaled_12 ?_
      refine lv_dmul hx hb dX1_scaled_15 ((nn_dbl hv).n64) ?_
      refine lv_dstore_n (lv' := [(3, .double (FP.dmul v (4611686018427387904 : UInt64))), (5, .int i), (2, .int k), (0, .double v0)]) hx hb dX1_scaled_16 rfl hl (by decide) rfl (fun ls hl => ?_)
      refine lv_iinc (v := i + 1) (lv' := [(5, .int (i + 1)), (3, .double (FP.dmul v (4611686018427387904 : UInt64))), (2, .int k), (0, .double v0)]) hx hb dX1_scaled_17 hl (k := 1) rfl rfl (by decide) rfl (fun ls hl => ?_)
      refine lv_goto (tgt := 5) hx hb dX1_scaled_20 (by decide) ?_
      exact ih _ _ _ (nn_dbl hv) (by rw [i32_inc (i := i) (k := k) (by omega)]; omega) hfin (lv_sub hl [0, 1, 2, 3] rfl)
  refine lv_dload_n hx hb dX1_scaled_0 rfl (lv_at hl 0 rfl) ?_
  refine lv_dstore_n (lv' := [(3, .double v0), (0, .double v0), (2, .int k)]) hx hb dX1_scaled_1 rfl hl (by decide) rfl (fun ls hl => ?_)
  refine lv_iconst (v := 0) hx hb dX1_scaled_2 (by decide) ?_
  refine lv_istore (lv' := [(5, .int 0), (3, .double v0), (0, .double v0), (2, .int k)]) hx hb dX1_scaled_3 hl (by decide) rfl (fun ls hl => ?_)
  exact loop1 k.toInt.toNat 0 v0 _ hv0 (by rw [i32_0]; omega) rfl (lv_sub hl [0, 1, 3, 2] rfl)
end
section
theorem upd_tab {f g : Nat → UInt64} {i : Nat} {x : UInt64} (h : ∀ j, f j = if j < i then g j else 0) (hi : i < 2 ^ 31) (hx : x = g i) : ∀ j, vf_upd f (nI i).toNatClampNeg x j = if j < i + 1 then g j else 0 := by
  intro j
  rw [nI_clamp hi]
  unfold vf_upd
  by_cases hj : j = i
  · subst hj
    rw [if_pos rfl, if_pos (by omega)]
    exact hx
  · rw [if_neg hj, h j]
    by_cases h2 : j < i
    · rw [if_pos h2, if_pos (by omega)]
    · rw [if_neg h2, if_neg (by omega)]
theorem tab_end {f g : Nat → UInt64} {n : Nat} (h : ∀ j, f j = if j < n then g j else 0) (hg : ∀ j, ¬ j < n → g j = 0) : f = g := by
  funext j
  rw [h j]
  by_cases hj : j < n
  · rw [if_pos hj]
  · rw [if_neg hj, hg j hj]
theorem i2_1 (i : Nat) : (2 : Int32) * nI i + 1 = nI (2 * i + 1) := by
  rw [show (2 : Int32) = nI 2 from rfl, pk_mul, nI_1]
theorem i2_0 (i : Nat) : (2 : Int32) * nI i = nI (2 * i) := by
  rw [show (2 : Int32) = nI 2 from rfl, pk_mul]
theorem i2_m2 (i : Nat) : (2 : Int32) * nI (i + 1) - 2 = nI (2 * i) := by
  rw [i2_0, show (2 : Int32) = nI 2 from rfl, pk_sub (by omega)]
  congr 1
theorem i2_m1 (i : Nat) : (2 : Int32) * nI (i + 1) - 1 = nI (2 * i + 1) := by
  rw [i2_0, show (1 : Int32) = nI 1 from rfl, pk_sub (by omega)]
  congr 1
abbrev rm_c_make_E : Room := { frames := 0, cells := 1, slots := 15, locals := 0 }
set_option maxHeartbeats 4000000 in
set_option maxRecDepth 100000 in
theorem c_make_E (l : Launch) (D : va_G) (dA : ClassId) (hE : Nat) : CMr l D dA yX3_make cX3_make 3 rm_c_make_E [.ref hE] [] (fun (_ : Unit) (a : Nat) => [(a, .inl (dA, 15, .inr (.inr (.inr (.inl tE)))))]) (fun _ => True) := by
  refine st_r (by decide) (Nat.le_of_ble_eq_true rfl) ?_
  intro p e s m below meth c A Q H locs ls hCF hK hN hA hP hD hS hl hend
  obtain ⟨hx, hb, hml, hown, hts⟩ := hCF
  have hown : s.vm.findClass RX3 = some m.cls := hown
  have hl : lv_has ls 3 [(0, .ref hE)] := hl
  have loop : ∀ (n : Nat) (a i : Nat) (f : Nat → UInt64) (H : Heap) (locs : List Loc) (ls : Array Slot), i + n = 15 → (∀ j, f j = if j < i then tE j else 0) → va_P D vwCl ([(a, .inl (dA, 15, .inr (.inr (.inr (.inl f)))))]) H → va_D A ([(a, .inl (dA, 15, .inr (.inr (.inr (.inl f)))))]) → va_S A s.heap H locs → lv_has ls 3 [(2, .int (nI i)), (1, .ref a), (0, .ref hE)] → W p l e rm_c_make_E s m ([.ref hE] : List Value).toArray below meth c H locs 1 15 Q (F0 m 7 ls []) := by
    intro n
    induction n with
    | zero =>
      intro a i f H locs ls hn hf hP hD hS hl
      have ei : i = 15 := by omega
      subst ei
      have ef : f = tE := tab_end hf (fun j hj => by unfold tE; rw [if_neg hj])
      subst ef
      refine lv_iload_n hx hb dX3_make_7 rfl (lv_at hl 0 rfl) ?_
      refine lv_bipush (v := 15) hx hb dX3_make_8 (by decide) ?_
      refine lv_icmp_ge (tgt := 24) hx hb dX3_make_10 (by decide) (fun c_10 => ?_) (fun c_10 => absurd (by decide) c_10)
      refine lv_aload_n hx hb dX3_make_24 rfl (lv_at hl 1 rfl) ?_
      exact hend _ _ _ _ 25 _ a () dX3_make_25 (Nat.le_of_ble_eq_true rfl) (Nat.le_of_ble_eq_true rfl) hS trivial hP hD
    | succ n ih =>
      intro a i f H locs ls hn hf hP hD hS hl
      have hi : i < 15 := by omega
      refine lv_iload_n hx hb dX3_make_7 rfl (lv_at hl 0 rfl) ?_
      refine lv_bipush (v := 15) hx hb dX3_make_8 (by decide) ?_
      refine lv_icmp_ge (tgt := 24) hx hb dX3_make_10 (by decide) (fun c_10 => absurd c_10 (by exact nI_ge (a := i) (b := 15) hi (by decide))) (fun c_10 => ?_)
      refine lv_aload_n hx hb dX3_make_13 rfl (lv_at hl 1 rfl) ?_
      refine lv_iload_n hx hb dX3_make_14 rfl (lv_at hl 0 rfl) ?_
      refine lv_iload_n hx hb dX3_make_15 rfl (lv_at hl 0 rfl) ?_
      refine lv_i2d hx hb dX3_make_16 ?_
      refine va_dast hx hb hK hP hD hS 0 0 rfl rfl (vp_in_nI hi (by decide)) dX3_make_17 (fun H locs hP hD hS => ?_)
      have hP : va_P D vwCl ([(a, .inl (dA, 15, .inr (.inr (.inr (.inl (vf_upd f (nI i).toNatClampNeg (FP.i2d (nI i))))))))]) H := hP
      have hD : va_D A ([(a, .inl (dA, 15, .inr (.inr (.inr (.inl (vf_upd f (nI i).toNatClampNeg (FP.i2d (nI i))))))))]) := hD
      refine lv_iinc (v := nI (i + 1)) (lv' := [(2, .int (nI (i + 1))), (1, .ref a), (0, .ref hE)]) hx hb dX3_make_18 hl (k := 0) rfl (nI_1 i) (by decide) rfl (fun ls hl => ?_)
      refine lv_goto (tgt := 7) hx hb dX3_make_21 (by decide) ?_
      exact ih a (i + 1) _ H locs ls (by omega) (upd_tab hf (by omega) (by unfold tE; rw [if_pos hi])) hP hD hS (lv_sub hl [0, 1, 2] rfl)
  refine lv_bipush (v := 15) hx hb dX3_make_0 (by decide) ?_
  refine va_newa (atype := .double) (ty := .double) (N' := 15) (a0 := (15, .inr (.inr (.inr (.inl (fun _ => 0)))))) hx hb (hts _ q196) rfl hK hP hD hS hA (fun _ => rfl) (by decide) (by decide) (by decide) (Nat.le_of_ble_eq_true rfl) (Nat.le_of_ble_eq_true rfl) dX3_make_2 (fun a cA H hK2 hP hD hS => ?_)
  have hcA : cA = dA := Option.some.inj ((hK2.2 1 _ rfl).2.symm.trans (hK.2 0 _ rfl).2)
  rw [hcA] at hP hD
  refine W.widen (k := 1) (n := 15) (Nat.le_of_ble_eq_true rfl) (Nat.le_of_ble_eq_true rfl) ?_
  have hP : va_P D vwCl ([(a, .inl (dA, 15, .inr (.inr (.inr (.inl (fun _ => 0))))))]) H := hP
  have hD : va_D A ([(a, .inl (dA, 15, .inr (.inr (.inr (.inl (fun _ => 0))))))]) := hD
  refine lv_astore_n (lv' := [(1, .ref a), (0, .ref hE)]) hx hb dX3_make_4 rfl hl (by decide) rfl (fun ls hl => ?_)
  refine lv_iconst (v := 0) hx hb dX3_make_5 (by decide) ?_
  refine lv_istore_n (lv' := [(2, .int 0), (1, .ref a), (0, .ref hE)]) hx hb dX3_make_6 rfl hl (by decide) rfl (fun ls hl => ?_)
  exact loop 15 a 0 _ H locs ls (by decide) (fun j => by rw [if_neg (by omega)]) hP hD hS (lv_sub hl [0, 1, 2] rfl)
abbrev rm_c_make_L : Room := { frames := 0, cells := 1, slots := 14, locals := 0 }
set_option maxHeartbeats 4000000 in
set_option maxRecDepth 100000 in
theorem c_make_L (l : Launch) (D : va_G) (dA : ClassId) (hL : Nat) : CMr l D dA yX4_make cX4_make 3 rm_c_make_L [.ref hL] [] (fun (_ : Unit) (a : Nat) => [(a, .inl (dA, 14, .inr (.inr (.inr (.inl tL)))))]) (fun _ => True) := by
  refine st_r (by decide) (Nat.le_of_ble_eq_true rfl) ?_
  intro p e s m below meth c A Q H locs ls hCF hK hN hA hP hD hS hl hend
  obtain ⟨hx, hb, hml, hown, hts⟩ := hCF
  have hown : s.vm.findClass RX4 = some m.cls := hown
  have hl : lv_has ls 3 [(0, .ref hL)] := hl
  have loop : ∀ (n : Nat) (a i : Nat) (f : Nat → UInt64) (H : Heap) (locs : List Loc) (ls : Array Slot), i + n = 14 → (∀ j, f j = if j < i then tL j else 0) → va_P D vwCl ([(a, .inl (dA, 14, .inr (.inr (.inr (.inl f)))))]) H → va_D A ([(a, .inl (dA, 14, .inr (.inr (.inr (.inl f)))))]) → va_S A s.heap H locs → lv_has ls 3 [(2, .int (nI i)), (1, .ref a), (0, .ref hL)] → W p l e rm_c_make_L s m ([.ref hL] : List Value).toArray below meth c H locs 1 14 Q (F0 m 7 ls []) := by
    intro n
    induction n with
    | zero =>
      intro a i f H locs ls hn hf hP hD hS hl
      have ei : i = 14 := by omega
      subst ei
      have ef : f = tL := tab_end hf (fun j hj => by unfold tL; rw [if_neg hj])
      subst ef
      refine lv_iload_n hx hb dX4_make_7 rfl (lv_at hl 0 rfl) ?_
      refine lv_bipush (v := 14) hx hb dX4_make_8 (by decide) ?_
      refine lv_icmp_ge (tgt := 30) hx hb dX4_make_10 (by decide) (fun c_10 => ?_) (fun c_10 => absurd (by decide) c_10)
      refine lv_aload_n hx hb dX4_make_30 rfl (lv_at hl 1 rfl) ?_
      exact hend _ _ _ _ 31 _ a () dX4_make_31 (Nat.le_of_ble_eq_true rfl) (Nat.le_of_ble_eq_true rfl) hS trivial hP hD
    | succ n ih =>
      intro a i f H locs ls hn hf hP hD hS hl
      have hi : i < 14 := by omega
      refine lv_iload_n hx hb dX4_make_7 rfl (lv_at hl 0 rfl) ?_
      refine lv_bipush (v := 14) hx hb dX4_make_8 (by decide) ?_
      refine lv_icmp_ge (tgt := 30) hx hb dX4_make_10 (by decide) (fun c_10 => absurd c_10 (by exact nI_ge (a := i) (b := 14) hi (by decide))) (fun c_10 => ?_)
      refine lv_aload_n hx hb dX4_make_13 rfl (lv_at hl 1 rfl) ?_
      refine lv_iload_n hx hb dX4_make_14 rfl (lv_at hl 0 rfl) ?_
      refine lv_dconst1 hx hb dX4_make_15 ?_
      refine lv_iconst (v := 2) hx hb dX4_make_16 (by decide) ?_
      refine lv_iload_n hx hb dX4_make_17 rfl (lv_at hl 0 rfl) ?_
      refine lv_imul hx hb dX4_make_18 ?_
      refine lv_iconst (v := 1) hx hb dX4_make_19 (by decide) ?_
      refine lv_iadd hx hb dX4_make_20 ?_
      rw [i2_1]
      refine lv_i2d hx hb dX4_make_21 ?_
      refine lv_ddiv hx hb dX4_make_22 ((show DF (s_lt i) from (lt_sz (by omega)).1).n64) ?_
      refine va_dast hx hb hK hP hD hS 0 0 rfl rfl (vp_in_nI hi (by decide)) dX4_make_23 (fun H locs hP hD hS => ?_)
      have hP : va_P D vwCl ([(a, .inl (dA, 14, .inr (.inr (.inr (.inl (vf_upd f (nI i).toNatClampNeg (s_lt i)))))))]) H := hP
      have hD : va_D A ([(a, .inl (dA, 14, .inr (.inr (.inr (.inl (vf_upd f (nI i).toNatClampNeg (s_lt i)))))))]) := hD
      refine lv_iinc (v := nI (i + 1)) (lv' := [(2, .int (nI (i + 1))), (1, .ref a), (0, .ref hL)]) hx hb dX4_make_24 hl (k := 0) rfl (nI_1 i) (by decide) rfl (fun ls hl => ?_)
      refine lv_goto (tgt := 7) hx hb dX4_make_27 (by decide) ?_
      exact ih a (i + 1) _ H locs ls (by omega) (upd_tab hf (by omega) (by unfold tL; rw [if_pos hi])) hP hD hS (lv_sub hl [0, 1, 2] rfl)
  refine lv_bipush (v := 14) hx hb dX4_make_0 (by decide) ?_
  refine va_newa (atype := .double) (ty := .double) (N' := 14) (a0 := (14, .inr (.inr (.inr (.inl (fun _ => 0)))))) hx hb (hts _ q196) rfl hK hP hD hS hA (fun _ => rfl) (by decide) (by decide) (by decide) (Nat.le_of_ble_eq_true rfl) (Nat.le_of_ble_eq_true rfl) dX4_make_2 (fun a cA H hK2 hP hD hS => ?_)
  have hcA : cA = dA := Option.some.inj ((hK2.2 1 _ rfl).2.symm.trans (hK.2 0 _ rfl).2)
  rw [hcA] at hP hD
  refine W.widen (k := 1) (n := 14) (Nat.le_of_ble_eq_true rfl) (Nat.le_of_ble_eq_true rfl) ?_
  have hP : va_P D vwCl ([(a, .inl (dA, 14, .inr (.inr (.inr (.inl (fun _ => 0))))))]) H := hP
  have hD : va_D A ([(a, .inl (dA, 14, .inr (.inr (.inr (.inl (fun _ => 0))))))]) := hD
  refine lv_astore_n (lv' := [(1, .ref a), (0, .ref hL)]) hx hb dX4_make_4 rfl hl (by decide) rfl (fun ls hl => ?_)
  refine lv_iconst (v := 0) hx hb dX4_make_5 (by decide) ?_
  refine lv_istore_n (lv' := [(2, .int 0), (1, .ref a), (0, .ref hL)]) hx hb dX4_make_6 rfl hl (by decide) rfl (fun ls hl => ?_)
  exact loop 14 a 0 _ H locs ls (by decide) (fun j => by rw [if_neg (by omega)]) hP hD hS (lv_sub hl [0, 1, 2] rfl)
abbrev rm_c_make_X : Room := { frames := 0, cells := 1, slots := 120, locals := 0 }
set_option maxHeartbeats 4000000 in
set_option maxRecDepth 100000 in
theorem c_make_X (l : Launch) (D : va_G) (dA : ClassId) (hX : Nat) : CMr l D dA yX6_make cX6_make 3 rm_c_make_X [.ref hX] [] (fun (_ : Unit) (a : Nat) => [(a, .inl (dA, 120, .inr (.inr (.inr (.inl tX)))))]) (fun _ => True) := by
  refine st_r (by decide) (Nat.le_of_ble_eq_true rfl) ?_
  intro p e s m below meth c A Q H locs ls hCF hK hN hA hP hD hS hl hend
  obtain ⟨hx, hb, hml, hown, hts⟩ := hCF
  have hown : s.vm.findClass RX6 = some m.cls := hown
  have hl : lv_has ls 3 [(0, .ref hX)] := hl
  have loop : ∀ (n : Nat) (a i : Nat) (f : Nat → UInt64) (H : Heap) (locs : List Loc) (ls : Array Slot), i + n = 60 → (∀ j, f j = if j < 2 * i then tX j else 0) → va_P D vwCl ([(a, .inl (dA, 120, .inr (.inr (.inr (.inl f)))))]) H → va_D A ([(a, .inl (dA, 120, .inr (.inr (.inr (.inl f)))))]) → va_S A s.heap H locs → lv_has ls 3 [(2, .int (nI (i + 1))), (1, .ref a), (0, .ref hX)] → W p l e rm_c_make_X s m ([.ref hX] : List Value).toArray below meth c H locs 1 120 Q (F0 m 7 ls []) := by
    intro n
    induction n with
    | zero =>
      intro a i f H locs ls hn hf hP hD hS hl
      have ei : i = 60 := by omega
      subst ei
      have ef : f = tX := tab_end hf (fun j hj => by unfold tX; rw [if_neg hj])
      subst ef
      refine lv_iload_n hx hb dX6_make_7 rfl (lv_at hl 0 rfl) ?_
      refine lv_bipush (v := 60) hx hb dX6_make_8 (by decide) ?_
      refine lv_icmp_gt (tgt := 41) hx hb dX6_make_10 (by decide) (fun c_10 => ?_) (fun c_10 => absurd (by decide) c_10)
      refine lv_aload_n hx hb dX6_make_41 rfl (lv_at hl 1 rfl) ?_
      exact hend _ _ _ _ 42 _ a () dX6_make_42 (Nat.le_of_ble_eq_true rfl) (Nat.le_of_ble_eq_true rfl) hS trivial hP hD
    | succ n ih =>
      intro a i f H locs ls hn hf hP hD hS hl
      have hi : i < 60 := by omega
      refine lv_iload_n hx hb dX6_make_7 rfl (lv_at hl 0 rfl) ?_
      refine lv_bipush (v := 60) hx hb dX6_make_8 (by decide) ?_
      refine lv_icmp_gt (tgt := 41) hx hb dX6_make_10 (by decide) (fun c_10 => absurd c_10 (by exact nI_nlt (a := 60) (b := i + 1) (by omega) (by omega))) (fun c_10 => ?_)
      refine lv_aload_n hx hb dX6_make_13 rfl (lv_at hl 1 rfl) ?_
      refine lv_iconst (v := 2) hx hb dX6_make_14 (by decide) ?_
      refine lv_iload_n hx hb dX6_make_15 rfl (lv_at hl 0 rfl) ?_
      refine lv_imul hx hb dX6_make_16 ?_
      refine lv_iconst (v := 2) hx hb dX6_make_17 (by decide) ?_
      refine lv_isub hx hb dX6_make_18 ?_
      rw [i2_m2]
      refine lv_iload_n hx hb dX6_make_19 rfl (lv_at hl 0 rfl) ?_
      refine lv_i2d hx hb dX6_make_20 ?_
      refine va_dast hx hb hK hP hD hS 0 0 rfl rfl (vp_in_nI (by omega) (by decide)) dX6_make_21 (fun H locs hP hD hS => ?_)
      have hP : va_P D vwCl ([(a, .inl (dA, 120, .inr (.inr (.inr (.inl (vf_upd f (nI (2 * i)).toNatClampNeg (FP.i2d (nI (i + 1)))))))))]) H := hP
      have hD : va_D A ([(a, .inl (dA, 120, .inr (.inr (.inr (.inl (vf_upd f (nI (2 * i)).toNatClampNeg (FP.i2d (nI (i + 1)))))))))]) := hD
      refine lv_aload_n hx hb dX6_make_22 rfl (lv_at hl 1 rfl) ?_
      refine lv_iconst (v := 2) hx hb dX6_make_23 (by decide) ?_
      refine lv_iload_n hx hb dX6_make_24 rfl (lv_at hl 0 rfl) ?_
      refine lv_imul hx hb dX6_make_25 ?_
      refine lv_iconst (v := 1) hx hb dX6_make_26 (by decide) ?_
      refine lv_isub hx hb dX6_make_27 ?_
      rw [i2_m1]
      refine lv_iconst (v := 2) hx hb dX6_make_28 (by decide) ?_
      refine lv_iload_n hx hb dX6_make_29 rfl (lv_at hl 0 rfl) ?_
      refine lv_imul hx hb dX6_make_30 ?_
      refine lv_iconst (v := 1) hx hb dX6_make_31 (by decide) ?_
      refine lv_iadd hx hb dX6_make_32 ?_
      rw [i2_1]
      refine lv_i2d hx hb dX6_make_33 ?_
      refine va_dast hx hb hK hP hD hS 0 0 rfl rfl (vp_in_nI (by omega) (by decide)) dX6_make_34 (fun H locs hP hD hS => ?_)
      have hP : va_P D vwCl ([(a, .inl (dA, 120, .inr (.inr (.inr (.inl (vf_upd (vf_upd f (nI (2 * i)).toNatClampNeg (FP.i2d (nI (i + 1)))) (nI (2 * i + 1)).toNatClampNeg (FP.i2d (nI (2 * (i + 1) + 1)))))))))]) H := hP
      have hD : va_D A ([(a, .inl (dA, 120, .inr (.inr (.inr (.inl (vf_upd (vf_upd f (nI (2 * i)).toNatClampNeg (FP.i2d (nI (i + 1)))) (nI (2 * i + 1)).toNatClampNeg (FP.i2d (nI (2 * (i + 1) + 1)))))))))]) := hD
      refine lv_iinc (v := nI (i + 1 + 1)) (lv' := [(2, .int (nI (i + 1 + 1))), (1, .ref a), (0, .ref hX)]) hx hb dX6_make_35 hl (k := 0) rfl (nI_1 (i + 1)) (by decide) rfl (fun ls hl => ?_)
      refine lv_goto (tgt := 7) hx hb dX6_make_38 (by decide) ?_
      have g1 := upd_tab hf (x := FP.i2d (nI (i + 1))) (by omega) (by unfold tX; rw [if_pos (by omega), if_pos (by omega)]; congr 3; omega)
      have g2 := upd_tab (i := 2 * i + 1) (x := FP.i2d (nI (2 * (i + 1) + 1))) g1 (by omega) (by unfold tX; rw [if_pos (by omega), if_neg (by omega), show 2 * (i + 1) + 1 = 2 * i + 1 + 2 from by omega])
      exact ih a (i + 1) _ H locs ls (by omega) (fun j => by rw [g2 j, show 2 * (i + 1) = 2 * i + 1 + 1 from by omega]) hP hD hS (lv_sub hl [0, 1, 2] rfl)
  refine lv_bipush (v := 120) hx hb dX6_make_0 (by decide) ?_
  refine va_newa (atype := .double) (ty := .double) (N' := 120) (a0 := (120, .inr (.inr (.inr (.inl (fun _ => 0)))))) hx hb (hts _ q196) rfl hK hP hD hS hA (fun _ => rfl) (by decide) (by decide) (by decide) (Nat.le_of_ble_eq_true rfl) (Nat.le_of_ble_eq_true rfl) dX6_make_2 (fun a cA H hK2 hP hD hS => ?_)
  have hcA : cA = dA := Option.some.inj ((hK2.2 1 _ rfl).2.symm.trans (hK.2 0 _ rfl).2)
  rw [hcA] at hP hD
  refine W.widen (k := 1) (n := 120) (Nat.le_of_ble_eq_true rfl) (Nat.le_of_ble_eq_true rfl) ?_
  have hP : va_P D vwCl ([(a, .inl (dA, 120, .inr (.inr (.inr (.inl (fun _ => 0))))))]) H := hP
  have hD : va_D A ([(a, .inl (dA, 120, .inr (.inr (.inr (.inl (fun _ => 0))))))]) := hD
  refine lv_astore_n (lv' := [(1, .ref a), (0, .ref hX)]) hx hb dX6_make_4 rfl hl (by decide) rfl (fun ls hl => ?_)
  refine lv_iconst (v := 1) hx hb dX6_make_5 (by decide) ?_
  refine lv_istore_n (lv' := [(2, .int 1), (1, .ref a), (0, .ref hX)]) hx hb dX6_make_6 rfl hl (by decide) rfl (fun ls hl => ?_)
  exact loop 60 a 0 _ H locs ls (by decide) (fun j => by rw [if_neg (by omega)]) hP hD hS (lv_sub hl [0, 1, 2] rfl)
end
section
theorem cw_mkE {D : va_G} {dA : ClassId} {A : Nat → Prop} {H : Heap} {h0 hE hL hR hX a : Nat} {sd : Int64} {cd : Int32} {uL uX : Option Nat} (hP : va_P D vwCl ((cw dA h0 hE hL hR hX sd cd none uL uX ++ ([(a, .inl (dA, 15, .inr (.inr (.inr (.inl tE)))))] : va_W)).set 1 (hE, .inr (1, [.ref a]))) H) (hD : va_D A ((cw dA h0 hE hL hR hX sd cd none uL uX ++ ([(a, .inl (dA, 15, .inr (.inr (.inr (.inl tE)))))] : va_W)).set 1 (hE, .inr (1, [.ref a])))) : va_P D vwCl (cw dA h0 hE hL hR hX sd cd (some a) uL uX) H ∧ va_D A (cw dA h0 hE hL hR hX sd cd (some a) uL uX) := by
  cases uL <;> cases uX
  · exact ⟨hP.sub [0, 1, 2, 3, 4, 5] rfl, hD.sub [0, 1, 2, 3, 4, 5] (by decide) rfl⟩
  · exact ⟨hP.sub [0, 1, 2, 3, 4, 6, 5] rfl, hD.sub [0, 1, 2, 3, 4, 6, 5] (by decide) rfl⟩
  · exact ⟨hP.sub [0, 1, 2, 3, 4, 6, 5] rfl, hD.sub [0, 1, 2, 3, 4, 6, 5] (by decide) rfl⟩
  · exact ⟨hP.sub [0, 1, 2, 3, 4, 7, 5, 6] rfl, hD.sub [0, 1, 2, 3, 4, 7, 5, 6] (by decide) rfl⟩
theorem cw_atE {dA : ClassId} {h0 hE hL hR hX a : Nat} {sd : Int64} {cd : Int32} {uL uX : Option Nat} : ∃ k : Nat, (cw dA h0 hE hL hR hX sd cd (some a) uL uX)[k]? = some (a, .inl (dA, 15, .inr (.inr (.inr (.inl tE))))) := by
  exact ⟨5, rfl⟩
abbrev rm_c_at_E : Room := { frames := 1, cells := 1, slots := 15, locals := 22 }
set_option maxHeartbeats 4000000 in
set_option maxRecDepth 100000 in
theorem c_at_E (l : Launch) (D : va_G) (dA : ClassId) (h0 hE hL hR hX : Nat) (sd : Int64) (cd : Int32) (uE uL uX : Option Nat) (j : Nat) (hj : j < 15) : CMd l D dA yX2_at cX2_at 2 rm_c_at_E [.ref hE, .int (nI j)] (cw dA h0 hE hL hR hX sd cd uE uL uX) (fun u : Option Nat => cw dA h0 hE hL hR hX sd cd u uL uX) (fun r u => r = tE j ∧ fl u = 1) := by
  refine st_d (by decide) (Nat.le_of_ble_eq_true rfl) ?_
  intro p e s m below meth c A Q H locs ls hCF hK hN hA hP hD hS hl hend
  obtain ⟨hx, hb, hml, hown, hts⟩ := hCF
  have hown : s.vm.findClass RX2 = some m.cls := hown
  have hl : lv_has ls 2 [(0, .ref hE), (1, .int (nI j))] := hl
  cases uE with
  | none =>
    refine lv_aload_n hx hb dX2_at_0 rfl (lv_at hl 0 rfl) ?_
    refine va_get (D := D) (ci := 1) (v := .null) (C := RX3) (T := TX3) (N := 1) hx hb hts in_X3 hown hK hP 1 rfl rfl 0 (by decide) (hts _ q36) (fun _ h9 => h9) rfl dX2_at_1 ?_
    refine lv_ifnonnullN hx hb dX2_at_4 ?_
    refine lv_aload_n hx hb dX2_at_7 rfl (lv_at hl 0 rfl) ?_
    refine lv_aload_n hx hb dX2_at_8 rfl (lv_at hl 0 rfl) ?_
    refine cl0_r (va_runU (As := []) (rest := [.ref hE]) ⟨hx, hb, hml, hown, hts⟩ (c_make_E l D dA hE H.size) (va_cwA 0 hts (lw_U q139 q141 q145 q146 q14 q147) rfl rfl rfl (hN.at 18 rfl) (by decide +kernel) ⟨Nat.le_of_ble_eq_true rfl, Nat.le_of_ble_eq_true rfl⟩) (pr_V hK hN p_nil (d_nil (A := A)) (va_recv hK hP (ci := 1) (q0 := 1) rfl rfl)) rfl rfl hl.1 rfl (lv_room (Nat.le_of_ble_eq_true rfl)) dX2_at_9 ⟨Nat.le_of_ble_eq_true rfl, Nat.le_of_ble_eq_true rfl⟩) hS hP hD hA (fun u_9 a_9 H locs hpo_9 hP hD hS => ?_)
    refine W.widen (k := 1) (n := 15) (Nat.le_of_ble_eq_true rfl) (Nat.le_of_ble_eq_true rfl) ?_
    generalize a_9 = a at hP hD ⊢
    have hP : va_P D vwCl (cw dA h0 hE hL hR hX sd cd none uL uX ++ ([(a, .inl (dA, 15, .inr (.inr (.inr (.inl tE)))))] : va_W)) H := hP
    have hD : va_D A (cw dA h0 hE hL hR hX sd cd none uL uX ++ ([(a, .inl (dA, 15, .inr (.inr (.inr (.inl tE)))))] : va_W)) := hD
    refine va_put (D := D) (ci := 1) (v := .ref a) (ty := (.array .double)) (C := RX3) (T := TX3) (N := 1) hx hb hts in_X3 tyX3 tyX3_ok nmX3 hown hK hP hD hS 1 rfl rfl 0 (by decide) (hts _ q36) (fun _ h9 => h9) rfl (by decide +kernel) rfl rfl (Nat.le_of_ble_eq_true rfl) dX2_at_12 (fun H locs hP hD hS => ?_)
    obtain ⟨hP, hD⟩ := cw_mkE hP hD
    obtain ⟨k0, hk0⟩ := cw_atE (dA := dA) (h0 := h0) (hE := hE) (hL := hL) (hR := hR) (hX := hX) (a := a) (sd := sd) (cd := cd) (uL := uL) (uX := uX)
    refine lv_aload_n hx hb dX2_at_15 rfl (lv_at hl 0 rfl) ?_
    refine va_get (D := D) (ci := 1) (v := .ref a) (C := RX3) (T := TX3) (N := 1) hx hb hts in_X3 hown hK hP 1 rfl rfl 0 (by decide) (hts _ q36) (fun _ h9 => h9) rfl dX2_at_16 ?_
    refine lv_iload_n hx hb dX2_at_19 rfl (lv_at hl 1 rfl) ?_
    refine va_dald hx hb hK hP k0 0 hk0 rfl (vp_in_nI hj (by decide)) dX2_at_20 ?_
    exact hend _ _ _ _ 21 _ (tE (nI j).toNatClampNeg) (some a) dX2_at_21 (Nat.le_of_ble_eq_true rfl) (Nat.le_of_ble_eq_true rfl) hS (⟨by rw [nI_clamp (by omega)], rfl⟩) hP hD
  | some a =>
    refine lv_aload_n hx hb dX2_at_0 rfl (lv_at hl 0 rfl) ?_
    refine va_get (D := D) (ci := 1) (v := .ref a) (C := RX3) (T := TX3) (N := 1) hx hb hts in_X3 hown hK hP 1 rfl rfl 0 (by decide) (hts _ q36) (fun _ h9 => h9) rfl dX2_at_1 ?_
    refine lv_ifnonnull (tgt := 15) hx hb dX2_at_4 (by decide) ?_
    obtain ⟨k0, hk0⟩ := cw_atE (dA := dA) (h0 := h0) (hE := hE) (hL := hL) (hR := hR) (hX := hX) (a := a) (sd := sd) (cd := cd) (uL := uL) (uX := uX)
    refine lv_aload_n hx hb dX2_at_15 rfl (lv_at hl 0 rfl) ?_
    refine va_get (D := D) (ci := 1) (v := .ref a) (C := RX3) (T := TX3) (N := 1) hx hb hts in_X3 hown hK hP 1 rfl rfl 0 (by decide) (hts _ q36) (fun _ h9 => h9) rfl dX2_at_16 ?_
    refine lv_iload_n hx hb dX2_at_19 rfl (lv_at hl 1 rfl) ?_
    refine va_dald hx hb hK hP k0 0 hk0 rfl (vp_in_nI hj (by decide)) dX2_at_20 ?_
    exact hend _ _ _ _ 21 _ (tE (nI j).toNatClampNeg) (some a) dX2_at_21 (Nat.le_of_ble_eq_true rfl) (Nat.le_of_ble_eq_true rfl) hS (⟨by rw [nI_clamp (by omega)], rfl⟩) hP hD
theorem cw_mkL {D : va_G} {dA : ClassId} {A : Nat → Prop} {H : Heap} {h0 hE hL hR hX a : Nat} {sd : Int64} {cd : Int32} {uE uX : Option Nat} (hP : va_P D vwCl ((cw dA h0 hE hL hR hX sd cd uE none uX ++ ([(a, .inl (dA, 14, .inr (.inr (.inr (.inl tL)))))] : va_W)).set 2 (hL, .inr (2, [.ref a]))) H) (hD : va_D A ((cw dA h0 hE hL hR hX sd cd uE none uX ++ ([(a, .inl (dA, 14, .inr (.inr (.inr (.inl tL)))))] : va_W)).set 2 (hL, .inr (2, [.ref a])))) : va_P D vwCl (cw dA h0 hE hL hR hX sd cd uE (some a) uX) H ∧ va_D A (cw dA h0 hE hL hR hX sd cd uE (some a) uX) := by
  cases uE <;> cases uX
  · exact ⟨hP.sub [0, 1, 2, 3, 4, 5] rfl, hD.sub [0, 1, 2, 3, 4, 5] (by decide) rfl⟩
  · exact ⟨hP.sub [0, 1, 2, 3, 4, 6, 5] rfl, hD.sub [0, 1, 2, 3, 4, 6, 5] (by decide) rfl⟩
  · exact ⟨hP.sub [0, 1, 2, 3, 4, 5, 6] rfl, hD.sub [0, 1, 2, 3, 4, 5, 6] (by decide) rfl⟩
  · exact ⟨hP.sub [0, 1, 2, 3, 4, 5, 7, 6] rfl, hD.sub [0, 1, 2, 3, 4, 5, 7, 6] (by decide) rfl⟩
theorem cw_atL {dA : ClassId} {h0 hE hL hR hX a : Nat} {sd : Int64} {cd : Int32} {uE uX : Option Nat} : ∃ k : Nat, (cw dA h0 hE hL hR hX sd cd uE (some a) uX)[k]? = some (a, .inl (dA, 14, .inr (.inr (.inr (.inl tL))))) := by
  cases uE
  · exact ⟨5, rfl⟩
  · exact ⟨6, rfl⟩
abbrev rm_c_at_L : Room := { frames := 1, cells := 1, slots := 14, locals := 22 }
set_option maxHeartbeats 4000000 in
set_option maxRecDepth 100000 in
theorem c_at_L (l : Launch) (D : va_G) (dA : ClassId) (h0 hE hL hR hX : Nat) (sd : Int64) (cd : Int32) (uE uL uX : Option Nat) (j : Nat) (hj : j < 14) : CMd l D dA yX2_at cX2_at 2 rm_c_at_L [.ref hL, .int (nI j)] (cw dA h0 hE hL hR hX sd cd uE uL uX) (fun u : Option Nat => cw dA h0 hE hL hR hX sd cd uE u uX) (fun r u => r = tL j ∧ fl u = 1) := by
  refine st_d (by decide) (Nat.le_of_ble_eq_true rfl) ?_
  intro p e s m below meth c A Q H locs ls hCF hK hN hA hP hD hS hl hend
  obtain ⟨hx, hb, hml, hown, hts⟩ := hCF
  have hown : s.vm.findClass RX2 = some m.cls := hown
  have hl : lv_has ls 2 [(0, .ref hL), (1, .int (nI j))] := hl
  cases uL with
  | none =>
    refine lv_aload_n hx hb dX2_at_0 rfl (lv_at hl 0 rfl) ?_
    refine va_get (D := D) (ci := 2) (v := .null) (C := RX4) (T := TX4) (N := 1) hx hb hts in_X4 hown hK hP 2 rfl rfl 0 (by decide) (hts _ q36) (fun _ h9 => h9) rfl dX2_at_1 ?_
    refine lv_ifnonnullN hx hb dX2_at_4 ?_
    refine lv_aload_n hx hb dX2_at_7 rfl (lv_at hl 0 rfl) ?_
    refine lv_aload_n hx hb dX2_at_8 rfl (lv_at hl 0 rfl) ?_
    refine cl0_r (va_runU (As := []) (rest := [.ref hL]) ⟨hx, hb, hml, hown, hts⟩ (c_make_L l D dA hL H.size) (va_cwA 0 hts (lw_U q139 q141 q148 q149 q15 q150) rfl rfl rfl (hN.at 18 rfl) (by decide +kernel) ⟨Nat.le_of_ble_eq_true rfl, Nat.le_of_ble_eq_true rfl⟩) (pr_V hK hN p_nil (d_nil (A := A)) (va_recv hK hP (ci := 2) (q0 := 2) rfl rfl)) rfl rfl hl.1 rfl (lv_room (Nat.le_of_ble_eq_true rfl)) dX2_at_9 ⟨Nat.le_of_ble_eq_true rfl, Nat.le_of_ble_eq_true rfl⟩) hS hP hD hA (fun u_9 a_9 H locs hpo_9 hP hD hS => ?_)
    refine W.widen (k := 1) (n := 14) (Nat.le_of_ble_eq_true rfl) (Nat.le_of_ble_eq_true rfl) ?_
    generalize a_9 = a at hP hD ⊢
    have hP : va_P D vwCl (cw dA h0 hE hL hR hX sd cd uE none uX ++ ([(a, .inl (dA, 14, .inr (.inr (.inr (.inl tL)))))] : va_W)) H := hP
    have hD : va_D A (cw dA h0 hE hL hR hX sd cd uE none uX ++ ([(a, .inl (dA, 14, .inr (.inr (.inr (.inl tL)))))] : va_W)) := hD
    refine va_put (D := D) (ci := 2) (v := .ref a) (ty := (.array .double)) (C := RX4) (T := TX4) (N := 1) hx hb hts in_X4 tyX4 tyX4_ok nmX4 hown hK hP hD hS 2 rfl rfl 0 (by decide) (hts _ q36) (fun _ h9 => h9) rfl (by decide +kernel) rfl rfl (Nat.le_of_ble_eq_true rfl) dX2_at_12 (fun H locs hP hD hS => ?_)
    obtain ⟨hP, hD⟩ := cw_mkL hP hD
    obtain ⟨k0, hk0⟩ := cw_atL (dA := dA) (h0 := h0) (hE := hE) (hL := hL) (hR := hR) (hX := hX) (a := a) (sd := sd) (cd := cd) (uE := uE) (uX := uX)
    refine lv_aload_n hx hb dX2_at_15 rfl (lv_at hl 0 rfl) ?_
    refine va_get (D := D) (ci := 2) (v := .ref a) (C := RX4) (T := TX4) (N := 1) hx hb hts in_X4 hown hK hP 2 rfl rfl 0 (by decide) (hts _ q36) (fun _ h9 => h9) rfl dX2_at_16 ?_
    refine lv_iload_n hx hb dX2_at_19 rfl (lv_at hl 1 rfl) ?_
    refine va_dald hx hb hK hP k0 0 hk0 rfl (vp_in_nI hj (by decide)) dX2_at_20 ?_
    exact hend _ _ _ _ 21 _ (tL (nI j).toNatClampNeg) (some a) dX2_at_21 (Nat.le_of_ble_eq_true rfl) (Nat.le_of_ble_eq_true rfl) hS (⟨by rw [nI_clamp (by omega)], rfl⟩) hP hD
  | some a =>
    refine lv_aload_n hx hb dX2_at_0 rfl (lv_at hl 0 rfl) ?_
    refine va_get (D := D) (ci := 2) (v := .ref a) (C := RX4) (T := TX4) (N := 1) hx hb hts in_X4 hown hK hP 2 rfl rfl 0 (by decide) (hts _ q36) (fun _ h9 => h9) rfl dX2_at_1 ?_
    refine lv_ifnonnull (tgt := 15) hx hb dX2_at_4 (by decide) ?_
    obtain ⟨k0, hk0⟩ := cw_atL (dA := dA) (h0 := h0) (hE := hE) (hL := hL) (hR := hR) (hX := hX) (a := a) (sd := sd) (cd := cd) (uE := uE) (uX := uX)
    refine lv_aload_n hx hb dX2_at_15 rfl (lv_at hl 0 rfl) ?_
    refine va_get (D := D) (ci := 2) (v := .ref a) (C := RX4) (T := TX4) (N := 1) hx hb hts in_X4 hown hK hP 2 rfl rfl 0 (by decide) (hts _ q36) (fun _ h9 => h9) rfl dX2_at_16 ?_
    refine lv_iload_n hx hb dX2_at_19 rfl (lv_at hl 1 rfl) ?_
    refine va_dald hx hb hK hP k0 0 hk0 rfl (vp_in_nI hj (by decide)) dX2_at_20 ?_
    exact hend _ _ _ _ 21 _ (tL (nI j).toNatClampNeg) (some a) dX2_at_21 (Nat.le_of_ble_eq_true rfl) (Nat.le_of_ble_eq_true rfl) hS (⟨by rw [nI_clamp (by omega)], rfl⟩) hP hD
theorem cw_mkX {D : va_G} {dA : ClassId} {A : Nat → Prop} {H : Heap} {h0 hE hL hR hX a : Nat} {sd : Int64} {cd : Int32} {uE uL : Option Nat} (hP : va_P D vwCl ((cw dA h0 hE hL hR hX sd cd uE uL none ++ ([(a, .inl (dA, 120, .inr (.inr (.inr (.inl tX)))))] : va_W)).set 4 (hX, .inr (4, [.ref a, .ref hE]))) H) (hD : va_D A ((cw dA h0 hE hL hR hX sd cd uE uL none ++ ([(a, .inl (dA, 120, .inr (.inr (.inr (.inl tX)))))] : va_W)).set 4 (hX, .inr (4, [.ref a, .ref hE])))) : va_P D vwCl (cw dA h0 hE hL hR hX sd cd uE uL (some a)) H ∧ va_D A (cw dA h0 hE hL hR hX sd cd uE uL (some a)) := by
  cases uE <;> cases uL
  · exact ⟨hP.sub [0, 1, 2, 3, 4, 5] rfl, hD.sub [0, 1, 2, 3, 4, 5] (by decide) rfl⟩
  · exact ⟨hP.sub [0, 1, 2, 3, 4, 5, 6] rfl, hD.sub [0, 1, 2, 3, 4, 5, 6] (by decide) rfl⟩
  · exact ⟨hP.sub [0, 1, 2, 3, 4, 5, 6] rfl, hD.sub [0, 1, 2, 3, 4, 5, 6] (by decide) rfl⟩
  · exact ⟨hP.sub [0, 1, 2, 3, 4, 5, 6, 7] rfl, hD.sub [0, 1, 2, 3, 4, 5, 6, 7] (by decide) rfl⟩
theorem cw_atX {dA : ClassId} {h0 hE hL hR hX a : Nat} {sd : Int64} {cd : Int32} {uE uL : Option Nat} : ∃ k : Nat, (cw dA h0 hE hL hR hX sd cd uE uL (some a))[k]? = some (a, .inl (dA, 120, .inr (.inr (.inr (.inl tX))))) := by
  cases uE <;> cases uL
  · exact ⟨5, rfl⟩
  · exact ⟨6, rfl⟩
  · exact ⟨6, rfl⟩
  · exact ⟨7, rfl⟩
abbrev rm_c_at_X : Room := { frames := 1, cells := 1, slots := 120, locals := 22 }
set_option maxHeartbeats 4000000 in
set_option maxRecDepth 100000 in
theorem c_at_X (l : Launch) (D : va_G) (dA : ClassId) (h0 hE hL hR hX : Nat) (sd : Int64) (cd : Int32) (uE uL uX : Option Nat) (j : Nat) (hj : j < 120) : CMd l D dA yX2_at cX2_at 2 rm_c_at_X [.ref hX, .int (nI j)] (cw dA h0 hE hL hR hX sd cd uE uL uX) (fun u : Option Nat => cw dA h0 hE hL hR hX sd cd uE uL u) (fun r u => r = tX j ∧ fl u = 1) := by
  refine st_d (by decide) (Nat.le_of_ble_eq_true rfl) ?_
  intro p e s m below meth c A Q H locs ls hCF hK hN hA hP hD hS hl hend
  obtain ⟨hx, hb, hml, hown, hts⟩ := hCF
  have hown : s.vm.findClass RX2 = some m.cls := hown
  have hl : lv_has ls 2 [(0, .ref hX), (1, .int (nI j))] := hl
  cases uX with
  | none =>
    refine lv_aload_n hx hb dX2_at_0 rfl (lv_at hl 0 rfl) ?_
    refine va_get (D := D) (ci := 4) (v := .null) (C := RX6) (T := TX6) (N := 2) hx hb hts in_X6 hown hK hP 4 rfl rfl 0 (by decide) (hts _ q36) (fun _ h9 => h9) rfl dX2_at_1 ?_
    refine lv_ifnonnullN hx hb dX2_at_4 ?_
    refine lv_aload_n hx hb dX2_at_7 rfl (lv_at hl 0 rfl) ?_
    refine lv_aload_n hx hb dX2_at_8 rfl (lv_at hl 0 rfl) ?_
    refine cl0_r (va_runU (As := []) (rest := [.ref hX]) ⟨hx, hb, hml, hown, hts⟩ (c_make_X l D dA hX H.size) (va_cwA 0 hts (lw_U q139 q141 q142 q143 q17 q144) rfl rfl rfl (hN.at 18 rfl) (by decide +kernel) ⟨Nat.le_of_ble_eq_true rfl, Nat.le_of_ble_eq_true rfl⟩) (pr_V hK hN p_nil (d_nil (A := A)) (va_recv hK hP (ci := 4) (q0 := 4) rfl rfl)) rfl rfl hl.1 rfl (lv_room (Nat.le_of_ble_eq_true rfl)) dX2_at_9 ⟨Nat.le_of_ble_eq_true rfl, Nat.le_of_ble_eq_true rfl⟩) hS hP hD hA (fun u_9 a_9 H locs hpo_9 hP hD hS => ?_)
    refine W.widen (k := 1) (n := 120) (Nat.le_of_ble_eq_true rfl) (Nat.le_of_ble_eq_true rfl) ?_
    generalize a_9 = a at hP hD ⊢
    have hP : va_P D vwCl (cw dA h0 hE hL hR hX sd cd uE uL none ++ ([(a, .inl (dA, 120, .inr (.inr (.inr (.inl tX)))))] : va_W)) H := hP
    have hD : va_D A (cw dA h0 hE hL hR hX sd cd uE uL none ++ ([(a, .inl (dA, 120, .inr (.inr (.inr (.inl tX)))))] : va_W)) := hD
    refine va_put (D := D) (ci := 4) (v := .ref a) (ty := (.array .double)) (C := RX6) (T := TX6) (N := 2) hx hb hts in_X6 tyX6 tyX6_ok nmX6 hown hK hP hD hS 4 rfl rfl 0 (by decide) (hts _ q36) (fun _ h9 => h9) rfl (by decide +kernel) rfl rfl (Nat.le_of_ble_eq_true rfl) dX2_at_12 (fun H locs hP hD hS => ?_)
    obtain ⟨hP, hD⟩ := cw_mkX hP hD
    obtain ⟨k0, hk0⟩ := cw_atX (dA := dA) (h0 := h0) (hE := hE) (hL := hL) (hR := hR) (hX := hX) (a := a) (sd := sd) (cd := cd) (uE := uE) (uL := uL)
    refine lv_aload_n hx hb dX2_at_15 rfl (lv_at hl 0 rfl) ?_
    refine va_get (D := D) (ci := 4) (v := .ref a) (C := RX6) (T := TX6) (N := 2) hx hb hts in_X6 hown hK hP 4 rfl rfl 0 (by decide) (hts _ q36) (fun _ h9 => h9) rfl dX2_at_16 ?_
    refine lv_iload_n hx hb dX2_at_19 rfl (lv_at hl 1 rfl) ?_
    refine va_dald hx hb hK hP k0 0 hk0 rfl (vp_in_nI hj (by decide)) dX2_at_20 ?_
    exact hend _ _ _ _ 21 _ (tX (nI j).toNatClampNeg) (some a) dX2_at_21 (Nat.le_of_ble_eq_true rfl) (Nat.le_of_ble_eq_true rfl) hS (⟨by rw [nI_clamp (by omega)], rfl⟩) hP hD
  | some a =>
    refine lv_aload_n hx hb dX2_at_0 rfl (lv_at hl 0 rfl) ?_
    refine va_get (D := D) (ci := 4) (v := .ref a) (C := RX6) (T := TX6) (N := 2) hx hb hts in_X6 hown hK hP 4 rfl rfl 0 (by decide) (hts _ q36) (fun _ h9 => h9) rfl dX2_at_1 ?_
    refine lv_ifnonnull (tgt := 15) hx hb dX2_at_4 (by decide) ?_
    obtain ⟨k0, hk0⟩ := cw_atX (dA := dA) (h0 := h0) (hE := hE) (hL := hL) (hR := hR) (hX := hX) (a := a) (sd := sd) (cd := cd) (uE := uE) (uL := uL)
    refine lv_aload_n hx hb dX2_at_15 rfl (lv_at hl 0 rfl) ?_
    refine va_get (D := D) (ci := 4) (v := .ref a) (C := RX6) (T := TX6) (N := 2) hx hb hts in_X6 hown hK hP 4 rfl rfl 0 (by decide) (hts _ q36) (fun _ h9 => h9) rfl dX2_at_16 ?_
    refine lv_iload_n hx hb dX2_at_19 rfl (lv_at hl 1 rfl) ?_
    refine va_dald hx hb hK hP k0 0 hk0 rfl (vp_in_nI hj (by decide)) dX2_at_20 ?_
    exact hend _ _ _ _ 21 _ (tX (nI j).toNatClampNeg) (some a) dX2_at_21 (Nat.le_of_ble_eq_true rfl) (Nat.le_of_ble_eq_true rfl) hS (⟨by rw [nI_clamp (by omega)], rfl⟩) hP hD
abbrev rm_c_codeOf_E : Room := { frames := 1, cells := 0, slots := 0, locals := 21 }
set_option maxHeartbeats 4000000 in
set_option maxRecDepth 100000 in
theorem c_codeOf_E (l : Launch) (D : va_G) (dA : ClassId) (hE : Nat) (x : UInt64) : CMi l D dA yX3_codeOf cX3_codeOf 3 .int rm_c_codeOf_E [.ref hE, .double x] [] (fun _ : Unit => []) (fun r _ => r = s_cE x) := by
  refine st_i (by decide) (Nat.le_of_ble_eq_true rfl) ?_
  intro p e s m below meth c A Q H locs ls hCF hK hN hA hP hD hS hl hend
  obtain ⟨hx, hb, hml, hown, hts⟩ := hCF
  have hown : s.vm.findClass RX3 = some m.cls := hown
  have hl : lv_has ls 3 [(0, .ref hE), (1, .double x)] := hl
  refine lv_dload_n hx hb dX3_codeOf_0 rfl (lv_at hl 1 rfl) ?_
  refine cl0_i (va_runSN (As := [.double x]) (rest := []) ⟨hx, hb, hml, hown, hts⟩ (c_isNumber l D dA x H.size) ⟨va_cnB 1 hts (lw_meth q102) rfl rfl rfl (hN.at 8 rfl) (hts _ q12) (by decide +kernel) ⟨Nat.le_of_ble_eq_true rfl, Nat.le_of_ble_eq_true rfl⟩, hts _ q101, trivial⟩ (pr_S hK hN p_nil (d_nil (A := A))) rfl rfl hl.1 rfl (lv_room (Nat.le_of_ble_eq_true rfl)) dX3_codeOf_1 ⟨Nat.le_of_ble_eq_true rfl, Nat.le_of_ble_eq_true rfl⟩) hS (p_nil (D := D)) hA (fun r_1 u_1 H locs hpo_1 _ hS => ?_)
  refine W.widen (k := 0) (n := 0) (Nat.le_of_ble_eq_true rfl) (Nat.le_of_ble_eq_true rfl) ?_
  have e1 : r_1 = s_num x := hpo_1
  subst e1
  refine lv_if_ne (tgt := 11) hx hb dX3_codeOf_4 (by decide) (fun c_4 => ?_) (fun c_4 => ?_)
  · refine lv_dload_n hx hb dX3_codeOf_11 rfl (lv_at hl 1 rfl) ?_
    refine lv_ldc2d hx hb hown (hts _ q109) dX3_codeOf_12 ?_
    refine lv_dcmp hx hb dX3_codeOf_15 ?_
    refine lv_if_le (tgt := 23) hx hb dX3_codeOf_16 (by decide) (fun c_16 => ?_) (fun c_16 => ?_)
    · refine lv_iconst (v := 0) hx hb dX3_codeOf_23 (by decide) ?_
      exact hend _ _ _ _ 24 _ 0 () dX3_codeOf_24 (by decide) (Nat.le_of_ble_eq_true rfl) (Nat.le_of_ble_eq_true rfl) hS (by unfold s_cE; first | rw [if_pos c_4] | rw [if_neg c_4, if_pos c_16] | rw [if_neg c_4, if_neg c_16]) p_nil d_nil
    · refine lv_iconst (v := 1) hx hb dX3_codeOf_19 (by decide) ?_
      refine lv_goto (tgt := 24) hx hb dX3_codeOf_20 (by decide) ?_
      exact hend _ _ _ _ 24 _ 1 () dX3_codeOf_24 (by decide) (Nat.le_of_ble_eq_true rfl) (Nat.le_of_ble_eq_true rfl) hS (by unfold s_cE; first | rw [if_pos c_4] | rw [if_neg c_4, if_pos c_16] | rw [if_neg c_4, if_neg c_16]) p_nil d_nil
  · refine lv_iconst (v := 5) hx hb dX3_codeOf_7 (by decide) ?_
    refine lv_goto (tgt := 24) hx hb dX3_codeOf_8 (by decide) ?_
    exact hend _ _ _ _ 24 _ 5 () dX3_codeOf_24 (by decide) (Nat.le_of_ble_eq_true rfl) (Nat.le_of_ble_eq_true rfl) hS (by unfold s_cE; first | rw [if_pos c_4] | rw [if_neg c_4, if_pos c_16] | rw [if_neg c_4, if_neg c_16]) p_nil d_nil
abbrev rm_c_codeOf_L : Room := { frames := 1, cells := 0, slots := 0, locals := 21 }
set_option maxHeartbeats 4000000 in
set_option maxRecDepth 100000 in
theorem c_codeOf_L (l : Launch) (D : va_G) (dA : ClassId) (hL : Nat) (x : UInt64) : CMi l D dA yX4_codeOf cX4_codeOf 3 .int rm_c_codeOf_L [.ref hL, .double x] [] (fun _ : Unit => []) (fun r _ => r = s_cL x) := by
  refine st_i (by decide) (Nat.le_of_ble_eq_true rfl) ?_
  intro p e s m below meth c A Q H locs ls hCF hK hN hA hP hD hS hl hend
  obtain ⟨hx, hb, hml, hown, hts⟩ := hCF
  have hown : s.vm.findClass RX4 = some m.cls := hown
  have hl : lv_has ls 3 [(0, .ref hL), (1, .double x)] := hl
  refine lv_dload_n hx hb dX4_codeOf_0 rfl (lv_at hl 1 rfl) ?_
  refine cl0_i (va_runSN (As := [.double x]) (rest := []) ⟨hx, hb, hml, hown, hts⟩ (c_isNumber l D dA x H.size) ⟨va_cnB 1 hts (lw_meth q102) rfl rfl rfl (hN.at 9 rfl) (hts _ q12) (by decide +kernel) ⟨Nat.le_of_ble_eq_true rfl, Nat.le_of_ble_eq_true rfl⟩, hts _ q101, trivial⟩ (pr_S hK hN p_nil (d_nil (A := A))) rfl rfl hl.1 rfl (lv_room (Nat.le_of_ble_eq_true rfl)) dX4_codeOf_1 ⟨Nat.le_of_ble_eq_true rfl, Nat.le_of_ble_eq_true rfl⟩) hS (p_nil (D := D)) hA (fun r_1 u_1 H locs hpo_1 _ hS => ?_)
  refine W.widen (k := 0) (n := 0) (Nat.le_of_ble_eq_true rfl) (Nat.le_of_ble_eq_true rfl) ?_
  have e1 : r_1 = s_num x := hpo_1
  subst e1
  refine lv_if_ne (tgt := 11) hx hb dX4_codeOf_4 (by decide) (fun c_4 => ?_) (fun c_4 => ?_)
  · refine lv_dload_n hx hb dX4_codeOf_11 rfl (lv_at hl 1 rfl) ?_
    refine lv_dconst0 hx hb dX4_codeOf_12 ?_
    refine lv_dcmp hx hb dX4_codeOf_13 ?_
    refine lv_if_ge (tgt := 21) hx hb dX4_codeOf_14 (by decide) (fun c_14 => ?_) (fun c_14 => ?_)
    · refine lv_dload_n hx hb dX4_codeOf_21 rfl (lv_at hl 1 rfl) ?_
      refine lv_dconst0 hx hb dX4_codeOf_22 ?_
      refine lv_dcmp hx hb dX4_codeOf_23 ?_
      refine lv_if_ne (tgt := 31) hx hb dX4_codeOf_24 (by decide) (fun c_24 => ?_) (fun c_24 => ?_)
      · refine lv_iconst (v := 0) hx hb dX4_codeOf_31 (by decide) ?_
        exact hend _ _ _ _ 32 _ 0 () dX4_codeOf_32 (by decide) (Nat.le_of_ble_eq_true rfl) (Nat.le_of_ble_eq_true rfl) hS (by unfold s_cL; first | rw [if_pos c_4] | rw [if_neg c_4, if_neg c_14] | rw [if_neg c_4, if_pos c_14, if_pos c_24] | rw [if_neg c_4, if_pos c_14, if_neg c_24]) p_nil d_nil
      · refine lv_iconst (v := 2) hx hb dX4_codeOf_27 (by decide) ?_
        refine lv_goto (tgt := 32) hx hb dX4_codeOf_28 (by decide) ?_
        exact hend _ _ _ _ 32 _ 2 () dX4_codeOf_32 (by decide) (Nat.le_of_ble_eq_true rfl) (Nat.le_of_ble_eq_true rfl) hS (by unfold s_cL; first | rw [if_pos c_4] | rw [if_neg c_4, if_neg c_14] | rw [if_neg c_4, if_pos c_14, if_pos c_24] | rw [if_neg c_4, if_pos c_14, if_neg c_24]) p_nil d_nil
    · refine lv_iconst (v := 3) hx hb dX4_codeOf_17 (by decide) ?_
      refine lv_goto (tgt := 32) hx hb dX4_codeOf_18 (by decide) ?_
      exact hend _ _ _ _ 32 _ 3 () dX4_codeOf_32 (by decide) (Nat.le_of_ble_eq_true rfl) (Nat.le_of_ble_eq_true rfl) hS (by unfold s_cL; first | rw [if_pos c_4] | rw [if_neg c_4, if_neg c_14] | rw [if_neg c_4, if_pos c_14, if_pos c_24] | rw [if_neg c_4, if_pos c_14, if_neg c_24]) p_nil d_nil
  · refine lv_iconst (v := 5) hx hb dX4_codeOf_7 (by decide) ?_
    refine lv_goto (tgt := 32) hx hb dX4_codeOf_8 (by decide) ?_
    exact hend _ _ _ _ 32 _ 5 () dX4_codeOf_32 (by decide) (Nat.le_of_ble_eq_true rfl) (Nat.le_of_ble_eq_true rfl) hS (by unfold s_cL; first | rw [if_pos c_4] | rw [if_neg c_4, if_neg c_14] | rw [if_neg c_4, if_pos c_14, if_pos c_24] | rw [if_neg c_4, if_pos c_14, if_neg c_24]) p_nil d_nil
abbrev rm_c_codeOf_R : Room := { frames := 1, cells := 0, slots := 0, locals := 21 }
set_option maxHeartbeats 4000000 in
set_option maxRecDepth 100000 in
theorem c_codeOf_R (l : Launch) (D : va_G) (dA : ClassId) (hR : Nat) (x : UInt64) : CMi l D dA yX5_codeOf cX5_codeOf 3 .int rm_c_codeOf_R [.ref hR, .double x] [] (fun _ : Unit => []) (fun r _ => r = s_cR x) := by
  refine st_i (by decide) (Nat.le_of_ble_eq_true rfl) ?_
  intro p e s m below meth c A Q H locs ls hCF hK hN hA hP hD hS hl hend
  obtain ⟨hx, hb, hml, hown, hts⟩ := hCF
  have hown : s.vm.findClass RX5 = some m.cls := hown
  have hl : lv_has ls 3 [(0, .ref hR), (1, .double x)] := hl
  refine lv_dload_n hx hb dX5_codeOf_0 rfl (lv_at hl 1 rfl) ?_
  refine cl0_i (va_runSN (As := [.double x]) (rest := []) ⟨hx, hb, hml, hown, hts⟩ (c_isNumber l D dA x H.size) ⟨va_cnB 1 hts (lw_meth q102) rfl rfl rfl (hN.at 10 rfl) (hts _ q12) (by decide +kernel) ⟨Nat.le_of_ble_eq_true rfl, Nat.le_of_ble_eq_true rfl⟩, hts _ q101, trivial⟩ (pr_S hK hN p_nil (d_nil (A := A))) rfl rfl hl.1 rfl (lv_room (Nat.le_of_ble_eq_true rfl)) dX5_codeOf_1 ⟨Nat.le_of_ble_eq_true rfl, Nat.le_of_ble_eq_true rfl⟩) hS (p_nil (D := D)) hA (fun r_1 u_1 H locs hpo_1 _ hS => ?_)
  refine W.widen (k := 0) (n := 0) (Nat.le_of_ble_eq_true rfl) (Nat.le_of_ble_eq_true rfl) ?_
  have e1 : r_1 = s_num x := hpo_1
  subst e1
  refine lv_if_ne (tgt := 11) hx hb dX5_codeOf_4 (by decide) (fun c_4 => ?_) (fun c_4 => ?_)
  · refine lv_dload_n hx hb dX5_codeOf_11 rfl (lv_at hl 1 rfl) ?_
    refine lv_dconst0 hx hb dX5_codeOf_12 ?_
    refine lv_dcmp hx hb dX5_codeOf_13 ?_
    refine lv_if_ge (tgt := 21) hx hb dX5_codeOf_14 (by decide) (fun c_14 => ?_) (fun c_14 => ?_)
    · refine lv_iconst (v := 0) hx hb dX5_codeOf_21 (by decide) ?_
      exact hend _ _ _ _ 22 _ 0 () dX5_codeOf_22 (by decide) (Nat.le_of_ble_eq_true rfl) (Nat.le_of_ble_eq_true rfl) hS (by unfold s_cR; first | rw [if_pos c_4] | rw [if_neg c_4, if_pos c_14] | rw [if_neg c_4, if_neg c_14]) p_nil d_nil
    · refine lv_iconst (v := 3) hx hb dX5_codeOf_17 (by decide) ?_
      refine lv_goto (tgt := 22) hx hb dX5_codeOf_18 (by decide) ?_
      exact hend _ _ _ _ 22 _ 3 () dX5_codeOf_22 (by decide) (Nat.le_of_ble_eq_true rfl) (Nat.le_of_ble_eq_true rfl) hS (by unfold s_cR; first | rw [if_pos c_4] | rw [if_neg c_4, if_pos c_14] | rw [if_neg c_4, if_neg c_14]) p_nil d_nil
  · refine lv_iconst (v := 5) hx hb dX5_codeOf_7 (by decide) ?_
    refine lv_goto (tgt := 22) hx hb dX5_codeOf_8 (by decide) ?_
    exact hend _ _ _ _ 22 _ 5 () dX5_codeOf_22 (by decide) (Nat.le_of_ble_eq_true rfl) (Nat.le_of_ble_eq_true rfl) hS (by unfold s_cR; first | rw [if_pos c_4] | rw [if_neg c_4, if_pos c_14] | rw [if_neg c_4, if_neg c_14]) p_nil d_nil
abbrev rm_c_codeOf_X : Room := { frames := 1, cells := 0, slots := 0, locals := 21 }
set_option maxHeartbeats 4000000 in
set_option maxRecDepth 100000 in
theorem c_codeOf_X (l : Launch) (D : va_G) (dA : ClassId) (hX : Nat) (x : UInt64) : CMi l D dA yX6_codeOf cX6_codeOf 3 .int rm_c_codeOf_X [.ref hX, .double x] [] (fun _ : Unit => []) (fun r _ => r = s_cX x) := by
  refine st_i (by decide) (Nat.le_of_ble_eq_true rfl) ?_
  intro p e s m below meth c A Q H locs ls hCF hK hN hA hP hD hS hl hend
  obtain ⟨hx, hb, hml, hown, hts⟩ := hCF
  have hown : s.vm.findClass RX6 = some m.cls := hown
  have hl : lv_has ls 3 [(0, .ref hX), (1, .double x)] := hl
  refine lv_dload_n hx hb dX6_codeOf_0 rfl (lv_at hl 1 rfl) ?_
  refine cl0_i (va_runSN (As := [.double x]) (rest := []) ⟨hx, hb, hml, hown, hts⟩ (c_isNumber l D dA x H.size) ⟨va_cnB 1 hts (lw_meth q102) rfl rfl rfl (hN.at 7 rfl) (hts _ q12) (by decide +kernel) ⟨Nat.le_of_ble_eq_true rfl, Nat.le_of_ble_eq_true rfl⟩, hts _ q101, trivial⟩ (pr_S hK hN p_nil (d_nil (A := A))) rfl rfl hl.1 rfl (lv_room (Nat.le_of_ble_eq_true rfl)) dX6_codeOf_1 ⟨Nat.le_of_ble_eq_true rfl, Nat.le_of_ble_eq_true rfl⟩) hS (p_nil (D := D)) hA (fun r_1 u_1 H locs hpo_1 _ hS => ?_)
  refine W.widen (k := 0) (n := 0) (Nat.le_of_ble_eq_true rfl) (Nat.le_of_ble_eq_true rfl) ?_
  have e1 : r_1 = s_num x := hpo_1
  subst e1
  refine lv_if_eq (tgt := 11) hx hb dX6_codeOf_4 (by decide) (fun c_4 => ?_) (fun c_4 => ?_)
  · refine lv_iconst (v := 5) hx hb dX6_codeOf_11 (by decide) ?_
    exact hend _ _ _ _ 12 _ 5 () dX6_codeOf_12 (by decide) (Nat.le_of_ble_eq_true rfl) (Nat.le_of_ble_eq_true rfl) hS (by unfold s_cX; first | rw [if_pos c_4] | rw [if_neg c_4]) p_nil d_nil
  · refine lv_iconst (v := 0) hx hb dX6_codeOf_7 (by decide) ?_
    refine lv_goto (tgt := 12) hx hb dX6_codeOf_8 (by decide) ?_
    exact hend _ _ _ _ 12 _ 0 () dX6_codeOf_12 (by decide) (Nat.le_of_ble_eq_true rfl) (Nat.le_of_ble_eq_true rfl) hS (by unfold s_cX; first | rw [if_pos c_4] | rw [if_neg c_4]) p_nil d_nil
end
section
/-! what becomes of the flags; bounds -/
def s_fE (x : UInt64) (f : Int32) : Int32 := if 0 ≤ Op.cmpValue (FP.dcmp x (13872740517789302784 : UInt64)) CmpOp.g then 1 else f
def s_fXE (a : UInt64) (f : Int32) : Int32 := if Op.cmpValue (FP.dcmp a (4618441417868443648 : UInt64)) CmpOp.l < 0 then (if 0 ≤ Op.cmpValue (FP.dcmp a (4612811918334230528 : UInt64)) CmpOp.g then 1 else f) else f
def s_fXX (a : UInt64) (f : Int32) : Int32 := if Op.cmpValue (FP.dcmp a (4618441417868443648 : UInt64)) CmpOp.l < 0 then (if 0 ≤ Op.cmpValue (FP.dcmp a (4612811918334230528 : UInt64)) CmpOp.g then f else 1) else f
def s_bE (x : UInt64) : UInt64 := FP.dmul (FP.dmul (4412443251819771522 : UInt64) (FP.dadd FP.dconst1 (s_size x))) (s_exp x)
def s_bL (v : UInt64) : UInt64 := FP.dadd (4397347889687374747 : UInt64) (FP.dmul (4382569440205035030 : UInt64) (s_size v))
def s_bR (v : UInt64) : UInt64 := FP.dmul (4382569440205035030 : UInt64) v
theorem nn_qrt {v : UInt64} (h : NN v) : NN (FP.dmul v (4598175219545276416 : UInt64)) := NN.mulz h df_quart (by decide +kernel)
theorem nn_fou {v : UInt64} (h : NN v) : NN (FP.dmul v (4616189618054758400 : UInt64)) := NN.mulz h df_four (by decide +kernel)
theorem fl_01 (u : Option Nat) : fl u = 0 ∨ fl u = 1 := by cases u with
  | none => exact Or.inl rfl
  | some a => exact Or.inr rfl
end
section
abbrev rm_c_valueOf_E : Room := { frames := 2, cells := 14, slots := 210, locals := 43 }
set_option maxHeartbeats 4000000 in
set_option maxRecDepth 100000 in
theorem c_valueOf_E (l : Launch) (D : va_G) (dA : ClassId) (h0 hE hL hR hX : Nat) (sd : Int64) (cd : Int32) (uE uL uX : Option Nat) (x : UInt64) (hn : NN x) (h1 : Op.cmpValue (FP.dcmp x (4649368480934526976 : UInt64)) CmpOp.l ≤ 0) : CMd l D dA yX3_valueOf cX3_valueOf 11 rm_c_valueOf_E [.ref hE, .double x] (cw dA h0 hE hL hR hX sd cd uE uL uX) (fun u : Option Nat => cw dA h0 hE hL hR hX sd cd u uL uX) (fun r u => r = s_exp x ∧ fl u = s_fE x (fl uE)) := by
  refine st_d (by decide) (Nat.le_of_ble_eq_true rfl) ?_
  intro p e s m below meth c A Q H locs ls hCF hK hN hA hP hD hS hl hend
  obtain ⟨hx, hb, hml, hown, hts⟩ := hCF
  have hown : s.vm.findClass RX3 = some m.cls := hown
  have hl : lv_has ls 11 [(0, .ref hE), (1, .double x)] := hl
  refine lv_dload_n hx hb dX3_valueOf_0 rfl (lv_at hl 1 rfl) ?_
  refine lv_ldc2d hx hb hown (hts _ q164) dX3_valueOf_1 ?_
  refine lv_dcmp hx hb dX3_valueOf_4 ?_
  refine lv_if_ge (tgt := 10) hx hb dX3_valueOf_5 (by decide) (fun c_5 => ?_) (fun c_5 => ?_)
  · obtain ⟨e1, e2, e3, e4, e5⟩ := exp_facts hn h1 c_5
    refine lv_dload_n hx hb dX3_valueOf_10 rfl (lv_at hl 1 rfl) ?_
    refine lv_ldc2d hx hb hown (hts _ q165) dX3_valueOf_11 ?_
    refine lv_dmul hx hb dX3_valueOf_14 e1.n64 ?_
    refine lv_ldc2d hx hb hown (hts _ q166) dX3_valueOf_15 ?_
    refine lv_dadd hx hb dX3_valueOf_18 e2.n64 ?_
    refine lv_dstore_n (lv' := [(3, .double (s_of x)), (0, .ref hE), (1, .double x)]) hx hb dX3_valueOf_19 rfl hl (by decide) rfl (fun ls hl => ?_)
    refine lv_dload_n hx hb dX3_valueOf_20 rfl (lv_at hl 0 rfl) ?_
    refine lv_d2i hx hb dX3_valueOf_21 ?_
    refine lv_istore (lv' := [(5, .int (FP.d2i (s_of x))), (3, .double (s_of x)), (0, .ref hE), (1, .double x)]) hx hb dX3_valueOf_22 hl (by decide) rfl (fun ls hl => ?_)
    refine lv_iload hx hb dX3_valueOf_24 (lv_at hl 0 rfl) ?_
    refine lv_iload hx hb dX3_valueOf_26 (lv_at hl 0 rfl) ?_
    refine lv_i2d hx hb dX3_valueOf_28 ?_
    refine lv_dload_n hx hb dX3_valueOf_29 rfl (lv_at hl 1 rfl) ?_
    refine lv_dcmp hx hb dX3_valueOf_30 ?_
    have j39 : ∀ b : Int32, b = (if Op.cmpValue (FP.dcmp (FP.i2d (FP.d2i (s_of x))) (s_of x)) CmpOp.l ≤ 0 then 0 else 1) → W p l e rm_c_valueOf_E s m ([.ref hE, .double x] : List Value).toArray below meth c H locs 0 0 Q (F0 m 39 ls [.int b, .int (FP.d2i (s_of x))]) := by
      intro b hb0
      have ek : FP.d2i (s_of x) - b = s_k x := by rw [hb0]; rfl
      refine lv_isub hx hb dX3_valueOf_39 ?_
      rw [ek]
      refine lv_istore (lv' := [(5, .int (s_k x)), (3, .double (s_of x)), (0, .ref hE), (1, .double x)]) hx hb dX3_valueOf_40 hl (by decide) rfl (fun ls hl => ?_)
      refine lv_dload_n hx hb dX3_valueOf_42 rfl (lv_at hl 3 rfl) ?_
      refine lv_iload hx hb dX3_valueOf_43 (lv_at hl 0 rfl) ?_
      refine lv_i2d hx hb dX3_valueOf_45 ?_
      refine lv_ldc2d hx hb hown (hts _ q167) dX3_valueOf_46 ?_
      refine lv_dmul hx hb dX3_valueOf_49 e3.n64 ?_
      refine lv_dsub hx hb dX3_valueOf_50 e4.1.n64 ?_
      refine lv_dstore (lv' := [(6, .double (s_r x)), (5, .int (s_k x)), (3, .double (s_of x)), (0, .ref hE), (1, .double x)]) hx hb dX3_valueOf_51 hl (by decide) rfl (fun ls hl => ?_)
      refine lv_dconst1 hx hb dX3_valueOf_53 ?_
      refine lv_dstore (lv' := [(8, .double FP.dconst1), (6, .double (s_r x)), (5, .int (s_k x)), (3, .double (s_of x)), (0, .ref hE), (1, .double x)]) hx hb dX3_valueOf_54 hl (by decide) rfl (fun ls hl => ?_)
      refine lv_bipush (v := 14) hx hb dX3_valueOf_56 (by decide) ?_
      refine lv_istore (lv' := [(10, .int 14), (8, .double FP.dconst1), (6, .double (s_r x)), (5, .int (s_k x)), (3, .double (s_of x)), (0, .ref hE), (1, .double x)]) hx hb dX3_valueOf_58 hl (by decide) rfl (fun ls hl => ?_)
      have loop : ∀ (n : Nat) (v : UInt64) (u : Option Nat) (H : Heap) (locs : List Loc) (ls : Array Slot), n ≤ 14 → SZ v (pb n) → s_pl (s_r x) n v = s_pl (s_r x) 14 FP.dconst1 → (n = 14 ∨ fl u = 1) → va_P D vwCl (cw dA h0 hE hL hR hX sd cd u uL uX) H → va_D A (cw dA h0 hE hL hR hX sd cd u uL uX) → va_S A s.heap H locs → lv_has ls 11 [(10, .int (nI n)), (8, .double v), (6, .double (s_r x)), (5, .int (s_k x)), (0, .ref hE), (1, .double x)] → W p l e rm_c_valueOf_E s m ([.ref hE, .double x] : List Value).toArray below meth c H locs (14 - n) (15 * (14 - n)) Q (F0 m 60 ls []) := by
        intro n
        induction n with
        | zero =>
          intro v u H locs ls hn hv hs hu hP hD hS hl
          have ev : v = s_pl (s_r x) 14 FP.dconst1 := hs
          have hu1 : fl u = 1 := by rcases hu with h | h; exact absurd h (by decide); exact h
          refine lv_iload hx hb dX3_valueOf_60 (lv_at hl 0 rfl) ?_
          refine lv_if_le (tgt := 87) hx hb dX3_valueOf_62 (by decide) (fun c_62 => ?_) (fun c_62 => absurd (by decide) c_62)
          refine lv_dload hx hb dX3_valueOf_87 (lv_at hl 1 rfl) ?_
          refine lv_iload hx hb dX3_valueOf_89 (lv_at hl 3 rfl) ?_
          refine cl0_d (va_runSN (As := [.double v, .int (s_k x)]) (rest := []) ⟨hx, hb, hml, hown, hts⟩ (c_scaled l D dA v (s_k x) hv.1.nn H.size) ⟨va_cnB 2 hts (lw_meth q173) rfl rfl rfl (hN.at 12 rfl) (hts _ q12) (by decide +kernel) ⟨Nat.le_of_ble_eq_true rfl, Nat.le_of_ble_eq_true rfl⟩, hts _ q172, trivial⟩ (pr_S hK hN p_nil (d_nil (A := A))) rfl rfl hl.1 rfl (lv_room (Nat.le_of_ble_eq_true rfl)) dX3_valueOf_91 ⟨Nat.le_of_ble_eq_true rfl, Nat.le_of_ble_eq_true rfl⟩) hS hP hA (fun r_91 u_91 H locs hpo_91 hP hS => ?_)
          refine W.widen (k := 14) (n := 210) (Nat.le_of_ble_eq_true rfl) (Nat.le_of_ble_eq_true rfl) ?_
          have hP : va_P D vwCl (cw dA h0 hE hL hR hX sd cd u uL uX) H := hP
          exact hend _ _ _ _ 94 _ r_91 u dX3_valueOf_94 (Nat.le_of_ble_eq_true rfl) (Nat.le_of_ble_eq_true rfl) hS (⟨by rw [hpo_91, ev]; unfold s_exp; rw [if_pos c_5], by rw [hu1]; unfold s_fE; rw [if_pos c_5]⟩) hP hD
        | succ n ih =>
          intro v u H locs ls hn hv hs hu hP hD hS hl
          obtain ⟨g1, g2, g3⟩ := exp_step (by omega) e4 hv
          refine lv_iload hx hb dX3_valueOf_60 (lv_at hl 0 rfl) ?_
          refine lv_if_le (tgt := 87) hx hb dX3_valueOf_62 (by decide) (fun c_62 => absurd c_62 (nI_nle (by omega) (by omega))) (fun c_62 => ?_)
          refine lv_dconst1 hx hb dX3_valueOf_65 ?_
          refine lv_dload hx hb dX3_valueOf_66 (lv_at hl 2 rfl) ?_
          refine lv_aload_n hx hb dX3_valueOf_68 rfl (lv_at hl 4 rfl) ?_
          refine lv_iload hx hb dX3_valueOf_69 (lv_at hl 0 rfl) ?_
          refine cl_d (va_runU (As := [.int (nI (n + 1))]) (rest := [.double (s_r x), .double FP.dconst1]) ⟨hx, hb, hml, hown, hts⟩ (c_at_E l D dA h0 hE hL hR hX sd cd u uL uX (n + 1) (by omega) H.size) (va_cwU 1 hts (lw_U q168 q169 q170 q137 q13 q138) rfl rfl rfl rfl (by decide +kernel) ⟨Nat.le_of_ble_eq_true rfl, Nat.le_of_ble_eq_true rfl⟩) (pr_V hK hN hP hD (va_recv hK hP (ci := 1) (q0 := 1) rfl rfl)) rfl rfl hl.1 rfl (lv_room (Nat.le_of_ble_eq_true rfl)) dX3_valueOf_71 ⟨by show 14 - (n + 1) + 1 ≤ 14; omega, by show 15 * (14 - (n + 1)) + 15 ≤ 210; omega⟩) hS hD hA (fun r_71 u_71 H locs hpo_71 hP hD hS => ?_)
          refine W.widen (k := 14 - n) (n := 15 * (14 - n)) (by show 14 - (n + 1) + 1 ≤ 14 - n; omega) (by show 15 * (14 - (n + 1)) + 15 ≤ 15 * (14 - n); omega) ?_
          have e9 : r_71 = FP.i2d (nI (n + 1)) := by rw [hpo_71.1]; unfold tE; rw [if_pos (by omega)]
          subst e9
          have hP : va_P D vwCl (cw dA h0 hE hL hR hX sd cd u_71 uL uX) H := hP
          have hD : va_D A (cw dA h0 hE hL hR hX sd cd u_71 uL uX) := hD
          refine lv_ddiv hx hb dX3_valueOf_74 g1.n64 ?_
          refine lv_dload hx hb dX3_valueOf_75 (lv_at hl 1 rfl) ?_
          refine lv_dmul hx hb dX3_valueOf_77 g2.n64 ?_
          refine lv_dadd hx hb dX3_valueOf_78 g3.1.n64 ?_
          refine lv_dstore (lv' := [(8, .double (FP.dadd FP.dconst1 (FP.dmul (FP.ddiv (s_r x) (FP.i2d (nI (n + 1)))) v))), (10, .int (nI (n + 1))), (6, .double (s_r x)), (5, .int (s_k x)), (0, .ref hE), (1, .double x)]) hx hb dX3_valueOf_79 hl (by decide) rfl (fun ls hl => ?_)
          refine lv_iinc (v := nI n) (lv' := [(10, .int (nI n)), (8, .double (FP.dadd FP.dconst1 (FP.dmul (FP.ddiv (s_r x) (FP.i2d (nI (n + 1)))) v))), (6, .double (s_r x)), (5, .int (s_k x)), (0, .ref hE), (1, .double x)]) hx hb dX3_valueOf_81 hl (k := 1) rfl (pk_m1 n) (by decide) rfl (fun ls hl => ?_)
          refine lv_goto (tgt := 60) hx hb dX3_valueOf_84 (by decide) ?_
          exact ih _ _ H locs ls (by omega) g3 hs (Or.inr hpo_71.2) hP hD hS (lv_sub hl [0, 1, 2, 3, 4, 5] rfl)
      exact loop 14 _ _ H locs ls (by decide) sz_1 rfl (Or.inl rfl) hP hD hS (lv_sub hl [0, 1, 2, 3, 5, 6] rfl)
    refine lv_if_le (tgt := 38) hx hb dX3_valueOf_31 (by decide) (fun c_31 => ?_) (fun c_31 => ?_)
    · refine lv_iconst (v := 0) hx hb dX3_valueOf_38 (by decide) ?_
      exact j39 0 (by rw [if_pos c_31])
    · refine lv_iconst (v := 1) hx hb dX3_valueOf_34 (by decide) ?_
      refine lv_goto (tgt := 39) hx hb dX3_valueOf_35 (by decide) ?_
      exact j39 1 (by rw [if_neg c_31])
  · refine lv_dconst0 hx hb dX3_valueOf_8 ?_
    exact hend _ _ _ _ 9 _ FP.dconst0 uE dX3_valueOf_9 (Nat.le_of_ble_eq_true rfl) (Nat.le_of_ble_eq_true rfl) hS (⟨by unfold s_exp; rw [if_neg c_5], by unfold s_fE; rw [if_neg c_5]⟩) hP hD
end
section
abbrev rm_c_valueOf_L : Room := { frames := 2, cells := 14, slots := 196, locals := 43 }
set_option maxHeartbeats 4000000 in
set_option maxRecDepth 100000 in
theorem c_valueOf_L (l : Launch) (D : va_G) (dA : ClassId) (h0 hE hL hR hX : Nat) (sd : Int64) (cd : Int32) (uE uL uX : Option Nat) (x : UInt64) (hd : DF x) (h1 : P2 1071 ≤ zv x) (h2 : zv x ≤ 100000000 * O64) : CMd l D dA yX4_valueOf cX4_valueOf 13 rm_c_valueOf_L [.ref hL, .double x] (cw dA h0 hE hL hR hX sd cd uE uL uX) (fun u : Option Nat => cw dA h0 hE hL hR hX sd cd uE u uX) (fun r u => r = s_log x ∧ fl u = 1) := by
  refine st_d (by decide) (Nat.le_of_ble_eq_true rfl) ?_
  intro p e s m below meth c A Q H locs ls hCF hK hN hA hP hD hS hl hend
  obtain ⟨hx, hb, hml, hown, hts⟩ := hCF
  have hown : s.vm.findClass RX4 = some m.cls := hown
  have hl : lv_has ls 13 [(0, .ref hL), (1, .double x)] := hl
  obtain ⟨f1, f2, f3, f4, f5, f6⟩ := lm_facts hd h1 h2
  have post : ∀ (z : UInt64) (k : Int32) (ls : Array Slot), (z, k) = s_lm x → lv_has ls 13 [(3, .double z), (5, .int k), (0, .ref hL), (1, .double x)] → W p l e rm_c_valueOf_L s m ([.ref hL, .double x] : List Value).toArray below meth c H locs 0 0 Q (F0 m 45 ls []) := by
    intro z k ls hs hl
    have ez : z = (s_lm x).1 := by rw [← hs]
    have ek : k = (s_lm x).2 := by rw [← hs]
    rw [← ez] at f4
    rw [← ek] at f5 f6
    obtain ⟨g1, g2, g3, g4⟩ := ly_facts f4
    obtain ⟨a1, a2, a3, a4⟩ := lv_facts f4 f5 f6
    refine lv_dload_n hx hb dX4_valueOf_45 rfl (lv_at hl 0 rfl) ?_
    refine lv_dconst1 hx hb dX4_valueOf_46 ?_
    refine lv_dsub hx hb dX4_valueOf_47 g1.n64 ?_
    refine lv_dload_n hx hb dX4_valueOf_48 rfl (lv_at hl 0 rfl) ?_
    refine lv_dconst1 hx hb dX4_valueOf_49 ?_
    refine lv_dadd hx hb dX4_valueOf_50 g2.n64 ?_
    refine lv_ddiv hx hb dX4_valueOf_51 g3.1.n64 ?_
    refine lv_dstore (lv' := [(6, .double (s_ly z)), (3, .double z), (5, .int k), (0, .ref hL), (1, .double x)]) hx hb dX4_valueOf_52 hl (by decide) rfl (fun ls hl => ?_)
    refine lv_dload hx hb dX4_valueOf_54 (lv_at hl 0 rfl) ?_
    refine lv_dload hx hb dX4_valueOf_56 (lv_at hl 0 rfl) ?_
    refine lv_dmul hx hb dX4_valueOf_58 g4.1.n64 ?_
    refine lv_dstore (lv' := [(8, .double (FP.dmul (s_ly z) (s_ly z))), (6, .double (s_ly z)), (3, .double z), (5, .int k), (0, .ref hL), (1, .double x)]) hx hb dX4_valueOf_59 hl (by decide) rfl (fun ls hl => ?_)
    refine lv_dconst0 hx hb dX4_valueOf_61 ?_
    refine lv_dstore (lv' := [(10, .double FP.dconst0), (8, .double (FP.dmul (s_ly z) (s_ly z))), (6, .double (s_ly z)), (3, .double z), (5, .int k), (0, .ref hL), (1, .double x)]) hx hb dX4_valueOf_62 hl (by decide) rfl (fun ls hl => ?_)
    refine lv_bipush (v := 13) hx hb dX4_valueOf_64 (by decide) ?_
    refine lv_istore (lv' := [(12, .int 13), (10, .double FP.dconst0), (8, .double (FP.dmul (s_ly z) (s_ly z))), (6, .double (s_ly z)), (3, .double z), (5, .int k), (0, .ref hL), (1, .double x)]) hx hb dX4_valueOf_66 hl (by decide) rfl (fun ls hl => ?_)
    have loop : ∀ (n : Nat) (v : UInt64) (u : Option Nat) (H : Heap) (locs : List Loc) (ls : Array Slot), n ≤ 14 → SZ v (14 - n) → s_ls (FP.dmul (s_ly z) (s_ly z)) n v = s_ls (FP.dmul (s_ly z) (s_ly z)) 14 FP.dconst0 → (n = 14 ∨ fl u = 1) → va_P D vwCl (cw dA h0 hE hL hR hX sd cd uE u uX) H → va_D A (cw dA h0 hE hL hR hX sd cd uE u uX) → va_S A s.heap H locs → lv_has ls 13 [(12, .int (nI n + (-1))), (10, .double v), (8, .double (FP.dmul (s_ly z) (s_ly z))), (6, .double (s_ly z)), (3, .double z), (5, .int k), (0, .ref hL), (1, .double x)] → W p l e rm_c_valueOf_L s m ([.ref hL, .double x] : List Value).toArray below meth c H locs (14 - n) (14 * (14 - n)) Q (F0 m 68 ls []) := by
      intro n
      induction n with
      | zero =>
        intro v u H locs ls hn hv hs hu hP hD hS hl
        have ev : v = s_ls (FP.dmul (s_ly z) (s_ly z)) 14 FP.dconst0 := hs
        subst ev
        have hu1 : fl u = 1 := by rcases hu with h | h; exact absurd h (by decide); exact h
        refine lv_iload hx hb dX4_valueOf_68 (lv_at hl 0 rfl) ?_
        refine lv_if_lt (tgt := 93) hx hb dX4_valueOf_70 (by decide) (fun c_70 => ?_) (fun c_70 => absurd (by decide) c_70)
        refine lv_ldc2d hx hb hown (hts _ q184) dX4_valueOf_93 ?_
        refine lv_dload hx hb dX4_valueOf_96 (lv_at hl 3 rfl) ?_
        refine lv_dmul hx hb dX4_valueOf_98 a1.n64 ?_
        refine lv_dload hx hb dX4_valueOf_99 (lv_at hl 1 rfl) ?_
        refine lv_dmul hx hb dX4_valueOf_101 a2.n64 ?_
        refine lv_iload hx hb dX4_valueOf_102 (lv_at hl 5 rfl) ?_
        refine lv_i2d hx hb dX4_valueOf_104 ?_
        refine lv_ldc2d hx hb hown (hts _ q188) dX4_valueOf_105 ?_
        refine lv_dmul hx hb dX4_valueOf_108 a3.n64 ?_
        refine lv_dadd hx hb dX4_valueOf_109 a4.1.n64 ?_
        exact hend _ _ _ _ 110 _ (FP.dadd (FP.dmul (FP.dmul (4611686018427387904 : UInt64) (s_ly z)) (s_ls (FP.dmul (s_ly z) (s_ly z)) 14 FP.dconst0)) (FP.dmul (FP.i2d k) (4604418534313441775 : UInt64))) u dX4_valueOf_110 (Nat.le_of_ble_eq_true rfl) (Nat.le_of_ble_eq_true rfl) hS (⟨by unfold s_log; rw [← ez, ← ek]; rfl, hu1⟩) hP hD
      | succ n ih =>
        intro v u H locs ls hn hv hs hu hP hD hS hl
        obtain ⟨b1, b2⟩ := ls_step (n := n) (by omega) g4 hv (by omega)
        refine lv_iload hx hb dX4_valueOf_68 (lv_at hl 0 rfl) ?_
        refine lv_if_lt (tgt := 93) hx hb dX4_valueOf_70 (by decide) (fun c_70 => absurd c_70 (by rw [pk_m1]; exact nI_pos (by omega))) (fun c_70 => ?_)
        refine lv_aload_n hx hb dX4_valueOf_73 rfl (lv_at hl 6 rfl) ?_
        refine lv_iload hx hb dX4_valueOf_74 (lv_at hl 0 rfl) ?_
        rw [pk_m1]
        refine cl_d (va_runU (As := [.int (nI n)]) (rest := []) ⟨hx, hb, hml, hown, hts⟩ (c_at_L l D dA h0 hE hL hR hX sd cd uE u uX n (by omega) H.size) (va_cwU 1 hts (lw_U q185 q186 q187 q137 q13 q138) rfl rfl rfl rfl (by decide +kernel) ⟨Nat.le_of_ble_eq_true rfl, Nat.le_of_ble_eq_true rfl⟩) (pr_V hK hN hP hD (va_recv hK hP (ci := 2) (q0 := 2) rfl rfl)) rfl rfl hl.1 rfl (lv_room (Nat.le_of_ble_eq_true rfl)) dX4_valueOf_76 ⟨by show 14 - (n + 1) + 1 ≤ 14; omega, by show 14 * (14 - (n + 1)) + 14 ≤ 196; omega⟩) hS hD hA (fun r_76 u_76 H locs hpo_76 hP hD hS => ?_)
        refine W.widen (k := 14 - n) (n := 14 * (14 - n)) (by show 14 - (n + 1) + 1 ≤ 14 - n; omega) (by show 14 * (14 - (n + 1)) + 14 ≤ 14 * (14 - n); omega) ?_
        have e9 : r_76 = s_lt n := by rw [hpo_76.1]; unfold tL; rw [if_pos (by omega)]
        subst e9
        have hP : va_P D vwCl (cw dA h0 hE hL hR hX sd cd uE u_76 uX) H := hP
        have hD : va_D A (cw dA h0 hE hL hR hX sd cd uE u_76 uX) := hD
        refine lv_dload hx hb dX4_valueOf_79 (lv_at hl 2 rfl) ?_
        refine lv_dload hx hb dX4_valueOf_81 (lv_at hl 1 rfl) ?_
        refine lv_dmul hx hb dX4_valueOf_83 b1.n64 ?_
        refine lv_dadd hx hb dX4_valueOf_84 b2.1.n64 ?_
        refine lv_dstore (lv' := [(10, .double (FP.dadd (s_lt n) (FP.dmul (FP.dmul (s_ly z) (s_ly z)) v))), (12, .int (nI (n + 1) + (-1))), (8, .double (FP.dmul (s_ly z) (s_ly z))), (6, .double (s_ly z)), (3, .double z), (5, .int k), (0, .ref hL), (1, .double x)]) hx hb dX4_valueOf_85 hl (by decide) rfl (fun ls hl => ?_)
        refine lv_iinc (v := nI n + (-1)) (lv' := [(12, .int (nI n + (-1))), (10, .double (FP.dadd (s_lt n) (FP.dmul (FP.dmul (s_ly z) (s_ly z)) v))), (8, .double (FP.dmul (s_ly z) (s_ly z))), (6, .double (s_ly z)), (3, .double z), (5, .int k), (0, .ref hL), (1, .double x)]) hx hb dX4_valueOf_87 hl (k := 1) rfl (by rw [pk_m1]; rfl) (by decide) rfl (fun ls hl => ?_)
        refine lv_goto (tgt := 68) hx hb dX4_valueOf_90 (by decide) ?_
        exact ih _ _ H locs ls (by omega) (b2.weak (by omega)) hs (Or.inr hpo_76.2) hP hD hS (lv_sub hl [0, 1, 2, 3, 4, 5, 6, 7] rfl)
    exact loop 14 _ _ H locs ls (by decide) sz_0 rfl (Or.inl rfl) hP hD hS (lv_sub hl [0, 1, 2, 3, 4, 5, 6, 7] rfl)
  have loop2 : ∀ (n : Nat) (z : UInt64) (k : Int32) (ls : Array Slot), NN z → s_l2 n (z, k) = s_l2 8 (s_l1 40 (x, 0)) → lv_has ls 13 [(3, .double z), (5, .int k), (0, .ref hL), (1, .double x)] → W p l e rm_c_valueOf_L s m ([.ref hL, .double x] : List Value).toArray below meth c H locs 0 0 Q (F0 m 25 ls []) := by
    intro n
    induction n with
    | zero =>
      intro z k ls hz hs hl
      have hs : (z, k) = s_l2 8 (s_l1 40 (x, 0)) := hs
      refine lv_dload_n hx hb dX4_valueOf_25 rfl (lv_at hl 0 rfl) ?_
      refine lv_ldc2d hx hb hown (hts _ q183) dX4_valueOf_26 ?_
      refine lv_dcmp hx hb dX4_valueOf_29 ?_
      refine lv_if_ge (tgt := 45) hx hb dX4_valueOf_30 (by decide) (fun c_30 => ?_) (fun c_30 => absurd (by have h9 := f3; unfold s_lm at h9; rw [← hs] at h9; exact h9) c_30)
      exact post z k ls hs (lv_sub hl [0, 1, 2, 3] rfl)
    | succ n ih =>
      intro z k ls hz hs hl
      refine lv_dload_n hx hb dX4_valueOf_25 rfl (lv_at hl 0 rfl) ?_
      refine lv_ldc2d hx hb hown (hts _ q183) dX4_valueOf_26 ?_
      refine lv_dcmp hx hb dX4_valueOf_29 ?_
      refine lv_if_ge (tgt := 45) hx hb dX4_valueOf_30 (by decide) (fun c_30 => ?_) (fun c_30 => ?_)
      · rw [s_l2_s, if_pos c_30] at hs
        exact post z k ls hs (lv_sub hl [0, 1, 2, 3] rfl)
      · refine lv_dload_n hx hb dX4_valueOf_33 rfl (lv_at hl 0 rfl) ?_
        refine lv_ldc2d hx hb hown (hts _ q184) dX4_valueOf_34 ?_
        refine lv_dmul hx hb dX4_valueOf_37 ((nn_dbl hz).n64) ?_
        refine lv_dstore_n (lv' := [(3, .double (FP.dmul z (4611686018427387904 : UInt64))), (5, .int k), (0, .ref hL), (1, .double x)]) hx hb dX4_valueOf_38 rfl hl (by decide) rfl (fun ls hl => ?_)
        refine lv_iinc (v := k + (-1)) (lv' := [(5, .int (k + (-1))), (3, .double (FP.dmul z (4611686018427387904 : UInt64))), (0, .ref hL), (1, .double x)]) hx hb dX4_valueOf_39 hl (k := 1) rfl rfl (by decide) rfl (fun ls hl => ?_)
        refine lv_goto (tgt := 25) hx hb dX4_valueOf_42 (by decide) ?_
        rw [s_l2_s, if_neg c_30] at hs
        exact ih _ _ _ (nn_dbl hz) hs (lv_sub hl [1, 0, 2, 3] rfl)
  have loop1 : ∀ (n : Nat) (z : UInt64) (k : Int32) (ls : Array Slot), NN z → s_l1 n (z, k) = s_l1 40 (x, 0) → lv_has ls 13 [(3, .double z), (5, .int k), (0, .ref hL), (1, .double x)] → W p l e rm_c_valueOf_L s m ([.ref hL, .double x] : List Value).toArray below meth c H locs 0 0 Q (F0 m 5 ls []) := by
    intro n
    induction n with
    | zero =>
      intro z k ls hz hs hl
      have hs : (z, k) = s_l1 40 (x, 0) := hs
      refine lv_dload_n hx hb dX4_valueOf_5 rfl (lv_at hl 0 rfl) ?_
      refine lv_ldc2d hx hb hown (hts _ q181) dX4_valueOf_6 ?_
      refine lv_dcmp hx hb dX4_valueOf_9 ?_
      refine lv_if_lt (tgt := 25) hx hb dX4_valueOf_10 (by decide) (fun c_10 => ?_) (fun c_10 => absurd (by have h9 := f1; rw [← hs] at h9; exact h9) c_10)
      exact loop2 8 z k ls hz (by rw [hs]) (lv_sub hl [0, 1, 2, 3] rfl)
    | succ n ih =>
      intro z k ls hz hs hl
      refine lv_dload_n hx hb dX4_valueOf_5 rfl (lv_at hl 0 rfl) ?_
      refine lv_ldc2d hx hb hown (hts _ q181) dX4_valueOf_6 ?_
      refine lv_dcmp hx hb dX4_valueOf_9 ?_
      refine lv_if_lt (tgt := 25) hx hb dX4_valueOf_10 (by decide) (fun c_10 => ?_) (fun c_10 => ?_)
      · rw [s_l1_s, if_pos c_10] at hs
        exact loop2 8 z k ls hz (by rw [hs]) (lv_sub hl [0, 1, 2, 3] rfl)
      · refine lv_dload_n hx hb dX4_valueOf_13 rfl (lv_at hl 0 rfl) ?_
        refine lv_ldc2d hx hb hown (hts _ q182) dX4_valueOf_14 ?_
        refine lv_dmul hx hb dX4_valueOf_17 ((nn_hlf hz).n64) ?_
        refine lv_dstore_n (lv' := [(3, .double (FP.dmul z (4602678819172646912 : UInt64))), (5, .int k), (0, .ref hL), (1, .double x)]) hx hb dX4_valueOf_18 rfl hl (by decide) rfl (fun ls hl => ?_)
        refine lv_iinc (v := k + 1) (lv' := [(5, .int (k + 1)), (3, .double (FP.dmul z (4602678819172646912 : UInt64))), (0, .ref hL), (1, .double x)]) hx hb dX4_valueOf_19 hl (k := 1) rfl rfl (by decide) rfl (fun ls hl => ?_)
        refine lv_goto (tgt := 5) hx hb dX4_valueOf_22 (by decide) ?_
        rw [s_l1_s, if_neg c_10] at hs
        exact ih _ _ _ (nn_hlf hz) hs (lv_sub hl [1, 0, 2, 3] rfl)
  refine lv_dload_n hx hb dX4_valueOf_0 rfl (lv_at hl 1 rfl) ?_
  refine lv_dstore_n (lv' := [(3, .double x), (0, .ref hL), (1, .double x)]) hx hb dX4_valueOf_1 rfl hl (by decide) rfl (fun ls hl => ?_)
  refine lv_iconst (v := 0) hx hb dX4_valueOf_2 (by decide) ?_
  refine lv_istore (lv' := [(5, .int 0), (3, .double x), (0, .ref hL), (1, .double x)]) hx hb dX4_valueOf_3 hl (by decide) rfl (fun ls hl => ?_)
  exact loop1 40 x 0 ls hd.nn rfl (lv_sub hl [1, 0, 2, 3] rfl)
abbrev rm_c_valueOf_R : Room := { frames := 1, cells := 0, slots := 0, locals := 25 }
set_option maxHeartbeats 4000000 in
set_option maxRecDepth 100000 in
theorem c_valueOf_R (l : Launch) (D : va_G) (dA : ClassId) (hR : Nat) (x : UInt64) (hd : DF x) (h1 : 0 < zv x → P2 1071 ≤ zv x) (h2 : zv x ≤ 100000000 * O64) (h0 : 0 ≤ zv x) : CMd l D dA yX5_valueOf cX5_valueOf 9 rm_c_valueOf_R [.ref hR, .double x] [] (fun _ : Unit => []) (fun r _ => r = s_root x) := by
  refine st_d (by decide) (Nat.le_of_ble_eq_true rfl) ?_
  intro p e s m below meth c A Q H locs ls hCF hK hN hA hP hD hS hl hend
  obtain ⟨hx, hb, hml, hown, hts⟩ := hCF
  have hown : s.vm.findClass RX5 = some m.cls := hown
  have hl : lv_has ls 9 [(0, .ref hR), (1, .double x)] := hl
  refine lv_dload_n hx hb dX5_valueOf_0 rfl (lv_at hl 1 rfl) ?_
  refine lv_dconst0 hx hb dX5_valueOf_1 ?_
  refine lv_dcmp hx hb dX5_valueOf_2 ?_
  refine lv_if_ne (tgt := 8) hx hb dX5_valueOf_3 (by decide) (fun c_3 => ?_) (fun c_3 => ?_)
  · have c9 := c_3
    rw [cvl_eq_zv hd.nn df_0.nn, zv_0] at c9
    obtain ⟨f1, f3, f4⟩ := qm_facts hd (h1 (by omega)) h2
    have post : ∀ (z : UInt64) (k : Int32) (ls : Array Slot), (z, k) = s_qm x → lv_has ls 9 [(3, .double z), (5, .int k), (0, .ref hR), (1, .double x)] → W p l e rm_c_valueOf_R s m ([.ref hR, .double x] : List Value).toArray below meth c H locs 0 0 Q (F0 m 51 ls []) := by
      intro z k ls hs hl
      have ez : z = (s_qm x).1 := by rw [← hs]
      have ek : k = (s_qm x).2 := by rw [← hs]
      rw [← ez] at f4
      obtain ⟨g1, g2⟩ := q0_facts f4
      refine lv_dload_n hx hb dX5_valueOf_51 rfl (lv_at hl 0 rfl) ?_
      refine lv_ldc2d hx hb hown (hts _ q194) dX5_valueOf_52 ?_
      refine lv_dmul hx hb dX5_valueOf_55 g1.n64 ?_
      refine lv_ldc2d hx hb hown (hts _ q194) dX5_valueOf_56 ?_
      refine lv_dadd hx hb dX5_valueOf_59 g2.1.1.n64 ?_
      refine lv_dstore (lv' := [(6, .double (s_q0 z)), (3, .double z), (5, .int k), (0, .ref hR), (1, .double x)]) hx hb dX5_valueOf_60 hl (by decide) rfl (fun ls hl => ?_)
      refine lv_iconst (v := 0) hx hb dX5_valueOf_62 (by decide) ?_
      refine lv_istore (lv' := [(8, .int 0), (6, .double (s_q0 z)), (3, .double z), (5, .int k), (0, .ref hR), (1, .double x)]) hx hb dX5_valueOf_63 hl (by decide) rfl (fun ls hl => ?_)
      have loop : ∀ (n : Nat) (i : Nat) (v : UInt64) (ls : Array Slot), i + n = 6 → QI z v n → s_qr z n v = s_qr z 6 (s_q0 z) → lv_has ls 9 [(8, .int (nI i)), (6, .double v), (3, .double z), (5, .int k), (0, .ref hR), (1, .double x)] → W p l e rm_c_valueOf_R s m ([.ref hR, .double x] : List Value).toArray below meth c H locs 0 0 Q (F0 m 65 ls []) := by
        intro n
        induction n with
        | zero =>
          intro i v ls hn hv hs hl
          have ei : i = 6 := by omega
          subst ei
          have ev : v = s_qr z 6 (s_q0 z) := hs
          refine lv_iload hx hb dX5_valueOf_65 (lv_at hl 0 rfl) ?_
          refine lv_bipush (v := 6) hx hb dX5_valueOf_67 (by decide) ?_
          refine lv_icmp_ge (tgt := 91) hx hb dX5_valueOf_69 (by decide) (fun c_69 => ?_) (fun c_69 => absurd (by decide) c_69)
          refine lv_dload hx hb dX5_valueOf_91 (lv_at hl 1 rfl) ?_
          refine lv_iload hx hb dX5_valueOf_93 (lv_at hl 3 rfl) ?_
          refine cl0_d (va_runSN (As := [.double v, .int k]) (rest := []) ⟨hx, hb, hml, hown, hts⟩ (c_scaled l D dA v k hv.1.1.nn H.size) ⟨va_cnB 2 hts (lw_meth q173) rfl rfl rfl (hN.at 13 rfl) (hts _ q12) (by decide +kernel) ⟨Nat.le_of_ble_eq_true rfl, Nat.le_of_ble_eq_true rfl⟩, hts _ q172, trivial⟩ (pr_S hK hN p_nil (d_nil (A := A))) rfl rfl hl.1 rfl (lv_room (Nat.le_of_ble_eq_true rfl)) dX5_valueOf_95 ⟨Nat.le_of_ble_eq_true rfl, Nat.le_of_ble_eq_true rfl⟩) hS (p_nil (D := D)) hA (fun r_95 u_95 H locs hpo_95 _ hS => ?_)
          refine W.widen (k := 0) (n := 0) (Nat.le_of_ble_eq_true rfl) (Nat.le_of_ble_eq_true rfl) ?_
          exact hend _ _ _ _ 98 _ r_95 () dX5_valueOf_98 (Nat.le_of_ble_eq_true rfl) (Nat.le_of_ble_eq_true rfl) hS (by rw [hpo_95, ev]; unfold s_root; rw [if_neg c_3, ← ez, ← ek]) p_nil d_nil
        | succ n ih =>
          intro i v ls hn hv hs hl
          obtain ⟨b1, b2, b3⟩ := qi_step (by omega) f4 hv
          refine lv_iload hx hb dX5_valueOf_65 (lv_at hl 0 rfl) ?_
          refine lv_bipush (v := 6) hx hb dX5_valueOf_67 (by decide) ?_
          refine lv_icmp_ge (tgt := 91) hx hb dX5_valueOf_69 (by decide) (fun c_69 => absurd c_69 (by exact nI_ge (a := i) (b := 6) (by omega) (by decide))) (fun c_69 => ?_)
          refine lv_dload hx hb dX5_valueOf_72 (lv_at hl 1 rfl) ?_
          refine lv_dload_n hx hb dX5_valueOf_74 rfl (lv_at hl 2 rfl) ?_
          refine lv_dload hx hb dX5_valueOf_75 (lv_at hl 1 rfl) ?_
          refine lv_ddiv hx hb dX5_valueOf_77 b1.n64 ?_
          refine lv_dadd hx hb dX5_valueOf_78 b2.n64 ?_
          refine lv_ldc2d hx hb hown (hts _ q194) dX5_valueOf_79 ?_
          refine lv_dmul hx hb dX5_valueOf_82 b3.1.1.n64 ?_
          refine lv_dstore (lv' := [(6, .double (FP.dmul (FP.dadd v (FP.ddiv z v)) (4602678819172646912 : UInt64))), (8, .int (nI i)), (3, .double z), (5, .int k), (0, .ref hR), (1, .double x)]) hx hb dX5_valueOf_83 hl (by decide) rfl (fun ls hl => ?_)
          refine lv_iinc (v := nI (i + 1)) (lv' := [(8, .int (nI (i + 1))), (6, .double (FP.dmul (FP.dadd v (FP.ddiv z v)) (4602678819172646912 : UInt64))), (3, .double z), (5, .int k), (0, .ref hR), (1, .double x)]) hx hb dX5_valueOf_85 hl (k := 1) rfl (nI_1 i) (by decide) rfl (fun ls hl => ?_)
          refine lv_goto (tgt := 65) hx hb dX5_valueOf_88 (by decide) ?_
          exact ih (i + 1) _ ls (by omega) b3 hs (lv_sub hl [0, 1, 2, 3, 4, 5] rfl)
      exact loop 6 0 _ ls (by decide) g2 rfl (lv_sub hl [0, 1, 2, 3, 4, 5] rfl)
    have loop2 : ∀ (n : Nat) (z : UInt64) (k : Int32) (ls : Array Slot), NN z → s_q2 n (z, k) = s_q2 8 (s_q1 40 (x, 0)) → lv_has ls 9 [(3, .double z), (5, .int k), (0, .ref hR), (1, .double x)] → W p l e rm_c_valueOf_R s m ([.ref hR, .double x] : List Value).toArray below meth c H locs 0 0 Q (F0 m 33 ls []) := by
      intro n
      induction n with
      | zero =>
        intro z k ls hz hs hl
        have hs : (z, k) = s_q2 8 (s_q1 40 (x, 0)) := hs
        refine lv_dload_n hx hb dX5_valueOf_33 rfl (lv_at hl 0 rfl) ?_
        refine lv_dconst1 hx hb dX5_valueOf_34 ?_
        refine lv_dcmp hx hb dX5_valueOf_35 ?_
        refine lv_if_ge (tgt := 51) hx hb dX5_valueOf_36 (by decide) (fun c_36 => ?_) (fun c_36 => absurd (by have h9 := f3; unfold s_qm at h9; rw [← hs] at h9; exact h9) c_36)
        exact post z k ls hs (lv_sub hl [0, 1, 2, 3] rfl)
      | succ n ih =>
        intro z k ls hz hs hl
        refine lv_dload_n hx hb dX5_valueOf_33 rfl (lv_at hl 0 rfl) ?_
        refine lv_dconst1 hx hb dX5_valueOf_34 ?_
        refine lv_dcmp hx hb dX5_valueOf_35 ?_
        refine lv_if_ge (tgt := 51) hx hb dX5_valueOf_36 (by decide) (fun c_36 => ?_) (fun c_36 => ?_)
        · rw [s_q2_s, if_pos c_36] at hs
          exact post z k ls hs (lv_sub hl [0, 1, 2, 3] rfl)
        · refine lv_dload_n hx hb dX5_valueOf_39 rfl (lv_at hl 0 rfl) ?_
          refine lv_ldc2d hx hb hown (hts _ q192) dX5_valueOf_40 ?_
          refine lv_dmul hx hb dX5_valueOf_43 ((nn_fou hz).n64) ?_
          refine lv_dstore_n (lv' := [(3, .double (FP.dmul z (4616189618054758400 : UInt64))), (5, .int k), (0, .ref hR), (1, .double x)]) hx hb dX5_valueOf_44 rfl hl (by decide) rfl (fun ls hl => ?_)
          refine lv_iinc (v := k + (-1)) (lv' := [(5, .int (k + (-1))), (3, .double (FP.dmul z (4616189618054758400 : UInt64))), (0, .ref hR), (1, .double x)]) hx hb dX5_valueOf_45 hl (k := 1) rfl rfl (by decide) rfl (fun ls hl => ?_)
          refine lv_goto (tgt := 33) hx hb dX5_valueOf_48 (by decide) ?_
          rw [s_q2_s, if_neg c_36] at hs
          exact ih _ _ _ (nn_fou hz) hs (lv_sub hl [1, 0, 2, 3] rfl)
    have loop1 : ∀ (n : Nat) (z : UInt64) (k : Int32) (ls : Array Slot), NN z → s_q1 n (z, k) = s_q1 40 (x, 0) → lv_has ls 9 [(3, .double z), (5, .int k), (0, .ref hR), (1, .double x)] → W p l e rm_c_valueOf_R s m ([.ref hR, .double x] : List Value).toArray below meth c H locs 0 0 Q (F0 m 13 ls []) := by
      intro n
      induction n with
      | zero =>
        intro z k ls hz hs hl
        have hs : (z, k) = s_q1 40 (x, 0) := hs
        refine lv_dload_n hx hb dX5_valueOf_13 rfl (lv_at hl 0 rfl) ?_
        refine lv_ldc2d hx hb hown (hts _ q192) dX5_valueOf_14 ?_
        refine lv_dcmp hx hb dX5_valueOf_17 ?_
        refine lv_if_lt (tgt := 33) hx hb dX5_valueOf_18 (by decide) (fun c_18 => ?_) (fun c_18 => absurd (by have h9 := f1; rw [← hs] at h9; exact h9) c_18)
        exact loop2 8 z k ls hz (by rw [hs]) (lv_sub hl [0, 1, 2, 3] rfl)
      | succ n ih =>
        intro z k ls hz hs hl
        refine lv_dload_n hx hb dX5_valueOf_13 rfl (lv_at hl 0 rfl) ?_
        refine lv_ldc2d hx hb hown (hts _ q192) dX5_valueOf_14 ?_
        refine lv_dcmp hx hb dX5_valueOf_17 ?_
        refine lv_if_lt (tgt := 33) hx hb dX5_valueOf_18 (by decide) (fun c_18 => ?_) (fun c_18 => ?_)
        · rw [s_q1_s, if_pos c_18] at hs
          exact loop2 8 z k ls hz (by rw [hs]) (lv_sub hl [0, 1, 2, 3] rfl)
        · refine lv_dload_n hx hb dX5_valueOf_21 rfl (lv_at hl 0 rfl) ?_
          refine lv_ldc2d hx hb hown (hts _ q193) dX5_valueOf_22 ?_
          refine lv_dmul hx hb dX5_valueOf_25 ((nn_qrt hz).n64) ?_
          refine lv_dstore_n (lv' := [(3, .double (FP.dmul z (4598175219545276416 : UInt64))), (5, .int k), (0, .ref hR), (1, .double x)]) hx hb dX5_valueOf_26 rfl hl (by decide) rfl (fun ls hl => ?_)
          refine lv_iinc (v := k + 1) (lv' := [(5, .int (k + 1)), (3, .double (FP.dmul z (4598175219545276416 : UInt64))), (0, .ref hR), (1, .double x)]) hx hb dX5_valueOf_27 hl (k := 1) rfl rfl (by decide) rfl (fun ls hl => ?_)
          refine lv_goto (tgt := 13) hx hb dX5_valueOf_30 (by decide) ?_
          rw [s_q1_s, if_neg c_18] at hs
          exact ih _ _ _ (nn_qrt hz) hs (lv_sub hl [1, 0, 2, 3] rfl)
    refine lv_dload_n hx hb dX5_valueOf_8 rfl (lv_at hl 1 rfl) ?_
    refine lv_dstore_n (lv' := [(3, .double x), (0, .ref hR), (1, .double x)]) hx hb dX5_valueOf_9 rfl hl (by decide) rfl (fun ls hl => ?_)
    refine lv_iconst (v := 0) hx hb dX5_valueOf_10 (by decide) ?_
    refine lv_istore (lv' := [(5, .int 0), (3, .double x), (0, .ref hR), (1, .double x)]) hx hb dX5_valueOf_11 hl (by decide) rfl (fun ls hl => ?_)
    exact loop1 40 x 0 ls hd.nn rfl (lv_sub hl [1, 0, 2, 3] rfl)
  · refine lv_dconst0 hx hb dX5_valueOf_6 ?_
    exact hend _ _ _ _ 7 _ FP.dconst0 () dX5_valueOf_7 (Nat.le_of_ble_eq_true rfl) (Nat.le_of_ble_eq_true rfl) hS (by unfold s_root; rw [if_pos c_3]) p_nil d_nil
end
section
abbrev rm_c_near : Room := { frames := 2, cells := 120, slots := 14400, locals := 43 }
set_option maxHeartbeats 4000000 in
set_option maxRecDepth 100000 in
theorem c_near (l : Launch) (D : va_G) (dA : ClassId) (h0 hE hL hR hX : Nat) (sd : Int64) (cd : Int32) (uE uL uX : Option Nat) (a : UInt64) (h0a : 0 ≤ zv a) (hd : DF a) (hc : ¬ 0 ≤ Op.cmpValue (FP.dcmp a (4612811918334230528 : UInt64)) CmpOp.g) : CMd l D dA yX6_near cX6_near 10 rm_c_near [.ref hX, .double a] (cw dA h0 hE hL hR hX sd cd uE uL uX) (fun u : Option Nat => cw dA h0 hE hL hR hX sd cd uE uL u) (fun r u => r = s_near a ∧ fl u = 1) := by
  refine st_d (by decide) (Nat.le_of_ble_eq_true rfl) ?_
  intro p e s m below meth c A Q H locs ls hCF hK hN hA hP hD hS hl hend
  obtain ⟨hx, hb, hml, hown, hts⟩ := hCF
  have hown : s.vm.findClass RX6 = some m.cls := hown
  have hl : lv_has ls 10 [(0, .ref hX), (1, .double a)] := hl
  obtain ⟨f1, f2⟩ := near_0 h0a hd hc
  refine lv_dload_n hx hb dX6_near_0 rfl (lv_at hl 1 rfl) ?_
  refine lv_dload_n hx hb dX6_near_1 rfl (lv_at hl 1 rfl) ?_
  refine lv_dmul hx hb dX6_near_2 f1.n64 ?_
  refine lv_dstore_n (lv' := [(3, .double (FP.dmul a a)), (0, .ref hX), (1, .double a)]) hx hb dX6_near_3 rfl hl (by decide) rfl (fun ls hl => ?_)
  refine lv_dload_n hx hb dX6_near_4 rfl (lv_at hl 2 rfl) ?_
  refine lv_dstore (lv' := [(5, .double a), (3, .double (FP.dmul a a)), (0, .ref hX), (1, .double a)]) hx hb dX6_near_5 hl (by decide) rfl (fun ls hl => ?_)
  refine lv_dload_n hx hb dX6_near_7 rfl (lv_at hl 3 rfl) ?_
  refine lv_dstore (lv' := [(7, .double a), (5, .double a), (3, .double (FP.dmul a a)), (0, .ref hX), (1, .double a)]) hx hb dX6_near_8 hl (by decide) rfl (fun ls hl => ?_)
  refine lv_iconst (v := 0) hx hb dX6_near_10 (by decide) ?_
  refine lv_istore (lv' := [(9, .int 0), (7, .double a), (5, .double a), (3, .double (FP.dmul a a)), (0, .ref hX), (1, .double a)]) hx hb dX6_near_11 hl (by decide) rfl (fun ls hl => ?_)
  have loop : ∀ (n : Nat) (i : Nat) (v t : UInt64) (u : Option Nat) (H : Heap) (locs : List Loc) (ls : Array Slot), i + n = 60 → NI (FP.dmul a a) t v i → s_nl (FP.dmul a a) n i t v = s_nl (FP.dmul a a) 60 0 a a → (i = 0 ∨ fl u = 1) → va_P D vwCl (cw dA h0 hE hL hR hX sd cd uE uL u) H → va_D A (cw dA h0 hE hL hR hX sd cd uE uL u) → va_S A s.heap H locs → lv_has ls 10 [(9, .int (nI i)), (7, .double v), (5, .double t), (3, .double (FP.dmul a a)), (0, .ref hX), (1, .double a)] → W p l e rm_c_near s m ([.ref hX, .double a] : List Value).toArray below meth c H locs (2 * i) (240 * i) Q (F0 m 13 ls []) := by
    intro n
    induction n with
    | zero =>
      intro i v t u H locs ls hn hv hs hu hP hD hS hl
      have ei : i = 60 := by omega
      subst ei
      have ev : v = s_nl (FP.dmul a a) 60 0 a a := hs
      subst ev
      have hu1 : fl u = 1 := by rcases hu with h | h; exact absurd h (by decide); exact h
      refine lv_iload hx hb dX6_near_13 (lv_at hl 0 rfl) ?_
      refine lv_bipush (v := 60) hx hb dX6_near_15 (by decide) ?_
      refine lv_icmp_ge (tgt := 60) hx hb dX6_near_17 (by decide) (fun c_17 => ?_) (fun c_17 => absurd (by decide) c_17)
      refine lv_dload hx hb dX6_near_60 (lv_at hl 1 rfl) ?_
      refine lv_ldc2d hx hb hown (hts _ q154) dX6_near_62 ?_
      refine lv_dmul hx hb dX6_near_65 ((show NN (s_near a) from near_nn h0a hd hc).n64) ?_
      exact hend _ _ _ _ 66 _ (FP.dmul (s_nl (FP.dmul a a) 60 0 a a) (4607760587169110893 : UInt64)) u dX6_near_66 (Nat.le_of_ble_eq_true rfl) (Nat.le_of_ble_eq_true rfl) hS (⟨rfl, hu1⟩) hP hD
    | succ n ih =>
      intro i v t u H locs ls hn hv hs hu hP hD hS hl
      obtain ⟨g1, g2, g3, g4, g5⟩ := near_step (by omega) hv
      refine lv_iload hx hb dX6_near_13 (lv_at hl 0 rfl) ?_
      refine lv_bipush (v := 60) hx hb dX6_near_15 (by decide) ?_
      refine lv_icmp_ge (tgt := 60) hx hb dX6_near_17 (by decide) (fun c_17 => absurd c_17 (by exact nI_ge (a := i) (b := 60) (by omega) (by decide))) (fun c_17 => ?_)
      refine lv_dload hx hb dX6_near_20 (lv_at hl 2 rfl) ?_
      refine lv_dneg hx hb dX6_near_22 ?_
      refine lv_dload_n hx hb dX6_near_23 rfl (lv_at hl 3 rfl) ?_
      refine lv_dmul hx hb dX6_near_24 g1.n64 ?_
      refine lv_aload_n hx hb dX6_near_25 rfl (lv_at hl 4 rfl) ?_
      refine lv_iconst (v := 2) hx hb dX6_near_26 (by decide) ?_
      refine lv_iload hx hb dX6_near_27 (lv_at hl 0 rfl) ?_
      refine lv_imul hx hb dX6_near_29 ?_
      rw [i2_0]
      refine cl_d (va_runU (As := [.int (nI (2 * i))]) (rest := [.double (FP.dmul (FP.dneg t) (FP.dmul a a))]) ⟨hx, hb, hml, hown, hts⟩ (c_at_X l D dA h0 hE hL hR hX sd cd uE uL u (2 * i) (by omega) H.size) (va_cwU 1 hts (lw_U q133 q134 q136 q137 q13 q138) rfl rfl rfl rfl (by decide +kernel) ⟨Nat.le_of_ble_eq_true rfl, Nat.le_of_ble_eq_true rfl⟩) (pr_V hK hN hP hD (va_recv hK hP (ci := 4) (q0 := 4) rfl rfl)) rfl rfl hl.1 rfl (lv_room (Nat.le_of_ble_eq_true rfl)) dX6_near_30 ⟨by show 2 * i + 1 ≤ 120; omega, by show 240 * i + 120 ≤ 14400; omega⟩) hS hD hA (fun r_30 u_30 H locs hpo_30 hP hD hS => ?_)
      refine W.widen (k := 2 * i + 1) (n := 240 * i + 120) (by show 2 * i + 1 ≤ 2 * i + 1; omega) (by show 240 * i + 120 ≤ 240 * i + 120; omega) ?_
      have e9 : r_30 = FP.i2d (nI (i + 1)) := by rw [hpo_30.1]; unfold tX; rw [if_pos (by omega), if_pos (by omega), show 2 * i / 2 = i from by omega]
      subst e9
      have hP : va_P D vwCl (cw dA h0 hE hL hR hX sd cd uE uL u_30) H := hP
      have hD : va_D A (cw dA h0 hE hL hR hX sd cd uE uL u_30) := hD
      refine lv_ddiv hx hb dX6_near_33 g2.n64 ?_
      refine lv_dstore (lv' := [(5, .double (s_nt (FP.dmul a a) i t)), (9, .int (nI i)), (7, .double v), (3, .double (FP.dmul a a)), (0, .ref hX), (1, .double a)]) hx hb dX6_near_34 hl (by decide) rfl (fun ls hl => ?_)
      refine lv_dload hx hb dX6_near_36 (lv_at hl 2 rfl) ?_
      refine lv_dload hx hb dX6_near_38 (lv_at hl 0 rfl) ?_
      refine lv_aload_n hx hb dX6_near_40 rfl (lv_at hl 4 rfl) ?_
      refine lv_iconst (v := 2) hx hb dX6_near_41 (by decide) ?_
      refine lv_iload hx hb dX6_near_42 (lv_at hl 1 rfl) ?_
      refine lv_imul hx hb dX6_near_44 ?_
      refine lv_iconst (v := 1) hx hb dX6_near_45 (by decide) ?_
      refine lv_iadd hx hb dX6_near_46 ?_
      rw [i2_1]
      refine cl_d (va_runU (As := [.int (nI (2 * i + 1))]) (rest := [.double (s_nt (FP.dmul a a) i t), .double v]) ⟨hx, hb, hml, hown, hts⟩ (c_at_X l D dA h0 hE hL hR hX sd cd uE uL u_30 (2 * i + 1) (by omega) H.size) (va_cwU 1 hts (lw_U q133 q134 q136 q137 q13 q138) rfl rfl rfl rfl (by decide +kernel) ⟨Nat.le_of_ble_eq_true rfl, Nat.le_of_ble_eq_true rfl⟩) (pr_V hK hN hP hD (va_recv hK hP (ci := 4) (q0 := 4) rfl rfl)) rfl rfl hl.1 rfl (lv_room (Nat.le_of_ble_eq_true rfl)) dX6_near_47 ⟨by show 2 * i + 1 + 1 ≤ 120; omega, by show 240 * i + 120 + 120 ≤ 14400; omega⟩) hS hD hA (fun r_47 u_47 H locs hpo_47 hP hD hS => ?_)
      refine W.widen (k := 2 * (i + 1)) (n := 240 * (i + 1)) (by show 2 * i + 1 + 1 ≤ 2 * (i + 1); omega) (by show 240 * i + 120 + 120 ≤ 240 * (i + 1); omega) ?_
      have e9 : r_47 = FP.i2d (nI (2 * i + 3)) := by rw [hpo_47.1]; unfold tX; rw [if_pos (by omega), if_neg (by omega)]
      subst e9
      have hP : va_P D vwCl (cw dA h0 hE hL hR hX sd cd uE uL u_47) H := hP
      have hD : va_D A (cw dA h0 hE hL hR hX sd cd uE uL u_47) := hD
      refine lv_ddiv hx hb dX6_near_50 g3.n64 ?_
      refine lv_dadd hx hb dX6_near_51 g4.n64 ?_
      refine lv_dstore (lv' := [(7, .double (FP.dadd v (FP.ddiv (s_nt (FP.dmul a a) i t) (FP.i2d (nI (2 * i + 3)))))), (5, .double (s_nt (FP.dmul a a) i t)), (9, .int (nI i)), (3, .double (FP.dmul a a)), (0, .ref hX), (1, .double a)]) hx hb dX6_near_52 hl (by decide) rfl (fun ls hl => ?_)
      refine lv_iinc (v := nI (i + 1)) (lv' := [(9, .int (nI (i + 1))), (7, .double (FP.dadd v (FP.ddiv (s_nt (FP.dmul a a) i t) (FP.i2d (nI (2 * i + 3)))))), (5, .double (s_nt (FP.dmul a a) i t)), (3, .double (FP.dmul a a)), (0, .ref hX), (1, .double a)]) hx hb dX6_near_54 hl (k := 2) rfl (nI_1 i) (by decide) rfl (fun ls hl => ?_)
      refine lv_goto (tgt := 13) hx hb dX6_near_57 (by decide) ?_
      exact ih (i + 1) _ _ _ H locs ls (by omega) g5 hs (Or.inr hpo_47.2) hP hD hS (lv_sub hl [0, 1, 2, 3, 4, 5] rfl)
  exact loop 60 0 _ _ _ H locs ls (by decide) f2 rfl (Or.inl rfl) hP hD hS (lv_sub hl [0, 1, 2, 3, 4, 5] rfl)
abbrev rm_c_far : Room := { frames := 3, cells := 14, slots := 210, locals := 73 }
set_option maxHeartbeats 4000000 in
set_option maxRecDepth 100000 in
theorem c_far (l : Launch) (D : va_G) (dA : ClassId) (h0 hE hL hR hX : Nat) (sd : Int64) (cd : Int32) (uE uL uX : Option Nat) (a : UInt64) (hd : DF a) (h6 : zv a ≤ 6 * O64) (hc : 0 ≤ Op.cmpValue (FP.dcmp a (4612811918334230528 : UInt64)) CmpOp.g) : CMd l D dA yX6_far cX6_far 6 rm_c_far [.ref hX, .double a] (cw dA h0 hE hL hR hX sd cd uE uL uX) (fun u : Option Nat => cw dA h0 hE hL hR hX sd cd u uL uX) (fun r u => r = s_far a ∧ fl u = 1) := by
  refine st_d (by decide) (Nat.le_of_ble_eq_true rfl) ?_
  intro p e s m below meth c A Q H locs ls hCF hK hN hA hP hD hS hl hend
  obtain ⟨hx, hb, hml, hown, hts⟩ := hCF
  have hown : s.vm.findClass RX6 = some m.cls := hown
  have hl : lv_has ls 6 [(0, .ref hX), (1, .double a)] := hl
  have f0 := far_0 hd hc
  obtain ⟨a1, a2, a3⟩ := far_arg hd h6 f0.2.1
  obtain ⟨b1, b2, b3, b4, b5⟩ := far_facts hd h6 hc
  refine lv_dconst0 hx hb dX6_far_0 ?_
  refine lv_dstore_n (lv' := [(3, .double FP.dconst0), (0, .ref hX), (1, .double a)]) hx hb dX6_far_1 rfl hl (by decide) rfl (fun ls hl => ?_)
  refine lv_bipush (v := 40) hx hb dX6_far_2 (by decide) ?_
  refine lv_istore (lv' := [(5, .int 40), (3, .double FP.dconst0), (0, .ref hX), (1, .double a)]) hx hb dX6_far_4 hl (by decide) rfl (fun ls hl => ?_)
  have loop : ∀ (n : Nat) (v : UInt64) (H : Heap) (locs : List Loc) (ls : Array Slot), n ≤ 40 → FI a v → s_fl a n v = s_fl a 40 FP.dconst0 → va_P D vwCl (cw dA h0 hE hL hR hX sd cd uE uL uX) H → va_D A (cw dA h0 hE hL hR hX sd cd uE uL uX) → va_S A s.heap H locs → lv_has ls 6 [(5, .int (nI n)), (3, .double v), (0, .ref hX), (1, .double a)] → W p l e rm_c_far s m ([.ref hX, .double a] : List Value).toArray below meth c H locs 0 0 Q (F0 m 6 ls []) := by
    intro n
    induction n with
    | zero =>
      intro v H locs ls hn hv hs hP hD hS hl
      have ev : v = s_fl a 40 FP.dconst0 := hs
      subst ev
      refine lv_iload hx hb dX6_far_6 (lv_at hl 0 rfl) ?_
      refine lv_if_le (tgt := 29) hx hb dX6_far_8 (by decide) (fun c_8 => ?_) (fun c_8 => absurd (by decide) c_8)
      refine lv_dconst1 hx hb dX6_far_29 ?_
      refine lv_aload_n hx hb dX6_far_30 rfl (lv_at hl 2 rfl) ?_
      refine va_get (D := D) (ci := 4) (v := .ref hE) (C := RX6) (T := TX6) (N := 2) hx hb hts in_X6 hown hK hP 4 rfl rfl 1 (by decide) (hts _ q62) (fun _ h9 => h9) rfl dX6_far_31 ?_
      refine lv_dload_n hx hb dX6_far_34 rfl (lv_at hl 3 rfl) ?_
      refine lv_dneg hx hb dX6_far_35 ?_
      refine lv_dload_n hx hb dX6_far_36 rfl (lv_at hl 3 rfl) ?_
      refine lv_dmul hx hb dX6_far_37 a1.n64 ?_
      refine cl_d (va_runV (As := [.double (FP.dmul (FP.dneg a) a)]) (rest := [.double FP.dconst1]) ⟨hx, hb, hml, hown, hts⟩ (c_valueOf_E l D dA h0 hE hL hR hX sd cd uE uL uX (FP.dmul (FP.dneg a) a) a1.nn a2 H.size) (cwV 1 hts (lw_V q160 q161 q162 q14 q163) rfl rfl rfl (by decide +kernel) ⟨Nat.le_of_ble_eq_true rfl, Nat.le_of_ble_eq_true rfl⟩) (pr_V hK hN hP hD (va_recv hK hP (ci := 1) (q0 := 1) rfl rfl)) rfl rfl hl.1 rfl (lv_room (Nat.le_of_ble_eq_true rfl)) dX6_far_38 ⟨Nat.le_of_ble_eq_true rfl, Nat.le_of_ble_eq_true rfl⟩) hS hD hA (fun r_38 u_38 H locs hpo_38 hP hD hS => ?_)
      refine W.widen (k := 14) (n := 210) (Nat.le_of_ble_eq_true rfl) (Nat.le_of_ble_eq_true rfl) ?_
      obtain ⟨e9, hu9⟩ := hpo_38
      subst e9
      unfold s_fE at hu9
      rw [if_pos a3] at hu9
      have hP : va_P D vwCl (cw dA h0 hE hL hR hX sd cd u_38 uL uX) H := hP
      have hD : va_D A (cw dA h0 hE hL hR hX sd cd u_38 uL uX) := hD
      refine lv_ldc2d hx hb hown (hts _ q176) dX6_far_41 ?_
      refine lv_dmul hx hb dX6_far_44 b2.n64 ?_
      refine lv_dload_n hx hb dX6_far_45 rfl (lv_at hl 3 rfl) ?_
      refine lv_dload_n hx hb dX6_far_46 rfl (lv_at hl 1 rfl) ?_
      refine lv_dadd hx hb dX6_far_47 b3.n64 ?_
      refine lv_ddiv hx hb dX6_far_48 b4.n64 ?_
      refine lv_dsub hx hb dX6_far_49 b5.n64 ?_
      exact hend _ _ _ _ 50 _ (FP.dsub FP.dconst1 (FP.ddiv (FP.dmul (s_exp (FP.dmul (FP.dneg a) a)) (4603256987541740397 : UInt64)) (FP.dadd a (s_fl a 40 FP.dconst0)))) u_38 dX6_far_50 (Nat.le_of_ble_eq_true rfl) (Nat.le_of_ble_eq_true rfl) hS (⟨rfl, hu9⟩) hP hD
    | succ n ih =>
      intro v H locs ls hn hv hs hP hD hS hl
      obtain ⟨g1, g2, g3, g4⟩ := far_step (n := n) (by omega) h6 hv
      refine lv_iload hx hb dX6_far_6 (lv_at hl 0 rfl) ?_
      refine lv_if_le (tgt := 29) hx hb dX6_far_8 (by decide) (fun c_8 => absurd c_8 (nI_nle (by omega) (by omega))) (fun c_8 => ?_)
      refine lv_iload hx hb dX6_far_11 (lv_at hl 0 rfl) ?_
      refine lv_i2d hx hb dX6_far_13 ?_
      refine lv_ldc2d hx hb hown (hts _ q159) dX6_far_14 ?_
      refine lv_dmul hx hb dX6_far_17 g1.n64 ?_
      refine lv_dload_n hx hb dX6_far_18 rfl (lv_at hl 3 rfl) ?_
      refine lv_dload_n hx hb dX6_far_19 rfl (lv_at hl 1 rfl) ?_
      refine lv_dadd hx hb dX6_far_20 g2.n64 ?_
      refine lv_ddiv hx hb dX6_far_21 g3.n64 ?_
      refine lv_dstore_n (lv' := [(3, .double (FP.ddiv (FP.dmul (FP.i2d (nI (n + 1))) (4602678819172646912 : UInt64)) (FP.dadd a v))), (5, .int (nI (n + 1))), (0, .ref hX), (1, .double a)]) hx hb dX6_far_22 rfl hl (by decide) rfl (fun ls hl => ?_)
      refine lv_iinc (v := nI n) (lv' := [(5, .int (nI n)), (3, .double (FP.ddiv (FP.dmul (FP.i2d (nI (n + 1))) (4602678819172646912 : UInt64)) (FP.dadd a v))), (0, .ref hX), (1, .double a)]) hx hb dX6_far_23 hl (k := 1) rfl (pk_m1 n) (by decide) rfl (fun ls hl => ?_)
      refine lv_goto (tgt := 6) hx hb dX6_far_26 (by decide) ?_
      exact ih _ H locs ls (by omega) g4 hs hP hD hS (lv_sub hl [0, 1, 2, 3] rfl)
  exact loop 40 _ H locs ls (by decide) f0 rfl hP hD hS (lv_sub hl [0, 1, 2, 3] rfl)
abbrev rm_c_valueOf_X : Room := { frames := 4, cells := 120, slots := 14400, locals := 98 }
set_option maxHeartbeats 4000000 in
set_option maxRecDepth 100000 in
theorem c_valueOf_X (l : Launch) (D : va_G) (dA : ClassId) (h0 hE hL hR hX : Nat) (sd : Int64) (cd : Int32) (uE uL uX : Option Nat) (x : UInt64) (hd : DF x) : CMd l D dA yX6_valueOf cX6_valueOf 7 rm_c_valueOf_X [.ref hX, .double x] (cw dA h0 hE hL hR hX sd cd uE uL uX) (fun u : Option Nat × Option Nat => cw dA h0 hE hL hR hX sd cd u.1 uL u.2) (fun r u => r = s_err x ∧ fl u.1 = s_fXE (s_size x) (fl uE) ∧ fl u.2 = s_fXX (s_size x) (fl uX)) := by
  refine st_d (by decide) (Nat.le_of_ble_eq_true rfl) ?_
  intro p e s m below meth c A Q H locs ls hCF hK hN hA hP hD hS hl hend
  obtain ⟨hx, hb, hml, hown, hts⟩ := hCF
  have hown : s.vm.findClass RX6 = some m.cls := hown
  have hl : lv_has ls 7 [(0, .ref hX), (1, .double x)] := hl
  obtain ⟨f1, f2⟩ := size_df hd
  refine lv_dload_n hx hb dX6_valueOf_0 rfl (lv_at hl 1 rfl) ?_
  refine cl0_d (va_runSN (As := [.double x]) (rest := []) ⟨hx, hb, hml, hown, hts⟩ (c_size l D dA x H.size) ⟨va_cnB 1 hts (lw_meth q126) rfl rfl rfl (hN.at 11 rfl) (hts _ q12) (by decide +kernel) ⟨Nat.le_of_ble_eq_true rfl, Nat.le_of_ble_eq_true rfl⟩, hts _ q125, trivial⟩ (pr_S hK hN p_nil (d_nil (A := A))) rfl rfl hl.1 rfl (lv_room (Nat.le_of_ble_eq_true rfl)) dX6_valueOf_1 ⟨Nat.le_of_ble_eq_true rfl, Nat.le_of_ble_eq_true rfl⟩) hS hP hA (fun r_1 u_1 H locs hpo_1 hP hS => ?_)
  refine W.widen (k := 0) (n := 0) (Nat.le_of_ble_eq_true rfl) (Nat.le_of_ble_eq_true rfl) ?_
  have e1 : r_1 = s_size x := hpo_1
  subst e1
  have hP : va_P D vwCl (cw dA h0 hE hL hR hX sd cd uE uL uX) H := hP
  refine lv_dstore_n (lv' := [(3, .double (s_size x)), (0, .ref hX), (1, .double x)]) hx hb dX6_valueOf_4 rfl hl (by decide) rfl (fun ls hl => ?_)
  refine lv_dload_n hx hb dX6_valueOf_5 rfl (lv_at hl 0 rfl) ?_
  refine lv_ldc2d hx hb hown (hts _ q127) dX6_valueOf_6 ?_
  refine lv_dcmp hx hb dX6_valueOf_9 ?_
  refine lv_if_lt (tgt := 17) hx hb dX6_valueOf_10 (by decide) (fun c_10 => ?_) (fun c_10 => ?_)
  · refine lv_dload_n hx hb dX6_valueOf_17 rfl (lv_at hl 0 rfl) ?_
    refine lv_ldc2d hx hb hown (hts _ q128) dX6_valueOf_18 ?_
    refine lv_dcmp hx hb dX6_valueOf_21 ?_
    refine lv_if_ge (tgt := 33) hx hb dX6_valueOf_22 (by decide) (fun c_22 => ?_) (fun c_22 => ?_)
    · refine lv_aload_n hx hb dX6_valueOf_33 rfl (lv_at hl 1 rfl) ?_
      refine lv_dload_n hx hb dX6_valueOf_34 rfl (lv_at hl 0 rfl) ?_
      refine cl_d (va_runV (As := [.double (s_size x)]) (rest := []) ⟨hx, hb, hml, hown, hts⟩ (c_far l D dA h0 hE hL hR hX sd cd uE uL uX (s_size x) f1 (by have h9 := c_10; rw [cvl_lt_zv f1.nn df_six.nn, zv_six] at h9; exact Int.le_of_lt h9) c_22 H.size) (cwV 1 hts (lw_V q155 q157 qs2 q17 q158) rfl rfl rfl (by decide +kernel) ⟨Nat.le_of_ble_eq_true rfl, Nat.le_of_ble_eq_true rfl⟩) (pr_V hK hN hP hD (va_recv hK hP (ci := 4) (q0 := 4) rfl rfl)) rfl rfl hl.1 rfl (lv_room (Nat.le_of_ble_eq_true rfl)) dX6_valueOf_35 ⟨Nat.le_of_ble_eq_true rfl, Nat.le_of_ble_eq_true rfl⟩) hS hD hA (fun r_35 u_35 H locs hpo_35 hP hD hS => ?_)
      refine W.widen (k := 14) (n := 210) (Nat.le_of_ble_eq_true rfl) (Nat.le_of_ble_eq_true rfl) ?_
      obtain ⟨e9, hu9⟩ := hpo_35
      subst e9
      have hP : va_P D vwCl (cw dA h0 hE hL hR hX sd cd u_35 uL uX) H := hP
      have hD : va_D A (cw dA h0 hE hL hR hX sd cd u_35 uL uX) := hD
      refine lv_dstore (lv' := [(5, .double (s_far (s_size x))), (3, .double (s_size x)), (0, .ref hX), (1, .double x)]) hx hb dX6_valueOf_38 hl (by decide) rfl (fun ls hl => ?_)
      refine lv_dload_n hx hb dX6_valueOf_40 rfl (lv_at hl 3 rfl) ?_
      refine lv_dconst0 hx hb dX6_valueOf_41 ?_
      refine lv_dcmp hx hb dX6_valueOf_42 ?_
      refine lv_if_ge (tgt := 52) hx hb dX6_valueOf_43 (by decide) (fun c_43 => ?_) (fun c_43 => ?_)
      · refine lv_dload hx hb dX6_valueOf_52 (lv_at hl 0 rfl) ?_
        exact hend _ _ _ _ 54 _ (s_far (s_size x)) (u_35, uX) dX6_valueOf_54 (Nat.le_of_ble_eq_true rfl) (Nat.le_of_ble_eq_true rfl) hS (⟨by unfold s_err s_errv; rw [if_pos c_43, if_pos c_10, if_pos c_22], by unfold s_fXE; rw [if_pos c_10, if_pos c_22]; exact hu9, by unfold s_fXX; rw [if_pos c_10, if_pos c_22]⟩) hP hD
      · refine lv_dload hx hb dX6_valueOf_46 (lv_at hl 0 rfl) ?_
        refine lv_dneg hx hb dX6_valueOf_48 ?_
        refine lv_goto (tgt := 54) hx hb dX6_valueOf_49 (by decide) ?_
        exact hend _ _ _ _ 54 _ (FP.dneg (s_far (s_size x))) (u_35, uX) dX6_valueOf_54 (Nat.le_of_ble_eq_true rfl) (Nat.le_of_ble_eq_true rfl) hS (⟨by unfold s_err s_errv; rw [if_neg c_43, if_pos c_10, if_pos c_22], by unfold s_fXE; rw [if_pos c_10, if_pos c_22]; exact hu9, by unfold s_fXX; rw [if_pos c_10, if_pos c_22]⟩) hP hD
    · refine lv_aload_n hx hb dX6_valueOf_25 rfl (lv_at hl 1 rfl) ?_
      refine lv_dload_n hx hb dX6_valueOf_26 rfl (lv_at hl 0 rfl) ?_
      refine cl_d (va_runV (As := [.double (s_size x)]) (rest := []) ⟨hx, hb, hml, hown, hts⟩ (c_near l D dA h0 hE hL hR hX sd cd uE uL uX (s_size x) f2 f1 c_22 H.size) (cwV 1 hts (lw_V q129 q131 qs1 q17 q132) rfl rfl rfl (by decide +kernel) ⟨Nat.le_of_ble_eq_true rfl, Nat.le_of_ble_eq_true rfl⟩) (pr_V hK hN hP hD (va_recv hK hP (ci := 4) (q0 := 4) rfl rfl)) rfl rfl hl.1 rfl (lv_room (Nat.le_of_ble_eq_true rfl)) dX6_valueOf_27 ⟨Nat.le_of_ble_eq_true rfl, Nat.le_of_ble_eq_true rfl⟩) hS hD hA (fun r_27 u_27 H locs hpo_27 hP hD hS => ?_)
      refine W.widen (k := 120) (n := 14400) (Nat.le_of_ble_eq_true rfl) (Nat.le_of_ble_eq_true rfl) ?_
      obtain ⟨e9, hu9⟩ := hpo_27
      subst e9
      have hP : va_P D vwCl (cw dA h0 hE hL hR hX sd cd uE uL u_27) H := hP
      have hD : va_D A (cw dA h0 hE hL hR hX sd cd uE uL u_27) := hD
      refine lv_goto (tgt := 38) hx hb dX6_valueOf_30 (by decide) ?_
      refine lv_dstore (lv' := [(5, .double (s_near (s_size x))), (3, .double (s_size x)), (0, .ref hX), (1, .double x)]) hx hb dX6_valueOf_38 hl (by decide) rfl (fun ls hl => ?_)
      refine lv_dload_n hx hb dX6_valueOf_40 rfl (lv_at hl 3 rfl) ?_
      refine lv_dconst0 hx hb dX6_valueOf_41 ?_
      refine lv_dcmp hx hb dX6_valueOf_42 ?_
      refine lv_if_ge (tgt := 52) hx hb dX6_valueOf_43 (by decide) (fun c_43 => ?_) (fun c_43 => ?_)
      · refine lv_dload hx hb dX6_valueOf_52 (lv_at hl 0 rfl) ?_
        exact hend _ _ _ _ 54 _ (s_near (s_size x)) (uE, u_27) dX6_valueOf_54 (Nat.le_of_ble_eq_true rfl) (Nat.le_of_ble_eq_true rfl) hS (⟨by unfold s_err s_errv; rw [if_pos c_43, if_pos c_10, if_neg c_22], by unfold s_fXE; rw [if_pos c_10, if_neg c_22], by unfold s_fXX; rw [if_pos c_10, if_neg c_22]; exact hu9⟩) hP hD
      · refine lv_dload hx hb dX6_valueOf_46 (lv_at hl 0 rfl) ?_
        refine lv_dneg hx hb dX6_valueOf_48 ?_
        refine lv_goto (tgt := 54) hx hb dX6_valueOf_49 (by decide) ?_
        exact hend _ _ _ _ 54 _ (FP.dneg (s_near (s_size x))) (uE, u_27) dX6_valueOf_54 (Nat.le_of_ble_eq_true rfl) (Nat.le_of_ble_eq_true rfl) hS (⟨by unfold s_err s_errv; rw [if_neg c_43, if_pos c_10, if_neg c_22], by unfold s_fXE; rw [if_pos c_10, if_neg c_22], by unfold s_fXX; rw [if_pos c_10, if_neg c_22]; exact hu9⟩) hP hD
  · refine lv_dconst1 hx hb dX6_valueOf_13 ?_
    refine lv_goto (tgt := 38) hx hb dX6_valueOf_14 (by decide) ?_
    refine lv_dstore (lv' := [(5, .double FP.dconst1), (3, .double (s_size x)), (0, .ref hX), (1, .double x)]) hx hb dX6_valueOf_38 hl (by decide) rfl (fun ls hl => ?_)
    refine lv_dload_n hx hb dX6_valueOf_40 rfl (lv_at hl 3 rfl) ?_
    refine lv_dconst0 hx hb dX6_valueOf_41 ?_
    refine lv_dcmp hx hb dX6_valueOf_42 ?_
    refine lv_if_ge (tgt := 52) hx hb dX6_valueOf_43 (by decide) (fun c_43 => ?_) (fun c_43 => ?_)
    · refine lv_dload hx hb dX6_valueOf_52 (lv_at hl 0 rfl) ?_
      exact hend _ _ _ _ 54 _ FP.dconst1 (uE, uX) dX6_valueOf_54 (Nat.le_of_ble_eq_true rfl) (Nat.le_of_ble_eq_true rfl) hS (⟨by unfold s_err s_errv; rw [if_pos c_43, if_neg c_10], by unfold s_fXE; rw [if_neg c_10], by unfold s_fXX; rw [if_neg c_10]⟩) hP hD
    · refine lv_dload hx hb dX6_valueOf_46 (lv_at hl 0 rfl) ?_
      refine lv_dneg hx hb dX6_valueOf_48 ?_
      refine lv_goto (tgt := 54) hx hb dX6_valueOf_49 (by decide) ?_
      exact hend _ _ _ _ 54 _ (FP.dneg FP.dconst1) (uE, uX) dX6_valueOf_54 (Nat.le_of_ble_eq_true rfl) (Nat.le_of_ble_eq_true rfl) hS (⟨by unfold s_err s_errv; rw [if_neg c_43, if_neg c_10], by unfold s_fXE; rw [if_neg c_10], by unfold s_fXX; rw [if_neg c_10]⟩) hP hD
abbrev rm_c_boundOf_E : Room := { frames := 3, cells := 14, slots := 210, locals := 73 }
set_option maxHeartbeats 4000000 in
set_option maxRecDepth 100000 in
theorem c_boundOf_E (l : Launch) (D : va_G) (dA : ClassId) (h0 hE hL hR hX : Nat) (sd : Int64) (cd : Int32) (uE uL uX : Option Nat) (x : UInt64) (hb0 : DB x (-100000000) 100000000) (h1 : Op.cmpValue (FP.dcmp x (4649368480934526976 : UInt64)) CmpOp.l ≤ 0) : CMd l D dA yX3_boundOf cX3_boundOf 3 rm_c_boundOf_E [.ref hE, .double x] (cw dA h0 hE hL hR hX sd cd uE uL uX) (fun u : Option Nat => cw dA h0 hE hL hR hX sd cd u uL uX) (fun r u => r = s_bE x ∧ fl u = s_fE x (fl uE)) := by
  refine st_d (by decide) (Nat.le_of_ble_eq_true rfl) ?_
  intro p e s m below meth c A Q H locs ls hCF hK hN hA hP hD hS hl hend
  obtain ⟨hx, hb, hml, hown, hts⟩ := hCF
  have hown : s.vm.findClass RX3 = some m.cls := hown
  have hl : lv_has ls 3 [(0, .ref hE), (1, .double x)] := hl
  obtain ⟨f1, f2⟩ := bE_facts hb0
  have f3 := exp_fin hb0.1.nn h1
  refine lv_ldc2d hx hb hown (hts _ q252) dX3_boundOf_0 ?_
  refine lv_dconst1 hx hb dX3_boundOf_3 ?_
  refine lv_dload_n hx hb dX3_boundOf_4 rfl (lv_at hl 1 rfl) ?_
  refine cl0_d (va_runSN (As := [.double x]) (rest := [.double FP.dconst1, .double (4412443251819771522 : UInt64)]) ⟨hx, hb, hml, hown, hts⟩ (c_size l D dA x H.size) ⟨va_cnB 1 hts (lw_meth q126) rfl rfl rfl (hN.at 14 rfl) (hts _ q12) (by decide +kernel) ⟨Nat.le_of_ble_eq_true rfl, Nat.le_of_ble_eq_true rfl⟩, hts _ q125, trivial⟩ (pr_S hK hN p_nil (d_nil (A := A))) rfl rfl hl.1 rfl (lv_room (Nat.le_of_ble_eq_true rfl)) dX3_boundOf_5 ⟨Nat.le_of_ble_eq_true rfl, Nat.le_of_ble_eq_true rfl⟩) hS hP hA (fun r_5 u_5 H locs hpo_5 hP hS => ?_)
  refine W.widen (k := 0) (n := 0) (Nat.le_of_ble_eq_true rfl) (Nat.le_of_ble_eq_true rfl) ?_
  have e1 : r_5 = s_size x := hpo_5
  subst e1
  have hP : va_P D vwCl (cw dA h0 hE hL hR hX sd cd uE uL uX) H := hP
  refine lv_dadd hx hb dX3_boundOf_8 f1.n64 ?_
  refine lv_dmul hx hb dX3_boundOf_9 f2.n64 ?_
  refine lv_aload_n hx hb dX3_boundOf_10 rfl (lv_at hl 0 rfl) ?_
  refine lv_dload_n hx hb dX3_boundOf_11 rfl (lv_at hl 1 rfl) ?_
  refine cl_d (va_runV (As := [.double x]) (rest := [.double (FP.dmul (4412443251819771522 : UInt64) (FP.dadd FP.dconst1 (s_size x)))]) ⟨hx, hb, hml, hown, hts⟩ (c_valueOf_E l D dA h0 hE hL hR hX sd cd uE uL uX x hb0.1.nn h1 H.size) (cwV 1 hts (lw_V q254 q161 q162 q14 q163) rfl rfl rfl (by decide +kernel) ⟨Nat.le_of_ble_eq_true rfl, Nat.le_of_ble_eq_true rfl⟩) (pr_V hK hN hP hD (va_recv hK hP (ci := 1) (q0 := 1) rfl rfl)) rfl rfl hl.1 rfl (lv_room (Nat.le_of_ble_eq_true rfl)) dX3_boundOf_12 ⟨Nat.le_of_ble_eq_true rfl, Nat.le_of_ble_eq_true rfl⟩) hS hD hA (fun r_12 u_12 H locs hpo_12 hP hD hS => ?_)
  refine W.widen (k := 14) (n := 210) (Nat.le_of_ble_eq_true rfl) (Nat.le_of_ble_eq_true rfl) ?_
  obtain ⟨e9, hu9⟩ := hpo_12
  subst e9
  have hP : va_P D vwCl (cw dA h0 hE hL hR hX sd cd u_12 uL uX) H := hP
  have hD : va_D A (cw dA h0 hE hL hR hX sd cd u_12 uL uX) := hD
  refine lv_dmul hx hb dX3_boundOf_15 ((NN.mul f2 f3).n64) ?_
  exact hend _ _ _ _ 16 _ (FP.dmul (FP.dmul (4412443251819771522 : UInt64) (FP.dadd FP.dconst1 (s_size x))) (s_exp x)) u_12 dX3_boundOf_16 (Nat.le_of_ble_eq_true rfl) (Nat.le_of_ble_eq_true rfl) hS (⟨rfl, hu9⟩) hP hD
abbrev rm_c_boundOf_L : Room := { frames := 3, cells := 14, slots := 196, locals := 75 }
set_option maxHeartbeats 4000000 in
set_option maxRecDepth 100000 in
theorem c_boundOf_L (l : Launch) (D : va_G) (dA : ClassId) (h0 hE hL hR hX : Nat) (sd : Int64) (cd : Int32) (uE uL uX : Option Nat) (x : UInt64) (hd : DF x) (h1 : P2 1071 ≤ zv x) (h2 : zv x ≤ 100000000 * O64) : CMd l D dA yX4_boundOf cX4_boundOf 3 rm_c_boundOf_L [.ref hL, .double x] (cw dA h0 hE hL hR hX sd cd uE uL uX) (fun u : Option Nat => cw dA h0 hE hL hR hX sd cd uE u uX) (fun r u => r = s_bL (s_log x) ∧ fl u = 1) := by
  refine st_d (by decide) (Nat.le_of_ble_eq_true rfl) ?_
  intro p e s m below meth c A Q H locs ls hCF hK hN hA hP hD hS hl hend
  obtain ⟨hx, hb, hml, hown, hts⟩ := hCF
  have hown : s.vm.findClass RX4 = some m.cls := hown
  have hl : lv_has ls 3 [(0, .ref hL), (1, .double x)] := hl
  have f0 := log_sz hd h1 h2
  obtain ⟨f1, f2⟩ := bL_facts f0
  refine lv_ldc2d hx hb hown (hts _ q258) dX4_boundOf_0 ?_
  refine lv_ldc2d hx hb hown (hts _ q259) dX4_boundOf_3 ?_
  refine lv_aload_n hx hb dX4_boundOf_6 rfl (lv_at hl 0 rfl) ?_
  refine lv_dload_n hx hb dX4_boundOf_7 rfl (lv_at hl 1 rfl) ?_
  refine cl_d (va_runV (As := [.double x]) (rest := [.double (4382569440205035030 : UInt64), .double (4397347889687374747 : UInt64)]) ⟨hx, hb, hml, hown, hts⟩ (c_valueOf_L l D dA h0 hE hL hR hX sd cd uE uL uX x hd h1 h2 H.size) (cwV 1 hts (lw_V q260 q179 q416 q15 q180) rfl rfl rfl (by decide +kernel) ⟨Nat.le_of_ble_eq_true rfl, Nat.le_of_ble_eq_true rfl⟩) (pr_V hK hN hP hD (va_recv hK hP (ci := 2) (q0 := 2) rfl rfl)) rfl rfl hl.1 rfl (lv_room (Nat.le_of_ble_eq_true rfl)) dX4_boundOf_8 ⟨Nat.le_of_ble_eq_true rfl, Nat.le_of_ble_eq_true rfl⟩) hS hD hA (fun r_8 u_8 H locs hpo_8 hP hD hS => ?_)
  refine W.widen (k := 14) (n := 196) (Nat.le_of_ble_eq_true rfl) (Nat.le_of_ble_eq_true rfl) ?_
  obtain ⟨e9, hu9⟩ := hpo_8
  subst e9
  have hP : va_P D vwCl (cw dA h0 hE hL hR hX sd cd uE u_8 uX) H := hP
  have hD : va_D A (cw dA h0 hE hL hR hX sd cd uE u_8 uX) := hD
  refine cl0_d (va_runSN (As := [.double (s_log x)]) (rest := [.double (4382569440205035030 : UInt64), .double (4397347889687374747 : UInt64)]) ⟨hx, hb, hml, hown, hts⟩ (c_size l D dA (s_log x) H.size) ⟨va_cnB 1 hts (lw_meth q126) rfl rfl rfl (hN.at 15 rfl) (hts _ q12) (by decide +kernel) ⟨Nat.le_of_ble_eq_true rfl, Nat.le_of_ble_eq_true rfl⟩, hts _ q125, trivial⟩ (pr_S hK hN p_nil (d_nil (A := A))) rfl rfl hl.1 rfl (lv_room (Nat.le_of_ble_eq_true rfl)) dX4_boundOf_11 ⟨Nat.le_of_ble_eq_true rfl, Nat.le_of_ble_eq_true rfl⟩) hS hP hA (fun r_11 u_11 H locs hpo_11 hP hS => ?_)
  refine W.widen (k := 14) (n := 196) (Nat.le_of_ble_eq_true rfl) (Nat.le_of_ble_eq_true rfl) ?_
  have e1 : r_11 = s_size (s_log x) := hpo_11
  subst e1
  have hP : va_P D vwCl (cw dA h0 hE hL hR hX sd cd uE u_8 uX) H := hP
  refine lv_dmul hx hb dX4_boundOf_14 f1.n64 ?_
  refine lv_dadd hx hb dX4_boundOf_15 f2.n64 ?_
  exact hend _ _ _ _ 16 _ (FP.dadd (4397347889687374747 : UInt64) (FP.dmul (4382569440205035030 : UInt64) (s_size (s_log x)))) u_8 dX4_boundOf_16 (Nat.le_of_ble_eq_true rfl) (Nat.le_of_ble_eq_true rfl) hS (⟨rfl, hu9⟩) hP hD
abbrev rm_c_boundOf_R : Room := { frames := 2, cells := 0, slots := 0, locals := 53 }
set_option maxHeartbeats 4000000 in
set_option maxRecDepth 100000 in
theorem c_boundOf_R (l : Launch) (D : va_G) (dA : ClassId) (h0 hE hL hR hX : Nat) (sd : Int64) (cd : Int32) (uE uL uX : Option Nat) (x : UInt64) (hd : DF x) (h1 : 0 < zv x → P2 1071 ≤ zv x) (h2 : zv x ≤ 100000000 * O64) (h0x : 0 ≤ zv x) : CMd l D dA yX5_boundOf cX5_boundOf 3 rm_c_boundOf_R [.ref hR, .double x] (cw dA h0 hE hL hR hX sd cd uE uL uX) (fun _ : Int32 => cw dA h0 hE hL hR hX sd cd uE uL uX) (fun r _ => r = s_bR (s_root x)) := by
  refine st_d (by decide) (Nat.le_of_ble_eq_true rfl) ?_
  intro p e s m below meth c A Q H locs ls hCF hK hN hA hP hD hS hl hend
  obtain ⟨hx, hb, hml, hown, hts⟩ := hCF
  have hown : s.vm.findClass RX5 = some m.cls := hown
  have hl : lv_has ls 3 [(0, .ref hR), (1, .double x)] := hl
  have f0 := root_nn hd h1 h0x h2
  refine lv_ldc2d hx hb hown (hts _ q265) dX5_boundOf_0 ?_
  refine lv_aload_n hx hb dX5_boundOf_3 rfl (lv_at hl 0 rfl) ?_
  refine lv_dload_n hx hb dX5_boundOf_4 rfl (lv_at hl 1 rfl) ?_
  refine cl0_d (va_runV (As := [.double x]) (rest := [.double (4382569440205035030 : UInt64)]) ⟨hx, hb, hml, hown, hts⟩ (c_valueOf_R l D dA hR x hd h1 h2 h0x H.size) (cwV 1 hts (lw_V q266 q190 q417 q16 q191) rfl rfl rfl (by decide +kernel) ⟨Nat.le_of_ble_eq_true rfl, Nat.le_of_ble_eq_true rfl⟩) (pr_V hK hN p_nil (d_nil (A := A)) (va_recv hK hP (ci := 3) (q0 := 3) rfl rfl)) rfl rfl hl.1 rfl (lv_room (Nat.le_of_ble_eq_true rfl)) dX5_boundOf_5 ⟨Nat.le_of_ble_eq_true rfl, Nat.le_of_ble_eq_true rfl⟩) hS hP hA (fun r_5 u_5 H locs hpo_5 hP hS => ?_)
  refine W.widen (k := 0) (n := 0) (Nat.le_of_ble_eq_true rfl) (Nat.le_of_ble_eq_true rfl) ?_
  have e9 : r_5 = s_root x := hpo_5
  subst e9
  have hP : va_P D vwCl (cw dA h0 hE hL hR hX sd cd uE uL uX) H := hP
  refine lv_dmul hx hb dX5_boundOf_8 ((NN.mulz' sz_e15.1 z_e15 f0).n64) ?_
  exact hend _ _ _ _ 9 _ (FP.dmul (4382569440205035030 : UInt64) (s_root x)) cd dX5_boundOf_9 (Nat.le_of_ble_eq_true rfl) (Nat.le_of_ble_eq_true rfl) hS rfl hP hD
abbrev rm_c_boundOf_X : Room := { frames := 0, cells := 0, slots := 0, locals := 0 }
set_option maxHeartbeats 4000000 in
set_option maxRecDepth 100000 in
theorem c_boundOf_X (l : Launch) (D : va_G) (dA : ClassId) (hX : Nat) (x : UInt64) : CMd l D dA yX6_boundOf cX6_boundOf 3 rm_c_boundOf_X [.ref hX, .double x] [] (fun _ : Unit => []) (fun r _ => r = (4427486594234968593 : UInt64)) := by
  refine st_d (by decide) (Nat.le_of_ble_eq_true rfl) ?_
  intro p e s m below meth c A Q H locs ls hCF hK hN hA hP hD hS hl hend
  obtain ⟨hx, hb, hml, hown, hts⟩ := hCF
  have hown : s.vm.findClass RX6 = some m.cls := hown
  have hl : lv_has ls 3 [(0, .ref hX), (1, .double x)] := hl
  refine lv_ldc2d hx hb hown (hts _ q248) dX6_boundOf_0 ?_
  exact hend _ _ _ _ 3 _ (4427486594234968593 : UInt64) () dX6_boundOf_3 (Nat.le_of_ble_eq_true rfl) (Nat.le_of_ble_eq_true rfl) hS rfl p_nil d_nil
end
section
/-! what the calls answer: answers, codes, flags -/
def e_c (x : UInt64) : Int32 := if Op.cmpValue (FP.dcmp x (4649368480934526976 : UInt64)) CmpOp.l ≤ 0 then 0 else 1
def a_E (x : UInt64) : UInt64 := if s_cE x = 0 then s_exp x else FP.dconst0
def g_E (x : UInt64) (f : Int32) : Int32 := if s_cE x = 0 then s_fE x f else f
def a_L (x : UInt64) : UInt64 := if s_cL x = 0 then s_log x else FP.dconst0
def g_L (x : UInt64) (f : Int32) : Int32 := if s_cL x = 0 then 1 else f
def a_R (x : UInt64) : UInt64 := if s_cR x = 0 then s_root x else FP.dconst0
def a_X (x : UInt64) : UInt64 := if s_cX x = 0 then s_err x else FP.dconst0
def g_XE (x : UInt64) (f : Int32) : Int32 := if s_cX x = 0 then s_fXE (s_size x) f else f
def g_XX (x : UInt64) (f : Int32) : Int32 := if s_cX x = 0 then s_fXX (s_size x) f else f
def r_f (x : UInt64) (f : Int32) : Int32 := if e_c x = 0 then s_fE x f else f
def r_a (b x : UInt64) : UInt64 := if e_c x = 0 then FP.dmul b (s_exp x) else FP.dconst0
def p_c (x y : UInt64) : Int32 := if s_num x = 0 then 5 else if s_num y = 0 then 5 else if 0 ≤ Op.cmpValue (FP.dcmp x FP.dconst0) CmpOp.g then (if Op.cmpValue (FP.dcmp x FP.dconst0) CmpOp.l = 0 then (if 0 ≤ Op.cmpValue (FP.dcmp y FP.dconst0) CmpOp.g then 0 else 2) else 0) else 3
def p_v (x y : UInt64) : UInt64 := FP.dmul y (s_log x)
def p_C (x y : UInt64) : Int32 := if p_c x y = 0 then (if Op.cmpValue (FP.dcmp x FP.dconst0) CmpOp.l = 0 then 0 else e_c (p_v x y)) else p_c x y
def p_E (x y : UInt64) (f : Int32) : Int32 := if p_c x y = 0 then (if Op.cmpValue (FP.dcmp x FP.dconst0) CmpOp.l = 0 then f else r_f (p_v x y) f) else f
def p_L (x y : UInt64) (f : Int32) : Int32 := if p_c x y = 0 then (if Op.cmpValue (FP.dcmp x FP.dconst0) CmpOp.l = 0 then f else 1) else f
def p_a (x y : UInt64) : UInt64 := if p_c x y = 0 then (if Op.cmpValue (FP.dcmp x FP.dconst0) CmpOp.l = 0 then (if Op.cmpValue (FP.dcmp y FP.dconst0) CmpOp.l = 0 then FP.dconst1 else FP.dconst0) else r_a FP.dconst1 (p_v x y)) else FP.dconst0
def p_t (x y : UInt64) : UInt64 := if p_c x y = 0 then (if Op.cmpValue (FP.dcmp x FP.dconst0) CmpOp.l = 0 then (if Op.cmpValue (FP.dcmp y FP.dconst0) CmpOp.l = 0 then FP.dconst1 else FP.dconst0) else (if e_c (p_v x y) = 0 then s_exp (p_v x y) else FP.dconst0)) else FP.dconst0
def w_c (r en ke : UInt64) : Int32 := if s_num r = 0 then 5 else if s_num en = 0 then 5 else if s_num ke = 0 then 5 else if 0 < Op.cmpValue (FP.dcmp ke FP.dconst0) CmpOp.g then 0 else 4
def w_v (en ke : UInt64) : UInt64 := FP.ddiv (FP.dneg en) (FP.dmul (4620870244398284740 : UInt64) ke)
def w_C (r en ke : UInt64) : Int32 := if w_c r en ke = 0 then e_c (w_v en ke) else w_c r en ke
def w_E (r en ke : UInt64) (f : Int32) : Int32 := if w_c r en ke = 0 then r_f (w_v en ke) f else f
def w_a (r en ke : UInt64) : UInt64 := if w_c r en ke = 0 then r_a r (w_v en ke) else FP.dconst0
def n_c (b : Int32) (t : Int64) (u : Int32) : Int32 := if b < 0 then 3 else if lg_cmp t 0 < 0 then 3 else if 0 ≤ u then 0 else 3
def n_a (sd : Int64) (b : Int32) (t : Int64) (u : Int32) : UInt64 := if n_c b t u = 0 then s_normal sd b t u else FP.dconst0
def b_a (f : Int32) (x : UInt64) : UInt64 := if f = 0 then (if s_cE x = 0 then s_bE x else (13830554455654793216 : UInt64)) else if f = 1 then (if s_cL x = 0 then s_bL (s_log x) else (13830554455654793216 : UInt64)) else if f = 2 then (if s_cR x = 0 then s_bR (s_root x) else (13830554455654793216 : UInt64)) else if f = 3 then (if s_cX x = 0 then (4427486594234968593 : UInt64) else (13830554455654793216 : UInt64)) else (13830554455654793216 : UInt64)
def b_E (f : Int32) (x : UInt64) (g : Int32) : Int32 := if f = 0 then g_E x g else g
def b_L (f : Int32) (x : UInt64) (g : Int32) : Int32 := if f = 1 then g_L x g else g
theorem cE_n {x : UInt64} (h : s_cE x = 0) : s_num x ≠ 0 := by
  intro h0
  unfold s_cE at h
  rw [if_pos h0] at h
  exact absurd h (by decide)
theorem cL_n {x : UInt64} (h : s_cL x = 0) : s_num x ≠ 0 := by
  intro h0
  unfold s_cL at h
  rw [if_pos h0] at h
  exact absurd h (by decide)
theorem cR_n {x : UInt64} (h : s_cR x = 0) : s_num x ≠ 0 := by
  intro h0
  unfold s_cR at h
  rw [if_pos h0] at h
  exact absurd h (by decide)
theorem cX_n {x : UInt64} (h : s_cX x = 0) : s_num x ≠ 0 := by
  intro h0
  unfold s_cX at h
  rw [if_pos h0] at h
  exact absurd h (by decide)
theorem cE_le {x : UInt64} (h : s_cE x = 0) : Op.cmpValue (FP.dcmp x (4649368480934526976 : UInt64)) CmpOp.l ≤ 0 := by
  have hn := cE_n h
  unfold s_cE at h
  rw [if_neg hn] at h
  by_cases c : Op.cmpValue (FP.dcmp x (4649368480934526976 : UInt64)) CmpOp.l ≤ 0
  · exact c
  · rw [if_neg c] at h
    exact absurd h (by decide)
theorem e_c_le {x : UInt64} (h : e_c x = 0) : Op.cmpValue (FP.dcmp x (4649368480934526976 : UInt64)) CmpOp.l ≤ 0 := by
  unfold e_c at h
  by_cases c : Op.cmpValue (FP.dcmp x (4649368480934526976 : UInt64)) CmpOp.l ≤ 0
  · exact c
  · rw [if_neg c] at h
    exact absurd h (by decide)
theorem far_hi {x : UInt64} (h : s_num x ≠ 0) : zv x ≤ 100000000 * O64 := (num_facts h).2.2
theorem pos_facts {x : UInt64} (hv : XV x) (hn : s_num x ≠ 0) (h1 : 0 ≤ Op.cmpValue (FP.dcmp x FP.dconst0) CmpOp.g) (h2 : ¬ Op.cmpValue (FP.dcmp x FP.dconst0) CmpOp.l = 0) : DF x ∧ P2 1071 ≤ zv x ∧ zv x ≤ 100000000 * O64 := by
  have hd := hv.df
  rw [cvg_ge_zv hd.nn df_0.nn, zv_0] at h1
  rw [cvl_eq_zv hd.nn df_0.nn, zv_0] at h2
  exact ⟨hd, hv.pos (by omega), far_hi hn⟩
theorem cL_0 {x : UInt64} (hv : XV x) (h : s_cL x = 0) : DF x ∧ P2 1071 ≤ zv x ∧ zv x ≤ 100000000 * O64 := by
  have hn := cL_n h
  unfold s_cL at h
  rw [if_neg hn] at h
  by_cases c : 0 ≤ Op.cmpValue (FP.dcmp x FP.dconst0) CmpOp.g
  · rw [if_pos c] at h
    by_cases c2 : Op.cmpValue (FP.dcmp x FP.dconst0) CmpOp.l = 0
    · rw [if_pos c2] at h
      exact absurd h (by decide)
    · exact pos_facts hv hn c c2
  · rw [if_neg c] at h
    exact absurd h (by decide)
theorem cR_0 {x : UInt64} (hv : XV x) (h : s_cR x = 0) : DF x ∧ (0 < zv x → P2 1071 ≤ zv x) ∧ zv x ≤ 100000000 * O64 ∧ 0 ≤ zv x := by
  have hn := cR_n h
  have hd := hv.df
  unfold s_cR at h
  rw [if_neg hn] at h
  by_cases c : 0 ≤ Op.cmpValue (FP.dcmp x FP.dconst0) CmpOp.g
  · rw [cvg_ge_zv hd.nn df_0.nn, zv_0] at c
    exact ⟨hd, hv.pos, far_hi hn, c⟩
  · rw [if_neg c] at h
    exact absurd h (by decide)
end
section
abbrev rm_c_ask_E : Room := { frames := 3, cells := 14, slots := 210, locals := 73 }
set_option maxHeartbeats 4000000 in
set_option maxRecDepth 100000 in
theorem c_ask_E (l : Launch) (D : va_G) (dA : ClassId) (h0 hE hL hR hX : Nat) (sd : Int64) (cd : Int32) (uE uL uX : Option Nat) (x : UInt64) : CMd l D dA yX1_ask cX1_ask 4 rm_c_ask_E [.ref h0, .ref hE, .double x] (cw dA h0 hE hL hR hX sd cd uE uL uX) (fun u : Int32 × Option Nat × Option Nat × Option Nat => cw dA h0 hE hL hR hX sd u.1 u.2.1 u.2.2.1 u.2.2.2) (fun r u => r = a_E x ∧ u.1 = s_cE x ∧ fl u.2.1 = g_E x (fl uE) ∧ fl u.2.2.1 = fl uL ∧ fl u.2.2.2 = fl uX) := by
  refine st_d (by decide) (Nat.le_of_ble_eq_true rfl) ?_
  intro p e s m below meth c A Q H locs ls hCF hK hN hA hP hD hS hl hend
  obtain ⟨hx, hb, hml, hown, hts⟩ := hCF
  have hown : s.vm.findClass RX1 = some m.cls := hown
  have hl : lv_has ls 4 [(0, .ref h0), (1, .ref hE), (2, .double x)] := hl
  refine lv_aload_n hx hb dX1_ask_0 rfl (lv_at hl 0 rfl) ?_
  refine lv_aload_n hx hb dX1_ask_1 rfl (lv_at hl 1 rfl) ?_
  refine lv_dload_n hx hb dX1_ask_2 rfl (lv_at hl 2 rfl) ?_
  refine cl0_i (va_runU (As := [.double x]) (rest := [.ref h0]) ⟨hx, hb, hml, hown, hts⟩ (c_codeOf_E l D dA hE x H.size) (va_cwA 1 hts (lw_U q94 q96 q105 q106 q14 q107) rfl rfl rfl (hN.at 16 rfl) (by decide +kernel) ⟨Nat.le_of_ble_eq_true rfl, Nat.le_of_ble_eq_true rfl⟩) (pr_V hK hN p_nil (d_nil (A := A)) (va_recv hK hP (ci := 1) (q0 := 1) rfl rfl)) rfl rfl hl.1 rfl (lv_room (Nat.le_of_ble_eq_true rfl)) dX1_ask_3 ⟨Nat.le_of_ble_eq_true rfl, Nat.le_of_ble_eq_true rfl⟩) hS hP hA (fun r_3 u_3 H locs hpo_3 hP hS => ?_)
  refine W.widen (k := 0) (n := 0) (Nat.le_of_ble_eq_true rfl) (Nat.le_of_ble_eq_true rfl) ?_
  have e1 : r_3 = s_cE x := hpo_3
  subst e1
  have hP : va_P D vwCl (cw dA h0 hE hL hR hX sd cd uE uL uX) H := hP
  refine va_put (D := D) (ci := 0) (v := .int (s_cE x)) (ty := .int) (C := RX1) (T := TX1) (N := 6) hx hb hts in_X1 tyX1 tyX1_ok nmX1 hown hK hP hD hS 0 rfl rfl 5 (by decide) (hts _ q72) (fun _ h9 => h9) rfl (by decide +kernel) rfl rfl (Nat.le_of_ble_eq_true rfl) dX1_ask_6 (fun H locs hP hD hS => ?_)
  have hP : va_P D vwCl (cw dA h0 hE hL hR hX sd (s_cE x) uE uL uX) H := hP
  have hD : va_D A (cw dA h0 hE hL hR hX sd (s_cE x) uE uL uX) := hD
  refine lv_aload_n hx hb dX1_ask_9 rfl (lv_at hl 0 rfl) ?_
  refine va_get (D := D) (ci := 0) (v := .int (s_cE x)) (C := RX1) (T := TX1) (N := 6) hx hb hts in_X1 hown hK hP 0 rfl rfl 5 (by decide) (hts _ q72) (fun _ h9 => h9) rfl dX1_ask_10 ?_
  refine lv_if_ne (tgt := 24) hx hb dX1_ask_13 (by decide) (fun c_13 => ?_) (fun c_13 => ?_)
  · refine lv_dconst0 hx hb dX1_ask_24 ?_
    exact hend _ _ _ _ 25 _ FP.dconst0 (_, uE, uL, uX) dX1_ask_25 (Nat.le_of_ble_eq_true rfl) (Nat.le_of_ble_eq_true rfl) hS (⟨by unfold a_E; rw [if_neg c_13], rfl, by unfold g_E; rw [if_neg c_13], rfl, rfl⟩) hP hD
  · refine lv_aload_n hx hb dX1_ask_16 rfl (lv_at hl 1 rfl) ?_
    refine lv_dload_n hx hb dX1_ask_17 rfl (lv_at hl 2 rfl) ?_
    refine cl_d (va_runU (As := [.double x]) (rest := []) ⟨hx, hb, hml, hown, hts⟩ (c_valueOf_E l D dA h0 hE hL hR hX sd (s_cE x) uE uL uX x (num_facts (cE_n c_13)).1.nn (cE_le c_13) H.size) (va_cwA 1 hts (lw_U q118 q120 q177 q161 q14 q163) rfl rfl rfl (hN.at 17 rfl) (by decide +kernel) ⟨Nat.le_of_ble_eq_true rfl, Nat.le_of_ble_eq_true rfl⟩) (pr_V hK hN hP hD (va_recv hK hP (ci := 1) (q0 := 1) rfl rfl)) rfl rfl hl.1 rfl (lv_room (Nat.le_of_ble_eq_true rfl)) dX1_ask_18 ⟨Nat.le_of_ble_eq_true rfl, Nat.le_of_ble_eq_true rfl⟩) hS hD hA (fun r_18 u_18 H locs hpo_18 hP hD hS => ?_)
    refine W.widen (k := 14) (n := 210) (Nat.le_of_ble_eq_true rfl) (Nat.le_of_ble_eq_true rfl) ?_
    obtain ⟨e9, hu9⟩ := hpo_18
    subst e9
    have hP : va_P D vwCl (cw dA h0 hE hL hR hX sd (s_cE x) u_18 uL uX) H := hP
    have hD : va_D A (cw dA h0 hE hL hR hX sd (s_cE x) u_18 uL uX) := hD
    refine lv_goto (tgt := 25) hx hb dX1_ask_21 (by decide) ?_
    exact hend _ _ _ _ 25 _ (s_exp x) (_, u_18, uL, uX) dX1_ask_25 (Nat.le_of_ble_eq_true rfl) (Nat.le_of_ble_eq_true rfl) hS (⟨by unfold a_E; rw [if_pos c_13], rfl, by unfold g_E; rw [if_pos c_13]; exact hu9, rfl, rfl⟩) hP hD
abbrev rm_c_exponential : Room := { frames := 4, cells := 14, slots := 210, locals := 96 }
set_option maxHeartbeats 4000000 in
set_option maxRecDepth 100000 in
theorem c_exponential (l : Launch) (D : va_G) (dA : ClassId) (h0 hE hL hR hX : Nat) (sd : Int64) (cd : Int32) (uE uL uX : Option Nat) (x : UInt64) : CMd l D dA yX1_exponential cX1_exponential 3 rm_c_exponential [.ref h0, .double x] (cw dA h0 hE hL hR hX sd cd uE uL uX) (fun u : Int32 × Option Nat × Option Nat × Option Nat => cw dA h0 hE hL hR hX sd u.1 u.2.1 u.2.2.1 u.2.2.2) (fun r u => r = a_E x ∧ u.1 = s_cE x ∧ fl u.2.1 = g_E x (fl uE) ∧ fl u.2.2.1 = fl uL ∧ fl u.2.2.2 = fl uX) := by
  refine st_d (by decide) (Nat.le_of_ble_eq_true rfl) ?_
  intro p e s m below meth c A Q H locs ls hCF hK hN hA hP hD hS hl hend
  obtain ⟨hx, hb, hml, hown, hts⟩ := hCF
  have hown : s.vm.findClass RX1 = some m.cls := hown
  have hl : lv_has ls 3 [(0, .ref h0), (1, .double x)] := hl
  refine lv_aload_n hx hb dX1_exponential_0 rfl (lv_at hl 0 rfl) ?_
  refine lv_aload_n hx hb dX1_exponential_1 rfl (lv_at hl 0 rfl) ?_
  refine va_get (D := D) (ci := 0) (v := .ref hE) (C := RX1) (T := TX1) (N := 6) hx hb hts in_X1 hown hK hP 0 rfl rfl 1 (by decide) (hts _ q68) (fun _ h9 => h9) rfl dX1_exponential_2 ?_
  refine lv_dload_n hx hb dX1_exponential_5 rfl (lv_at hl 1 rfl) ?_
  refine cl_d (va_runV (As := [.ref hE, .double x]) (rest := []) ⟨hx, hb, hml, hown, hts⟩ (c_ask_E l D dA h0 hE hL hR hX sd cd uE uL uX x H.size) (cwV 2 hts (lw_V q90 q92 qs0 q12 q93) rfl rfl rfl (by decide +kernel) ⟨Nat.le_of_ble_eq_true rfl, Nat.le_of_ble_eq_true rfl⟩) (pr_V hK hN hP hD (va_recv hK hP (ci := 0) (q0 := 0) rfl rfl)) rfl rfl hl.1 rfl (lv_room (Nat.le_of_ble_eq_true rfl)) dX1_exponential_6 ⟨Nat.le_of_ble_eq_true rfl, Nat.le_of_ble_eq_true rfl⟩) hS hD hA (fun r_6 u_6 H locs hpo_6 hP hD hS => ?_)
  refine W.widen (k := 14) (n := 210) (Nat.le_of_ble_eq_true rfl) (Nat.le_of_ble_eq_true rfl) ?_
  have hP : va_P D vwCl (cw dA h0 hE hL hR hX sd u_6.1 u_6.2.1 u_6.2.2.1 u_6.2.2.2) H := hP
  have hD : va_D A (cw dA h0 hE hL hR hX sd u_6.1 u_6.2.1 u_6.2.2.1 u_6.2.2.2) := hD
  exact hend _ _ _ _ 9 _ r_6 u_6 dX1_exponential_9 (Nat.le_of_ble_eq_true rfl) (Nat.le_of_ble_eq_true rfl) hS hpo_6 hP hD
abbrev rm_c_ask_L : Room := { frames := 3, cells := 14, slots := 196, locals := 75 }
set_option maxHeartbeats 4000000 in
set_option maxRecDepth 100000 in
theorem c_ask_L (l : Launch) (D : va_G) (dA : ClassId) (h0 hE hL hR hX : Nat) (sd : Int64) (cd : Int32) (uE uL uX : Option Nat) (x : UInt64) (hv : XV x) : CMd l D dA yX1_ask cX1_ask 4 rm_c_ask_L [.ref h0, .ref hL, .double x] (cw dA h0 hE hL hR hX sd cd uE uL uX) (fun u : Int32 × Option Nat × Option Nat × Option Nat => cw dA h0 hE hL hR hX sd u.1 u.2.1 u.2.2.1 u.2.2.2) (fun r u => r = a_L x ∧ u.1 = s_cL x ∧ fl u.2.1 = fl uE ∧ fl u.2.2.1 = g_L x (fl uL) ∧ fl u.2.2.2 = fl uX) := by
  refine st_d (by decide) (Nat.le_of_ble_eq_true rfl) ?_
  intro p e s m below meth c A Q H locs ls hCF hK hN hA hP hD hS hl hend
  obtain ⟨hx, hb, hml, hown, hts⟩ := hCF
  have hown : s.vm.findClass RX1 = some m.cls := hown
  have hl : lv_has ls 4 [(0, .ref h0), (1, .ref hL), (2, .double x)] := hl
  refine lv_aload_n hx hb dX1_ask_0 rfl (lv_at hl 0 rfl) ?_
  refine lv_aload_n hx hb dX1_ask_1 rfl (lv_at hl 1 rfl) ?_
  refine lv_dload_n hx hb dX1_ask_2 rfl (lv_at hl 2 rfl) ?_
  refine cl0_i (va_runU (As := [.double x]) (rest := [.ref h0]) ⟨hx, hb, hml, hown, hts⟩ (c_codeOf_L l D dA hL x H.size) (va_cwA 1 hts (lw_U q94 q96 q110 q111 q15 q112) rfl rfl rfl (hN.at 16 rfl) (by decide +kernel) ⟨Nat.le_of_ble_eq_true rfl, Nat.le_of_ble_eq_true rfl⟩) (pr_V hK hN p_nil (d_nil (A := A)) (va_recv hK hP (ci := 2) (q0 := 2) rfl rfl)) rfl rfl hl.1 rfl (lv_room (Nat.le_of_ble_eq_true rfl)) dX1_ask_3 ⟨Nat.le_of_ble_eq_true rfl, Nat.le_of_ble_eq_true rfl⟩) hS hP hA (fun r_3 u_3 H locs hpo_3 hP hS => ?_)
  refine W.widen (k := 0) (n := 0) (Nat.le_of_ble_eq_true rfl) (Nat.le_of_ble_eq_true rfl) ?_
  have e1 : r_3 = s_cL x := hpo_3
  subst e1
  have hP : va_P D vwCl (cw dA h0 hE hL hR hX sd cd uE uL uX) H := hP
  refine va_put (D := D) (ci := 0) (v := .int (s_cL x)) (ty := .int) (C := RX1) (T := TX1) (N := 6) hx hb hts in_X1 tyX1 tyX1_ok nmX1 hown hK hP hD hS 0 rfl rfl 5 (by decide) (hts _ q72) (fun _ h9 => h9) rfl (by decide +kernel) rfl rfl (Nat.le_of_ble_eq_true rfl) dX1_ask_6 (fun H locs hP hD hS => ?_)
  have hP : va_P D vwCl (cw dA h0 hE hL hR hX sd (s_cL x) uE uL uX) H := hP
  have hD : va_D A (cw dA h0 hE hL hR hX sd (s_cL x) uE uL uX) := hD
  refine lv_aload_n hx hb dX1_ask_9 rfl (lv_at hl 0 rfl) ?_
  refine va_get (D := D) (ci := 0) (v := .int (s_cL x)) (C := RX1) (T := TX1) (N := 6) hx hb hts in_X1 hown hK hP 0 rfl rfl 5 (by decide) (hts _ q72) (fun _ h9 => h9) rfl dX1_ask_10 ?_
  refine lv_if_ne (tgt := 24) hx hb dX1_ask_13 (by decide) (fun c_13 => ?_) (fun c_13 => ?_)
  · refine lv_dconst0 hx hb dX1_ask_24 ?_
    exact hend _ _ _ _ 25 _ FP.dconst0 (_, uE, uL, uX) dX1_ask_25 (Nat.le_of_ble_eq_true rfl) (Nat.le_of_ble_eq_true rfl) hS (⟨by unfold a_L; rw [if_neg c_13], rfl, rfl, by unfold g_L; rw [if_neg c_13], rfl⟩) hP hD
  · refine lv_aload_n hx hb dX1_ask_16 rfl (lv_at hl 1 rfl) ?_
    refine lv_dload_n hx hb dX1_ask_17 rfl (lv_at hl 2 rfl) ?_
    refine cl_d (va_runU (As := [.double x]) (rest := []) ⟨hx, hb, hml, hown, hts⟩ (c_valueOf_L l D dA h0 hE hL hR hX sd (s_cL x) uE uL uX x (cL_0 hv c_13).1 (cL_0 hv c_13).2.1 (cL_0 hv c_13).2.2 H.size) (va_cwA 1 hts (lw_U q118 q120 q178 q179 q15 q180) rfl rfl rfl (hN.at 17 rfl) (by decide +kernel) ⟨Nat.le_of_ble_eq_true rfl, Nat.le_of_ble_eq_true rfl⟩) (pr_V hK hN hP hD (va_recv hK hP (ci := 2) (q0 := 2) rfl rfl)) rfl rfl hl.1 rfl (lv_room (Nat.le_of_ble_eq_true rfl)) dX1_ask_18 ⟨Nat.le_of_ble_eq_true rfl, Nat.le_of_ble_eq_true rfl⟩) hS hD hA (fun r_18 u_18 H locs hpo_18 hP hD hS => ?_)
    refine W.widen (k := 14) (n := 196) (Nat.le_of_ble_eq_true rfl) (Nat.le_of_ble_eq_true rfl) ?_
    obtain ⟨e9, hu9⟩ := hpo_18
    subst e9
    have hP : va_P D vwCl (cw dA h0 hE hL hR hX sd (s_cL x) uE u_18 uX) H := hP
    have hD : va_D A (cw dA h0 hE hL hR hX sd (s_cL x) uE u_18 uX) := hD
    refine lv_goto (tgt := 25) hx hb dX1_ask_21 (by decide) ?_
    exact hend _ _ _ _ 25 _ (s_log x) (_, uE, u_18, uX) dX1_ask_25 (Nat.le_of_ble_eq_true rfl) (Nat.le_of_ble_eq_true rfl) hS (⟨by unfold a_L; rw [if_pos c_13], rfl, rfl, by unfold g_L; rw [if_pos c_13]; exact hu9, rfl⟩) hP hD
abbrev rm_c_logarithm : Room := { frames := 4, cells := 14, slots := 196, locals := 98 }
set_option maxHeartbeats 4000000 in
set_option maxRecDepth 100000 in
theorem c_logarithm (l : Launch) (D : va_G) (dA : ClassId) (h0 hE hL hR hX : Nat) (sd : Int64) (cd : Int32) (uE uL uX : Option Nat) (x : UInt64) (hv : XV x) : CMd l D dA yX1_logarithm cX1_logarithm 3 rm_c_logarithm [.ref h0, .double x] (cw dA h0 hE hL hR hX sd cd uE uL uX) (fun u : Int32 × Option Nat × Option Nat × Option Nat => cw dA h0 hE hL hR hX sd u.1 u.2.1 u.2.2.1 u.2.2.2) (fun r u => r = a_L x ∧ u.1 = s_cL x ∧ fl u.2.1 = fl uE ∧ fl u.2.2.1 = g_L x (fl uL) ∧ fl u.2.2.2 = fl uX) := by
  refine st_d (by decide) (Nat.le_of_ble_eq_true rfl) ?_
  intro p e s m below meth c A Q H locs ls hCF hK hN hA hP hD hS hl hend
  obtain ⟨hx, hb, hml, hown, hts⟩ := hCF
  have hown : s.vm.findClass RX1 = some m.cls := hown
  have hl : lv_has ls 3 [(0, .ref h0), (1, .double x)] := hl
  refine lv_aload_n hx hb dX1_logarithm_0 rfl (lv_at hl 0 rfl) ?_
  refine lv_aload_n hx hb dX1_logarithm_1 rfl (lv_at hl 0 rfl) ?_
  refine va_get (D := D) (ci := 0) (v := .ref hL) (C := RX1) (T := TX1) (N := 6) hx hb hts in_X1 hown hK hP 0 rfl rfl 2 (by decide) (hts _ q69) (fun _ h9 => h9) rfl dX1_logarithm_2 ?_
  refine lv_dload_n hx hb dX1_logarithm_5 rfl (lv_at hl 1 rfl) ?_
  refine cl_d (va_runV (As := [.ref hL, .double x]) (rest := []) ⟨hx, hb, hml, hown, hts⟩ (c_ask_L l D dA h0 hE hL hR hX sd cd uE uL uX x hv H.size) (cwV 2 hts (lw_V q90 q92 qs0 q12 q93) rfl rfl rfl (by decide +kernel) ⟨Nat.le_of_ble_eq_true rfl, Nat.le_of_ble_eq_true rfl⟩) (pr_V hK hN hP hD (va_recv hK hP (ci := 0) (q0 := 0) rfl rfl)) rfl rfl hl.1 rfl (lv_room (Nat.le_of_ble_eq_true rfl)) dX1_logarithm_6 ⟨Nat.le_of_ble_eq_true rfl, Nat.le_of_ble_eq_true rfl⟩) hS hD hA (fun r_6 u_6 H locs hpo_6 hP hD hS => ?_)
  refine W.widen (k := 14) (n := 196) (Nat.le_of_ble_eq_true rfl) (Nat.le_of_ble_eq_true rfl) ?_
  have hP : va_P D vwCl (cw dA h0 hE hL hR hX sd u_6.1 u_6.2.1 u_6.2.2.1 u_6.2.2.2) H := hP
  have hD : va_D A (cw dA h0 hE hL hR hX sd u_6.1 u_6.2.1 u_6.2.2.1 u_6.2.2.2) := hD
  exact hend _ _ _ _ 9 _ r_6 u_6 dX1_logarithm_9 (Nat.le_of_ble_eq_true rfl) (Nat.le_of_ble_eq_true rfl) hS hpo_6 hP hD
abbrev rm_c_ask_R : Room := { frames := 2, cells := 0, slots := 0, locals := 53 }
set_option maxHeartbeats 4000000 in
set_option maxRecDepth 100000 in
theorem c_ask_R (l : Launch) (D : va_G) (dA : ClassId) (h0 hE hL hR hX : Nat) (sd : Int64) (cd : Int32) (uE uL uX : Option Nat) (x : UInt64) (hv : XV x) : CMd l D dA yX1_ask cX1_ask 4 rm_c_ask_R [.ref h0, .ref hR, .double x] (cw dA h0 hE hL hR hX sd cd uE uL uX) (fun u : Int32 × Option Nat × Option Nat × Option Nat => cw dA h0 hE hL hR hX sd u.1 u.2.1 u.2.2.1 u.2.2.2) (fun r u => r = a_R x ∧ u.1 = s_cR x ∧ fl u.2.1 = fl uE ∧ fl u.2.2.1 = fl uL ∧ fl u.2.2.2 = fl uX) := by
  refine st_d (by decide) (Nat.le_of_ble_eq_true rfl) ?_
  intro p e s m below meth c A Q H locs ls hCF hK hN hA hP hD hS hl hend
  obtain ⟨hx, hb, hml, hown, hts⟩ := hCF
  have hown : s.vm.findClass RX1 = some m.cls := hown
  have hl : lv_has ls 4 [(0, .ref h0), (1, .ref hR), (2, .double x)] := hl
  refine lv_aload_n hx hb dX1_ask_0 rfl (lv_at hl 0 rfl) ?_
  refine lv_aload_n hx hb dX1_ask_1 rfl (lv_at hl 1 rfl) ?_
  refine lv_dload_n hx hb dX1_ask_2 rfl (lv_at hl 2 rfl) ?_
  refine cl0_i (va_runU (As := [.double x]) (rest := [.ref h0]) ⟨hx, hb, hml, hown, hts⟩ (c_codeOf_R l D dA hR x H.size) (va_cwA 1 hts (lw_U q94 q96 q114 q115 q16 q116) rfl rfl rfl (hN.at 16 rfl) (by decide +kernel) ⟨Nat.le_of_ble_eq_true rfl, Nat.le_of_ble_eq_true rfl⟩) (pr_V hK hN p_nil (d_nil (A := A)) (va_recv hK hP (ci := 3) (q0 := 3) rfl rfl)) rfl rfl hl.1 rfl (lv_room (Nat.le_of_ble_eq_true rfl)) dX1_ask_3 ⟨Nat.le_of_ble_eq_true rfl, Nat.le_of_ble_eq_true rfl⟩) hS hP hA (fun r_3 u_3 H locs hpo_3 hP hS => ?_)
  refine W.widen (k := 0) (n := 0) (Nat.le_of_ble_eq_true rfl) (Nat.le_of_ble_eq_true rfl) ?_
  have e1 : r_3 = s_cR x := hpo_3
  subst e1
  have hP : va_P D vwCl (cw dA h0 hE hL hR hX sd cd uE uL uX) H := hP
  refine va_put (D := D) (ci := 0) (v := .int (s_cR x)) (ty := .int) (C := RX1) (T := TX1) (N := 6) hx hb hts in_X1 tyX1 tyX1_ok nmX1 hown hK hP hD hS 0 rfl rfl 5 (by decide) (hts _ q72) (fun _ h9 => h9) rfl (by decide +kernel) rfl rfl (Nat.le_of_ble_eq_true rfl) dX1_ask_6 (fun H locs hP hD hS => ?_)
  have hP : va_P D vwCl (cw dA h0 hE hL hR hX sd (s_cR x) uE uL uX) H := hP
  have hD : va_D A (cw dA h0 hE hL hR hX sd (s_cR x) uE uL uX) := hD
  refine lv_aload_n hx hb dX1_ask_9 rfl (lv_at hl 0 rfl) ?_
  refine va_get (D := D) (ci := 0) (v := .int (s_cR x)) (C := RX1) (T := TX1) (N := 6) hx hb hts in_X1 hown hK hP 0 rfl rfl 5 (by decide) (hts _ q72) (fun _ h9 => h9) rfl dX1_ask_10 ?_
  refine lv_if_ne (tgt := 24) hx hb dX1_ask_13 (by decide) (fun c_13 => ?_) (fun c_13 => ?_)
  · refine lv_dconst0 hx hb dX1_ask_24 ?_
    exact hend _ _ _ _ 25 _ FP.dconst0 (_, uE, uL, uX) dX1_ask_25 (Nat.le_of_ble_eq_true rfl) (Nat.le_of_ble_eq_true rfl) hS (⟨by unfold a_R; rw [if_neg c_13], rfl, rfl, rfl, rfl⟩) hP hD
  · refine lv_aload_n hx hb dX1_ask_16 rfl (lv_at hl 1 rfl) ?_
    refine lv_dload_n hx hb dX1_ask_17 rfl (lv_at hl 2 rfl) ?_
    refine cl0_d (va_runU (As := [.double x]) (rest := []) ⟨hx, hb, hml, hown, hts⟩ (c_valueOf_R l D dA hR x (cR_0 hv c_13).1 (cR_0 hv c_13).2.1 (cR_0 hv c_13).2.2.1 (cR_0 hv c_13).2.2.2 H.size) (va_cwA 1 hts (lw_U q118 q120 q189 q190 q16 q191) rfl rfl rfl (hN.at 17 rfl) (by decide +kernel) ⟨Nat.le_of_ble_eq_true rfl, Nat.le_of_ble_eq_true rfl⟩) (pr_V hK hN p_nil (d_nil (A := A)) (va_recv hK hP (ci := 3) (q0 := 3) rfl rfl)) rfl rfl hl.1 rfl (lv_room (Nat.le_of_ble_eq_true rfl)) dX1_ask_18 ⟨Nat.le_of_ble_eq_true rfl, Nat.le_of_ble_eq_true rfl⟩) hS hP hA (fun r_18 u_18 H locs hpo_18 hP hS => ?_)
    refine W.widen (k := 0) (n := 0) (Nat.le_of_ble_eq_true rfl) (Nat.le_of_ble_eq_true rfl) ?_
    have e9 : r_18 = s_root x := hpo_18
    subst e9
    have hP : va_P D vwCl (cw dA h0 hE hL hR hX sd (s_cR x) uE uL uX) H := hP
    refine lv_goto (tgt := 25) hx hb dX1_ask_21 (by decide) ?_
    exact hend _ _ _ _ 25 _ (s_root x) (_, uE, uL, uX) dX1_ask_25 (Nat.le_of_ble_eq_true rfl) (Nat.le_of_ble_eq_true rfl) hS (⟨by unfold a_R; rw [if_pos c_13], rfl, rfl, rfl, rfl⟩) hP hD
abbrev rm_c_root : Room := { frames := 3, cells := 0, slots := 0, locals := 76 }
set_option maxHeartbeats 4000000 in
set_option maxRecDepth 100000 in
theorem c_root (l : Launch) (D : va_G) (dA : ClassId) (h0 hE hL hR hX : Nat) (sd : Int64) (cd : Int32) (uE uL uX : Option Nat) (x : UInt64) (hv : XV x) : CMd l D dA yX1_root cX1_root 3 rm_c_root [.ref h0, .double x] (cw dA h0 hE hL hR hX sd cd uE uL uX) (fun u : Int32 × Option Nat × Option Nat × Option Nat => cw dA h0 hE hL hR hX sd u.1 u.2.1 u.2.2.1 u.2.2.2) (fun r u => r = a_R x ∧ u.1 = s_cR x ∧ fl u.2.1 = fl uE ∧ fl u.2.2.1 = fl uL ∧ fl u.2.2.2 = fl uX) := by
  refine st_d (by decide) (Nat.le_of_ble_eq_true rfl) ?_
  intro p e s m below meth c A Q H locs ls hCF hK hN hA hP hD hS hl hend
  obtain ⟨hx, hb, hml, hown, hts⟩ := hCF
  have hown : s.vm.findClass RX1 = some m.cls := hown
  have hl : lv_has ls 3 [(0, .ref h0), (1, .double x)] := hl
  refine lv_aload_n hx hb dX1_root_0 rfl (lv_at hl 0 rfl) ?_
  refine lv_aload_n hx hb dX1_root_1 rfl (lv_at hl 0 rfl) ?_
  refine va_get (D := D) (ci := 0) (v := .ref hR) (C := RX1) (T := TX1) (N := 6) hx hb hts in_X1 hown hK hP 0 rfl rfl 3 (by decide) (hts _ q70) (fun _ h9 => h9) rfl dX1_root_2 ?_
  refine lv_dload_n hx hb dX1_root_5 rfl (lv_at hl 1 rfl) ?_
  refine cl_d (va_runV (As := [.ref hR, .double x]) (rest := []) ⟨hx, hb, hml, hown, hts⟩ (c_ask_R l D dA h0 hE hL hR hX sd cd uE uL uX x hv H.size) (cwV 2 hts (lw_V q90 q92 qs0 q12 q93) rfl rfl rfl (by decide +kernel) ⟨Nat.le_of_ble_eq_true rfl, Nat.le_of_ble_eq_true rfl⟩) (pr_V hK hN hP hD (va_recv hK hP (ci := 0) (q0 := 0) rfl rfl)) rfl rfl hl.1 rfl (lv_room (Nat.le_of_ble_eq_true rfl)) dX1_root_6 ⟨Nat.le_of_ble_eq_true rfl, Nat.le_of_ble_eq_true rfl⟩) hS hD hA (fun r_6 u_6 H locs hpo_6 hP hD hS => ?_)
  refine W.widen (k := 0) (n := 0) (Nat.le_of_ble_eq_true rfl) (Nat.le_of_ble_eq_true rfl) ?_
  have hP : va_P D vwCl (cw dA h0 hE hL hR hX sd u_6.1 u_6.2.1 u_6.2.2.1 u_6.2.2.2) H := hP
  have hD : va_D A (cw dA h0 hE hL hR hX sd u_6.1 u_6.2.1 u_6.2.2.1 u_6.2.2.2) := hD
  exact hend _ _ _ _ 9 _ r_6 u_6 dX1_root_9 (Nat.le_of_ble_eq_true rfl) (Nat.le_of_ble_eq_true rfl) hS hpo_6 hP hD
abbrev rm_c_ask_X : Room := { frames := 5, cells := 120, slots := 14400, locals := 124 }
set_option maxHeartbeats 4000000 in
set_option maxRecDepth 100000 in
theorem c_ask_X (l : Launch) (D : va_G) (dA : ClassId) (h0 hE hL hR hX : Nat) (sd : Int64) (cd : Int32) (uE uL uX : Option Nat) (x : UInt64) : CMd l D dA yX1_ask cX1_ask 4 rm_c_ask_X [.ref h0, .ref hX, .double x] (cw dA h0 hE hL hR hX sd cd uE uL uX) (fun u : Int32 × Option Nat × Option Nat × Option Nat => cw dA h0 hE hL hR hX sd u.1 u.2.1 u.2.2.1 u.2.2.2) (fun r u => r = a_X x ∧ u.1 = s_cX x ∧ fl u.2.1 = g_XE x (fl uE) ∧ fl u.2.2.1 = fl uL ∧ fl u.2.2.2 = g_XX x (fl uX)) := by
  refine st_d (by decide) (Nat.le_of_ble_eq_true rfl) ?_
  intro p e s m below meth c A Q H locs ls hCF hK hN hA hP hD hS hl hend
  obtain ⟨hx, hb, hml, hown, hts⟩ := hCF
  have hown : s.vm.findClass RX1 = some m.cls := hown
  have hl : lv_has ls 4 [(0, .ref h0), (1, .ref hX), (2, .double x)] := hl
  refine lv_aload_n hx hb dX1_ask_0 rfl (lv_at hl 0 rfl) ?_
  refine lv_aload_n hx hb dX1_ask_1 rfl (lv_at hl 1 rfl) ?_
  refine lv_dload_n hx hb dX1_ask_2 rfl (lv_at hl 2 rfl) ?_
  refine cl0_i (va_runU (As := [.double x]) (rest := [.ref h0]) ⟨hx, hb, hml, hown, hts⟩ (c_codeOf_X l D dA hX x H.size) (va_cwA 1 hts (lw_U q94 q96 q97 q98 q17 q99) rfl rfl rfl (hN.at 16 rfl) (by decide +kernel) ⟨Nat.le_of_ble_eq_true rfl, Nat.le_of_ble_eq_true rfl⟩) (pr_V hK hN p_nil (d_nil (A := A)) (va_recv hK hP (ci := 4) (q0 := 4) rfl rfl)) rfl rfl hl.1 rfl (lv_room (Nat.le_of_ble_eq_true rfl)) dX1_ask_3 ⟨Nat.le_of_ble_eq_true rfl, Nat.le_of_ble_eq_true rfl⟩) hS hP hA (fun r_3 u_3 H locs hpo_3 hP hS => ?_)
  refine W.widen (k := 0) (n := 0) (Nat.le_of_ble_eq_true rfl) (Nat.le_of_ble_eq_true rfl) ?_
  have e1 : r_3 = s_cX x := hpo_3
  subst e1
  have hP : va_P D vwCl (cw dA h0 hE hL hR hX sd cd uE uL uX) H := hP
  refine va_put (D := D) (ci := 0) (v := .int (s_cX x)) (ty := .int) (C := RX1) (T := TX1) (N := 6) hx hb hts in_X1 tyX1 tyX1_ok nmX1 hown hK hP hD hS 0 rfl rfl 5 (by decide) (hts _ q72) (fun _ h9 => h9) rfl (by decide +kernel) rfl rfl (Nat.le_of_ble_eq_true rfl) dX1_ask_6 (fun H locs hP hD hS => ?_)
  have hP : va_P D vwCl (cw dA h0 hE hL hR hX sd (s_cX x) uE uL uX) H := hP
  have hD : va_D A (cw dA h0 hE hL hR hX sd (s_cX x) uE uL uX) := hD
  refine lv_aload_n hx hb dX1_ask_9 rfl (lv_at hl 0 rfl) ?_
  refine va_get (D := D) (ci := 0) (v := .int (s_cX x)) (C := RX1) (T := TX1) (N := 6) hx hb hts in_X1 hown hK hP 0 rfl rfl 5 (by decide) (hts _ q72) (fun _ h9 => h9) rfl dX1_ask_10 ?_
  refine lv_if_ne (tgt := 24) hx hb dX1_ask_13 (by decide) (fun c_13 => ?_) (fun c_13 => ?_)
  · refine lv_dconst0 hx hb dX1_ask_24 ?_
    exact hend _ _ _ _ 25 _ FP.dconst0 (_, uE, uL, uX) dX1_ask_25 (Nat.le_of_ble_eq_true rfl) (Nat.le_of_ble_eq_true rfl) hS (⟨by unfold a_X; rw [if_neg c_13], rfl, by unfold g_XE; rw [if_neg c_13], rfl, by unfold g_XX; rw [if_neg c_13]⟩) hP hD
  · refine lv_aload_n hx hb dX1_ask_16 rfl (lv_at hl 1 rfl) ?_
    refine lv_dload_n hx hb dX1_ask_17 rfl (lv_at hl 2 rfl) ?_
    refine cl_d (va_runU (As := [.double x]) (rest := []) ⟨hx, hb, hml, hown, hts⟩ (c_valueOf_X l D dA h0 hE hL hR hX sd (s_cX x) uE uL uX x (num_facts (cX_n c_13)).1 H.size) (va_cwA 1 hts (lw_U q118 q120 q121 q122 q17 q123) rfl rfl rfl (hN.at 17 rfl) (by decide +kernel) ⟨Nat.le_of_ble_eq_true rfl, Nat.le_of_ble_eq_true rfl⟩) (pr_V hK hN hP hD (va_recv hK hP (ci := 4) (q0 := 4) rfl rfl)) rfl rfl hl.1 rfl (lv_room (Nat.le_of_ble_eq_true rfl)) dX1_ask_18 ⟨Nat.le_of_ble_eq_true rfl, Nat.le_of_ble_eq_true rfl⟩) hS hD hA (fun r_18 u_18 H locs hpo_18 hP hD hS => ?_)
    refine W.widen (k := 120) (n := 14400) (Nat.le_of_ble_eq_true rfl) (Nat.le_of_ble_eq_true rfl) ?_
    obtain ⟨e9, hu8, hu9⟩ := hpo_18
    subst e9
    have hP : va_P D vwCl (cw dA h0 hE hL hR hX sd (s_cX x) u_18.1 uL u_18.2) H := hP
    have hD : va_D A (cw dA h0 hE hL hR hX sd (s_cX x) u_18.1 uL u_18.2) := hD
    refine lv_goto (tgt := 25) hx hb dX1_ask_21 (by decide) ?_
    exact hend _ _ _ _ 25 _ (s_err x) (_, u_18.1, uL, u_18.2) dX1_ask_25 (Nat.le_of_ble_eq_true rfl) (Nat.le_of_ble_eq_true rfl) hS (⟨by unfold a_X; rw [if_pos c_13], rfl, by unfold g_XE; rw [if_pos c_13]; exact hu8, rfl, by unfold g_XX; rw [if_pos c_13]; exact hu9⟩) hP hD
abbrev rm_c_errorPart : Room := { frames := 6, cells := 120, slots := 14400, locals := 147 }
set_option maxHeartbeats 4000000 in
set_option maxRecDepth 100000 in
theorem c_errorPart (l : Launch) (D : va_G) (dA : ClassId) (h0 hE hL hR hX : Nat) (sd : Int64) (cd : Int32) (uE uL uX : Option Nat) (x : UInt64) : CMd l D dA yX1_errorPart cX1_errorPart 3 rm_c_errorPart [.ref h0, .double x] (cw dA h0 hE hL hR hX sd cd uE uL uX) (fun u : Int32 × Option Nat × Option Nat × Option Nat => cw dA h0 hE hL hR hX sd u.1 u.2.1 u.2.2.1 u.2.2.2) (fun r u => r = a_X x ∧ u.1 = s_cX x ∧ fl u.2.1 = g_XE x (fl uE) ∧ fl u.2.2.1 = fl uL ∧ fl u.2.2.2 = g_XX x (fl uX)) := by
  refine st_d (by decide) (Nat.le_of_ble_eq_true rfl) ?_
  intro p e s m below meth c A Q H locs ls hCF hK hN hA hP hD hS hl hend
  obtain ⟨hx, hb, hml, hown, hts⟩ := hCF
  have hown : s.vm.findClass RX1 = some m.cls := hown
  have hl : lv_has ls 3 [(0, .ref h0), (1, .double x)] := hl
  refine lv_aload_n hx hb dX1_errorPart_0 rfl (lv_at hl 0 rfl) ?_
  refine lv_aload_n hx hb dX1_errorPart_1 rfl (lv_at hl 0 rfl) ?_
  refine va_get (D := D) (ci := 0) (v := .ref hX) (C := RX1) (T := TX1) (N := 6) hx hb hts in_X1 hown hK hP 0 rfl rfl 4 (by decide) (hts _ q71) (fun _ h9 => h9) rfl dX1_errorPart_2 ?_
  refine lv_dload_n hx hb dX1_errorPart_5 rfl (lv_at hl 1 rfl) ?_
  refine cl_d (va_runV (As := [.ref hX, .double x]) (rest := []) ⟨hx, hb, hml, hown, hts⟩ (c_ask_X l D dA h0 hE hL hR hX sd cd uE uL uX x H.size) (cwV 2 hts (lw_V q90 q92 qs0 q12 q93) rfl rfl rfl (by decide +kernel) ⟨Nat.le_of_ble_eq_true rfl, Nat.le_of_ble_eq_true rfl⟩) (pr_V hK hN hP hD (va_recv hK hP (ci := 0) (q0 := 0) rfl rfl)) rfl rfl hl.1 rfl (lv_room (Nat.le_of_ble_eq_true rfl)) dX1_errorPart_6 ⟨Nat.le_of_ble_eq_true rfl, Nat.le_of_ble_eq_true rfl⟩) hS hD hA (fun r_6 u_6 H locs hpo_6 hP hD hS => ?_)
  refine W.widen (k := 120) (n := 14400) (Nat.le_of_ble_eq_true rfl) (Nat.le_of_ble_eq_true rfl) ?_
  have hP : va_P D vwCl (cw dA h0 hE hL hR hX sd u_6.1 u_6.2.1 u_6.2.2.1 u_6.2.2.2) H := hP
  have hD : va_D A (cw dA h0 hE hL hR hX sd u_6.1 u_6.2.1 u_6.2.2.1 u_6.2.2.2) := hD
  exact hend _ _ _ _ 9 _ r_6 u_6 dX1_errorPart_9 (Nat.le_of_ble_eq_true rfl) (Nat.le_of_ble_eq_true rfl) hS hpo_6 hP hD
abbrev rm_c_raised : Room := { frames := 3, cells := 14, slots := 210, locals := 73 }
set_option maxHeartbeats 4000000 in
set_option maxRecDepth 100000 in
theorem c_raised (l : Launch) (D : va_G) (dA : ClassId) (h0 hE hL hR hX : Nat) (sd : Int64) (cd : Int32) (uE uL uX : Option Nat) (b x : UInt64) (hb0 : DF b) (hn : NN x) : CMd l D dA yX1_raised cX1_raised 5 rm_c_raised [.ref h0, .double b, .double x] (cw dA h0 hE hL hR hX sd cd uE uL uX) (fun u : Int32 × Option Nat × Option Nat × Option Nat => cw dA h0 hE hL hR hX sd u.1 u.2.1 u.2.2.1 u.2.2.2) (fun r u => r = r_a b x ∧ u.1 = e_c x ∧ fl u.2.1 = r_f x (fl uE) ∧ fl u.2.2.1 = fl uL ∧ fl u.2.2.2 = fl uX) := by
  refine st_d (by decide) (Nat.le_of_ble_eq_true rfl) ?_
  intro p e s m below meth c A Q H locs ls hCF hK hN hA hP hD hS hl hend
  obtain ⟨hx, hb, hml, hown, hts⟩ := hCF
  have hown : s.vm.findClass RX1 = some m.cls := hown
  have hl : lv_has ls 5 [(0, .ref h0), (1, .double b), (3, .double x)] := hl
  refine lv_aload_n hx hb dX1_raised_0 rfl (lv_at hl 0 rfl) ?_
  refine lv_dload_n hx hb dX1_raised_1 rfl (lv_at hl 2 rfl) ?_
  refine lv_ldc2d hx hb hown (hts _ q211) dX1_raised_2 ?_
  refine lv_dcmp hx hb dX1_raised_5 ?_
  refine lv_if_le (tgt := 13) hx hb dX1_raised_6 (by decide) (fun c_6 => ?_) (fun c_6 => ?_)
  · refine lv_iconst (v := 0) hx hb dX1_raised_13 (by decide) ?_
    refine va_put (D := D) (ci := 0) (v := .int 0) (ty := .int) (C := RX1) (T := TX1) (N := 6) hx hb hts in_X1 tyX1 tyX1_ok nmX1 hown hK hP hD hS 0 rfl rfl 5 (by decide) (hts _ q72) (fun _ h9 => h9) rfl (by decide +kernel) rfl rfl (Nat.le_of_ble_eq_true rfl) dX1_raised_14 (fun H locs hP hD hS => ?_)
    have hP : va_P D vwCl (cw dA h0 hE hL hR hX sd 0 uE uL uX) H := hP
    have hD : va_D A (cw dA h0 hE hL hR hX sd 0 uE uL uX) := hD
    refine lv_aload_n hx hb dX1_raised_17 rfl (lv_at hl 0 rfl) ?_
    refine va_get (D := D) (ci := 0) (v := .int 0) (C := RX1) (T := TX1) (N := 6) hx hb hts in_X1 hown hK hP 0 rfl rfl 5 (by decide) (hts _ q72) (fun _ h9 => h9) rfl dX1_raised_18 ?_
    refine lv_if_ne (tgt := 37) hx hb dX1_raised_21 (by decide) (fun c_21 => absurd rfl c_21) (fun c_21 => ?_)
    refine lv_dload_n hx hb dX1_raised_24 rfl (lv_at hl 1 rfl) ?_
    refine lv_aload_n hx hb dX1_raised_25 rfl (lv_at hl 0 rfl) ?_
    refine va_get (D := D) (ci := 0) (v := .ref hE) (C := RX1) (T := TX1) (N := 6) hx hb hts in_X1 hown hK hP 0 rfl rfl 1 (by decide) (hts _ q68) (fun _ h9 => h9) rfl dX1_raised_26 ?_
    refine lv_dload_n hx hb dX1_raised_29 rfl (lv_at hl 2 rfl) ?_
    refine cl_d (va_runV (As := [.double x]) (rest := [.double b]) ⟨hx, hb, hml, hown, hts⟩ (c_valueOf_E l D dA h0 hE hL hR hX sd 0 uE uL uX x hn c_6 H.size) (cwV 1 hts (lw_V q212 q161 q162 q14 q163) rfl rfl rfl (by decide +kernel) ⟨Nat.le_of_ble_eq_true rfl, Nat.le_of_ble_eq_true rfl⟩) (pr_V hK hN hP hD (va_recv hK hP (ci := 1) (q0 := 1) rfl rfl)) rfl rfl hl.1 rfl (lv_room (Nat.le_of_ble_eq_true rfl)) dX1_raised_30 ⟨Nat.le_of_ble_eq_true rfl, Nat.le_of_ble_eq_true rfl⟩) hS hD hA (fun r_30 u_30 H locs hpo_30 hP hD hS => ?_)
    refine W.widen (k := 14) (n := 210) (Nat.le_of_ble_eq_true rfl) (Nat.le_of_ble_eq_true rfl) ?_
    obtain ⟨e9, hu9⟩ := hpo_30
    subst e9
    have hP : va_P D vwCl (cw dA h0 hE hL hR hX sd 0 u_30 uL uX) H := hP
    have hD : va_D A (cw dA h0 hE hL hR hX sd 0 u_30 uL uX) := hD
    refine lv_dmul hx hb dX1_raised_33 ((NN.mul hb0 (exp_fin hn c_6)).n64) ?_
    refine lv_goto (tgt := 38) hx hb dX1_raised_34 (by decide) ?_
    exact hend _ _ _ _ 38 _ (FP.dmul b (s_exp x)) (0, u_30, uL, uX) dX1_raised_38 (Nat.le_of_ble_eq_true rfl) (Nat.le_of_ble_eq_true rfl) hS (⟨by unfold r_a; rw [if_pos (by unfold e_c; rw [if_pos c_6])], by unfold e_c; rw [if_pos c_6], by unfold r_f; rw [if_pos (by unfold e_c; rw [if_pos c_6])]; exact hu9, rfl, rfl⟩) hP hD
  · refine lv_iconst (v := 1) hx hb dX1_raised_9 (by decide) ?_
    refine lv_goto (tgt := 14) hx hb dX1_raised_10 (by decide) ?_
    refine va_put (D := D) (ci := 0) (v := .int 1) (ty := .int) (C := RX1) (T := TX1) (N := 6) hx hb hts in_X1 tyX1 tyX1_ok nmX1 hown hK hP hD hS 0 rfl rfl 5 (by decide) (hts _ q72) (fun _ h9 => h9) rfl (by decide +kernel) rfl rfl (Nat.le_of_ble_eq_true rfl) dX1_raised_14 (fun H locs hP hD hS => ?_)
    have hP : va_P D vwCl (cw dA h0 hE hL hR hX sd 1 uE uL uX) H := hP
    have hD : va_D A (cw dA h0 hE hL hR hX sd 1 uE uL uX) := hD
    refine lv_aload_n hx hb dX1_raised_17 rfl (lv_at hl 0 rfl) ?_
    refine va_get (D := D) (ci := 0) (v := .int 1) (C := RX1) (T := TX1) (N := 6) hx hb hts in_X1 hown hK hP 0 rfl rfl 5 (by decide) (hts _ q72) (fun _ h9 => h9) rfl dX1_raised_18 ?_
    refine lv_if_ne (tgt := 37) hx hb dX1_raised_21 (by decide) (fun c_21 => ?_) (fun c_21 => absurd c_21 (by decide))
    refine lv_dconst0 hx hb dX1_raised_37 ?_
    exact hend _ _ _ _ 38 _ FP.dconst0 (1, uE, uL, uX) dX1_raised_38 (Nat.le_of_ble_eq_true rfl) (Nat.le_of_ble_eq_true rfl) hS (⟨by unfold r_a; rw [if_neg (by unfold e_c; rw [if_neg c_6]; decide)], by unfold e_c; rw [if_neg c_6], by unfold r_f; rw [if_neg (by unfold e_c; rw [if_neg c_6]; decide)], rfl, rfl⟩) hP hD
abbrev rm_c_power : Room := { frames := 4, cells := 28, slots := 406, locals := 97 }
set_option maxHeartbeats 4000000 in
set_option maxRecDepth 100000 in
theorem c_power (l : Launch) (D : va_G) (dA : ClassId) (h0 hE hL hR hX : Nat) (sd : Int64) (cd : Int32) (uE uL uX : Option Nat) (x y : UInt64) (hvx : XV x) (hvy : XV y) : CMd l D dA yX1_power cX1_power 5 rm_c_power [.ref h0, .double x, .double y] (cw dA h0 hE hL hR hX sd cd uE uL uX) (fun u : Int32 × Option Nat × Option Nat × Option Nat => cw dA h0 hE hL hR hX sd u.1 u.2.1 u.2.2.1 u.2.2.2) (fun r u => r = p_a x y ∧ u.1 = p_C x y ∧ fl u.2.1 = p_E x y (fl uE) ∧ fl u.2.2.1 = p_L x y (fl uL) ∧ fl u.2.2.2 = fl uX) := by
  refine st_d (by decide) (Nat.le_of_ble_eq_true rfl) ?_
  intro p e s m below meth c A Q H locs ls hCF hK hN hA hP hD hS hl hend
  obtain ⟨hx, hb, hml, hown, hts⟩ := hCF
  have hown : s.vm.findClass RX1 = some m.cls := hown
  have hl : lv_has ls 5 [(0, .ref h0), (1, .double x), (3, .double y)] := hl
  refine lv_aload_n hx hb dX1_power_0 rfl (lv_at hl 0 rfl) ?_
  refine lv_dload_n hx hb dX1_power_1 rfl (lv_at hl 1 rfl) ?_
  refine cl0_i (va_runS (As := [.double x]) (rest := [.ref h0]) ⟨hx, hb, hml, hown, hts⟩ (c_isNumber l D dA x H.size) (va_cwS 1 hts (lw_S q205 q101 q12 q102) rfl rfl rfl (by decide +kernel) ⟨Nat.le_of_ble_eq_true rfl, Nat.le_of_ble_eq_true rfl⟩) (pr_S hK hN p_nil (d_nil (A := A))) rfl rfl hl.1 rfl (lv_room (Nat.le_of_ble_eq_true rfl)) dX1_power_2 ⟨Nat.le_of_ble_eq_true rfl, Nat.le_of_ble_eq_true rfl⟩) hS hP hA (fun r_2 u_2 H locs hpo_2 hP hS => ?_)
  refine W.widen (k := 0) (n := 0) (Nat.le_of_ble_eq_true rfl) (Nat.le_of_ble_eq_true rfl) ?_
  have e1 : r_2 = s_num x := hpo_2
  subst e1
  have hP : va_P D vwCl (cw dA h0 hE hL hR hX sd cd uE uL uX) H := hP
  refine lv_if_eq (tgt := 15) hx hb dX1_power_5 (by decide) (fun c_5 => ?_) (fun c_5 => ?_)
  · refine lv_iconst (v := 5) hx hb dX1_power_15 (by decide) ?_
    refine lv_goto (tgt := 46) hx hb dX1_power_16 (by decide) ?_
    have hc : p_c x y = 5 := by unfold p_c; first | rw [if_pos c_5] | rw [if_neg c_5, if_pos c_12]
    refine va_put (D := D) (ci := 0) (v := .int 5) (ty := .int) (C := RX1) (T := TX1) (N := 6) hx hb hts in_X1 tyX1 tyX1_ok nmX1 hown hK hP hD hS 0 rfl rfl 5 (by decide) (hts _ q72) (fun _ h9 => h9) rfl (by decide +kernel) rfl rfl (Nat.le_of_ble_eq_true rfl) dX1_power_46 (fun H locs hP hD hS => ?_)
    have hP : va_P D vwCl (cw dA h0 hE hL hR hX sd 5 uE uL uX) H := hP
    have hD : va_D A (cw dA h0 hE hL hR hX sd 5 uE uL uX) := hD
    refine lv_aload_n hx hb dX1_power_49 rfl (lv_at hl 0 rfl) ?_
    refine va_get (D := D) (ci := 0) (v := .int 5) (C := RX1) (T := TX1) (N := 6) hx hb hts in_X1 hown hK hP 0 rfl rfl 5 (by decide) (hts _ q72) (fun _ h9 => h9) rfl dX1_power_50 ?_
    refine lv_if_eq (tgt := 58) hx hb dX1_power_53 (by decide) (fun c_53 => absurd c_53 (by decide)) (fun c_53 => ?_)
    refine lv_dconst0 hx hb dX1_power_56 ?_
    exact hend _ _ _ _ 57 _ FP.dconst0 (5, uE, uL, uX) dX1_power_57 (Nat.le_of_ble_eq_true rfl) (Nat.le_of_ble_eq_true rfl) hS (⟨by unfold p_a; rw [if_neg (by rw [hc]; decide)], by unfold p_C; rw [if_neg (by rw [hc]; decide), hc], by unfold p_E; rw [if_neg (by rw [hc]; decide)], by unfold p_L; rw [if_neg (by rw [hc]; decide)], rfl⟩) hP hD
  · refine lv_dload_n hx hb dX1_power_8 rfl (lv_at hl 2 rfl) ?_
    refine cl0_i (va_runS (As := [.double y]) (rest := [.ref h0]) ⟨hx, hb, hml, hown, hts⟩ (c_isNumber l D dA y H.size) (va_cwS 1 hts (lw_S q205 q101 q12 q102) rfl rfl rfl (by decide +kernel) ⟨Nat.le_of_ble_eq_true rfl, Nat.le_of_ble_eq_true rfl⟩) (pr_S hK hN p_nil (d_nil (A := A))) rfl rfl hl.1 rfl (lv_room (Nat.le_of_ble_eq_true rfl)) dX1_power_9 ⟨Nat.le_of_ble_eq_true rfl, Nat.le_of_ble_eq_true rfl⟩) hS hP hA (fun r_9 u_9 H locs hpo_9 hP hS => ?_)
    refine W.widen (k := 0) (n := 0) (Nat.le_of_ble_eq_true rfl) (Nat.le_of_ble_eq_true rfl) ?_
    have e1 : r_9 = s_num y := hpo_9
    subst e1
    have hP : va_P D vwCl (cw dA h0 hE hL hR hX sd cd uE uL uX) H := hP
    refine lv_if_ne (tgt := 19) hx hb dX1_power_12 (by decide) (fun c_12 => ?_) (fun c_12 => ?_)
    · refine lv_dload_n hx hb dX1_power_19 rfl (lv_at hl 1 rfl) ?_
      refine lv_dconst0 hx hb dX1_power_20 ?_
      refine lv_dcmp hx hb dX1_power_21 ?_
      refine lv_if_ge (tgt := 29) hx hb dX1_power_22 (by decide) (fun c_22 => ?_) (fun c_22 => ?_)
      · refine lv_dload_n hx hb dX1_power_29 rfl (lv_at hl 1 rfl) ?_
        refine lv_dconst0 hx hb dX1_power_30 ?_
        refine lv_dcmp hx hb dX1_power_31 ?_
        refine lv_if_ne (tgt := 45) hx hb dX1_power_32 (by decide) (fun c_32 => ?_) (fun c_32 => ?_)
        · refine lv_iconst (v := 0) hx hb dX1_power_45 (by decide) ?_
          have hc : p_c x y = 0 := by unfold p_c; first | rw [if_neg c_5, if_neg c_12, if_pos c_22, if_neg c_32] | rw [if_neg c_5, if_neg c_12, if_pos c_22, if_pos c_32, if_pos c_38]
          refine va_put (D := D) (ci := 0) (v := .int 0) (ty := .int) (C := RX1) (T := TX1) (N := 6) hx hb hts in_X1 tyX1 tyX1_ok nmX1 hown hK hP hD hS 0 rfl rfl 5 (by decide) (hts _ q72) (fun _ h9 => h9) rfl (by decide +kernel) rfl rfl (Nat.le_of_ble_eq_true rfl) dX1_power_46 (fun H locs hP hD hS => ?_)
          have hP : va_P D vwCl (cw dA h0 hE hL hR hX sd 0 uE uL uX) H := hP
          have hD : va_D A (cw dA h0 hE hL hR hX sd 0 uE uL uX) := hD
          refine lv_aload_n hx hb dX1_power_49 rfl (lv_at hl 0 rfl) ?_
          refine va_get (D := D) (ci := 0) (v := .int 0) (C := RX1) (T := TX1) (N := 6) hx hb hts in_X1 hown hK hP 0 rfl rfl 5 (by decide) (hts _ q72) (fun _ h9 => h9) rfl dX1_power_50 ?_
          refine lv_if_eq (tgt := 58) hx hb dX1_power_53 (by decide) (fun c_53 => ?_) (fun c_53 => absurd rfl c_53)
          refine lv_dload_n hx hb dX1_power_58 rfl (lv_at hl 1 rfl) ?_
          refine lv_dconst0 hx hb dX1_power_59 ?_
          refine lv_dcmp hx hb dX1_power_60 ?_
          refine lv_if_ne (tgt := 76) hx hb dX1_power_61 (by decide) (fun c_61 => ?_) (fun c_61 => ?_)
          · obtain ⟨g1, g2, g3⟩ := pos_facts hvx c_5 c_22 c_61
            have k1 : DF (p_v x y) := (SZ.mul (sz_db (n := 100000000) (num_facts c_12)) (log_sz g1 g2 g3) (by decide)).1
            refine lv_aload_n hx hb dX1_power_76 rfl (lv_at hl 0 rfl) ?_
            refine lv_dconst1 hx hb dX1_power_77 ?_
            refine lv_dload_n hx hb dX1_power_78 rfl (lv_at hl 2 rfl) ?_
            refine lv_aload_n hx hb dX1_power_79 rfl (lv_at hl 0 rfl) ?_
            refine va_get (D := D) (ci := 0) (v := .ref hL) (C := RX1) (T := TX1) (N := 6) hx hb hts in_X1 hown hK hP 0 rfl rfl 2 (by decide) (hts _ q69) (fun _ h9 => h9) rfl dX1_power_80 ?_
            refine lv_dload_n hx hb dX1_power_83 rfl (lv_at hl 1 rfl) ?_
            refine cl_d (va_runV (As := [.double x]) (rest := [.double y, .double FP.dconst1, .ref h0]) ⟨hx, hb, hml, hown, hts⟩ (c_valueOf_L l D dA h0 hE hL hR hX sd 0 uE uL uX x g1 g2 g3 H.size) (cwV 1 hts (lw_V q206 q179 q416 q15 q180) rfl rfl rfl (by decide +kernel) ⟨Nat.le_of_ble_eq_true rfl, Nat.le_of_ble_eq_true rfl⟩) (pr_V hK hN hP hD (va_recv hK hP (ci := 2) (q0 := 2) rfl rfl)) rfl rfl hl.1 rfl (lv_room (Nat.le_of_ble_eq_true rfl)) dX1_power_84 ⟨Nat.le_of_ble_eq_true rfl, Nat.le_of_ble_eq_true rfl⟩) hS hD hA (fun r_84 u_84 H locs hpo_84 hP hD hS => ?_)
            refine W.widen (k := 14) (n := 196) (Nat.le_of_ble_eq_true rfl) (Nat.le_of_ble_eq_true rfl) ?_
            obtain ⟨e9, hu9⟩ := hpo_84
            subst e9
            have hP : va_P D vwCl (cw dA h0 hE hL hR hX sd 0 uE u_84 uX) H := hP
            have hD : va_D A (cw dA h0 hE hL hR hX sd 0 uE u_84 uX) := hD
            refine lv_dmul hx hb dX1_power_87 k1.n64 ?_
            refine cl_d (va_runV (As := [.double FP.dconst1, .double (p_v x y)]) (rest := []) ⟨hx, hb, hml, hown, hts⟩ (c_raised l D dA h0 hE hL hR hX sd 0 uE u_84 uX FP.dconst1 (p_v x y) df_1 k1.nn H.size) (cwV 2 hts (lw_V q207 q209 qs3 q12 q210) rfl rfl rfl (by decide +kernel) ⟨Nat.le_of_ble_eq_true rfl, Nat.le_of_ble_eq_true rfl⟩) (pr_V hK hN hP hD (va_recv hK hP (ci := 0) (q0 := 0) rfl rfl)) rfl rfl hl.1 rfl (lv_room (Nat.le_of_ble_eq_true rfl)) dX1_power_88 ⟨Nat.le_of_ble_eq_true rfl, Nat.le_of_ble_eq_true rfl⟩) hS hD hA (fun r_88 u_88 H locs hpo_88 hP hD hS => ?_)
            refine W.widen (k := 28) (n := 406) (Nat.le_of_ble_eq_true rfl) (Nat.le_of_ble_eq_true rfl) ?_
            obtain ⟨e9, i1, i2, i3, i4⟩ := hpo_88
            subst e9
            have hP : va_P D vwCl (cw dA h0 hE hL hR hX sd u_88.1 u_88.2.1 u_88.2.2.1 u_88.2.2.2) H := hP
            have hD : va_D A (cw dA h0 hE hL hR hX sd u_88.1 u_88.2.1 u_88.2.2.1 u_88.2.2.2) := hD
            exact hend _ _ _ _ 91 _ (r_a FP.dconst1 (p_v x y)) u_88 dX1_power_91 (Nat.le_of_ble_eq_true rfl) (Nat.le_of_ble_eq_true rfl) hS (⟨by unfold p_a; rw [if_pos hc, if_neg c_61], by unfold p_C; rw [if_pos hc, if_neg c_61]; exact i1, by unfold p_E; rw [if_pos hc, if_neg c_61]; exact i2, by unfold p_L; rw [if_pos hc, if_neg c_61, i3]; exact hu9, i4⟩) hP hD
          · refine lv_dload_n hx hb dX1_power_64 rfl (lv_at hl 2 rfl) ?_
            refine lv_dconst0 hx hb dX1_power_65 ?_
            refine lv_dcmp hx hb dX1_power_66 ?_
            refine lv_if_ne (tgt := 74) hx hb dX1_power_67 (by decide) (fun c_67 => ?_) (fun c_67 => ?_)
            · refine lv_dconst0 hx hb dX1_power_74 ?_
              exact hend _ _ _ _ 75 _ FP.dconst0 (0, uE, uL, uX) dX1_power_75 (Nat.le_of_ble_eq_true rfl) (Nat.le_of_ble_eq_true rfl) hS (⟨by unfold p_a; rw [if_pos hc, if_pos c_61, if_neg c_67], by unfold p_C; rw [if_pos hc, if_pos c_61], by unfold p_E; rw [if_pos hc, if_pos c_61], by unfold p_L; rw [if_pos hc, if_pos c_61], rfl⟩) hP hD
            · refine lv_dconst1 hx hb dX1_power_70 ?_
              refine lv_goto (tgt := 75) hx hb dX1_power_71 (by decide) ?_
              exact hend _ _ _ _ 75 _ FP.dconst1 (0, uE, uL, uX) dX1_power_75 (Nat.le_of_ble_eq_true rfl) (Nat.le_of_ble_eq_true rfl) hS (⟨by unfold p_a; rw [if_pos hc, if_pos c_61, if_pos c_67], by unfold p_C; rw [if_pos hc, if_pos c_61], by unfold p_E; rw [if_pos hc, if_pos c_61], by unfold p_L; rw [if_pos hc, if_pos c_61], rfl⟩) hP hD
        · refine lv_dload_n hx hb dX1_power_35 rfl (lv_at hl 2 rfl) ?_
          refine lv_dconst0 hx hb dX1_power_36 ?_
          refine lv_dcmp hx hb dX1_power_37 ?_
          refine lv_if_ge (tgt := 45) hx hb dX1_power_38 (by decide) (fun c_38 => ?_) (fun c_38 => ?_)
          · refine lv_iconst (v := 0) hx hb dX1_power_45 (by decide) ?_
            have hc : p_c x y = 0 := by unfold p_c; first | rw [if_neg c_5, if_neg c_12, if_pos c_22, if_neg c_32] | rw [if_neg c_5, if_neg c_12, if_pos c_22, if_pos c_32, if_pos c_38]
            refine va_put (D := D) (ci := 0) (v := .int 0) (ty := .int) (C := RX1) (T := TX1) (N := 6) hx hb hts in_X1 tyX1 tyX1_ok nmX1 hown hK hP hD hS 0 rfl rfl 5 (by decide) (hts _ q72) (fun _ h9 => h9) rfl (by decide +kernel) rfl rfl (Nat.le_of_ble_eq_true rfl) dX1_power_46 (fun H locs hP hD hS => ?_)
            have hP : va_P D vwCl (cw dA h0 hE hL hR hX sd 0 uE uL uX) H := hP
            have hD : va_D A (cw dA h0 hE hL hR hX sd 0 uE uL uX) := hD
            refine lv_aload_n hx hb dX1_power_49 rfl (lv_at hl 0 rfl) ?_
            refine va_get (D := D) (ci := 0) (v := .int 0) (C := RX1) (T := TX1) (N := 6) hx hb hts in_X1 hown hK hP 0 rfl rfl 5 (by decide) (hts _ q72) (fun _ h9 => h9) rfl dX1_power_50 ?_
            refine lv_if_eq (tgt := 58) hx hb dX1_power_53 (by decide) (fun c_53 => ?_) (fun c_53 => absurd rfl c_53)
            refine lv_dload_n hx hb dX1_power_58 rfl (lv_at hl 1 rfl) ?_
            refine lv_dconst0 hx hb dX1_power_59 ?_
            refine lv_dcmp hx hb dX1_power_60 ?_
            refine lv_if_ne (tgt := 76) hx hb dX1_power_61 (by decide) (fun c_61 => ?_) (fun c_61 => ?_)
            · obtain ⟨g1, g2, g3⟩ := pos_facts hvx c_5 c_22 c_61
              have k1 : DF (p_v x y) := (SZ.mul (sz_db (n := 100000000) (num_facts c_12)) (log_sz g1 g2 g3) (by decide)).1
              refine lv_aload_n hx hb dX1_power_76 rfl (lv_at hl 0 rfl) ?_
              refine lv_dconst1 hx hb dX1_power_77 ?_
              refine lv_dload_n hx hb dX1_power_78 rfl (lv_at hl 2 rfl) ?_
              refine lv_aload_n hx hb dX1_power_79 rfl (lv_at hl 0 rfl) ?_
              refine va_get (D := D) (ci := 0) (v := .ref hL) (C := RX1) (T := TX1) (N := 6) hx hb hts in_X1 hown hK hP 0 rfl rfl 2 (by decide) (hts _ q69) (fun _ h9 => h9) rfl dX1_power_80 ?_
              refine lv_dload_n hx hb dX1_power_83 rfl (lv_at hl 1 rfl) ?_
              refine cl_d (va_runV (As := [.double x]) (rest := [.double y, .double FP.dconst1, .ref h0]) ⟨hx, hb, hml, hown, hts⟩ (c_valueOf_L l D dA h0 hE hL hR hX sd 0 uE uL uX x g1 g2 g3 H.size) (cwV 1 hts (lw_V q206 q179 q416 q15 q180) rfl rfl rfl (by decide +kernel) ⟨Nat.le_of_ble_eq_true rfl, Nat.le_of_ble_eq_true rfl⟩) (pr_V hK hN hP hD (va_recv hK hP (ci := 2) (q0 := 2) rfl rfl)) rfl rfl hl.1 rfl (lv_room (Nat.le_of_ble_eq_true rfl)) dX1_power_84 ⟨Nat.le_of_ble_eq_true rfl, Nat.le_of_ble_eq_true rfl⟩) hS hD hA (fun r_84 u_84 H locs hpo_84 hP hD hS => ?_)
              refine W.widen (k := 14) (n := 196) (Nat.le_of_ble_eq_true rfl) (Nat.le_of_ble_eq_true rfl) ?_
              obtain ⟨e9, hu9⟩ := hpo_84
              subst e9
              have hP : va_P D vwCl (cw dA h0 hE hL hR hX sd 0 uE u_84 uX) H := hP
              have hD : va_D A (cw dA h0 hE hL hR hX sd 0 uE u_84 uX) := hD
              refine lv_dmul hx hb dX1_power_87 k1.n64 ?_
              refine cl_d (va_runV (As := [.double FP.dconst1, .double (p_v x y)]) (rest := []) ⟨hx, hb, hml, hown, hts⟩ (c_raised l D dA h0 hE hL hR hX sd 0 uE u_84 uX FP.dconst1 (p_v x y) df_1 k1.nn H.size) (cwV 2 hts (lw_V q207 q209 qs3 q12 q210) rfl rfl rfl (by decide +kernel) ⟨Nat.le_of_ble_eq_true rfl, Nat.le_of_ble_eq_true rfl⟩) (pr_V hK hN hP hD (va_recv hK hP (ci := 0) (q0 := 0) rfl rfl)) rfl rfl hl.1 rfl (lv_room (Nat.le_of_ble_eq_true rfl)) dX1_power_88 ⟨Nat.le_of_ble_eq_true rfl, Nat.le_of_ble_eq_true rfl⟩) hS hD hA (fun r_88 u_88 H locs hpo_88 hP hD hS => ?_)
              refine W.widen (k := 28) (n := 406) (Nat.le_of_ble_eq_true rfl) (Nat.le_of_ble_eq_true rfl) ?_
              obtain ⟨e9, i1, i2, i3, i4⟩ := hpo_88
              subst e9
              have hP : va_P D vwCl (cw dA h0 hE hL hR hX sd u_88.1 u_88.2.1 u_88.2.2.1 u_88.2.2.2) H := hP
              have hD : va_D A (cw dA h0 hE hL hR hX sd u_88.1 u_88.2.1 u_88.2.2.1 u_88.2.2.2) := hD
              exact hend _ _ _ _ 91 _ (r_a FP.dconst1 (p_v x y)) u_88 dX1_power_91 (Nat.le_of_ble_eq_true rfl) (Nat.le_of_ble_eq_true rfl) hS (⟨by unfold p_a; rw [if_pos hc, if_neg c_61], by unfold p_C; rw [if_pos hc, if_neg c_61]; exact i1, by unfold p_E; rw [if_pos hc, if_neg c_61]; exact i2, by unfold p_L; rw [if_pos hc, if_neg c_61, i3]; exact hu9, i4⟩) hP hD
            · refine lv_dload_n hx hb dX1_power_64 rfl (lv_at hl 2 rfl) ?_
              refine lv_dconst0 hx hb dX1_power_65 ?_
              refine lv_dcmp hx hb dX1_power_66 ?_
              refine lv_if_ne (tgt := 74) hx hb dX1_power_67 (by decide) (fun c_67 => ?_) (fun c_67 => ?_)
              · refine lv_dconst0 hx hb dX1_power_74 ?_
                exact hend _ _ _ _ 75 _ FP.dconst0 (0, uE, uL, uX) dX1_power_75 (Nat.le_of_ble_eq_true rfl) (Nat.le_of_ble_eq_true rfl) hS (⟨by unfold p_a; rw [if_pos hc, if_pos c_61, if_neg c_67], by unfold p_C; rw [if_pos hc, if_pos c_61], by unfold p_E; rw [if_pos hc, if_pos c_61], by unfold p_L; rw [if_pos hc, if_pos c_61], rfl⟩) hP hD
              · refine lv_dconst1 hx hb dX1_power_70 ?_
                refine lv_goto (tgt := 75) hx hb dX1_power_71 (by decide) ?_
                exact hend _ _ _ _ 75 _ FP.dconst1 (0, uE, uL, uX) dX1_power_75 (Nat.le_of_ble_eq_true rfl) (Nat.le_of_ble_eq_true rfl) hS (⟨by unfold p_a; rw [if_pos hc, if_pos c_61, if_pos c_67], by unfold p_C; rw [if_pos hc, if_pos c_61], by unfold p_E; rw [if_pos hc, if_pos c_61], by unfold p_L; rw [if_pos hc, if_pos c_61], rfl⟩) hP hD
          · refine lv_iconst (v := 2) hx hb dX1_power_41 (by decide) ?_
            refine lv_goto (tgt := 46) hx hb dX1_power_42 (by decide) ?_
            have hc : p_c x y = 2 := by unfold p_c; rw [if_neg c_5, if_neg c_12, if_pos c_22, if_pos c_32, if_neg c_38]
            refine va_put (D := D) (ci := 0) (v := .int 2) (ty := .int) (C := RX1) (T := TX1) (N := 6) hx hb hts in_X1 tyX1 tyX1_ok nmX1 hown hK hP hD hS 0 rfl rfl 5 (by decide) (hts _ q72) (fun _ h9 => h9) rfl (by decide +kernel) rfl rfl (Nat.le_of_ble_eq_true rfl) dX1_power_46 (fun H locs hP hD hS => ?_)
            have hP : va_P D vwCl (cw dA h0 hE hL hR hX sd 2 uE uL uX) H := hP
            have hD : va_D A (cw dA h0 hE hL hR hX sd 2 uE uL uX) := hD
            refine lv_aload_n hx hb dX1_power_49 rfl (lv_at hl 0 rfl) ?_
            refine va_get (D := D) (ci := 0) (v := .int 2) (C := RX1) (T := TX1) (N := 6) hx hb hts in_X1 hown hK hP 0 rfl rfl 5 (by decide) (hts _ q72) (fun _ h9 => h9) rfl dX1_power_50 ?_
            refine lv_if_eq (tgt := 58) hx hb dX1_power_53 (by decide) (fun c_53 => absurd c_53 (by decide)) (fun c_53 => ?_)
            refine lv_dconst0 hx hb dX1_power_56 ?_
            exact hend _ _ _ _ 57 _ FP.dconst0 (2, uE, uL, uX) dX1_power_57 (Nat.le_of_ble_eq_true rfl) (Nat.le_of_ble_eq_true rfl) hS (⟨by unfold p_a; rw [if_neg (by rw [hc]; decide)], by unfold p_C; rw [if_neg (by rw [hc]; decide), hc], by unfold p_E; rw [if_neg (by rw [hc]; decide)], by unfold p_L; rw [if_neg (by rw [hc]; decide)], rfl⟩) hP hD
      · refine lv_iconst (v := 3) hx hb dX1_power_25 (by decide) ?_
        refine lv_goto (tgt := 46) hx hb dX1_power_26 (by decide) ?_
        have hc : p_c x y = 3 := by unfold p_c; rw [if_neg c_5, if_neg c_12, if_neg c_22]
        refine va_put (D := D) (ci := 0) (v := .int 3) (ty := .int) (C := RX1) (T := TX1) (N := 6) hx hb hts in_X1 tyX1 tyX1_ok nmX1 hown hK hP hD hS 0 rfl rfl 5 (by decide) (hts _ q72) (fun _ h9 => h9) rfl (by decide +kernel) rfl rfl (Nat.le_of_ble_eq_true rfl) dX1_power_46 (fun H locs hP hD hS => ?_)
        have hP : va_P D vwCl (cw dA h0 hE hL hR hX sd 3 uE uL uX) H := hP
        have hD : va_D A (cw dA h0 hE hL hR hX sd 3 uE uL uX) := hD
        refine lv_aload_n hx hb dX1_power_49 rfl (lv_at hl 0 rfl) ?_
        refine va_get (D := D) (ci := 0) (v := .int 3) (C := RX1) (T := TX1) (N := 6) hx hb hts in_X1 hown hK hP 0 rfl rfl 5 (by decide) (hts _ q72) (fun _ h9 => h9) rfl dX1_power_50 ?_
        refine lv_if_eq (tgt := 58) hx hb dX1_power_53 (by decide) (fun c_53 => absurd c_53 (by decide)) (fun c_53 => ?_)
        refine lv_dconst0 hx hb dX1_power_56 ?_
        exact hend _ _ _ _ 57 _ FP.dconst0 (3, uE, uL, uX) dX1_power_57 (Nat.le_of_ble_eq_true rfl) (Nat.le_of_ble_eq_true rfl) hS (⟨by unfold p_a; rw [if_neg (by rw [hc]; decide)], by unfold p_C; rw [if_neg (by rw [hc]; decide), hc], by unfold p_E; rw [if_neg (by rw [hc]; decide)], by unfold p_L; rw [if_neg (by rw [hc]; decide)], rfl⟩) hP hD
    · refine lv_iconst (v := 5) hx hb dX1_power_15 (by decide) ?_
      refine lv_goto (tgt := 46) hx hb dX1_power_16 (by decide) ?_
      have hc : p_c x y = 5 := by unfold p_c; first | rw [if_pos c_5] | rw [if_neg c_5, if_pos c_12]
      refine va_put (D := D) (ci := 0) (v := .int 5) (ty := .int) (C := RX1) (T := TX1) (N := 6) hx hb hts in_X1 tyX1 tyX1_ok nmX1 hown hK hP hD hS 0 rfl rfl 5 (by decide) (hts _ q72) (fun _ h9 => h9) rfl (by decide +kernel) rfl rfl (Nat.le_of_ble_eq_true rfl) dX1_power_46 (fun H locs hP hD hS => ?_)
      have hP : va_P D vwCl (cw dA h0 hE hL hR hX sd 5 uE uL uX) H := hP
      have hD : va_D A (cw dA h0 hE hL hR hX sd 5 uE uL uX) := hD
      refine lv_aload_n hx hb dX1_power_49 rfl (lv_at hl 0 rfl) ?_
      refine va_get (D := D) (ci := 0) (v := .int 5) (C := RX1) (T := TX1) (N := 6) hx hb hts in_X1 hown hK hP 0 rfl rfl 5 (by decide) (hts _ q72) (fun _ h9 => h9) rfl dX1_power_50 ?_
      refine lv_if_eq (tgt := 58) hx hb dX1_power_53 (by decide) (fun c_53 => absurd c_53 (by decide)) (fun c_53 => ?_)
      refine lv_dconst0 hx hb dX1_power_56 ?_
      exact hend _ _ _ _ 57 _ FP.dconst0 (5, uE, uL, uX) dX1_power_57 (Nat.le_of_ble_eq_true rfl) (Nat.le_of_ble_eq_true rfl) hS (⟨by unfold p_a; rw [if_neg (by rw [hc]; decide)], by unfold p_C; rw [if_neg (by rw [hc]; decide), hc], by unfold p_E; rw [if_neg (by rw [hc]; decide)], by unfold p_L; rw [if_neg (by rw [hc]; decide)], rfl⟩) hP hD
abbrev rm_c_law : Room := { frames := 4, cells := 14, slots := 210, locals := 97 }
set_option maxHeartbeats 4000000 in
set_option maxRecDepth 100000 in
theorem c_law (l : Launch) (D : va_G) (dA : ClassId) (h0 hE hL hR hX : Nat) (sd : Int64) (cd : Int32) (uE uL uX : Option Nat) (rt en ke : UInt64) : CMd l D dA yX1_law cX1_law 7 rm_c_law [.ref h0, .double rt, .double en, .double ke] (cw dA h0 hE hL hR hX sd cd uE uL uX) (fun u : Int32 × Option Nat × Option Nat × Option Nat => cw dA h0 hE hL hR hX sd u.1 u.2.1 u.2.2.1 u.2.2.2) (fun r u => r = w_a rt en ke ∧ u.1 = w_C rt en ke ∧ fl u.2.1 = w_E rt en ke (fl uE) ∧ fl u.2.2.1 = fl uL ∧ fl u.2.2.2 = fl uX) := by
  refine st_d (by decide) (Nat.le_of_ble_eq_true rfl) ?_
  intro p e s m below meth c A Q H locs ls hCF hK hN hA hP hD hS hl hend
  obtain ⟨hx, hb, hml, hown, hts⟩ := hCF
  have hown : s.vm.findClass RX1 = some m.cls := hown
  have hl : lv_has ls 7 [(0, .ref h0), (1, .double rt), (3, .double en), (5, .double ke)] := hl
  refine lv_aload_n hx hb dX1_law_0 rfl (lv_at hl 0 rfl) ?_
  refine lv_dload_n hx hb dX1_law_1 rfl (lv_at hl 1 rfl) ?_
  refine cl0_i (va_runS (As := [.double rt]) (rest := [.ref h0]) ⟨hx, hb, hml, hown, hts⟩ (c_isNumber l D dA rt H.size) (va_cwS 1 hts (lw_S q205 q101 q12 q102) rfl rfl rfl (by decide +kernel) ⟨Nat.le_of_ble_eq_true rfl, Nat.le_of_ble_eq_true rfl⟩) (pr_S hK hN p_nil (d_nil (A := A))) rfl rfl hl.1 rfl (lv_room (Nat.le_of_ble_eq_true rfl)) dX1_law_2 ⟨Nat.le_of_ble_eq_true rfl, Nat.le_of_ble_eq_true rfl⟩) hS hP hA (fun r_2 u_2 H locs hpo_2 hP hS => ?_)
  refine W.widen (k := 0) (n := 0) (Nat.le_of_ble_eq_true rfl) (Nat.le_of_ble_eq_true rfl) ?_
  have e1 : r_2 = s_num rt := hpo_2
  subst e1
  have hP : va_P D vwCl (cw dA h0 hE hL hR hX sd cd uE uL uX) H := hP
  refine lv_if_eq (tgt := 23) hx hb dX1_law_5 (by decide) (fun c_5 => ?_) (fun c_5 => ?_)
  · refine lv_iconst (v := 5) hx hb dX1_law_23 (by decide) ?_
    refine lv_goto (tgt := 39) hx hb dX1_law_24 (by decide) ?_
    have hc : w_c rt en ke = 5 := by unfold w_c; first | rw [if_pos c_5] | rw [if_neg c_5, if_pos c_12] | rw [if_neg c_5, if_neg c_12, if_pos c_20]
    refine va_put (D := D) (ci := 0) (v := .int 5) (ty := .int) (C := RX1) (T := TX1) (N := 6) hx hb hts in_X1 tyX1 tyX1_ok nmX1 hown hK hP hD hS 0 rfl rfl 5 (by decide) (hts _ q72) (fun _ h9 => h9) rfl (by decide +kernel) rfl rfl (Nat.le_of_ble_eq_true rfl) dX1_law_39 (fun H locs hP hD hS => ?_)
    have hP : va_P D vwCl (cw dA h0 hE hL hR hX sd 5 uE uL uX) H := hP
    have hD : va_D A (cw dA h0 hE hL hR hX sd 5 uE uL uX) := hD
    refine lv_aload_n hx hb dX1_law_42 rfl (lv_at hl 0 rfl) ?_
    refine va_get (D := D) (ci := 0) (v := .int 5) (C := RX1) (T := TX1) (N := 6) hx hb hts in_X1 hown hK hP 0 rfl rfl 5 (by decide) (hts _ q72) (fun _ h9 => h9) rfl dX1_law_43 ?_
    refine lv_if_ne (tgt := 66) hx hb dX1_law_46 (by decide) (fun c_46 => ?_) (fun c_46 => absurd c_46 (by decide))
    refine lv_dconst0 hx hb dX1_law_66 ?_
    exact hend _ _ _ _ 67 _ FP.dconst0 (5, uE, uL, uX) dX1_law_67 (Nat.le_of_ble_eq_true rfl) (Nat.le_of_ble_eq_true rfl) hS (⟨by unfold w_a; rw [if_neg (by rw [hc]; decide)], by unfold w_C; rw [if_neg (by rw [hc]; decide), hc], by unfold w_E; rw [if_neg (by rw [hc]; decide)], rfl, rfl⟩) hP hD
  · refine lv_dload_n hx hb dX1_law_8 rfl (lv_at hl 2 rfl) ?_
    refine cl0_i (va_runS (As := [.double en]) (rest := [.ref h0]) ⟨hx, hb, hml, hown, hts⟩ (c_isNumber l D dA en H.size) (va_cwS 1 hts (lw_S q205 q101 q12 q102) rfl rfl rfl (by decide +kernel) ⟨Nat.le_of_ble_eq_true rfl, Nat.le_of_ble_eq_true rfl⟩) (pr_S hK hN p_nil (d_nil (A := A))) rfl rfl hl.1 rfl (lv_room (Nat.le_of_ble_eq_true rfl)) dX1_law_9 ⟨Nat.le_of_ble_eq_true rfl, Nat.le_of_ble_eq_true rfl⟩) hS hP hA (fun r_9 u_9 H locs hpo_9 hP hS => ?_)
    refine W.widen (k := 0) (n := 0) (Nat.le_of_ble_eq_true rfl) (Nat.le_of_ble_eq_true rfl) ?_
    have e1 : r_9 = s_num en := hpo_9
    subst e1
    have hP : va_P D vwCl (cw dA h0 hE hL hR hX sd cd uE uL uX) H := hP
    refine lv_if_eq (tgt := 23) hx hb dX1_law_12 (by decide) (fun c_12 => ?_) (fun c_12 => ?_)
    · refine lv_iconst (v := 5) hx hb dX1_law_23 (by decide) ?_
      refine lv_goto (tgt := 39) hx hb dX1_law_24 (by decide) ?_
      have hc : w_c rt en ke = 5 := by unfold w_c; first | rw [if_pos c_5] | rw [if_neg c_5, if_pos c_12] | rw [if_neg c_5, if_neg c_12, if_pos c_20]
      refine va_put (D := D) (ci := 0) (v := .int 5) (ty := .int) (C := RX1) (T := TX1) (N := 6) hx hb hts in_X1 tyX1 tyX1_ok nmX1 hown hK hP hD hS 0 rfl rfl 5 (by decide) (hts _ q72) (fun _ h9 => h9) rfl (by decide +kernel) rfl rfl (Nat.le_of_ble_eq_true rfl) dX1_law_39 (fun H locs hP hD hS => ?_)
      have hP : va_P D vwCl (cw dA h0 hE hL hR hX sd 5 uE uL uX) H := hP
      have hD : va_D A (cw dA h0 hE hL hR hX sd 5 uE uL uX) := hD
      refine lv_aload_n hx hb dX1_law_42 rfl (lv_at hl 0 rfl) ?_
      refine va_get (D := D) (ci := 0) (v := .int 5) (C := RX1) (T := TX1) (N := 6) hx hb hts in_X1 hown hK hP 0 rfl rfl 5 (by decide) (hts _ q72) (fun _ h9 => h9) rfl dX1_law_43 ?_
      refine lv_if_ne (tgt := 66) hx hb dX1_law_46 (by decide) (fun c_46 => ?_) (fun c_46 => absurd c_46 (by decide))
      refine lv_dconst0 hx hb dX1_law_66 ?_
      exact hend _ _ _ _ 67 _ FP.dconst0 (5, uE, uL, uX) dX1_law_67 (Nat.le_of_ble_eq_true rfl) (Nat.le_of_ble_eq_true rfl) hS (⟨by unfold w_a; rw [if_neg (by rw [hc]; decide)], by unfold w_C; rw [if_neg (by rw [hc]; decide), hc], by unfold w_E; rw [if_neg (by rw [hc]; decide)], rfl, rfl⟩) hP hD
    · refine lv_dload hx hb dX1_law_15 (lv_at hl 3 rfl) ?_
      refine cl0_i (va_runS (As := [.double ke]) (rest := [.ref h0]) ⟨hx, hb, hml, hown, hts⟩ (c_isNumber l D dA ke H.size) (va_cwS 1 hts (lw_S q205 q101 q12 q102) rfl rfl rfl (by decide +kernel) ⟨Nat.le_of_ble_eq_true rfl, Nat.le_of_ble_eq_true rfl⟩) (pr_S hK hN p_nil (d_nil (A := A))) rfl rfl hl.1 rfl (lv_room (Nat.le_of_ble_eq_true rfl)) dX1_law_17 ⟨Nat.le_of_ble_eq_true rfl, Nat.le_of_ble_eq_true rfl⟩) hS hP hA (fun r_17 u_17 H locs hpo_17 hP hS => ?_)
      refine W.widen (k := 0) (n := 0) (Nat.le_of_ble_eq_true rfl) (Nat.le_of_ble_eq_true rfl) ?_
      have e1 : r_17 = s_num ke := hpo_17
      subst e1
      have hP : va_P D vwCl (cw dA h0 hE hL hR hX sd cd uE uL uX) H := hP
      refine lv_if_ne (tgt := 27) hx hb dX1_law_20 (by decide) (fun c_20 => ?_) (fun c_20 => ?_)
      · refine lv_dload hx hb dX1_law_27 (lv_at hl 3 rfl) ?_
        refine lv_dconst0 hx hb dX1_law_29 ?_
        refine lv_dcmp hx hb dX1_law_30 ?_
        refine lv_if_gt (tgt := 38) hx hb dX1_law_31 (by decide) (fun c_31 => ?_) (fun c_31 => ?_)
        · refine lv_iconst (v := 0) hx hb dX1_law_38 (by decide) ?_
          have hc : w_c rt en ke = 0 := by unfold w_c; rw [if_neg c_5, if_neg c_12, if_neg c_20, if_pos c_31]
          refine va_put (D := D) (ci := 0) (v := .int 0) (ty := .int) (C := RX1) (T := TX1) (N := 6) hx hb hts in_X1 tyX1 tyX1_ok nmX1 hown hK hP hD hS 0 rfl rfl 5 (by decide) (hts _ q72) (fun _ h9 => h9) rfl (by decide +kernel) rfl rfl (Nat.le_of_ble_eq_true rfl) dX1_law_39 (fun H locs hP hD hS => ?_)
          have hP : va_P D vwCl (cw dA h0 hE hL hR hX sd 0 uE uL uX) H := hP
          have hD : va_D A (cw dA h0 hE hL hR hX sd 0 uE uL uX) := hD
          refine lv_aload_n hx hb dX1_law_42 rfl (lv_at hl 0 rfl) ?_
          refine va_get (D := D) (ci := 0) (v := .int 0) (C := RX1) (T := TX1) (N := 6) hx hb hts in_X1 hown hK hP 0 rfl rfl 5 (by decide) (hts _ q72) (fun _ h9 => h9) rfl dX1_law_43 ?_
          refine lv_if_ne (tgt := 66) hx hb dX1_law_46 (by decide) (fun c_46 => absurd rfl c_46) (fun c_46 => ?_)
          have k0 : 0 < zv ke := by have h9 := c_31; rw [cvg_gt_zv (num_facts c_20).1.nn df_0.nn, zv_0] at h9; exact h9
          obtain ⟨g1, g2⟩ := law_facts (num_facts c_12) (num_facts c_20) k0
          refine lv_aload_n hx hb dX1_law_49 rfl (lv_at hl 0 rfl) ?_
          refine lv_dload_n hx hb dX1_law_50 rfl (lv_at hl 1 rfl) ?_
          refine lv_dload_n hx hb dX1_law_51 rfl (lv_at hl 2 rfl) ?_
          refine lv_dneg hx hb dX1_law_52 ?_
          refine lv_ldc2d hx hb hown (hts _ q225) dX1_law_53 ?_
          refine lv_dload hx hb dX1_law_56 (lv_at hl 3 rfl) ?_
          refine lv_dmul hx hb dX1_law_58 g1.n64 ?_
          refine lv_ddiv hx hb dX1_law_59 g2.n64 ?_
          refine cl_d (va_runV (As := [.double rt, .double (w_v en ke)]) (rest := []) ⟨hx, hb, hml, hown, hts⟩ (c_raised l D dA h0 hE hL hR hX sd 0 uE uL uX rt (w_v en ke) (num_facts c_5).1 g2 H.size) (cwV 2 hts (lw_V q207 q209 qs3 q12 q210) rfl rfl rfl (by decide +kernel) ⟨Nat.le_of_ble_eq_true rfl, Nat.le_of_ble_eq_true rfl⟩) (pr_V hK hN hP hD (va_recv hK hP (ci := 0) (q0 := 0) rfl rfl)) rfl rfl hl.1 rfl (lv_room (Nat.le_of_ble_eq_true rfl)) dX1_law_60 ⟨Nat.le_of_ble_eq_true rfl, Nat.le_of_ble_eq_true rfl⟩) hS hD hA (fun r_60 u_60 H locs hpo_60 hP hD hS => ?_)
          refine W.widen (k := 14) (n := 210) (Nat.le_of_ble_eq_true rfl) (Nat.le_of_ble_eq_true rfl) ?_
          obtain ⟨e9, i1, i2, i3, i4⟩ := hpo_60
          subst e9
          have hP : va_P D vwCl (cw dA h0 hE hL hR hX sd u_60.1 u_60.2.1 u_60.2.2.1 u_60.2.2.2) H := hP
          have hD : va_D A (cw dA h0 hE hL hR hX sd u_60.1 u_60.2.1 u_60.2.2.1 u_60.2.2.2) := hD
          refine lv_goto (tgt := 67) hx hb dX1_law_63 (by decide) ?_
          exact hend _ _ _ _ 67 _ (r_a rt (w_v en ke)) u_60 dX1_law_67 (Nat.le_of_ble_eq_true rfl) (Nat.le_of_ble_eq_true rfl) hS (⟨by unfold w_a; rw [if_pos hc], by unfold w_C; rw [if_pos hc]; exact i1, by unfold w_E; rw [if_pos hc]; exact i2, i3, i4⟩) hP hD
        · refine lv_iconst (v := 4) hx hb dX1_law_34 (by decide) ?_
          refine lv_goto (tgt := 39) hx hb dX1_law_35 (by decide) ?_
          have hc : w_c rt en ke = 4 := by unfold w_c; rw [if_neg c_5, if_neg c_12, if_neg c_20, if_neg c_31]
          refine va_put (D := D) (ci := 0) (v := .int 4) (ty := .int) (C := RX1) (T := TX1) (N := 6) hx hb hts in_X1 tyX1 tyX1_ok nmX1 hown hK hP hD hS 0 rfl rfl 5 (by decide) (hts _ q72) (fun _ h9 => h9) rfl (by decide +kernel) rfl rfl (Nat.le_of_ble_eq_true rfl) dX1_law_39 (fun H locs hP hD hS => ?_)
          have hP : va_P D vwCl (cw dA h0 hE hL hR hX sd 4 uE uL uX) H := hP
          have hD : va_D A (cw dA h0 hE hL hR hX sd 4 uE uL uX) := hD
          refine lv_aload_n hx hb dX1_law_42 rfl (lv_at hl 0 rfl) ?_
          refine va_get (D := D) (ci := 0) (v := .int 4) (C := RX1) (T := TX1) (N := 6) hx hb hts in_X1 hown hK hP 0 rfl rfl 5 (by decide) (hts _ q72) (fun _ h9 => h9) rfl dX1_law_43 ?_
          refine lv_if_ne (tgt := 66) hx hb dX1_law_46 (by decide) (fun c_46 => ?_) (fun c_46 => absurd c_46 (by decide))
          refine lv_dconst0 hx hb dX1_law_66 ?_
          exact hend _ _ _ _ 67 _ FP.dconst0 (4, uE, uL, uX) dX1_law_67 (Nat.le_of_ble_eq_true rfl) (Nat.le_of_ble_eq_true rfl) hS (⟨by unfold w_a; rw [if_neg (by rw [hc]; decide)], by unfold w_C; rw [if_neg (by rw [hc]; decide), hc], by unfold w_E; rw [if_neg (by rw [hc]; decide)], rfl, rfl⟩) hP hD
      · refine lv_iconst (v := 5) hx hb dX1_law_23 (by decide) ?_
        refine lv_goto (tgt := 39) hx hb dX1_law_24 (by decide) ?_
        have hc : w_c rt en ke = 5 := by unfold w_c; first | rw [if_pos c_5] | rw [if_neg c_5, if_pos c_12] | rw [if_neg c_5, if_neg c_12, if_pos c_20]
        refine va_put (D := D) (ci := 0) (v := .int 5) (ty := .int) (C := RX1) (T := TX1) (N := 6) hx hb hts in_X1 tyX1 tyX1_ok nmX1 hown hK hP hD hS 0 rfl rfl 5 (by decide) (hts _ q72) (fun _ h9 => h9) rfl (by decide +kernel) rfl rfl (Nat.le_of_ble_eq_true rfl) dX1_law_39 (fun H locs hP hD hS => ?_)
        have hP : va_P D vwCl (cw dA h0 hE hL hR hX sd 5 uE uL uX) H := hP
        have hD : va_D A (cw dA h0 hE hL hR hX sd 5 uE uL uX) := hD
        refine lv_aload_n hx hb dX1_law_42 rfl (lv_at hl 0 rfl) ?_
        refine va_get (D := D) (ci := 0) (v := .int 5) (C := RX1) (T := TX1) (N := 6) hx hb hts in_X1 hown hK hP 0 rfl rfl 5 (by decide) (hts _ q72) (fun _ h9 => h9) rfl dX1_law_43 ?_
        refine lv_if_ne (tgt := 66) hx hb dX1_law_46 (by decide) (fun c_46 => ?_) (fun c_46 => absurd c_46 (by decide))
        refine lv_dconst0 hx hb dX1_law_66 ?_
        exact hend _ _ _ _ 67 _ FP.dconst0 (5, uE, uL, uX) dX1_law_67 (Nat.le_of_ble_eq_true rfl) (Nat.le_of_ble_eq_true rfl) hS (⟨by unfold w_a; rw [if_neg (by rw [hc]; decide)], by unfold w_C; rw [if_neg (by rw [hc]; decide), hc], by unfold w_E; rw [if_neg (by rw [hc]; decide)], rfl, rfl⟩) hP hD
end
section
abbrev rm_c_normal : Room := { frames := 0, cells := 0, slots := 0, locals := 0 }
set_option maxHeartbeats 4000000 in
set_option maxRecDepth 100000 in
theorem c_normal (l : Launch) (D : va_G) (dA : ClassId) (h0 hE hL hR hX : Nat) (sd : Int64) (cd : Int32) (uE uL uX : Option Nat) (b : Int32) (t : Int64) (u : Int32) : CMd l D dA yX1_normal cX1_normal 10 rm_c_normal [.ref h0, .int b, .long t, .int u] (cw dA h0 hE hL hR hX sd cd uE uL uX) (fun v : Int32 × Option Nat × Option Nat × Option Nat => cw dA h0 hE hL hR hX sd v.1 v.2.1 v.2.2.1 v.2.2.2) (fun r v => r = n_a sd b t u ∧ v.1 = n_c b t u ∧ fl v.2.1 = fl uE ∧ fl v.2.2.1 = fl uL ∧ fl v.2.2.2 = fl uX) := by
  refine st_d (by decide) (Nat.le_of_ble_eq_true rfl) ?_
  intro p e s m below meth c A Q H locs ls hCF hK hN hA hP hD hS hl hend
  obtain ⟨hx, hb, hml, hown, hts⟩ := hCF
  have hown : s.vm.findClass RX1 = some m.cls := hown
  have hl : lv_has ls 10 [(0, .ref h0), (1, .int b), (2, .long t), (4, .int u)] := hl
  refine lv_aload_n hx hb dX1_normal_0 rfl (lv_at hl 0 rfl) ?_
  refine lv_iload_n hx hb dX1_normal_1 rfl (lv_at hl 1 rfl) ?_
  refine lv_if_lt (tgt := 16) hx hb dX1_normal_2 (by decide) (fun c_2 => ?_) (fun c_2 => ?_)
  · refine lv_iconst (v := 3) hx hb dX1_normal_16 (by decide) ?_
    refine lv_goto (tgt := 21) hx hb dX1_normal_17 (by decide) ?_
    have hc : n_c b t u = 3 := by unfold n_c; first | rw [if_pos c_2] | rw [if_neg c_2, if_pos c_8] | rw [if_neg c_2, if_neg c_8, if_neg c_13]
    refine va_put (D := D) (ci := 0) (v := .int 3) (ty := .int) (C := RX1) (T := TX1) (N := 6) hx hb hts in_X1 tyX1 tyX1_ok nmX1 hown hK hP hD hS 0 rfl rfl 5 (by decide) (hts _ q72) (fun _ h9 => h9) rfl (by decide +kernel) rfl rfl (Nat.le_of_ble_eq_true rfl) dX1_normal_21 (fun H locs hP hD hS => ?_)
    have hP : va_P D vwCl (cw dA h0 hE hL hR hX sd 3 uE uL uX) H := hP
    have hD : va_D A (cw dA h0 hE hL hR hX sd 3 uE uL uX) := hD
    refine lv_aload_n hx hb dX1_normal_24 rfl (lv_at hl 0 rfl) ?_
    refine va_get (D := D) (ci := 0) (v := .int 3) (C := RX1) (T := TX1) (N := 6) hx hb hts in_X1 hown hK hP 0 rfl rfl 5 (by decide) (hts _ q72) (fun _ h9 => h9) rfl dX1_normal_25 ?_
    refine lv_if_eq (tgt := 33) hx hb dX1_normal_28 (by decide) (fun c_28 => absurd c_28 (by decide)) (fun c_28 => ?_)
    refine lv_dconst0 hx hb dX1_normal_31 ?_
    exact hend _ _ _ _ 32 _ FP.dconst0 (3, uE, uL, uX) dX1_normal_32 (Nat.le_of_ble_eq_true rfl) (Nat.le_of_ble_eq_true rfl) hS (⟨by unfold n_a; rw [if_neg (by rw [hc]; decide)], hc.symm, rfl, rfl, rfl⟩) hP hD
  · refine lv_lload_n hx hb dX1_normal_5 rfl (lv_at hl 2 rfl) ?_
    refine lv_lconst (v := 0) hx hb dX1_normal_6 (by decide) ?_
    refine W.lcmp hx hb dX1_normal_7 ?_
    refine lv_if_lt (tgt := 16) hx hb dX1_normal_8 (by decide) (fun c_8 => ?_) (fun c_8 => ?_)
    · refine lv_iconst (v := 3) hx hb dX1_normal_16 (by decide) ?_
      refine lv_goto (tgt := 21) hx hb dX1_normal_17 (by decide) ?_
      have hc : n_c b t u = 3 := by unfold n_c; first | rw [if_pos c_2] | rw [if_neg c_2, if_pos c_8] | rw [if_neg c_2, if_neg c_8, if_neg c_13]
      refine va_put (D := D) (ci := 0) (v := .int 3) (ty := .int) (C := RX1) (T := TX1) (N := 6) hx hb hts in_X1 tyX1 tyX1_ok nmX1 hown hK hP hD hS 0 rfl rfl 5 (by decide) (hts _ q72) (fun _ h9 => h9) rfl (by decide +kernel) rfl rfl (Nat.le_of_ble_eq_true rfl) dX1_normal_21 (fun H locs hP hD hS => ?_)
      have hP : va_P D vwCl (cw dA h0 hE hL hR hX sd 3 uE uL uX) H := hP
      have hD : va_D A (cw dA h0 hE hL hR hX sd 3 uE uL uX) := hD
      refine lv_aload_n hx hb dX1_normal_24 rfl (lv_at hl 0 rfl) ?_
      refine va_get (D := D) (ci := 0) (v := .int 3) (C := RX1) (T := TX1) (N := 6) hx hb hts in_X1 hown hK hP 0 rfl rfl 5 (by decide) (hts _ q72) (fun _ h9 => h9) rfl dX1_normal_25 ?_
      refine lv_if_eq (tgt := 33) hx hb dX1_normal_28 (by decide) (fun c_28 => absurd c_28 (by decide)) (fun c_28 => ?_)
      refine lv_dconst0 hx hb dX1_normal_31 ?_
      exact hend _ _ _ _ 32 _ FP.dconst0 (3, uE, uL, uX) dX1_normal_32 (Nat.le_of_ble_eq_true rfl) (Nat.le_of_ble_eq_true rfl) hS (⟨by unfold n_a; rw [if_neg (by rw [hc]; decide)], hc.symm, rfl, rfl, rfl⟩) hP hD
    · refine lv_iload hx hb dX1_normal_11 (lv_at hl 3 rfl) ?_
      refine lv_if_ge (tgt := 20) hx hb dX1_normal_13 (by decide) (fun c_13 => ?_) (fun c_13 => ?_)
      · refine lv_iconst (v := 0) hx hb dX1_normal_20 (by decide) ?_
        have hc : n_c b t u = 0 := by unfold n_c; rw [if_neg c_2, if_neg c_8, if_pos c_13]
        refine va_put (D := D) (ci := 0) (v := .int 0) (ty := .int) (C := RX1) (T := TX1) (N := 6) hx hb hts in_X1 tyX1 tyX1_ok nmX1 hown hK hP hD hS 0 rfl rfl 5 (by decide) (hts _ q72) (fun _ h9 => h9) rfl (by decide +kernel) rfl rfl (Nat.le_of_ble_eq_true rfl) dX1_normal_21 (fun H locs hP hD hS => ?_)
        have hP : va_P D vwCl (cw dA h0 hE hL hR hX sd 0 uE uL uX) H := hP
        have hD : va_D A (cw dA h0 hE hL hR hX sd 0 uE uL uX) := hD
        refine lv_aload_n hx hb dX1_normal_24 rfl (lv_at hl 0 rfl) ?_
        refine va_get (D := D) (ci := 0) (v := .int 0) (C := RX1) (T := TX1) (N := 6) hx hb hts in_X1 hown hK hP 0 rfl rfl 5 (by decide) (hts _ q72) (fun _ h9 => h9) rfl dX1_normal_25 ?_
        refine lv_if_eq (tgt := 33) hx hb dX1_normal_28 (by decide) (fun c_28 => ?_) (fun c_28 => absurd rfl c_28)
        refine lv_aload_n hx hb dX1_normal_33 rfl (lv_at hl 0 rfl) ?_
        refine va_get (D := D) (ci := 0) (v := .long sd) (C := RX1) (T := TX1) (N := 6) hx hb hts in_X1 hown hK hP 0 rfl rfl 0 (by decide) (hts _ q67) (fun _ h9 => h9) rfl dX1_normal_34 ?_
        refine lv_iload_n hx hb dX1_normal_37 rfl (lv_at hl 1 rfl) ?_
        refine lv_i2l hx hb dX1_normal_38 rfl ?_
        refine lv_ldc2 hx hb hown (hts _ q230) dX1_normal_39 ?_
        refine lv_lmul hx hb dX1_normal_42 ?_
        refine lv_ladd hx hb dX1_normal_43 ?_
        refine lv_lload_n hx hb dX1_normal_44 rfl (lv_at hl 2 rfl) ?_
        refine lv_ldc2 hx hb hown (hts _ q231) dX1_normal_45 ?_
        refine lv_lmul hx hb dX1_normal_48 ?_
        refine lv_ladd hx hb dX1_normal_49 ?_
        refine lv_iload hx hb dX1_normal_50 (lv_at hl 3 rfl) ?_
        refine lv_i2l hx hb dX1_normal_52 rfl ?_
        refine lv_ldc2 hx hb hown (hts _ q232) dX1_normal_53 ?_
        refine lv_lmul hx hb dX1_normal_56 ?_
        refine lv_ladd hx hb dX1_normal_57 ?_
        refine lv_lstore (lv' := [(5, .long (s_n0 sd b t u)), (0, .ref h0), (1, .int b), (2, .long t), (4, .int u)]) hx hb dX1_normal_58 hl (by decide) rfl (fun ls hl => ?_)
        refine lv_dconst0 hx hb dX1_normal_60 ?_
        refine lv_dstore (lv' := [(7, .double FP.dconst0), (5, .long (s_n0 sd b t u)), (0, .ref h0), (1, .int b), (2, .long t), (4, .int u)]) hx hb dX1_normal_61 hl (by decide) rfl (fun ls hl => ?_)
        refine lv_iconst (v := 0) hx hb dX1_normal_63 (by decide) ?_
        refine lv_istore (lv' := [(9, .int 0), (7, .double FP.dconst0), (5, .long (s_n0 sd b t u)), (0, .ref h0), (1, .int b), (2, .long t), (4, .int u)]) hx hb dX1_normal_64 hl (by decide) rfl (fun ls hl => ?_)
        have loop : ∀ (n : Nat) (i : Nat) (v : UInt64) (h : Int64) (H : Heap) (locs : List Loc) (ls : Array Slot), i + n = 15 → PW v (1137 + i) → s_nm n i h v = s_nm 15 0 (s_n0 sd b t u) FP.dconst0 → va_P D vwCl (cw dA h0 hE hL hR hX sd 0 uE uL uX) H → va_D A (cw dA h0 hE hL hR hX sd 0 uE uL uX) → va_S A s.heap H locs → lv_has ls 10 [(9, .int (nI i)), (7, .double v), (5, .long h), (0, .ref h0), (1, .int b), (2, .long t), (4, .int u)] → W p l e rm_c_normal s m ([.ref h0, .int b, .long t, .int u] : List Value).toArray below meth c H locs 0 0 Q (F0 m 66 ls []) := by
          intro n
          induction n with
          | zero =>
            intro i v h H locs ls hn hv hs hP hD hS hl
            have ei : i = 15 := by omega
            subst ei
            have ev : v = s_nm 15 0 (s_n0 sd b t u) FP.dconst0 := hs
            subst ev
            refine lv_iload hx hb dX1_normal_66 (lv_at hl 0 rfl) ?_
            refine lv_bipush (v := 15) hx hb dX1_normal_68 (by decide) ?_
            refine lv_icmp_ge (tgt := 117) hx hb dX1_normal_70 (by decide) (fun c_70 => ?_) (fun c_70 => absurd (by decide) c_70)
            refine lv_dload hx hb dX1_normal_117 (lv_at hl 1 rfl) ?_
            refine lv_ldc2d hx hb hown (hts _ q236) dX1_normal_119 ?_
            refine lv_dsub hx hb dX1_normal_122 ((show NN (s_normal sd b t u) from normal_nn sd b t u).n64) ?_
            exact hend _ _ _ _ 123 _ (s_normal sd b t u) (0, uE, uL, uX) dX1_normal_123 (Nat.le_of_ble_eq_true rfl) (Nat.le_of_ble_eq_true rfl) hS (⟨by unfold n_a; rw [if_pos hc], hc.symm, rfl, rfl, rfl⟩) hP hD
          | succ n ih =>
            intro i v h H locs ls hn hv hs hP hD hS hl
            refine lv_iload hx hb dX1_normal_66 (lv_at hl 0 rfl) ?_
            refine lv_bipush (v := 15) hx hb dX1_normal_68 (by decide) ?_
            refine lv_icmp_ge (tgt := 117) hx hb dX1_normal_70 (by decide) (fun c_70 => absurd c_70 (by exact nI_ge (a := i) (b := 15) (by omega) (by decide))) (fun c_70 => ?_)
            refine lv_lload hx hb dX1_normal_73 (lv_at hl 2 rfl) ?_
            refine lv_ldc2 hx hb hown (hts _ q233) dX1_normal_75 ?_
            refine lv_lmul hx hb dX1_normal_78 ?_
            refine lv_ldc2 hx hb hown (hts _ q234) dX1_normal_79 ?_
            refine lv_ladd hx hb dX1_normal_82 ?_
            refine lv_lstore (lv' := [(5, .long (s_nh h)), (9, .int (nI i)), (7, .double v), (0, .ref h0), (1, .int b), (2, .long t), (4, .int u)]) hx hb dX1_normal_83 hl (by decide) rfl (fun ls hl => ?_)
            refine lv_iload hx hb dX1_normal_85 (lv_at hl 1 rfl) ?_
            refine lv_iconst (v := 3) hx hb dX1_normal_87 (by decide) ?_
            refine lv_icmp_ge (tgt := 96) hx hb dX1_normal_88 (by decide) (fun c_88 => ?_) (fun c_88 => ?_)
            · refine lv_dload hx hb dX1_normal_96 (lv_at hl 2 rfl) ?_
              refine lv_lload hx hb dX1_normal_98 (lv_at hl 0 rfl) ?_
              refine lv_bipush (v := 11) hx hb dX1_normal_100 (by decide) ?_
              refine lv_lushr hx hb dX1_normal_102 rfl ?_
              refine lv_l2d hx hb dX1_normal_103 ?_
              refine lv_ldc2d hx hb hown (hts _ q235) dX1_normal_104 ?_
              refine lv_dmul hx hb dX1_normal_107 ((norm_mul (s_nh h)).1.n64) ?_
              refine lv_dadd hx hb dX1_normal_108 ((norm_step (s_nh h) (by omega) hv).1.n64) ?_
              refine lv_dstore (lv' := [(7, .double (FP.dadd v (FP.dmul (FP.l2d (s_nu (s_nh h))) (4368491638549381120 : UInt64)))), (5, .long (s_nh h)), (9, .int (nI i)), (0, .ref h0), (1, .int b), (2, .long t), (4, .int u)]) hx hb dX1_normal_109 hl (by decide) rfl (fun ls hl => ?_)
              refine lv_iinc (v := nI (i + 1)) (lv' := [(9, .int (nI (i + 1))), (7, .double (FP.dadd v (FP.dmul (FP.l2d (s_nu (s_nh h))) (4368491638549381120 : UInt64)))), (5, .long (s_nh h)), (0, .ref h0), (1, .int b), (2, .long t), (4, .int u)]) hx hb dX1_normal_111 hl (k := 2) rfl (nI_1 i) (by decide) rfl (fun ls hl => ?_)
              refine lv_goto (tgt := 66) hx hb dX1_normal_114 (by decide) ?_
              have i3 : ¬ i < 3 := fun q => absurd c_88 (show ¬ (3 : Int32) ≤ nI i from nI_ge (a := i) (b := 3) q (by decide))
              have e9 : s_ns i (s_nh h) v = (FP.dadd v (FP.dmul (FP.l2d (s_nu (s_nh h))) (4368491638549381120 : UInt64))) := by unfold s_ns; rw [if_neg i3]
              have hs : s_nm n (i + 1) (s_nh h) (s_ns i (s_nh h) v) = s_nm 15 0 (s_n0 sd b t u) FP.dconst0 := hs
              have hv9 := norm_s (s_nh h) (k := i) (by omega) hv
              rw [e9] at hs hv9
              exact ih (i + 1) _ _ H locs ls (by omega) hv9 hs hP hD hS (lv_sub hl [0, 1, 2, 3, 4, 5, 6] rfl)
            · refine lv_dload hx hb dX1_normal_91 (lv_at hl 2 rfl) ?_
              refine lv_goto (tgt := 109) hx hb dX1_normal_93 (by decide) ?_
              refine lv_dstore (lv' := [(7, .double v), (5, .long (s_nh h)), (9, .int (nI i)), (0, .ref h0), (1, .int b), (2, .long t), (4, .int u)]) hx hb dX1_normal_109 hl (by decide) rfl (fun ls hl => ?_)
              refine lv_iinc (v := nI (i + 1)) (lv' := [(9, .int (nI (i + 1))), (7, .double v), (5, .long (s_nh h)), (0, .ref h0), (1, .int b), (2, .long t), (4, .int u)]) hx hb dX1_normal_111 hl (k := 2) rfl (nI_1 i) (by decide) rfl (fun ls hl => ?_)
              refine lv_goto (tgt := 66) hx hb dX1_normal_114 (by decide) ?_
              have i3 : i < 3 := by rcases Nat.lt_or_ge i 3 with q | q; exact q; exact absurd (show (3 : Int32) ≤ nI i from nI_le (a := 3) (b := i) q (by omega)) c_88
              have e9 : s_ns i (s_nh h) v = v := by unfold s_ns; rw [if_pos i3]
              have hs : s_nm n (i + 1) (s_nh h) (s_ns i (s_nh h) v) = s_nm 15 0 (s_n0 sd b t u) FP.dconst0 := hs
              have hv9 := norm_s (s_nh h) (k := i) (by omega) hv
              rw [e9] at hs hv9
              exact ih (i + 1) _ _ H locs ls (by omega) hv9 hs hP hD hS (lv_sub hl [0, 1, 2, 3, 4, 5, 6] rfl)
        exact loop 15 0 _ _ H locs ls (by decide) pw_0 rfl hP hD hS (lv_sub hl [0, 1, 2, 3, 4, 5, 6] rfl)
      · refine lv_iconst (v := 3) hx hb dX1_normal_16 (by decide) ?_
        refine lv_goto (tgt := 21) hx hb dX1_normal_17 (by decide) ?_
        have hc : n_c b t u = 3 := by unfold n_c; first | rw [if_pos c_2] | rw [if_neg c_2, if_pos c_8] | rw [if_neg c_2, if_neg c_8, if_neg c_13]
        refine va_put (D := D) (ci := 0) (v := .int 3) (ty := .int) (C := RX1) (T := TX1) (N := 6) hx hb hts in_X1 tyX1 tyX1_ok nmX1 hown hK hP hD hS 0 rfl rfl 5 (by decide) (hts _ q72) (fun _ h9 => h9) rfl (by decide +kernel) rfl rfl (Nat.le_of_ble_eq_true rfl) dX1_normal_21 (fun H locs hP hD hS => ?_)
        have hP : va_P D vwCl (cw dA h0 hE hL hR hX sd 3 uE uL uX) H := hP
        have hD : va_D A (cw dA h0 hE hL hR hX sd 3 uE uL uX) := hD
        refine lv_aload_n hx hb dX1_normal_24 rfl (lv_at hl 0 rfl) ?_
        refine va_get (D := D) (ci := 0) (v := .int 3) (C := RX1) (T := TX1) (N := 6) hx hb hts in_X1 hown hK hP 0 rfl rfl 5 (by decide) (hts _ q72) (fun _ h9 => h9) rfl dX1_normal_25 ?_
        refine lv_if_eq (tgt := 33) hx hb dX1_normal_28 (by decide) (fun c_28 => absurd c_28 (by decide)) (fun c_28 => ?_)
        refine lv_dconst0 hx hb dX1_normal_31 ?_
        exact hend _ _ _ _ 32 _ FP.dconst0 (3, uE, uL, uX) dX1_normal_32 (Nat.le_of_ble_eq_true rfl) (Nat.le_of_ble_eq_true rfl) hS (⟨by unfold n_a; rw [if_neg (by rw [hc]; decide)], hc.symm, rfl, rfl, rfl⟩) hP hD
abbrev rm_c_bound : Room := { frames := 4, cells := 14, slots := 210, locals := 97 }
set_option maxHeartbeats 4000000 in
set_option maxRecDepth 100000 in
theorem c_bound (l : Launch) (D : va_G) (dA : ClassId) (h0 hE hL hR hX : Nat) (sd : Int64) (cd : Int32) (uE uL uX : Option Nat) (f : Int32) (x : UInt64) (hv : XV x) : CMd l D dA yX1_bound cX1_bound 5 rm_c_bound [.ref h0, .int f, .double x] (cw dA h0 hE hL hR hX sd cd uE uL uX) (fun u : Int32 × Option Nat × Option Nat × Option Nat => cw dA h0 hE hL hR hX sd u.1 u.2.1 u.2.2.1 u.2.2.2) (fun r u => r = b_a f x ∧ u.1 = cd ∧ fl u.2.1 = b_E f x (fl uE) ∧ fl u.2.2.1 = b_L f x (fl uL) ∧ fl u.2.2.2 = fl uX) := by
  refine st_d (by decide) (Nat.le_of_ble_eq_true rfl) ?_
  intro p e s m below meth c A Q H locs ls hCF hK hN hA hP hD hS hl hend
  obtain ⟨hx, hb, hml, hown, hts⟩ := hCF
  have hown : s.vm.findClass RX1 = some m.cls := hown
  have hl : lv_has ls 5 [(0, .ref h0), (1, .int f), (2, .double x)] := hl
  refine lv_iload_n hx hb dX1_bound_0 rfl (lv_at hl 1 rfl) ?_
  refine lv_if_ne (tgt := 11) hx hb dX1_bound_1 (by decide) (fun c_1 => ?_) (fun c_1 => ?_)
  · refine lv_iload_n hx hb dX1_bound_11 rfl (lv_at hl 1 rfl) ?_
    refine lv_iconst (v := 1) hx hb dX1_bound_12 (by decide) ?_
    refine lv_icmp_ne (tgt := 23) hx hb dX1_bound_13 (by decide) (fun c_13 => ?_) (fun c_13 => ?_)
    · refine lv_iload_n hx hb dX1_bound_23 rfl (lv_at hl 1 rfl) ?_
      refine lv_iconst (v := 2) hx hb dX1_bound_24 (by decide) ?_
      refine lv_icmp_ne (tgt := 35) hx hb dX1_bound_25 (by decide) (fun c_25 => ?_) (fun c_25 => ?_)
      · refine lv_iload_n hx hb dX1_bound_35 rfl (lv_at hl 1 rfl) ?_
        refine lv_iconst (v := 3) hx hb dX1_bound_36 (by decide) ?_
        refine lv_icmp_ne (tgt := 47) hx hb dX1_bound_37 (by decide) (fun c_37 => ?_) (fun c_37 => ?_)
        · refine lv_null hx hb dX1_bound_47 ?_
          refine lv_astoreN (lv' := [(4, .null), (0, .ref h0), (1, .int f), (2, .double x)]) hx hb dX1_bound_48 hl (by decide) rfl (fun ls hl => ?_)
          refine lv_aloadN hx hb dX1_bound_50 (lv_at hl 0 rfl) ?_
          refine lv_ifnullN (tgt := 64) hx hb dX1_bound_52 (by decide) ?_
          refine lv_ldc2d hx hb hown (hts _ q241) dX1_bound_64 ?_
          refine lv_goto (tgt := 76) hx hb dX1_bound_67 (by decide) ?_
          exact hend _ _ _ _ 76 _ (13830554455654793216 : UInt64) (cd, uE, uL, uX) dX1_bound_76 (Nat.le_of_ble_eq_true rfl) (Nat.le_of_ble_eq_true rfl) hS (⟨by unfold b_a; rw [if_neg c_1, if_neg c_13, if_neg c_25, if_neg c_37], rfl, by unfold b_E; rw [if_neg c_1], by unfold b_L; rw [if_neg c_13], rfl⟩) hP hD
        · refine lv_aload_n hx hb dX1_bound_40 rfl (lv_at hl 0 rfl) ?_
          refine va_get (D := D) (ci := 0) (v := .ref hX) (C := RX1) (T := TX1) (N := 6) hx hb hts in_X1 hown hK hP 0 rfl rfl 4 (by decide) (hts _ q71) (fun _ h9 => h9) rfl dX1_bound_41 ?_
          refine lv_goto (tgt := 48) hx hb dX1_bound_44 (by decide) ?_
          refine lv_astore (lv' := [(4, .ref hX), (0, .ref h0), (1, .int f), (2, .double x)]) hx hb dX1_bound_48 hl (by decide) rfl (fun ls hl => ?_)
          refine lv_aload hx hb dX1_bound_50 (lv_at hl 0 rfl) ?_
          refine lv_ifnull hx hb dX1_bound_52 ?_
          refine lv_aload hx hb dX1_bound_55 (lv_at hl 0 rfl) ?_
          refine lv_dload_n hx hb dX1_bound_57 rfl (lv_at hl 3 rfl) ?_
          refine cl0_i (va_runU (As := [.double x]) (rest := []) ⟨hx, hb, hml, hown, hts⟩ (c_codeOf_X l D dA hX x H.size) (va_cwA 1 hts (lw_U q94 q96 q97 q98 q17 q99) rfl rfl rfl (hN.at 16 rfl) (by decide +kernel) ⟨Nat.le_of_ble_eq_true rfl, Nat.le_of_ble_eq_true rfl⟩) (pr_V hK hN p_nil (d_nil (A := A)) (va_recv hK hP (ci := 4) (q0 := 4) rfl rfl)) rfl rfl hl.1 rfl (lv_room (Nat.le_of_ble_eq_true rfl)) dX1_bound_58 ⟨Nat.le_of_ble_eq_true rfl, Nat.le_of_ble_eq_true rfl⟩) hS hP hA (fun r_58 u_58 H locs hpo_58 hP hS => ?_)
          refine W.widen (k := 0) (n := 0) (Nat.le_of_ble_eq_true rfl) (Nat.le_of_ble_eq_true rfl) ?_
          have e1 : r_58 = s_cX x := hpo_58
          subst e1
          have hP : va_P D vwCl (cw dA h0 hE hL hR hX sd cd uE uL uX) H := hP
          refine lv_if_eq (tgt := 70) hx hb dX1_bound_61 (by decide) (fun c_61 => ?_) (fun c_61 => ?_)
          · refine lv_aload hx hb dX1_bound_70 (lv_at hl 0 rfl) ?_
            refine lv_dload_n hx hb dX1_bound_72 rfl (lv_at hl 3 rfl) ?_
            refine cl0_d (va_runU (As := [.double x]) (rest := []) ⟨hx, hb, hml, hown, hts⟩ (c_boundOf_X l D dA hX x H.size) (va_cwA 1 hts (lw_U q242 q244 q245 q246 q17 q247) rfl rfl rfl (hN.at 19 rfl) (by decide +kernel) ⟨Nat.le_of_ble_eq_true rfl, Nat.le_of_ble_eq_true rfl⟩) (pr_V hK hN p_nil (d_nil (A := A)) (va_recv hK hP (ci := 4) (q0 := 4) rfl rfl)) rfl rfl hl.1 rfl (lv_room (Nat.le_of_ble_eq_true rfl)) dX1_bound_73 ⟨Nat.le_of_ble_eq_true rfl, Nat.le_of_ble_eq_true rfl⟩) hS hP hA (fun r_73 u_73 H locs hpo_73 hP hS => ?_)
            refine W.widen (k := 0) (n := 0) (Nat.le_of_ble_eq_true rfl) (Nat.le_of_ble_eq_true rfl) ?_
            have e9 : r_73 = (4427486594234968593 : UInt64) := hpo_73
            subst e9
            have hP : va_P D vwCl (cw dA h0 hE hL hR hX sd cd uE uL uX) H := hP
            exact hend _ _ _ _ 76 _ (4427486594234968593 : UInt64) (cd, uE, uL, uX) dX1_bound_76 (Nat.le_of_ble_eq_true rfl) (Nat.le_of_ble_eq_true rfl) hS (⟨by unfold b_a; rw [if_neg c_1, if_neg c_13, if_neg c_25, if_pos c_37, if_pos c_61], rfl, by unfold b_E; rw [if_neg c_1], by unfold b_L; rw [if_neg c_13], rfl⟩) hP hD
          · refine lv_ldc2d hx hb hown (hts _ q241) dX1_bound_64 ?_
            refine lv_goto (tgt := 76) hx hb dX1_bound_67 (by decide) ?_
            exact hend _ _ _ _ 76 _ (13830554455654793216 : UInt64) (cd, uE, uL, uX) dX1_bound_76 (Nat.le_of_ble_eq_true rfl) (Nat.le_of_ble_eq_true rfl) hS (⟨by unfold b_a; rw [if_neg c_1, if_neg c_13, if_neg c_25, if_pos c_37, if_neg c_61], rfl, by unfold b_E; rw [if_neg c_1], by unfold b_L; rw [if_neg c_13], rfl⟩) hP hD
      · refine lv_aload_n hx hb dX1_bound_28 rfl (lv_at hl 0 rfl) ?_
        refine va_get (D := D) (ci := 0) (v := .ref hR) (C := RX1) (T := TX1) (N := 6) hx hb hts in_X1 hown hK hP 0 rfl rfl 3 (by decide) (hts _ q70) (fun _ h9 => h9) rfl dX1_bound_29 ?_
        refine lv_goto (tgt := 48) hx hb dX1_bound_32 (by decide) ?_
        refine lv_astore (lv' := [(4, .ref hR), (0, .ref h0), (1, .int f), (2, .double x)]) hx hb dX1_bound_48 hl (by decide) rfl (fun ls hl => ?_)
        refine lv_aload hx hb dX1_bound_50 (lv_at hl 0 rfl) ?_
        refine lv_ifnull hx hb dX1_bound_52 ?_
        refine lv_aload hx hb dX1_bound_55 (lv_at hl 0 rfl) ?_
        refine lv_dload_n hx hb dX1_bound_57 rfl (lv_at hl 3 rfl) ?_
        refine cl0_i (va_runU (As := [.double x]) (rest := []) ⟨hx, hb, hml, hown, hts⟩ (c_codeOf_R l D dA hR x H.size) (va_cwA 1 hts (lw_U q94 q96 q114 q115 q16 q116) rfl rfl rfl (hN.at 16 rfl) (by decide +kernel) ⟨Nat.le_of_ble_eq_true rfl, Nat.le_of_ble_eq_true rfl⟩) (pr_V hK hN p_nil (d_nil (A := A)) (va_recv hK hP (ci := 3) (q0 := 3) rfl rfl)) rfl rfl hl.1 rfl (lv_room (Nat.le_of_ble_eq_true rfl)) dX1_bound_58 ⟨Nat.le_of_ble_eq_true rfl, Nat.le_of_ble_eq_true rfl⟩) hS hP hA (fun r_58 u_58 H locs hpo_58 hP hS => ?_)
        refine W.widen (k := 0) (n := 0) (Nat.le_of_ble_eq_true rfl) (Nat.le_of_ble_eq_true rfl) ?_
        have e1 : r_58 = s_cR x := hpo_58
        subst e1
        have hP : va_P D vwCl (cw dA h0 hE hL hR hX sd cd uE uL uX) H := hP
        refine lv_if_eq (tgt := 70) hx hb dX1_bound_61 (by decide) (fun c_61 => ?_) (fun c_61 => ?_)
        · refine lv_aload hx hb dX1_bound_70 (lv_at hl 0 rfl) ?_
          refine lv_dload_n hx hb dX1_bound_72 rfl (lv_at hl 3 rfl) ?_
          refine cl_d (va_runU (As := [.double x]) (rest := []) ⟨hx, hb, hml, hown, hts⟩ (c_boundOf_R l D dA h0 hE hL hR hX sd cd uE uL uX x (cR_0 hv c_61).1 (cR_0 hv c_61).2.1 (cR_0 hv c_61).2.2.1 (cR_0 hv c_61).2.2.2 H.size) (va_cwA 1 hts (lw_U q242 q244 q262 q263 q16 q264) rfl rfl rfl (hN.at 19 rfl) (by decide +kernel) ⟨Nat.le_of_ble_eq_true rfl, Nat.le_of_ble_eq_true rfl⟩) (pr_V hK hN hP hD (va_recv hK hP (ci := 3) (q0 := 3) rfl rfl)) rfl rfl hl.1 rfl (lv_room (Nat.le_of_ble_eq_true rfl)) dX1_bound_73 ⟨Nat.le_of_ble_eq_true rfl, Nat.le_of_ble_eq_true rfl⟩) hS hD hA (fun r_73 u_73 H locs hpo_73 hP hD hS => ?_)
          refine W.widen (k := 0) (n := 0) (Nat.le_of_ble_eq_true rfl) (Nat.le_of_ble_eq_true rfl) ?_
          have e9 : r_73 = s_bR (s_root x) := hpo_73
          subst e9
          have hP : va_P D vwCl (cw dA h0 hE hL hR hX sd cd uE uL uX) H := hP
          have hD : va_D A (cw dA h0 hE hL hR hX sd cd uE uL uX) := hD
          exact hend _ _ _ _ 76 _ (s_bR (s_root x)) (cd, uE, uL, uX) dX1_bound_76 (Nat.le_of_ble_eq_true rfl) (Nat.le_of_ble_eq_true rfl) hS (⟨by unfold b_a; rw [if_neg c_1, if_neg c_13, if_pos c_25, if_pos c_61], rfl, by unfold b_E; rw [if_neg c_1], by unfold b_L; rw [if_neg c_13], rfl⟩) hP hD
        · refine lv_ldc2d hx hb hown (hts _ q241) dX1_bound_64 ?_
          refine lv_goto (tgt := 76) hx hb dX1_bound_67 (by decide) ?_
          exact hend _ _ _ _ 76 _ (13830554455654793216 : UInt64) (cd, uE, uL, uX) dX1_bound_76 (Nat.le_of_ble_eq_true rfl) (Nat.le_of_ble_eq_true rfl) hS (⟨by unfold b_a; rw [if_neg c_1, if_neg c_13, if_pos c_25, if_neg c_61], rfl, by unfold b_E; rw [if_neg c_1], by unfold b_L; rw [if_neg c_13], rfl⟩) hP hD
    · refine lv_aload_n hx hb dX1_bound_16 rfl (lv_at hl 0 rfl) ?_
      refine va_get (D := D) (ci := 0) (v := .ref hL) (C := RX1) (T := TX1) (N := 6) hx hb hts in_X1 hown hK hP 0 rfl rfl 2 (by decide) (hts _ q69) (fun _ h9 => h9) rfl dX1_bound_17 ?_
      refine lv_goto (tgt := 48) hx hb dX1_bound_20 (by decide) ?_
      refine lv_astore (lv' := [(4, .ref hL), (0, .ref h0), (1, .int f), (2, .double x)]) hx hb dX1_bound_48 hl (by decide) rfl (fun ls hl => ?_)
      refine lv_aload hx hb dX1_bound_50 (lv_at hl 0 rfl) ?_
      refine lv_ifnull hx hb dX1_bound_52 ?_
      refine lv_aload hx hb dX1_bound_55 (lv_at hl 0 rfl) ?_
      refine lv_dload_n hx hb dX1_bound_57 rfl (lv_at hl 3 rfl) ?_
      refine cl0_i (va_runU (As := [.double x]) (rest := []) ⟨hx, hb, hml, hown, hts⟩ (c_codeOf_L l D dA hL x H.size) (va_cwA 1 hts (lw_U q94 q96 q110 q111 q15 q112) rfl rfl rfl (hN.at 16 rfl) (by decide +kernel) ⟨Nat.le_of_ble_eq_true rfl, Nat.le_of_ble_eq_true rfl⟩) (pr_V hK hN p_nil (d_nil (A := A)) (va_recv hK hP (ci := 2) (q0 := 2) rfl rfl)) rfl rfl hl.1 rfl (lv_room (Nat.le_of_ble_eq_true rfl)) dX1_bound_58 ⟨Nat.le_of_ble_eq_true rfl, Nat.le_of_ble_eq_true rfl⟩) hS hP hA (fun r_58 u_58 H locs hpo_58 hP hS => ?_)
      refine W.widen (k := 0) (n := 0) (Nat.le_of_ble_eq_true rfl) (Nat.le_of_ble_eq_true rfl) ?_
      have e1 : r_58 = s_cL x := hpo_58
      subst e1
      have hP : va_P D vwCl (cw dA h0 hE hL hR hX sd cd uE uL uX) H := hP
      refine lv_if_eq (tgt := 70) hx hb dX1_bound_61 (by decide) (fun c_61 => ?_) (fun c_61 => ?_)
      · refine lv_aload hx hb dX1_bound_70 (lv_at hl 0 rfl) ?_
        refine lv_dload_n hx hb dX1_bound_72 rfl (lv_at hl 3 rfl) ?_
        refine cl_d (va_runU (As := [.double x]) (rest := []) ⟨hx, hb, hml, hown, hts⟩ (c_boundOf_L l D dA h0 hE hL hR hX sd cd uE uL uX x (cL_0 hv c_61).1 (cL_0 hv c_61).2.1 (cL_0 hv c_61).2.2 H.size) (va_cwA 1 hts (lw_U q242 q244 q255 q256 q15 q257) rfl rfl rfl (hN.at 19 rfl) (by decide +kernel) ⟨Nat.le_of_ble_eq_true rfl, Nat.le_of_ble_eq_true rfl⟩) (pr_V hK hN hP hD (va_recv hK hP (ci := 2) (q0 := 2) rfl rfl)) rfl rfl hl.1 rfl (lv_room (Nat.le_of_ble_eq_true rfl)) dX1_bound_73 ⟨Nat.le_of_ble_eq_true rfl, Nat.le_of_ble_eq_true rfl⟩) hS hD hA (fun r_73 u_73 H locs hpo_73 hP hD hS => ?_)
        refine W.widen (k := 14) (n := 196) (Nat.le_of_ble_eq_true rfl) (Nat.le_of_ble_eq_true rfl) ?_
        obtain ⟨e9, hu9⟩ := hpo_73
        subst e9
        have hP : va_P D vwCl (cw dA h0 hE hL hR hX sd cd uE u_73 uX) H := hP
        have hD : va_D A (cw dA h0 hE hL hR hX sd cd uE u_73 uX) := hD
        exact hend _ _ _ _ 76 _ (s_bL (s_log x)) (cd, uE, u_73, uX) dX1_bound_76 (Nat.le_of_ble_eq_true rfl) (Nat.le_of_ble_eq_true rfl) hS (⟨by unfold b_a; rw [if_neg c_1, if_pos c_13, if_pos c_61], rfl, by unfold b_E; rw [if_neg c_1], by unfold b_L g_L; rw [if_pos c_13, if_pos c_61]; exact hu9, rfl⟩) hP hD
      · refine lv_ldc2d hx hb hown (hts _ q241) dX1_bound_64 ?_
        refine lv_goto (tgt := 76) hx hb dX1_bound_67 (by decide) ?_
        exact hend _ _ _ _ 76 _ (13830554455654793216 : UInt64) (cd, uE, uL, uX) dX1_bound_76 (Nat.le_of_ble_eq_true rfl) (Nat.le_of_ble_eq_true rfl) hS (⟨by unfold b_a; rw [if_neg c_1, if_pos c_13, if_neg c_61], rfl, by unfold b_E; rw [if_neg c_1], by unfold b_L g_L; rw [if_pos c_13, if_neg c_61], rfl⟩) hP hD
  · refine lv_aload_n hx hb dX1_bound_4 rfl (lv_at hl 0 rfl) ?_
    refine va_get (D := D) (ci := 0) (v := .ref hE) (C := RX1) (T := TX1) (N := 6) hx hb hts in_X1 hown hK hP 0 rfl rfl 1 (by decide) (hts _ q68) (fun _ h9 => h9) rfl dX1_bound_5 ?_
    refine lv_goto (tgt := 48) hx hb dX1_bound_8 (by decide) ?_
    refine lv_astore (lv' := [(4, .ref hE), (0, .ref h0), (1, .int f), (2, .double x)]) hx hb dX1_bound_48 hl (by decide) rfl (fun ls hl => ?_)
    refine lv_aload hx hb dX1_bound_50 (lv_at hl 0 rfl) ?_
    refine lv_ifnull hx hb dX1_bound_52 ?_
    refine lv_aload hx hb dX1_bound_55 (lv_at hl 0 rfl) ?_
    refine lv_dload_n hx hb dX1_bound_57 rfl (lv_at hl 3 rfl) ?_
    refine cl0_i (va_runU (As := [.double x]) (rest := []) ⟨hx, hb, hml, hown, hts⟩ (c_codeOf_E l D dA hE x H.size) (va_cwA 1 hts (lw_U q94 q96 q105 q106 q14 q107) rfl rfl rfl (hN.at 16 rfl) (by decide +kernel) ⟨Nat.le_of_ble_eq_true rfl, Nat.le_of_ble_eq_true rfl⟩) (pr_V hK hN p_nil (d_nil (A := A)) (va_recv hK hP (ci := 1) (q0 := 1) rfl rfl)) rfl rfl hl.1 rfl (lv_room (Nat.le_of_ble_eq_true rfl)) dX1_bound_58 ⟨Nat.le_of_ble_eq_true rfl, Nat.le_of_ble_eq_true rfl⟩) hS hP hA (fun r_58 u_58 H locs hpo_58 hP hS => ?_)
    refine W.widen (k := 0) (n := 0) (Nat.le_of_ble_eq_true rfl) (Nat.le_of_ble_eq_true rfl) ?_
    have e1 : r_58 = s_cE x := hpo_58
    subst e1
    have hP : va_P D vwCl (cw dA h0 hE hL hR hX sd cd uE uL uX) H := hP
    refine lv_if_eq (tgt := 70) hx hb dX1_bound_61 (by decide) (fun c_61 => ?_) (fun c_61 => ?_)
    · refine lv_aload hx hb dX1_bound_70 (lv_at hl 0 rfl) ?_
      refine lv_dload_n hx hb dX1_bound_72 rfl (lv_at hl 3 rfl) ?_
      refine cl_d (va_runU (As := [.double x]) (rest := []) ⟨hx, hb, hml, hown, hts⟩ (c_boundOf_E l D dA h0 hE hL hR hX sd cd uE uL uX x (num_facts (cE_n c_61)) (cE_le c_61) H.size) (va_cwA 1 hts (lw_U q242 q244 q249 q250 q14 q251) rfl rfl rfl (hN.at 19 rfl) (by decide +kernel) ⟨Nat.le_of_ble_eq_true rfl, Nat.le_of_ble_eq_true rfl⟩) (pr_V hK hN hP hD (va_recv hK hP (ci := 1) (q0 := 1) rfl rfl)) rfl rfl hl.1 rfl (lv_room (Nat.le_of_ble_eq_true rfl)) dX1_bound_73 ⟨Nat.le_of_ble_eq_true rfl, Nat.le_of_ble_eq_true rfl⟩) hS hD hA (fun r_73 u_73 H locs hpo_73 hP hD hS => ?_)
      refine W.widen (k := 14) (n := 210) (Nat.le_of_ble_eq_true rfl) (Nat.le_of_ble_eq_true rfl) ?_
      obtain ⟨e9, hu9⟩ := hpo_73
      subst e9
      have hP : va_P D vwCl (cw dA h0 hE hL hR hX sd cd u_73 uL uX) H := hP
      have hD : va_D A (cw dA h0 hE hL hR hX sd cd u_73 uL uX) := hD
      exact hend _ _ _ _ 76 _ (s_bE x) (cd, u_73, uL, uX) dX1_bound_76 (Nat.le_of_ble_eq_true rfl) (Nat.le_of_ble_eq_true rfl) hS (⟨by unfold b_a; rw [if_pos c_1, if_pos c_61], rfl, by unfold b_E g_E; rw [if_pos c_1, if_pos c_61]; exact hu9, by unfold b_L; rw [if_neg (by rw [c_1]; decide)], rfl⟩) hP hD
    · refine lv_ldc2d hx hb hown (hts _ q241) dX1_bound_64 ?_
      refine lv_goto (tgt := 76) hx hb dX1_bound_67 (by decide) ?_
      exact hend _ _ _ _ 76 _ (13830554455654793216 : UInt64) (cd, uE, uL, uX) dX1_bound_76 (Nat.le_of_ble_eq_true rfl) (Nat.le_of_ble_eq_true rfl) hS (⟨by unfold b_a; rw [if_pos c_1, if_neg c_61], rfl, by unfold b_E g_E; rw [if_pos c_1, if_neg c_61], by unfold b_L; rw [if_neg (by rw [c_1]; decide)], rfl⟩) hP hD
abbrev rm_c_isMade_E : Room := { frames := 0, cells := 0, slots := 0, locals := 0 }
set_option maxHeartbeats 4000000 in
set_option maxRecDepth 100000 in
theorem c_isMade_E (l : Launch) (D : va_G) (dA : ClassId) (h0 hE hL hR hX : Nat) (sd : Int64) (cd : Int32) (uE uL uX : Option Nat) : CMi l D dA yX2_isMade cX2_isMade 1 .boolean rm_c_isMade_E [.ref hE] (cw dA h0 hE hL hR hX sd cd uE uL uX) (fun _ : Unit => cw dA h0 hE hL hR hX sd cd uE uL uX) (fun r _ => r = fl uE) := by
  refine st_i (by decide) (Nat.le_of_ble_eq_true rfl) ?_
  intro p e s m below meth c A Q H locs ls hCF hK hN hA hP hD hS hl hend
  obtain ⟨hx, hb, hml, hown, hts⟩ := hCF
  have hown : s.vm.findClass RX2 = some m.cls := hown
  have hl : lv_has ls 1 [(0, .ref hE)] := hl
  cases uE with
  | none =>
    refine lv_aload_n hx hb dX2_isMade_0 rfl (lv_at hl 0 rfl) ?_
    refine va_get (D := D) (ci := 1) (v := .null) (C := RX3) (T := TX3) (N := 1) hx hb hts in_X3 hown hK hP 1 rfl rfl 0 (by decide) (hts _ q36) (fun _ h9 => h9) rfl dX2_isMade_1 ?_
    refine lv_ifnullN (tgt := 11) hx hb dX2_isMade_4 (by decide) ?_
    refine lv_iconst (v := 0) hx hb dX2_isMade_11 (by decide) ?_
    exact hend _ _ _ _ 12 _ 0 () dX2_isMade_12 (by decide) (Nat.le_of_ble_eq_true rfl) (Nat.le_of_ble_eq_true rfl) hS rfl hP hD
  | some a =>
    refine lv_aload_n hx hb dX2_isMade_0 rfl (lv_at hl 0 rfl) ?_
    refine va_get (D := D) (ci := 1) (v := .ref a) (C := RX3) (T := TX3) (N := 1) hx hb hts in_X3 hown hK hP 1 rfl rfl 0 (by decide) (hts _ q36) (fun _ h9 => h9) rfl dX2_isMade_1 ?_
    refine lv_ifnull hx hb dX2_isMade_4 ?_
    refine lv_iconst (v := 1) hx hb dX2_isMade_7 (by decide) ?_
    refine lv_goto (tgt := 12) hx hb dX2_isMade_8 (by decide) ?_
    exact hend _ _ _ _ 12 _ 1 () dX2_isMade_12 (by decide) (Nat.le_of_ble_eq_true rfl) (Nat.le_of_ble_eq_true rfl) hS rfl hP hD
abbrev rm_c_isMade_L : Room := { frames := 0, cells := 0, slots := 0, locals := 0 }
set_option maxHeartbeats 4000000 in
set_option maxRecDepth 100000 in
theorem c_isMade_L (l : Launch) (D : va_G) (dA : ClassId) (h0 hE hL hR hX : Nat) (sd : Int64) (cd : Int32) (uE uL uX : Option Nat) : CMi l D dA yX2_isMade cX2_isMade 1 .boolean rm_c_isMade_L [.ref hL] (cw dA h0 hE hL hR hX sd cd uE uL uX) (fun _ : Unit => cw dA h0 hE hL hR hX sd cd uE uL uX) (fun r _ => r = fl uL) := by
  refine st_i (by decide) (Nat.le_of_ble_eq_true rfl) ?_
  intro p e s m below meth c A Q H locs ls hCF hK hN hA hP hD hS hl hend
  obtain ⟨hx, hb, hml, hown, hts⟩ := hCF
  have hown : s.vm.findClass RX2 = some m.cls := hown
  have hl : lv_has ls 1 [(0, .ref hL)] := hl
  cases uL with
  | none =>
    refine lv_aload_n hx hb dX2_isMade_0 rfl (lv_at hl 0 rfl) ?_
    refine va_get (D := D) (ci := 2) (v := .null) (C := RX4) (T := TX4) (N := 1) hx hb hts in_X4 hown hK hP 2 rfl rfl 0 (by decide) (hts _ q36) (fun _ h9 => h9) rfl dX2_isMade_1 ?_
    refine lv_ifnullN (tgt := 11) hx hb dX2_isMade_4 (by decide) ?_
    refine lv_iconst (v := 0) hx hb dX2_isMade_11 (by decide) ?_
    exact hend _ _ _ _ 12 _ 0 () dX2_isMade_12 (by decide) (Nat.le_of_ble_eq_true rfl) (Nat.le_of_ble_eq_true rfl) hS rfl hP hD
  | some a =>
    refine lv_aload_n hx hb dX2_isMade_0 rfl (lv_at hl 0 rfl) ?_
    refine va_get (D := D) (ci := 2) (v := .ref a) (C := RX4) (T := TX4) (N := 1) hx hb hts in_X4 hown hK hP 2 rfl rfl 0 (by decide) (hts _ q36) (fun _ h9 => h9) rfl dX2_isMade_1 ?_
    refine lv_ifnull hx hb dX2_isMade_4 ?_
    refine lv_iconst (v := 1) hx hb dX2_isMade_7 (by decide) ?_
    refine lv_goto (tgt := 12) hx hb dX2_isMade_8 (by decide) ?_
    exact hend _ _ _ _ 12 _ 1 () dX2_isMade_12 (by decide) (Nat.le_of_ble_eq_true rfl) (Nat.le_of_ble_eq_true rfl) hS rfl hP hD
abbrev rm_c_isMade_X : Room := { frames := 0, cells := 0, slots := 0, locals := 0 }
set_option maxHeartbeats 4000000 in
set_option maxRecDepth 100000 in
theorem c_isMade_X (l : Launch) (D : va_G) (dA : ClassId) (h0 hE hL hR hX : Nat) (sd : Int64) (cd : Int32) (uE uL uX : Option Nat) : CMi l D dA yX2_isMade cX2_isMade 1 .boolean rm_c_isMade_X [.ref hX] (cw dA h0 hE hL hR hX sd cd uE uL uX) (fun _ : Unit => cw dA h0 hE hL hR hX sd cd uE uL uX) (fun r _ => r = fl uX) := by
  refine st_i (by decide) (Nat.le_of_ble_eq_true rfl) ?_
  intro p e s m below meth c A Q H locs ls hCF hK hN hA hP hD hS hl hend
  obtain ⟨hx, hb, hml, hown, hts⟩ := hCF
  have hown : s.vm.findClass RX2 = some m.cls := hown
  have hl : lv_has ls 1 [(0, .ref hX)] := hl
  cases uX with
  | none =>
    refine lv_aload_n hx hb dX2_isMade_0 rfl (lv_at hl 0 rfl) ?_
    refine va_get (D := D) (ci := 4) (v := .null) (C := RX6) (T := TX6) (N := 2) hx hb hts in_X6 hown hK hP 4 rfl rfl 0 (by decide) (hts _ q36) (fun _ h9 => h9) rfl dX2_isMade_1 ?_
    refine lv_ifnullN (tgt := 11) hx hb dX2_isMade_4 (by decide) ?_
    refine lv_iconst (v := 0) hx hb dX2_isMade_11 (by decide) ?_
    exact hend _ _ _ _ 12 _ 0 () dX2_isMade_12 (by decide) (Nat.le_of_ble_eq_true rfl) (Nat.le_of_ble_eq_true rfl) hS rfl hP hD
  | some a =>
    refine lv_aload_n hx hb dX2_isMade_0 rfl (lv_at hl 0 rfl) ?_
    refine va_get (D := D) (ci := 4) (v := .ref a) (C := RX6) (T := TX6) (N := 2) hx hb hts in_X6 hown hK hP 4 rfl rfl 0 (by decide) (hts _ q36) (fun _ h9 => h9) rfl dX2_isMade_1 ?_
    refine lv_ifnull hx hb dX2_isMade_4 ?_
    refine lv_iconst (v := 1) hx hb dX2_isMade_7 (by decide) ?_
    refine lv_goto (tgt := 12) hx hb dX2_isMade_8 (by decide) ?_
    exact hend _ _ _ _ 12 _ 1 () dX2_isMade_12 (by decide) (Nat.le_of_ble_eq_true rfl) (Nat.le_of_ble_eq_true rfl) hS rfl hP hD
abbrev rm_c_code : Room := { frames := 0, cells := 0, slots := 0, locals := 0 }
set_option maxHeartbeats 4000000 in
set_option maxRecDepth 100000 in
theorem c_code (l : Launch) (D : va_G) (dA : ClassId) (h0 hE hL hR hX : Nat) (sd : Int64) (cd : Int32) (uE uL uX : Option Nat) : CMi l D dA yX1_code cX1_code 1 .int rm_c_code [.ref h0] (cw dA h0 hE hL hR hX sd cd uE uL uX) (fun _ : Unit => cw dA h0 hE hL hR hX sd cd uE uL uX) (fun r _ => r = cd) := by
  refine st_i (by decide) (Nat.le_of_ble_eq_true rfl) ?_
  intro p e s m below meth c A Q H locs ls hCF hK hN hA hP hD hS hl hend
  obtain ⟨hx, hb, hml, hown, hts⟩ := hCF
  have hown : s.vm.findClass RX1 = some m.cls := hown
  have hl : lv_has ls 1 [(0, .ref h0)] := hl
  refine lv_aload_n hx hb dX1_code_0 rfl (lv_at hl 0 rfl) ?_
  refine va_get (D := D) (ci := 0) (v := .int cd) (C := RX1) (T := TX1) (N := 6) hx hb hts in_X1 hown hK hP 0 rfl rfl 5 (by decide) (hts _ q72) (fun _ h9 => h9) rfl dX1_code_1 ?_
  exact hend _ _ _ _ 4 _ cd () dX1_code_4 rfl (Nat.le_of_ble_eq_true rfl) (Nat.le_of_ble_eq_true rfl) hS rfl hP hD
abbrev rm_c_made : Room := { frames := 1, cells := 0, slots := 0, locals := 20 }
set_option maxHeartbeats 4000000 in
set_option maxRecDepth 100000 in
theorem c_made (l : Launch) (D : va_G) (dA : ClassId) (h0 hE hL hR hX : Nat) (sd : Int64) (cd : Int32) (uE uL uX : Option Nat) : CMi l D dA yX1_made cX1_made 1 .int rm_c_made [.ref h0] (cw dA h0 hE hL hR hX sd cd uE uL uX) (fun _ : Unit => cw dA h0 hE hL hR hX sd cd uE uL uX) (fun r _ => r = fl uE + fl uL + fl uX) := by
  refine st_i (by decide) (Nat.le_of_ble_eq_true rfl) ?_
  intro p e s m below meth c A Q H locs ls hCF hK hN hA hP hD hS hl hend
  obtain ⟨hx, hb, hml, hown, hts⟩ := hCF
  have hown : s.vm.findClass RX1 = some m.cls := hown
  have hl : lv_has ls 1 [(0, .ref h0)] := hl
  refine lv_aload_n hx hb dX1_made_0 rfl (lv_at hl 0 rfl) ?_
  refine va_get (D := D) (ci := 0) (v := .ref hE) (C := RX1) (T := TX1) (N := 6) hx hb hts in_X1 hown hK hP 0 rfl rfl 1 (by decide) (hts _ q68) (fun _ h9 => h9) rfl dX1_made_1 ?_
  refine cl_i (va_runU (As := []) (rest := []) ⟨hx, hb, hml, hown, hts⟩ (c_isMade_E l D dA h0 hE hL hR hX sd cd uE uL uX H.size) (va_cwU 0 hts (lw_U q275 q276 q278 q279 q13 q280) rfl rfl rfl rfl (by decide +kernel) ⟨Nat.le_of_ble_eq_true rfl, Nat.le_of_ble_eq_true rfl⟩) (pr_V hK hN hP hD (va_recv hK hP (ci := 1) (q0 := 1) rfl rfl)) rfl rfl hl.1 rfl (lv_room (Nat.le_of_ble_eq_true rfl)) dX1_made_4 ⟨Nat.le_of_ble_eq_true rfl, Nat.le_of_ble_eq_true rfl⟩) hS hD hA (fun r_4 u_4 H locs hpo_4 hP hD hS => ?_)
  refine W.widen (k := 0) (n := 0) (Nat.le_of_ble_eq_true rfl) (Nat.le_of_ble_eq_true rfl) ?_
  have e4 : r_4 = fl uE := hpo_4
  subst e4
  have hP : va_P D vwCl (cw dA h0 hE hL hR hX sd cd uE uL uX) H := hP
  have hD : va_D A (cw dA h0 hE hL hR hX sd cd uE uL uX) := hD
  refine lv_if_eq (tgt := 14) hx hb dX1_made_7 (by decide) (fun c_7 => ?_) (fun c_7 => ?_)
  · refine lv_iconst (v := 0) hx hb dX1_made_14 (by decide) ?_
    refine lv_aload_n hx hb dX1_made_15 rfl (lv_at hl 0 rfl) ?_
    refine va_get (D := D) (ci := 0) (v := .ref hL) (C := RX1) (T := TX1) (N := 6) hx hb hts in_X1 hown hK hP 0 rfl rfl 2 (by decide) (hts _ q69) (fun _ h9 => h9) rfl dX1_made_16 ?_
    refine cl_i (va_runU (As := []) (rest := [.int 0]) ⟨hx, hb, hml, hown, hts⟩ (c_isMade_L l D dA h0 hE hL hR hX sd cd uE uL uX H.size) (va_cwU 0 hts (lw_U q281 q282 q283 q279 q13 q280) rfl rfl rfl rfl (by decide +kernel) ⟨Nat.le_of_ble_eq_true rfl, Nat.le_of_ble_eq_true rfl⟩) (pr_V hK hN hP hD (va_recv hK hP (ci := 2) (q0 := 2) rfl rfl)) rfl rfl hl.1 rfl (lv_room (Nat.le_of_ble_eq_true rfl)) dX1_made_19 ⟨Nat.le_of_ble_eq_true rfl, Nat.le_of_ble_eq_true rfl⟩) hS hD hA (fun r_19 u_19 H locs hpo_19 hP hD hS => ?_)
    refine W.widen (k := 0) (n := 0) (Nat.le_of_ble_eq_true rfl) (Nat.le_of_ble_eq_true rfl) ?_
    have e19 : r_19 = fl uL := hpo_19
    subst e19
    have hP : va_P D vwCl (cw dA h0 hE hL hR hX sd cd uE uL uX) H := hP
    have hD : va_D A (cw dA h0 hE hL hR hX sd cd uE uL uX) := hD
    refine lv_if_eq (tgt := 29) hx hb dX1_made_22 (by decide) (fun c_22 => ?_) (fun c_22 => ?_)
    · refine lv_iconst (v := 0) hx hb dX1_made_29 (by decide) ?_
      refine lv_iadd hx hb dX1_made_30 ?_
      refine lv_aload_n hx hb dX1_made_31 rfl (lv_at hl 0 rfl) ?_
      refine va_get (D := D) (ci := 0) (v := .ref hX) (C := RX1) (T := TX1) (N := 6) hx hb hts in_X1 hown hK hP 0 rfl rfl 4 (by decide) (hts _ q71) (fun _ h9 => h9) rfl dX1_made_32 ?_
      refine cl_i (va_runU (As := []) (rest := [.int (0 + 0)]) ⟨hx, hb, hml, hown, hts⟩ (c_isMade_X l D dA h0 hE hL hR hX sd cd uE uL uX H.size) (va_cwU 0 hts (lw_U q284 q285 q286 q279 q13 q280) rfl rfl rfl rfl (by decide +kernel) ⟨Nat.le_of_ble_eq_true rfl, Nat.le_of_ble_eq_true rfl⟩) (pr_V hK hN hP hD (va_recv hK hP (ci := 4) (q0 := 4) rfl rfl)) rfl rfl hl.1 rfl (lv_room (Nat.le_of_ble_eq_true rfl)) dX1_made_35 ⟨Nat.le_of_ble_eq_true rfl, Nat.le_of_ble_eq_true rfl⟩) hS hD hA (fun r_35 u_35 H locs hpo_35 hP hD hS => ?_)
      refine W.widen (k := 0) (n := 0) (Nat.le_of_ble_eq_true rfl) (Nat.le_of_ble_eq_true rfl) ?_
      have e35 : r_35 = fl uX := hpo_35
      subst e35
      have hP : va_P D vwCl (cw dA h0 hE hL hR hX sd cd uE uL uX) H := hP
      have hD : va_D A (cw dA h0 hE hL hR hX sd cd uE uL uX) := hD
      refine lv_if_eq (tgt := 45) hx hb dX1_made_38 (by decide) (fun c_38 => ?_) (fun c_38 => ?_)
      · refine lv_iconst (v := 0) hx hb dX1_made_45 (by decide) ?_
        refine lv_iadd hx hb dX1_made_46 ?_
        exact hend _ _ _ _ 47 _ ((0 + 0) + 0) () dX1_made_47 rfl (Nat.le_of_ble_eq_true rfl) (Nat.le_of_ble_eq_true rfl) hS (by rw [show fl uE = 0 from (fl_01 uE).resolve_right (fun h9 => absurd (c_7.symm.trans h9) (by decide)), show fl uL = 0 from (fl_01 uL).resolve_right (fun h9 => absurd (c_22.symm.trans h9) (by decide)), show fl uX = 0 from (fl_01 uX).resolve_right (fun h9 => absurd (c_38.symm.trans h9) (by decide))]) hP hD
      · refine lv_iconst (v := 1) hx hb dX1_made_41 (by decide) ?_
        refine lv_goto (tgt := 46) hx hb dX1_made_42 (by decide) ?_
        refine lv_iadd hx hb dX1_made_46 ?_
        exact hend _ _ _ _ 47 _ ((0 + 0) + 1) () dX1_made_47 rfl (Nat.le_of_ble_eq_true rfl) (Nat.le_of_ble_eq_true rfl) hS (by rw [show fl uE = 0 from (fl_01 uE).resolve_right (fun h9 => absurd (c_7.symm.trans h9) (by decide)), show fl uL = 0 from (fl_01 uL).resolve_right (fun h9 => absurd (c_22.symm.trans h9) (by decide)), show fl uX = 1 from (fl_01 uX).resolve_left c_38]) hP hD
    · refine lv_iconst (v := 1) hx hb dX1_made_25 (by decide) ?_
      refine lv_goto (tgt := 30) hx hb dX1_made_26 (by decide) ?_
      refine lv_iadd hx hb dX1_made_30 ?_
      refine lv_aload_n hx hb dX1_made_31 rfl (lv_at hl 0 rfl) ?_
      refine va_get (D := D) (ci := 0) (v := .ref hX) (C := RX1) (T := TX1) (N := 6) hx hb hts in_X1 hown hK hP 0 rfl rfl 4 (by decide) (hts _ q71) (fun _ h9 => h9) rfl dX1_made_32 ?_
      refine cl_i (va_runU (As := []) (rest := [.int (0 + 1)]) ⟨hx, hb, hml, hown, hts⟩ (c_isMade_X l D dA h0 hE hL hR hX sd cd uE uL uX H.size) (va_cwU 0 hts (lw_U q284 q285 q286 q279 q13 q280) rfl rfl rfl rfl (by decide +kernel) ⟨Nat.le_of_ble_eq_true rfl, Nat.le_of_ble_eq_true rfl⟩) (pr_V hK hN hP hD (va_recv hK hP (ci := 4) (q0 := 4) rfl rfl)) rfl rfl hl.1 rfl (lv_room (Nat.le_of_ble_eq_true rfl)) dX1_made_35 ⟨Nat.le_of_ble_eq_true rfl, Nat.le_of_ble_eq_true rfl⟩) hS hD hA (fun r_35 u_35 H locs hpo_35 hP hD hS => ?_)
      refine W.widen (k := 0) (n := 0) (Nat.le_of_ble_eq_true rfl) (Nat.le_of_ble_eq_true rfl) ?_
      have e35 : r_35 = fl uX := hpo_35
      subst e35
      have hP : va_P D vwCl (cw dA h0 hE hL hR hX sd cd uE uL uX) H := hP
      have hD : va_D A (cw dA h0 hE hL hR hX sd cd uE uL uX) := hD
      refine lv_if_eq (tgt := 45) hx hb dX1_made_38 (by decide) (fun c_38 => ?_) (fun c_38 => ?_)
      · refine lv_iconst (v := 0) hx hb dX1_made_45 (by decide) ?_
        refine lv_iadd hx hb dX1_made_46 ?_
        exact hend _ _ _ _ 47 _ ((0 + 1) + 0) () dX1_made_47 rfl (Nat.le_of_ble_eq_true rfl) (Nat.le_of_ble_eq_true rfl) hS (by rw [show fl uE = 0 from (fl_01 uE).resolve_right (fun h9 => absurd (c_7.symm.trans h9) (by decide)), show fl uL = 1 from (fl_01 uL).resolve_left c_22, show fl uX = 0 from (fl_01 uX).resolve_right (fun h9 => absurd (c_38.symm.trans h9) (by decide))]) hP hD
      · refine lv_iconst (v := 1) hx hb dX1_made_41 (by decide) ?_
        refine lv_goto (tgt := 46) hx hb dX1_made_42 (by decide) ?_
        refine lv_iadd hx hb dX1_made_46 ?_
        exact hend _ _ _ _ 47 _ ((0 + 1) + 1) () dX1_made_47 rfl (Nat.le_of_ble_eq_true rfl) (Nat.le_of_ble_eq_true rfl) hS (by rw [show fl uE = 0 from (fl_01 uE).resolve_right (fun h9 => absurd (c_7.symm.trans h9) (by decide)), show fl uL = 1 from (fl_01 uL).resolve_left c_22, show fl uX = 1 from (fl_01 uX).resolve_left c_38]) hP hD
  · refine lv_iconst (v := 1) hx hb dX1_made_10 (by decide) ?_
    refine lv_goto (tgt := 15) hx hb dX1_made_11 (by decide) ?_
    refine lv_aload_n hx hb dX1_made_15 rfl (lv_at hl 0 rfl) ?_
    refine va_get (D := D) (ci := 0) (v := .ref hL) (C := RX1) (T := TX1) (N := 6) hx hb hts in_X1 hown hK hP 0 rfl rfl 2 (by decide) (hts _ q69) (fun _ h9 => h9) rfl dX1_made_16 ?_
    refine cl_i (va_runU (As := []) (rest := [.int 1]) ⟨hx, hb, hml, hown, hts⟩ (c_isMade_L l D dA h0 hE hL hR hX sd cd uE uL uX H.size) (va_cwU 0 hts (lw_U q281 q282 q283 q279 q13 q280) rfl rfl rfl rfl (by decide +kernel) ⟨Nat.le_of_ble_eq_true rfl, Nat.le_of_ble_eq_true rfl⟩) (pr_V hK hN hP hD (va_recv hK hP (ci := 2) (q0 := 2) rfl rfl)) rfl rfl hl.1 rfl (lv_room (Nat.le_of_ble_eq_true rfl)) dX1_made_19 ⟨Nat.le_of_ble_eq_true rfl, Nat.le_of_ble_eq_true rfl⟩) hS hD hA (fun r_19 u_19 H locs hpo_19 hP hD hS => ?_)
    refine W.widen (k := 0) (n := 0) (Nat.le_of_ble_eq_true rfl) (Nat.le_of_ble_eq_true rfl) ?_
    have e19 : r_19 = fl uL := hpo_19
    subst e19
    have hP : va_P D vwCl (cw dA h0 hE hL hR hX sd cd uE uL uX) H := hP
    have hD : va_D A (cw dA h0 hE hL hR hX sd cd uE uL uX) := hD
    refine lv_if_eq (tgt := 29) hx hb dX1_made_22 (by decide) (fun c_22 => ?_) (fun c_22 => ?_)
    · refine lv_iconst (v := 0) hx hb dX1_made_29 (by decide) ?_
      refine lv_iadd hx hb dX1_made_30 ?_
      refine lv_aload_n hx hb dX1_made_31 rfl (lv_at hl 0 rfl) ?_
      refine va_get (D := D) (ci := 0) (v := .ref hX) (C := RX1) (T := TX1) (N := 6) hx hb hts in_X1 hown hK hP 0 rfl rfl 4 (by decide) (hts _ q71) (fun _ h9 => h9) rfl dX1_made_32 ?_
      refine cl_i (va_runU (As := []) (rest := [.int (1 + 0)]) ⟨hx, hb, hml, hown, hts⟩ (c_isMade_X l D dA h0 hE hL hR hX sd cd uE uL uX H.size) (va_cwU 0 hts (lw_U q284 q285 q286 q279 q13 q280) rfl rfl rfl rfl (by decide +kernel) ⟨Nat.le_of_ble_eq_true rfl, Nat.le_of_ble_eq_true rfl⟩) (pr_V hK hN hP hD (va_recv hK hP (ci := 4) (q0 := 4) rfl rfl)) rfl rfl hl.1 rfl (lv_room (Nat.le_of_ble_eq_true rfl)) dX1_made_35 ⟨Nat.le_of_ble_eq_true rfl, Nat.le_of_ble_eq_true rfl⟩) hS hD hA (fun r_35 u_35 H locs hpo_35 hP hD hS => ?_)
      refine W.widen (k := 0) (n := 0) (Nat.le_of_ble_eq_true rfl) (Nat.le_of_ble_eq_true rfl) ?_
      have e35 : r_35 = fl uX := hpo_35
      subst e35
      have hP : va_P D vwCl (cw dA h0 hE hL hR hX sd cd uE uL uX) H := hP
      have hD : va_D A (cw dA h0 hE hL hR hX sd cd uE uL uX) := hD
      refine lv_if_eq (tgt := 45) hx hb dX1_made_38 (by decide) (fun c_38 => ?_) (fun c_38 => ?_)
      · refine lv_iconst (v := 0) hx hb dX1_made_45 (by decide) ?_
        refine lv_iadd hx hb dX1_made_46 ?_
        exact hend _ _ _ _ 47 _ ((1 + 0) + 0) () dX1_made_47 rfl (Nat.le_of_ble_eq_true rfl) (Nat.le_of_ble_eq_true rfl) hS (by rw [show fl uE = 1 from (fl_01 uE).resolve_left c_7, show fl uL = 0 from (fl_01 uL).resolve_right (fun h9 => absurd (c_22.symm.trans h9) (by decide)), show fl uX = 0 from (fl_01 uX).resolve_right (fun h9 => absurd (c_38.symm.trans h9) (by decide))]) hP hD
      · refine lv_iconst (v := 1) hx hb dX1_made_41 (by decide) ?_
        refine lv_goto (tgt := 46) hx hb dX1_made_42 (by decide) ?_
        refine lv_iadd hx hb dX1_made_46 ?_
        exact hend _ _ _ _ 47 _ ((1 + 0) + 1) () dX1_made_47 rfl (Nat.le_of_ble_eq_true rfl) (Nat.le_of_ble_eq_true rfl) hS (by rw [show fl uE = 1 from (fl_01 uE).resolve_left c_7, show fl uL = 0 from (fl_01 uL).resolve_right (fun h9 => absurd (c_22.symm.trans h9) (by decide)), show fl uX = 1 from (fl_01 uX).resolve_left c_38]) hP hD
    · refine lv_iconst (v := 1) hx hb dX1_made_25 (by decide) ?_
      refine lv_goto (tgt := 30) hx hb dX1_made_26 (by decide) ?_
      refine lv_iadd hx hb dX1_made_30 ?_
      refine lv_aload_n hx hb dX1_made_31 rfl (lv_at hl 0 rfl) ?_
      refine va_get (D := D) (ci := 0) (v := .ref hX) (C := RX1) (T := TX1) (N := 6) hx hb hts in_X1 hown hK hP 0 rfl rfl 4 (by decide) (hts _ q71) (fun _ h9 => h9) rfl dX1_made_32 ?_
      refine cl_i (va_runU (As := []) (rest := [.int (1 + 1)]) ⟨hx, hb, hml, hown, hts⟩ (c_isMade_X l D dA h0 hE hL hR hX sd cd uE uL uX H.size) (va_cwU 0 hts (lw_U q284 q285 q286 q279 q13 q280) rfl rfl rfl rfl (by decide +kernel) ⟨Nat.le_of_ble_eq_true rfl, Nat.le_of_ble_eq_true rfl⟩) (pr_V hK hN hP hD (va_recv hK hP (ci := 4) (q0 := 4) rfl rfl)) rfl rfl hl.1 rfl (lv_room (Nat.le_of_ble_eq_true rfl)) dX1_made_35 ⟨Nat.le_of_ble_eq_true rfl, Nat.le_of_ble_eq_true rfl⟩) hS hD hA (fun r_35 u_35 H locs hpo_35 hP hD hS => ?_)
      refine W.widen (k := 0) (n := 0) (Nat.le_of_ble_eq_true rfl) (Nat.le_of_ble_eq_true rfl) ?_
      have e35 : r_35 = fl uX := hpo_35
      subst e35
      have hP : va_P D vwCl (cw dA h0 hE hL hR hX sd cd uE uL uX) H := hP
      have hD : va_D A (cw dA h0 hE hL hR hX sd cd uE uL uX) := hD
      refine lv_if_eq (tgt := 45) hx hb dX1_made_38 (by decide) (fun c_38 => ?_) (fun c_38 => ?_)
      · refine lv_iconst (v := 0) hx hb dX1_made_45 (by decide) ?_
        refine lv_iadd hx hb dX1_made_46 ?_
        exact hend _ _ _ _ 47 _ ((1 + 1) + 0) () dX1_made_47 rfl (Nat.le_of_ble_eq_true rfl) (Nat.le_of_ble_eq_true rfl) hS (by rw [show fl uE = 1 from (fl_01 uE).resolve_left c_7, show fl uL = 1 from (fl_01 uL).resolve_left c_22, show fl uX = 0 from (fl_01 uX).resolve_right (fun h9 => absurd (c_38.symm.trans h9) (by decide))]) hP hD
      · refine lv_iconst (v := 1) hx hb dX1_made_41 (by decide) ?_
        refine lv_goto (tgt := 46) hx hb dX1_made_42 (by decide) ?_
        refine lv_iadd hx hb dX1_made_46 ?_
        exact hend _ _ _ _ 47 _ ((1 + 1) + 1) () dX1_made_47 rfl (Nat.le_of_ble_eq_true rfl) (Nat.le_of_ble_eq_true rfl) hS (by rw [show fl uE = 1 from (fl_01 uE).resolve_left c_7, show fl uL = 1 from (fl_01 uL).resolve_left c_22, show fl uX = 1 from (fl_01 uX).resolve_left c_38]) hP hD
end
section
/-! worlds side by side; calls in a part of the caller's cells -/
set_option maxRecDepth 100000
theorem p_left {D : va_G} {w1 w2 : va_W} {H : Heap} (h : va_P D vwCl (w1 ++ w2) H) : va_P D vwCl w1 H := by
  intro k q hk
  have hl := (List.getElem?_eq_some_iff.mp hk).1
  exact h k q (by rw [List.getElem?_append_left hl]; exact hk)
theorem p_right {D : va_G} {w1 w2 : va_W} {H : Heap} (h : va_P D vwCl (w1 ++ w2) H) : va_P D vwCl w2 H := by
  intro k q hk
  exact h (w1.length + k) q (by rw [List.getElem?_append_right (by omega), Nat.add_sub_cancel_left]; exact hk)
theorem d_left {A : Nat → Prop} {w1 w2 : va_W} (h : va_D A (w1 ++ w2)) : va_D A w1 := by
  have key : ∀ (k : Nat) (q : Nat × va_E), w1[k]? = some q → (w1 ++ w2)[k]? = some q := by
    intro k q hk
    have hl := (List.getElem?_eq_some_iff.mp hk).1
    rw [List.getElem?_append_left hl]
    exact hk
  exact ⟨fun i j x y hi hj hxy => h.1 i j x y (key i x hi) (key j y hj) hxy, fun k q hk => h.2 k q (key k q hk)⟩
theorem d_right {A : Nat → Prop} {w1 w2 : va_W} (h : va_D A (w1 ++ w2)) : va_D A w2 := by
  have key : ∀ (k : Nat) (q : Nat × va_E), w2[k]? = some q → (w1 ++ w2)[w1.length + k]? = some q := by
    intro k q hk
    rw [List.getElem?_append_right (by omega), Nat.add_sub_cancel_left]
    exact hk
  refine ⟨fun i j x y hi hj hxy => ?_, fun k q hk => h.2 _ q (key k q hk)⟩
  have := h.1 _ _ x y (key i x hi) (key j y hj) hxy
  omega
theorem d_dis {A : Nat → Prop} {w1 w2 : va_W} (h : va_D A (w1 ++ w2)) (i j : Nat) (x y : Nat × va_E) (hi : w1[i]? = some x) (hj : w2[j]? = some y) : x.1 ≠ y.1 := by
  intro hxy
  have hl := (List.getElem?_eq_some_iff.mp hi).1
  have := h.1 i (w1.length + j) x y (by rw [List.getElem?_append_left hl]; exact hi) (by rw [List.getElem?_append_right (by omega), Nat.add_sub_cancel_left]; exact hj) hxy
  omega
theorem p_swap {D : va_G} {w1 w2 : va_W} {H : Heap} (h : va_P D vwCl (w1 ++ w2) H) : va_P D vwCl (w2 ++ w1) H := (p_right h).app (p_left h)
theorem d_swap {A : Nat → Prop} {w1 w2 : va_W} (h : va_D A (w1 ++ w2)) : va_D A (w2 ++ w1) := (d_right h).app (d_left h) (fun i j x y hx hy => (d_dis h j i y x hy hx).symm)
/-- behind a call in the right part -/
theorem jn {A : Nat → Prop} {D : va_G} {wr wc w1 : va_W} {H H1 : Heap} (hP : va_P D vwCl (wr ++ wc) H) (hD : va_D A (wr ++ wc)) (hk : ∀ q : Nat, q < H.size → ¬ va_A wc H.size q → H1[q]? = H[q]?) (hF : ∀ q, va_A wc H.size q → A q) (hP1 : va_P D vwCl w1 H1) (hD1 : va_D (va_A wc H.size) w1) : va_P D vwCl (wr ++ w1) H1 ∧ va_D A (wr ++ w1) := by
  have apart : ∀ (k : Nat) (q : Nat × va_E), wr[k]? = some q → q.1 < H.size ∧ ¬ va_A wc H.size q.1 := by
    intro k q hq
    have hl := (p_left hP k q hq).lt
    refine ⟨hl, fun z => ?_⟩
    rcases z with ⟨k2, e, h⟩ | h
    · exact d_dis hD k k2 q (q.1, e) hq h rfl
    · omega
  refine ⟨((p_left hP).kept (fun k q hq => hk q.1 (apart k q hq).1 (apart k q hq).2)).app hP1, (d_left hD).app (hD1.weaken (fun _ q _ h => hF q.1 h)) (fun i j x y hx hy hxy => (apart i x hx).2 ?_)⟩
  rw [hxy]
  exact hD1.2 j y hy
section Cl2
variable {p : Program} {l : Launch} {e : Env} {R : Room} {s : State} {m : MethodId} {args : Array Value} {below : List Frame} {meth : Method} {c : Code} {H : Heap} {locs : List Loc} {cells slots : Nat} {Q : State → Prop}
variable {pc : Nat} {ls : Array Slot} {rest st0 : List Value} {a : Array Value} {A : Nat → Prop} {H0 : Heap} {mc ms : Nat} {D : va_G} {S : Type} {w wr wc : va_W}
theorem cl0_v {post : S → Prop} {Wf : S → va_W} (hr : va_Run p l e R s m args below meth c H locs cells slots mc ms (F0 m pc ls st0) rest (va_Qv post (CE D [] Wf H.size) (va_A [] H.size) a) (va_A [] H.size)) (hS : va_S A H0 H locs) (hP : va_P D vwCl w H) (hA : ∀ q, H0.size ≤ q → A q)
    (kk : ∀ (u : S) (H1 : Heap) (locs1 : List Loc), post u → va_P D vwCl w H1 → va_S A H0 H1 locs1 → W p l e R s m args below meth c H1 locs1 (cells + mc) (slots + ms) Q (F0 m (pc + 3) ls rest)) : W p l e R s m args below meth c H locs cells slots Q (F0 m pc ls st0) := by
  have hF := a_own (d_nil (A := A)) hS hA
  refine va_callv hr hS (fun q _ h => hF q h) hF (fun u t H1 locs1 ht hvm hpo hB hz hk hS1 => ?_)
  exact kk u H1 locs1 hpo (p_stay hP hk) hS1
theorem cla_v {post : S → Prop} {Wf : S → va_W} (hr : va_Run p l e R s m args below meth c H locs cells slots mc ms (F0 m pc ls st0) rest (va_Qv post (CE D wc Wf H.size) (va_A wc H.size) a) (va_A wc H.size)) (hS : va_S A H0 H locs) (hP : va_P D vwCl (wr ++ wc) H) (hD : va_D A (wr ++ wc)) (hA : ∀ q, H0.size ≤ q → A q)
    (kk : ∀ (u : S) (H1 : Heap) (locs1 : List Loc), post u → va_P D vwCl (wr ++ Wf u) H1 → va_D A (wr ++ Wf u) → va_S A H0 H1 locs1 → W p l e R s m args below meth c H1 locs1 (cells + mc) (slots + ms) Q (F0 m (pc + 3) ls rest)) : W p l e R s m args below meth c H locs cells slots Q (F0 m pc ls st0) := by
  have hF := a_own (d_right hD) hS hA
  refine va_callv hr hS (fun q _ h => hF q h) hF (fun u t H1 locs1 ht hvm hpo hB hz hk hS1 => ?_)
  obtain ⟨hP1, hD1⟩ := hB
  rw [ht] at hP1
  obtain ⟨g1, g2⟩ := jn hP hD hk hF hP1 hD1
  exact kk u H1 locs1 hpo g1 g2 hS1
theorem cla_d {post : UInt64 → S → Prop} {Wf : S → va_W} (hr : va_Run p l e R s m args below meth c H locs cells slots mc ms (F0 m pc ls st0) rest (va_Qd post (CE D wc Wf H.size) (va_A wc H.size) a) (va_A wc H.size)) (hS : va_S A H0 H locs) (hP : va_P D vwCl (wr ++ wc) H) (hD : va_D A (wr ++ wc)) (hA : ∀ q, H0.size ≤ q → A q)
    (kk : ∀ (r : UInt64) (u : S) (H1 : Heap) (locs1 : List Loc), post r u → va_P D vwCl (wr ++ Wf u) H1 → va_D A (wr ++ Wf u) → va_S A H0 H1 locs1 → W p l e R s m args below meth c H1 locs1 (cells + mc) (slots + ms) Q (F0 m (pc + 3) ls (.double r :: rest))) : W p l e R s m args below meth c H locs cells slots Q (F0 m pc ls st0) := by
  have hF := a_own (d_right hD) hS hA
  refine va_calld hr hS (fun q _ h => hF q h) hF (fun r u t H1 locs1 ht hvm hpo hB hz hk hS1 => ?_)
  obtain ⟨hP1, hD1⟩ := hB
  rw [ht] at hP1
  obtain ⟨g1, g2⟩ := jn hP hD hk hF hP1 hD1
  exact kk r u H1 locs1 hpo g1 g2 hS1
theorem cla_i {post : Int32 → S → Prop} {Wf : S → va_W} (hr : va_Run p l e R s m args below meth c H locs cells slots mc ms (F0 m pc ls st0) rest (va_Qi post (CE D wc Wf H.size) (va_A wc H.size) a) (va_A wc H.size)) (hS : va_S A H0 H locs) (hP : va_P D vwCl (wr ++ wc) H) (hD : va_D A (wr ++ wc)) (hA : ∀ q, H0.size ≤ q → A q)
    (kk : ∀ (r : Int32) (u : S) (H1 : Heap) (locs1 : List Loc), post r u → va_P D vwCl (wr ++ Wf u) H1 → va_D A (wr ++ Wf u) → va_S A H0 H1 locs1 → W p l e R s m args below meth c H1 locs1 (cells + mc) (slots + ms) Q (F0 m (pc + 3) ls (.int r :: rest))) : W p l e R s m args below meth c H locs cells slots Q (F0 m pc ls st0) := by
  have hF := a_own (d_right hD) hS hA
  refine va_calli hr hS (fun q _ h => hF q h) hF (fun r u t H1 locs1 ht hvm hpo hB hz hk hS1 => ?_)
  obtain ⟨hP1, hD1⟩ := hB
  rw [ht] at hP1
  obtain ⟨g1, g2⟩ := jn hP hD hk hF hP1 hD1
  exact kk r u H1 locs1 hpo g1 g2 hS1
end Cl2
end
section
abbrev rm_c_init_F : Room := { frames := 1, cells := 0, slots := 0, locals := 12 }
set_option maxHeartbeats 4000000 in
set_option maxRecDepth 100000 in
theorem c_init_F (l : Launch) (D : va_G) (dA : ClassId) (h : Nat) : CMv l D dA yX2_init cX2_init 1 rm_c_init_F [.ref h] [] (fun _ : Unit => []) (fun _ => True) := by
  refine st_v (by decide) (Nat.le_of_ble_eq_true rfl) ?_
  intro p e s m below meth c A Q H locs ls hCF hin hK hN hA hP hD hS hl hend
  obtain ⟨hx, hb, hml, hown, hts⟩ := hCF
  have hown : s.vm.findClass RX2 = some m.cls := hown
  have hl : lv_has ls 1 [(0, .ref h)] := hl
  refine lv_aload_n hx hb dX2_init_0 rfl (lv_at hl 0 rfl) ?_
  refine W.objInit hx hb hown (hts _ q35) (hts _ q25) (hts _ q26) rfl (by rw [hml]; exact hl.1) rfl dX2_init_1 (Nat.le_of_ble_eq_true rfl) (Nat.le_of_ble_eq_true rfl) ?_
  refine W.eq (g2 := F0 m 4 ls []) rfl ?_
  exact hend _ _ _ _ 4 _ () dX2_init_4 (Nat.le_of_ble_eq_true rfl) (Nat.le_of_ble_eq_true rfl) hS trivial p_nil d_nil
abbrev rm_c_init_E : Room := { frames := 2, cells := 0, slots := 0, locals := 32 }
set_option maxHeartbeats 4000000 in
set_option maxRecDepth 100000 in
theorem c_init_E (l : Launch) (D : va_G) (dA : ClassId) (hE : Nat) : CMv l D dA yX3_init cX3_init 1 rm_c_init_E [.ref hE] [] (fun _ : Unit => []) (fun _ => True) := by
  refine st_v (by decide) (Nat.le_of_ble_eq_true rfl) ?_
  intro p e s m below meth c A Q H locs ls hCF hin hK hN hA hP hD hS hl hend
  obtain ⟨hx, hb, hml, hown, hts⟩ := hCF
  have hown : s.vm.findClass RX3 = some m.cls := hown
  have hl : lv_has ls 1 [(0, .ref hE)] := hl
  refine lv_aload_n hx hb dX3_init_0 rfl (lv_at hl 0 rfl) ?_
  refine cl0_v (va_runIN (As := []) (rest := []) ⟨hx, hb, hml, hown, hts⟩ (c_init_F l D dA hE H.size) ⟨va_cnB 0 hts (lw_meth q34) rfl rfl rfl (hN.at 1 rfl) (hts _ q13) (by decide +kernel) ⟨Nat.le_of_ble_eq_true rfl, Nat.le_of_ble_eq_true rfl⟩, rfl, hts _ q33⟩ (pr_S hK hN p_nil (d_nil (A := A))) rfl rfl hl.1 rfl (lv_room (Nat.le_of_ble_eq_true rfl)) dX3_init_1 ⟨Nat.le_of_ble_eq_true rfl, Nat.le_of_ble_eq_true rfl⟩) hS (p_nil (D := D)) hA (fun u_1 H locs hpo_1 _ hS => ?_)
  refine W.widen (k := 0) (n := 0) (Nat.le_of_ble_eq_true rfl) (Nat.le_of_ble_eq_true rfl) ?_
  exact hend _ _ _ _ 4 _ () dX3_init_4 (Nat.le_of_ble_eq_true rfl) (Nat.le_of_ble_eq_true rfl) hS trivial p_nil d_nil
abbrev rm_c_init_L : Room := { frames := 2, cells := 0, slots := 0, locals := 32 }
set_option maxHeartbeats 4000000 in
set_option maxRecDepth 100000 in
theorem c_init_L (l : Launch) (D : va_G) (dA : ClassId) (hL : Nat) : CMv l D dA yX4_init cX4_init 1 rm_c_init_L [.ref hL] [] (fun _ : Unit => []) (fun _ => True) := by
  refine st_v (by decide) (Nat.le_of_ble_eq_true rfl) ?_
  intro p e s m below meth c A Q H locs ls hCF hin hK hN hA hP hD hS hl hend
  obtain ⟨hx, hb, hml, hown, hts⟩ := hCF
  have hown : s.vm.findClass RX4 = some m.cls := hown
  have hl : lv_has ls 1 [(0, .ref hL)] := hl
  refine lv_aload_n hx hb dX4_init_0 rfl (lv_at hl 0 rfl) ?_
  refine cl0_v (va_runIN (As := []) (rest := []) ⟨hx, hb, hml, hown, hts⟩ (c_init_F l D dA hL H.size) ⟨va_cnB 0 hts (lw_meth q34) rfl rfl rfl (hN.at 3 rfl) (hts _ q13) (by decide +kernel) ⟨Nat.le_of_ble_eq_true rfl, Nat.le_of_ble_eq_true rfl⟩, rfl, hts _ q33⟩ (pr_S hK hN p_nil (d_nil (A := A))) rfl rfl hl.1 rfl (lv_room (Nat.le_of_ble_eq_true rfl)) dX4_init_1 ⟨Nat.le_of_ble_eq_true rfl, Nat.le_of_ble_eq_true rfl⟩) hS (p_nil (D := D)) hA (fun u_1 H locs hpo_1 _ hS => ?_)
  refine W.widen (k := 0) (n := 0) (Nat.le_of_ble_eq_true rfl) (Nat.le_of_ble_eq_true rfl) ?_
  exact hend _ _ _ _ 4 _ () dX4_init_4 (Nat.le_of_ble_eq_true rfl) (Nat.le_of_ble_eq_true rfl) hS trivial p_nil d_nil
abbrev rm_c_init_R : Room := { frames := 2, cells := 0, slots := 0, locals := 32 }
set_option maxHeartbeats 4000000 in
set_option maxRecDepth 100000 in
theorem c_init_R (l : Launch) (D : va_G) (dA : ClassId) (hR : Nat) : CMv l D dA yX5_init cX5_init 1 rm_c_init_R [.ref hR] [] (fun _ : Unit => []) (fun _ => True) := by
  refine st_v (by decide) (Nat.le_of_ble_eq_true rfl) ?_
  intro p e s m below meth c A Q H locs ls hCF hin hK hN hA hP hD hS hl hend
  obtain ⟨hx, hb, hml, hown, hts⟩ := hCF
  have hown : s.vm.findClass RX5 = some m.cls := hown
  have hl : lv_has ls 1 [(0, .ref hR)] := hl
  refine lv_aload_n hx hb dX5_init_0 rfl (lv_at hl 0 rfl) ?_
  refine cl0_v (va_runIN (As := []) (rest := []) ⟨hx, hb, hml, hown, hts⟩ (c_init_F l D dA hR H.size) ⟨va_cnB 0 hts (lw_meth q34) rfl rfl rfl (hN.at 5 rfl) (hts _ q13) (by decide +kernel) ⟨Nat.le_of_ble_eq_true rfl, Nat.le_of_ble_eq_true rfl⟩, rfl, hts _ q33⟩ (pr_S hK hN p_nil (d_nil (A := A))) rfl rfl hl.1 rfl (lv_room (Nat.le_of_ble_eq_true rfl)) dX5_init_1 ⟨Nat.le_of_ble_eq_true rfl, Nat.le_of_ble_eq_true rfl⟩) hS (p_nil (D := D)) hA (fun u_1 H locs hpo_1 _ hS => ?_)
  refine W.widen (k := 0) (n := 0) (Nat.le_of_ble_eq_true rfl) (Nat.le_of_ble_eq_true rfl) ?_
  exact hend _ _ _ _ 4 _ () dX5_init_4 (Nat.le_of_ble_eq_true rfl) (Nat.le_of_ble_eq_true rfl) hS trivial p_nil d_nil
abbrev rm_c_init_X : Room := { frames := 2, cells := 0, slots := 0, locals := 32 }
set_option maxHeartbeats 4000000 in
set_option maxRecDepth 100000 in
theorem c_init_X (l : Launch) (D : va_G) (dA : ClassId) (hX hE : Nat) : CMv l D dA yX6_init cX6_init 2 rm_c_init_X [.ref hX, .ref hE] ([(hX, .inr (4, [.null, .null]))]) (fun _ : Unit => [(hX, .inr (4, [.null, .ref hE]))]) (fun _ => True) := by
  refine st_v (by decide) (Nat.le_of_ble_eq_true rfl) ?_
  intro p e s m below meth c A Q H locs ls hCF hin hK hN hA hP hD hS hl hend
  obtain ⟨hx, hb, hml, hown, hts⟩ := hCF
  have hown : s.vm.findClass RX6 = some m.cls := hown
  have hl : lv_has ls 2 [(0, .ref hX), (1, .ref hE)] := hl
  have hin : meth.name = "<init>" := hin
  refine lv_aload_n hx hb dX6_init_0 rfl (lv_at hl 0 rfl) ?_
  refine cl0_v (va_runIN (As := []) (rest := []) ⟨hx, hb, hml, hown, hts⟩ (c_init_F l D dA hX H.size) ⟨va_cnB 0 hts (lw_meth q34) rfl rfl rfl (hN.at 6 rfl) (hts _ q13) (by decide +kernel) ⟨Nat.le_of_ble_eq_true rfl, Nat.le_of_ble_eq_true rfl⟩, rfl, hts _ q33⟩ (pr_S hK hN p_nil (d_nil (A := A))) rfl rfl hl.1 rfl (lv_room (Nat.le_of_ble_eq_true rfl)) dX6_init_1 ⟨Nat.le_of_ble_eq_true rfl, Nat.le_of_ble_eq_true rfl⟩) hS hP hA (fun u_1 H locs hpo_1 hP hS => ?_)
  refine W.widen (k := 0) (n := 0) (Nat.le_of_ble_eq_true rfl) (Nat.le_of_ble_eq_true rfl) ?_
  have hP : va_P D vwCl ([(hX, .inr (4, [.null, .null]))]) H := hP
  refine lv_aload_n hx hb dX6_init_4 rfl (lv_at hl 0 rfl) ?_
  refine lv_aload_n hx hb dX6_init_5 rfl (lv_at hl 1 rfl) ?_
  refine va_putF (D := D) (ci := 4) (v := .ref hE) (ty := (.object "BrewFunctions$Exponential")) (C := RX6) (T := TX6) (N := 2) hx hb hts in_X6 tyX6 tyX6_ok nmX6 hown hK hP hD hS 0 rfl rfl 1 (by decide) (hts _ q62) (fun _ h9 => h9) rfl hin rfl (by decide +kernel) rfl rfl (Nat.le_of_ble_eq_true rfl) dX6_init_6 (fun H locs hP hD hS => ?_)
  have hP : va_P D vwCl ([(hX, .inr (4, [.null, .ref hE]))]) H := hP
  have hD : va_D A ([(hX, .inr (4, [.null, .ref hE]))]) := hD
  exact hend _ _ _ _ 9 _ () dX6_init_9 (Nat.le_of_ble_eq_true rfl) (Nat.le_of_ble_eq_true rfl) hS trivial hP hD
abbrev rm_c_init_B : Room := { frames := 3, cells := 4, slots := 5, locals := 53 }
set_option maxHeartbeats 4000000 in
set_option maxRecDepth 100000 in
theorem c_init_B (l : Launch) (D : va_G) (dA : ClassId) (h0 : Nat) (sd : Int64) : CMv l D dA yX1_init cX1_init 3 rm_c_init_B [.ref h0, .long sd] ([(h0, .inr (0, [.long 0, .null, .null, .null, .null, .int 0]))]) (fun u : Nat × Nat × Nat × Nat => cw dA h0 u.1 u.2.1 u.2.2.1 u.2.2.2 sd 0 none none none) (fun _ => True) := by
  refine st_v (by decide) (Nat.le_of_ble_eq_true rfl) ?_
  intro p e s m below meth c A Q H locs ls hCF hin hK hN hA hP hD hS hl hend
  obtain ⟨hx, hb, hml, hown, hts⟩ := hCF
  have hown : s.vm.findClass RX1 = some m.cls := hown
  have hl : lv_has ls 3 [(0, .ref h0), (1, .long sd)] := hl
  have hin : meth.name = "<init>" := hin
  refine lv_aload_n hx hb dX1_init_0 rfl (lv_at hl 0 rfl) ?_
  refine W.objInit hx hb hown (hts _ q24) (hts _ q25) (hts _ q26) rfl (by rw [hml]; exact hl.1) rfl dX1_init_1 (Nat.le_of_ble_eq_true rfl) (Nat.le_of_ble_eq_true rfl) ?_
  refine W.eq (g2 := F0 m 4 ls []) rfl ?_
  refine lv_aload_n hx hb dX1_init_4 rfl (lv_at hl 0 rfl) ?_
  refine va_new (ci := 1) (fs := [.null]) (C := RX3) (T := TX3) (N := 1) hx hb hts in_X3 tyX3 tyX3_ok hown (hts _ q27) (hts _ q28) (hts _ q14) hK hP hD hS hA rfl (fun j hj => by rcases (show j = 0 by omega) with rfl <;> rfl) (Nat.le_of_ble_eq_true rfl) (Nat.le_of_ble_eq_true rfl) dX1_init_5 (fun a_5 H hP hD hS => ?_)
  refine W.widen (k := 1) (n := 1) (Nat.le_of_ble_eq_true rfl) (Nat.le_of_ble_eq_true rfl) ?_
  have hP : va_P D vwCl ([(h0, .inr (0, [.long 0, .null, .null, .null, .null, .int 0])), (a_5, .inr (1, [.null]))]) H := hP
  have hD : va_D A ([(h0, .inr (0, [.long 0, .null, .null, .null, .null, .int 0])), (a_5, .inr (1, [.null]))]) := hD
  refine lv_dup hx hb dX1_init_8 rfl ?_
  refine cl0_v (va_runIN (As := []) (rest := [.ref a_5, .ref h0]) ⟨hx, hb, hml, hown, hts⟩ (c_init_E l D dA a_5 H.size) ⟨va_cnB 0 hts (lw_meth q31) rfl rfl rfl (hN.at 0 rfl) (hts _ q14) (by decide +kernel) ⟨Nat.le_of_ble_eq_true rfl, Nat.le_of_ble_eq_true rfl⟩, rfl, hts _ q30⟩ (pr_S hK hN p_nil (d_nil (A := A))) rfl rfl hl.1 rfl (lv_room (Nat.le_of_ble_eq_true rfl)) dX1_init_9 ⟨Nat.le_of_ble_eq_true rfl, Nat.le_of_ble_eq_true rfl⟩) hS hP hA (fun u_9 H locs hpo_9 hP hS => ?_)
  refine W.widen (k := 1) (n := 1) (Nat.le_of_ble_eq_true rfl) (Nat.le_of_ble_eq_true rfl) ?_
  have hP : va_P D vwCl ([(h0, .inr (0, [.long 0, .null, .null, .null, .null, .int 0])), (a_5, .inr (1, [.null]))]) H := hP
  refine va_putF (D := D) (ci := 0) (v := .ref a_5) (ty := (.object "BrewFunctions$Exponential")) (C := RX1) (T := TX1) (N := 6) hx hb hts in_X1 tyX1 tyX1_ok nmX1 hown hK hP hD hS 0 rfl rfl 1 (by decide) (hts _ q68) (fun _ h9 => h9) rfl hin rfl (by decide +kernel) rfl rfl (Nat.le_of_ble_eq_true rfl) dX1_init_12 (fun H locs hP hD hS => ?_)
  have hP : va_P D vwCl ([(h0, .inr (0, [.long 0, .ref a_5, .null, .null, .null, .int 0])), (a_5, .inr (1, [.null]))]) H := hP
  have hD : va_D A ([(h0, .inr (0, [.long 0, .ref a_5, .null, .null, .null, .int 0])), (a_5, .inr (1, [.null]))]) := hD
  refine lv_aload_n hx hb dX1_init_15 rfl (lv_at hl 0 rfl) ?_
  refine va_new (ci := 2) (fs := [.null]) (C := RX4) (T := TX4) (N := 1) hx hb hts in_X4 tyX4 tyX4_ok hown (hts _ q40) (hts _ q41) (hts _ q15) hK hP hD hS hA rfl (fun j hj => by rcases (show j = 0 by omega) with rfl <;> rfl) (Nat.le_of_ble_eq_true rfl) (Nat.le_of_ble_eq_true rfl) dX1_init_16 (fun a_16 H hP hD hS => ?_)
  refine W.widen (k := 2) (n := 2) (Nat.le_of_ble_eq_true rfl) (Nat.le_of_ble_eq_true rfl) ?_
  have hP : va_P D vwCl ([(h0, .inr (0, [.long 0, .ref a_5, .null, .null, .null, .int 0])), (a_5, .inr (1, [.null])), (a_16, .inr (2, [.null]))]) H := hP
  have hD : va_D A ([(h0, .inr (0, [.long 0, .ref a_5, .null, .null, .null, .int 0])), (a_5, .inr (1, [.null])), (a_16, .inr (2, [.null]))]) := hD
  refine lv_dup hx hb dX1_init_19 rfl ?_
  refine cl0_v (va_runIN (As := []) (rest := [.ref a_16, .ref h0]) ⟨hx, hb, hml, hown, hts⟩ (c_init_L l D dA a_16 H.size) ⟨va_cnB 0 hts (lw_meth q44) rfl rfl rfl (hN.at 2 rfl) (hts _ q15) (by decide +kernel) ⟨Nat.le_of_ble_eq_true rfl, Nat.le_of_ble_eq_true rfl⟩, rfl, hts _ q43⟩ (pr_S hK hN p_nil (d_nil (A := A))) rfl rfl hl.1 rfl (lv_room (Nat.le_of_ble_eq_true rfl)) dX1_init_20 ⟨Nat.le_of_ble_eq_true rfl, Nat.le_of_ble_eq_true rfl⟩) hS hP hA (fun u_20 H locs hpo_20 hP hS => ?_)
  refine W.widen (k := 2) (n := 2) (Nat.le_of_ble_eq_true rfl) (Nat.le_of_ble_eq_true rfl) ?_
  have hP : va_P D vwCl ([(h0, .inr (0, [.long 0, .ref a_5, .null, .null, .null, .int 0])), (a_5, .inr (1, [.null])), (a_16, .inr (2, [.null]))]) H := hP
  refine va_putF (D := D) (ci := 0) (v := .ref a_16) (ty := (.object "BrewFunctions$Logarithm")) (C := RX1) (T := TX1) (N := 6) hx hb hts in_X1 tyX1 tyX1_ok nmX1 hown hK hP hD hS 0 rfl rfl 2 (by decide) (hts _ q69) (fun _ h9 => h9) rfl hin rfl (by decide +kernel) rfl rfl (Nat.le_of_ble_eq_true rfl) dX1_init_23 (fun H locs hP hD hS => ?_)
  have hP : va_P D vwCl ([(h0, .inr (0, [.long 0, .ref a_5, .ref a_16, .null, .null, .int 0])), (a_5, .inr (1, [.null])), (a_16, .inr (2, [.null]))]) H := hP
  have hD : va_D A ([(h0, .inr (0, [.long 0, .ref a_5, .ref a_16, .null, .null, .int 0])), (a_5, .inr (1, [.null])), (a_16, .inr (2, [.null]))]) := hD
  refine lv_aload_n hx hb dX1_init_26 rfl (lv_at hl 0 rfl) ?_
  refine va_new (ci := 3) (fs := [.null]) (C := RX5) (T := TX5) (N := 1) hx hb hts in_X5 tyX5 tyX5_ok hown (hts _ q48) (hts _ q49) (hts _ q16) hK hP hD hS hA rfl (fun j hj => by rcases (show j = 0 by omega) with rfl <;> rfl) (Nat.le_of_ble_eq_true rfl) (Nat.le_of_ble_eq_true rfl) dX1_init_27 (fun a_27 H hP hD hS => ?_)
  refine W.widen (k := 3) (n := 3) (Nat.le_of_ble_eq_true rfl) (Nat.le_of_ble_eq_true rfl) ?_
  have hP : va_P D vwCl ([(h0, .inr (0, [.long 0, .ref a_5, .ref a_16, .null, .null, .int 0])), (a_5, .inr (1, [.null])), (a_16, .inr (2, [.null])), (a_27, .inr (3, [.null]))]) H := hP
  have hD : va_D A ([(h0, .inr (0, [.long 0, .ref a_5, .ref a_16, .null, .null, .int 0])), (a_5, .inr (1, [.null])), (a_16, .inr (2, [.null])), (a_27, .inr (3, [.null]))]) := hD
  refine lv_dup hx hb dX1_init_30 rfl ?_
  refine cl0_v (va_runIN (As := []) (rest := [.ref a_27, .ref h0]) ⟨hx, hb, hml, hown, hts⟩ (c_init_R l D dA a_27 H.size) ⟨va_cnB 0 hts (lw_meth q52) rfl rfl rfl (hN.at 4 rfl) (hts _ q16) (by decide +kernel) ⟨Nat.le_of_ble_eq_true rfl, Nat.le_of_ble_eq_true rfl⟩, rfl, hts _ q51⟩ (pr_S hK hN p_nil (d_nil (A := A))) rfl rfl hl.1 rfl (lv_room (Nat.le_of_ble_eq_true rfl)) dX1_init_31 ⟨Nat.le_of_ble_eq_true rfl, Nat.le_of_ble_eq_true rfl⟩) hS hP hA (fun u_31 H locs hpo_31 hP hS => ?_)
  refine W.widen (k := 3) (n := 3) (Nat.le_of_ble_eq_true rfl) (Nat.le_of_ble_eq_true rfl) ?_
  have hP : va_P D vwCl ([(h0, .inr (0, [.long 0, .ref a_5, .ref a_16, .null, .null, .int 0])), (a_5, .inr (1, [.null])), (a_16, .inr (2, [.null])), (a_27, .inr (3, [.null]))]) H := hP
  refine va_putF (D := D) (ci := 0) (v := .ref a_27) (ty := (.object "BrewFunctions$Root")) (C := RX1) (T := TX1) (N := 6) hx hb hts in_X1 tyX1 tyX1_ok nmX1 hown hK hP hD hS 0 rfl rfl 3 (by decide) (hts _ q70) (fun _ h9 => h9) rfl hin rfl (by decide +kernel) rfl rfl (Nat.le_of_ble_eq_true rfl) dX1_init_34 (fun H locs hP hD hS => ?_)
  have hP : va_P D vwCl ([(h0, .inr (0, [.long 0, .ref a_5, .ref a_16, .ref a_27, .null, .int 0])), (a_5, .inr (1, [.null])), (a_16, .inr (2, [.null])), (a_27, .inr (3, [.null]))]) H := hP
  have hD : va_D A ([(h0, .inr (0, [.long 0, .ref a_5, .ref a_16, .ref a_27, .null, .int 0])), (a_5, .inr (1, [.null])), (a_16, .inr (2, [.null])), (a_27, .inr (3, [.null]))]) := hD
  refine lv_aload_n hx hb dX1_init_37 rfl (lv_at hl 0 rfl) ?_
  refine va_new (ci := 4) (fs := [.null, .null]) (C := RX6) (T := TX6) (N := 2) hx hb hts in_X6 tyX6 tyX6_ok hown (hts _ q56) (hts _ q57) (hts _ q17) hK hP hD hS hA rfl (fun j hj => by rcases (show j = 0 ∨ j = 1 by omega) with rfl | rfl <;> rfl) (Nat.le_of_ble_eq_true rfl) (Nat.le_of_ble_eq_true rfl) dX1_init_38 (fun a_38 H hP hD hS => ?_)
  refine W.widen (k := 4) (n := 5) (Nat.le_of_ble_eq_true rfl) (Nat.le_of_ble_eq_true rfl) ?_
  have hP : va_P D vwCl ([(h0, .inr (0, [.long 0, .ref a_5, .ref a_16, .ref a_27, .null, .int 0])), (a_5, .inr (1, [.null])), (a_16, .inr (2, [.null])), (a_27, .inr (3, [.null])), (a_38, .inr (4, [.null, .null]))]) H := hP
  have hD : va_D A ([(h0, .inr (0, [.long 0, .ref a_5, .ref a_16, .ref a_27, .null, .int 0])), (a_5, .inr (1, [.null])), (a_16, .inr (2, [.null])), (a_27, .inr (3, [.null])), (a_38, .inr (4, [.null, .null]))]) := hD
  refine lv_dup hx hb dX1_init_41 rfl ?_
  refine lv_aload_n hx hb dX1_init_42 rfl (lv_at hl 0 rfl) ?_
  refine va_get (D := D) (ci := 0) (v := .ref a_5) (C := RX1) (T := TX1) (N := 6) hx hb hts in_X1 hown hK hP 0 rfl rfl 1 (by decide) (hts _ q68) (fun _ h9 => h9) rfl dX1_init_43 ?_
  refine cla_v (wr := [(h0, .inr (0, [.long 0, .ref a_5, .ref a_16, .ref a_27, .null, .int 0])), (a_5, .inr (1, [.null])), (a_16, .inr (2, [.null])), (a_27, .inr (3, [.null]))]) (wc := [(a_38, .inr (4, [.null, .null]))]) (va_runI (As := [.ref a_5]) (rest := [.ref a_38, .ref h0]) ⟨hx, hb, hml, hown, hts⟩ (c_init_X l D dA a_38 a_5 H.size) (cwI 1 hts (lw_meth q60) rfl rfl rfl (hts _ q17) (hts _ q58) (hts _ q59) rfl (by decide +kernel) ⟨Nat.le_of_ble_eq_true rfl, Nat.le_of_ble_eq_true rfl⟩) (pr_S hK hN (p_right (w1 := [(h0, .inr (0, [.long 0, .ref a_5, .ref a_16, .ref a_27, .null, .int 0])), (a_5, .inr (1, [.null])), (a_16, .inr (2, [.null])), (a_27, .inr (3, [.null]))]) (w2 := [(a_38, .inr (4, [.null, .null]))]) hP) (d_right (w1 := [(h0, .inr (0, [.long 0, .ref a_5, .ref a_16, .ref a_27, .null, .int 0])), (a_5, .inr (1, [.null])), (a_16, .inr (2, [.null])), (a_27, .inr (3, [.null]))]) (w2 := [(a_38, .inr (4, [.null, .null]))]) hD)) rfl rfl hl.1 rfl (lv_room (Nat.le_of_ble_eq_true rfl)) dX1_init_46 ⟨Nat.le_of_ble_eq_true rfl, Nat.le_of_ble_eq_true rfl⟩) hS hP hD hA (fun u_46 H locs hpo_46 hP hD hS => ?_)
  refine W.widen (k := 4) (n := 5) (Nat.le_of_ble_eq_true rfl) (Nat.le_of_ble_eq_true rfl) ?_
  have hP : va_P D vwCl ([(h0, .inr (0, [.long 0, .ref a_5, .ref a_16, .ref a_27, .null, .int 0])), (a_5, .inr (1, [.null])), (a_16, .inr (2, [.null])), (a_27, .inr (3, [.null])), (a_38, .inr (4, [.null, .ref a_5]))]) H := hP
  have hD : va_D A ([(h0, .inr (0, [.long 0, .ref a_5, .ref a_16, .ref a_27, .null, .int 0])), (a_5, .inr (1, [.null])), (a_16, .inr (2, [.null])), (a_27, .inr (3, [.null])), (a_38, .inr (4, [.null, .ref a_5]))]) := hD
  refine va_putF (D := D) (ci := 0) (v := .ref a_38) (ty := (.object "BrewFunctions$ErrorPart")) (C := RX1) (T := TX1) (N := 6) hx hb hts in_X1 tyX1 tyX1_ok nmX1 hown hK hP hD hS 0 rfl rfl 4 (by decide) (hts _ q71) (fun _ h9 => h9) rfl hin rfl (by decide +kernel) rfl rfl (Nat.le_of_ble_eq_true rfl) dX1_init_49 (fun H locs hP hD hS => ?_)
  have hP : va_P D vwCl ([(h0, .inr (0, [.long 0, .ref a_5, .ref a_16, .ref a_27, .ref a_38, .int 0])), (a_5, .inr (1, [.null])), (a_16, .inr (2, [.null])), (a_27, .inr (3, [.null])), (a_38, .inr (4, [.null, .ref a_5]))]) H := hP
  have hD : va_D A ([(h0, .inr (0, [.long 0, .ref a_5, .ref a_16, .ref a_27, .ref a_38, .int 0])), (a_5, .inr (1, [.null])), (a_16, .inr (2, [.null])), (a_27, .inr (3, [.null])), (a_38, .inr (4, [.null, .ref a_5]))]) := hD
  refine lv_aload_n hx hb dX1_init_52 rfl (lv_at hl 0 rfl) ?_
  refine lv_lload_n hx hb dX1_init_53 rfl (lv_at hl 1 rfl) ?_
  refine va_putF (D := D) (ci := 0) (v := .long sd) (ty := .long) (C := RX1) (T := TX1) (N := 6) hx hb hts in_X1 tyX1 tyX1_ok nmX1 hown hK hP hD hS 0 rfl rfl 0 (by decide) (hts _ q67) (fun _ h9 => h9) rfl hin rfl (by decide +kernel) rfl rfl (Nat.le_of_ble_eq_true rfl) dX1_init_54 (fun H locs hP hD hS => ?_)
  have hP : va_P D vwCl ([(h0, .inr (0, [.long sd, .ref a_5, .ref a_16, .ref a_27, .ref a_38, .int 0])), (a_5, .inr (1, [.null])), (a_16, .inr (2, [.null])), (a_27, .inr (3, [.null])), (a_38, .inr (4, [.null, .ref a_5]))]) H := hP
  have hD : va_D A ([(h0, .inr (0, [.long sd, .ref a_5, .ref a_16, .ref a_27, .ref a_38, .int 0])), (a_5, .inr (1, [.null])), (a_16, .inr (2, [.null])), (a_27, .inr (3, [.null])), (a_38, .inr (4, [.null, .ref a_5]))]) := hD
  exact hend _ _ _ _ 57 _ (a_5, a_16, a_27, a_38) dX1_init_57 (Nat.le_of_ble_eq_true rfl) (Nat.le_of_ble_eq_true rfl) hS trivial hP hD
end
section
/-! the twin's inner functions -/
def t_e (x : UInt64) : UInt64 := if e_c x = 0 then s_exp x else FP.dconst0
def l_c (x : UInt64) : Int32 := if 0 ≤ Op.cmpValue (FP.dcmp x FP.dconst0) CmpOp.g then (if Op.cmpValue (FP.dcmp x FP.dconst0) CmpOp.l = 0 then 2 else 0) else 3
def t_l (x : UInt64) : UInt64 := if l_c x = 0 then s_log x else FP.dconst0
def l_f (x : UInt64) (f : Int32) : Int32 := if l_c x = 0 then 1 else f
def r_c (x : UInt64) : Int32 := if 0 ≤ Op.cmpValue (FP.dcmp x FP.dconst0) CmpOp.g then 0 else 3
def t_r (x : UInt64) : UInt64 := if r_c x = 0 then s_root x else FP.dconst0
theorem o_1 (n : Nat) : nI (2 * (n + 1)) + (-1) = nI (2 * n + 1) := by
  rw [show 2 * (n + 1) = 2 * n + 1 + 1 by omega]
  exact pk_m1 _
theorem o_2 (n : Nat) : nI (2 * (n + 1)) + (-1) + (-2) = nI (2 * n) + (-1) := by
  rw [o_1, show (2 * n + 1 : Nat) = (2 * n) + 1 from rfl, ← nI_1, Int32.add_assoc, show (1 : Int32) + (-2) = -1 by decide]
theorem sx {a : UInt64} (h : DF a) : Op.cmpValue (FP.dcmp a (4618441417868443648 : UInt64)) CmpOp.l < 0 ↔ ¬ 0 ≤ Op.cmpValue (FP.dcmp a (4618441417868443648 : UInt64)) CmpOp.g := by
  rw [cvl_lt_zv h.nn df_six.nn, cvg_ge_zv h.nn df_six.nn]
  omega
theorem sx25 {a : UInt64} (h : DF a) (h1 : ¬ 0 ≤ Op.cmpValue (FP.dcmp a (4612811918334230528 : UInt64)) CmpOp.g) : Op.cmpValue (FP.dcmp a (4618441417868443648 : UInt64)) CmpOp.l < 0 := by
  rw [cvg_ge_zv h.nn df_c25.nn] at h1
  rw [cvl_lt_zv h.nn df_six.nn, zv_six]
  have h2 := zv_c25
  have h3 := O64_pos
  omega
theorem te_df {v : UInt64} (h : NN v) : DF (t_e v) := by
  unfold t_e
  by_cases c : e_c v = 0
  · rw [if_pos c]
    exact exp_fin h (e_c_le c)
  · rw [if_neg c]
    exact df_0
theorem cE_eq {x : UInt64} (h : ¬ s_num x = 0) : s_cE x = e_c x := by unfold s_cE e_c; rw [if_neg h]
theorem cE_5 {x : UInt64} (h : s_num x = 0) : s_cE x = 5 := by unfold s_cE; rw [if_pos h]
theorem cL_eq {x : UInt64} (h : ¬ s_num x = 0) : s_cL x = l_c x := by unfold s_cL l_c; rw [if_neg h]
theorem cL_5 {x : UInt64} (h : s_num x = 0) : s_cL x = 5 := by unfold s_cL; rw [if_pos h]
theorem cR_eq {x : UInt64} (h : ¬ s_num x = 0) : s_cR x = r_c x := by unfold s_cR r_c; rw [if_neg h]
theorem cR_5 {x : UInt64} (h : s_num x = 0) : s_cR x = 5 := by unfold s_cR; rw [if_pos h]
theorem cX_eq {x : UInt64} (h : ¬ s_num x = 0) : s_cX x = 0 := by unfold s_cX; rw [if_neg h]
theorem cX_5 {x : UInt64} (h : s_num x = 0) : s_cX x = 5 := by unfold s_cX; rw [if_pos h]
def td_c (g fd : Int32) : Int32 := if g = 0 then 5 else fd
def td_a (g fd : Int32) (r : UInt64) : UInt64 := if td_c g fd = 0 then r else FP.dconst0
end
section
abbrev rm_t_isNumber : Room := { frames := 0, cells := 0, slots := 0, locals := 0 }
set_option maxHeartbeats 4000000 in
set_option maxRecDepth 100000 in
theorem t_isNumber (l : Launch) (D : va_G) (dA : ClassId) (x : UInt64) : CMi l D dA yX7_isNumber cX7_isNumber 2 .boolean rm_t_isNumber [.double x] [] (fun _ : Unit => []) (fun r _ => r = s_num x) := by
  refine st_i (by decide) (Nat.le_of_ble_eq_true rfl) ?_
  intro p e s m below meth c A Q H locs ls hCF hK hN hA hP hD hS hl hend
  obtain ⟨hx, hb, hml, hown, hts⟩ := hCF
  have hown : s.vm.findClass RX7 = some m.cls := hown
  have hl : lv_has ls 2 [(0, .double x)] := hl
  refine lv_dload_n hx hb dX7_isNumber_0 rfl (lv_at hl 0 rfl) ?_
  refine lv_ldc2d hx hb hown (hts _ q322) dX7_isNumber_1 ?_
  refine lv_dcmp hx hb dX7_isNumber_4 ?_
  refine lv_if_lt (tgt := 20) hx hb dX7_isNumber_5 (by decide) (fun c_5 => ?_) (fun c_5 => ?_)
  · refine lv_iconst (v := 0) hx hb dX7_isNumber_20 (by decide) ?_
    exact hend _ _ _ _ 21 _ 0 () dX7_isNumber_21 (by decide) (Nat.le_of_ble_eq_true rfl) (Nat.le_of_ble_eq_true rfl) hS (by rw [← s_num_tw]; first | rw [if_pos c_5] | rw [if_neg c_5, if_pos c_13] | rw [if_neg c_5, if_neg c_13]) p_nil d_nil
  · refine lv_dload_n hx hb dX7_isNumber_8 rfl (lv_at hl 0 rfl) ?_
    refine lv_ldc2d hx hb hown (hts _ q323) dX7_isNumber_9 ?_
    refine lv_dcmp hx hb dX7_isNumber_12 ?_
    refine lv_if_gt (tgt := 20) hx hb dX7_isNumber_13 (by decide) (fun c_13 => ?_) (fun c_13 => ?_)
    · refine lv_iconst (v := 0) hx hb dX7_isNumber_20 (by decide) ?_
      exact hend _ _ _ _ 21 _ 0 () dX7_isNumber_21 (by decide) (Nat.le_of_ble_eq_true rfl) (Nat.le_of_ble_eq_true rfl) hS (by rw [← s_num_tw]; first | rw [if_pos c_5] | rw [if_neg c_5, if_pos c_13] | rw [if_neg c_5, if_neg c_13]) p_nil d_nil
    · refine lv_iconst (v := 1) hx hb dX7_isNumber_16 (by decide) ?_
      refine lv_goto (tgt := 21) hx hb dX7_isNumber_17 (by decide) ?_
      exact hend _ _ _ _ 21 _ 1 () dX7_isNumber_21 (by decide) (Nat.le_of_ble_eq_true rfl) (Nat.le_of_ble_eq_true rfl) hS (by rw [← s_num_tw]; first | rw [if_pos c_5] | rw [if_neg c_5, if_pos c_13] | rw [if_neg c_5, if_neg c_13]) p_nil d_nil
abbrev rm_t_none : Room := { frames := 0, cells := 0, slots := 0, locals := 0 }
set_option maxHeartbeats 4000000 in
set_option maxRecDepth 100000 in
theorem t_none (l : Launch) (D : va_G) (dA : ClassId) (h1 : Nat) (sd : Int64) (cd fd ge gl gx : Int32) (w : Int32) : CMd l D dA yX7_none cX7_none 2 rm_t_none [.ref h1, .int w] (tw h1 sd cd fd ge gl gx) (fun _ : Unit => tw h1 sd cd w ge gl gx) (fun r _ => r = FP.dconst0) := by
  refine st_d (by decide) (Nat.le_of_ble_eq_true rfl) ?_
  intro p e s m below meth c A Q H locs ls hCF hK hN hA hP hD hS hl hend
  obtain ⟨hx, hb, hml, hown, hts⟩ := hCF
  have hown : s.vm.findClass RX7 = some m.cls := hown
  have hl : lv_has ls 2 [(0, .ref h1), (1, .int w)] := hl
  refine lv_aload_n hx hb dX7_none_0 rfl (lv_at hl 0 rfl) ?_
  refine lv_iload_n hx hb dX7_none_1 rfl (lv_at hl 1 rfl) ?_
  refine va_put (D := D) (ci := 5) (v := .int w) (ty := .int) (C := RX7) (T := TX7) (N := 6) hx hb hts in_X7 tyX7 tyX7_ok nmX7 hown hK hP hD hS 0 rfl rfl 2 (by decide) (hts _ q298) (fun _ h9 => h9) rfl (by decide +kernel) rfl rfl (Nat.le_of_ble_eq_true rfl) dX7_none_2 (fun H locs hP hD hS => ?_)
  have hP : va_P D vwCl (tw h1 sd cd w ge gl gx) H := hP
  have hD : va_D A (tw h1 sd cd w ge gl gx) := hD
  refine lv_dconst0 hx hb dX7_none_5 ?_
  exact hend _ _ _ _ 6 _ FP.dconst0 () dX7_none_6 (Nat.le_of_ble_eq_true rfl) (Nat.le_of_ble_eq_true rfl) hS rfl hP hD
abbrev rm_t_told : Room := { frames := 0, cells := 0, slots := 0, locals := 0 }
set_option maxHeartbeats 4000000 in
set_option maxRecDepth 100000 in
theorem t_told (l : Launch) (D : va_G) (dA : ClassId) (h1 : Nat) (sd : Int64) (cd fd ge gl gx : Int32) (g : Int32) (r0 : UInt64) : CMd l D dA yX7_told cX7_told 4 rm_t_told [.ref h1, .int g, .double r0] (tw h1 sd cd fd ge gl gx) (fun u : Int32 => tw h1 sd u fd ge gl gx) (fun r u => r = td_a g fd r0 ∧ u = td_c g fd) := by
  refine st_d (by decide) (Nat.le_of_ble_eq_true rfl) ?_
  intro p e s m below meth c A Q H locs ls hCF hK hN hA hP hD hS hl hend
  obtain ⟨hx, hb, hml, hown, hts⟩ := hCF
  have hown : s.vm.findClass RX7 = some m.cls := hown
  have hl : lv_has ls 4 [(0, .ref h1), (1, .int g), (2, .double r0)] := hl
  refine lv_aload_n hx hb dX7_told_0 rfl (lv_at hl 0 rfl) ?_
  refine lv_iload_n hx hb dX7_told_1 rfl (lv_at hl 1 rfl) ?_
  refine lv_if_eq (tgt := 12) hx hb dX7_told_2 (by decide) (fun c_2 => ?_) (fun c_2 => ?_)
  · refine lv_iconst (v := 5) hx hb dX7_told_12 (by decide) ?_
    refine va_put (D := D) (ci := 5) (v := .int 5) (ty := .int) (C := RX7) (T := TX7) (N := 6) hx hb hts in_X7 tyX7 tyX7_ok nmX7 hown hK hP hD hS 0 rfl rfl 1 (by decide) (hts _ q297) (fun _ h9 => h9) rfl (by decide +kernel) rfl rfl (Nat.le_of_ble_eq_true rfl) dX7_told_13 (fun H locs hP hD hS => ?_)
    have hP : va_P D vwCl (tw h1 sd 5 fd ge gl gx) H := hP
    have hD : va_D A (tw h1 sd 5 fd ge gl gx) := hD
    refine lv_aload_n hx hb dX7_told_16 rfl (lv_at hl 0 rfl) ?_
    refine va_get (D := D) (ci := 5) (v := .int 5) (C := RX7) (T := TX7) (N := 6) hx hb hts in_X7 hown hK hP 0 rfl rfl 1 (by decide) (hts _ q297) (fun _ h9 => h9) rfl dX7_told_17 ?_
    refine lv_if_ne (tgt := 27) hx hb dX7_told_20 (by decide) (fun c_20 => ?_) (fun c_20 => absurd c_20 (by decide))
    refine lv_dconst0 hx hb dX7_told_27 ?_
    exact hend _ _ _ _ 28 _ FP.dconst0 5 dX7_told_28 (Nat.le_of_ble_eq_true rfl) (Nat.le_of_ble_eq_true rfl) hS (⟨by unfold td_a; rw [if_neg (by unfold td_c; rw [if_pos c_2]; decide)], by unfold td_c; rw [if_pos c_2]⟩) hP hD
  · refine lv_aload_n hx hb dX7_told_5 rfl (lv_at hl 0 rfl) ?_
    refine va_get (D := D) (ci := 5) (v := .int fd) (C := RX7) (T := TX7) (N := 6) hx hb hts in_X7 hown hK hP 0 rfl rfl 2 (by decide) (hts _ q298) (fun _ h9 => h9) rfl dX7_told_6 ?_
    refine lv_goto (tgt := 13) hx hb dX7_told_9 (by decide) ?_
    refine va_put (D := D) (ci := 5) (v := .int fd) (ty := .int) (C := RX7) (T := TX7) (N := 6) hx hb hts in_X7 tyX7 tyX7_ok nmX7 hown hK hP hD hS 0 rfl rfl 1 (by decide) (hts _ q297) (fun _ h9 => h9) rfl (by decide +kernel) rfl rfl (Nat.le_of_ble_eq_true rfl) dX7_told_13 (fun H locs hP hD hS => ?_)
    have hP : va_P D vwCl (tw h1 sd fd fd ge gl gx) H := hP
    have hD : va_D A (tw h1 sd fd fd ge gl gx) := hD
    refine lv_aload_n hx hb dX7_told_16 rfl (lv_at hl 0 rfl) ?_
    refine va_get (D := D) (ci := 5) (v := .int fd) (C := RX7) (T := TX7) (N := 6) hx hb hts in_X7 hown hK hP 0 rfl rfl 1 (by decide) (hts _ q297) (fun _ h9 => h9) rfl dX7_told_17 ?_
    refine lv_if_ne (tgt := 27) hx hb dX7_told_20 (by decide) (fun c_20 => ?_) (fun c_20 => ?_)
    · refine lv_dconst0 hx hb dX7_told_27 ?_
      exact hend _ _ _ _ 28 _ FP.dconst0 fd dX7_told_28 (Nat.le_of_ble_eq_true rfl) (Nat.le_of_ble_eq_true rfl) hS (⟨by unfold td_a; rw [if_neg (by unfold td_c; rw [if_neg c_2]; exact c_20)], by unfold td_c; rw [if_neg c_2]⟩) hP hD
    · refine lv_dload_n hx hb dX7_told_23 rfl (lv_at hl 2 rfl) ?_
      refine lv_goto (tgt := 28) hx hb dX7_told_24 (by decide) ?_
      exact hend _ _ _ _ 28 _ r0 fd dX7_told_28 (Nat.le_of_ble_eq_true rfl) (Nat.le_of_ble_eq_true rfl) hS (⟨by unfold td_a; rw [if_pos (by unfold td_c; rw [if_neg c_2]; exact c_20)], by unfold td_c; rw [if_neg c_2]⟩) hP hD
abbrev rm_t_code : Room := { frames := 0, cells := 0, slots := 0, locals := 0 }
set_option maxHeartbeats 4000000 in
set_option maxRecDepth 100000 in
theorem t_code (l : Launch) (D : va_G) (dA : ClassId) (h1 : Nat) (sd : Int64) (cd fd ge gl gx : Int32) : CMi l D dA yX7_code cX7_code 1 .int rm_t_code [.ref h1] (tw h1 sd cd fd ge gl gx) (fun _ : Unit => tw h1 sd cd fd ge gl gx) (fun r _ => r = cd) := by
  refine st_i (by decide) (Nat.le_of_ble_eq_true rfl) ?_
  intro p e s m below meth c A Q H locs ls hCF hK hN hA hP hD hS hl hend
  obtain ⟨hx, hb, hml, hown, hts⟩ := hCF
  have hown : s.vm.findClass RX7 = some m.cls := hown
  have hl : lv_has ls 1 [(0, .ref h1)] := hl
  refine lv_aload_n hx hb dX7_code_0 rfl (lv_at hl 0 rfl) ?_
  refine va_get (D := D) (ci := 5) (v := .int cd) (C := RX7) (T := TX7) (N := 6) hx hb hts in_X7 hown hK hP 0 rfl rfl 1 (by decide) (hts _ q297) (fun _ h9 => h9) rfl dX7_code_1 ?_
  exact hend _ _ _ _ 4 _ cd () dX7_code_4 rfl (Nat.le_of_ble_eq_true rfl) (Nat.le_of_ble_eq_true rfl) hS rfl hP hD
abbrev rm_t_made : Room := { frames := 0, cells := 0, slots := 0, locals := 0 }
set_option maxHeartbeats 4000000 in
set_option maxRecDepth 100000 in
theorem t_made (l : Launch) (D : va_G) (dA : ClassId) (h1 : Nat) (sd : Int64) (cd fd ge gl gx : Int32) (hge : ge = 0 ∨ ge = 1) (hgl : gl = 0 ∨ gl = 1) (hgx : gx = 0 ∨ gx = 1) : CMi l D dA yX7_made cX7_made 1 .int rm_t_made [.ref h1] (tw h1 sd cd fd ge gl gx) (fun _ : Unit => tw h1 sd cd fd ge gl gx) (fun r _ => r = ge + gl + gx) := by
  refine st_i (by decide) (Nat.le_of_ble_eq_true rfl) ?_
  intro p e s m below meth c A Q H locs ls hCF hK hN hA hP hD hS hl hend
  obtain ⟨hx, hb, hml, hown, hts⟩ := hCF
  have hown : s.vm.findClass RX7 = some m.cls := hown
  have hl : lv_has ls 1 [(0, .ref h1)] := hl
  refine lv_aload_n hx hb dX7_made_0 rfl (lv_at hl 0 rfl) ?_
  refine va_get (D := D) (ci := 5) (v := .int ge) (C := RX7) (T := TX7) (N := 6) hx hb hts in_X7 hown hK hP 0 rfl rfl 3 (by decide) (hts _ q299) (fun _ h9 => h9) rfl dX7_made_1 ?_
  refine lv_if_eq (tgt := 11) hx hb dX7_made_4 (by decide) (fun c_4 => ?_) (fun c_4 => ?_)
  · refine lv_iconst (v := 0) hx hb dX7_made_11 (by decide) ?_
    refine lv_aload_n hx hb dX7_made_12 rfl (lv_at hl 0 rfl) ?_
    refine va_get (D := D) (ci := 5) (v := .int gl) (C := RX7) (T := TX7) (N := 6) hx hb hts in_X7 hown hK hP 0 rfl rfl 4 (by decide) (hts _ q300) (fun _ h9 => h9) rfl dX7_made_13 ?_
    refine lv_if_eq (tgt := 23) hx hb dX7_made_16 (by decide) (fun c_16 => ?_) (fun c_16 => ?_)
    · refine lv_iconst (v := 0) hx hb dX7_made_23 (by decide) ?_
      refine lv_iadd hx hb dX7_made_24 ?_
      refine lv_aload_n hx hb dX7_made_25 rfl (lv_at hl 0 rfl) ?_
      refine va_get (D := D) (ci := 5) (v := .int gx) (C := RX7) (T := TX7) (N := 6) hx hb hts in_X7 hown hK hP 0 rfl rfl 5 (by decide) (hts _ q301) (fun _ h9 => h9) rfl dX7_made_26 ?_
      refine lv_if_eq (tgt := 36) hx hb dX7_made_29 (by decide) (fun c_29 => ?_) (fun c_29 => ?_)
      · refine lv_iconst (v := 0) hx hb dX7_made_36 (by decide) ?_
        refine lv_iadd hx hb dX7_made_37 ?_
        exact hend _ _ _ _ 38 _ ((0 + 0) + 0) () dX7_made_38 rfl (Nat.le_of_ble_eq_true rfl) (Nat.le_of_ble_eq_true rfl) hS (by rw [show ge = 0 from c_4, show gl = 0 from c_16, show gx = 0 from c_29]) hP hD
      · refine lv_iconst (v := 1) hx hb dX7_made_32 (by decide) ?_
        refine lv_goto (tgt := 37) hx hb dX7_made_33 (by decide) ?_
        refine lv_iadd hx hb dX7_made_37 ?_
        exact hend _ _ _ _ 38 _ ((0 + 0) + 1) () dX7_made_38 rfl (Nat.le_of_ble_eq_true rfl) (Nat.le_of_ble_eq_true rfl) hS (by rw [show ge = 0 from c_4, show gl = 0 from c_16, show gx = 1 from hgx.resolve_left c_29]) hP hD
    · refine lv_iconst (v := 1) hx hb dX7_made_19 (by decide) ?_
      refine lv_goto (tgt := 24) hx hb dX7_made_20 (by decide) ?_
      refine lv_iadd hx hb dX7_made_24 ?_
      refine lv_aload_n hx hb dX7_made_25 rfl (lv_at hl 0 rfl) ?_
      refine va_get (D := D) (ci := 5) (v := .int gx) (C := RX7) (T := TX7) (N := 6) hx hb hts in_X7 hown hK hP 0 rfl rfl 5 (by decide) (hts _ q301) (fun _ h9 => h9) rfl dX7_made_26 ?_
      refine lv_if_eq (tgt := 36) hx hb dX7_made_29 (by decide) (fun c_29 => ?_) (fun c_29 => ?_)
      · refine lv_iconst (v := 0) hx hb dX7_made_36 (by decide) ?_
        refine lv_iadd hx hb dX7_made_37 ?_
        exact hend _ _ _ _ 38 _ ((0 + 1) + 0) () dX7_made_38 rfl (Nat.le_of_ble_eq_true rfl) (Nat.le_of_ble_eq_true rfl) hS (by rw [show ge = 0 from c_4, show gl = 1 from hgl.resolve_left c_16, show gx = 0 from c_29]) hP hD
      · refine lv_iconst (v := 1) hx hb dX7_made_32 (by decide) ?_
        refine lv_goto (tgt := 37) hx hb dX7_made_33 (by decide) ?_
        refine lv_iadd hx hb dX7_made_37 ?_
        exact hend _ _ _ _ 38 _ ((0 + 1) + 1) () dX7_made_38 rfl (Nat.le_of_ble_eq_true rfl) (Nat.le_of_ble_eq_true rfl) hS (by rw [show ge = 0 from c_4, show gl = 1 from hgl.resolve_left c_16, show gx = 1 from hgx.resolve_left c_29]) hP hD
  · refine lv_iconst (v := 1) hx hb dX7_made_7 (by decide) ?_
    refine lv_goto (tgt := 12) hx hb dX7_made_8 (by decide) ?_
    refine lv_aload_n hx hb dX7_made_12 rfl (lv_at hl 0 rfl) ?_
    refine va_get (D := D) (ci := 5) (v := .int gl) (C := RX7) (T := TX7) (N := 6) hx hb hts in_X7 hown hK hP 0 rfl rfl 4 (by decide) (hts _ q300) (fun _ h9 => h9) rfl dX7_made_13 ?_
    refine lv_if_eq (tgt := 23) hx hb dX7_made_16 (by decide) (fun c_16 => ?_) (fun c_16 => ?_)
    · refine lv_iconst (v := 0) hx hb dX7_made_23 (by decide) ?_
      refine lv_iadd hx hb dX7_made_24 ?_
      refine lv_aload_n hx hb dX7_made_25 rfl (lv_at hl 0 rfl) ?_
      refine va_get (D := D) (ci := 5) (v := .int gx) (C := RX7) (T := TX7) (N := 6) hx hb hts in_X7 hown hK hP 0 rfl rfl 5 (by decide) (hts _ q301) (fun _ h9 => h9) rfl dX7_made_26 ?_
      refine lv_if_eq (tgt := 36) hx hb dX7_made_29 (by decide) (fun c_29 => ?_) (fun c_29 => ?_)
      · refine lv_iconst (v := 0) hx hb dX7_made_36 (by decide) ?_
        refine lv_iadd hx hb dX7_made_37 ?_
        exact hend _ _ _ _ 38 _ ((1 + 0) + 0) () dX7_made_38 rfl (Nat.le_of_ble_eq_true rfl) (Nat.le_of_ble_eq_true rfl) hS (by rw [show ge = 1 from hge.resolve_left c_4, show gl = 0 from c_16, show gx = 0 from c_29]) hP hD
      · refine lv_iconst (v := 1) hx hb dX7_made_32 (by decide) ?_
        refine lv_goto (tgt := 37) hx hb dX7_made_33 (by decide) ?_
        refine lv_iadd hx hb dX7_made_37 ?_
        exact hend _ _ _ _ 38 _ ((1 + 0) + 1) () dX7_made_38 rfl (Nat.le_of_ble_eq_true rfl) (Nat.le_of_ble_eq_true rfl) hS (by rw [show ge = 1 from hge.resolve_left c_4, show gl = 0 from c_16, show gx = 1 from hgx.resolve_left c_29]) hP hD
    · refine lv_iconst (v := 1) hx hb dX7_made_19 (by decide) ?_
      refine lv_goto (tgt := 24) hx hb dX7_made_20 (by decide) ?_
      refine lv_iadd hx hb dX7_made_24 ?_
      refine lv_aload_n hx hb dX7_made_25 rfl (lv_at hl 0 rfl) ?_
      refine va_get (D := D) (ci := 5) (v := .int gx) (C := RX7) (T := TX7) (N := 6) hx hb hts in_X7 hown hK hP 0 rfl rfl 5 (by decide) (hts _ q301) (fun _ h9 => h9) rfl dX7_made_26 ?_
      refine lv_if_eq (tgt := 36) hx hb dX7_made_29 (by decide) (fun c_29 => ?_) (fun c_29 => ?_)
      · refine lv_iconst (v := 0) hx hb dX7_made_36 (by decide) ?_
        refine lv_iadd hx hb dX7_made_37 ?_
        exact hend _ _ _ _ 38 _ ((1 + 1) + 0) () dX7_made_38 rfl (Nat.le_of_ble_eq_true rfl) (Nat.le_of_ble_eq_true rfl) hS (by rw [show ge = 1 from hge.resolve_left c_4, show gl = 1 from hgl.resolve_left c_16, show gx = 0 from c_29]) hP hD
      · refine lv_iconst (v := 1) hx hb dX7_made_32 (by decide) ?_
        refine lv_goto (tgt := 37) hx hb dX7_made_33 (by decide) ?_
        refine lv_iadd hx hb dX7_made_37 ?_
        exact hend _ _ _ _ 38 _ ((1 + 1) + 1) () dX7_made_38 rfl (Nat.le_of_ble_eq_true rfl) (Nat.le_of_ble_eq_true rfl) hS (by rw [show ge = 1 from hge.resolve_left c_4, show gl = 1 from hgl.resolve_left c_16, show gx = 1 from hgx.resolve_left c_29]) hP hD
abbrev rm_t_init : Room := { frames := 1, cells := 0, slots := 0, locals := 12 }
set_option maxHeartbeats 4000000 in
set_option maxRecDepth 100000 in
theorem t_init (l : Launch) (D : va_G) (dA : ClassId) (h1 : Nat) (sd : Int64) : CMv l D dA yX7_init cX7_init 3 rm_t_init [.ref h1, .long sd] ([(h1, .inr (5, [.long 0, .int 0, .int 0, .int 0, .int 0, .int 0]))]) (fun _ : Unit => tw h1 sd 0 0 0 0 0) (fun _ => True) := by
  refine st_v (by decide) (Nat.le_of_ble_eq_true rfl) ?_
  intro p e s m below meth c A Q H locs ls hCF hin hK hN hA hP hD hS hl hend
  obtain ⟨hx, hb, hml, hown, hts⟩ := hCF
  have hown : s.vm.findClass RX7 = some m.cls := hown
  have hl : lv_has ls 3 [(0, .ref h1), (1, .long sd)] := hl
  have hin : meth.name = "<init>" := hin
  refine lv_aload_n hx hb dX7_init_0 rfl (lv_at hl 0 rfl) ?_
  refine W.objInit hx hb hown (hts _ q295) (hts _ q25) (hts _ q26) rfl (by rw [hml]; exact hl.1) rfl dX7_init_1 (Nat.le_of_ble_eq_true rfl) (Nat.le_of_ble_eq_true rfl) ?_
  refine W.eq (g2 := F0 m 4 ls []) rfl ?_
  refine lv_aload_n hx hb dX7_init_4 rfl (lv_at hl 0 rfl) ?_
  refine lv_lload_n hx hb dX7_init_5 rfl (lv_at hl 1 rfl) ?_
  refine va_putF (D := D) (ci := 5) (v := .long sd) (ty := .long) (C := RX7) (T := TX7) (N := 6) hx hb hts in_X7 tyX7 tyX7_ok nmX7 hown hK hP hD hS 0 rfl rfl 0 (by decide) (hts _ q296) (fun _ h9 => h9) rfl hin rfl (by decide +kernel) rfl rfl (Nat.le_of_ble_eq_true rfl) dX7_init_6 (fun H locs hP hD hS => ?_)
  have hP : va_P D vwCl ([(h1, .inr (5, [.long sd, .int 0, .int 0, .int 0, .int 0, .int 0]))]) H := hP
  have hD : va_D A ([(h1, .inr (5, [.long sd, .int 0, .int 0, .int 0, .int 0, .int 0]))]) := hD
  exact hend _ _ _ _ 9 _ () dX7_init_9 (Nat.le_of_ble_eq_true rfl) (Nat.le_of_ble_eq_true rfl) hS trivial hP hD
end
section
abbrev rm_t_exp : Room := { frames := 1, cells := 0, slots := 0, locals := 21 }
set_option maxHeartbeats 4000000 in
set_option maxRecDepth 100000 in
theorem t_exp (l : Launch) (D : va_G) (dA : ClassId) (h1 : Nat) (sd : Int64) (cd fd ge gl gx : Int32) (x : UInt64) (hn : NN x) : CMd l D dA yX7_exp cX7_exp 11 rm_t_exp [.ref h1, .double x] (tw h1 sd cd fd ge gl gx) (fun u : Int32 × Int32 => tw h1 sd cd u.1 u.2 gl gx) (fun r u => r = t_e x ∧ u.1 = e_c x ∧ u.2 = r_f x ge) := by
  refine st_d (by decide) (Nat.le_of_ble_eq_true rfl) ?_
  intro p e s m below meth c A Q H locs ls hCF hK hN hA hP hD hS hl hend
  obtain ⟨hx, hb, hml, hown, hts⟩ := hCF
  have hown : s.vm.findClass RX7 = some m.cls := hown
  have hl : lv_has ls 11 [(0, .ref h1), (1, .double x)] := hl
  refine lv_aload_n hx hb dX7_exp_0 rfl (lv_at hl 0 rfl) ?_
  refine lv_iconst (v := 0) hx hb dX7_exp_1 (by decide) ?_
  refine va_put (D := D) (ci := 5) (v := .int 0) (ty := .int) (C := RX7) (T := TX7) (N := 6) hx hb hts in_X7 tyX7 tyX7_ok nmX7 hown hK hP hD hS 0 rfl rfl 2 (by decide) (hts _ q298) (fun _ h9 => h9) rfl (by decide +kernel) rfl rfl (Nat.le_of_ble_eq_true rfl) dX7_exp_2 (fun H locs hP hD hS => ?_)
  have hP : va_P D vwCl (tw h1 sd cd 0 ge gl gx) H := hP
  have hD : va_D A (tw h1 sd cd 0 ge gl gx) := hD
  refine lv_dload_n hx hb dX7_exp_5 rfl (lv_at hl 1 rfl) ?_
  refine lv_ldc2d hx hb hown (hts _ q328) dX7_exp_6 ?_
  refine lv_dcmp hx hb dX7_exp_9 ?_
  refine lv_if_le (tgt := 19) hx hb dX7_exp_10 (by decide) (fun c_10 => ?_) (fun c_10 => ?_)
  · refine lv_dload_n hx hb dX7_exp_19 rfl (lv_at hl 1 rfl) ?_
    refine lv_ldc2d hx hb hown (hts _ q333) dX7_exp_20 ?_
    refine lv_dcmp hx hb dX7_exp_23 ?_
    refine lv_if_ge (tgt := 29) hx hb dX7_exp_24 (by decide) (fun c_24 => ?_) (fun c_24 => ?_)
    · obtain ⟨e1, e2, e3, e4, e5⟩ := exp_facts hn c_10 c_24
      refine lv_aload_n hx hb dX7_exp_29 rfl (lv_at hl 0 rfl) ?_
      refine lv_iconst (v := 1) hx hb dX7_exp_30 (by decide) ?_
      refine va_put (D := D) (ci := 5) (v := .int 1) (ty := .boolean) (C := RX7) (T := TX7) (N := 6) hx hb hts in_X7 tyX7 tyX7_ok nmX7 hown hK hP hD hS 0 rfl rfl 3 (by decide) (hts _ q299) (fun _ h9 => h9) rfl (by decide +kernel) rfl rfl (Nat.le_of_ble_eq_true rfl) dX7_exp_31 (fun H locs hP hD hS => ?_)
      have hP : va_P D vwCl (tw h1 sd cd 0 1 gl gx) H := hP
      have hD : va_D A (tw h1 sd cd 0 1 gl gx) := hD
      refine lv_dload_n hx hb dX7_exp_34 rfl (lv_at hl 1 rfl) ?_
      refine lv_ldc2d hx hb hown (hts _ q334) dX7_exp_35 ?_
      refine lv_dmul hx hb dX7_exp_38 e1.n64 ?_
      refine lv_ldc2d hx hb hown (hts _ q335) dX7_exp_39 ?_
      refine lv_dadd hx hb dX7_exp_42 e2.n64 ?_
      refine lv_dstore_n (lv' := [(3, .double (s_of x)), (0, .ref h1), (1, .double x)]) hx hb dX7_exp_43 rfl hl (by decide) rfl (fun ls hl => ?_)
      refine lv_dload_n hx hb dX7_exp_44 rfl (lv_at hl 0 rfl) ?_
      refine lv_d2i hx hb dX7_exp_45 ?_
      refine lv_istore (lv' := [(5, .int (FP.d2i (s_of x))), (3, .double (s_of x)), (0, .ref h1), (1, .double x)]) hx hb dX7_exp_46 hl (by decide) rfl (fun ls hl => ?_)
      refine lv_iload hx hb dX7_exp_48 (lv_at hl 0 rfl) ?_
      refine lv_iload hx hb dX7_exp_50 (lv_at hl 0 rfl) ?_
      refine lv_i2d hx hb dX7_exp_52 ?_
      refine lv_dload_n hx hb dX7_exp_53 rfl (lv_at hl 1 rfl) ?_
      refine lv_dcmp hx hb dX7_exp_54 ?_
      have j63 : ∀ b : Int32, b = (if Op.cmpValue (FP.dcmp (FP.i2d (FP.d2i (s_of x))) (s_of x)) CmpOp.l ≤ 0 then 0 else 1) → W p l e rm_t_exp s m ([.ref h1, .double x] : List Value).toArray below meth c H locs 0 0 Q (F0 m 63 ls [.int b, .int (FP.d2i (s_of x))]) := by
        intro b hb0
        have ek : FP.d2i (s_of x) - b = s_k x := by rw [hb0]; rfl
        refine lv_isub hx hb dX7_exp_63 ?_
        rw [ek]
        refine lv_istore (lv' := [(5, .int (s_k x)), (3, .double (s_of x)), (0, .ref h1), (1, .double x)]) hx hb dX7_exp_64 hl (by decide) rfl (fun ls hl => ?_)
        refine lv_dload_n hx hb dX7_exp_66 rfl (lv_at hl 3 rfl) ?_
        refine lv_iload hx hb dX7_exp_67 (lv_at hl 0 rfl) ?_
        refine lv_i2d hx hb dX7_exp_69 ?_
        refine lv_ldc2d hx hb hown (hts _ q336) dX7_exp_70 ?_
        refine lv_dmul hx hb dX7_exp_73 e3.n64 ?_
        refine lv_dsub hx hb dX7_exp_74 e4.1.n64 ?_
        refine lv_dstore (lv' := [(6, .double (s_r x)), (5, .int (s_k x)), (3, .double (s_of x)), (0, .ref h1), (1, .double x)]) hx hb dX7_exp_75 hl (by decide) rfl (fun ls hl => ?_)
        refine lv_dconst1 hx hb dX7_exp_77 ?_
        refine lv_dstore (lv' := [(8, .double FP.dconst1), (6, .double (s_r x)), (5, .int (s_k x)), (3, .double (s_of x)), (0, .ref h1), (1, .double x)]) hx hb dX7_exp_78 hl (by decide) rfl (fun ls hl => ?_)
        refine lv_bipush (v := 14) hx hb dX7_exp_80 (by decide) ?_
        refine lv_istore (lv' := [(10, .int 14), (8, .double FP.dconst1), (6, .double (s_r x)), (5, .int (s_k x)), (3, .double (s_of x)), (0, .ref h1), (1, .double x)]) hx hb dX7_exp_82 hl (by decide) rfl (fun ls hl => ?_)
        have loop : ∀ (n : Nat) (v : UInt64) (H : Heap) (locs : List Loc) (ls : Array Slot), n ≤ 14 → SZ v (pb n) → s_pl (s_r x) n v = s_pl (s_r x) 14 FP.dconst1 → va_P D vwCl (tw h1 sd cd 0 1 gl gx) H → va_D A (tw h1 sd cd 0 1 gl gx) → va_S A s.heap H locs → lv_has ls 11 [(10, .int (nI n)), (8, .double v), (6, .double (s_r x)), (5, .int (s_k x)), (0, .ref h1), (1, .double x)] → W p l e rm_t_exp s m ([.ref h1, .double x] : List Value).toArray below meth c H locs 0 0 Q (F0 m 84 ls []) := by
          intro n
          induction n with
          | zero =>
            intro v H locs ls hn hv hs hP hD hS hl
            have ev : v = s_pl (s_r x) 14 FP.dconst1 := hs
            obtain ⟨v1, hv1⟩ : ∃ v1, v1 = v := ⟨_, rfl⟩
            rw [← hv1] at hv ev hl
            refine lv_iload hx hb dX7_exp_84 (lv_at hl 0 rfl) ?_
            refine lv_iconst (v := 1) hx hb dX7_exp_86 (by decide) ?_
            refine lv_icmp_lt (tgt := 109) hx hb dX7_exp_87 (by decide) (fun c_87 => ?_) (fun c_87 => absurd (by decide) c_87)
            have loopD : ∀ (n : Nat) (i : Int32) (v : UInt64) (ls : Array Slot), NN v → (i.toInt = (s_k x).toInt + n ∨ (n = 0 ∧ i.toInt ≤ (s_k x).toInt)) → s_dn n v = s_scaled v1 (s_k x) → lv_has ls 11 [(10, .int i), (8, .double v), (6, .double (s_r x)), (5, .int (s_k x)), (0, .ref h1), (1, .double x)] → W p l e rm_t_exp s m ([.ref h1, .double x] : List Value).toArray below meth c H locs 0 0 Q (F0 m 136 ls []) := by
              intro n
              induction n with
              | zero =>
                intro i v ls hv hi hfin hl
                have hfin : v = s_scaled v1 (s_k x) := hfin
                refine lv_iload hx hb dX7_exp_136 (lv_at hl 0 rfl) ?_
                refine lv_iload hx hb dX7_exp_138 (lv_at hl 3 rfl) ?_
                refine lv_icmp_le (tgt := 157) hx hb dX7_exp_140 (by decide) (fun c_140 => ?_) (fun c_140 => absurd (by rw [Int32.le_iff_toInt_le]; omega) c_140)
                refine lv_dload hx hb dX7_exp_157 (lv_at hl 1 rfl) ?_
                exact hend _ _ _ _ 159 _ v (0, 1) dX7_exp_159 (Nat.le_of_ble_eq_true rfl) (Nat.le_of_ble_eq_true rfl) hS (⟨by rw [hfin, ev]; unfold t_e s_exp; rw [if_pos (by unfold e_c; rw [if_pos c_10]), if_pos c_24], by unfold e_c; rw [if_pos c_10], by unfold r_f s_fE; rw [if_pos (by unfold e_c; rw [if_pos c_10]), if_pos c_24]⟩) hP hD
              | succ n ih =>
                intro i v ls hv hi hfin hl
                refine lv_iload hx hb dX7_exp_136 (lv_at hl 0 rfl) ?_
                refine lv_iload hx hb dX7_exp_138 (lv_at hl 3 rfl) ?_
                refine lv_icmp_le (tgt := 157) hx hb dX7_exp_140 (by decide) (fun c_140 => absurd c_140 (by rw [Int32.le_iff_toInt_le]; omega)) (fun c_140 => ?_)
                refine lv_dload hx hb dX7_exp_143 (lv_at hl 1 rfl) ?_
                refine lv_ldc2d hx hb hown (hts _ q335) dX7_exp_145 ?_
                refine lv_dmul hx hb dX7_exp_148 ((nn_hlf hv).n64) ?_
                refine lv_dstore (lv' := [(8, .double (FP.dmul v (4602678819172646912 : UInt64))), (10, .int i), (6, .double (s_r x)), (5, .int (s_k x)), (0, .ref h1), (1, .double x)]) hx hb dX7_exp_149 hl (by decide) rfl (fun ls hl => ?_)
                refine lv_iinc (v := i + (-1)) (lv' := [(10, .int (i + (-1))), (8, .double (FP.dmul v (4602678819172646912 : UInt64))), (6, .double (s_r x)), (5, .int (s_k x)), (0, .ref h1), (1, .double x)]) hx hb dX7_exp_151 hl (k := 1) rfl rfl (by decide) rfl (fun ls hl => ?_)
                refine lv_goto (tgt := 136) hx hb dX7_exp_154 (by decide) ?_
                exact ih _ _ _ (nn_hlf hv) (by rw [i32_dec (i := i) (k := s_k x) (by omega)]; omega) hfin (lv_sub hl [0, 1, 2, 3, 4, 5] rfl)
            have loopU : ∀ (n : Nat) (i : Int32) (v : UInt64) (ls : Array Slot), NN v → ((s_k x).toInt = i.toInt + n ∨ (n = 0 ∧ (s_k x).toInt ≤ i.toInt)) → s_up n v = s_up (s_k x).toInt.toNat v1 → lv_has ls 11 [(10, .int i), (8, .double v), (6, .double (s_r x)), (5, .int (s_k x)), (0, .ref h1), (1, .double x)] → W p l e rm_t_exp s m ([.ref h1, .double x] : List Value).toArray below meth c H locs 0 0 Q (F0 m 112 ls []) := by
              intro n
              induction n with
              | zero =>
                intro i v ls hv hi hfin hl
                refine lv_iload hx hb dX7_exp_112 (lv_at hl 0 rfl) ?_
                refine lv_iload hx hb dX7_exp_114 (lv_at hl 3 rfl) ?_
                refine lv_icmp_ge (tgt := 133) hx hb dX7_exp_116 (by decide) (fun c_116 => ?_) (fun c_116 => absurd (by rw [Int32.le_iff_toInt_le]; omega) c_116)
                refine lv_iconst (v := 0) hx hb dX7_exp_133 (by decide) ?_
                refine lv_istore (lv' := [(10, .int 0), (8, .double v), (6, .double (s_r x)), (5, .int (s_k x)), (0, .ref h1), (1, .double x)]) hx hb dX7_exp_134 hl (by decide) rfl (fun ls hl => ?_)
                have hfin : v = s_up (s_k x).toInt.toNat v1 := hfin
                exact loopD (-(s_k x).toInt).toNat 0 v _ hv (by rw [i32_0]; omega) (by rw [hfin]; rfl) (lv_sub hl [0, 1, 2, 3, 4, 5] rfl)
              | succ n ih =>
                intro i v ls hv hi hfin hl
                refine lv_iload hx hb dX7_exp_112 (lv_at hl 0 rfl) ?_
                refine lv_iload hx hb dX7_exp_114 (lv_at hl 3 rfl) ?_
                refine lv_icmp_ge (tgt := 133) hx hb dX7_exp_116 (by decide) (fun c_116 => absurd c_116 (by rw [Int32.le_iff_toInt_le]; omega)) (fun c_116 => ?_)
                refine lv_dload hx hb dX7_exp_119 (lv_at hl 1 rfl) ?_
                refine lv_ldc2d hx hb hown (hts _ q337) dX7_exp_121 ?_
                refine lv_dmul hx hb dX7_exp_124 ((nn_dbl hv).n64) ?_
                refine lv_dstore (lv' := [(8, .double (FP.dmul v (4611686018427387904 : UInt64))), (10, .int i), (6, .double (s_r x)), (5, .int (s_k x)), (0, .ref h1), (1, .double x)]) hx hb dX7_exp_125 hl (by decide) rfl (fun ls hl => ?_)
                refine lv_iinc (v := i + 1) (lv' := [(10, .int (i + 1)), (8, .double (FP.dmul v (4611686018427387904 : UInt64))), (6, .double (s_r x)), (5, .int (s_k x)), (0, .ref h1), (1, .double x)]) hx hb dX7_exp_127 hl (k := 1) rfl rfl (by decide) rfl (fun ls hl => ?_)
                refine lv_goto (tgt := 112) hx hb dX7_exp_130 (by decide) ?_
                exact ih _ _ _ (nn_dbl hv) (by rw [i32_inc (i := i) (k := s_k x) (by omega)]; omega) hfin (lv_sub hl [0, 1, 2, 3, 4, 5] rfl)
            refine lv_iconst (v := 0) hx hb dX7_exp_109 (by decide) ?_
            refine lv_istore (lv' := [(10, .int 0), (8, .double v1), (6, .double (s_r x)), (5, .int (s_k x)), (0, .ref h1), (1, .double x)]) hx hb dX7_exp_110 hl (by decide) rfl (fun ls hl => ?_)
            exact loopU (s_k x).toInt.toNat 0 _ _ hv.1.nn (by rw [i32_0]; omega) rfl (lv_sub hl [0, 1, 2, 3, 4, 5] rfl)
          | succ n ih =>
            intro v H locs ls hn hv hs hP hD hS hl
            obtain ⟨g1, g2, g3⟩ := exp_step (n := n) (by omega) e4 hv
            refine lv_iload hx hb dX7_exp_84 (lv_at hl 0 rfl) ?_
            refine lv_iconst (v := 1) hx hb dX7_exp_86 (by decide) ?_
            refine lv_icmp_lt (tgt := 109) hx hb dX7_exp_87 (by decide) (fun c_87 => absurd c_87 (by exact nI_nlt (a := n + 1) (b := 1) (by omega) (by omega))) (fun c_87 => ?_)
            refine lv_dconst1 hx hb dX7_exp_90 ?_
            refine lv_dload hx hb dX7_exp_91 (lv_at hl 2 rfl) ?_
            refine lv_iload hx hb dX7_exp_93 (lv_at hl 0 rfl) ?_
            refine lv_i2d hx hb dX7_exp_95 ?_
            refine lv_ddiv hx hb dX7_exp_96 g1.n64 ?_
            refine lv_dload hx hb dX7_exp_97 (lv_at hl 1 rfl) ?_
            refine lv_dmul hx hb dX7_exp_99 g2.n64 ?_
            refine lv_dadd hx hb dX7_exp_100 g3.1.n64 ?_
            refine lv_dstore (lv' := [(8, .double (FP.dadd FP.dconst1 (FP.dmul (FP.ddiv (s_r x) (FP.i2d (nI (n + 1)))) v))), (10, .int (nI (n + 1))), (6, .double (s_r x)), (5, .int (s_k x)), (0, .ref h1), (1, .double x)]) hx hb dX7_exp_101 hl (by decide) rfl (fun ls hl => ?_)
            refine lv_iinc (v := nI n) (lv' := [(10, .int (nI n)), (8, .double (FP.dadd FP.dconst1 (FP.dmul (FP.ddiv (s_r x) (FP.i2d (nI (n + 1)))) v))), (6, .double (s_r x)), (5, .int (s_k x)), (0, .ref h1), (1, .double x)]) hx hb dX7_exp_103 hl (k := 1) rfl (pk_m1 n) (by decide) rfl (fun ls hl => ?_)
            refine lv_goto (tgt := 84) hx hb dX7_exp_106 (by decide) ?_
            exact ih _ H locs ls (by omega) g3 hs hP hD hS (lv_sub hl [0, 1, 2, 3, 4, 5] rfl)
        exact loop 14 _ H locs ls (by decide) sz_1 rfl hP hD hS (lv_sub hl [0, 1, 2, 3, 5, 6] rfl)
      refine lv_if_le (tgt := 62) hx hb dX7_exp_55 (by decide) (fun c_55 => ?_) (fun c_55 => ?_)
      · refine lv_iconst (v := 0) hx hb dX7_exp_62 (by decide) ?_
        exact j63 0 (by rw [if_pos c_55])
      · refine lv_iconst (v := 1) hx hb dX7_exp_58 (by decide) ?_
        refine lv_goto (tgt := 63) hx hb dX7_exp_59 (by decide) ?_
        exact j63 1 (by rw [if_neg c_55])
    · refine lv_dconst0 hx hb dX7_exp_27 ?_
      exact hend _ _ _ _ 28 _ FP.dconst0 (0, ge) dX7_exp_28 (Nat.le_of_ble_eq_true rfl) (Nat.le_of_ble_eq_true rfl) hS (⟨by unfold t_e s_exp; rw [if_pos (by unfold e_c; rw [if_pos c_10]), if_neg c_24], by unfold e_c; rw [if_pos c_10], by unfold r_f s_fE; rw [if_pos (by unfold e_c; rw [if_pos c_10]), if_neg c_24]⟩) hP hD
  · refine lv_aload_n hx hb dX7_exp_13 rfl (lv_at hl 0 rfl) ?_
    refine lv_iconst (v := 1) hx hb dX7_exp_14 (by decide) ?_
    refine cl_d (va_runV (As := [.int 1]) (rest := []) ⟨hx, hb, hml, hown, hts⟩ (t_none l D dA h1 sd cd 0 ge gl gx 1 H.size) (cwV 1 hts (lw_V q329 q331 qs5 q18 q332) rfl rfl rfl (by decide +kernel) ⟨Nat.le_of_ble_eq_true rfl, Nat.le_of_ble_eq_true rfl⟩) (pr_V hK hN hP hD (va_recv hK hP (ci := 5) (q0 := 0) rfl rfl)) rfl rfl hl.1 rfl (lv_room (Nat.le_of_ble_eq_true rfl)) dX7_exp_15 ⟨Nat.le_of_ble_eq_true rfl, Nat.le_of_ble_eq_true rfl⟩) hS hD hA (fun r_15 u_15 H locs hpo_15 hP hD hS => ?_)
    refine W.widen (k := 0) (n := 0) (Nat.le_of_ble_eq_true rfl) (Nat.le_of_ble_eq_true rfl) ?_
    have e15 : r_15 = FP.dconst0 := hpo_15
    subst e15
    have hP : va_P D vwCl (tw h1 sd cd 1 ge gl gx) H := hP
    have hD : va_D A (tw h1 sd cd 1 ge gl gx) := hD
    exact hend _ _ _ _ 18 _ FP.dconst0 (1, ge) dX7_exp_18 (Nat.le_of_ble_eq_true rfl) (Nat.le_of_ble_eq_true rfl) hS (⟨by unfold t_e; rw [if_neg (by unfold e_c; rw [if_neg c_10]; decide)], by unfold e_c; rw [if_neg c_10], by unfold r_f; rw [if_neg (by unfold e_c; rw [if_neg c_10]; decide)]⟩) hP hD
abbrev rm_t_log : Room := { frames := 1, cells := 0, slots := 0, locals := 21 }
set_option maxHeartbeats 4000000 in
set_option maxRecDepth 100000 in
theorem t_log (l : Launch) (D : va_G) (dA : ClassId) (h1 : Nat) (sd : Int64) (cd fd ge gl gx : Int32) (x : UInt64) (hv : XV x) (hnum : s_num x ≠ 0) : CMd l D dA yX7_log cX7_log 13 rm_t_log [.ref h1, .double x] (tw h1 sd cd fd ge gl gx) (fun u : Int32 × Int32 => tw h1 sd cd u.1 ge u.2 gx) (fun r u => r = t_l x ∧ u.1 = l_c x ∧ u.2 = l_f x gl) := by
  refine st_d (by decide) (Nat.le_of_ble_eq_true rfl) ?_
  intro p e s m below meth c A Q H locs ls hCF hK hN hA hP hD hS hl hend
  obtain ⟨hx, hb, hml, hown, hts⟩ := hCF
  have hown : s.vm.findClass RX7 = some m.cls := hown
  have hl : lv_has ls 13 [(0, .ref h1), (1, .double x)] := hl
  refine lv_aload_n hx hb dX7_log_0 rfl (lv_at hl 0 rfl) ?_
  refine lv_iconst (v := 0) hx hb dX7_log_1 (by decide) ?_
  refine va_put (D := D) (ci := 5) (v := .int 0) (ty := .int) (C := RX7) (T := TX7) (N := 6) hx hb hts in_X7 tyX7 tyX7_ok nmX7 hown hK hP hD hS 0 rfl rfl 2 (by decide) (hts _ q298) (fun _ h9 => h9) rfl (by decide +kernel) rfl rfl (Nat.le_of_ble_eq_true rfl) dX7_log_2 (fun H locs hP hD hS => ?_)
  have hP : va_P D vwCl (tw h1 sd cd 0 ge gl gx) H := hP
  have hD : va_D A (tw h1 sd cd 0 ge gl gx) := hD
  refine lv_dload_n hx hb dX7_log_5 rfl (lv_at hl 1 rfl) ?_
  refine lv_dconst0 hx hb dX7_log_6 ?_
  refine lv_dcmp hx hb dX7_log_7 ?_
  refine lv_if_ge (tgt := 17) hx hb dX7_log_8 (by decide) (fun c_8 => ?_) (fun c_8 => ?_)
  · refine lv_dload_n hx hb dX7_log_17 rfl (lv_at hl 1 rfl) ?_
    refine lv_dconst0 hx hb dX7_log_18 ?_
    refine lv_dcmp hx hb dX7_log_19 ?_
    refine lv_if_ne (tgt := 29) hx hb dX7_log_20 (by decide) (fun c_20 => ?_) (fun c_20 => ?_)
    · refine lv_aload_n hx hb dX7_log_29 rfl (lv_at hl 0 rfl) ?_
      refine lv_iconst (v := 1) hx hb dX7_log_30 (by decide) ?_
      refine va_put (D := D) (ci := 5) (v := .int 1) (ty := .boolean) (C := RX7) (T := TX7) (N := 6) hx hb hts in_X7 tyX7 tyX7_ok nmX7 hown hK hP hD hS 0 rfl rfl 4 (by decide) (hts _ q300) (fun _ h9 => h9) rfl (by decide +kernel) rfl rfl (Nat.le_of_ble_eq_true rfl) dX7_log_31 (fun H locs hP hD hS => ?_)
      have hP : va_P D vwCl (tw h1 sd cd 0 ge 1 gx) H := hP
      have hD : va_D A (tw h1 sd cd 0 ge 1 gx) := hD
      obtain ⟨hd, h1x, h2x⟩ := pos_facts hv hnum c_8 c_20
      obtain ⟨f1, f2, f3, f4, f5, f6⟩ := lm_facts hd h1x h2x
      have post : ∀ (z : UInt64) (k : Int32) (ls : Array Slot), (z, k) = s_lm x → lv_has ls 13 [(3, .double z), (5, .int k), (0, .ref h1), (1, .double x)] → W p l e rm_t_log s m ([.ref h1, .double x] : List Value).toArray below meth c H locs 0 0 Q (F0 m 79 ls []) := by
        intro z k ls hs hl
        have ez : z = (s_lm x).1 := by rw [← hs]
        have ek : k = (s_lm x).2 := by rw [← hs]
        rw [← ez] at f4
        rw [← ek] at f5 f6
        obtain ⟨g1, g2, g3, g4⟩ := ly_facts f4
        obtain ⟨a1, a2, a3, a4⟩ := lv_facts f4 f5 f6
        refine lv_dload_n hx hb dX7_log_79 rfl (lv_at hl 0 rfl) ?_
        refine lv_dconst1 hx hb dX7_log_80 ?_
        refine lv_dsub hx hb dX7_log_81 g1.n64 ?_
        refine lv_dload_n hx hb dX7_log_82 rfl (lv_at hl 0 rfl) ?_
        refine lv_dconst1 hx hb dX7_log_83 ?_
        refine lv_dadd hx hb dX7_log_84 g2.n64 ?_
        refine lv_ddiv hx hb dX7_log_85 g3.1.n64 ?_
        refine lv_dstore (lv' := [(6, .double (s_ly z)), (3, .double z), (5, .int k), (0, .ref h1), (1, .double x)]) hx hb dX7_log_86 hl (by decide) rfl (fun ls hl => ?_)
        refine lv_dload hx hb dX7_log_88 (lv_at hl 0 rfl) ?_
        refine lv_dload hx hb dX7_log_90 (lv_at hl 0 rfl) ?_
        refine lv_dmul hx hb dX7_log_92 g4.1.n64 ?_
        refine lv_dstore (lv' := [(8, .double (FP.dmul (s_ly z) (s_ly z))), (6, .double (s_ly z)), (3, .double z), (5, .int k), (0, .ref h1), (1, .double x)]) hx hb dX7_log_93 hl (by decide) rfl (fun ls hl => ?_)
        refine lv_dconst0 hx hb dX7_log_95 ?_
        refine lv_dstore (lv' := [(10, .double FP.dconst0), (8, .double (FP.dmul (s_ly z) (s_ly z))), (6, .double (s_ly z)), (3, .double z), (5, .int k), (0, .ref h1), (1, .double x)]) hx hb dX7_log_96 hl (by decide) rfl (fun ls hl => ?_)
        refine lv_bipush (v := 27) hx hb dX7_log_98 (by decide) ?_
        refine lv_istore (lv' := [(12, .int 27), (10, .double FP.dconst0), (8, .double (FP.dmul (s_ly z) (s_ly z))), (6, .double (s_ly z)), (3, .double z), (5, .int k), (0, .ref h1), (1, .double x)]) hx hb dX7_log_100 hl (by decide) rfl (fun ls hl => ?_)
        have loop : ∀ (n : Nat) (v : UInt64) (H : Heap) (locs : List Loc) (ls : Array Slot), n ≤ 14 → SZ v (14 - n) → s_ls (FP.dmul (s_ly z) (s_ly z)) n v = s_ls (FP.dmul (s_ly z) (s_ly z)) 14 FP.dconst0 → va_P D vwCl (tw h1 sd cd 0 ge 1 gx) H → va_D A (tw h1 sd cd 0 ge 1 gx) → va_S A s.heap H locs → lv_has ls 13 [(12, .int (nI (2 * n) + (-1))), (10, .double v), (8, .double (FP.dmul (s_ly z) (s_ly z))), (6, .double (s_ly z)), (3, .double z), (5, .int k), (0, .ref h1), (1, .double x)] → W p l e rm_t_log s m ([.ref h1, .double x] : List Value).toArray below meth c H locs 0 0 Q (F0 m 102 ls []) := by
          intro n
          induction n with
          | zero =>
            intro v H locs ls hn hv0 hs hP hD hS hl
            have ev : v = s_ls (FP.dmul (s_ly z) (s_ly z)) 14 FP.dconst0 := hs
            subst ev
            refine lv_iload hx hb dX7_log_102 (lv_at hl 0 rfl) ?_
            refine lv_iconst (v := 1) hx hb dX7_log_104 (by decide) ?_
            refine lv_icmp_lt (tgt := 127) hx hb dX7_log_105 (by decide) (fun c_105 => ?_) (fun c_105 => absurd (by decide) c_105)
            refine lv_ldc2d hx hb hown (hts _ q337) dX7_log_127 ?_
            refine lv_dload hx hb dX7_log_130 (lv_at hl 3 rfl) ?_
            refine lv_dmul hx hb dX7_log_132 a1.n64 ?_
            refine lv_dload hx hb dX7_log_133 (lv_at hl 1 rfl) ?_
            refine lv_dmul hx hb dX7_log_135 a2.n64 ?_
            refine lv_iload hx hb dX7_log_136 (lv_at hl 5 rfl) ?_
            refine lv_i2d hx hb dX7_log_138 ?_
            refine lv_ldc2d hx hb hown (hts _ q336) dX7_log_139 ?_
            refine lv_dmul hx hb dX7_log_142 a3.n64 ?_
            refine lv_dadd hx hb dX7_log_143 a4.1.n64 ?_
            exact hend _ _ _ _ 144 _ (FP.dadd (FP.dmul (FP.dmul (4611686018427387904 : UInt64) (s_ly z)) (s_ls (FP.dmul (s_ly z) (s_ly z)) 14 FP.dconst0)) (FP.dmul (FP.i2d k) (4604418534313441775 : UInt64))) (0, 1) dX7_log_144 (Nat.le_of_ble_eq_true rfl) (Nat.le_of_ble_eq_true rfl) hS (⟨by unfold t_l s_log; rw [if_pos (by unfold l_c; rw [if_pos c_8, if_neg c_20]), ← ez, ← ek]; rfl, Eq.symm (by unfold l_c; rw [if_pos c_8, if_neg c_20]), by unfold l_f; rw [if_pos (by unfold l_c; rw [if_pos c_8, if_neg c_20])]⟩) hP hD
          | succ n ih =>
            intro v H locs ls hn hv0 hs hP hD hS hl
            obtain ⟨b1, b2⟩ := ls_step (n := n) (by omega) g4 hv0 (by omega)
            refine lv_iload hx hb dX7_log_102 (lv_at hl 0 rfl) ?_
            refine lv_iconst (v := 1) hx hb dX7_log_104 (by decide) ?_
            refine lv_icmp_lt (tgt := 127) hx hb dX7_log_105 (by decide) (fun c_105 => absurd c_105 (by rw [o_1]; exact nI_nlt (a := 2 * n + 1) (b := 1) (by omega) (by omega))) (fun c_105 => ?_)
            refine lv_dconst1 hx hb dX7_log_108 ?_
            refine lv_iload hx hb dX7_log_109 (lv_at hl 0 rfl) ?_
            rw [o_1]
            refine lv_i2d hx hb dX7_log_111 ?_
            refine lv_ddiv hx hb dX7_log_112 ((show DF (s_lt n) from (lt_sz (by omega)).1).n64) ?_
            refine lv_dload hx hb dX7_log_113 (lv_at hl 2 rfl) ?_
            refine lv_dload hx hb dX7_log_115 (lv_at hl 1 rfl) ?_
            refine lv_dmul hx hb dX7_log_117 b1.n64 ?_
            refine lv_dadd hx hb dX7_log_118 b2.1.n64 ?_
            refine lv_dstore (lv' := [(10, .double (FP.dadd (s_lt n) (FP.dmul (FP.dmul (s_ly z) (s_ly z)) v))), (12, .int (nI (2 * (n + 1)) + (-1))), (8, .double (FP.dmul (s_ly z) (s_ly z))), (6, .double (s_ly z)), (3, .double z), (5, .int k), (0, .ref h1), (1, .double x)]) hx hb dX7_log_119 hl (by decide) rfl (fun ls hl => ?_)
            refine lv_iinc (v := nI (2 * n) + (-1)) (lv' := [(12, .int (nI (2 * n) + (-1))), (10, .double (FP.dadd (s_lt n) (FP.dmul (FP.dmul (s_ly z) (s_ly z)) v))), (8, .double (FP.dmul (s_ly z) (s_ly z))), (6, .double (s_ly z)), (3, .double z), (5, .int k), (0, .ref h1), (1, .double x)]) hx hb dX7_log_121 hl (k := 1) rfl (o_2 n) (by decide) rfl (fun ls hl => ?_)
            refine lv_goto (tgt := 102) hx hb dX7_log_124 (by decide) ?_
            exact ih _ H locs ls (by omega) (b2.weak (by omega)) hs hP hD hS (lv_sub hl [0, 1, 2, 3, 4, 5, 6, 7] rfl)
        exact loop 14 _ H locs ls (by decide) sz_0 rfl hP hD hS (lv_sub hl [0, 1, 2, 3, 4, 5, 6, 7] rfl)
      have loop2 : ∀ (n : Nat) (z : UInt64) (k : Int32) (ls : Array Slot), NN z → s_l2 n (z, k) = s_l2 8 (s_l1 40 (x, 0)) → lv_has ls 13 [(3, .double z), (5, .int k), (0, .ref h1), (1, .double x)] → W p l e rm_t_log s m ([.ref h1, .double x] : List Value).toArray below meth c H locs 0 0 Q (F0 m 59 ls []) := by
        intro n
        induction n with
        | zero =>
          intro z k ls hz hs hl
          have hs : (z, k) = s_l2 8 (s_l1 40 (x, 0)) := hs
          refine lv_dload_n hx hb dX7_log_59 rfl (lv_at hl 0 rfl) ?_
          refine lv_ldc2d hx hb hown (hts _ q351) dX7_log_60 ?_
          refine lv_dcmp hx hb dX7_log_63 ?_
          refine lv_if_ge (tgt := 79) hx hb dX7_log_64 (by decide) (fun c_64 => ?_) (fun c_64 => absurd (by have h9 := f3; unfold s_lm at h9; rw [← hs] at h9; exact h9) c_64)
          exact post z k ls hs (lv_sub hl [0, 1, 2, 3] rfl)
        | succ n ih =>
          intro z k ls hz hs hl
          refine lv_dload_n hx hb dX7_log_59 rfl (lv_at hl 0 rfl) ?_
          refine lv_ldc2d hx hb hown (hts _ q351) dX7_log_60 ?_
          refine lv_dcmp hx hb dX7_log_63 ?_
          refine lv_if_ge (tgt := 79) hx hb dX7_log_64 (by decide) (fun c_64 => ?_) (fun c_64 => ?_)
          · rw [s_l2_s, if_pos c_64] at hs
            exact post z k ls hs (lv_sub hl [0, 1, 2, 3] rfl)
          · refine lv_dload_n hx hb dX7_log_67 rfl (lv_at hl 0 rfl) ?_
            refine lv_ldc2d hx hb hown (hts _ q337) dX7_log_68 ?_
            refine lv_dmul hx hb dX7_log_71 ((nn_dbl hz).n64) ?_
            refine lv_dstore_n (lv' := [(3, .double (FP.dmul z (4611686018427387904 : UInt64))), (5, .int k), (0, .ref h1), (1, .double x)]) hx hb dX7_log_72 rfl hl (by decide) rfl (fun ls hl => ?_)
            refine lv_iinc (v := k + (-1)) (lv' := [(5, .int (k + (-1))), (3, .double (FP.dmul z (4611686018427387904 : UInt64))), (0, .ref h1), (1, .double x)]) hx hb dX7_log_73 hl (k := 1) rfl rfl (by decide) rfl (fun ls hl => ?_)
            refine lv_goto (tgt := 59) hx hb dX7_log_76 (by decide) ?_
            rw [s_l2_s, if_neg c_64] at hs
            exact ih _ _ _ (nn_dbl hz) hs (lv_sub hl [1, 0, 2, 3] rfl)
      have loop1 : ∀ (n : Nat) (z : UInt64) (k : Int32) (ls : Array Slot), NN z → s_l1 n (z, k) = s_l1 40 (x, 0) → lv_has ls 13 [(3, .double z), (5, .int k), (0, .ref h1), (1, .double x)] → W p l e rm_t_log s m ([.ref h1, .double x] : List Value).toArray below meth c H locs 0 0 Q (F0 m 39 ls []) := by
        intro n
        induction n with
        | zero =>
          intro z k ls hz hs hl
          have hs : (z, k) = s_l1 40 (x, 0) := hs
          refine lv_dload_n hx hb dX7_log_39 rfl (lv_at hl 0 rfl) ?_
          refine lv_ldc2d hx hb hown (hts _ q350) dX7_log_40 ?_
          refine lv_dcmp hx hb dX7_log_43 ?_
          refine lv_if_lt (tgt := 59) hx hb dX7_log_44 (by decide) (fun c_44 => ?_) (fun c_44 => absurd (by have h9 := f1; rw [← hs] at h9; exact h9) c_44)
          exact loop2 8 z k ls hz (by rw [hs]) (lv_sub hl [0, 1, 2, 3] rfl)
        | succ n ih =>
          intro z k ls hz hs hl
          refine lv_dload_n hx hb dX7_log_39 rfl (lv_at hl 0 rfl) ?_
          refine lv_ldc2d hx hb hown (hts _ q350) dX7_log_40 ?_
          refine lv_dcmp hx hb dX7_log_43 ?_
          refine lv_if_lt (tgt := 59) hx hb dX7_log_44 (by decide) (fun c_44 => ?_) (fun c_44 => ?_)
          · rw [s_l1_s, if_pos c_44] at hs
            exact loop2 8 z k ls hz (by rw [hs]) (lv_sub hl [0, 1, 2, 3] rfl)
          · refine lv_dload_n hx hb dX7_log_47 rfl (lv_at hl 0 rfl) ?_
            refine lv_ldc2d hx hb hown (hts _ q335) dX7_log_48 ?_
            refine lv_dmul hx hb dX7_log_51 ((nn_hlf hz).n64) ?_
            refine lv_dstore_n (lv' := [(3, .double (FP.dmul z (4602678819172646912 : UInt64))), (5, .int k), (0, .ref h1), (1, .double x)]) hx hb dX7_log_52 rfl hl (by decide) rfl (fun ls hl => ?_)
            refine lv_iinc (v := k + 1) (lv' := [(5, .int (k + 1)), (3, .double (FP.dmul z (4602678819172646912 : UInt64))), (0, .ref h1), (1, .double x)]) hx hb dX7_log_53 hl (k := 1) rfl rfl (by decide) rfl (fun ls hl => ?_)
            refine lv_goto (tgt := 39) hx hb dX7_log_56 (by decide) ?_
            rw [s_l1_s, if_neg c_44] at hs
            exact ih _ _ _ (nn_hlf hz) hs (lv_sub hl [1, 0, 2, 3] rfl)
      refine lv_dload_n hx hb dX7_log_34 rfl (lv_at hl 1 rfl) ?_
      refine lv_dstore_n (lv' := [(3, .double x), (0, .ref h1), (1, .double x)]) hx hb dX7_log_35 rfl hl (by decide) rfl (fun ls hl => ?_)
      refine lv_iconst (v := 0) hx hb dX7_log_36 (by decide) ?_
      refine lv_istore (lv' := [(5, .int 0), (3, .double x), (0, .ref h1), (1, .double x)]) hx hb dX7_log_37 hl (by decide) rfl (fun ls hl => ?_)
      exact loop1 40 x 0 ls hd.nn rfl (lv_sub hl [1, 0, 2, 3] rfl)
    · refine lv_aload_n hx hb dX7_log_23 rfl (lv_at hl 0 rfl) ?_
      refine lv_iconst (v := 2) hx hb dX7_log_24 (by decide) ?_
      refine cl_d (va_runV (As := [.int 2]) (rest := []) ⟨hx, hb, hml, hown, hts⟩ (t_none l D dA h1 sd cd 0 ge gl gx 2 H.size) (cwV 1 hts (lw_V q329 q331 qs5 q18 q332) rfl rfl rfl (by decide +kernel) ⟨Nat.le_of_ble_eq_true rfl, Nat.le_of_ble_eq_true rfl⟩) (pr_V hK hN hP hD (va_recv hK hP (ci := 5) (q0 := 0) rfl rfl)) rfl rfl hl.1 rfl (lv_room (Nat.le_of_ble_eq_true rfl)) dX7_log_25 ⟨Nat.le_of_ble_eq_true rfl, Nat.le_of_ble_eq_true rfl⟩) hS hD hA (fun r_25 u_25 H locs hpo_25 hP hD hS => ?_)
      refine W.widen (k := 0) (n := 0) (Nat.le_of_ble_eq_true rfl) (Nat.le_of_ble_eq_true rfl) ?_
      have e25 : r_25 = FP.dconst0 := hpo_25
      subst e25
      have hP : va_P D vwCl (tw h1 sd cd 2 ge gl gx) H := hP
      have hD : va_D A (tw h1 sd cd 2 ge gl gx) := hD
      exact hend _ _ _ _ 28 _ FP.dconst0 (2, gl) dX7_log_28 (Nat.le_of_ble_eq_true rfl) (Nat.le_of_ble_eq_true rfl) hS (⟨by unfold t_l; rw [if_neg (by rw [show l_c x = 2 from (by unfold l_c; rw [if_pos c_8, if_pos c_20])]; decide)], Eq.symm (by unfold l_c; rw [if_pos c_8, if_pos c_20]), by unfold l_f; rw [if_neg (by rw [show l_c x = 2 from (by unfold l_c; rw [if_pos c_8, if_pos c_20])]; decide)]⟩) hP hD
  · refine lv_aload_n hx hb dX7_log_11 rfl (lv_at hl 0 rfl) ?_
    refine lv_iconst (v := 3) hx hb dX7_log_12 (by decide) ?_
    refine cl_d (va_runV (As := [.int 3]) (rest := []) ⟨hx, hb, hml, hown, hts⟩ (t_none l D dA h1 sd cd 0 ge gl gx 3 H.size) (cwV 1 hts (lw_V q329 q331 qs5 q18 q332) rfl rfl rfl (by decide +kernel) ⟨Nat.le_of_ble_eq_true rfl, Nat.le_of_ble_eq_true rfl⟩) (pr_V hK hN hP hD (va_recv hK hP (ci := 5) (q0 := 0) rfl rfl)) rfl rfl hl.1 rfl (lv_room (Nat.le_of_ble_eq_true rfl)) dX7_log_13 ⟨Nat.le_of_ble_eq_true rfl, Nat.le_of_ble_eq_true rfl⟩) hS hD hA (fun r_13 u_13 H locs hpo_13 hP hD hS => ?_)
    refine W.widen (k := 0) (n := 0) (Nat.le_of_ble_eq_true rfl) (Nat.le_of_ble_eq_true rfl) ?_
    have e13 : r_13 = FP.dconst0 := hpo_13
    subst e13
    have hP : va_P D vwCl (tw h1 sd cd 3 ge gl gx) H := hP
    have hD : va_D A (tw h1 sd cd 3 ge gl gx) := hD
    exact hend _ _ _ _ 16 _ FP.dconst0 (3, gl) dX7_log_16 (Nat.le_of_ble_eq_true rfl) (Nat.le_of_ble_eq_true rfl) hS (⟨by unfold t_l; rw [if_neg (by rw [show l_c x = 3 from (by unfold l_c; rw [if_neg c_8])]; decide)], Eq.symm (by unfold l_c; rw [if_neg c_8]), by unfold l_f; rw [if_neg (by rw [show l_c x = 3 from (by unfold l_c; rw [if_neg c_8])]; decide)]⟩) hP hD
end
section
abbrev rm_t_sqrt : Room := { frames := 1, cells := 0, slots := 0, locals := 21 }
set_option maxHeartbeats 4000000 in
set_option maxRecDepth 100000 in
theorem t_sqrt (l : Launch) (D : va_G) (dA : ClassId) (h1 : Nat) (sd : Int64) (cd fd ge gl gx : Int32) (x : UInt64) (hv : XV x) (hnum : s_num x ≠ 0) : CMd l D dA yX7_sqrt cX7_sqrt 9 rm_t_sqrt [.ref h1, .double x] (tw h1 sd cd fd ge gl gx) (fun u : Int32 => tw h1 sd cd u ge gl gx) (fun r u => r = t_r x ∧ u = r_c x) := by
  refine st_d (by decide) (Nat.le_of_ble_eq_true rfl) ?_
  intro p e s m below meth c A Q H locs ls hCF hK hN hA hP hD hS hl hend
  obtain ⟨hx, hb, hml, hown, hts⟩ := hCF
  have hown : s.vm.findClass RX7 = some m.cls := hown
  have hl : lv_has ls 9 [(0, .ref h1), (1, .double x)] := hl
  refine lv_aload_n hx hb dX7_sqrt_0 rfl (lv_at hl 0 rfl) ?_
  refine lv_iconst (v := 0) hx hb dX7_sqrt_1 (by decide) ?_
  refine va_put (D := D) (ci := 5) (v := .int 0) (ty := .int) (C := RX7) (T := TX7) (N := 6) hx hb hts in_X7 tyX7 tyX7_ok nmX7 hown hK hP hD hS 0 rfl rfl 2 (by decide) (hts _ q298) (fun _ h9 => h9) rfl (by decide +kernel) rfl rfl (Nat.le_of_ble_eq_true rfl) dX7_sqrt_2 (fun H locs hP hD hS => ?_)
  have hP : va_P D vwCl (tw h1 sd cd 0 ge gl gx) H := hP
  have hD : va_D A (tw h1 sd cd 0 ge gl gx) := hD
  refine lv_dload_n hx hb dX7_sqrt_5 rfl (lv_at hl 1 rfl) ?_
  refine lv_dconst0 hx hb dX7_sqrt_6 ?_
  refine lv_dcmp hx hb dX7_sqrt_7 ?_
  refine lv_if_ge (tgt := 17) hx hb dX7_sqrt_8 (by decide) (fun c_8 => ?_) (fun c_8 => ?_)
  · refine lv_dload_n hx hb dX7_sqrt_17 rfl (lv_at hl 1 rfl) ?_
    refine lv_dconst0 hx hb dX7_sqrt_18 ?_
    refine lv_dcmp hx hb dX7_sqrt_19 ?_
    refine lv_if_ne (tgt := 25) hx hb dX7_sqrt_20 (by decide) (fun c_20 => ?_) (fun c_20 => ?_)
    · obtain ⟨hd, h1x, h2x⟩ := pos_facts hv hnum c_8 c_20
      obtain ⟨f1, f3, f4⟩ := qm_facts hd h1x h2x
      have post : ∀ (z : UInt64) (k : Int32) (ls : Array Slot), (z, k) = s_qm x → lv_has ls 9 [(3, .double z), (5, .int k), (0, .ref h1), (1, .double x)] → W p l e rm_t_sqrt s m ([.ref h1, .double x] : List Value).toArray below meth c H locs 0 0 Q (F0 m 68 ls []) := by
        intro z k ls hs hl
        have ez : z = (s_qm x).1 := by rw [← hs]
        have ek : k = (s_qm x).2 := by rw [← hs]
        rw [← ez] at f4
        obtain ⟨g1, g2⟩ := q0_facts f4
        refine lv_dload_n hx hb dX7_sqrt_68 rfl (lv_at hl 0 rfl) ?_
        refine lv_ldc2d hx hb hown (hts _ q335) dX7_sqrt_69 ?_
        refine lv_dmul hx hb dX7_sqrt_72 g1.n64 ?_
        refine lv_ldc2d hx hb hown (hts _ q335) dX7_sqrt_73 ?_
        refine lv_dadd hx hb dX7_sqrt_76 g2.1.1.n64 ?_
        refine lv_dstore (lv' := [(6, .double (s_q0 z)), (3, .double z), (5, .int k), (0, .ref h1), (1, .double x)]) hx hb dX7_sqrt_77 hl (by decide) rfl (fun ls hl => ?_)
        refine lv_iconst (v := 0) hx hb dX7_sqrt_79 (by decide) ?_
        refine lv_istore (lv' := [(8, .int 0), (6, .double (s_q0 z)), (3, .double z), (5, .int k), (0, .ref h1), (1, .double x)]) hx hb dX7_sqrt_80 hl (by decide) rfl (fun ls hl => ?_)
        have loop : ∀ (n : Nat) (i : Nat) (v : UInt64) (H : Heap) (locs : List Loc) (ls : Array Slot), i + n = 6 → QI z v n → s_qr z n v = s_qr z 6 (s_q0 z) → va_P D vwCl (tw h1 sd cd 0 ge gl gx) H → va_D A (tw h1 sd cd 0 ge gl gx) → va_S A s.heap H locs → lv_has ls 9 [(8, .int (nI i)), (6, .double v), (3, .double z), (5, .int k), (0, .ref h1), (1, .double x)] → W p l e rm_t_sqrt s m ([.ref h1, .double x] : List Value).toArray below meth c H locs 0 0 Q (F0 m 82 ls []) := by
          intro n
          induction n with
          | zero =>
            intro i v H locs ls hn hq hs hP hD hS hl
            have ei : i = 6 := by omega
            subst ei
            have ev : v = s_qr z 6 (s_q0 z) := hs
            obtain ⟨v1, hv1⟩ : ∃ v1, v1 = v := ⟨_, rfl⟩
            rw [← hv1] at hq ev hl
            refine lv_iload hx hb dX7_sqrt_82 (lv_at hl 0 rfl) ?_
            refine lv_bipush (v := 6) hx hb dX7_sqrt_84 (by decide) ?_
            refine lv_icmp_ge (tgt := 108) hx hb dX7_sqrt_86 (by decide) (fun c_86 => ?_) (fun c_86 => absurd (by decide) c_86)
            have loopD : ∀ (n : Nat) (i : Int32) (v : UInt64) (ls : Array Slot), NN v → (i.toInt = (k).toInt + n ∨ (n = 0 ∧ i.toInt ≤ (k).toInt)) → s_dn n v = s_scaled v1 k → lv_has ls 9 [(8, .int i), (6, .double v), (3, .double z), (5, .int k), (0, .ref h1), (1, .double x)] → W p l e rm_t_sqrt s m ([.ref h1, .double x] : List Value).toArray below meth c H locs 0 0 Q (F0 m 135 ls []) := by
              intro n
              induction n with
              | zero =>
                intro i v ls hv hi hfin hl
                have hfin : v = s_scaled v1 k := hfin
                refine lv_iload hx hb dX7_sqrt_135 (lv_at hl 0 rfl) ?_
                refine lv_iload hx hb dX7_sqrt_137 (lv_at hl 3 rfl) ?_
                refine lv_icmp_le (tgt := 156) hx hb dX7_sqrt_139 (by decide) (fun c_139 => ?_) (fun c_139 => absurd (by rw [Int32.le_iff_toInt_le]; omega) c_139)
                refine lv_dload hx hb dX7_sqrt_156 (lv_at hl 1 rfl) ?_
                exact hend _ _ _ _ 158 _ v 0 dX7_sqrt_158 (Nat.le_of_ble_eq_true rfl) (Nat.le_of_ble_eq_true rfl) hS (⟨by rw [hfin, ev]; unfold t_r s_root; rw [if_pos (by unfold r_c; rw [if_pos c_8]), if_neg c_20, ← ez, ← ek], Eq.symm (by unfold r_c; rw [if_pos c_8])⟩) hP hD
              | succ n ih =>
                intro i v ls hv hi hfin hl
                refine lv_iload hx hb dX7_sqrt_135 (lv_at hl 0 rfl) ?_
                refine lv_iload hx hb dX7_sqrt_137 (lv_at hl 3 rfl) ?_
                refine lv_icmp_le (tgt := 156) hx hb dX7_sqrt_139 (by decide) (fun c_139 => absurd c_139 (by rw [Int32.le_iff_toInt_le]; omega)) (fun c_139 => ?_)
                refine lv_dload hx hb dX7_sqrt_142 (lv_at hl 1 rfl) ?_
                refine lv_ldc2d hx hb hown (hts _ q335) dX7_sqrt_144 ?_
                refine lv_dmul hx hb dX7_sqrt_147 ((nn_hlf hv).n64) ?_
                refine lv_dstore (lv' := [(6, .double (FP.dmul v (4602678819172646912 : UInt64))), (8, .int i), (3, .double z), (5, .int k), (0, .ref h1), (1, .double x)]) hx hb dX7_sqrt_148 hl (by decide) rfl (fun ls hl => ?_)
                refine lv_iinc (v := i + (-1)) (lv' := [(8, .int (i + (-1))), (6, .double (FP.dmul v (4602678819172646912 : UInt64))), (3, .double z), (5, .int k), (0, .ref h1), (1, .double x)]) hx hb dX7_sqrt_150 hl (k := 1) rfl rfl (by decide) rfl (fun ls hl => ?_)
                refine lv_goto (tgt := 135) hx hb dX7_sqrt_153 (by decide) ?_
                exact ih _ _ _ (nn_hlf hv) (by rw [i32_dec (i := i) (k := k) (by omega)]; omega) hfin (lv_sub hl [0, 1, 2, 3, 4, 5] rfl)
            have loopU : ∀ (n : Nat) (i : Int32) (v : UInt64) (ls : Array Slot), NN v → ((k).toInt = i.toInt + n ∨ (n = 0 ∧ (k).toInt ≤ i.toInt)) → s_up n v = s_up (k).toInt.toNat v1 → lv_has ls 9 [(8, .int i), (6, .double v), (3, .double z), (5, .int k), (0, .ref h1), (1, .double x)] → W p l e rm_t_sqrt s m ([.ref h1, .double x] : List Value).toArray below meth c H locs 0 0 Q (F0 m 111 ls []) := by
              intro n
              induction n with
              | zero =>
                intro i v ls hv hi hfin hl
                refine lv_iload hx hb dX7_sqrt_111 (lv_at hl 0 rfl) ?_
                refine lv_iload hx hb dX7_sqrt_113 (lv_at hl 3 rfl) ?_
                refine lv_icmp_ge (tgt := 132) hx hb dX7_sqrt_115 (by decide) (fun c_115 => ?_) (fun c_115 => absurd (by rw [Int32.le_iff_toInt_le]; omega) c_115)
                refine lv_iconst (v := 0) hx hb dX7_sqrt_132 (by decide) ?_
                refine lv_istore (lv' := [(8, .int 0), (6, .double v), (3, .double z), (5, .int k), (0, .ref h1), (1, .double x)]) hx hb dX7_sqrt_133 hl (by decide) rfl (fun ls hl => ?_)
                have hfin : v = s_up (k).toInt.toNat v1 := hfin
                exact loopD (-(k).toInt).toNat 0 v _ hv (by rw [i32_0]; omega) (by rw [hfin]; rfl) (lv_sub hl [0, 1, 2, 3, 4, 5] rfl)
              | succ n ih =>
                intro i v ls hv hi hfin hl
                refine lv_iload hx hb dX7_sqrt_111 (lv_at hl 0 rfl) ?_
                refine lv_iload hx hb dX7_sqrt_113 (lv_at hl 3 rfl) ?_
                refine lv_icmp_ge (tgt := 132) hx hb dX7_sqrt_115 (by decide) (fun c_115 => absurd c_115 (by rw [Int32.le_iff_toInt_le]; omega)) (fun c_115 => ?_)
                refine lv_dload hx hb dX7_sqrt_118 (lv_at hl 1 rfl) ?_
                refine lv_ldc2d hx hb hown (hts _ q337) dX7_sqrt_120 ?_
                refine lv_dmul hx hb dX7_sqrt_123 ((nn_dbl hv).n64) ?_
                refine lv_dstore (lv' := [(6, .double (FP.dmul v (4611686018427387904 : UInt64))), (8, .int i), (3, .double z), (5, .int k), (0, .ref h1), (1, .double x)]) hx hb dX7_sqrt_124 hl (by decide) rfl (fun ls hl => ?_)
                refine lv_iinc (v := i + 1) (lv' := [(8, .int (i + 1)), (6, .double (FP.dmul v (4611686018427387904 : UInt64))), (3, .double z), (5, .int k), (0, .ref h1), (1, .double x)]) hx hb dX7_sqrt_126 hl (k := 1) rfl rfl (by decide) rfl (fun ls hl => ?_)
                refine lv_goto (tgt := 111) hx hb dX7_sqrt_129 (by decide) ?_
                exact ih _ _ _ (nn_dbl hv) (by rw [i32_inc (i := i) (k := k) (by omega)]; omega) hfin (lv_sub hl [0, 1, 2, 3, 4, 5] rfl)
            refine lv_iconst (v := 0) hx hb dX7_sqrt_108 (by decide) ?_
            refine lv_istore (lv' := [(8, .int 0), (6, .double v1), (3, .double z), (5, .int k), (0, .ref h1), (1, .double x)]) hx hb dX7_sqrt_109 hl (by decide) rfl (fun ls hl => ?_)
            exact loopU (k).toInt.toNat 0 _ _ hq.1.1.nn (by rw [i32_0]; omega) rfl (lv_sub hl [0, 1, 2, 3, 4, 5] rfl)
          | succ n ih =>
            intro i v H locs ls hn hq hs hP hD hS hl
            obtain ⟨b1, b2, b3⟩ := qi_step (n := n) (by omega) f4 hq
            refine lv_iload hx hb dX7_sqrt_82 (lv_at hl 0 rfl) ?_
            refine lv_bipush (v := 6) hx hb dX7_sqrt_84 (by decide) ?_
            refine lv_icmp_ge (tgt := 108) hx hb dX7_sqrt_86 (by decide) (fun c_86 => absurd c_86 (by exact nI_ge (a := i) (b := 6) (by omega) (by decide))) (fun c_86 => ?_)
            refine lv_dload hx hb dX7_sqrt_89 (lv_at hl 1 rfl) ?_
            refine lv_dload_n hx hb dX7_sqrt_91 rfl (lv_at hl 2 rfl) ?_
            refine lv_dload hx hb dX7_sqrt_92 (lv_at hl 1 rfl) ?_
            refine lv_ddiv hx hb dX7_sqrt_94 b1.n64 ?_
            refine lv_dadd hx hb dX7_sqrt_95 b2.n64 ?_
            refine lv_ldc2d hx hb hown (hts _ q335) dX7_sqrt_96 ?_
            refine lv_dmul hx hb dX7_sqrt_99 b3.1.1.n64 ?_
            refine lv_dstore (lv' := [(6, .double (FP.dmul (FP.dadd v (FP.ddiv z v)) (4602678819172646912 : UInt64))), (8, .int (nI i)), (3, .double z), (5, .int k), (0, .ref h1), (1, .double x)]) hx hb dX7_sqrt_100 hl (by decide) rfl (fun ls hl => ?_)
            refine lv_iinc (v := nI (i + 1)) (lv' := [(8, .int (nI (i + 1))), (6, .double (FP.dmul (FP.dadd v (FP.ddiv z v)) (4602678819172646912 : UInt64))), (3, .double z), (5, .int k), (0, .ref h1), (1, .double x)]) hx hb dX7_sqrt_102 hl (k := 1) rfl (nI_1 i) (by decide) rfl (fun ls hl => ?_)
            refine lv_goto (tgt := 82) hx hb dX7_sqrt_105 (by decide) ?_
            exact ih (i + 1) _ H locs ls (by omega) b3 hs hP hD hS (lv_sub hl [0, 1, 2, 3, 4, 5] rfl)
        exact loop 6 0 _ H locs ls (by decide) g2 rfl hP hD hS (lv_sub hl [0, 1, 2, 3, 4, 5] rfl)
      have loop2 : ∀ (n : Nat) (z : UInt64) (k : Int32) (ls : Array Slot), NN z → s_q2 n (z, k) = s_q2 8 (s_q1 40 (x, 0)) → lv_has ls 9 [(3, .double z), (5, .int k), (0, .ref h1), (1, .double x)] → W p l e rm_t_sqrt s m ([.ref h1, .double x] : List Value).toArray below meth c H locs 0 0 Q (F0 m 50 ls []) := by
        intro n
        induction n with
        | zero =>
          intro z k ls hz hs hl
          have hs : (z, k) = s_q2 8 (s_q1 40 (x, 0)) := hs
          refine lv_dload_n hx hb dX7_sqrt_50 rfl (lv_at hl 0 rfl) ?_
          refine lv_dconst1 hx hb dX7_sqrt_51 ?_
          refine lv_dcmp hx hb dX7_sqrt_52 ?_
          refine lv_if_ge (tgt := 68) hx hb dX7_sqrt_53 (by decide) (fun c_53 => ?_) (fun c_53 => absurd (by have h9 := f3; unfold s_qm at h9; rw [← hs] at h9; exact h9) c_53)
          exact post z k ls hs (lv_sub hl [0, 1, 2, 3] rfl)
        | succ n ih =>
          intro z k ls hz hs hl
          refine lv_dload_n hx hb dX7_sqrt_50 rfl (lv_at hl 0 rfl) ?_
          refine lv_dconst1 hx hb dX7_sqrt_51 ?_
          refine lv_dcmp hx hb dX7_sqrt_52 ?_
          refine lv_if_ge (tgt := 68) hx hb dX7_sqrt_53 (by decide) (fun c_53 => ?_) (fun c_53 => ?_)
          · rw [s_q2_s, if_pos c_53] at hs
            exact post z k ls hs (lv_sub hl [0, 1, 2, 3] rfl)
          · refine lv_dload_n hx hb dX7_sqrt_56 rfl (lv_at hl 0 rfl) ?_
            refine lv_ldc2d hx hb hown (hts _ q368) dX7_sqrt_57 ?_
            refine lv_dmul hx hb dX7_sqrt_60 ((nn_fou hz).n64) ?_
            refine lv_dstore_n (lv' := [(3, .double (FP.dmul z (4616189618054758400 : UInt64))), (5, .int k), (0, .ref h1), (1, .double x)]) hx hb dX7_sqrt_61 rfl hl (by decide) rfl (fun ls hl => ?_)
            refine lv_iinc (v := k + (-1)) (lv' := [(5, .int (k + (-1))), (3, .double (FP.dmul z (4616189618054758400 : UInt64))), (0, .ref h1), (1, .double x)]) hx hb dX7_sqrt_62 hl (k := 1) rfl rfl (by decide) rfl (fun ls hl => ?_)
            refine lv_goto (tgt := 50) hx hb dX7_sqrt_65 (by decide) ?_
            rw [s_q2_s, if_neg c_53] at hs
            exact ih _ _ _ (nn_fou hz) hs (lv_sub hl [1, 0, 2, 3] rfl)
      have loop1 : ∀ (n : Nat) (z : UInt64) (k : Int32) (ls : Array Slot), NN z → s_q1 n (z, k) = s_q1 40 (x, 0) → lv_has ls 9 [(3, .double z), (5, .int k), (0, .ref h1), (1, .double x)] → W p l e rm_t_sqrt s m ([.ref h1, .double x] : List Value).toArray below meth c H locs 0 0 Q (F0 m 30 ls []) := by
        intro n
        induction n with
        | zero =>
          intro z k ls hz hs hl
          have hs : (z, k) = s_q1 40 (x, 0) := hs
          refine lv_dload_n hx hb dX7_sqrt_30 rfl (lv_at hl 0 rfl) ?_
          refine lv_ldc2d hx hb hown (hts _ q368) dX7_sqrt_31 ?_
          refine lv_dcmp hx hb dX7_sqrt_34 ?_
          refine lv_if_lt (tgt := 50) hx hb dX7_sqrt_35 (by decide) (fun c_35 => ?_) (fun c_35 => absurd (by have h9 := f1; rw [← hs] at h9; exact h9) c_35)
          exact loop2 8 z k ls hz (by rw [hs]) (lv_sub hl [0, 1, 2, 3] rfl)
        | succ n ih =>
          intro z k ls hz hs hl
          refine lv_dload_n hx hb dX7_sqrt_30 rfl (lv_at hl 0 rfl) ?_
          refine lv_ldc2d hx hb hown (hts _ q368) dX7_sqrt_31 ?_
          refine lv_dcmp hx hb dX7_sqrt_34 ?_
          refine lv_if_lt (tgt := 50) hx hb dX7_sqrt_35 (by decide) (fun c_35 => ?_) (fun c_35 => ?_)
          · rw [s_q1_s, if_pos c_35] at hs
            exact loop2 8 z k ls hz (by rw [hs]) (lv_sub hl [0, 1, 2, 3] rfl)
          · refine lv_dload_n hx hb dX7_sqrt_38 rfl (lv_at hl 0 rfl) ?_
            refine lv_ldc2d hx hb hown (hts _ q369) dX7_sqrt_39 ?_
            refine lv_dmul hx hb dX7_sqrt_42 ((nn_qrt hz).n64) ?_
            refine lv_dstore_n (lv' := [(3, .double (FP.dmul z (4598175219545276416 : UInt64))), (5, .int k), (0, .ref h1), (1, .double x)]) hx hb dX7_sqrt_43 rfl hl (by decide) rfl (fun ls hl => ?_)
            refine lv_iinc (v := k + 1) (lv' := [(5, .int (k + 1)), (3, .double (FP.dmul z (4598175219545276416 : UInt64))), (0, .ref h1), (1, .double x)]) hx hb dX7_sqrt_44 hl (k := 1) rfl rfl (by decide) rfl (fun ls hl => ?_)
            refine lv_goto (tgt := 30) hx hb dX7_sqrt_47 (by decide) ?_
            rw [s_q1_s, if_neg c_35] at hs
            exact ih _ _ _ (nn_qrt hz) hs (lv_sub hl [1, 0, 2, 3] rfl)
      refine lv_dload_n hx hb dX7_sqrt_25 rfl (lv_at hl 1 rfl) ?_
      refine lv_dstore_n (lv' := [(3, .double x), (0, .ref h1), (1, .double x)]) hx hb dX7_sqrt_26 rfl hl (by decide) rfl (fun ls hl => ?_)
      refine lv_iconst (v := 0) hx hb dX7_sqrt_27 (by decide) ?_
      refine lv_istore (lv' := [(5, .int 0), (3, .double x), (0, .ref h1), (1, .double x)]) hx hb dX7_sqrt_28 hl (by decide) rfl (fun ls hl => ?_)
      exact loop1 40 x 0 ls hd.nn rfl (lv_sub hl [1, 0, 2, 3] rfl)
    · refine lv_dconst0 hx hb dX7_sqrt_23 ?_
      exact hend _ _ _ _ 24 _ FP.dconst0 0 dX7_sqrt_24 (Nat.le_of_ble_eq_true rfl) (Nat.le_of_ble_eq_true rfl) hS (⟨by unfold t_r s_root; rw [if_pos (by unfold r_c; rw [if_pos c_8]), if_pos c_20], Eq.symm (by unfold r_c; rw [if_pos c_8])⟩) hP hD
  · refine lv_aload_n hx hb dX7_sqrt_11 rfl (lv_at hl 0 rfl) ?_
    refine lv_iconst (v := 3) hx hb dX7_sqrt_12 (by decide) ?_
    refine cl_d (va_runV (As := [.int 3]) (rest := []) ⟨hx, hb, hml, hown, hts⟩ (t_none l D dA h1 sd cd 0 ge gl gx 3 H.size) (cwV 1 hts (lw_V q329 q331 qs5 q18 q332) rfl rfl rfl (by decide +kernel) ⟨Nat.le_of_ble_eq_true rfl, Nat.le_of_ble_eq_true rfl⟩) (pr_V hK hN hP hD (va_recv hK hP (ci := 5) (q0 := 0) rfl rfl)) rfl rfl hl.1 rfl (lv_room (Nat.le_of_ble_eq_true rfl)) dX7_sqrt_13 ⟨Nat.le_of_ble_eq_true rfl, Nat.le_of_ble_eq_true rfl⟩) hS hD hA (fun r_13 u_13 H locs hpo_13 hP hD hS => ?_)
    refine W.widen (k := 0) (n := 0) (Nat.le_of_ble_eq_true rfl) (Nat.le_of_ble_eq_true rfl) ?_
    have e13 : r_13 = FP.dconst0 := hpo_13
    subst e13
    have hP : va_P D vwCl (tw h1 sd cd 3 ge gl gx) H := hP
    have hD : va_D A (tw h1 sd cd 3 ge gl gx) := hD
    exact hend _ _ _ _ 16 _ FP.dconst0 3 dX7_sqrt_16 (Nat.le_of_ble_eq_true rfl) (Nat.le_of_ble_eq_true rfl) hS (⟨by unfold t_r; rw [if_neg (by rw [show r_c x = 3 from (by unfold r_c; rw [if_neg c_8])]; decide)], Eq.symm (by unfold r_c; rw [if_neg c_8])⟩) hP hD
end
section
abbrev rm_t_erf : Room := { frames := 2, cells := 0, slots := 0, locals := 51 }
set_option maxHeartbeats 4000000 in
set_option maxRecDepth 100000 in
theorem t_erf (l : Launch) (D : va_G) (dA : ClassId) (h1 : Nat) (sd : Int64) (cd fd ge gl gx : Int32) (x : UInt64) (hd : DF x) : CMd l D dA yX7_erf cX7_erf 14 rm_t_erf [.ref h1, .double x] (tw h1 sd cd fd ge gl gx) (fun u : Int32 × Int32 => tw h1 sd cd 0 u.1 gl u.2) (fun r u => r = s_err x ∧ u.1 = s_fXE (s_size x) ge ∧ u.2 = s_fXX (s_size x) gx) := by
  refine st_d (by decide) (Nat.le_of_ble_eq_true rfl) ?_
  intro p e s m below meth c A Q H locs ls hCF hK hN hA hP hD hS hl hend
  obtain ⟨hx, hb, hml, hown, hts⟩ := hCF
  have hown : s.vm.findClass RX7 = some m.cls := hown
  have hl : lv_has ls 14 [(0, .ref h1), (1, .double x)] := hl
  obtain ⟨fd1, fd2⟩ := size_df hd
  refine lv_aload_n hx hb dX7_erf_0 rfl (lv_at hl 0 rfl) ?_
  refine lv_iconst (v := 0) hx hb dX7_erf_1 (by decide) ?_
  refine va_put (D := D) (ci := 5) (v := .int 0) (ty := .int) (C := RX7) (T := TX7) (N := 6) hx hb hts in_X7 tyX7 tyX7_ok nmX7 hown hK hP hD hS 0 rfl rfl 2 (by decide) (hts _ q298) (fun _ h9 => h9) rfl (by decide +kernel) rfl rfl (Nat.le_of_ble_eq_true rfl) dX7_erf_2 (fun H locs hP hD hS => ?_)
  have hP : va_P D vwCl (tw h1 sd cd 0 ge gl gx) H := hP
  have hD : va_D A (tw h1 sd cd 0 ge gl gx) := hD
  refine lv_dload_n hx hb dX7_erf_5 rfl (lv_at hl 1 rfl) ?_
  refine lv_dconst0 hx hb dX7_erf_6 ?_
  refine lv_dcmp hx hb dX7_erf_7 ?_
  have j17 : ∀ v : UInt64, v = s_size x → W p l e rm_t_erf s m ([.ref h1, .double x] : List Value).toArray below meth c H locs 0 0 Q (F0 m 17 ls [.double v]) := by
    intro v hv0
    subst hv0
    refine lv_dstore_n (lv' := [(3, .double (s_size x)), (0, .ref h1), (1, .double x)]) hx hb dX7_erf_17 rfl hl (by decide) rfl (fun ls hl => ?_)
    refine lv_dconst1 hx hb dX7_erf_18 ?_
    refine lv_dstore (lv' := [(5, .double FP.dconst1), (3, .double (s_size x)), (0, .ref h1), (1, .double x)]) hx hb dX7_erf_19 hl (by decide) rfl (fun ls hl => ?_)
    refine lv_dload_n hx hb dX7_erf_21 rfl (lv_at hl 1 rfl) ?_
    refine lv_ldc2d hx hb hown (hts _ q378) dX7_erf_22 ?_
    refine lv_dcmp hx hb dX7_erf_25 ?_
    refine lv_if_ge (tgt := 99) hx hb dX7_erf_26 (by decide) (fun c_26 => ?_) (fun c_26 => ?_)
    · refine lv_dload_n hx hb dX7_erf_99 rfl (lv_at hl 1 rfl) ?_
      refine lv_ldc2d hx hb hown (hts _ q380) dX7_erf_100 ?_
      refine lv_dcmp hx hb dX7_erf_103 ?_
      refine lv_if_ge (tgt := 161) hx hb dX7_erf_104 (by decide) (fun c_104 => ?_) (fun c_104 => ?_)
      · refine lv_dload_n hx hb dX7_erf_161 rfl (lv_at hl 3 rfl) ?_
        refine lv_dconst0 hx hb dX7_erf_162 ?_
        refine lv_dcmp hx hb dX7_erf_163 ?_
        refine lv_if_ge (tgt := 173) hx hb dX7_erf_164 (by decide) (fun c_164 => ?_) (fun c_164 => ?_)
        · refine lv_dload hx hb dX7_erf_173 (lv_at hl 0 rfl) ?_
          exact hend _ _ _ _ 175 _ FP.dconst1 (ge, gx) dX7_erf_175 (Nat.le_of_ble_eq_true rfl) (Nat.le_of_ble_eq_true rfl) hS (⟨by unfold s_err s_errv; rw [if_pos c_164, if_neg (fun q => (sx fd1).mp q c_104)], by unfold s_fXE; rw [if_neg (fun q => (sx fd1).mp q c_104)], by unfold s_fXX; rw [if_neg (fun q => (sx fd1).mp q c_104)]⟩) hP hD
        · refine lv_dload hx hb dX7_erf_167 (lv_at hl 0 rfl) ?_
          refine lv_dneg hx hb dX7_erf_169 ?_
          refine lv_goto (tgt := 175) hx hb dX7_erf_170 (by decide) ?_
          exact hend _ _ _ _ 175 _ (FP.dneg FP.dconst1) (ge, gx) dX7_erf_175 (Nat.le_of_ble_eq_true rfl) (Nat.le_of_ble_eq_true rfl) hS (⟨by unfold s_err s_errv; rw [if_neg c_164, if_neg (fun q => (sx fd1).mp q c_104)], by unfold s_fXE; rw [if_neg (fun q => (sx fd1).mp q c_104)], by unfold s_fXX; rw [if_neg (fun q => (sx fd1).mp q c_104)]⟩) hP hD
      · have h6 : zv (s_size x) ≤ 6 * O64 := by have h9 := (sx fd1).mpr c_104; rw [cvl_lt_zv fd1.nn df_six.nn, zv_six] at h9; exact Int.le_of_lt h9
        have f0 := far_0 fd1 c_26
        obtain ⟨a1, a2, a3⟩ := far_arg fd1 h6 f0.2.1
        obtain ⟨b1, b2, b3, b4, b5⟩ := far_facts fd1 h6 c_26
        refine lv_dconst0 hx hb dX7_erf_107 ?_
        refine lv_dstore (lv' := [(7, .double FP.dconst0), (5, .double FP.dconst1), (3, .double (s_size x)), (0, .ref h1), (1, .double x)]) hx hb dX7_erf_108 hl (by decide) rfl (fun ls hl => ?_)
        refine lv_bipush (v := 40) hx hb dX7_erf_110 (by decide) ?_
        refine lv_istore (lv' := [(9, .int 40), (7, .double FP.dconst0), (5, .double FP.dconst1), (3, .double (s_size x)), (0, .ref h1), (1, .double x)]) hx hb dX7_erf_112 hl (by decide) rfl (fun ls hl => ?_)
        have loop : ∀ (n : Nat) (v : UInt64) (H : Heap) (locs : List Loc) (ls : Array Slot), n ≤ 40 → FI (s_size x) v → s_fl (s_size x) n v = s_fl (s_size x) 40 FP.dconst0 → va_P D vwCl (tw h1 sd cd 0 ge gl gx) H → va_D A (tw h1 sd cd 0 ge gl gx) → va_S A s.heap H locs → lv_has ls 14 [(9, .int (nI n)), (7, .double v), (5, .double FP.dconst1), (3, .double (s_size x)), (0, .ref h1), (1, .double x)] → W p l e rm_t_erf s m ([.ref h1, .double x] : List Value).toArray below meth c H locs 0 0 Q (F0 m 114 ls []) := by
          intro n
          induction n with
          | zero =>
            intro v H locs ls hn hv hs hP hD hS hl
            have ev : v = s_fl (s_size x) 40 FP.dconst0 := hs
            subst ev
            have ec : e_c (FP.dmul (FP.dneg (s_size x)) (s_size x)) = 0 := by unfold e_c; rw [if_pos a2]
            refine lv_iload hx hb dX7_erf_114 (lv_at hl 0 rfl) ?_
            refine lv_iconst (v := 1) hx hb dX7_erf_116 (by decide) ?_
            refine lv_icmp_lt (tgt := 140) hx hb dX7_erf_117 (by decide) (fun c_117 => ?_) (fun c_117 => absurd (by decide) c_117)
            refine lv_dconst1 hx hb dX7_erf_140 ?_
            refine lv_aload_n hx hb dX7_erf_141 rfl (lv_at hl 4 rfl) ?_
            refine lv_dload_n hx hb dX7_erf_142 rfl (lv_at hl 3 rfl) ?_
            refine lv_dneg hx hb dX7_erf_143 ?_
            refine lv_dload_n hx hb dX7_erf_144 rfl (lv_at hl 3 rfl) ?_
            refine lv_dmul hx hb dX7_erf_145 a1.n64 ?_
            refine cl_d (va_runV (As := [.double (FP.dmul (FP.dneg (s_size x)) (s_size x))]) (rest := [.double FP.dconst1]) ⟨hx, hb, hml, hown, hts⟩ (t_exp l D dA h1 sd cd 0 ge gl gx (FP.dmul (FP.dneg (s_size x)) (s_size x)) a1.nn H.size) (cwV 1 hts (lw_V q324 q326 qs4 q18 q327) rfl rfl rfl (by decide +kernel) ⟨Nat.le_of_ble_eq_true rfl, Nat.le_of_ble_eq_true rfl⟩) (pr_V hK hN hP hD (va_recv hK hP (ci := 5) (q0 := 0) rfl rfl)) rfl rfl hl.1 rfl (lv_room (Nat.le_of_ble_eq_true rfl)) dX7_erf_146 ⟨Nat.le_of_ble_eq_true rfl, Nat.le_of_ble_eq_true rfl⟩) hS hD hA (fun r_146 u_146 H locs hpo_146 hP hD hS => ?_)
            refine W.widen (k := 0) (n := 0) (Nat.le_of_ble_eq_true rfl) (Nat.le_of_ble_eq_true rfl) ?_
            obtain ⟨e9, i1, i2⟩ := hpo_146
            unfold t_e at e9
            rw [if_pos ec] at e9
            rw [ec] at i1
            unfold r_f s_fE at i2
            rw [if_pos ec, if_pos a3] at i2
            subst e9
            rw [i1, i2] at hP hD
            have hP : va_P D vwCl (tw h1 sd cd 0 1 gl gx) H := hP
            have hD : va_D A (tw h1 sd cd 0 1 gl gx) := hD
            refine lv_ldc2d hx hb hown (hts _ q381) dX7_erf_149 ?_
            refine lv_dmul hx hb dX7_erf_152 b2.n64 ?_
            refine lv_dload_n hx hb dX7_erf_153 rfl (lv_at hl 3 rfl) ?_
            refine lv_dload hx hb dX7_erf_154 (lv_at hl 1 rfl) ?_
            refine lv_dadd hx hb dX7_erf_156 b3.n64 ?_
            refine lv_ddiv hx hb dX7_erf_157 b4.n64 ?_
            refine lv_dsub hx hb dX7_erf_158 b5.n64 ?_
            refine lv_dstore (lv' := [(5, .double (s_far (s_size x))), (9, .int (nI 0)), (7, .double (s_fl (s_size x) 40 FP.dconst0)), (3, .double (s_size x)), (0, .ref h1), (1, .double x)]) hx hb dX7_erf_159 hl (by decide) rfl (fun ls hl => ?_)
            refine lv_dload_n hx hb dX7_erf_161 rfl (lv_at hl 5 rfl) ?_
            refine lv_dconst0 hx hb dX7_erf_162 ?_
            refine lv_dcmp hx hb dX7_erf_163 ?_
            refine lv_if_ge (tgt := 173) hx hb dX7_erf_164 (by decide) (fun c_164 => ?_) (fun c_164 => ?_)
            · refine lv_dload hx hb dX7_erf_173 (lv_at hl 0 rfl) ?_
              exact hend _ _ _ _ 175 _ (s_far (s_size x)) (1, gx) dX7_erf_175 (Nat.le_of_ble_eq_true rfl) (Nat.le_of_ble_eq_true rfl) hS (⟨by unfold s_err s_errv; rw [if_pos c_164, if_pos ((sx fd1).mpr c_104), if_pos c_26], by unfold s_fXE; rw [if_pos ((sx fd1).mpr c_104), if_pos c_26], by unfold s_fXX; rw [if_pos ((sx fd1).mpr c_104), if_pos c_26]⟩) hP hD
            · refine lv_dload hx hb dX7_erf_167 (lv_at hl 0 rfl) ?_
              refine lv_dneg hx hb dX7_erf_169 ?_
              refine lv_goto (tgt := 175) hx hb dX7_erf_170 (by decide) ?_
              exact hend _ _ _ _ 175 _ (FP.dneg (s_far (s_size x))) (1, gx) dX7_erf_175 (Nat.le_of_ble_eq_true rfl) (Nat.le_of_ble_eq_true rfl) hS (⟨by unfold s_err s_errv; rw [if_neg c_164, if_pos ((sx fd1).mpr c_104), if_pos c_26], by unfold s_fXE; rw [if_pos ((sx fd1).mpr c_104), if_pos c_26], by unfold s_fXX; rw [if_pos ((sx fd1).mpr c_104), if_pos c_26]⟩) hP hD
          | succ n ih =>
            intro v H locs ls hn hv hs hP hD hS hl
            obtain ⟨g1, g2, g3, g4⟩ := far_step (n := n) (by omega) h6 hv
            refine lv_iload hx hb dX7_erf_114 (lv_at hl 0 rfl) ?_
            refine lv_iconst (v := 1) hx hb dX7_erf_116 (by decide) ?_
            refine lv_icmp_lt (tgt := 140) hx hb dX7_erf_117 (by decide) (fun c_117 => absurd c_117 (by exact nI_nlt (a := n + 1) (b := 1) (by omega) (by omega))) (fun c_117 => ?_)
            refine lv_iload hx hb dX7_erf_120 (lv_at hl 0 rfl) ?_
            refine lv_i2d hx hb dX7_erf_122 ?_
            refine lv_ldc2d hx hb hown (hts _ q335) dX7_erf_123 ?_
            refine lv_dmul hx hb dX7_erf_126 g1.n64 ?_
            refine lv_dload_n hx hb dX7_erf_127 rfl (lv_at hl 3 rfl) ?_
            refine lv_dload hx hb dX7_erf_128 (lv_at hl 1 rfl) ?_
            refine lv_dadd hx hb dX7_erf_130 g2.n64 ?_
            refine lv_ddiv hx hb dX7_erf_131 g3.n64 ?_
            refine lv_dstore (lv' := [(7, .double (FP.ddiv (FP.dmul (FP.i2d (nI (n + 1))) (4602678819172646912 : UInt64)) (FP.dadd (s_size x) v))), (9, .int (nI (n + 1))), (5, .double FP.dconst1), (3, .double (s_size x)), (0, .ref h1), (1, .double x)]) hx hb dX7_erf_132 hl (by decide) rfl (fun ls hl => ?_)
            refine lv_iinc (v := nI n) (lv' := [(9, .int (nI n)), (7, .double (FP.ddiv (FP.dmul (FP.i2d (nI (n + 1))) (4602678819172646912 : UInt64)) (FP.dadd (s_size x) v))), (5, .double FP.dconst1), (3, .double (s_size x)), (0, .ref h1), (1, .double x)]) hx hb dX7_erf_134 hl (k := 1) rfl (pk_m1 n) (by decide) rfl (fun ls hl => ?_)
            refine lv_goto (tgt := 114) hx hb dX7_erf_137 (by decide) ?_
            exact ih _ H locs ls (by omega) g4 hs hP hD hS (lv_sub hl [0, 1, 2, 3, 4, 5] rfl)
        exact loop 40 _ H locs ls (by decide) f0 rfl hP hD hS (lv_sub hl [0, 1, 2, 3, 4, 5] rfl)
    · refine lv_aload_n hx hb dX7_erf_29 rfl (lv_at hl 2 rfl) ?_
      refine lv_iconst (v := 1) hx hb dX7_erf_30 (by decide) ?_
      refine va_put (D := D) (ci := 5) (v := .int 1) (ty := .boolean) (C := RX7) (T := TX7) (N := 6) hx hb hts in_X7 tyX7 tyX7_ok nmX7 hown hK hP hD hS 0 rfl rfl 5 (by decide) (hts _ q301) (fun _ h9 => h9) rfl (by decide +kernel) rfl rfl (Nat.le_of_ble_eq_true rfl) dX7_erf_31 (fun H locs hP hD hS => ?_)
      have hP : va_P D vwCl (tw h1 sd cd 0 ge gl 1) H := hP
      have hD : va_D A (tw h1 sd cd 0 ge gl 1) := hD
      obtain ⟨f1, f2⟩ := near_0 fd2 fd1 c_26
      refine lv_dload_n hx hb dX7_erf_34 rfl (lv_at hl 1 rfl) ?_
      refine lv_dload_n hx hb dX7_erf_35 rfl (lv_at hl 1 rfl) ?_
      refine lv_dmul hx hb dX7_erf_36 f1.n64 ?_
      refine lv_dstore (lv' := [(7, .double (FP.dmul (s_size x) (s_size x))), (5, .double FP.dconst1), (3, .double (s_size x)), (0, .ref h1), (1, .double x)]) hx hb dX7_erf_37 hl (by decide) rfl (fun ls hl => ?_)
      refine lv_dload_n hx hb dX7_erf_39 rfl (lv_at hl 2 rfl) ?_
      refine lv_dstore (lv' := [(9, .double (s_size x)), (7, .double (FP.dmul (s_size x) (s_size x))), (5, .double FP.dconst1), (3, .double (s_size x)), (0, .ref h1), (1, .double x)]) hx hb dX7_erf_40 hl (by decide) rfl (fun ls hl => ?_)
      refine lv_dload_n hx hb dX7_erf_42 rfl (lv_at hl 3 rfl) ?_
      refine lv_dstore (lv' := [(11, .double (s_size x)), (9, .double (s_size x)), (7, .double (FP.dmul (s_size x) (s_size x))), (5, .double FP.dconst1), (3, .double (s_size x)), (0, .ref h1), (1, .double x)]) hx hb dX7_erf_43 hl (by decide) rfl (fun ls hl => ?_)
      refine lv_iconst (v := 1) hx hb dX7_erf_45 (by decide) ?_
      refine lv_istore (lv' := [(13, .int 1), (11, .double (s_size x)), (9, .double (s_size x)), (7, .double (FP.dmul (s_size x) (s_size x))), (5, .double FP.dconst1), (3, .double (s_size x)), (0, .ref h1), (1, .double x)]) hx hb dX7_erf_46 hl (by decide) rfl (fun ls hl => ?_)
      have loop : ∀ (n : Nat) (i : Nat) (v t : UInt64) (H : Heap) (locs : List Loc) (ls : Array Slot), i + n = 60 → NI (FP.dmul (s_size x) (s_size x)) t v i → s_nl (FP.dmul (s_size x) (s_size x)) n i t v = s_nl (FP.dmul (s_size x) (s_size x)) 60 0 (s_size x) (s_size x) → va_P D vwCl (tw h1 sd cd 0 ge gl 1) H → va_D A (tw h1 sd cd 0 ge gl 1) → va_S A s.heap H locs → lv_has ls 14 [(13, .int (nI (i + 1))), (11, .double v), (9, .double t), (7, .double (FP.dmul (s_size x) (s_size x))), (5, .double FP.dconst1), (3, .double (s_size x)), (0, .ref h1), (1, .double x)] → W p l e rm_t_erf s m ([.ref h1, .double x] : List Value).toArray below meth c H locs 0 0 Q (F0 m 48 ls []) := by
        intro n
        induction n with
        | zero =>
          intro i v t H locs ls hn hv hs hP hD hS hl
          have ei : i = 60 := by omega
          subst ei
          have ev : v = s_nl (FP.dmul (s_size x) (s_size x)) 60 0 (s_size x) (s_size x) := hs
          subst ev
          refine lv_iload hx hb dX7_erf_48 (lv_at hl 0 rfl) ?_
          refine lv_bipush (v := 60) hx hb dX7_erf_50 (by decide) ?_
          refine lv_icmp_gt (tgt := 88) hx hb dX7_erf_52 (by decide) (fun c_52 => ?_) (fun c_52 => absurd (by decide) c_52)
          refine lv_dload hx hb dX7_erf_88 (lv_at hl 1 rfl) ?_
          refine lv_ldc2d hx hb hown (hts _ q379) dX7_erf_90 ?_
          refine lv_dmul hx hb dX7_erf_93 ((show NN (s_near (s_size x)) from near_nn fd2 fd1 c_26).n64) ?_
          refine lv_dstore (lv' := [(5, .double (s_near (s_size x))), (13, .int (nI (60 + 1))), (11, .double (s_nl (FP.dmul (s_size x) (s_size x)) 60 0 (s_size x) (s_size x))), (9, .double t), (7, .double (FP.dmul (s_size x) (s_size x))), (3, .double (s_size x)), (0, .ref h1), (1, .double x)]) hx hb dX7_erf_94 hl (by decide) rfl (fun ls hl => ?_)
          refine lv_goto (tgt := 161) hx hb dX7_erf_96 (by decide) ?_
          refine lv_dload_n hx hb dX7_erf_161 rfl (lv_at hl 7 rfl) ?_
          refine lv_dconst0 hx hb dX7_erf_162 ?_
          refine lv_dcmp hx hb dX7_erf_163 ?_
          refine lv_if_ge (tgt := 173) hx hb dX7_erf_164 (by decide) (fun c_164 => ?_) (fun c_164 => ?_)
          · refine lv_dload hx hb dX7_erf_173 (lv_at hl 0 rfl) ?_
            exact hend _ _ _ _ 175 _ (s_near (s_size x)) (ge, 1) dX7_erf_175 (Nat.le_of_ble_eq_true rfl) (Nat.le_of_ble_eq_true rfl) hS (⟨by unfold s_err s_errv; rw [if_pos c_164, if_pos (sx25 fd1 c_26), if_neg c_26], by unfold s_fXE; rw [if_pos (sx25 fd1 c_26), if_neg c_26], by unfold s_fXX; rw [if_pos (sx25 fd1 c_26), if_neg c_26]⟩) hP hD
          · refine lv_dload hx hb dX7_erf_167 (lv_at hl 0 rfl) ?_
            refine lv_dneg hx hb dX7_erf_169 ?_
            refine lv_goto (tgt := 175) hx hb dX7_erf_170 (by decide) ?_
            exact hend _ _ _ _ 175 _ (FP.dneg (s_near (s_size x))) (ge, 1) dX7_erf_175 (Nat.le_of_ble_eq_true rfl) (Nat.le_of_ble_eq_true rfl) hS (⟨by unfold s_err s_errv; rw [if_neg c_164, if_pos (sx25 fd1 c_26), if_neg c_26], by unfold s_fXE; rw [if_pos (sx25 fd1 c_26), if_neg c_26], by unfold s_fXX; rw [if_pos (sx25 fd1 c_26), if_neg c_26]⟩) hP hD
        | succ n ih =>
          intro i v t H locs ls hn hv hs hP hD hS hl
          obtain ⟨g1, g2, g3, g4, g5⟩ := near_step (n := i) (by omega) hv
          refine lv_iload hx hb dX7_erf_48 (lv_at hl 0 rfl) ?_
          refine lv_bipush (v := 60) hx hb dX7_erf_50 (by decide) ?_
          refine lv_icmp_gt (tgt := 88) hx hb dX7_erf_52 (by decide) (fun c_52 => absurd c_52 (by exact nI_nlt (a := 60) (b := i + 1) (by omega) (by omega))) (fun c_52 => ?_)
          refine lv_dload hx hb dX7_erf_55 (lv_at hl 2 rfl) ?_
          refine lv_dneg hx hb dX7_erf_57 ?_
          refine lv_dload hx hb dX7_erf_58 (lv_at hl 3 rfl) ?_
          refine lv_dmul hx hb dX7_erf_60 g1.n64 ?_
          refine lv_iload hx hb dX7_erf_61 (lv_at hl 0 rfl) ?_
          refine lv_i2d hx hb dX7_erf_63 ?_
          refine lv_ddiv hx hb dX7_erf_64 g2.n64 ?_
          refine lv_dstore (lv' := [(9, .double (s_nt (FP.dmul (s_size x) (s_size x)) i t)), (13, .int (nI (i + 1))), (11, .double v), (7, .double (FP.dmul (s_size x) (s_size x))), (5, .double FP.dconst1), (3, .double (s_size x)), (0, .ref h1), (1, .double x)]) hx hb dX7_erf_65 hl (by decide) rfl (fun ls hl => ?_)
          refine lv_dload hx hb dX7_erf_67 (lv_at hl 2 rfl) ?_
          refine lv_dload hx hb dX7_erf_69 (lv_at hl 0 rfl) ?_
          refine lv_iconst (v := 2) hx hb dX7_erf_71 (by decide) ?_
          refine lv_iload hx hb dX7_erf_72 (lv_at hl 1 rfl) ?_
          refine lv_imul hx hb dX7_erf_74 ?_
          refine lv_iconst (v := 1) hx hb dX7_erf_75 (by decide) ?_
          refine lv_iadd hx hb dX7_erf_76 ?_
          rw [i2_1, show 2 * (i + 1) + 1 = 2 * i + 3 from by omega]
          refine lv_i2d hx hb dX7_erf_77 ?_
          refine lv_ddiv hx hb dX7_erf_78 g3.n64 ?_
          refine lv_dadd hx hb dX7_erf_79 g4.n64 ?_
          refine lv_dstore (lv' := [(11, .double (FP.dadd v (FP.ddiv (s_nt (FP.dmul (s_size x) (s_size x)) i t) (FP.i2d (nI (2 * i + 3)))))), (9, .double (s_nt (FP.dmul (s_size x) (s_size x)) i t)), (13, .int (nI (i + 1))), (7, .double (FP.dmul (s_size x) (s_size x))), (5, .double FP.dconst1), (3, .double (s_size x)), (0, .ref h1), (1, .double x)]) hx hb dX7_erf_80 hl (by decide) rfl (fun ls hl => ?_)
          refine lv_iinc (v := nI (i + 1 + 1)) (lv' := [(13, .int (nI (i + 1 + 1))), (11, .double (FP.dadd v (FP.ddiv (s_nt (FP.dmul (s_size x) (s_size x)) i t) (FP.i2d (nI (2 * i + 3)))))), (9, .double (s_nt (FP.dmul (s_size x) (s_size x)) i t)), (7, .double (FP.dmul (s_size x) (s_size x))), (5, .double FP.dconst1), (3, .double (s_size x)), (0, .ref h1), (1, .double x)]) hx hb dX7_erf_82 hl (k := 2) rfl (nI_1 (i + 1)) (by decide) rfl (fun ls hl => ?_)
          refine lv_goto (tgt := 48) hx hb dX7_erf_85 (by decide) ?_
          exact ih (i + 1) _ _ H locs ls (by omega) g5 hs hP hD hS (lv_sub hl [0, 1, 2, 3, 4, 5, 6, 7] rfl)
      exact loop 60 0 _ _ H locs ls (by decide) f2 rfl hP hD hS (lv_sub hl [0, 1, 2, 3, 4, 5, 6, 7] rfl)
  refine lv_if_ge (tgt := 16) hx hb dX7_erf_8 (by decide) (fun c_8 => ?_) (fun c_8 => ?_)
  · refine lv_dload_n hx hb dX7_erf_16 rfl (lv_at hl 1 rfl) ?_
    exact j17 x (by unfold s_size; rw [if_pos c_8])
  · refine lv_dload_n hx hb dX7_erf_11 rfl (lv_at hl 1 rfl) ?_
    refine lv_dneg hx hb dX7_erf_12 ?_
    refine lv_goto (tgt := 17) hx hb dX7_erf_13 (by decide) ?_
    exact j17 (FP.dneg x) (by unfold s_size; rw [if_neg c_8])
theorem pw_ge {y : UInt64} (h : NN y) : Op.cmpValue (FP.dcmp y FP.dconst0) CmpOp.l = 0 → 0 ≤ Op.cmpValue (FP.dcmp y FP.dconst0) CmpOp.g := by
  rw [cvl_eq_zv h df_0.nn, cvg_ge_zv h df_0.nn]
  omega
theorem pw_gt {y : UInt64} (h : NN y) : 0 < Op.cmpValue (FP.dcmp y FP.dconst0) CmpOp.l → 0 ≤ Op.cmpValue (FP.dcmp y FP.dconst0) CmpOp.g := by
  rw [cvl_gt_zv h df_0.nn, cvg_ge_zv h df_0.nn]
  omega
theorem pw_lt {y : UInt64} (h : NN y) : ¬ Op.cmpValue (FP.dcmp y FP.dconst0) CmpOp.l = 0 → Op.cmpValue (FP.dcmp y FP.dconst0) CmpOp.l ≤ 0 → ¬ 0 ≤ Op.cmpValue (FP.dcmp y FP.dconst0) CmpOp.g := by
  rw [cvl_eq_zv h df_0.nn, cvl_le_zv h df_0.nn, cvg_ge_zv h df_0.nn]
  omega
theorem cl_le_gt {u : Int32} (h : ¬ u ≤ 0) : 0 < u := by
  rw [Int32.lt_iff_toInt_lt]
  rw [Int32.le_iff_toInt_le] at h
  omega
abbrev rm_t_pow : Room := { frames := 2, cells := 0, slots := 0, locals := 53 }
set_option maxHeartbeats 4000000 in
set_option maxRecDepth 100000 in
theorem t_pow (l : Launch) (D : va_G) (dA : ClassId) (h1 : Nat) (sd : Int64) (cd fd ge gl gx : Int32) (x y : UInt64) (hvx : XV x) (hnx : s_num x ≠ 0) (hny : s_num y ≠ 0) : CMd l D dA yX7_pow cX7_pow 5 rm_t_pow [.ref h1, .double x, .double y] (tw h1 sd cd fd ge gl gx) (fun u : Int32 × Int32 × Int32 => tw h1 sd cd u.1 u.2.1 u.2.2 gx) (fun r u => r = p_t x y ∧ u.1 = p_C x y ∧ u.2.1 = p_E x y ge ∧ u.2.2 = p_L x y gl) := by
  refine st_d (by decide) (Nat.le_of_ble_eq_true rfl) ?_
  intro p e s m below meth c A Q H locs ls hCF hK hN hA hP hD hS hl hend
  obtain ⟨hx, hb, hml, hown, hts⟩ := hCF
  have hown : s.vm.findClass RX7 = some m.cls := hown
  have hl : lv_has ls 5 [(0, .ref h1), (1, .double x), (3, .double y)] := hl
  have hy := (num_facts hny).1.nn
  refine lv_aload_n hx hb dX7_pow_0 rfl (lv_at hl 0 rfl) ?_
  refine lv_iconst (v := 0) hx hb dX7_pow_1 (by decide) ?_
  refine va_put (D := D) (ci := 5) (v := .int 0) (ty := .int) (C := RX7) (T := TX7) (N := 6) hx hb hts in_X7 tyX7 tyX7_ok nmX7 hown hK hP hD hS 0 rfl rfl 2 (by decide) (hts _ q298) (fun _ h9 => h9) rfl (by decide +kernel) rfl rfl (Nat.le_of_ble_eq_true rfl) dX7_pow_2 (fun H locs hP hD hS => ?_)
  have hP : va_P D vwCl (tw h1 sd cd 0 ge gl gx) H := hP
  have hD : va_D A (tw h1 sd cd 0 ge gl gx) := hD
  refine lv_dload_n hx hb dX7_pow_5 rfl (lv_at hl 1 rfl) ?_
  refine lv_dconst0 hx hb dX7_pow_6 ?_
  refine lv_dcmp hx hb dX7_pow_7 ?_
  refine lv_if_ge (tgt := 17) hx hb dX7_pow_8 (by decide) (fun c_8 => ?_) (fun c_8 => ?_)
  · refine lv_dload_n hx hb dX7_pow_17 rfl (lv_at hl 1 rfl) ?_
    refine lv_dconst0 hx hb dX7_pow_18 ?_
    refine lv_dcmp hx hb dX7_pow_19 ?_
    refine lv_if_ne (tgt := 49) hx hb dX7_pow_20 (by decide) (fun c_20 => ?_) (fun c_20 => ?_)
    · obtain ⟨g1, g2, g3⟩ := pos_facts hvx hnx c_8 c_20
      have k1 : DF (p_v x y) := (SZ.mul (sz_db (n := 100000000) (num_facts hny)) (log_sz g1 g2 g3) (by decide)).1
      refine lv_aload_n hx hb dX7_pow_49 rfl (lv_at hl 0 rfl) ?_
      refine lv_dload_n hx hb dX7_pow_50 rfl (lv_at hl 2 rfl) ?_
      refine lv_aload_n hx hb dX7_pow_51 rfl (lv_at hl 0 rfl) ?_
      refine lv_dload_n hx hb dX7_pow_52 rfl (lv_at hl 1 rfl) ?_
      refine cl_d (va_runV (As := [.double x]) (rest := [.double y, .ref h1]) ⟨hx, hb, hml, hown, hts⟩ (t_log l D dA h1 sd cd 0 ge gl gx x hvx hnx H.size) (cwV 1 hts (lw_V q346 q348 qs7 q18 q349) rfl rfl rfl (by decide +kernel) ⟨Nat.le_of_ble_eq_true rfl, Nat.le_of_ble_eq_true rfl⟩) (pr_V hK hN hP hD (va_recv hK hP (ci := 5) (q0 := 0) rfl rfl)) rfl rfl hl.1 rfl (lv_room (Nat.le_of_ble_eq_true rfl)) dX7_pow_53 ⟨Nat.le_of_ble_eq_true rfl, Nat.le_of_ble_eq_true rfl⟩) hS hD hA (fun r_53 u_53 H locs hpo_53 hP hD hS => ?_)
      refine W.widen (k := 0) (n := 0) (Nat.le_of_ble_eq_true rfl) (Nat.le_of_ble_eq_true rfl) ?_
      have lc : l_c x = 0 := by unfold l_c; rw [if_pos c_8, if_neg c_20]
      obtain ⟨e9, i1, i2⟩ := hpo_53
      unfold t_l at e9
      rw [if_pos lc] at e9
      rw [lc] at i1
      unfold l_f at i2
      rw [if_pos lc] at i2
      subst e9
      rw [i1, i2] at hP hD
      have hP : va_P D vwCl (tw h1 sd cd 0 ge 1 gx) H := hP
      have hD : va_D A (tw h1 sd cd 0 ge 1 gx) := hD
      refine lv_dmul hx hb dX7_pow_56 k1.n64 ?_
      refine cl_d (va_runV (As := [.double (p_v x y)]) (rest := []) ⟨hx, hb, hml, hown, hts⟩ (t_exp l D dA h1 sd cd 0 ge 1 gx (p_v x y) k1.nn H.size) (cwV 1 hts (lw_V q324 q326 qs4 q18 q327) rfl rfl rfl (by decide +kernel) ⟨Nat.le_of_ble_eq_true rfl, Nat.le_of_ble_eq_true rfl⟩) (pr_V hK hN hP hD (va_recv hK hP (ci := 5) (q0 := 0) rfl rfl)) rfl rfl hl.1 rfl (lv_room (Nat.le_of_ble_eq_true rfl)) dX7_pow_57 ⟨Nat.le_of_ble_eq_true rfl, Nat.le_of_ble_eq_true rfl⟩) hS hD hA (fun r_57 u_57 H locs hpo_57 hP hD hS => ?_)
      refine W.widen (k := 0) (n := 0) (Nat.le_of_ble_eq_true rfl) (Nat.le_of_ble_eq_true rfl) ?_
      obtain ⟨e9, i1, i2⟩ := hpo_57
      subst e9
      have hP : va_P D vwCl (tw h1 sd cd u_57.1 u_57.2 1 gx) H := hP
      have hD : va_D A (tw h1 sd cd u_57.1 u_57.2 1 gx) := hD
      have hc : p_c x y = 0 := by unfold p_c; rw [if_neg hnx, if_neg hny, if_pos c_8, if_neg c_20]
      exact hend _ _ _ _ 60 _ (t_e (p_v x y)) (u_57.1, u_57.2, 1) dX7_pow_60 (Nat.le_of_ble_eq_true rfl) (Nat.le_of_ble_eq_true rfl) hS (⟨by unfold p_t; rw [if_pos hc, if_neg c_20]; rfl, by unfold p_C; rw [if_pos hc, if_neg c_20]; exact i1, by unfold p_E; rw [if_pos hc, if_neg c_20]; exact i2, by unfold p_L; rw [if_pos hc, if_neg c_20]⟩) hP hD
    · refine lv_dload_n hx hb dX7_pow_23 rfl (lv_at hl 2 rfl) ?_
      refine lv_dconst0 hx hb dX7_pow_24 ?_
      refine lv_dcmp hx hb dX7_pow_25 ?_
      refine lv_if_ne (tgt := 33) hx hb dX7_pow_26 (by decide) (fun c_26 => ?_) (fun c_26 => ?_)
      · refine lv_dload_n hx hb dX7_pow_33 rfl (lv_at hl 2 rfl) ?_
        refine lv_dconst0 hx hb dX7_pow_34 ?_
        refine lv_dcmp hx hb dX7_pow_35 ?_
        refine lv_if_le (tgt := 43) hx hb dX7_pow_36 (by decide) (fun c_36 => ?_) (fun c_36 => ?_)
        · refine lv_aload_n hx hb dX7_pow_43 rfl (lv_at hl 0 rfl) ?_
          refine lv_iconst (v := 2) hx hb dX7_pow_44 (by decide) ?_
          refine cl_d (va_runV (As := [.int 2]) (rest := []) ⟨hx, hb, hml, hown, hts⟩ (t_none l D dA h1 sd cd 0 ge gl gx 2 H.size) (cwV 1 hts (lw_V q329 q331 qs5 q18 q332) rfl rfl rfl (by decide +kernel) ⟨Nat.le_of_ble_eq_true rfl, Nat.le_of_ble_eq_true rfl⟩) (pr_V hK hN hP hD (va_recv hK hP (ci := 5) (q0 := 0) rfl rfl)) rfl rfl hl.1 rfl (lv_room (Nat.le_of_ble_eq_true rfl)) dX7_pow_45 ⟨Nat.le_of_ble_eq_true rfl, Nat.le_of_ble_eq_true rfl⟩) hS hD hA (fun r_45 u_45 H locs hpo_45 hP hD hS => ?_)
          refine W.widen (k := 0) (n := 0) (Nat.le_of_ble_eq_true rfl) (Nat.le_of_ble_eq_true rfl) ?_
          have e45 : r_45 = FP.dconst0 := hpo_45
          subst e45
          have hP : va_P D vwCl (tw h1 sd cd 2 ge gl gx) H := hP
          have hD : va_D A (tw h1 sd cd 2 ge gl gx) := hD
          have hc : p_c x y = 2 := by unfold p_c; rw [if_neg hnx, if_neg hny, if_pos c_8, if_pos c_20, if_neg (pw_lt hy c_26 c_36)]
          exact hend _ _ _ _ 48 _ FP.dconst0 (2, ge, gl) dX7_pow_48 (Nat.le_of_ble_eq_true rfl) (Nat.le_of_ble_eq_true rfl) hS (⟨by unfold p_t; rw [if_neg (by rw [hc]; decide)], by unfold p_C; rw [if_neg (by rw [hc]; decide), hc], by unfold p_E; rw [if_neg (by rw [hc]; decide)], by unfold p_L; rw [if_neg (by rw [hc]; decide)]⟩) hP hD
        · refine lv_dconst0 hx hb dX7_pow_39 ?_
          refine lv_goto (tgt := 48) hx hb dX7_pow_40 (by decide) ?_
          have hc : p_c x y = 0 := by unfold p_c; rw [if_neg hnx, if_neg hny, if_pos c_8, if_pos c_20, if_pos (pw_gt hy (cl_le_gt c_36))]
          exact hend _ _ _ _ 48 _ FP.dconst0 (0, ge, gl) dX7_pow_48 (Nat.le_of_ble_eq_true rfl) (Nat.le_of_ble_eq_true rfl) hS (⟨by unfold p_t; rw [if_pos hc, if_pos c_20, if_neg c_26], by unfold p_C; rw [if_pos hc, if_pos c_20], by unfold p_E; rw [if_pos hc, if_pos c_20], by unfold p_L; rw [if_pos hc, if_pos c_20]⟩) hP hD
      · refine lv_dconst1 hx hb dX7_pow_29 ?_
        refine lv_goto (tgt := 48) hx hb dX7_pow_30 (by decide) ?_
        have hc : p_c x y = 0 := by unfold p_c; rw [if_neg hnx, if_neg hny, if_pos c_8, if_pos c_20, if_pos (pw_ge hy c_26)]
        exact hend _ _ _ _ 48 _ FP.dconst1 (0, ge, gl) dX7_pow_48 (Nat.le_of_ble_eq_true rfl) (Nat.le_of_ble_eq_true rfl) hS (⟨by unfold p_t; rw [if_pos hc, if_pos c_20, if_pos c_26], by unfold p_C; rw [if_pos hc, if_pos c_20], by unfold p_E; rw [if_pos hc, if_pos c_20], by unfold p_L; rw [if_pos hc, if_pos c_20]⟩) hP hD
  · refine lv_aload_n hx hb dX7_pow_11 rfl (lv_at hl 0 rfl) ?_
    refine lv_iconst (v := 3) hx hb dX7_pow_12 (by decide) ?_
    refine cl_d (va_runV (As := [.int 3]) (rest := []) ⟨hx, hb, hml, hown, hts⟩ (t_none l D dA h1 sd cd 0 ge gl gx 3 H.size) (cwV 1 hts (lw_V q329 q331 qs5 q18 q332) rfl rfl rfl (by decide +kernel) ⟨Nat.le_of_ble_eq_true rfl, Nat.le_of_ble_eq_true rfl⟩) (pr_V hK hN hP hD (va_recv hK hP (ci := 5) (q0 := 0) rfl rfl)) rfl rfl hl.1 rfl (lv_room (Nat.le_of_ble_eq_true rfl)) dX7_pow_13 ⟨Nat.le_of_ble_eq_true rfl, Nat.le_of_ble_eq_true rfl⟩) hS hD hA (fun r_13 u_13 H locs hpo_13 hP hD hS => ?_)
    refine W.widen (k := 0) (n := 0) (Nat.le_of_ble_eq_true rfl) (Nat.le_of_ble_eq_true rfl) ?_
    have e13 : r_13 = FP.dconst0 := hpo_13
    subst e13
    have hP : va_P D vwCl (tw h1 sd cd 3 ge gl gx) H := hP
    have hD : va_D A (tw h1 sd cd 3 ge gl gx) := hD
    have hc : p_c x y = 3 := by unfold p_c; rw [if_neg hnx, if_neg hny, if_neg c_8]
    exact hend _ _ _ _ 16 _ FP.dconst0 (3, ge, gl) dX7_pow_16 (Nat.le_of_ble_eq_true rfl) (Nat.le_of_ble_eq_true rfl) hS (⟨by unfold p_t; rw [if_neg (by rw [hc]; decide)], by unfold p_C; rw [if_neg (by rw [hc]; decide), hc], by unfold p_E; rw [if_neg (by rw [hc]; decide)], by unfold p_L; rw [if_neg (by rw [hc]; decide)]⟩) hP hD
end
section
abbrev rm_t_exponential : Room := { frames := 2, cells := 0, slots := 0, locals := 51 }
set_option maxHeartbeats 4000000 in
set_option maxRecDepth 100000 in
theorem t_exponential (l : Launch) (D : va_G) (dA : ClassId) (h1 : Nat) (sd : Int64) (cd fd ge gl gx : Int32) (x : UInt64) : CMd l D dA yX7_exponential cX7_exponential 4 rm_t_exponential [.ref h1, .double x] (tw h1 sd cd fd ge gl gx) (fun u : Int32 × Int32 × Int32 × Int32 × Int32 => tw h1 sd u.1 u.2.1 u.2.2.1 u.2.2.2.1 u.2.2.2.2) (fun r u => r = a_E x ∧ u.1 = s_cE x ∧ u.2.2.1 = g_E x ge ∧ u.2.2.2.1 = gl ∧ u.2.2.2.2 = gx) := by
  refine st_d (by decide) (Nat.le_of_ble_eq_true rfl) ?_
  intro p e s m below meth c A Q H locs ls hCF hK hN hA hP hD hS hl hend
  obtain ⟨hx, hb, hml, hown, hts⟩ := hCF
  have hown : s.vm.findClass RX7 = some m.cls := hown
  have hl : lv_has ls 4 [(0, .ref h1), (1, .double x)] := hl
  refine lv_dload_n hx hb dX7_exponential_0 rfl (lv_at hl 1 rfl) ?_
  refine cl0_i (va_runS (As := [.double x]) (rest := []) ⟨hx, hb, hml, hown, hts⟩ (t_isNumber l D dA x H.size) (va_cwS 1 hts (lw_S q319 q320 q18 q321) rfl rfl rfl (by decide +kernel) ⟨Nat.le_of_ble_eq_true rfl, Nat.le_of_ble_eq_true rfl⟩) (pr_S hK hN p_nil (d_nil (A := A))) rfl rfl hl.1 rfl (lv_room (Nat.le_of_ble_eq_true rfl)) dX7_exponential_1 ⟨Nat.le_of_ble_eq_true rfl, Nat.le_of_ble_eq_true rfl⟩) hS hP hA (fun r_1 u_1 H locs hpo_1 hP hS => ?_)
  refine W.widen (k := 0) (n := 0) (Nat.le_of_ble_eq_true rfl) (Nat.le_of_ble_eq_true rfl) ?_
  have e1 : r_1 = s_num x := hpo_1
  subst e1
  have hP : va_P D vwCl (tw h1 sd cd fd ge gl gx) H := hP
  refine lv_istore_n (lv' := [(3, .int (s_num x)), (0, .ref h1), (1, .double x)]) hx hb dX7_exponential_4 rfl hl (by decide) rfl (fun ls hl => ?_)
  refine lv_aload_n hx hb dX7_exponential_5 rfl (lv_at hl 1 rfl) ?_
  refine lv_iload_n hx hb dX7_exponential_6 rfl (lv_at hl 0 rfl) ?_
  refine lv_iload_n hx hb dX7_exponential_7 rfl (lv_at hl 0 rfl) ?_
  refine lv_if_eq (tgt := 19) hx hb dX7_exponential_8 (by decide) (fun c_8 => ?_) (fun c_8 => ?_)
  · refine lv_dconst0 hx hb dX7_exponential_19 ?_
    refine cl_d (va_runV (As := [.int (s_num x), .double FP.dconst0]) (rest := []) ⟨hx, hb, hml, hown, hts⟩ (t_told l D dA h1 sd cd fd ge gl gx (s_num x) FP.dconst0 H.size) (cwV 2 hts (lw_V q338 q340 qs6 q18 q341) rfl rfl rfl (by decide +kernel) ⟨Nat.le_of_ble_eq_true rfl, Nat.le_of_ble_eq_true rfl⟩) (pr_V hK hN hP hD (va_recv hK hP (ci := 5) (q0 := 0) rfl rfl)) rfl rfl hl.1 rfl (lv_room (Nat.le_of_ble_eq_true rfl)) dX7_exponential_20 ⟨Nat.le_of_ble_eq_true rfl, Nat.le_of_ble_eq_true rfl⟩) hS hD hA (fun r_20 u_20 H locs hpo_20 hP hD hS => ?_)
    refine W.widen (k := 0) (n := 0) (Nat.le_of_ble_eq_true rfl) (Nat.le_of_ble_eq_true rfl) ?_
    obtain ⟨j1, j2⟩ := hpo_20
    have hP : va_P D vwCl (tw h1 sd u_20 fd ge gl gx) H := hP
    have hD : va_D A (tw h1 sd u_20 fd ge gl gx) := hD
    exact hend _ _ _ _ 23 _ r_20 (u_20, fd, ge, gl, gx) dX7_exponential_23 (Nat.le_of_ble_eq_true rfl) (Nat.le_of_ble_eq_true rfl) hS (⟨by rw [j1]; unfold td_a td_c a_E; rw [if_pos c_8, if_neg (by decide), if_neg (by rw [cE_5 c_8]; decide)], by rw [j2]; unfold td_c; rw [if_pos c_8, cE_5 c_8], by unfold g_E; rw [if_neg (by rw [cE_5 c_8]; decide)], rfl, rfl⟩) hP hD
  · refine lv_aload_n hx hb dX7_exponential_11 rfl (lv_at hl 1 rfl) ?_
    refine lv_dload_n hx hb dX7_exponential_12 rfl (lv_at hl 2 rfl) ?_
    refine cl_d (va_runV (As := [.double x]) (rest := [.int (s_num x), .ref h1]) ⟨hx, hb, hml, hown, hts⟩ (t_exp l D dA h1 sd cd fd ge gl gx x (num_facts c_8).1.nn H.size) (cwV 1 hts (lw_V q324 q326 qs4 q18 q327) rfl rfl rfl (by decide +kernel) ⟨Nat.le_of_ble_eq_true rfl, Nat.le_of_ble_eq_true rfl⟩) (pr_V hK hN hP hD (va_recv hK hP (ci := 5) (q0 := 0) rfl rfl)) rfl rfl hl.1 rfl (lv_room (Nat.le_of_ble_eq_true rfl)) dX7_exponential_13 ⟨Nat.le_of_ble_eq_true rfl, Nat.le_of_ble_eq_true rfl⟩) hS hD hA (fun r_13 u_13 H locs hpo_13 hP hD hS => ?_)
    refine W.widen (k := 0) (n := 0) (Nat.le_of_ble_eq_true rfl) (Nat.le_of_ble_eq_true rfl) ?_
    obtain ⟨e9, i1, i2⟩ := hpo_13
    subst e9
    have hP : va_P D vwCl (tw h1 sd cd u_13.1 u_13.2 gl gx) H := hP
    have hD : va_D A (tw h1 sd cd u_13.1 u_13.2 gl gx) := hD
    refine lv_goto (tgt := 20) hx hb dX7_exponential_16 (by decide) ?_
    refine cl_d (va_runV (As := [.int (s_num x), .double (t_e x)]) (rest := []) ⟨hx, hb, hml, hown, hts⟩ (t_told l D dA h1 sd cd u_13.1 u_13.2 gl gx (s_num x) (t_e x) H.size) (cwV 2 hts (lw_V q338 q340 qs6 q18 q341) rfl rfl rfl (by decide +kernel) ⟨Nat.le_of_ble_eq_true rfl, Nat.le_of_ble_eq_true rfl⟩) (pr_V hK hN hP hD (va_recv hK hP (ci := 5) (q0 := 0) rfl rfl)) rfl rfl hl.1 rfl (lv_room (Nat.le_of_ble_eq_true rfl)) dX7_exponential_20 ⟨Nat.le_of_ble_eq_true rfl, Nat.le_of_ble_eq_true rfl⟩) hS hD hA (fun r_20 u_20 H locs hpo_20 hP hD hS => ?_)
    refine W.widen (k := 0) (n := 0) (Nat.le_of_ble_eq_true rfl) (Nat.le_of_ble_eq_true rfl) ?_
    obtain ⟨j1, j2⟩ := hpo_20
    have hP : va_P D vwCl (tw h1 sd u_20 u_13.1 u_13.2 gl gx) H := hP
    have hD : va_D A (tw h1 sd u_20 u_13.1 u_13.2 gl gx) := hD
    have hq := cE_eq c_8
    by_cases hz : e_c x = 0
    · exact hend _ _ _ _ 23 _ r_20 (u_20, u_13.1, u_13.2, gl, gx) dX7_exponential_23 (Nat.le_of_ble_eq_true rfl) (Nat.le_of_ble_eq_true rfl) hS ⟨by rw [j1]; unfold td_a td_c a_E t_e; rw [if_neg c_8, i1, if_pos hz, if_pos hz, if_pos (by rw [hq]; exact hz)], by rw [j2, i1, hq]; unfold td_c; rw [if_neg c_8], by unfold g_E; rw [if_pos (by rw [hq]; exact hz), i2]; unfold r_f; rw [if_pos hz], rfl, rfl⟩ hP hD
    · exact hend _ _ _ _ 23 _ r_20 (u_20, u_13.1, u_13.2, gl, gx) dX7_exponential_23 (Nat.le_of_ble_eq_true rfl) (Nat.le_of_ble_eq_true rfl) hS ⟨by rw [j1]; unfold td_a td_c a_E t_e; rw [if_neg c_8, i1, if_neg hz, if_neg (by rw [hq]; exact hz)], by rw [j2, i1, hq]; unfold td_c; rw [if_neg c_8], by unfold g_E; rw [if_neg (by rw [hq]; exact hz), i2]; unfold r_f; rw [if_neg hz], rfl, rfl⟩ hP hD
abbrev rm_t_logarithm : Room := { frames := 2, cells := 0, slots := 0, locals := 53 }
set_option maxHeartbeats 4000000 in
set_option maxRecDepth 100000 in
theorem t_logarithm (l : Launch) (D : va_G) (dA : ClassId) (h1 : Nat) (sd : Int64) (cd fd ge gl gx : Int32) (x : UInt64) (hv : XV x) : CMd l D dA yX7_logarithm cX7_logarithm 4 rm_t_logarithm [.ref h1, .double x] (tw h1 sd cd fd ge gl gx) (fun u : Int32 × Int32 × Int32 × Int32 × Int32 => tw h1 sd u.1 u.2.1 u.2.2.1 u.2.2.2.1 u.2.2.2.2) (fun r u => r = a_L x ∧ u.1 = s_cL x ∧ u.2.2.1 = ge ∧ u.2.2.2.1 = g_L x gl ∧ u.2.2.2.2 = gx) := by
  refine st_d (by decide) (Nat.le_of_ble_eq_true rfl) ?_
  intro p e s m below meth c A Q H locs ls hCF hK hN hA hP hD hS hl hend
  obtain ⟨hx, hb, hml, hown, hts⟩ := hCF
  have hown : s.vm.findClass RX7 = some m.cls := hown
  have hl : lv_has ls 4 [(0, .ref h1), (1, .double x)] := hl
  refine lv_dload_n hx hb dX7_logarithm_0 rfl (lv_at hl 1 rfl) ?_
  refine cl0_i (va_runS (As := [.double x]) (rest := []) ⟨hx, hb, hml, hown, hts⟩ (t_isNumber l D dA x H.size) (va_cwS 1 hts (lw_S q319 q320 q18 q321) rfl rfl rfl (by decide +kernel) ⟨Nat.le_of_ble_eq_true rfl, Nat.le_of_ble_eq_true rfl⟩) (pr_S hK hN p_nil (d_nil (A := A))) rfl rfl hl.1 rfl (lv_room (Nat.le_of_ble_eq_true rfl)) dX7_logarithm_1 ⟨Nat.le_of_ble_eq_true rfl, Nat.le_of_ble_eq_true rfl⟩) hS hP hA (fun r_1 u_1 H locs hpo_1 hP hS => ?_)
  refine W.widen (k := 0) (n := 0) (Nat.le_of_ble_eq_true rfl) (Nat.le_of_ble_eq_true rfl) ?_
  have e1 : r_1 = s_num x := hpo_1
  subst e1
  have hP : va_P D vwCl (tw h1 sd cd fd ge gl gx) H := hP
  refine lv_istore_n (lv' := [(3, .int (s_num x)), (0, .ref h1), (1, .double x)]) hx hb dX7_logarithm_4 rfl hl (by decide) rfl (fun ls hl => ?_)
  refine lv_aload_n hx hb dX7_logarithm_5 rfl (lv_at hl 1 rfl) ?_
  refine lv_iload_n hx hb dX7_logarithm_6 rfl (lv_at hl 0 rfl) ?_
  refine lv_iload_n hx hb dX7_logarithm_7 rfl (lv_at hl 0 rfl) ?_
  refine lv_if_eq (tgt := 19) hx hb dX7_logarithm_8 (by decide) (fun c_8 => ?_) (fun c_8 => ?_)
  · refine lv_dconst0 hx hb dX7_logarithm_19 ?_
    refine cl_d (va_runV (As := [.int (s_num x), .double FP.dconst0]) (rest := []) ⟨hx, hb, hml, hown, hts⟩ (t_told l D dA h1 sd cd fd ge gl gx (s_num x) FP.dconst0 H.size) (cwV 2 hts (lw_V q338 q340 qs6 q18 q341) rfl rfl rfl (by decide +kernel) ⟨Nat.le_of_ble_eq_true rfl, Nat.le_of_ble_eq_true rfl⟩) (pr_V hK hN hP hD (va_recv hK hP (ci := 5) (q0 := 0) rfl rfl)) rfl rfl hl.1 rfl (lv_room (Nat.le_of_ble_eq_true rfl)) dX7_logarithm_20 ⟨Nat.le_of_ble_eq_true rfl, Nat.le_of_ble_eq_true rfl⟩) hS hD hA (fun r_20 u_20 H locs hpo_20 hP hD hS => ?_)
    refine W.widen (k := 0) (n := 0) (Nat.le_of_ble_eq_true rfl) (Nat.le_of_ble_eq_true rfl) ?_
    obtain ⟨j1, j2⟩ := hpo_20
    have hP : va_P D vwCl (tw h1 sd u_20 fd ge gl gx) H := hP
    have hD : va_D A (tw h1 sd u_20 fd ge gl gx) := hD
    exact hend _ _ _ _ 23 _ r_20 (u_20, fd, ge, gl, gx) dX7_logarithm_23 (Nat.le_of_ble_eq_true rfl) (Nat.le_of_ble_eq_true rfl) hS (⟨by rw [j1]; unfold td_a td_c a_L; rw [if_pos c_8, if_neg (by decide), if_neg (by rw [cL_5 c_8]; decide)], by rw [j2]; unfold td_c; rw [if_pos c_8, cL_5 c_8], rfl, by unfold g_L; rw [if_neg (by rw [cL_5 c_8]; decide)], rfl⟩) hP hD
  · refine lv_aload_n hx hb dX7_logarithm_11 rfl (lv_at hl 1 rfl) ?_
    refine lv_dload_n hx hb dX7_logarithm_12 rfl (lv_at hl 2 rfl) ?_
    refine cl_d (va_runV (As := [.double x]) (rest := [.int (s_num x), .ref h1]) ⟨hx, hb, hml, hown, hts⟩ (t_log l D dA h1 sd cd fd ge gl gx x hv c_8 H.size) (cwV 1 hts (lw_V q346 q348 qs7 q18 q349) rfl rfl rfl (by decide +kernel) ⟨Nat.le_of_ble_eq_true rfl, Nat.le_of_ble_eq_true rfl⟩) (pr_V hK hN hP hD (va_recv hK hP (ci := 5) (q0 := 0) rfl rfl)) rfl rfl hl.1 rfl (lv_room (Nat.le_of_ble_eq_true rfl)) dX7_logarithm_13 ⟨Nat.le_of_ble_eq_true rfl, Nat.le_of_ble_eq_true rfl⟩) hS hD hA (fun r_13 u_13 H locs hpo_13 hP hD hS => ?_)
    refine W.widen (k := 0) (n := 0) (Nat.le_of_ble_eq_true rfl) (Nat.le_of_ble_eq_true rfl) ?_
    obtain ⟨e9, i1, i2⟩ := hpo_13
    subst e9
    have hP : va_P D vwCl (tw h1 sd cd u_13.1 ge u_13.2 gx) H := hP
    have hD : va_D A (tw h1 sd cd u_13.1 ge u_13.2 gx) := hD
    refine lv_goto (tgt := 20) hx hb dX7_logarithm_16 (by decide) ?_
    refine cl_d (va_runV (As := [.int (s_num x), .double (t_l x)]) (rest := []) ⟨hx, hb, hml, hown, hts⟩ (t_told l D dA h1 sd cd u_13.1 ge u_13.2 gx (s_num x) (t_l x) H.size) (cwV 2 hts (lw_V q338 q340 qs6 q18 q341) rfl rfl rfl (by decide +kernel) ⟨Nat.le_of_ble_eq_true rfl, Nat.le_of_ble_eq_true rfl⟩) (pr_V hK hN hP hD (va_recv hK hP (ci := 5) (q0 := 0) rfl rfl)) rfl rfl hl.1 rfl (lv_room (Nat.le_of_ble_eq_true rfl)) dX7_logarithm_20 ⟨Nat.le_of_ble_eq_true rfl, Nat.le_of_ble_eq_true rfl⟩) hS hD hA (fun r_20 u_20 H locs hpo_20 hP hD hS => ?_)
    refine W.widen (k := 0) (n := 0) (Nat.le_of_ble_eq_true rfl) (Nat.le_of_ble_eq_true rfl) ?_
    obtain ⟨j1, j2⟩ := hpo_20
    have hP : va_P D vwCl (tw h1 sd u_20 u_13.1 ge u_13.2 gx) H := hP
    have hD : va_D A (tw h1 sd u_20 u_13.1 ge u_13.2 gx) := hD
    have hq := cL_eq c_8
    by_cases hz : l_c x = 0
    · exact hend _ _ _ _ 23 _ r_20 (u_20, u_13.1, ge, u_13.2, gx) dX7_logarithm_23 (Nat.le_of_ble_eq_true rfl) (Nat.le_of_ble_eq_true rfl) hS ⟨by rw [j1]; unfold td_a td_c a_L t_l; rw [if_neg c_8, i1, if_pos hz, if_pos hz, if_pos (by rw [hq]; exact hz)], by rw [j2, i1, hq]; unfold td_c; rw [if_neg c_8], rfl, by unfold g_L; rw [if_pos (by rw [hq]; exact hz), i2]; unfold l_f; rw [if_pos hz], rfl⟩ hP hD
    · exact hend _ _ _ _ 23 _ r_20 (u_20, u_13.1, ge, u_13.2, gx) dX7_logarithm_23 (Nat.le_of_ble_eq_true rfl) (Nat.le_of_ble_eq_true rfl) hS ⟨by rw [j1]; unfold td_a td_c a_L t_l; rw [if_neg c_8, i1, if_neg hz, if_neg (by rw [hq]; exact hz)], by rw [j2, i1, hq]; unfold td_c; rw [if_neg c_8], rfl, by unfold g_L; rw [if_neg (by rw [hq]; exact hz), i2]; unfold l_f; rw [if_neg hz], rfl⟩ hP hD
abbrev rm_t_root : Room := { frames := 2, cells := 0, slots := 0, locals := 49 }
set_option maxHeartbeats 4000000 in
set_option maxRecDepth 100000 in
theorem t_root (l : Launch) (D : va_G) (dA : ClassId) (h1 : Nat) (sd : Int64) (cd fd ge gl gx : Int32) (x : UInt64) (hv : XV x) : CMd l D dA yX7_root cX7_root 4 rm_t_root [.ref h1, .double x] (tw h1 sd cd fd ge gl gx) (fun u : Int32 × Int32 × Int32 × Int32 × Int32 => tw h1 sd u.1 u.2.1 u.2.2.1 u.2.2.2.1 u.2.2.2.2) (fun r u => r = a_R x ∧ u.1 = s_cR x ∧ u.2.2.1 = ge ∧ u.2.2.2.1 = gl ∧ u.2.2.2.2 = gx) := by
  refine st_d (by decide) (Nat.le_of_ble_eq_true rfl) ?_
  intro p e s m below meth c A Q H locs ls hCF hK hN hA hP hD hS hl hend
  obtain ⟨hx, hb, hml, hown, hts⟩ := hCF
  have hown : s.vm.findClass RX7 = some m.cls := hown
  have hl : lv_has ls 4 [(0, .ref h1), (1, .double x)] := hl
  refine lv_dload_n hx hb dX7_root_0 rfl (lv_at hl 1 rfl) ?_
  refine cl0_i (va_runS (As := [.double x]) (rest := []) ⟨hx, hb, hml, hown, hts⟩ (t_isNumber l D dA x H.size) (va_cwS 1 hts (lw_S q319 q320 q18 q321) rfl rfl rfl (by decide +kernel) ⟨Nat.le_of_ble_eq_true rfl, Nat.le_of_ble_eq_true rfl⟩) (pr_S hK hN p_nil (d_nil (A := A))) rfl rfl hl.1 rfl (lv_room (Nat.le_of_ble_eq_true rfl)) dX7_root_1 ⟨Nat.le_of_ble_eq_true rfl, Nat.le_of_ble_eq_true rfl⟩) hS hP hA (fun r_1 u_1 H locs hpo_1 hP hS => ?_)
  refine W.widen (k := 0) (n := 0) (Nat.le_of_ble_eq_true rfl) (Nat.le_of_ble_eq_true rfl) ?_
  have e1 : r_1 = s_num x := hpo_1
  subst e1
  have hP : va_P D vwCl (tw h1 sd cd fd ge gl gx) H := hP
  refine lv_istore_n (lv' := [(3, .int (s_num x)), (0, .ref h1), (1, .double x)]) hx hb dX7_root_4 rfl hl (by decide) rfl (fun ls hl => ?_)
  refine lv_aload_n hx hb dX7_root_5 rfl (lv_at hl 1 rfl) ?_
  refine lv_iload_n hx hb dX7_root_6 rfl (lv_at hl 0 rfl) ?_
  refine lv_iload_n hx hb dX7_root_7 rfl (lv_at hl 0 rfl) ?_
  refine lv_if_eq (tgt := 19) hx hb dX7_root_8 (by decide) (fun c_8 => ?_) (fun c_8 => ?_)
  · refine lv_dconst0 hx hb dX7_root_19 ?_
    refine cl_d (va_runV (As := [.int (s_num x), .double FP.dconst0]) (rest := []) ⟨hx, hb, hml, hown, hts⟩ (t_told l D dA h1 sd cd fd ge gl gx (s_num x) FP.dconst0 H.size) (cwV 2 hts (lw_V q338 q340 qs6 q18 q341) rfl rfl rfl (by decide +kernel) ⟨Nat.le_of_ble_eq_true rfl, Nat.le_of_ble_eq_true rfl⟩) (pr_V hK hN hP hD (va_recv hK hP (ci := 5) (q0 := 0) rfl rfl)) rfl rfl hl.1 rfl (lv_room (Nat.le_of_ble_eq_true rfl)) dX7_root_20 ⟨Nat.le_of_ble_eq_true rfl, Nat.le_of_ble_eq_true rfl⟩) hS hD hA (fun r_20 u_20 H locs hpo_20 hP hD hS => ?_)
    refine W.widen (k := 0) (n := 0) (Nat.le_of_ble_eq_true rfl) (Nat.le_of_ble_eq_true rfl) ?_
    obtain ⟨j1, j2⟩ := hpo_20
    have hP : va_P D vwCl (tw h1 sd u_20 fd ge gl gx) H := hP
    have hD : va_D A (tw h1 sd u_20 fd ge gl gx) := hD
    exact hend _ _ _ _ 23 _ r_20 (u_20, fd, ge, gl, gx) dX7_root_23 (Nat.le_of_ble_eq_true rfl) (Nat.le_of_ble_eq_true rfl) hS (⟨by rw [j1]; unfold td_a td_c a_R; rw [if_pos c_8, if_neg (by decide), if_neg (by rw [cR_5 c_8]; decide)], by rw [j2]; unfold td_c; rw [if_pos c_8, cR_5 c_8], rfl, rfl, rfl⟩) hP hD
  · refine lv_aload_n hx hb dX7_root_11 rfl (lv_at hl 1 rfl) ?_
    refine lv_dload_n hx hb dX7_root_12 rfl (lv_at hl 2 rfl) ?_
    refine cl_d (va_runV (As := [.double x]) (rest := [.int (s_num x), .ref h1]) ⟨hx, hb, hml, hown, hts⟩ (t_sqrt l D dA h1 sd cd fd ge gl gx x hv c_8 H.size) (cwV 1 hts (lw_V q364 q366 qs9 q18 q367) rfl rfl rfl (by decide +kernel) ⟨Nat.le_of_ble_eq_true rfl, Nat.le_of_ble_eq_true rfl⟩) (pr_V hK hN hP hD (va_recv hK hP (ci := 5) (q0 := 0) rfl rfl)) rfl rfl hl.1 rfl (lv_room (Nat.le_of_ble_eq_true rfl)) dX7_root_13 ⟨Nat.le_of_ble_eq_true rfl, Nat.le_of_ble_eq_true rfl⟩) hS hD hA (fun r_13 u_13 H locs hpo_13 hP hD hS => ?_)
    refine W.widen (k := 0) (n := 0) (Nat.le_of_ble_eq_true rfl) (Nat.le_of_ble_eq_true rfl) ?_
    obtain ⟨e9, i1⟩ := hpo_13
    subst e9
    have hP : va_P D vwCl (tw h1 sd cd u_13 ge gl gx) H := hP
    have hD : va_D A (tw h1 sd cd u_13 ge gl gx) := hD
    refine lv_goto (tgt := 20) hx hb dX7_root_16 (by decide) ?_
    refine cl_d (va_runV (As := [.int (s_num x), .double (t_r x)]) (rest := []) ⟨hx, hb, hml, hown, hts⟩ (t_told l D dA h1 sd cd u_13 ge gl gx (s_num x) (t_r x) H.size) (cwV 2 hts (lw_V q338 q340 qs6 q18 q341) rfl rfl rfl (by decide +kernel) ⟨Nat.le_of_ble_eq_true rfl, Nat.le_of_ble_eq_true rfl⟩) (pr_V hK hN hP hD (va_recv hK hP (ci := 5) (q0 := 0) rfl rfl)) rfl rfl hl.1 rfl (lv_room (Nat.le_of_ble_eq_true rfl)) dX7_root_20 ⟨Nat.le_of_ble_eq_true rfl, Nat.le_of_ble_eq_true rfl⟩) hS hD hA (fun r_20 u_20 H locs hpo_20 hP hD hS => ?_)
    refine W.widen (k := 0) (n := 0) (Nat.le_of_ble_eq_true rfl) (Nat.le_of_ble_eq_true rfl) ?_
    obtain ⟨j1, j2⟩ := hpo_20
    have hP : va_P D vwCl (tw h1 sd u_20 u_13 ge gl gx) H := hP
    have hD : va_D A (tw h1 sd u_20 u_13 ge gl gx) := hD
    have hq := cR_eq c_8
    by_cases hz : r_c x = 0
    · exact hend _ _ _ _ 23 _ r_20 (u_20, u_13, ge, gl, gx) dX7_root_23 (Nat.le_of_ble_eq_true rfl) (Nat.le_of_ble_eq_true rfl) hS ⟨by rw [j1]; unfold td_a td_c a_R t_r; rw [if_neg c_8, i1, if_pos hz, if_pos hz, if_pos (by rw [hq]; exact hz)], by rw [j2, i1, hq]; unfold td_c; rw [if_neg c_8], rfl, rfl, rfl⟩ hP hD
    · exact hend _ _ _ _ 23 _ r_20 (u_20, u_13, ge, gl, gx) dX7_root_23 (Nat.le_of_ble_eq_true rfl) (Nat.le_of_ble_eq_true rfl) hS ⟨by rw [j1]; unfold td_a td_c a_R t_r; rw [if_neg c_8, i1, if_neg hz, if_neg (by rw [hq]; exact hz)], by rw [j2, i1, hq]; unfold td_c; rw [if_neg c_8], rfl, rfl, rfl⟩ hP hD
abbrev rm_t_errorPart : Room := { frames := 3, cells := 0, slots := 0, locals := 84 }
set_option maxHeartbeats 4000000 in
set_option maxRecDepth 100000 in
theorem t_errorPart (l : Launch) (D : va_G) (dA : ClassId) (h1 : Nat) (sd : Int64) (cd fd ge gl gx : Int32) (x : UInt64) : CMd l D dA yX7_errorPart cX7_errorPart 4 rm_t_errorPart [.ref h1, .double x] (tw h1 sd cd fd ge gl gx) (fun u : Int32 × Int32 × Int32 × Int32 × Int32 => tw h1 sd u.1 u.2.1 u.2.2.1 u.2.2.2.1 u.2.2.2.2) (fun r u => r = a_X x ∧ u.1 = s_cX x ∧ u.2.2.1 = g_XE x ge ∧ u.2.2.2.1 = gl ∧ u.2.2.2.2 = g_XX x gx) := by
  refine st_d (by decide) (Nat.le_of_ble_eq_true rfl) ?_
  intro p e s m below meth c A Q H locs ls hCF hK hN hA hP hD hS hl hend
  obtain ⟨hx, hb, hml, hown, hts⟩ := hCF
  have hown : s.vm.findClass RX7 = some m.cls := hown
  have hl : lv_has ls 4 [(0, .ref h1), (1, .double x)] := hl
  refine lv_dload_n hx hb dX7_errorPart_0 rfl (lv_at hl 1 rfl) ?_
  refine cl0_i (va_runS (As := [.double x]) (rest := []) ⟨hx, hb, hml, hown, hts⟩ (t_isNumber l D dA x H.size) (va_cwS 1 hts (lw_S q319 q320 q18 q321) rfl rfl rfl (by decide +kernel) ⟨Nat.le_of_ble_eq_true rfl, Nat.le_of_ble_eq_true rfl⟩) (pr_S hK hN p_nil (d_nil (A := A))) rfl rfl hl.1 rfl (lv_room (Nat.le_of_ble_eq_true rfl)) dX7_errorPart_1 ⟨Nat.le_of_ble_eq_true rfl, Nat.le_of_ble_eq_true rfl⟩) hS hP hA (fun r_1 u_1 H locs hpo_1 hP hS => ?_)
  refine W.widen (k := 0) (n := 0) (Nat.le_of_ble_eq_true rfl) (Nat.le_of_ble_eq_true rfl) ?_
  have e1 : r_1 = s_num x := hpo_1
  subst e1
  have hP : va_P D vwCl (tw h1 sd cd fd ge gl gx) H := hP
  refine lv_istore_n (lv' := [(3, .int (s_num x)), (0, .ref h1), (1, .double x)]) hx hb dX7_errorPart_4 rfl hl (by decide) rfl (fun ls hl => ?_)
  refine lv_aload_n hx hb dX7_errorPart_5 rfl (lv_at hl 1 rfl) ?_
  refine lv_iload_n hx hb dX7_errorPart_6 rfl (lv_at hl 0 rfl) ?_
  refine lv_iload_n hx hb dX7_errorPart_7 rfl (lv_at hl 0 rfl) ?_
  refine lv_if_eq (tgt := 19) hx hb dX7_errorPart_8 (by decide) (fun c_8 => ?_) (fun c_8 => ?_)
  · refine lv_dconst0 hx hb dX7_errorPart_19 ?_
    refine cl_d (va_runV (As := [.int (s_num x), .double FP.dconst0]) (rest := []) ⟨hx, hb, hml, hown, hts⟩ (t_told l D dA h1 sd cd fd ge gl gx (s_num x) FP.dconst0 H.size) (cwV 2 hts (lw_V q338 q340 qs6 q18 q341) rfl rfl rfl (by decide +kernel) ⟨Nat.le_of_ble_eq_true rfl, Nat.le_of_ble_eq_true rfl⟩) (pr_V hK hN hP hD (va_recv hK hP (ci := 5) (q0 := 0) rfl rfl)) rfl rfl hl.1 rfl (lv_room (Nat.le_of_ble_eq_true rfl)) dX7_errorPart_20 ⟨Nat.le_of_ble_eq_true rfl, Nat.le_of_ble_eq_true rfl⟩) hS hD hA (fun r_20 u_20 H locs hpo_20 hP hD hS => ?_)
    refine W.widen (k := 0) (n := 0) (Nat.le_of_ble_eq_true rfl) (Nat.le_of_ble_eq_true rfl) ?_
    obtain ⟨j1, j2⟩ := hpo_20
    have hP : va_P D vwCl (tw h1 sd u_20 fd ge gl gx) H := hP
    have hD : va_D A (tw h1 sd u_20 fd ge gl gx) := hD
    exact hend _ _ _ _ 23 _ r_20 (u_20, fd, ge, gl, gx) dX7_errorPart_23 (Nat.le_of_ble_eq_true rfl) (Nat.le_of_ble_eq_true rfl) hS (⟨by rw [j1]; unfold td_a td_c a_X; rw [if_pos c_8, if_neg (by decide), if_neg (by rw [cX_5 c_8]; decide)], by rw [j2]; unfold td_c; rw [if_pos c_8, cX_5 c_8], by unfold g_XE; rw [if_neg (by rw [cX_5 c_8]; decide)], rfl, by unfold g_XX; rw [if_neg (by rw [cX_5 c_8]; decide)]⟩) hP hD
  · refine lv_aload_n hx hb dX7_errorPart_11 rfl (lv_at hl 1 rfl) ?_
    refine lv_dload_n hx hb dX7_errorPart_12 rfl (lv_at hl 2 rfl) ?_
    refine cl_d (va_runV (As := [.double x]) (rest := [.int (s_num x), .ref h1]) ⟨hx, hb, hml, hown, hts⟩ (t_erf l D dA h1 sd cd fd ge gl gx x (num_facts c_8).1 H.size) (cwV 1 hts (lw_V q374 q376 qs10 q18 q377) rfl rfl rfl (by decide +kernel) ⟨Nat.le_of_ble_eq_true rfl, Nat.le_of_ble_eq_true rfl⟩) (pr_V hK hN hP hD (va_recv hK hP (ci := 5) (q0 := 0) rfl rfl)) rfl rfl hl.1 rfl (lv_room (Nat.le_of_ble_eq_true rfl)) dX7_errorPart_13 ⟨Nat.le_of_ble_eq_true rfl, Nat.le_of_ble_eq_true rfl⟩) hS hD hA (fun r_13 u_13 H locs hpo_13 hP hD hS => ?_)
    refine W.widen (k := 0) (n := 0) (Nat.le_of_ble_eq_true rfl) (Nat.le_of_ble_eq_true rfl) ?_
    obtain ⟨e9, i2, i3⟩ := hpo_13
    subst e9
    have hP : va_P D vwCl (tw h1 sd cd 0 u_13.1 gl u_13.2) H := hP
    have hD : va_D A (tw h1 sd cd 0 u_13.1 gl u_13.2) := hD
    refine lv_goto (tgt := 20) hx hb dX7_errorPart_16 (by decide) ?_
    refine cl_d (va_runV (As := [.int (s_num x), .double (s_err x)]) (rest := []) ⟨hx, hb, hml, hown, hts⟩ (t_told l D dA h1 sd cd 0 u_13.1 gl u_13.2 (s_num x) (s_err x) H.size) (cwV 2 hts (lw_V q338 q340 qs6 q18 q341) rfl rfl rfl (by decide +kernel) ⟨Nat.le_of_ble_eq_true rfl, Nat.le_of_ble_eq_true rfl⟩) (pr_V hK hN hP hD (va_recv hK hP (ci := 5) (q0 := 0) rfl rfl)) rfl rfl hl.1 rfl (lv_room (Nat.le_of_ble_eq_true rfl)) dX7_errorPart_20 ⟨Nat.le_of_ble_eq_true rfl, Nat.le_of_ble_eq_true rfl⟩) hS hD hA (fun r_20 u_20 H locs hpo_20 hP hD hS => ?_)
    refine W.widen (k := 0) (n := 0) (Nat.le_of_ble_eq_true rfl) (Nat.le_of_ble_eq_true rfl) ?_
    obtain ⟨j1, j2⟩ := hpo_20
    have hP : va_P D vwCl (tw h1 sd u_20 0 u_13.1 gl u_13.2) H := hP
    have hD : va_D A (tw h1 sd u_20 0 u_13.1 gl u_13.2) := hD
    have hq := cX_eq c_8
    exact hend _ _ _ _ 23 _ r_20 (u_20, 0, u_13.1, gl, u_13.2) dX7_errorPart_23 (Nat.le_of_ble_eq_true rfl) (Nat.le_of_ble_eq_true rfl) hS (⟨by rw [j1]; unfold td_a td_c a_X; rw [if_neg c_8, if_pos rfl, if_pos hq], by rw [j2, hq]; unfold td_c; rw [if_neg c_8], by unfold g_XE; rw [if_pos hq]; exact i2, rfl, by unfold g_XX; rw [if_pos hq]; exact i3⟩) hP hD
end
section
theorem td1_c (fd : Int32) : td_c 1 fd = fd := by
  unfold td_c
  rw [if_neg (show ¬ (1 : Int32) = 0 by decide)]
theorem td1_a (fd : Int32) (r : UInt64) : td_a 1 fd r = if fd = 0 then r else FP.dconst0 := by
  unfold td_a
  rw [td1_c]
theorem pt_eq (x y : UInt64) : (if p_C x y = 0 then p_t x y else FP.dconst0) = p_t x y := by
  by_cases h : p_C x y = 0
  · rw [if_pos h]
  · rw [if_neg h]
    unfold p_C at h
    unfold p_t
    by_cases c : p_c x y = 0
    · rw [if_pos c] at h
      rw [if_pos c]
      by_cases c2 : Op.cmpValue (FP.dcmp x FP.dconst0) CmpOp.l = 0
      · rw [if_pos c2] at h
        exact absurd rfl h
      · rw [if_neg c2] at h
        rw [if_neg c2, if_neg h]
    · rw [if_neg c]
theorem wa_eq (r en ke : UInt64) (h : w_c r en ke = 0) : (if e_c (w_v en ke) = 0 then FP.dmul r (t_e (w_v en ke)) else FP.dconst0) = w_a r en ke := by
  unfold w_a r_a
  rw [if_pos h]
  by_cases c : e_c (w_v en ke) = 0
  · unfold t_e
    rw [if_pos c, if_pos c, if_pos c]
  · rw [if_neg c, if_neg c]
theorem g0_eq {y : UInt64} (h : NN y) : 0 < Op.cmpValue (FP.dcmp y FP.dconst0) CmpOp.l ↔ 0 < Op.cmpValue (FP.dcmp y FP.dconst0) CmpOp.g := by
  rw [cvl_gt_zv h df_0.nn, cvg_gt_zv h df_0.nn]
abbrev rm_t_power : Room := { frames := 3, cells := 0, slots := 0, locals := 77 }
set_option maxHeartbeats 4000000 in
set_option maxRecDepth 100000 in
theorem t_power (l : Launch) (D : va_G) (dA : ClassId) (h1 : Nat) (sd : Int64) (cd fd ge gl gx : Int32) (x y : UInt64) (hvx : XV x) : CMd l D dA yX7_power cX7_power 6 rm_t_power [.ref h1, .double x, .double y] (tw h1 sd cd fd ge gl gx) (fun u : Int32 × Int32 × Int32 × Int32 × Int32 => tw h1 sd u.1 u.2.1 u.2.2.1 u.2.2.2.1 u.2.2.2.2) (fun r u => r = p_t x y ∧ u.1 = p_C x y ∧ u.2.2.1 = p_E x y ge ∧ u.2.2.2.1 = p_L x y gl ∧ u.2.2.2.2 = gx) := by
  refine st_d (by decide) (Nat.le_of_ble_eq_true rfl) ?_
  intro p e s m below meth c A Q H locs ls hCF hK hN hA hP hD hS hl hend
  obtain ⟨hx, hb, hml, hown, hts⟩ := hCF
  have hown : s.vm.findClass RX7 = some m.cls := hown
  have hl : lv_has ls 6 [(0, .ref h1), (1, .double x), (3, .double y)] := hl
  refine lv_dload_n hx hb dX7_power_0 rfl (lv_at hl 1 rfl) ?_
  refine cl0_i (va_runS (As := [.double x]) (rest := []) ⟨hx, hb, hml, hown, hts⟩ (t_isNumber l D dA x H.size) (va_cwS 1 hts (lw_S q319 q320 q18 q321) rfl rfl rfl (by decide +kernel) ⟨Nat.le_of_ble_eq_true rfl, Nat.le_of_ble_eq_true rfl⟩) (pr_S hK hN p_nil (d_nil (A := A))) rfl rfl hl.1 rfl (lv_room (Nat.le_of_ble_eq_true rfl)) dX7_power_1 ⟨Nat.le_of_ble_eq_true rfl, Nat.le_of_ble_eq_true rfl⟩) hS hP hA (fun r_1 u_1 H locs hpo_1 hP hS => ?_)
  refine W.widen (k := 0) (n := 0) (Nat.le_of_ble_eq_true rfl) (Nat.le_of_ble_eq_true rfl) ?_
  have e1 : r_1 = s_num x := hpo_1
  subst e1
  have hP : va_P D vwCl (tw h1 sd cd fd ge gl gx) H := hP
  refine lv_if_eq (tgt := 18) hx hb dX7_power_4 (by decide) (fun c_4 => ?_) (fun c_4 => ?_)
  · refine lv_iconst (v := 0) hx hb dX7_power_18 (by decide) ?_
    refine lv_istore (lv' := [(5, .int 0), (0, .ref h1), (1, .double x), (3, .double y)]) hx hb dX7_power_19 hl (by decide) rfl (fun ls hl => ?_)
    refine lv_aload_n hx hb dX7_power_21 rfl (lv_at hl 1 rfl) ?_
    refine lv_iload hx hb dX7_power_22 (lv_at hl 0 rfl) ?_
    refine lv_iload hx hb dX7_power_24 (lv_at hl 0 rfl) ?_
    refine lv_if_eq (tgt := 38) hx hb dX7_power_26 (by decide) (fun c_26 => ?_) (fun c_26 => absurd rfl c_26)
    refine lv_dconst0 hx hb dX7_power_38 ?_
    refine cl_d (va_runV (As := [.int 0, .double FP.dconst0]) (rest := []) ⟨hx, hb, hml, hown, hts⟩ (t_told l D dA h1 sd cd fd ge gl gx 0 FP.dconst0 H.size) (cwV 2 hts (lw_V q338 q340 qs6 q18 q341) rfl rfl rfl (by decide +kernel) ⟨Nat.le_of_ble_eq_true rfl, Nat.le_of_ble_eq_true rfl⟩) (pr_V hK hN hP hD (va_recv hK hP (ci := 5) (q0 := 0) rfl rfl)) rfl rfl hl.1 rfl (lv_room (Nat.le_of_ble_eq_true rfl)) dX7_power_39 ⟨Nat.le_of_ble_eq_true rfl, Nat.le_of_ble_eq_true rfl⟩) hS hD hA (fun r_39 u_39 H locs hpo_39 hP hD hS => ?_)
    refine W.widen (k := 0) (n := 0) (Nat.le_of_ble_eq_true rfl) (Nat.le_of_ble_eq_true rfl) ?_
    obtain ⟨j1, j2⟩ := hpo_39
    have hP : va_P D vwCl (tw h1 sd u_39 fd ge gl gx) H := hP
    have hD : va_D A (tw h1 sd u_39 fd ge gl gx) := hD
    have hc : p_c x y = 5 := by unfold p_c; first | rw [if_pos c_4] | rw [if_neg c_4, if_pos c_11]
    exact hend _ _ _ _ 42 _ r_39 (u_39, fd, ge, gl, gx) dX7_power_42 (Nat.le_of_ble_eq_true rfl) (Nat.le_of_ble_eq_true rfl) hS (⟨by rw [j1]; unfold td_a td_c p_t; rw [if_pos rfl, if_neg (by decide), if_neg (by rw [hc]; decide)], by rw [j2]; unfold td_c p_C; rw [if_pos rfl, if_neg (by rw [hc]; decide), hc], by unfold p_E; rw [if_neg (by rw [hc]; decide)], by unfold p_L; rw [if_neg (by rw [hc]; decide)], rfl⟩) hP hD
  · refine lv_dload_n hx hb dX7_power_7 rfl (lv_at hl 2 rfl) ?_
    refine cl0_i (va_runS (As := [.double y]) (rest := []) ⟨hx, hb, hml, hown, hts⟩ (t_isNumber l D dA y H.size) (va_cwS 1 hts (lw_S q319 q320 q18 q321) rfl rfl rfl (by decide +kernel) ⟨Nat.le_of_ble_eq_true rfl, Nat.le_of_ble_eq_true rfl⟩) (pr_S hK hN p_nil (d_nil (A := A))) rfl rfl hl.1 rfl (lv_room (Nat.le_of_ble_eq_true rfl)) dX7_power_8 ⟨Nat.le_of_ble_eq_true rfl, Nat.le_of_ble_eq_true rfl⟩) hS hP hA (fun r_8 u_8 H locs hpo_8 hP hS => ?_)
    refine W.widen (k := 0) (n := 0) (Nat.le_of_ble_eq_true rfl) (Nat.le_of_ble_eq_true rfl) ?_
    have e8 : r_8 = s_num y := hpo_8
    subst e8
    have hP : va_P D vwCl (tw h1 sd cd fd ge gl gx) H := hP
    refine lv_if_eq (tgt := 18) hx hb dX7_power_11 (by decide) (fun c_11 => ?_) (fun c_11 => ?_)
    · refine lv_iconst (v := 0) hx hb dX7_power_18 (by decide) ?_
      refine lv_istore (lv' := [(5, .int 0), (0, .ref h1), (1, .double x), (3, .double y)]) hx hb dX7_power_19 hl (by decide) rfl (fun ls hl => ?_)
      refine lv_aload_n hx hb dX7_power_21 rfl (lv_at hl 1 rfl) ?_
      refine lv_iload hx hb dX7_power_22 (lv_at hl 0 rfl) ?_
      refine lv_iload hx hb dX7_power_24 (lv_at hl 0 rfl) ?_
      refine lv_if_eq (tgt := 38) hx hb dX7_power_26 (by decide) (fun c_26 => ?_) (fun c_26 => absurd rfl c_26)
      refine lv_dconst0 hx hb dX7_power_38 ?_
      refine cl_d (va_runV (As := [.int 0, .double FP.dconst0]) (rest := []) ⟨hx, hb, hml, hown, hts⟩ (t_told l D dA h1 sd cd fd ge gl gx 0 FP.dconst0 H.size) (cwV 2 hts (lw_V q338 q340 qs6 q18 q341) rfl rfl rfl (by decide +kernel) ⟨Nat.le_of_ble_eq_true rfl, Nat.le_of_ble_eq_true rfl⟩) (pr_V hK hN hP hD (va_recv hK hP (ci := 5) (q0 := 0) rfl rfl)) rfl rfl hl.1 rfl (lv_room (Nat.le_of_ble_eq_true rfl)) dX7_power_39 ⟨Nat.le_of_ble_eq_true rfl, Nat.le_of_ble_eq_true rfl⟩) hS hD hA (fun r_39 u_39 H locs hpo_39 hP hD hS => ?_)
      refine W.widen (k := 0) (n := 0) (Nat.le_of_ble_eq_true rfl) (Nat.le_of_ble_eq_true rfl) ?_
      obtain ⟨j1, j2⟩ := hpo_39
      have hP : va_P D vwCl (tw h1 sd u_39 fd ge gl gx) H := hP
      have hD : va_D A (tw h1 sd u_39 fd ge gl gx) := hD
      have hc : p_c x y = 5 := by unfold p_c; first | rw [if_pos c_4] | rw [if_neg c_4, if_pos c_11]
      exact hend _ _ _ _ 42 _ r_39 (u_39, fd, ge, gl, gx) dX7_power_42 (Nat.le_of_ble_eq_true rfl) (Nat.le_of_ble_eq_true rfl) hS (⟨by rw [j1]; unfold td_a td_c p_t; rw [if_pos rfl, if_neg (by decide), if_neg (by rw [hc]; decide)], by rw [j2]; unfold td_c p_C; rw [if_pos rfl, if_neg (by rw [hc]; decide), hc], by unfold p_E; rw [if_neg (by rw [hc]; decide)], by unfold p_L; rw [if_neg (by rw [hc]; decide)], rfl⟩) hP hD
    · refine lv_iconst (v := 1) hx hb dX7_power_14 (by decide) ?_
      refine lv_goto (tgt := 19) hx hb dX7_power_15 (by decide) ?_
      refine lv_istore (lv' := [(5, .int 1), (0, .ref h1), (1, .double x), (3, .double y)]) hx hb dX7_power_19 hl (by decide) rfl (fun ls hl => ?_)
      refine lv_aload_n hx hb dX7_power_21 rfl (lv_at hl 1 rfl) ?_
      refine lv_iload hx hb dX7_power_22 (lv_at hl 0 rfl) ?_
      refine lv_iload hx hb dX7_power_24 (lv_at hl 0 rfl) ?_
      refine lv_if_eq (tgt := 38) hx hb dX7_power_26 (by decide) (fun c_26 => absurd c_26 (by decide)) (fun c_26 => ?_)
      refine lv_aload_n hx hb dX7_power_29 rfl (lv_at hl 1 rfl) ?_
      refine lv_dload_n hx hb dX7_power_30 rfl (lv_at hl 2 rfl) ?_
      refine lv_dload_n hx hb dX7_power_31 rfl (lv_at hl 3 rfl) ?_
      refine cl_d (va_runV (As := [.double x, .double y]) (rest := [.int 1, .ref h1]) ⟨hx, hb, hml, hown, hts⟩ (t_pow l D dA h1 sd cd fd ge gl gx x y hvx c_4 c_11 H.size) (cwV 2 hts (lw_V q356 q358 qs8 q18 q359) rfl rfl rfl (by decide +kernel) ⟨Nat.le_of_ble_eq_true rfl, Nat.le_of_ble_eq_true rfl⟩) (pr_V hK hN hP hD (va_recv hK hP (ci := 5) (q0 := 0) rfl rfl)) rfl rfl hl.1 rfl (lv_room (Nat.le_of_ble_eq_true rfl)) dX7_power_32 ⟨Nat.le_of_ble_eq_true rfl, Nat.le_of_ble_eq_true rfl⟩) hS hD hA (fun r_32 u_32 H locs hpo_32 hP hD hS => ?_)
      refine W.widen (k := 0) (n := 0) (Nat.le_of_ble_eq_true rfl) (Nat.le_of_ble_eq_true rfl) ?_
      obtain ⟨e9, i1, i2, i3⟩ := hpo_32
      subst e9
      have hP : va_P D vwCl (tw h1 sd cd u_32.1 u_32.2.1 u_32.2.2 gx) H := hP
      have hD : va_D A (tw h1 sd cd u_32.1 u_32.2.1 u_32.2.2 gx) := hD
      refine lv_goto (tgt := 39) hx hb dX7_power_35 (by decide) ?_
      refine cl_d (va_runV (As := [.int 1, .double (p_t x y)]) (rest := []) ⟨hx, hb, hml, hown, hts⟩ (t_told l D dA h1 sd cd u_32.1 u_32.2.1 u_32.2.2 gx 1 (p_t x y) H.size) (cwV 2 hts (lw_V q338 q340 qs6 q18 q341) rfl rfl rfl (by decide +kernel) ⟨Nat.le_of_ble_eq_true rfl, Nat.le_of_ble_eq_true rfl⟩) (pr_V hK hN hP hD (va_recv hK hP (ci := 5) (q0 := 0) rfl rfl)) rfl rfl hl.1 rfl (lv_room (Nat.le_of_ble_eq_true rfl)) dX7_power_39 ⟨Nat.le_of_ble_eq_true rfl, Nat.le_of_ble_eq_true rfl⟩) hS hD hA (fun r_39 u_39 H locs hpo_39 hP hD hS => ?_)
      refine W.widen (k := 0) (n := 0) (Nat.le_of_ble_eq_true rfl) (Nat.le_of_ble_eq_true rfl) ?_
      obtain ⟨j1, j2⟩ := hpo_39
      have hP : va_P D vwCl (tw h1 sd u_39 u_32.1 u_32.2.1 u_32.2.2 gx) H := hP
      have hD : va_D A (tw h1 sd u_39 u_32.1 u_32.2.1 u_32.2.2 gx) := hD
      have j1 : r_39 = if p_C x y = 0 then p_t x y else FP.dconst0 := by rw [j1, td1_a, i1]
      exact hend _ _ _ _ 42 _ r_39 (u_39, u_32.1, u_32.2.1, u_32.2.2, gx) dX7_power_42 (Nat.le_of_ble_eq_true rfl) (Nat.le_of_ble_eq_true rfl) hS (⟨by rw [j1]; exact pt_eq x y, by rw [j2, td1_c]; exact i1, i2, i3, rfl⟩) hP hD
abbrev rm_t_law : Room := { frames := 2, cells := 0, slots := 0, locals := 51 }
set_option maxHeartbeats 4000000 in
set_option maxRecDepth 100000 in
theorem t_law (l : Launch) (D : va_G) (dA : ClassId) (h1 : Nat) (sd : Int64) (cd fd ge gl gx : Int32) (rt en ke : UInt64) : CMd l D dA yX7_law cX7_law 8 rm_t_law [.ref h1, .double rt, .double en, .double ke] (tw h1 sd cd fd ge gl gx) (fun u : Int32 × Int32 × Int32 × Int32 × Int32 => tw h1 sd u.1 u.2.1 u.2.2.1 u.2.2.2.1 u.2.2.2.2) (fun r u => r = w_a rt en ke ∧ u.1 = w_C rt en ke ∧ u.2.2.1 = w_E rt en ke ge ∧ u.2.2.2.1 = gl ∧ u.2.2.2.2 = gx) := by
  refine st_d (by decide) (Nat.le_of_ble_eq_true rfl) ?_
  intro p e s m below meth c A Q H locs ls hCF hK hN hA hP hD hS hl hend
  obtain ⟨hx, hb, hml, hown, hts⟩ := hCF
  have hown : s.vm.findClass RX7 = some m.cls := hown
  have hl : lv_has ls 8 [(0, .ref h1), (1, .double rt), (3, .double en), (5, .double ke)] := hl
  refine lv_dload_n hx hb dX7_law_0 rfl (lv_at hl 1 rfl) ?_
  refine cl0_i (va_runS (As := [.double rt]) (rest := []) ⟨hx, hb, hml, hown, hts⟩ (t_isNumber l D dA rt H.size) (va_cwS 1 hts (lw_S q319 q320 q18 q321) rfl rfl rfl (by decide +kernel) ⟨Nat.le_of_ble_eq_true rfl, Nat.le_of_ble_eq_true rfl⟩) (pr_S hK hN p_nil (d_nil (A := A))) rfl rfl hl.1 rfl (lv_room (Nat.le_of_ble_eq_true rfl)) dX7_law_1 ⟨Nat.le_of_ble_eq_true rfl, Nat.le_of_ble_eq_true rfl⟩) hS hP hA (fun r_1 u_1 H locs hpo_1 hP hS => ?_)
  refine W.widen (k := 0) (n := 0) (Nat.le_of_ble_eq_true rfl) (Nat.le_of_ble_eq_true rfl) ?_
  have e1 : r_1 = s_num rt := hpo_1
  subst e1
  have hP : va_P D vwCl (tw h1 sd cd fd ge gl gx) H := hP
  refine lv_if_eq (tgt := 26) hx hb dX7_law_4 (by decide) (fun c_4 => ?_) (fun c_4 => ?_)
  · refine lv_iconst (v := 0) hx hb dX7_law_26 (by decide) ?_
    refine lv_istore (lv' := [(7, .int 0), (0, .ref h1), (1, .double rt), (3, .double en), (5, .double ke)]) hx hb dX7_law_27 hl (by decide) rfl (fun ls hl => ?_)
    refine lv_iload hx hb dX7_law_29 (lv_at hl 0 rfl) ?_
    refine lv_if_eq (tgt := 53) hx hb dX7_law_31 (by decide) (fun c_31 => ?_) (fun c_31 => absurd rfl c_31)
    refine lv_aload_n hx hb dX7_law_53 rfl (lv_at hl 1 rfl) ?_
    refine lv_iload hx hb dX7_law_54 (lv_at hl 0 rfl) ?_
    refine lv_iload hx hb dX7_law_56 (lv_at hl 0 rfl) ?_
    refine lv_if_eq (tgt := 79) hx hb dX7_law_58 (by decide) (fun c_58 => ?_) (fun c_58 => absurd rfl c_58)
    refine lv_dconst0 hx hb dX7_law_79 ?_
    refine cl_d (va_runV (As := [.int 0, .double FP.dconst0]) (rest := []) ⟨hx, hb, hml, hown, hts⟩ (t_told l D dA h1 sd cd fd ge gl gx 0 FP.dconst0 H.size) (cwV 2 hts (lw_V q338 q340 qs6 q18 q341) rfl rfl rfl (by decide +kernel) ⟨Nat.le_of_ble_eq_true rfl, Nat.le_of_ble_eq_true rfl⟩) (pr_V hK hN hP hD (va_recv hK hP (ci := 5) (q0 := 0) rfl rfl)) rfl rfl hl.1 rfl (lv_room (Nat.le_of_ble_eq_true rfl)) dX7_law_80 ⟨Nat.le_of_ble_eq_true rfl, Nat.le_of_ble_eq_true rfl⟩) hS hD hA (fun r_80 u_80 H locs hpo_80 hP hD hS => ?_)
    refine W.widen (k := 0) (n := 0) (Nat.le_of_ble_eq_true rfl) (Nat.le_of_ble_eq_true rfl) ?_
    obtain ⟨j1, j2⟩ := hpo_80
    have hP : va_P D vwCl (tw h1 sd u_80 fd ge gl gx) H := hP
    have hD : va_D A (tw h1 sd u_80 fd ge gl gx) := hD
    have hc : w_c rt en ke = 5 := by unfold w_c; first | rw [if_pos c_4] | rw [if_neg c_4, if_pos c_11] | rw [if_neg c_4, if_neg c_11, if_pos c_19]
    exact hend _ _ _ _ 83 _ r_80 (u_80, fd, ge, gl, gx) dX7_law_83 (Nat.le_of_ble_eq_true rfl) (Nat.le_of_ble_eq_true rfl) hS (⟨by rw [j1]; unfold td_a td_c w_a; rw [if_pos rfl, if_neg (by decide), if_neg (by rw [hc]; decide)], by rw [j2]; unfold td_c w_C; rw [if_pos rfl, if_neg (by rw [hc]; decide), hc], by unfold w_E; rw [if_neg (by rw [hc]; decide)], rfl, rfl⟩) hP hD
  · refine lv_dload_n hx hb dX7_law_7 rfl (lv_at hl 2 rfl) ?_
    refine cl0_i (va_runS (As := [.double en]) (rest := []) ⟨hx, hb, hml, hown, hts⟩ (t_isNumber l D dA en H.size) (va_cwS 1 hts (lw_S q319 q320 q18 q321) rfl rfl rfl (by decide +kernel) ⟨Nat.le_of_ble_eq_true rfl, Nat.le_of_ble_eq_true rfl⟩) (pr_S hK hN p_nil (d_nil (A := A))) rfl rfl hl.1 rfl (lv_room (Nat.le_of_ble_eq_true rfl)) dX7_law_8 ⟨Nat.le_of_ble_eq_true rfl, Nat.le_of_ble_eq_true rfl⟩) hS hP hA (fun r_8 u_8 H locs hpo_8 hP hS => ?_)
    refine W.widen (k := 0) (n := 0) (Nat.le_of_ble_eq_true rfl) (Nat.le_of_ble_eq_true rfl) ?_
    have e8 : r_8 = s_num en := hpo_8
    subst e8
    have hP : va_P D vwCl (tw h1 sd cd fd ge gl gx) H := hP
    refine lv_if_eq (tgt := 26) hx hb dX7_law_11 (by decide) (fun c_11 => ?_) (fun c_11 => ?_)
    · refine lv_iconst (v := 0) hx hb dX7_law_26 (by decide) ?_
      refine lv_istore (lv' := [(7, .int 0), (0, .ref h1), (1, .double rt), (3, .double en), (5, .double ke)]) hx hb dX7_law_27 hl (by decide) rfl (fun ls hl => ?_)
      refine lv_iload hx hb dX7_law_29 (lv_at hl 0 rfl) ?_
      refine lv_if_eq (tgt := 53) hx hb dX7_law_31 (by decide) (fun c_31 => ?_) (fun c_31 => absurd rfl c_31)
      refine lv_aload_n hx hb dX7_law_53 rfl (lv_at hl 1 rfl) ?_
      refine lv_iload hx hb dX7_law_54 (lv_at hl 0 rfl) ?_
      refine lv_iload hx hb dX7_law_56 (lv_at hl 0 rfl) ?_
      refine lv_if_eq (tgt := 79) hx hb dX7_law_58 (by decide) (fun c_58 => ?_) (fun c_58 => absurd rfl c_58)
      refine lv_dconst0 hx hb dX7_law_79 ?_
      refine cl_d (va_runV (As := [.int 0, .double FP.dconst0]) (rest := []) ⟨hx, hb, hml, hown, hts⟩ (t_told l D dA h1 sd cd fd ge gl gx 0 FP.dconst0 H.size) (cwV 2 hts (lw_V q338 q340 qs6 q18 q341) rfl rfl rfl (by decide +kernel) ⟨Nat.le_of_ble_eq_true rfl, Nat.le_of_ble_eq_true rfl⟩) (pr_V hK hN hP hD (va_recv hK hP (ci := 5) (q0 := 0) rfl rfl)) rfl rfl hl.1 rfl (lv_room (Nat.le_of_ble_eq_true rfl)) dX7_law_80 ⟨Nat.le_of_ble_eq_true rfl, Nat.le_of_ble_eq_true rfl⟩) hS hD hA (fun r_80 u_80 H locs hpo_80 hP hD hS => ?_)
      refine W.widen (k := 0) (n := 0) (Nat.le_of_ble_eq_true rfl) (Nat.le_of_ble_eq_true rfl) ?_
      obtain ⟨j1, j2⟩ := hpo_80
      have hP : va_P D vwCl (tw h1 sd u_80 fd ge gl gx) H := hP
      have hD : va_D A (tw h1 sd u_80 fd ge gl gx) := hD
      have hc : w_c rt en ke = 5 := by unfold w_c; first | rw [if_pos c_4] | rw [if_neg c_4, if_pos c_11] | rw [if_neg c_4, if_neg c_11, if_pos c_19]
      exact hend _ _ _ _ 83 _ r_80 (u_80, fd, ge, gl, gx) dX7_law_83 (Nat.le_of_ble_eq_true rfl) (Nat.le_of_ble_eq_true rfl) hS (⟨by rw [j1]; unfold td_a td_c w_a; rw [if_pos rfl, if_neg (by decide), if_neg (by rw [hc]; decide)], by rw [j2]; unfold td_c w_C; rw [if_pos rfl, if_neg (by rw [hc]; decide), hc], by unfold w_E; rw [if_neg (by rw [hc]; decide)], rfl, rfl⟩) hP hD
    · refine lv_dload hx hb dX7_law_14 (lv_at hl 3 rfl) ?_
      refine cl0_i (va_runS (As := [.double ke]) (rest := []) ⟨hx, hb, hml, hown, hts⟩ (t_isNumber l D dA ke H.size) (va_cwS 1 hts (lw_S q319 q320 q18 q321) rfl rfl rfl (by decide +kernel) ⟨Nat.le_of_ble_eq_true rfl, Nat.le_of_ble_eq_true rfl⟩) (pr_S hK hN p_nil (d_nil (A := A))) rfl rfl hl.1 rfl (lv_room (Nat.le_of_ble_eq_true rfl)) dX7_law_16 ⟨Nat.le_of_ble_eq_true rfl, Nat.le_of_ble_eq_true rfl⟩) hS hP hA (fun r_16 u_16 H locs hpo_16 hP hS => ?_)
      refine W.widen (k := 0) (n := 0) (Nat.le_of_ble_eq_true rfl) (Nat.le_of_ble_eq_true rfl) ?_
      have e16 : r_16 = s_num ke := hpo_16
      subst e16
      have hP : va_P D vwCl (tw h1 sd cd fd ge gl gx) H := hP
      refine lv_if_eq (tgt := 26) hx hb dX7_law_19 (by decide) (fun c_19 => ?_) (fun c_19 => ?_)
      · refine lv_iconst (v := 0) hx hb dX7_law_26 (by decide) ?_
        refine lv_istore (lv' := [(7, .int 0), (0, .ref h1), (1, .double rt), (3, .double en), (5, .double ke)]) hx hb dX7_law_27 hl (by decide) rfl (fun ls hl => ?_)
        refine lv_iload hx hb dX7_law_29 (lv_at hl 0 rfl) ?_
        refine lv_if_eq (tgt := 53) hx hb dX7_law_31 (by decide) (fun c_31 => ?_) (fun c_31 => absurd rfl c_31)
        refine lv_aload_n hx hb dX7_law_53 rfl (lv_at hl 1 rfl) ?_
        refine lv_iload hx hb dX7_law_54 (lv_at hl 0 rfl) ?_
        refine lv_iload hx hb dX7_law_56 (lv_at hl 0 rfl) ?_
        refine lv_if_eq (tgt := 79) hx hb dX7_law_58 (by decide) (fun c_58 => ?_) (fun c_58 => absurd rfl c_58)
        refine lv_dconst0 hx hb dX7_law_79 ?_
        refine cl_d (va_runV (As := [.int 0, .double FP.dconst0]) (rest := []) ⟨hx, hb, hml, hown, hts⟩ (t_told l D dA h1 sd cd fd ge gl gx 0 FP.dconst0 H.size) (cwV 2 hts (lw_V q338 q340 qs6 q18 q341) rfl rfl rfl (by decide +kernel) ⟨Nat.le_of_ble_eq_true rfl, Nat.le_of_ble_eq_true rfl⟩) (pr_V hK hN hP hD (va_recv hK hP (ci := 5) (q0 := 0) rfl rfl)) rfl rfl hl.1 rfl (lv_room (Nat.le_of_ble_eq_true rfl)) dX7_law_80 ⟨Nat.le_of_ble_eq_true rfl, Nat.le_of_ble_eq_true rfl⟩) hS hD hA (fun r_80 u_80 H locs hpo_80 hP hD hS => ?_)
        refine W.widen (k := 0) (n := 0) (Nat.le_of_ble_eq_true rfl) (Nat.le_of_ble_eq_true rfl) ?_
        obtain ⟨j1, j2⟩ := hpo_80
        have hP : va_P D vwCl (tw h1 sd u_80 fd ge gl gx) H := hP
        have hD : va_D A (tw h1 sd u_80 fd ge gl gx) := hD
        have hc : w_c rt en ke = 5 := by unfold w_c; first | rw [if_pos c_4] | rw [if_neg c_4, if_pos c_11] | rw [if_neg c_4, if_neg c_11, if_pos c_19]
        exact hend _ _ _ _ 83 _ r_80 (u_80, fd, ge, gl, gx) dX7_law_83 (Nat.le_of_ble_eq_true rfl) (Nat.le_of_ble_eq_true rfl) hS (⟨by rw [j1]; unfold td_a td_c w_a; rw [if_pos rfl, if_neg (by decide), if_neg (by rw [hc]; decide)], by rw [j2]; unfold td_c w_C; rw [if_pos rfl, if_neg (by rw [hc]; decide), hc], by unfold w_E; rw [if_neg (by rw [hc]; decide)], rfl, rfl⟩) hP hD
      · refine lv_iconst (v := 1) hx hb dX7_law_22 (by decide) ?_
        refine lv_goto (tgt := 27) hx hb dX7_law_23 (by decide) ?_
        refine lv_istore (lv' := [(7, .int 1), (0, .ref h1), (1, .double rt), (3, .double en), (5, .double ke)]) hx hb dX7_law_27 hl (by decide) rfl (fun ls hl => ?_)
        refine lv_iload hx hb dX7_law_29 (lv_at hl 0 rfl) ?_
        refine lv_if_eq (tgt := 53) hx hb dX7_law_31 (by decide) (fun c_31 => absurd c_31 (by decide)) (fun c_31 => ?_)
        refine lv_dload hx hb dX7_law_34 (lv_at hl 4 rfl) ?_
        refine lv_dconst0 hx hb dX7_law_36 ?_
        refine lv_dcmp hx hb dX7_law_37 ?_
        refine lv_if_gt (tgt := 53) hx hb dX7_law_38 (by decide) (fun c_38 => ?_) (fun c_38 => ?_)
        · refine lv_aload_n hx hb dX7_law_53 rfl (lv_at hl 1 rfl) ?_
          refine lv_iload hx hb dX7_law_54 (lv_at hl 0 rfl) ?_
          refine lv_iload hx hb dX7_law_56 (lv_at hl 0 rfl) ?_
          refine lv_if_eq (tgt := 79) hx hb dX7_law_58 (by decide) (fun c_58 => absurd c_58 (by decide)) (fun c_58 => ?_)
          have c31 := (g0_eq (num_facts c_19).1.nn).mp c_38
          have k0 : 0 < zv ke := by have h9 := c31; rw [cvg_gt_zv (num_facts c_19).1.nn df_0.nn, zv_0] at h9; exact h9
          obtain ⟨g1, g2⟩ := law_facts (num_facts c_11) (num_facts c_19) k0
          refine lv_dload_n hx hb dX7_law_61 rfl (lv_at hl 2 rfl) ?_
          refine lv_aload_n hx hb dX7_law_62 rfl (lv_at hl 1 rfl) ?_
          refine lv_dload_n hx hb dX7_law_63 rfl (lv_at hl 3 rfl) ?_
          refine lv_dneg hx hb dX7_law_64 ?_
          refine lv_ldc2d hx hb hown (hts _ q386) dX7_law_65 ?_
          refine lv_dload hx hb dX7_law_68 (lv_at hl 4 rfl) ?_
          refine lv_dmul hx hb dX7_law_70 g1.n64 ?_
          refine lv_ddiv hx hb dX7_law_71 g2.n64 ?_
          refine cl_d (va_runV (As := [.double (w_v en ke)]) (rest := [.double rt, .int 1, .ref h1]) ⟨hx, hb, hml, hown, hts⟩ (t_exp l D dA h1 sd cd fd ge gl gx (w_v en ke) g2 H.size) (cwV 1 hts (lw_V q324 q326 qs4 q18 q327) rfl rfl rfl (by decide +kernel) ⟨Nat.le_of_ble_eq_true rfl, Nat.le_of_ble_eq_true rfl⟩) (pr_V hK hN hP hD (va_recv hK hP (ci := 5) (q0 := 0) rfl rfl)) rfl rfl hl.1 rfl (lv_room (Nat.le_of_ble_eq_true rfl)) dX7_law_72 ⟨Nat.le_of_ble_eq_true rfl, Nat.le_of_ble_eq_true rfl⟩) hS hD hA (fun r_72 u_72 H locs hpo_72 hP hD hS => ?_)
          refine W.widen (k := 0) (n := 0) (Nat.le_of_ble_eq_true rfl) (Nat.le_of_ble_eq_true rfl) ?_
          obtain ⟨e9, i1, i2⟩ := hpo_72
          subst e9
          have hP : va_P D vwCl (tw h1 sd cd u_72.1 u_72.2 gl gx) H := hP
          have hD : va_D A (tw h1 sd cd u_72.1 u_72.2 gl gx) := hD
          refine lv_dmul hx hb dX7_law_75 ((NN.mul (num_facts c_4).1 (te_df g2)).n64) ?_
          refine lv_goto (tgt := 80) hx hb dX7_law_76 (by decide) ?_
          refine cl_d (va_runV (As := [.int 1, .double (FP.dmul rt (t_e (w_v en ke)))]) (rest := []) ⟨hx, hb, hml, hown, hts⟩ (t_told l D dA h1 sd cd u_72.1 u_72.2 gl gx 1 (FP.dmul rt (t_e (w_v en ke))) H.size) (cwV 2 hts (lw_V q338 q340 qs6 q18 q341) rfl rfl rfl (by decide +kernel) ⟨Nat.le_of_ble_eq_true rfl, Nat.le_of_ble_eq_true rfl⟩) (pr_V hK hN hP hD (va_recv hK hP (ci := 5) (q0 := 0) rfl rfl)) rfl rfl hl.1 rfl (lv_room (Nat.le_of_ble_eq_true rfl)) dX7_law_80 ⟨Nat.le_of_ble_eq_true rfl, Nat.le_of_ble_eq_true rfl⟩) hS hD hA (fun r_80 u_80 H locs hpo_80 hP hD hS => ?_)
          refine W.widen (k := 0) (n := 0) (Nat.le_of_ble_eq_true rfl) (Nat.le_of_ble_eq_true rfl) ?_
          obtain ⟨j1, j2⟩ := hpo_80
          have hP : va_P D vwCl (tw h1 sd u_80 u_72.1 u_72.2 gl gx) H := hP
          have hD : va_D A (tw h1 sd u_80 u_72.1 u_72.2 gl gx) := hD
          have hc : w_c rt en ke = 0 := by unfold w_c; rw [if_neg c_4, if_neg c_11, if_neg c_19, if_pos c31]
          have j1 : r_80 = if e_c (w_v en ke) = 0 then FP.dmul rt (t_e (w_v en ke)) else FP.dconst0 := by rw [j1, td1_a, i1]
          exact hend _ _ _ _ 83 _ r_80 (u_80, u_72.1, u_72.2, gl, gx) dX7_law_83 (Nat.le_of_ble_eq_true rfl) (Nat.le_of_ble_eq_true rfl) hS (⟨by rw [j1]; exact wa_eq rt en ke hc, by rw [j2, td1_c]; unfold w_C; rw [if_pos hc]; exact i1, by unfold w_E; rw [if_pos hc]; exact i2, rfl, rfl⟩) hP hD
        · refine lv_aload_n hx hb dX7_law_41 rfl (lv_at hl 1 rfl) ?_
          refine lv_iconst (v := 4) hx hb dX7_law_42 (by decide) ?_
          refine va_put (D := D) (ci := 5) (v := .int 4) (ty := .int) (C := RX7) (T := TX7) (N := 6) hx hb hts in_X7 tyX7 tyX7_ok nmX7 hown hK hP hD hS 0 rfl rfl 2 (by decide) (hts _ q298) (fun _ h9 => h9) rfl (by decide +kernel) rfl rfl (Nat.le_of_ble_eq_true rfl) dX7_law_43 (fun H locs hP hD hS => ?_)
          have hP : va_P D vwCl (tw h1 sd cd 4 ge gl gx) H := hP
          have hD : va_D A (tw h1 sd cd 4 ge gl gx) := hD
          refine lv_aload_n hx hb dX7_law_46 rfl (lv_at hl 1 rfl) ?_
          refine lv_iconst (v := 1) hx hb dX7_law_47 (by decide) ?_
          refine lv_dconst0 hx hb dX7_law_48 ?_
          refine cl_d (va_runV (As := [.int 1, .double FP.dconst0]) (rest := []) ⟨hx, hb, hml, hown, hts⟩ (t_told l D dA h1 sd cd 4 ge gl gx 1 FP.dconst0 H.size) (cwV 2 hts (lw_V q338 q340 qs6 q18 q341) rfl rfl rfl (by decide +kernel) ⟨Nat.le_of_ble_eq_true rfl, Nat.le_of_ble_eq_true rfl⟩) (pr_V hK hN hP hD (va_recv hK hP (ci := 5) (q0 := 0) rfl rfl)) rfl rfl hl.1 rfl (lv_room (Nat.le_of_ble_eq_true rfl)) dX7_law_49 ⟨Nat.le_of_ble_eq_true rfl, Nat.le_of_ble_eq_true rfl⟩) hS hD hA (fun r_49 u_49 H locs hpo_49 hP hD hS => ?_)
          refine W.widen (k := 0) (n := 0) (Nat.le_of_ble_eq_true rfl) (Nat.le_of_ble_eq_true rfl) ?_
          obtain ⟨j1, j2⟩ := hpo_49
          have hP : va_P D vwCl (tw h1 sd u_49 4 ge gl gx) H := hP
          have hD : va_D A (tw h1 sd u_49 4 ge gl gx) := hD
          have hc : w_c rt en ke = 4 := by unfold w_c; rw [if_neg c_4, if_neg c_11, if_neg c_19, if_neg (fun q => c_38 ((g0_eq (num_facts c_19).1.nn).mpr q))]
          exact hend _ _ _ _ 52 _ r_49 (u_49, 4, ge, gl, gx) dX7_law_52 (Nat.le_of_ble_eq_true rfl) (Nat.le_of_ble_eq_true rfl) hS (⟨by rw [j1, td1_a]; unfold w_a; rw [if_neg (show ¬ (4 : Int32) = 0 by decide), if_neg (by rw [hc]; decide)], by rw [j2, td1_c]; unfold w_C; rw [if_neg (by rw [hc]; decide), hc], by unfold w_E; rw [if_neg (by rw [hc]; decide)], rfl, rfl⟩) hP hD
abbrev rm_t_normal : Room := { frames := 0, cells := 0, slots := 0, locals := 0 }
set_option maxHeartbeats 4000000 in
set_option maxRecDepth 100000 in
theorem t_normal (l : Launch) (D : va_G) (dA : ClassId) (h1 : Nat) (sd : Int64) (cd fd ge gl gx : Int32) (b : Int32) (t : Int64) (u : Int32) : CMd l D dA yX7_normal cX7_normal 10 rm_t_normal [.ref h1, .int b, .long t, .int u] (tw h1 sd cd fd ge gl gx) (fun v : Int32 × Int32 × Int32 × Int32 × Int32 => tw h1 sd v.1 v.2.1 v.2.2.1 v.2.2.2.1 v.2.2.2.2) (fun r v => r = n_a sd b t u ∧ v.1 = n_c b t u ∧ v.2.2.1 = ge ∧ v.2.2.2.1 = gl ∧ v.2.2.2.2 = gx) := by
  refine st_d (by decide) (Nat.le_of_ble_eq_true rfl) ?_
  intro p e s m below meth c A Q H locs ls hCF hK hN hA hP hD hS hl hend
  obtain ⟨hx, hb, hml, hown, hts⟩ := hCF
  have hown : s.vm.findClass RX7 = some m.cls := hown
  have hl : lv_has ls 10 [(0, .ref h1), (1, .int b), (2, .long t), (4, .int u)] := hl
  refine lv_iload_n hx hb dX7_normal_0 rfl (lv_at hl 1 rfl) ?_
  refine lv_if_lt (tgt := 15) hx hb dX7_normal_1 (by decide) (fun c_1 => ?_) (fun c_1 => ?_)
  · have hc : n_c b t u = 3 := by unfold n_c; first | rw [if_pos c_1] | rw [if_neg c_1, if_pos c_7] | rw [if_neg c_1, if_neg c_7, if_neg c_12]
    refine lv_aload_n hx hb dX7_normal_15 rfl (lv_at hl 0 rfl) ?_
    refine lv_iconst (v := 3) hx hb dX7_normal_16 (by decide) ?_
    refine va_put (D := D) (ci := 5) (v := .int 3) (ty := .int) (C := RX7) (T := TX7) (N := 6) hx hb hts in_X7 tyX7 tyX7_ok nmX7 hown hK hP hD hS 0 rfl rfl 1 (by decide) (hts _ q297) (fun _ h9 => h9) rfl (by decide +kernel) rfl rfl (Nat.le_of_ble_eq_true rfl) dX7_normal_17 (fun H locs hP hD hS => ?_)
    have hP : va_P D vwCl (tw h1 sd 3 fd ge gl gx) H := hP
    have hD : va_D A (tw h1 sd 3 fd ge gl gx) := hD
    refine lv_dconst0 hx hb dX7_normal_20 ?_
    exact hend _ _ _ _ 21 _ FP.dconst0 (3, fd, ge, gl, gx) dX7_normal_21 (Nat.le_of_ble_eq_true rfl) (Nat.le_of_ble_eq_true rfl) hS (⟨by unfold n_a; rw [if_neg (by rw [hc]; decide)], hc.symm, rfl, rfl, rfl⟩) hP hD
  · refine lv_lload_n hx hb dX7_normal_4 rfl (lv_at hl 2 rfl) ?_
    refine lv_lconst (v := 0) hx hb dX7_normal_5 (by decide) ?_
    refine W.lcmp hx hb dX7_normal_6 ?_
    refine lv_if_lt (tgt := 15) hx hb dX7_normal_7 (by decide) (fun c_7 => ?_) (fun c_7 => ?_)
    · have hc : n_c b t u = 3 := by unfold n_c; first | rw [if_pos c_1] | rw [if_neg c_1, if_pos c_7] | rw [if_neg c_1, if_neg c_7, if_neg c_12]
      refine lv_aload_n hx hb dX7_normal_15 rfl (lv_at hl 0 rfl) ?_
      refine lv_iconst (v := 3) hx hb dX7_normal_16 (by decide) ?_
      refine va_put (D := D) (ci := 5) (v := .int 3) (ty := .int) (C := RX7) (T := TX7) (N := 6) hx hb hts in_X7 tyX7 tyX7_ok nmX7 hown hK hP hD hS 0 rfl rfl 1 (by decide) (hts _ q297) (fun _ h9 => h9) rfl (by decide +kernel) rfl rfl (Nat.le_of_ble_eq_true rfl) dX7_normal_17 (fun H locs hP hD hS => ?_)
      have hP : va_P D vwCl (tw h1 sd 3 fd ge gl gx) H := hP
      have hD : va_D A (tw h1 sd 3 fd ge gl gx) := hD
      refine lv_dconst0 hx hb dX7_normal_20 ?_
      exact hend _ _ _ _ 21 _ FP.dconst0 (3, fd, ge, gl, gx) dX7_normal_21 (Nat.le_of_ble_eq_true rfl) (Nat.le_of_ble_eq_true rfl) hS (⟨by unfold n_a; rw [if_neg (by rw [hc]; decide)], hc.symm, rfl, rfl, rfl⟩) hP hD
    · refine lv_iload hx hb dX7_normal_10 (lv_at hl 3 rfl) ?_
      refine lv_if_ge (tgt := 22) hx hb dX7_normal_12 (by decide) (fun c_12 => ?_) (fun c_12 => ?_)
      · have hc : n_c b t u = 0 := by unfold n_c; rw [if_neg c_1, if_neg c_7, if_pos c_12]
        refine lv_aload_n hx hb dX7_normal_22 rfl (lv_at hl 0 rfl) ?_
        refine lv_iconst (v := 0) hx hb dX7_normal_23 (by decide) ?_
        refine va_put (D := D) (ci := 5) (v := .int 0) (ty := .int) (C := RX7) (T := TX7) (N := 6) hx hb hts in_X7 tyX7 tyX7_ok nmX7 hown hK hP hD hS 0 rfl rfl 1 (by decide) (hts _ q297) (fun _ h9 => h9) rfl (by decide +kernel) rfl rfl (Nat.le_of_ble_eq_true rfl) dX7_normal_24 (fun H locs hP hD hS => ?_)
        have hP : va_P D vwCl (tw h1 sd 0 fd ge gl gx) H := hP
        have hD : va_D A (tw h1 sd 0 fd ge gl gx) := hD
        refine lv_aload_n hx hb dX7_normal_27 rfl (lv_at hl 0 rfl) ?_
        refine va_get (D := D) (ci := 5) (v := .long sd) (C := RX7) (T := TX7) (N := 6) hx hb hts in_X7 hown hK hP 0 rfl rfl 0 (by decide) (hts _ q296) (fun _ h9 => h9) rfl dX7_normal_28 ?_
        refine lv_iload_n hx hb dX7_normal_31 rfl (lv_at hl 1 rfl) ?_
        refine lv_i2l hx hb dX7_normal_32 rfl ?_
        refine lv_ldc2 hx hb hown (hts _ q391) dX7_normal_33 ?_
        refine lv_lmul hx hb dX7_normal_36 ?_
        refine lv_ladd hx hb dX7_normal_37 ?_
        refine lv_lload_n hx hb dX7_normal_38 rfl (lv_at hl 2 rfl) ?_
        refine lv_ldc2 hx hb hown (hts _ q392) dX7_normal_39 ?_
        refine lv_lmul hx hb dX7_normal_42 ?_
        refine lv_ladd hx hb dX7_normal_43 ?_
        refine lv_iload hx hb dX7_normal_44 (lv_at hl 3 rfl) ?_
        refine lv_i2l hx hb dX7_normal_46 rfl ?_
        refine lv_ldc2 hx hb hown (hts _ q393) dX7_normal_47 ?_
        refine lv_lmul hx hb dX7_normal_50 ?_
        refine lv_ladd hx hb dX7_normal_51 ?_
        refine lv_lstore (lv' := [(5, .long (s_n0 sd b t u)), (0, .ref h1), (1, .int b), (2, .long t), (4, .int u)]) hx hb dX7_normal_52 hl (by decide) rfl (fun ls hl => ?_)
        refine lv_dconst0 hx hb dX7_normal_54 ?_
        refine lv_dstore (lv' := [(7, .double FP.dconst0), (5, .long (s_n0 sd b t u)), (0, .ref h1), (1, .int b), (2, .long t), (4, .int u)]) hx hb dX7_normal_55 hl (by decide) rfl (fun ls hl => ?_)
        refine lv_iconst (v := 0) hx hb dX7_normal_57 (by decide) ?_
        refine lv_istore (lv' := [(9, .int 0), (7, .double FP.dconst0), (5, .long (s_n0 sd b t u)), (0, .ref h1), (1, .int b), (2, .long t), (4, .int u)]) hx hb dX7_normal_58 hl (by decide) rfl (fun ls hl => ?_)
        have loop : ∀ (n : Nat) (i : Nat) (v : UInt64) (h : Int64) (H : Heap) (locs : List Loc) (ls : Array Slot), i + n = 15 → PW v (1137 + i) → s_nm n i h v = s_nm 15 0 (s_n0 sd b t u) FP.dconst0 → va_P D vwCl (tw h1 sd 0 fd ge gl gx) H → va_D A (tw h1 sd 0 fd ge gl gx) → va_S A s.heap H locs → lv_has ls 10 [(9, .int (nI i)), (7, .double v), (5, .long h), (0, .ref h1), (1, .int b), (2, .long t), (4, .int u)] → W p l e rm_t_normal s m ([.ref h1, .int b, .long t, .int u] : List Value).toArray below meth c H locs 0 0 Q (F0 m 60 ls []) := by
          intro n
          induction n with
          | zero =>
            intro i v h H locs ls hn hv hs hP hD hS hl
            have ei : i = 15 := by omega
            subst ei
            have ev : v = s_nm 15 0 (s_n0 sd b t u) FP.dconst0 := hs
            subst ev
            refine lv_iload hx hb dX7_normal_60 (lv_at hl 0 rfl) ?_
            refine lv_bipush (v := 15) hx hb dX7_normal_62 (by decide) ?_
            refine lv_icmp_ge (tgt := 111) hx hb dX7_normal_64 (by decide) (fun c_64 => ?_) (fun c_64 => absurd (by decide) c_64)
            refine lv_dload hx hb dX7_normal_111 (lv_at hl 1 rfl) ?_
            refine lv_ldc2d hx hb hown (hts _ q380) dX7_normal_113 ?_
            refine lv_dsub hx hb dX7_normal_116 ((show NN (s_normal sd b t u) from normal_nn sd b t u).n64) ?_
            exact hend _ _ _ _ 117 _ (s_normal sd b t u) (0, fd, ge, gl, gx) dX7_normal_117 (Nat.le_of_ble_eq_true rfl) (Nat.le_of_ble_eq_true rfl) hS (⟨by unfold n_a; rw [if_pos hc], hc.symm, rfl, rfl, rfl⟩) hP hD
          | succ n ih =>
            intro i v h H locs ls hn hv hs hP hD hS hl
            refine lv_iload hx hb dX7_normal_60 (lv_at hl 0 rfl) ?_
            refine lv_bipush (v := 15) hx hb dX7_normal_62 (by decide) ?_
            refine lv_icmp_ge (tgt := 111) hx hb dX7_normal_64 (by decide) (fun c_64 => absurd c_64 (by exact nI_ge (a := i) (b := 15) (by omega) (by decide))) (fun c_64 => ?_)
            refine lv_lload hx hb dX7_normal_67 (lv_at hl 2 rfl) ?_
            refine lv_ldc2 hx hb hown (hts _ q394) dX7_normal_69 ?_
            refine lv_lmul hx hb dX7_normal_72 ?_
            refine lv_ldc2 hx hb hown (hts _ q395) dX7_normal_73 ?_
            refine lv_ladd hx hb dX7_normal_76 ?_
            refine lv_lstore (lv' := [(5, .long (s_nh h)), (9, .int (nI i)), (7, .double v), (0, .ref h1), (1, .int b), (2, .long t), (4, .int u)]) hx hb dX7_normal_77 hl (by decide) rfl (fun ls hl => ?_)
            refine lv_iload hx hb dX7_normal_79 (lv_at hl 1 rfl) ?_
            refine lv_iconst (v := 3) hx hb dX7_normal_81 (by decide) ?_
            refine lv_icmp_ge (tgt := 90) hx hb dX7_normal_82 (by decide) (fun c_82 => ?_) (fun c_82 => ?_)
            · refine lv_dload hx hb dX7_normal_90 (lv_at hl 2 rfl) ?_
              refine lv_lload hx hb dX7_normal_92 (lv_at hl 0 rfl) ?_
              refine lv_bipush (v := 11) hx hb dX7_normal_94 (by decide) ?_
              refine lv_lushr hx hb dX7_normal_96 rfl ?_
              refine lv_l2d hx hb dX7_normal_97 ?_
              refine lv_ldc2d hx hb hown (hts _ q396) dX7_normal_98 ?_
              refine lv_dmul hx hb dX7_normal_101 ((norm_mul (s_nh h)).1.n64) ?_
              refine lv_dadd hx hb dX7_normal_102 ((norm_step (s_nh h) (by omega) hv).1.n64) ?_
              refine lv_dstore (lv' := [(7, .double (FP.dadd v (FP.dmul (FP.l2d (s_nu (s_nh h))) (4368491638549381120 : UInt64)))), (5, .long (s_nh h)), (9, .int (nI i)), (0, .ref h1), (1, .int b), (2, .long t), (4, .int u)]) hx hb dX7_normal_103 hl (by decide) rfl (fun ls hl => ?_)
              refine lv_iinc (v := nI (i + 1)) (lv' := [(9, .int (nI (i + 1))), (7, .double (FP.dadd v (FP.dmul (FP.l2d (s_nu (s_nh h))) (4368491638549381120 : UInt64)))), (5, .long (s_nh h)), (0, .ref h1), (1, .int b), (2, .long t), (4, .int u)]) hx hb dX7_normal_105 hl (k := 2) rfl (nI_1 i) (by decide) rfl (fun ls hl => ?_)
              refine lv_goto (tgt := 60) hx hb dX7_normal_108 (by decide) ?_
              have i3 : ¬ i < 3 := fun q => absurd c_82 (show ¬ (3 : Int32) ≤ nI i from nI_ge (a := i) (b := 3) q (by decide))
              have e9 : s_ns i (s_nh h) v = (FP.dadd v (FP.dmul (FP.l2d (s_nu (s_nh h))) (4368491638549381120 : UInt64))) := by unfold s_ns; rw [if_neg i3]
              have hs : s_nm n (i + 1) (s_nh h) (s_ns i (s_nh h) v) = s_nm 15 0 (s_n0 sd b t u) FP.dconst0 := hs
              have hv9 := norm_s (s_nh h) (k := i) (by omega) hv
              rw [e9] at hs hv9
              exact ih (i + 1) _ _ H locs ls (by omega) hv9 hs hP hD hS (lv_sub hl [0, 1, 2, 3, 4, 5, 6] rfl)
            · refine lv_dload hx hb dX7_normal_85 (lv_at hl 2 rfl) ?_
              refine lv_goto (tgt := 103) hx hb dX7_normal_87 (by decide) ?_
              refine lv_dstore (lv' := [(7, .double v), (5, .long (s_nh h)), (9, .int (nI i)), (0, .ref h1), (1, .int b), (2, .long t), (4, .int u)]) hx hb dX7_normal_103 hl (by decide) rfl (fun ls hl => ?_)
              refine lv_iinc (v := nI (i + 1)) (lv' := [(9, .int (nI (i + 1))), (7, .double v), (5, .long (s_nh h)), (0, .ref h1), (1, .int b), (2, .long t), (4, .int u)]) hx hb dX7_normal_105 hl (k := 2) rfl (nI_1 i) (by decide) rfl (fun ls hl => ?_)
              refine lv_goto (tgt := 60) hx hb dX7_normal_108 (by decide) ?_
              have i3 : i < 3 := by rcases Nat.lt_or_ge i 3 with q | q; exact q; exact absurd (show (3 : Int32) ≤ nI i from nI_le (a := 3) (b := i) q (by omega)) c_82
              have e9 : s_ns i (s_nh h) v = v := by unfold s_ns; rw [if_pos i3]
              have hs : s_nm n (i + 1) (s_nh h) (s_ns i (s_nh h) v) = s_nm 15 0 (s_n0 sd b t u) FP.dconst0 := hs
              have hv9 := norm_s (s_nh h) (k := i) (by omega) hv
              rw [e9] at hs hv9
              exact ih (i + 1) _ _ H locs ls (by omega) hv9 hs hP hD hS (lv_sub hl [0, 1, 2, 3, 4, 5, 6] rfl)
        exact loop 15 0 _ _ H locs ls (by decide) pw_0 rfl hP hD hS (lv_sub hl [0, 1, 2, 3, 4, 5, 6] rfl)
      · have hc : n_c b t u = 3 := by unfold n_c; first | rw [if_pos c_1] | rw [if_neg c_1, if_pos c_7] | rw [if_neg c_1, if_neg c_7, if_neg c_12]
        refine lv_aload_n hx hb dX7_normal_15 rfl (lv_at hl 0 rfl) ?_
        refine lv_iconst (v := 3) hx hb dX7_normal_16 (by decide) ?_
        refine va_put (D := D) (ci := 5) (v := .int 3) (ty := .int) (C := RX7) (T := TX7) (N := 6) hx hb hts in_X7 tyX7 tyX7_ok nmX7 hown hK hP hD hS 0 rfl rfl 1 (by decide) (hts _ q297) (fun _ h9 => h9) rfl (by decide +kernel) rfl rfl (Nat.le_of_ble_eq_true rfl) dX7_normal_17 (fun H locs hP hD hS => ?_)
        have hP : va_P D vwCl (tw h1 sd 3 fd ge gl gx) H := hP
        have hD : va_D A (tw h1 sd 3 fd ge gl gx) := hD
        refine lv_dconst0 hx hb dX7_normal_20 ?_
        exact hend _ _ _ _ 21 _ FP.dconst0 (3, fd, ge, gl, gx) dX7_normal_21 (Nat.le_of_ble_eq_true rfl) (Nat.le_of_ble_eq_true rfl) hS (⟨by unfold n_a; rw [if_neg (by rw [hc]; decide)], hc.symm, rfl, rfl, rfl⟩) hP hD
theorem f_lt {f : Int32} (h : f < 0) : f ≠ 0 ∧ f ≠ 1 ∧ f ≠ 2 ∧ f ≠ 3 := by
  rw [Int32.lt_iff_toInt_lt] at h
  have h0 : (0 : Int32).toInt = 0 := rfl
  refine ⟨?_, ?_, ?_, ?_⟩ <;> (intro e; subst e; exact absurd h (by decide))
theorem f_gt {f : Int32} (h : 3 < f) : f ≠ 0 ∧ f ≠ 1 ∧ f ≠ 2 ∧ f ≠ 3 := by
  refine ⟨?_, ?_, ?_, ?_⟩ <;> (intro e; subst e; exact absurd h (by decide))
theorem f_2 {f : Int32} (h1 : ¬ f < 0) (h2 : ¬ 3 < f) (h3 : ¬ f = 3) (h4 : ¬ f = 0) (h5 : ¬ f = 1) : f = 2 := by
  have e3 : (3 : Int32).toInt = 3 := rfl
  have e0 : (0 : Int32).toInt = 0 := rfl
  have e1 : (1 : Int32).toInt = 1 := rfl
  have e2 : (2 : Int32).toInt = 2 := rfl
  rw [Int32.lt_iff_toInt_lt] at h1 h2
  have h3' : ¬ f.toInt = 3 := fun q => h3 (Int32.toInt_inj.mp (by rw [q, e3]))
  have h4' : ¬ f.toInt = 0 := fun q => h4 (Int32.toInt_inj.mp (by rw [q, e0]))
  have h5' : ¬ f.toInt = 1 := fun q => h5 (Int32.toInt_inj.mp (by rw [q, e1]))
  exact Int32.toInt_inj.mp (by omega)
theorem ba_no {f : Int32} {x : UInt64} (h : f ≠ 0 ∧ f ≠ 1 ∧ f ≠ 2 ∧ f ≠ 3) : b_a f x = (13830554455654793216 : UInt64) ∧ (∀ g, b_E f x g = g) ∧ (∀ g, b_L f x g = g) := by
  refine ⟨?_, fun g => ?_, fun g => ?_⟩
  · unfold b_a
    rw [if_neg h.1, if_neg h.2.1, if_neg h.2.2.1, if_neg h.2.2.2]
  · unfold b_E
    rw [if_neg h.1]
  · unfold b_L
    rw [if_neg h.2.1]
theorem ba_nn {f : Int32} {x : UInt64} (h : s_num x = 0) : b_a f x = (13830554455654793216 : UInt64) ∧ (∀ g, b_E f x g = g) ∧ (∀ g, b_L f x g = g) := by
  have e1 : ¬ s_cE x = 0 := by rw [cE_5 h]; decide
  have e2 : ¬ s_cL x = 0 := by rw [cL_5 h]; decide
  have e3 : ¬ s_cR x = 0 := by rw [cR_5 h]; decide
  have e4 : ¬ s_cX x = 0 := by rw [cX_5 h]; decide
  refine ⟨?_, fun g => ?_, fun g => ?_⟩
  · unfold b_a
    rw [if_neg e1, if_neg e2, if_neg e3, if_neg e4]
    split
    · rfl
    · split
      · rfl
      · split
        · rfl
        · split <;> rfl
  · unfold b_E g_E
    rw [if_neg e1]
    split <;> rfl
  · unfold b_L g_L
    rw [if_neg e2]
    split <;> rfl
abbrev rm_t_bound : Room := { frames := 2, cells := 0, slots := 0, locals := 53 }
set_option maxHeartbeats 4000000 in
set_option maxRecDepth 100000 in
theorem t_bound (l : Launch) (D : va_G) (dA : ClassId) (h1 : Nat) (sd : Int64) (cd fd ge gl gx : Int32) (f : Int32) (x : UInt64) (hv : XV x) : CMd l D dA yX7_bound cX7_bound 10 rm_t_bound [.ref h1, .int f, .double x] (tw h1 sd cd fd ge gl gx) (fun u : Int32 × Int32 × Int32 × Int32 × Int32 => tw h1 sd u.1 u.2.1 u.2.2.1 u.2.2.2.1 u.2.2.2.2) (fun r u => r = b_a f x ∧ u.1 = cd ∧ u.2.2.1 = b_E f x ge ∧ u.2.2.2.1 = b_L f x gl ∧ u.2.2.2.2 = gx) := by
  refine st_d (by decide) (Nat.le_of_ble_eq_true rfl) ?_
  intro p e s m below meth c A Q H locs ls hCF hK hN hA hP hD hS hl hend
  obtain ⟨hx, hb, hml, hown, hts⟩ := hCF
  have hown : s.vm.findClass RX7 = some m.cls := hown
  have hl : lv_has ls 10 [(0, .ref h1), (1, .int f), (2, .double x)] := hl
  refine lv_iload_n hx hb dX7_bound_0 rfl (lv_at hl 1 rfl) ?_
  refine lv_if_lt (tgt := 16) hx hb dX7_bound_1 (by decide) (fun c_1 => ?_) (fun c_1 => ?_)
  · refine lv_ldc2d hx hb hown (hts _ q401) dX7_bound_16 ?_
    have hb9 : b_a f x = (13830554455654793216 : UInt64) ∧ (∀ g, b_E f x g = g) ∧ (∀ g, b_L f x g = g) := by first | exact ba_no (f_lt c_1) | exact ba_no (f_gt c_6) | exact ba_nn c_13
    exact hend _ _ _ _ 19 _ (13830554455654793216 : UInt64) (cd, fd, ge, gl, gx) dX7_bound_19 (Nat.le_of_ble_eq_true rfl) (Nat.le_of_ble_eq_true rfl) hS (⟨hb9.1.symm, rfl, (hb9.2.1 ge).symm, (hb9.2.2 gl).symm, rfl⟩) hP hD
  · refine lv_iload_n hx hb dX7_bound_4 rfl (lv_at hl 1 rfl) ?_
    refine lv_iconst (v := 3) hx hb dX7_bound_5 (by decide) ?_
    refine lv_icmp_gt (tgt := 16) hx hb dX7_bound_6 (by decide) (fun c_6 => ?_) (fun c_6 => ?_)
    · refine lv_ldc2d hx hb hown (hts _ q401) dX7_bound_16 ?_
      have hb9 : b_a f x = (13830554455654793216 : UInt64) ∧ (∀ g, b_E f x g = g) ∧ (∀ g, b_L f x g = g) := by first | exact ba_no (f_lt c_1) | exact ba_no (f_gt c_6) | exact ba_nn c_13
      exact hend _ _ _ _ 19 _ (13830554455654793216 : UInt64) (cd, fd, ge, gl, gx) dX7_bound_19 (Nat.le_of_ble_eq_true rfl) (Nat.le_of_ble_eq_true rfl) hS (⟨hb9.1.symm, rfl, (hb9.2.1 ge).symm, (hb9.2.2 gl).symm, rfl⟩) hP hD
    · refine lv_dload_n hx hb dX7_bound_9 rfl (lv_at hl 2 rfl) ?_
      refine cl0_i (va_runS (As := [.double x]) (rest := []) ⟨hx, hb, hml, hown, hts⟩ (t_isNumber l D dA x H.size) (va_cwS 1 hts (lw_S q319 q320 q18 q321) rfl rfl rfl (by decide +kernel) ⟨Nat.le_of_ble_eq_true rfl, Nat.le_of_ble_eq_true rfl⟩) (pr_S hK hN p_nil (d_nil (A := A))) rfl rfl hl.1 rfl (lv_room (Nat.le_of_ble_eq_true rfl)) dX7_bound_10 ⟨Nat.le_of_ble_eq_true rfl, Nat.le_of_ble_eq_true rfl⟩) hS hP hA (fun r_10 u_10 H locs hpo_10 hP hS => ?_)
      refine W.widen (k := 0) (n := 0) (Nat.le_of_ble_eq_true rfl) (Nat.le_of_ble_eq_true rfl) ?_
      have e10 : r_10 = s_num x := hpo_10
      subst e10
      have hP : va_P D vwCl (tw h1 sd cd fd ge gl gx) H := hP
      refine lv_if_ne (tgt := 20) hx hb dX7_bound_13 (by decide) (fun c_13 => ?_) (fun c_13 => ?_)
      · refine lv_iload_n hx hb dX7_bound_20 rfl (lv_at hl 1 rfl) ?_
        refine lv_iconst (v := 3) hx hb dX7_bound_21 (by decide) ?_
        refine lv_icmp_ne (tgt := 29) hx hb dX7_bound_22 (by decide) (fun c_22 => ?_) (fun c_22 => ?_)
        · refine lv_dload_n hx hb dX7_bound_29 rfl (lv_at hl 2 rfl) ?_
          refine lv_dconst0 hx hb dX7_bound_30 ?_
          refine lv_dcmp hx hb dX7_bound_31 ?_
          have j41 : ∀ v : UInt64, v = s_size x → W p l e rm_t_bound s m ([.ref h1, .int f, .double x] : List Value).toArray below meth c H locs 0 0 Q (F0 m 41 ls [.double v]) := by
            intro v hv0
            subst hv0
            refine lv_dstore (lv' := [(4, .double (s_size x)), (0, .ref h1), (1, .int f), (2, .double x)]) hx hb dX7_bound_41 hl (by decide) rfl (fun ls hl => ?_)
            refine lv_iload_n hx hb dX7_bound_43 rfl (lv_at hl 2 rfl) ?_
            refine lv_if_ne (tgt := 55) hx hb dX7_bound_44 (by decide) (fun c_44 => ?_) (fun c_44 => ?_)
            · refine lv_iload_n hx hb dX7_bound_55 rfl (lv_at hl 2 rfl) ?_
              refine lv_iconst (v := 1) hx hb dX7_bound_56 (by decide) ?_
              refine lv_icmp_ne (tgt := 68) hx hb dX7_bound_57 (by decide) (fun c_57 => ?_) (fun c_57 => ?_)
              · refine lv_aload_n hx hb dX7_bound_68 rfl (lv_at hl 1 rfl) ?_
                refine lv_dload_n hx hb dX7_bound_69 rfl (lv_at hl 3 rfl) ?_
                refine cl_d (va_runV (As := [.double x]) (rest := []) ⟨hx, hb, hml, hown, hts⟩ (t_sqrt l D dA h1 sd cd fd ge gl gx x hv c_13 H.size) (cwV 1 hts (lw_V q364 q366 qs9 q18 q367) rfl rfl rfl (by decide +kernel) ⟨Nat.le_of_ble_eq_true rfl, Nat.le_of_ble_eq_true rfl⟩) (pr_V hK hN hP hD (va_recv hK hP (ci := 5) (q0 := 0) rfl rfl)) rfl rfl hl.1 rfl (lv_room (Nat.le_of_ble_eq_true rfl)) dX7_bound_70 ⟨Nat.le_of_ble_eq_true rfl, Nat.le_of_ble_eq_true rfl⟩) hS hD hA (fun r_70 u_70 H locs hpo_70 hP hD hS => ?_)
                refine W.widen (k := 0) (n := 0) (Nat.le_of_ble_eq_true rfl) (Nat.le_of_ble_eq_true rfl) ?_
                obtain ⟨e9, i1⟩ := hpo_70
                subst e9
                have hP : va_P D vwCl (tw h1 sd cd u_70 ge gl gx) H := hP
                have hD : va_D A (tw h1 sd cd u_70 ge gl gx) := hD
                have hq := cR_eq c_13
                have f2 : f = 2 := f_2 c_1 c_6 c_22 c_44 c_57
                refine lv_dstore (lv' := [(6, .double (t_r x)), (4, .double (s_size x)), (0, .ref h1), (1, .int f), (2, .double x)]) hx hb dX7_bound_73 hl (by decide) rfl (fun ls hl => ?_)
                refine lv_aload_n hx hb dX7_bound_75 rfl (lv_at hl 2 rfl) ?_
                refine va_get (D := D) (ci := 5) (v := .int u_70) (C := RX7) (T := TX7) (N := 6) hx hb hts in_X7 hown hK hP 0 rfl rfl 2 (by decide) (hts _ q298) (fun _ h9 => h9) rfl dX7_bound_76 ?_
                refine lv_if_eq (tgt := 86) hx hb dX7_bound_79 (by decide) (fun c_79 => ?_) (fun c_79 => ?_)
                · have hz : s_cR x = 0 := by rw [hq, ← i1]; exact c_79
                  have hz2 : r_c x = 0 := by rw [← hq]; exact hz
                  have et : t_r x = s_root x := by unfold t_r; rw [if_pos hz2]
                  rw [et] at hl
                  obtain ⟨k1, k2, k3, k4⟩ := cR_0 hv hz
                  have k5 := root_nn k1 k2 k4 k3
                  refine lv_dload hx hb dX7_bound_86 (lv_at hl 0 rfl) ?_
                  refine lv_dconst0 hx hb dX7_bound_88 ?_
                  refine lv_dcmp hx hb dX7_bound_89 ?_
                  refine lv_if_ge (tgt := 99) hx hb dX7_bound_90 (by decide) (fun c_90 => ?_) (fun c_90 => ?_)
                  · refine lv_dload hx hb dX7_bound_99 (lv_at hl 0 rfl) ?_
                    refine lv_dstore (lv' := [(8, .double (s_root x)), (6, .double (s_root x)), (4, .double (s_size x)), (0, .ref h1), (1, .int f), (2, .double x)]) hx hb dX7_bound_101 hl (by decide) rfl (fun ls hl => ?_)
                    refine lv_iload_n hx hb dX7_bound_103 rfl (lv_at hl 4 rfl) ?_
                    refine lv_if_ne (tgt := 121) hx hb dX7_bound_104 (by decide) (fun c_104 => ?_) (fun c_104 => absurd c_104 c_44)
                    refine lv_iload_n hx hb dX7_bound_121 rfl (lv_at hl 4 rfl) ?_
                    refine lv_iconst (v := 1) hx hb dX7_bound_122 (by decide) ?_
                    refine lv_icmp_ne (tgt := 139) hx hb dX7_bound_123 (by decide) (fun c_123 => ?_) (fun c_123 => absurd c_123 c_57)
                    refine lv_ldc2d hx hb hown (hts _ q405) dX7_bound_139 ?_
                    refine lv_dload hx hb dX7_bound_142 (lv_at hl 1 rfl) ?_
                    refine lv_dmul hx hb dX7_bound_144 ((NN.mulz' sz_e15.1 z_e15 k5).n64) ?_
                    exact hend _ _ _ _ 145 _ (FP.dmul (4382569440205035030 : UInt64) (s_root x)) (cd, u_70, ge, gl, gx) dX7_bound_145 (Nat.le_of_ble_eq_true rfl) (Nat.le_of_ble_eq_true rfl) hS (⟨by unfold b_a; rw [if_neg c_44, if_neg c_57, if_pos f2, if_pos hz]; rfl, rfl, by unfold b_E; rw [if_neg c_44], by unfold b_L; rw [if_neg c_57], rfl⟩) hP hD
                  · refine lv_dload hx hb dX7_bound_93 (lv_at hl 0 rfl) ?_
                    refine lv_dneg hx hb dX7_bound_95 ?_
                    refine lv_goto (tgt := 101) hx hb dX7_bound_96 (by decide) ?_
                    refine lv_dstore (lv' := [(8, .double (FP.dneg (s_root x))), (6, .double (s_root x)), (4, .double (s_size x)), (0, .ref h1), (1, .int f), (2, .double x)]) hx hb dX7_bound_101 hl (by decide) rfl (fun ls hl => ?_)
                    refine lv_iload_n hx hb dX7_bound_103 rfl (lv_at hl 4 rfl) ?_
                    refine lv_if_ne (tgt := 121) hx hb dX7_bound_104 (by decide) (fun c_104 => ?_) (fun c_104 => absurd c_104 c_44)
                    refine lv_iload_n hx hb dX7_bound_121 rfl (lv_at hl 4 rfl) ?_
                    refine lv_iconst (v := 1) hx hb dX7_bound_122 (by decide) ?_
                    refine lv_icmp_ne (tgt := 139) hx hb dX7_bound_123 (by decide) (fun c_123 => ?_) (fun c_123 => absurd c_123 c_57)
                    refine lv_ldc2d hx hb hown (hts _ q405) dX7_bound_139 ?_
                    refine lv_dload hx hb dX7_bound_142 (lv_at hl 1 rfl) ?_
                    refine lv_dmul hx hb dX7_bound_144 ((NN.mulz' sz_e15.1 z_e15 k5).n64) ?_
                    exact hend _ _ _ _ 145 _ (FP.dmul (4382569440205035030 : UInt64) (s_root x)) (cd, u_70, ge, gl, gx) dX7_bound_145 (Nat.le_of_ble_eq_true rfl) (Nat.le_of_ble_eq_true rfl) hS (⟨by unfold b_a; rw [if_neg c_44, if_neg c_57, if_pos f2, if_pos hz]; rfl, rfl, by unfold b_E; rw [if_neg c_44], by unfold b_L; rw [if_neg c_57], rfl⟩) hP hD
                · refine lv_ldc2d hx hb hown (hts _ q401) dX7_bound_82 ?_
                  have hz : ¬ s_cR x = 0 := by rw [hq, ← i1]; exact c_79
                  exact hend _ _ _ _ 85 _ (13830554455654793216 : UInt64) (cd, u_70, ge, gl, gx) dX7_bound_85 (Nat.le_of_ble_eq_true rfl) (Nat.le_of_ble_eq_true rfl) hS (⟨by unfold b_a; rw [if_neg c_44, if_neg c_57, if_pos f2, if_neg hz], rfl, by unfold b_E; rw [if_neg c_44], by unfold b_L; rw [if_neg c_57], rfl⟩) hP hD
              · refine lv_aload_n hx hb dX7_bound_60 rfl (lv_at hl 1 rfl) ?_
                refine lv_dload_n hx hb dX7_bound_61 rfl (lv_at hl 3 rfl) ?_
                refine cl_d (va_runV (As := [.double x]) (rest := []) ⟨hx, hb, hml, hown, hts⟩ (t_log l D dA h1 sd cd fd ge gl gx x hv c_13 H.size) (cwV 1 hts (lw_V q346 q348 qs7 q18 q349) rfl rfl rfl (by decide +kernel) ⟨Nat.le_of_ble_eq_true rfl, Nat.le_of_ble_eq_true rfl⟩) (pr_V hK hN hP hD (va_recv hK hP (ci := 5) (q0 := 0) rfl rfl)) rfl rfl hl.1 rfl (lv_room (Nat.le_of_ble_eq_true rfl)) dX7_bound_62 ⟨Nat.le_of_ble_eq_true rfl, Nat.le_of_ble_eq_true rfl⟩) hS hD hA (fun r_62 u_62 H locs hpo_62 hP hD hS => ?_)
                refine W.widen (k := 0) (n := 0) (Nat.le_of_ble_eq_true rfl) (Nat.le_of_ble_eq_true rfl) ?_
                obtain ⟨e9, i1, i2⟩ := hpo_62
                subst e9
                have hP : va_P D vwCl (tw h1 sd cd u_62.1 ge u_62.2 gx) H := hP
                have hD : va_D A (tw h1 sd cd u_62.1 ge u_62.2 gx) := hD
                refine lv_goto (tgt := 73) hx hb dX7_bound_65 (by decide) ?_
                have hq := cL_eq c_13
                refine lv_dstore (lv' := [(6, .double (t_l x)), (4, .double (s_size x)), (0, .ref h1), (1, .int f), (2, .double x)]) hx hb dX7_bound_73 hl (by decide) rfl (fun ls hl => ?_)
                refine lv_aload_n hx hb dX7_bound_75 rfl (lv_at hl 2 rfl) ?_
                refine va_get (D := D) (ci := 5) (v := .int u_62.1) (C := RX7) (T := TX7) (N := 6) hx hb hts in_X7 hown hK hP 0 rfl rfl 2 (by decide) (hts _ q298) (fun _ h9 => h9) rfl dX7_bound_76 ?_
                refine lv_if_eq (tgt := 86) hx hb dX7_bound_79 (by decide) (fun c_79 => ?_) (fun c_79 => ?_)
                · have hz : s_cL x = 0 := by rw [hq, ← i1]; exact c_79
                  have hz2 : l_c x = 0 := by rw [← hq]; exact hz
                  have et : t_l x = s_log x := by unfold t_l; rw [if_pos hz2]
                  rw [et] at hl
                  obtain ⟨k1, k2, k3⟩ := cL_0 hv hz
                  obtain ⟨k4, k5⟩ := bL_facts (log_sz k1 k2 k3)
                  refine lv_dload hx hb dX7_bound_86 (lv_at hl 0 rfl) ?_
                  refine lv_dconst0 hx hb dX7_bound_88 ?_
                  refine lv_dcmp hx hb dX7_bound_89 ?_
                  refine lv_if_ge (tgt := 99) hx hb dX7_bound_90 (by decide) (fun c_90 => ?_) (fun c_90 => ?_)
                  · refine lv_dload hx hb dX7_bound_99 (lv_at hl 0 rfl) ?_
                    have es : s_size (s_log x) = (s_log x) := by unfold s_size; rw [if_pos c_90]
                    rw [← es]
                    refine lv_dstore (lv' := [(8, .double (s_size (s_log x))), (6, .double (s_log x)), (4, .double (s_size x)), (0, .ref h1), (1, .int f), (2, .double x)]) hx hb dX7_bound_101 hl (by decide) rfl (fun ls hl => ?_)
                    refine lv_iload_n hx hb dX7_bound_103 rfl (lv_at hl 4 rfl) ?_
                    refine lv_if_ne (tgt := 121) hx hb dX7_bound_104 (by decide) (fun c_104 => ?_) (fun c_104 => absurd c_104 c_44)
                    refine lv_iload_n hx hb dX7_bound_121 rfl (lv_at hl 4 rfl) ?_
                    refine lv_iconst (v := 1) hx hb dX7_bound_122 (by decide) ?_
                    refine lv_icmp_ne (tgt := 139) hx hb dX7_bound_123 (by decide) (fun c_123 => absurd c_57 c_123) (fun c_123 => ?_)
                    refine lv_ldc2d hx hb hown (hts _ q404) dX7_bound_126 ?_
                    refine lv_ldc2d hx hb hown (hts _ q405) dX7_bound_129 ?_
                    refine lv_dload hx hb dX7_bound_132 (lv_at hl 0 rfl) ?_
                    refine lv_dmul hx hb dX7_bound_134 k4.n64 ?_
                    refine lv_dadd hx hb dX7_bound_135 k5.n64 ?_
                    refine lv_goto (tgt := 145) hx hb dX7_bound_136 (by decide) ?_
                    exact hend _ _ _ _ 145 _ (FP.dadd (4397347889687374747 : UInt64) (FP.dmul (4382569440205035030 : UInt64) (s_size (s_log x)))) (cd, u_62.1, ge, u_62.2, gx) dX7_bound_145 (Nat.le_of_ble_eq_true rfl) (Nat.le_of_ble_eq_true rfl) hS (⟨by unfold b_a; rw [if_neg c_44, if_pos c_57, if_pos hz]; rfl, rfl, by unfold b_E; rw [if_neg c_44], by unfold b_L g_L; rw [if_pos c_57, if_pos hz, i2]; unfold l_f; rw [if_pos hz2], rfl⟩) hP hD
                  · refine lv_dload hx hb dX7_bound_93 (lv_at hl 0 rfl) ?_
                    refine lv_dneg hx hb dX7_bound_95 ?_
                    refine lv_goto (tgt := 101) hx hb dX7_bound_96 (by decide) ?_
                    have es : s_size (s_log x) = (FP.dneg (s_log x)) := by unfold s_size; rw [if_neg c_90]
                    rw [← es]
                    refine lv_dstore (lv' := [(8, .double (s_size (s_log x))), (6, .double (s_log x)), (4, .double (s_size x)), (0, .ref h1), (1, .int f), (2, .double x)]) hx hb dX7_bound_101 hl (by decide) rfl (fun ls hl => ?_)
                    refine lv_iload_n hx hb dX7_bound_103 rfl (lv_at hl 4 rfl) ?_
                    refine lv_if_ne (tgt := 121) hx hb dX7_bound_104 (by decide) (fun c_104 => ?_) (fun c_104 => absurd c_104 c_44)
                    refine lv_iload_n hx hb dX7_bound_121 rfl (lv_at hl 4 rfl) ?_
                    refine lv_iconst (v := 1) hx hb dX7_bound_122 (by decide) ?_
                    refine lv_icmp_ne (tgt := 139) hx hb dX7_bound_123 (by decide) (fun c_123 => absurd c_57 c_123) (fun c_123 => ?_)
                    refine lv_ldc2d hx hb hown (hts _ q404) dX7_bound_126 ?_
                    refine lv_ldc2d hx hb hown (hts _ q405) dX7_bound_129 ?_
                    refine lv_dload hx hb dX7_bound_132 (lv_at hl 0 rfl) ?_
                    refine lv_dmul hx hb dX7_bound_134 k4.n64 ?_
                    refine lv_dadd hx hb dX7_bound_135 k5.n64 ?_
                    refine lv_goto (tgt := 145) hx hb dX7_bound_136 (by decide) ?_
                    exact hend _ _ _ _ 145 _ (FP.dadd (4397347889687374747 : UInt64) (FP.dmul (4382569440205035030 : UInt64) (s_size (s_log x)))) (cd, u_62.1, ge, u_62.2, gx) dX7_bound_145 (Nat.le_of_ble_eq_true rfl) (Nat.le_of_ble_eq_true rfl) hS (⟨by unfold b_a; rw [if_neg c_44, if_pos c_57, if_pos hz]; rfl, rfl, by unfold b_E; rw [if_neg c_44], by unfold b_L g_L; rw [if_pos c_57, if_pos hz, i2]; unfold l_f; rw [if_pos hz2], rfl⟩) hP hD
                · refine lv_ldc2d hx hb hown (hts _ q401) dX7_bound_82 ?_
                  have hz : ¬ s_cL x = 0 := by rw [hq, ← i1]; exact c_79
                  exact hend _ _ _ _ 85 _ (13830554455654793216 : UInt64) (cd, u_62.1, ge, u_62.2, gx) dX7_bound_85 (Nat.le_of_ble_eq_true rfl) (Nat.le_of_ble_eq_true rfl) hS (⟨by unfold b_a; rw [if_neg c_44, if_pos c_57, if_neg hz], rfl, by unfold b_E; rw [if_neg c_44], by unfold b_L g_L; rw [if_pos c_57, if_neg hz, i2]; unfold l_f; rw [if_neg (by rw [← hq]; exact hz)], rfl⟩) hP hD
            · refine lv_aload_n hx hb dX7_bound_47 rfl (lv_at hl 1 rfl) ?_
              refine lv_dload_n hx hb dX7_bound_48 rfl (lv_at hl 3 rfl) ?_
              refine cl_d (va_runV (As := [.double x]) (rest := []) ⟨hx, hb, hml, hown, hts⟩ (t_exp l D dA h1 sd cd fd ge gl gx x (num_facts c_13).1.nn H.size) (cwV 1 hts (lw_V q324 q326 qs4 q18 q327) rfl rfl rfl (by decide +kernel) ⟨Nat.le_of_ble_eq_true rfl, Nat.le_of_ble_eq_true rfl⟩) (pr_V hK hN hP hD (va_recv hK hP (ci := 5) (q0 := 0) rfl rfl)) rfl rfl hl.1 rfl (lv_room (Nat.le_of_ble_eq_true rfl)) dX7_bound_49 ⟨Nat.le_of_ble_eq_true rfl, Nat.le_of_ble_eq_true rfl⟩) hS hD hA (fun r_49 u_49 H locs hpo_49 hP hD hS => ?_)
              refine W.widen (k := 0) (n := 0) (Nat.le_of_ble_eq_true rfl) (Nat.le_of_ble_eq_true rfl) ?_
              obtain ⟨e9, i1, i2⟩ := hpo_49
              subst e9
              have hP : va_P D vwCl (tw h1 sd cd u_49.1 u_49.2 gl gx) H := hP
              have hD : va_D A (tw h1 sd cd u_49.1 u_49.2 gl gx) := hD
              refine lv_goto (tgt := 73) hx hb dX7_bound_52 (by decide) ?_
              have hq := cE_eq c_13
              refine lv_dstore (lv' := [(6, .double (t_e x)), (4, .double (s_size x)), (0, .ref h1), (1, .int f), (2, .double x)]) hx hb dX7_bound_73 hl (by decide) rfl (fun ls hl => ?_)
              refine lv_aload_n hx hb dX7_bound_75 rfl (lv_at hl 2 rfl) ?_
              refine va_get (D := D) (ci := 5) (v := .int u_49.1) (C := RX7) (T := TX7) (N := 6) hx hb hts in_X7 hown hK hP 0 rfl rfl 2 (by decide) (hts _ q298) (fun _ h9 => h9) rfl dX7_bound_76 ?_
              refine lv_if_eq (tgt := 86) hx hb dX7_bound_79 (by decide) (fun c_79 => ?_) (fun c_79 => ?_)
              · have hz : s_cE x = 0 := by rw [hq, ← i1]; exact c_79
                have hz2 : e_c x = 0 := by rw [← hq]; exact hz
                have et : t_e x = s_exp x := by unfold t_e; rw [if_pos hz2]
                rw [et] at hl
                obtain ⟨k1, k2⟩ := bE_facts (num_facts c_13)
                have k3 := exp_fin (num_facts c_13).1.nn (cE_le hz)
                refine lv_dload hx hb dX7_bound_86 (lv_at hl 0 rfl) ?_
                refine lv_dconst0 hx hb dX7_bound_88 ?_
                refine lv_dcmp hx hb dX7_bound_89 ?_
                refine lv_if_ge (tgt := 99) hx hb dX7_bound_90 (by decide) (fun c_90 => ?_) (fun c_90 => ?_)
                · refine lv_dload hx hb dX7_bound_99 (lv_at hl 0 rfl) ?_
                  refine lv_dstore (lv' := [(8, .double (s_exp x)), (6, .double (s_exp x)), (4, .double (s_size x)), (0, .ref h1), (1, .int f), (2, .double x)]) hx hb dX7_bound_101 hl (by decide) rfl (fun ls hl => ?_)
                  refine lv_iload_n hx hb dX7_bound_103 rfl (lv_at hl 4 rfl) ?_
                  refine lv_if_ne (tgt := 121) hx hb dX7_bound_104 (by decide) (fun c_104 => absurd c_44 c_104) (fun c_104 => ?_)
                  refine lv_ldc2d hx hb hown (hts _ q403) dX7_bound_107 ?_
                  refine lv_dconst1 hx hb dX7_bound_110 ?_
                  refine lv_dload hx hb dX7_bound_111 (lv_at hl 2 rfl) ?_
                  refine lv_dadd hx hb dX7_bound_113 k1.n64 ?_
                  refine lv_dmul hx hb dX7_bound_114 k2.n64 ?_
                  refine lv_dload hx hb dX7_bound_115 (lv_at hl 1 rfl) ?_
                  refine lv_dmul hx hb dX7_bound_117 ((NN.mul k2 k3).n64) ?_
                  refine lv_goto (tgt := 145) hx hb dX7_bound_118 (by decide) ?_
                  exact hend _ _ _ _ 145 _ (FP.dmul (FP.dmul (4412443251819771522 : UInt64) (FP.dadd FP.dconst1 (s_size x))) (s_exp x)) (cd, u_49.1, u_49.2, gl, gx) dX7_bound_145 (Nat.le_of_ble_eq_true rfl) (Nat.le_of_ble_eq_true rfl) hS (⟨by unfold b_a; rw [if_pos c_44, if_pos hz]; rfl, rfl, by unfold b_E g_E; rw [if_pos c_44, if_pos hz, i2]; unfold r_f; rw [if_pos hz2], by unfold b_L; rw [if_neg (by rw [c_44]; decide)], rfl⟩) hP hD
                · refine lv_dload hx hb dX7_bound_93 (lv_at hl 0 rfl) ?_
                  refine lv_dneg hx hb dX7_bound_95 ?_
                  refine lv_goto (tgt := 101) hx hb dX7_bound_96 (by decide) ?_
                  refine lv_dstore (lv' := [(8, .double (FP.dneg (s_exp x))), (6, .double (s_exp x)), (4, .double (s_size x)), (0, .ref h1), (1, .int f), (2, .double x)]) hx hb dX7_bound_101 hl (by decide) rfl (fun ls hl => ?_)
                  refine lv_iload_n hx hb dX7_bound_103 rfl (lv_at hl 4 rfl) ?_
                  refine lv_if_ne (tgt := 121) hx hb dX7_bound_104 (by decide) (fun c_104 => absurd c_44 c_104) (fun c_104 => ?_)
                  refine lv_ldc2d hx hb hown (hts _ q403) dX7_bound_107 ?_
                  refine lv_dconst1 hx hb dX7_bound_110 ?_
                  refine lv_dload hx hb dX7_bound_111 (lv_at hl 2 rfl) ?_
                  refine lv_dadd hx hb dX7_bound_113 k1.n64 ?_
                  refine lv_dmul hx hb dX7_bound_114 k2.n64 ?_
                  refine lv_dload hx hb dX7_bound_115 (lv_at hl 1 rfl) ?_
                  refine lv_dmul hx hb dX7_bound_117 ((NN.mul k2 k3).n64) ?_
                  refine lv_goto (tgt := 145) hx hb dX7_bound_118 (by decide) ?_
                  exact hend _ _ _ _ 145 _ (FP.dmul (FP.dmul (4412443251819771522 : UInt64) (FP.dadd FP.dconst1 (s_size x))) (s_exp x)) (cd, u_49.1, u_49.2, gl, gx) dX7_bound_145 (Nat.le_of_ble_eq_true rfl) (Nat.le_of_ble_eq_true rfl) hS (⟨by unfold b_a; rw [if_pos c_44, if_pos hz]; rfl, rfl, by unfold b_E g_E; rw [if_pos c_44, if_pos hz, i2]; unfold r_f; rw [if_pos hz2], by unfold b_L; rw [if_neg (by rw [c_44]; decide)], rfl⟩) hP hD
              · refine lv_ldc2d hx hb hown (hts _ q401) dX7_bound_82 ?_
                have hz : ¬ s_cE x = 0 := by rw [hq, ← i1]; exact c_79
                exact hend _ _ _ _ 85 _ (13830554455654793216 : UInt64) (cd, u_49.1, u_49.2, gl, gx) dX7_bound_85 (Nat.le_of_ble_eq_true rfl) (Nat.le_of_ble_eq_true rfl) hS (⟨by unfold b_a; rw [if_pos c_44, if_neg hz], rfl, by unfold b_E g_E; rw [if_pos c_44, if_neg hz, i2]; unfold r_f; rw [if_neg (by rw [← hq]; exact hz)], by unfold b_L; rw [if_neg (by rw [c_44]; decide)], rfl⟩) hP hD
          refine lv_if_ge (tgt := 40) hx hb dX7_bound_32 (by decide) (fun c_32 => ?_) (fun c_32 => ?_)
          · refine lv_dload_n hx hb dX7_bound_40 rfl (lv_at hl 2 rfl) ?_
            exact j41 x (by unfold s_size; rw [if_pos c_32])
          · refine lv_dload_n hx hb dX7_bound_35 rfl (lv_at hl 2 rfl) ?_
            refine lv_dneg hx hb dX7_bound_36 ?_
            refine lv_goto (tgt := 41) hx hb dX7_bound_37 (by decide) ?_
            exact j41 (FP.dneg x) (by unfold s_size; rw [if_neg c_32])
        · refine lv_ldc2d hx hb hown (hts _ q402) dX7_bound_25 ?_
          exact hend _ _ _ _ 28 _ (4427486594234968593 : UInt64) (cd, fd, ge, gl, gx) dX7_bound_28 (Nat.le_of_ble_eq_true rfl) (Nat.le_of_ble_eq_true rfl) hS (⟨by unfold b_a; rw [if_neg (by rw [c_22]; decide), if_neg (by rw [c_22]; decide), if_neg (by rw [c_22]; decide), if_pos c_22, if_pos (cX_eq c_13)], rfl, by unfold b_E; rw [if_neg (by rw [c_22]; decide)], by unfold b_L; rw [if_neg (by rw [c_22]; decide)], rfl⟩) hP hD
      · refine lv_ldc2d hx hb hown (hts _ q401) dX7_bound_16 ?_
        have hb9 : b_a f x = (13830554455654793216 : UInt64) ∧ (∀ g, b_E f x g = g) ∧ (∀ g, b_L f x g = g) := by first | exact ba_no (f_lt c_1) | exact ba_no (f_gt c_6) | exact ba_nn c_13
        exact hend _ _ _ _ 19 _ (13830554455654793216 : UInt64) (cd, fd, ge, gl, gx) dX7_bound_19 (Nat.le_of_ble_eq_true rfl) (Nat.le_of_ble_eq_true rfl) hS (⟨hb9.1.symm, rfl, (hb9.2.1 ge).symm, (hb9.2.2 gl).symm, rfl⟩) hP hD
end
section
set_option maxRecDepth 100000
/-! THE CLAIM OUT OF ONE WALK OF THE LAW'S BODY. Your part is whole_start (and what it stands on); all else here is the same for every law, but numbers. -/
def R_law : String := "BrewFunctionsLaw"
def lw_P (b : Addr) (xs : List Int32) (args : Array Value) (s : State) : Prop := args = #[.ref b] ∧ s.IntsAt b xs ∧ xs.length ≤ 321 ∧ (Jvm.Cond.and given_1 narrow_1).before args s = true
def lw_Q (_ : Array Value) (s : State) (o : Outcome) (t : State) : Prop := o = .returned (some (.int 1)) ∧ Framed s o t [] 600000 7302250
def lw_Z (below : List Frame) (a : Array Value) (s : State) : State → Prop := fun t => ∃ o, t.status = .running ∧ Ended t below o ∧ lw_Q a s o t
/-- the law's own end, with 1 on the stack, nothing written that was there before, its room as the claim has it -/
theorem lw_ret {p : Program} {l : Launch} {e : Env} {s : State} {m : MethodId} {below : List Frame} {meth : Method} {c : Code} {b : Nat} (hx : p.tables.exec = Jvm.exec) (hb : c.code = code) (hr : meth.sig.returnType = ret) (hlocks : meth.locks = false) {pc : Nat} {H : Heap} {ls : Array Slot} (hdg : decode code pc = .ok (.ireturn, 1)) : W p l e room_1 s m #[Value.ref b] below meth c H [] 600000 7302250 (lw_Z below #[Value.ref b] s) (F0 m pc ls [.int 1]) := by
  intro T hT X
  obtain ⟨fs, hret, hrun, hended, hW, hframe⟩ := X.leave (v := some (.int 1)) (hlocks := hlocks) (fun h => by rw [hr] at h; cases h)
  have hmeth' : T.vm.method? m = some meth := X.method'
  refine ⟨T.setFrames fs, ?_, .returned (some (.int 1)), hrun, hended, rfl, ⟨_, rfl⟩, hW, hframe⟩
  jvm_step X.here [X.here.top, hx, hb, hdg, hmeth', hr, ret, narrow_b1]
  (try refine ⟨rfl, ?_⟩); (try refine ⟨rfl, ?_⟩)
  first | (intro acts; rw [hret _ acts rfl rfl rfl]) | rw [hret _ _ rfl rfl rfl]
  exact Steps.refl _
/-- what holds at the law's entry: the machine, the code, the tables' words (any of lw_tbl by 'hts w (by decide +kernel)'), the script of L ints xs at the cell b, what the Statement gives of the start (any of its parts by flat_of_before) -/
def lw_At (p : Program) (s : State) (m : MethodId) (meth : Method) (c : Code) (b L : Nat) (xs : Nat → Int32) : Prop :=
  p.tables.exec = Jvm.exec ∧ c.code = code ∧ meth.sig.returnType = ret ∧ c.maxLocals = 8 ∧ s.vm.findClass R_law = some m.cls ∧ (∀ w ∈ lw_tbl, w.before #[Value.ref b] s = true) ∧ va_X b L xs s s.heap ∧ b < s.heap.size ∧ meth.locks = false ∧ (Jvm.Cond.and given_1 narrow_1).before #[Value.ref b] s = true
end
section
/-! what the law's checks rest on -/
theorem cmp0 {v : UInt64} (h : NN v) : Op.cmpValue (FP.dcmp v v) CmpOp.l = 0 := by
  rw [self_cmp h]
  rfl
theorem aE_nn (x : UInt64) : NN (a_E x) := by
  unfold a_E
  by_cases h : s_cE x = 0
  · rw [if_pos h]
    exact (exp_fin (num_facts (cE_n h)).1.nn (cE_le h)).nn
  · rw [if_neg h]
    exact df_0.nn
theorem aL_nn {x : UInt64} (hv : XV x) : NN (a_L x) := by
  unfold a_L
  by_cases h : s_cL x = 0
  · rw [if_pos h]
    exact (log_sz (cL_0 hv h).1 (cL_0 hv h).2.1 (cL_0 hv h).2.2).1.nn
  · rw [if_neg h]
    exact df_0.nn
theorem aR_nn {x : UInt64} (hv : XV x) : NN (a_R x) := by
  unfold a_R
  by_cases h : s_cR x = 0
  · rw [if_pos h]
    exact root_nn (cR_0 hv h).1 (cR_0 hv h).2.1 (cR_0 hv h).2.2.2 (cR_0 hv h).2.2.1
  · rw [if_neg h]
    exact df_0.nn
theorem aX_nn (x : UInt64) : NN (a_X x) := by
  unfold a_X
  by_cases h : s_cX x = 0
  · rw [if_pos h]
    exact err_nn (num_facts (cX_n h)).1
  · rw [if_neg h]
    exact df_0.nn
theorem p_n {x y : UInt64} (h : p_c x y = 0) : s_num x ≠ 0 ∧ s_num y ≠ 0 ∧ 0 ≤ Op.cmpValue (FP.dcmp x FP.dconst0) CmpOp.g := by
  unfold p_c at h
  by_cases h1 : s_num x = 0
  · rw [if_pos h1] at h
    exact absurd h (by decide)
  · rw [if_neg h1] at h
    by_cases h2 : s_num y = 0
    · rw [if_pos h2] at h
      exact absurd h (by decide)
    · rw [if_neg h2] at h
      by_cases h3 : 0 ≤ Op.cmpValue (FP.dcmp x FP.dconst0) CmpOp.g
      · exact ⟨h1, h2, h3⟩
      · rw [if_neg h3] at h
        exact absurd h (by decide)
theorem pv_df {x y : UInt64} (hvx : XV x) (h : p_c x y = 0) (hx : ¬ Op.cmpValue (FP.dcmp x FP.dconst0) CmpOp.l = 0) : DF (p_v x y) := by
  obtain ⟨h1, h2, h3⟩ := p_n h
  obtain ⟨g1, g2, g3⟩ := pos_facts hvx h1 h3 hx
  exact (SZ.mul (sz_db (n := 100000000) (num_facts h2)) (log_sz g1 g2 g3) (by decide)).1
theorem pow_cmp {x y : UInt64} (hvx : XV x) : Op.cmpValue (FP.dcmp (p_a x y) (p_t x y)) CmpOp.l = 0 := by
  unfold p_a p_t
  by_cases h : p_c x y = 0
  · rw [if_pos h, if_pos h]
    by_cases h1 : Op.cmpValue (FP.dcmp x FP.dconst0) CmpOp.l = 0
    · rw [if_pos h1, if_pos h1]
      by_cases h2 : Op.cmpValue (FP.dcmp y FP.dconst0) CmpOp.l = 0
      · rw [if_pos h2]
        exact cmp0 df_1.nn
      · rw [if_neg h2]
        exact cmp0 df_0.nn
    · rw [if_neg h1, if_neg h1]
      unfold r_a
      by_cases h2 : e_c (p_v x y) = 0
      · rw [if_pos h2, if_pos h2, (one_cmp (exp_fin (pv_df hvx h h1).nn (e_c_le h2))).2]
        rfl
      · rw [if_neg h2, if_neg h2]
        exact cmp0 df_0.nn
  · rw [if_neg h, if_neg h]
    exact cmp0 df_0.nn
theorem w_n {r en ke : UInt64} (h : w_c r en ke = 0) : s_num r ≠ 0 ∧ s_num en ≠ 0 ∧ s_num ke ≠ 0 ∧ 0 < Op.cmpValue (FP.dcmp ke FP.dconst0) CmpOp.g := by
  unfold w_c at h
  by_cases h1 : s_num r = 0
  · rw [if_pos h1] at h
    exact absurd h (by decide)
  · rw [if_neg h1] at h
    by_cases h2 : s_num en = 0
    · rw [if_pos h2] at h
      exact absurd h (by decide)
    · rw [if_neg h2] at h
      by_cases h3 : s_num ke = 0
      · rw [if_pos h3] at h
        exact absurd h (by decide)
      · rw [if_neg h3] at h
        by_cases h4 : 0 < Op.cmpValue (FP.dcmp ke FP.dconst0) CmpOp.g
        · exact ⟨h1, h2, h3, h4⟩
        · rw [if_neg h4] at h
          exact absurd h (by decide)
theorem wa_nn (r en ke : UInt64) : NN (w_a r en ke) := by
  unfold w_a
  by_cases h : w_c r en ke = 0
  · rw [if_pos h]
    obtain ⟨h1, h2, h3, h4⟩ := w_n h
    rw [cvg_gt_zv (num_facts h3).1.nn df_0.nn, zv_0] at h4
    obtain ⟨g1, g2⟩ := law_facts (num_facts h2) (num_facts h3) h4
    unfold r_a
    by_cases h5 : e_c (w_v en ke) = 0
    · rw [if_pos h5]
      exact NN.mul (num_facts h1).1 (exp_fin g2 (e_c_le h5))
    · rw [if_neg h5]
      exact df_0.nn
  · rw [if_neg h]
    exact df_0.nn
theorem na_nn (sd : Int64) (b : Int32) (t : Int64) (u : Int32) : NN (n_a sd b t u) := by
  unfold n_a
  by_cases h : n_c b t u = 0
  · rw [if_pos h]
    exact normal_nn sd b t u
  · rw [if_neg h]
    exact df_0.nn
theorem nn_m1 : NN (13830554455654793216 : UInt64) := nn_c _ (by decide +kernel)
theorem ba_nan {x : UInt64} (f : Int32) (hv : XV x) : NN (b_a f x) := by
  unfold b_a
  split
  · split
    · rename_i h
      exact NN.mul (bE_facts (num_facts (cE_n h))).2 (exp_fin (num_facts (cE_n h)).1.nn (cE_le h))
    · exact nn_m1
  · split
    · split
      · rename_i h
        exact (bL_facts (log_sz (cL_0 hv h).1 (cL_0 hv h).2.1 (cL_0 hv h).2.2)).2
      · exact nn_m1
    · split
      · split
        · rename_i h
          exact NN.mulz' sz_e15.1 z_e15 (root_nn (cR_0 hv h).1 (cR_0 hv h).2.1 (cR_0 hv h).2.2.2 (cR_0 hv h).2.2.1)
        · exact nn_m1
      · split
        · split
          · exact nn_c _ (by decide +kernel)
          · exact nn_m1
        · exact nn_m1
theorem lw_le {L i : Nat} (hL : L ≤ 321) (hi : i ≤ 400) (h : ¬ nI L - 5 < nI i) : i + 5 ≤ L := by
  rw [Int32.lt_iff_toInt_lt, show (5 : Int32) = nI 5 from rfl, pk_sub_toInt (by omega) (by omega), nI_toInt (by omega)] at h
  omega
theorem lw_lt {L i : Nat} (hL : L ≤ 321) (hi : i ≤ 400) (h : L < i + 5) : nI L - 5 < nI i := by
  rw [Int32.lt_iff_toInt_lt, show (5 : Int32) = nI 5 from rfl, pk_sub_toInt (by omega) (by omega), nI_toInt (by omega)]
  omega
/-- cell(s, 0): the script's first int, or 0 -/
def cl_0 (L : Nat) (xs : Nat → Int32) : Int32 := if 0 < L then xs 0 else 0
abbrev rm_cell : Room := { frames := 0, cells := 0, slots := 0, locals := 0 }
set_option maxHeartbeats 4000000 in
set_option maxRecDepth 100000 in
theorem c_cell (l : Launch) (b L : Nat) (xs : Nat → Int32) (hL : L ≤ 321) : Met l yX0_cell (ws_ yX0_cell cX0_cell 2 (some .int)) rm_cell (va_Pc [.ref b, .int 0] (fun U => va_X b L xs U U.heap ∧ b < U.heap.size)) (va_Qi (fun (r : Int32) (_ : Unit) => r = cl_0 L xs) (fun _ _ => True) (fun _ => False)) 0 0 (fun _ => False) := by
  refine Met.ofW (cc := cX0_cell) (maxL := 2) (ret := (some .int)) (by decide) rfl ?_
  intro p e s m args below meth c s₁ B hml hv
  obtain ⟨rfl, hX, hbl⟩ := hv
  have hx := B.exec
  have hb := B.bytes
  have hr := B.returns
  have hlocks := B.notSynchronized
  have hS : va_S (fun _ => False) s.heap s.heap [] := va_S.rf
  have hbA : ¬ (fun _ : Nat => False) b := fun h => h
  have hl := lv_entry ([.ref b, .int 0]) (n := 2) (Nat.le_of_ble_eq_true rfl)
  rw [lg_entry_eq]
  generalize (lg_sl ([.ref b, .int 0]) ++ List.replicate (2 - (lg_sl ([.ref b, .int 0])).length) Slot.unset).toArray = ls at hl ⊢
  have hl : lv_has ls 2 [(0, .ref b), (1, .int 0)] := hl
  refine lv_iload_n hx hb dX0_cell_0 rfl (lv_at hl 1 rfl) ?_
  refine lv_aload_n hx hb dX0_cell_1 rfl (lv_at hl 0 rfl) ?_
  refine va_slen hx hb hX hbl hbA hS dX0_cell_2 ?_
  rw [show Int32.ofNat L = nI L from rfl]
  refine lv_icmp_ge (tgt := 12) hx hb dX0_cell_3 (by decide) (fun c_3 => ?_) (fun c_3 => ?_)
  · refine lv_iconst (v := 0) hx hb dX0_cell_12 (by decide) ?_
    have h0 : ¬ 0 < L := fun q => absurd c_3 (nI_ge (a := 0) (b := L) q (by omega))
    exact W.iret (v := 0) hx hb hr (fun t ht hW => ⟨⟨0, (), rfl, by unfold cl_0; rw [if_neg h0], trivial⟩, hS.F ht⟩) hS.2.2 dX0_cell_13
  · have h0 : 0 < L := by
      rcases Nat.lt_or_ge 0 L with q | q
      · exact q
      · exact absurd (show nI L ≤ (0 : Int32) from nI_le (a := L) (b := 0) q (by decide)) c_3
    refine lv_aload_n hx hb dX0_cell_6 rfl (lv_at hl 0 rfl) ?_
    refine lv_iload_n hx hb dX0_cell_7 rfl (lv_at hl 1 rfl) ?_
    refine va_sld hx hb hX hbl hbA hS (vp_in_nI (n := 0) h0 (by omega)) dX0_cell_8 ?_
    refine lv_goto (tgt := 13) hx hb dX0_cell_9 (by decide) ?_
    exact W.iret (v := xs 0) hx hb hr (fun t ht hW => ⟨⟨xs 0, (), rfl, by unfold cl_0; rw [if_pos h0], trivial⟩, hS.F ht⟩) hS.2.2 dX0_cell_13
theorem X_blind {av : List Value} {b L : Nat} {xs : Nat → Int32} : FrameBlind (va_Pc av (fun U => va_X b L xs U U.heap ∧ b < U.heap.size)) := by
  intro a U g mk q
  obtain ⟨q0, q1, q2⟩ := q
  exact ⟨q0, va_X.moved (u := U) (U := U.calling g mk a) (Vm.Alike.refl U.vm) q1, q2⟩
end
section
set_option maxHeartbeats 8000000 in
set_option maxRecDepth 100000 in
/-- the law's loop: k rounds are done, i = 5 k + 1; component and twin hold the same code and flags -/
theorem law_loop {p : Program} {l : Launch} {e : Env} {s : State} {m : MethodId} {below : List Frame} {meth : Method} {c : Code} {b L : Nat} {xs : Nat → Int32} {D : va_G} {dA : ClassId} (hLL : L ≤ 321) (C0 : lw_At p s m meth c b L xs) (hK : va_K D vwCl [(dA, .double)] s) (hN : NW s) (h0 hE hL hR hX h1 : Nat) (sd : Int64) (A : Nat → Prop) (hAe : A = fun q : Nat => s.heap.size ≤ q) :
    ∀ (n k i : Nat) (cd : Int32) (uE uL uX : Option Nat) (fd : Int32) (H : Heap) (locs : List Loc) (ls : Array Slot), k + n = 65 → i = 5 * k + 1 → va_P D vwCl (tw h1 sd cd fd (fl uE) (fl uL) (fl uX) ++ cw dA h0 hE hL hR hX sd cd uE uL uX) H → va_D A (tw h1 sd cd fd (fl uE) (fl uL) (fl uX) ++ cw dA h0 hE hL hR hX sd cd uE uL uX) → va_S A s.heap H locs → lv_has ls 8 [(3, .int (nI i)), (2, .ref h1), (1, .ref h0), (0, .ref b)] → W p l e room_1 s m #[Value.ref b] below meth c H locs (6 + 120 * k) (17 + 14400 * k) (lw_Z below #[Value.ref b] s) (F0 m 30 ls []) := by
  obtain ⟨hx, hb, hr, hml, hown, hts0, hX0, hbl, hlocks, hgv⟩ := C0
  have hown : s.vm.findClass RX0 = some m.cls := hown
  have hts : ∀ w ∈ lw_all, w.before #[Value.ref b] s = true := fun w h => hts0 w (lw_all_tbl h)
  have hA : ∀ q : Nat, s.heap.size ≤ q → A q := fun q h => by rw [hAe]; exact h
  have hbA : ¬ A b := by rw [hAe]; exact Nat.not_le.mpr hbl
  intro n
  induction n with
  | zero =>
    intro k i cd uE uL uX fd H locs ls hn hi hP hD hS hl
    refine lv_iload_n hx hb dL_law_30 rfl (lv_at hl 0 rfl) ?_
    refine lv_aload_n hx hb dL_law_31 rfl (lv_at hl 3 rfl) ?_
    refine va_slen hx hb hX0 hbl hbA hS dL_law_32 ?_
    rw [show Int32.ofNat L = nI L from rfl]
    refine lv_iconst (v := 5) hx hb dL_law_33 (by decide) ?_
    refine lv_isub hx hb dL_law_34 ?_
    refine lv_icmp_gt (tgt := 730) hx hb dL_law_35 (by decide) (fun c_35 => ?_) (fun c_35 => absurd (lw_lt hLL (by omega) (by omega)) c_35)
    refine lv_iconst (v := 1) hx hb dL_law_730 (by decide) ?_
    refine va_forget (fun q hq => by have h9 := hS.2.2 q hq; rw [hAe] at h9; exact h9) ?_
    refine W.widen (k := 600000) (n := 7302250) (by omega) (by omega) ?_
    exact lw_ret hx hb hr hlocks dL_law_731
  | succ n ih =>
    intro k i cd uE uL uX fd H locs ls hn hi hP hD hS hl
    refine lv_iload_n hx hb dL_law_30 rfl (lv_at hl 0 rfl) ?_
    refine lv_aload_n hx hb dL_law_31 rfl (lv_at hl 3 rfl) ?_
    refine va_slen hx hb hX0 hbl hbA hS dL_law_32 ?_
    rw [show Int32.ofNat L = nI L from rfl]
    refine lv_iconst (v := 5) hx hb dL_law_33 (by decide) ?_
    refine lv_isub hx hb dL_law_34 ?_
    refine lv_icmp_gt (tgt := 730) hx hb dL_law_35 (by decide) (fun c_35 => ?_) (fun c_35 => ?_)
    · have hk65 : k ≤ 65 := by omega
      refine lv_iconst (v := 1) hx hb dL_law_730 (by decide) ?_
      refine va_forget (fun q hq => by have h9 := hS.2.2 q hq; rw [hAe] at h9; exact h9) ?_
      refine W.widen (k := 600000) (n := 7302250) (by omega) (by omega) ?_
      exact lw_ret hx hb hr hlocks dL_law_731
    have hi5 : i + 5 ≤ L := lw_le hLL (by omega) c_35
    have hk : k ≤ 63 := by omega
    have back : ∀ (cd : Int32) (uE uL uX : Option Nat) (fd : Int32) (H : Heap) (locs : List Loc) (ls : Array Slot), va_P D vwCl (tw h1 sd cd fd (fl uE) (fl uL) (fl uX) ++ cw dA h0 hE hL hR hX sd cd uE uL uX) H → va_D A (tw h1 sd cd fd (fl uE) (fl uL) (fl uX) ++ cw dA h0 hE hL hR hX sd cd uE uL uX) → va_S A s.heap H locs → lv_has ls 8 [(3, .int (nI i)), (2, .ref h1), (1, .ref h0), (0, .ref b)] → W p l e room_1 s m #[Value.ref b] below meth c H locs (6 + 120 * (k + 1)) (17 + 14400 * (k + 1)) (lw_Z below #[Value.ref b] s) (F0 m 724 ls []) := by
      intro cd uE uL uX fd H locs ls hP hD hS hl
      refine lv_iinc (v := nI (i + 5)) (lv' := [(3, .int (nI (i + 5))), (2, .ref h1), (1, .ref h0), (0, .ref b)]) hx hb dL_law_724 hl (k := 0) rfl (nI_add i 5) (by decide) rfl (fun ls hl => ?_)
      refine lv_goto (tgt := 30) hx hb dL_law_727 (by decide) ?_
      exact ih (k + 1) (i + 5) cd uE uL uX fd H locs ls (by omega) (by omega) hP hD hS (lv_sub hl [0, 1, 2, 3] rfl)
    refine lv_aload_n hx hb dL_law_38 rfl (lv_at hl 3 rfl) ?_
    refine lv_iload_n hx hb dL_law_39 rfl (lv_at hl 0 rfl) ?_
    refine va_sld hx hb hX0 hbl hbA hS (vp_in_nI (n := i) (by omega) (by omega)) dL_law_40 ?_
    rw [nI_clamp (show i < 2 ^ 31 by omega)]
    refine lv_bipush (v := 15) hx hb dL_law_41 (by decide) ?_
    refine lv_iand hx hb dL_law_43 ?_
    obtain ⟨j, hj, ej⟩ := pk_andE (xs i) (m := 15) 4 (by decide)
    rw [ej]
    have hj2 : j = 0 ∨ j = 1 ∨ j = 2 ∨ j = 3 ∨ j = 4 ∨ j = 5 ∨ j = 6 ∨ j = 7 ∨ j = 8 ∨ j = 9 ∨ 10 ≤ j := by omega
    rcases hj2 with rfl | rfl | rfl | rfl | rfl | rfl | rfl | rfl | rfl | rfl | hj2
    · refine lv_tableIn (off := 56) (tgt := 100) hx hb dL_law_44 (by decide) (by decide) (by decide) (by decide) ?_
      refine lv_aload_n hx hb dL_law_100 rfl (lv_at hl 2 rfl) ?_
      refine lv_aload_n hx hb dL_law_101 rfl (lv_at hl 3 rfl) ?_
      refine lv_iload_n hx hb dL_law_102 rfl (lv_at hl 0 rfl) ?_
      refine lv_iconst (v := 1) hx hb dL_law_103 (by decide) ?_
      refine lv_iadd hx hb dL_law_104 ?_
      rw [show nI i + 1 = nI (i + 1) from nI_add i 1]
      refine va_sld hx hb hX0 hbl hbA hS (vp_in_nI (n := i + 1) (by omega) (by omega)) dL_law_105 ?_
      rw [nI_clamp (show i + 1 < 2 ^ 31 by omega)]
      refine lv_i2d hx hb dL_law_106 ?_
      refine lv_ldc2d hx hb hown (hts _ q414) dL_law_107 ?_
      refine lv_dmul hx hb dL_law_110 ((XV.df ⟨_, rfl⟩).n64) ?_
      refine cla_d (wr := tw h1 sd cd fd (fl uE) (fl uL) (fl uX)) (wc := cw dA h0 hE hL hR hX sd cd uE uL uX) (va_runV (As := [.double (FP.dmul (FP.i2d (xs (i + 1))) (4593671619917905920 : UInt64))]) (rest := []) ⟨hx, hb, hml, hown, hts⟩ (c_exponential l D dA h0 hE hL hR hX sd cd uE uL uX (FP.dmul (FP.i2d (xs (i + 1))) (4593671619917905920 : UInt64))  H.size) (cwV 1 hts (lw_V q86 q87 q88 q12 q89) rfl rfl rfl (by decide +kernel) ⟨Nat.le_of_ble_eq_true rfl, Nat.le_of_ble_eq_true rfl⟩) (pr_V hK hN (p_right (w1 := tw h1 sd cd fd (fl uE) (fl uL) (fl uX)) hP) (d_right (w1 := tw h1 sd cd fd (fl uE) (fl uL) (fl uX)) hD) (va_recv hK hP (ci := 0) (q0 := 1) rfl rfl)) rfl rfl hl.1 rfl (lv_room (Nat.le_of_ble_eq_true rfl)) dL_law_111 ⟨by show 6 + 120 * k + 14 ≤ 600000; omega, by show 17 + 14400 * k + 210 ≤ 7302250; omega⟩) hS hP hD hA (fun r_111 u_111 H locs hpo_111 hP hD hS => ?_)
      refine W.widen (k := 6 + 120 * (k + 1)) (n := 17 + 14400 * (k + 1)) (by show 6 + 120 * k + 14 ≤ 6 + 120 * (k + 1); omega) (by show 17 + 14400 * k + 210 ≤ 17 + 14400 * (k + 1); omega) ?_
      obtain ⟨cd1, uE1, uL1, uX1⟩ := u_111
      obtain ⟨e9, i1, i2, i3, i4⟩ := hpo_111
      subst e9
      have hP : va_P D vwCl (tw h1 sd cd fd (fl uE) (fl uL) (fl uX) ++ cw dA h0 hE hL hR hX sd cd1 uE1 uL1 uX1) H := hP
      have hD : va_D A (tw h1 sd cd fd (fl uE) (fl uL) (fl uX) ++ cw dA h0 hE hL hR hX sd cd1 uE1 uL1 uX1) := hD
      refine lv_dstore (lv' := [(4, .double (a_E (FP.dmul (FP.i2d (xs (i + 1))) (4593671619917905920 : UInt64)))), (3, .int (nI i)), (2, .ref h1), (1, .ref h0), (0, .ref b)]) hx hb dL_law_114 hl (by decide) rfl (fun ls hl => ?_)
      refine lv_aload_n hx hb dL_law_116 rfl (lv_at hl 2 rfl) ?_
      refine lv_aload_n hx hb dL_law_117 rfl (lv_at hl 4 rfl) ?_
      refine lv_iload_n hx hb dL_law_118 rfl (lv_at hl 1 rfl) ?_
      refine lv_iconst (v := 1) hx hb dL_law_119 (by decide) ?_
      refine lv_iadd hx hb dL_law_120 ?_
      rw [show nI i + 1 = nI (i + 1) from nI_add i 1]
      refine va_sld hx hb hX0 hbl hbA hS (vp_in_nI (n := i + 1) (by omega) (by omega)) dL_law_121 ?_
      rw [nI_clamp (show i + 1 < 2 ^ 31 by omega)]
      refine lv_i2d hx hb dL_law_122 ?_
      refine lv_ldc2d hx hb hown (hts _ q414) dL_law_123 ?_
      refine lv_dmul hx hb dL_law_126 ((XV.df ⟨_, rfl⟩).n64) ?_
      refine cla_d (wr := cw dA h0 hE hL hR hX sd cd1 uE1 uL1 uX1) (wc := tw h1 sd cd fd (fl uE) (fl uL) (fl uX)) (va_runV (As := [.double (FP.dmul (FP.i2d (xs (i + 1))) (4593671619917905920 : UInt64))]) (rest := []) ⟨hx, hb, hml, hown, hts⟩ (t_exponential l D dA h1 sd cd fd (fl uE) (fl uL) (fl uX) (FP.dmul (FP.i2d (xs (i + 1))) (4593671619917905920 : UInt64))  H.size) (cwV 1 hts (lw_V q315 q316 q317 q18 q318) rfl rfl rfl (by decide +kernel) ⟨Nat.le_of_ble_eq_true rfl, Nat.le_of_ble_eq_true rfl⟩) (pr_V hK hN (p_left (w1 := tw h1 sd cd fd (fl uE) (fl uL) (fl uX)) hP) (d_left (w1 := tw h1 sd cd fd (fl uE) (fl uL) (fl uX)) hD) (va_recv hK hP (ci := 5) (q0 := 0) rfl rfl)) rfl rfl hl.1 rfl (lv_room (Nat.le_of_ble_eq_true rfl)) dL_law_127 ⟨by show 6 + 120 * (k + 1) + 0 ≤ 600000; omega, by show 17 + 14400 * (k + 1) + 0 ≤ 7302250; omega⟩) hS (p_swap hP) (d_swap hD) hA (fun r_127 u_127 H locs hpo_127 hP hD hS => ?_)
      refine W.widen (k := 6 + 120 * (k + 1)) (n := 17 + 14400 * (k + 1)) (by show 6 + 120 * (k + 1) + 0 ≤ 6 + 120 * (k + 1); omega) (by show 17 + 14400 * (k + 1) + 0 ≤ 17 + 14400 * (k + 1); omega) ?_
      have hP := p_swap hP
      have hD := d_swap hD
      obtain ⟨cd2, fd2, ge2, gl2, gx2⟩ := u_127
      obtain ⟨e9, k1, k2, k3, k4⟩ := hpo_127
      subst e9
      have z1 : cd2 = cd1 := k1.trans i1.symm
      have z2 : ge2 = fl uE1 := k2.trans i2.symm
      have z3 : gl2 = fl uL1 := k3.trans i3.symm
      have z4 : gx2 = fl uX1 := k4.trans i4.symm
      have hP : va_P D vwCl (tw h1 sd cd2 fd2 ge2 gl2 gx2 ++ cw dA h0 hE hL hR hX sd cd1 uE1 uL1 uX1) H := hP
      have hD : va_D A (tw h1 sd cd2 fd2 ge2 gl2 gx2 ++ cw dA h0 hE hL hR hX sd cd1 uE1 uL1 uX1) := hD
      rw [z1, z2, z3, z4] at hP hD
      have hP : va_P D vwCl (tw h1 sd cd1 fd2 (fl uE1) (fl uL1) (fl uX1) ++ cw dA h0 hE hL hR hX sd cd1 uE1 uL1 uX1) H := hP
      have hD : va_D A (tw h1 sd cd1 fd2 (fl uE1) (fl uL1) (fl uX1) ++ cw dA h0 hE hL hR hX sd cd1 uE1 uL1 uX1) := hD
      refine lv_dstore (lv' := [(6, .double (a_E (FP.dmul (FP.i2d (xs (i + 1))) (4593671619917905920 : UInt64)))), (4, .double (a_E (FP.dmul (FP.i2d (xs (i + 1))) (4593671619917905920 : UInt64)))), (3, .int (nI i)), (2, .ref h1), (1, .ref h0), (0, .ref b)]) hx hb dL_law_130 hl (by decide) rfl (fun ls hl => ?_)
      refine lv_dload hx hb dL_law_132 (lv_at hl 1 rfl) ?_
      refine lv_dload hx hb dL_law_134 (lv_at hl 0 rfl) ?_
      refine lv_dcmp hx hb dL_law_136 ?_
      refine lv_if_eq (tgt := 158) hx hb dL_law_137 (by decide) (fun c_137 => ?_) (fun c_137 => absurd (cmp0 (aE_nn _)) c_137)
      refine lv_goto (tgt := 724) hx hb dL_law_158 (by decide) ?_
      exact back cd1 uE1 uL1 uX1 fd2 H locs ls hP hD hS (lv_sub hl [2, 3, 4, 5] rfl)
    · refine lv_tableIn (off := 117) (tgt := 161) hx hb dL_law_44 (by decide) (by decide) (by decide) (by decide) ?_
      refine lv_aload_n hx hb dL_law_161 rfl (lv_at hl 2 rfl) ?_
      refine lv_aload_n hx hb dL_law_162 rfl (lv_at hl 3 rfl) ?_
      refine lv_iload_n hx hb dL_law_163 rfl (lv_at hl 0 rfl) ?_
      refine lv_iconst (v := 1) hx hb dL_law_164 (by decide) ?_
      refine lv_iadd hx hb dL_law_165 ?_
      rw [show nI i + 1 = nI (i + 1) from nI_add i 1]
      refine va_sld hx hb hX0 hbl hbA hS (vp_in_nI (n := i + 1) (by omega) (by omega)) dL_law_166 ?_
      rw [nI_clamp (show i + 1 < 2 ^ 31 by omega)]
      refine lv_i2d hx hb dL_law_167 ?_
      refine lv_ldc2d hx hb hown (hts _ q414) dL_law_168 ?_
      refine lv_dmul hx hb dL_law_171 ((XV.df ⟨_, rfl⟩).n64) ?_
      refine cla_d (wr := tw h1 sd cd fd (fl uE) (fl uL) (fl uX)) (wc := cw dA h0 hE hL hR hX sd cd uE uL uX) (va_runV (As := [.double (FP.dmul (FP.i2d (xs (i + 1))) (4593671619917905920 : UInt64))]) (rest := []) ⟨hx, hb, hml, hown, hts⟩ (c_logarithm l D dA h0 hE hL hR hX sd cd uE uL uX (FP.dmul (FP.i2d (xs (i + 1))) (4593671619917905920 : UInt64)) ⟨_, rfl⟩ H.size) (cwV 1 hts (lw_V q197 q198 q199 q12 q200) rfl rfl rfl (by decide +kernel) ⟨Nat.le_of_ble_eq_true rfl, Nat.le_of_ble_eq_true rfl⟩) (pr_V hK hN (p_right (w1 := tw h1 sd cd fd (fl uE) (fl uL) (fl uX)) hP) (d_right (w1 := tw h1 sd cd fd (fl uE) (fl uL) (fl uX)) hD) (va_recv hK hP (ci := 0) (q0 := 1) rfl rfl)) rfl rfl hl.1 rfl (lv_room (Nat.le_of_ble_eq_true rfl)) dL_law_172 ⟨by show 6 + 120 * k + 14 ≤ 600000; omega, by show 17 + 14400 * k + 196 ≤ 7302250; omega⟩) hS hP hD hA (fun r_172 u_172 H locs hpo_172 hP hD hS => ?_)
      refine W.widen (k := 6 + 120 * (k + 1)) (n := 17 + 14400 * (k + 1)) (by show 6 + 120 * k + 14 ≤ 6 + 120 * (k + 1); omega) (by show 17 + 14400 * k + 196 ≤ 17 + 14400 * (k + 1); omega) ?_
      obtain ⟨cd1, uE1, uL1, uX1⟩ := u_172
      obtain ⟨e9, i1, i2, i3, i4⟩ := hpo_172
      subst e9
      have hP : va_P D vwCl (tw h1 sd cd fd (fl uE) (fl uL) (fl uX) ++ cw dA h0 hE hL hR hX sd cd1 uE1 uL1 uX1) H := hP
      have hD : va_D A (tw h1 sd cd fd (fl uE) (fl uL) (fl uX) ++ cw dA h0 hE hL hR hX sd cd1 uE1 uL1 uX1) := hD
      refine lv_dstore (lv' := [(4, .double (a_L (FP.dmul (FP.i2d (xs (i + 1))) (4593671619917905920 : UInt64)))), (3, .int (nI i)), (2, .ref h1), (1, .ref h0), (0, .ref b)]) hx hb dL_law_175 hl (by decide) rfl (fun ls hl => ?_)
      refine lv_aload_n hx hb dL_law_177 rfl (lv_at hl 2 rfl) ?_
      refine lv_aload_n hx hb dL_law_178 rfl (lv_at hl 4 rfl) ?_
      refine lv_iload_n hx hb dL_law_179 rfl (lv_at hl 1 rfl) ?_
      refine lv_iconst (v := 1) hx hb dL_law_180 (by decide) ?_
      refine lv_iadd hx hb dL_law_181 ?_
      rw [show nI i + 1 = nI (i + 1) from nI_add i 1]
      refine va_sld hx hb hX0 hbl hbA hS (vp_in_nI (n := i + 1) (by omega) (by omega)) dL_law_182 ?_
      rw [nI_clamp (show i + 1 < 2 ^ 31 by omega)]
      refine lv_i2d hx hb dL_law_183 ?_
      refine lv_ldc2d hx hb hown (hts _ q414) dL_law_184 ?_
      refine lv_dmul hx hb dL_law_187 ((XV.df ⟨_, rfl⟩).n64) ?_
      refine cla_d (wr := cw dA h0 hE hL hR hX sd cd1 uE1 uL1 uX1) (wc := tw h1 sd cd fd (fl uE) (fl uL) (fl uX)) (va_runV (As := [.double (FP.dmul (FP.i2d (xs (i + 1))) (4593671619917905920 : UInt64))]) (rest := []) ⟨hx, hb, hml, hown, hts⟩ (t_logarithm l D dA h1 sd cd fd (fl uE) (fl uL) (fl uX) (FP.dmul (FP.i2d (xs (i + 1))) (4593671619917905920 : UInt64)) ⟨_, rfl⟩ H.size) (cwV 1 hts (lw_V q342 q343 q344 q18 q345) rfl rfl rfl (by decide +kernel) ⟨Nat.le_of_ble_eq_true rfl, Nat.le_of_ble_eq_true rfl⟩) (pr_V hK hN (p_left (w1 := tw h1 sd cd fd (fl uE) (fl uL) (fl uX)) hP) (d_left (w1 := tw h1 sd cd fd (fl uE) (fl uL) (fl uX)) hD) (va_recv hK hP (ci := 5) (q0 := 0) rfl rfl)) rfl rfl hl.1 rfl (lv_room (Nat.le_of_ble_eq_true rfl)) dL_law_188 ⟨by show 6 + 120 * (k + 1) + 0 ≤ 600000; omega, by show 17 + 14400 * (k + 1) + 0 ≤ 7302250; omega⟩) hS (p_swap hP) (d_swap hD) hA (fun r_188 u_188 H locs hpo_188 hP hD hS => ?_)
      refine W.widen (k := 6 + 120 * (k + 1)) (n := 17 + 14400 * (k + 1)) (by show 6 + 120 * (k + 1) + 0 ≤ 6 + 120 * (k + 1); omega) (by show 17 + 14400 * (k + 1) + 0 ≤ 17 + 14400 * (k + 1); omega) ?_
      have hP := p_swap hP
      have hD := d_swap hD
      obtain ⟨cd2, fd2, ge2, gl2, gx2⟩ := u_188
      obtain ⟨e9, k1, k2, k3, k4⟩ := hpo_188
      subst e9
      have z1 : cd2 = cd1 := k1.trans i1.symm
      have z2 : ge2 = fl uE1 := k2.trans i2.symm
      have z3 : gl2 = fl uL1 := k3.trans i3.symm
      have z4 : gx2 = fl uX1 := k4.trans i4.symm
      have hP : va_P D vwCl (tw h1 sd cd2 fd2 ge2 gl2 gx2 ++ cw dA h0 hE hL hR hX sd cd1 uE1 uL1 uX1) H := hP
      have hD : va_D A (tw h1 sd cd2 fd2 ge2 gl2 gx2 ++ cw dA h0 hE hL hR hX sd cd1 uE1 uL1 uX1) := hD
      rw [z1, z2, z3, z4] at hP hD
      have hP : va_P D vwCl (tw h1 sd cd1 fd2 (fl uE1) (fl uL1) (fl uX1) ++ cw dA h0 hE hL hR hX sd cd1 uE1 uL1 uX1) H := hP
      have hD : va_D A (tw h1 sd cd1 fd2 (fl uE1) (fl uL1) (fl uX1) ++ cw dA h0 hE hL hR hX sd cd1 uE1 uL1 uX1) := hD
      refine lv_dstore (lv' := [(6, .double (a_L (FP.dmul (FP.i2d (xs (i + 1))) (4593671619917905920 : UInt64)))), (4, .double (a_L (FP.dmul (FP.i2d (xs (i + 1))) (4593671619917905920 : UInt64)))), (3, .int (nI i)), (2, .ref h1), (1, .ref h0), (0, .ref b)]) hx hb dL_law_191 hl (by decide) rfl (fun ls hl => ?_)
      refine lv_dload hx hb dL_law_193 (lv_at hl 1 rfl) ?_
      refine lv_dload hx hb dL_law_195 (lv_at hl 0 rfl) ?_
      refine lv_dcmp hx hb dL_law_197 ?_
      refine lv_if_eq (tgt := 219) hx hb dL_law_198 (by decide) (fun c_198 => ?_) (fun c_198 => absurd (cmp0 (aL_nn ⟨_, rfl⟩)) c_198)
      refine lv_goto (tgt := 724) hx hb dL_law_219 (by decide) ?_
      exact back cd1 uE1 uL1 uX1 fd2 H locs ls hP hD hS (lv_sub hl [2, 3, 4, 5] rfl)
    · refine lv_tableIn (off := 178) (tgt := 222) hx hb dL_law_44 (by decide) (by decide) (by decide) (by decide) ?_
      refine lv_aload_n hx hb dL_law_222 rfl (lv_at hl 2 rfl) ?_
      refine lv_aload_n hx hb dL_law_223 rfl (lv_at hl 3 rfl) ?_
      refine lv_iload_n hx hb dL_law_224 rfl (lv_at hl 0 rfl) ?_
      refine lv_iconst (v := 1) hx hb dL_law_225 (by decide) ?_
      refine lv_iadd hx hb dL_law_226 ?_
      rw [show nI i + 1 = nI (i + 1) from nI_add i 1]
      refine va_sld hx hb hX0 hbl hbA hS (vp_in_nI (n := i + 1) (by omega) (by omega)) dL_law_227 ?_
      rw [nI_clamp (show i + 1 < 2 ^ 31 by omega)]
      refine lv_i2d hx hb dL_law_228 ?_
      refine lv_ldc2d hx hb hown (hts _ q414) dL_law_229 ?_
      refine lv_dmul hx hb dL_law_232 ((XV.df ⟨_, rfl⟩).n64) ?_
      refine lv_aload_n hx hb dL_law_233 rfl (lv_at hl 3 rfl) ?_
      refine lv_iload_n hx hb dL_law_234 rfl (lv_at hl 0 rfl) ?_
      refine lv_iconst (v := 2) hx hb dL_law_235 (by decide) ?_
      refine lv_iadd hx hb dL_law_236 ?_
      rw [show nI i + 2 = nI (i + 2) from nI_add i 2]
      refine va_sld hx hb hX0 hbl hbA hS (vp_in_nI (n := i + 2) (by omega) (by omega)) dL_law_237 ?_
      rw [nI_clamp (show i + 2 < 2 ^ 31 by omega)]
      refine lv_i2d hx hb dL_law_238 ?_
      refine lv_ldc2d hx hb hown (hts _ q414) dL_law_239 ?_
      refine lv_dmul hx hb dL_law_242 ((XV.df ⟨_, rfl⟩).n64) ?_
      refine cla_d (wr := tw h1 sd cd fd (fl uE) (fl uL) (fl uX)) (wc := cw dA h0 hE hL hR hX sd cd uE uL uX) (va_runV (As := [.double (FP.dmul (FP.i2d (xs (i + 1))) (4593671619917905920 : UInt64)), .double (FP.dmul (FP.i2d (xs (i + 2))) (4593671619917905920 : UInt64))]) (rest := []) ⟨hx, hb, hml, hown, hts⟩ (c_power l D dA h0 hE hL hR hX sd cd uE uL uX (FP.dmul (FP.i2d (xs (i + 1))) (4593671619917905920 : UInt64)) (FP.dmul (FP.i2d (xs (i + 2))) (4593671619917905920 : UInt64)) ⟨_, rfl⟩ ⟨_, rfl⟩ H.size) (cwV 2 hts (lw_V q201 q202 q203 q12 q204) rfl rfl rfl (by decide +kernel) ⟨Nat.le_of_ble_eq_true rfl, Nat.le_of_ble_eq_true rfl⟩) (pr_V hK hN (p_right (w1 := tw h1 sd cd fd (fl uE) (fl uL) (fl uX)) hP) (d_right (w1 := tw h1 sd cd fd (fl uE) (fl uL) (fl uX)) hD) (va_recv hK hP (ci := 0) (q0 := 1) rfl rfl)) rfl rfl hl.1 rfl (lv_room (Nat.le_of_ble_eq_true rfl)) dL_law_243 ⟨by show 6 + 120 * k + 28 ≤ 600000; omega, by show 17 + 14400 * k + 406 ≤ 7302250; omega⟩) hS hP hD hA (fun r_243 u_243 H locs hpo_243 hP hD hS => ?_)
      refine W.widen (k := 6 + 120 * (k + 1)) (n := 17 + 14400 * (k + 1)) (by show 6 + 120 * k + 28 ≤ 6 + 120 * (k + 1); omega) (by show 17 + 14400 * k + 406 ≤ 17 + 14400 * (k + 1); omega) ?_
      obtain ⟨cd1, uE1, uL1, uX1⟩ := u_243
      obtain ⟨e9, i1, i2, i3, i4⟩ := hpo_243
      subst e9
      have hP : va_P D vwCl (tw h1 sd cd fd (fl uE) (fl uL) (fl uX) ++ cw dA h0 hE hL hR hX sd cd1 uE1 uL1 uX1) H := hP
      have hD : va_D A (tw h1 sd cd fd (fl uE) (fl uL) (fl uX) ++ cw dA h0 hE hL hR hX sd cd1 uE1 uL1 uX1) := hD
      refine lv_dstore (lv' := [(4, .double (p_a (FP.dmul (FP.i2d (xs (i + 1))) (4593671619917905920 : UInt64)) (FP.dmul (FP.i2d (xs (i + 2))) (4593671619917905920 : UInt64)))), (3, .int (nI i)), (2, .ref h1), (1, .ref h0), (0, .ref b)]) hx hb dL_law_246 hl (by decide) rfl (fun ls hl => ?_)
      refine lv_aload_n hx hb dL_law_248 rfl (lv_at hl 2 rfl) ?_
      refine lv_aload_n hx hb dL_law_249 rfl (lv_at hl 4 rfl) ?_
      refine lv_iload_n hx hb dL_law_250 rfl (lv_at hl 1 rfl) ?_
      refine lv_iconst (v := 1) hx hb dL_law_251 (by decide) ?_
      refine lv_iadd hx hb dL_law_252 ?_
      rw [show nI i + 1 = nI (i + 1) from nI_add i 1]
      refine va_sld hx hb hX0 hbl hbA hS (vp_in_nI (n := i + 1) (by omega) (by omega)) dL_law_253 ?_
      rw [nI_clamp (show i + 1 < 2 ^ 31 by omega)]
      refine lv_i2d hx hb dL_law_254 ?_
      refine lv_ldc2d hx hb hown (hts _ q414) dL_law_255 ?_
      refine lv_dmul hx hb dL_law_258 ((XV.df ⟨_, rfl⟩).n64) ?_
      refine lv_aload_n hx hb dL_law_259 rfl (lv_at hl 4 rfl) ?_
      refine lv_iload_n hx hb dL_law_260 rfl (lv_at hl 1 rfl) ?_
      refine lv_iconst (v := 2) hx hb dL_law_261 (by decide) ?_
      refine lv_iadd hx hb dL_law_262 ?_
      rw [show nI i + 2 = nI (i + 2) from nI_add i 2]
      refine va_sld hx hb hX0 hbl hbA hS (vp_in_nI (n := i + 2) (by omega) (by omega)) dL_law_263 ?_
      rw [nI_clamp (show i + 2 < 2 ^ 31 by omega)]
      refine lv_i2d hx hb dL_law_264 ?_
      refine lv_ldc2d hx hb hown (hts _ q414) dL_law_265 ?_
      refine lv_dmul hx hb dL_law_268 ((XV.df ⟨_, rfl⟩).n64) ?_
      refine cla_d (wr := cw dA h0 hE hL hR hX sd cd1 uE1 uL1 uX1) (wc := tw h1 sd cd fd (fl uE) (fl uL) (fl uX)) (va_runV (As := [.double (FP.dmul (FP.i2d (xs (i + 1))) (4593671619917905920 : UInt64)), .double (FP.dmul (FP.i2d (xs (i + 2))) (4593671619917905920 : UInt64))]) (rest := []) ⟨hx, hb, hml, hown, hts⟩ (t_power l D dA h1 sd cd fd (fl uE) (fl uL) (fl uX) (FP.dmul (FP.i2d (xs (i + 1))) (4593671619917905920 : UInt64)) (FP.dmul (FP.i2d (xs (i + 2))) (4593671619917905920 : UInt64)) ⟨_, rfl⟩ H.size) (cwV 2 hts (lw_V q352 q353 q354 q18 q355) rfl rfl rfl (by decide +kernel) ⟨Nat.le_of_ble_eq_true rfl, Nat.le_of_ble_eq_true rfl⟩) (pr_V hK hN (p_left (w1 := tw h1 sd cd fd (fl uE) (fl uL) (fl uX)) hP) (d_left (w1 := tw h1 sd cd fd (fl uE) (fl uL) (fl uX)) hD) (va_recv hK hP (ci := 5) (q0 := 0) rfl rfl)) rfl rfl hl.1 rfl (lv_room (Nat.le_of_ble_eq_true rfl)) dL_law_269 ⟨by show 6 + 120 * (k + 1) + 0 ≤ 600000; omega, by show 17 + 14400 * (k + 1) + 0 ≤ 7302250; omega⟩) hS (p_swap hP) (d_swap hD) hA (fun r_269 u_269 H locs hpo_269 hP hD hS => ?_)
      refine W.widen (k := 6 + 120 * (k + 1)) (n := 17 + 14400 * (k + 1)) (by show 6 + 120 * (k + 1) + 0 ≤ 6 + 120 * (k + 1); omega) (by show 17 + 14400 * (k + 1) + 0 ≤ 17 + 14400 * (k + 1); omega) ?_
      have hP := p_swap hP
      have hD := d_swap hD
      obtain ⟨cd2, fd2, ge2, gl2, gx2⟩ := u_269
      obtain ⟨e9, k1, k2, k3, k4⟩ := hpo_269
      subst e9
      have z1 : cd2 = cd1 := k1.trans i1.symm
      have z2 : ge2 = fl uE1 := k2.trans i2.symm
      have z3 : gl2 = fl uL1 := k3.trans i3.symm
      have z4 : gx2 = fl uX1 := k4.trans i4.symm
      have hP : va_P D vwCl (tw h1 sd cd2 fd2 ge2 gl2 gx2 ++ cw dA h0 hE hL hR hX sd cd1 uE1 uL1 uX1) H := hP
      have hD : va_D A (tw h1 sd cd2 fd2 ge2 gl2 gx2 ++ cw dA h0 hE hL hR hX sd cd1 uE1 uL1 uX1) := hD
      rw [z1, z2, z3, z4] at hP hD
      have hP : va_P D vwCl (tw h1 sd cd1 fd2 (fl uE1) (fl uL1) (fl uX1) ++ cw dA h0 hE hL hR hX sd cd1 uE1 uL1 uX1) H := hP
      have hD : va_D A (tw h1 sd cd1 fd2 (fl uE1) (fl uL1) (fl uX1) ++ cw dA h0 hE hL hR hX sd cd1 uE1 uL1 uX1) := hD
      refine lv_dstore (lv' := [(6, .double (p_t (FP.dmul (FP.i2d (xs (i + 1))) (4593671619917905920 : UInt64)) (FP.dmul (FP.i2d (xs (i + 2))) (4593671619917905920 : UInt64)))), (4, .double (p_a (FP.dmul (FP.i2d (xs (i + 1))) (4593671619917905920 : UInt64)) (FP.dmul (FP.i2d (xs (i + 2))) (4593671619917905920 : UInt64)))), (3, .int (nI i)), (2, .ref h1), (1, .ref h0), (0, .ref b)]) hx hb dL_law_272 hl (by decide) rfl (fun ls hl => ?_)
      refine lv_dload hx hb dL_law_274 (lv_at hl 1 rfl) ?_
      refine lv_dload hx hb dL_law_276 (lv_at hl 0 rfl) ?_
      refine lv_dcmp hx hb dL_law_278 ?_
      refine lv_if_eq (tgt := 300) hx hb dL_law_279 (by decide) (fun c_279 => ?_) (fun c_279 => absurd (pow_cmp ⟨_, rfl⟩) c_279)
      refine lv_goto (tgt := 724) hx hb dL_law_300 (by decide) ?_
      exact back cd1 uE1 uL1 uX1 fd2 H locs ls hP hD hS (lv_sub hl [2, 3, 4, 5] rfl)
    · refine lv_tableIn (off := 259) (tgt := 303) hx hb dL_law_44 (by decide) (by decide) (by decide) (by decide) ?_
      refine lv_aload_n hx hb dL_law_303 rfl (lv_at hl 2 rfl) ?_
      refine lv_aload_n hx hb dL_law_304 rfl (lv_at hl 3 rfl) ?_
      refine lv_iload_n hx hb dL_law_305 rfl (lv_at hl 0 rfl) ?_
      refine lv_iconst (v := 1) hx hb dL_law_306 (by decide) ?_
      refine lv_iadd hx hb dL_law_307 ?_
      rw [show nI i + 1 = nI (i + 1) from nI_add i 1]
      refine va_sld hx hb hX0 hbl hbA hS (vp_in_nI (n := i + 1) (by omega) (by omega)) dL_law_308 ?_
      rw [nI_clamp (show i + 1 < 2 ^ 31 by omega)]
      refine lv_i2d hx hb dL_law_309 ?_
      refine lv_ldc2d hx hb hown (hts _ q414) dL_law_310 ?_
      refine lv_dmul hx hb dL_law_313 ((XV.df ⟨_, rfl⟩).n64) ?_
      refine cla_d (wr := tw h1 sd cd fd (fl uE) (fl uL) (fl uX)) (wc := cw dA h0 hE hL hR hX sd cd uE uL uX) (va_runV (As := [.double (FP.dmul (FP.i2d (xs (i + 1))) (4593671619917905920 : UInt64))]) (rest := []) ⟨hx, hb, hml, hown, hts⟩ (c_root l D dA h0 hE hL hR hX sd cd uE uL uX (FP.dmul (FP.i2d (xs (i + 1))) (4593671619917905920 : UInt64)) ⟨_, rfl⟩ H.size) (cwV 1 hts (lw_V q213 q214 q215 q12 q216) rfl rfl rfl (by decide +kernel) ⟨Nat.le_of_ble_eq_true rfl, Nat.le_of_ble_eq_true rfl⟩) (pr_V hK hN (p_right (w1 := tw h1 sd cd fd (fl uE) (fl uL) (fl uX)) hP) (d_right (w1 := tw h1 sd cd fd (fl uE) (fl uL) (fl uX)) hD) (va_recv hK hP (ci := 0) (q0 := 1) rfl rfl)) rfl rfl hl.1 rfl (lv_room (Nat.le_of_ble_eq_true rfl)) dL_law_314 ⟨by show 6 + 120 * k + 0 ≤ 600000; omega, by show 17 + 14400 * k + 0 ≤ 7302250; omega⟩) hS hP hD hA (fun r_314 u_314 H locs hpo_314 hP hD hS => ?_)
      refine W.widen (k := 6 + 120 * (k + 1)) (n := 17 + 14400 * (k + 1)) (by show 6 + 120 * k + 0 ≤ 6 + 120 * (k + 1); omega) (by show 17 + 14400 * k + 0 ≤ 17 + 14400 * (k + 1); omega) ?_
      obtain ⟨cd1, uE1, uL1, uX1⟩ := u_314
      obtain ⟨e9, i1, i2, i3, i4⟩ := hpo_314
      subst e9
      have hP : va_P D vwCl (tw h1 sd cd fd (fl uE) (fl uL) (fl uX) ++ cw dA h0 hE hL hR hX sd cd1 uE1 uL1 uX1) H := hP
      have hD : va_D A (tw h1 sd cd fd (fl uE) (fl uL) (fl uX) ++ cw dA h0 hE hL hR hX sd cd1 uE1 uL1 uX1) := hD
      refine lv_dstore (lv' := [(4, .double (a_R (FP.dmul (FP.i2d (xs (i + 1))) (4593671619917905920 : UInt64)))), (3, .int (nI i)), (2, .ref h1), (1, .ref h0), (0, .ref b)]) hx hb dL_law_317 hl (by decide) rfl (fun ls hl => ?_)
      refine lv_aload_n hx hb dL_law_319 rfl (lv_at hl 2 rfl) ?_
      refine lv_aload_n hx hb dL_law_320 rfl (lv_at hl 4 rfl) ?_
      refine lv_iload_n hx hb dL_law_321 rfl (lv_at hl 1 rfl) ?_
      refine lv_iconst (v := 1) hx hb dL_law_322 (by decide) ?_
      refine lv_iadd hx hb dL_law_323 ?_
      rw [show nI i + 1 = nI (i + 1) from nI_add i 1]
      refine va_sld hx hb hX0 hbl hbA hS (vp_in_nI (n := i + 1) (by omega) (by omega)) dL_law_324 ?_
      rw [nI_clamp (show i + 1 < 2 ^ 31 by omega)]
      refine lv_i2d hx hb dL_law_325 ?_
      refine lv_ldc2d hx hb hown (hts _ q414) dL_law_326 ?_
      refine lv_dmul hx hb dL_law_329 ((XV.df ⟨_, rfl⟩).n64) ?_
      refine cla_d (wr := cw dA h0 hE hL hR hX sd cd1 uE1 uL1 uX1) (wc := tw h1 sd cd fd (fl uE) (fl uL) (fl uX)) (va_runV (As := [.double (FP.dmul (FP.i2d (xs (i + 1))) (4593671619917905920 : UInt64))]) (rest := []) ⟨hx, hb, hml, hown, hts⟩ (t_root l D dA h1 sd cd fd (fl uE) (fl uL) (fl uX) (FP.dmul (FP.i2d (xs (i + 1))) (4593671619917905920 : UInt64)) ⟨_, rfl⟩ H.size) (cwV 1 hts (lw_V q360 q361 q362 q18 q363) rfl rfl rfl (by decide +kernel) ⟨Nat.le_of_ble_eq_true rfl, Nat.le_of_ble_eq_true rfl⟩) (pr_V hK hN (p_left (w1 := tw h1 sd cd fd (fl uE) (fl uL) (fl uX)) hP) (d_left (w1 := tw h1 sd cd fd (fl uE) (fl uL) (fl uX)) hD) (va_recv hK hP (ci := 5) (q0 := 0) rfl rfl)) rfl rfl hl.1 rfl (lv_room (Nat.le_of_ble_eq_true rfl)) dL_law_330 ⟨by show 6 + 120 * (k + 1) + 0 ≤ 600000; omega, by show 17 + 14400 * (k + 1) + 0 ≤ 7302250; omega⟩) hS (p_swap hP) (d_swap hD) hA (fun r_330 u_330 H locs hpo_330 hP hD hS => ?_)
      refine W.widen (k := 6 + 120 * (k + 1)) (n := 17 + 14400 * (k + 1)) (by show 6 + 120 * (k + 1) + 0 ≤ 6 + 120 * (k + 1); omega) (by show 17 + 14400 * (k + 1) + 0 ≤ 17 + 14400 * (k + 1); omega) ?_
      have hP := p_swap hP
      have hD := d_swap hD
      obtain ⟨cd2, fd2, ge2, gl2, gx2⟩ := u_330
      obtain ⟨e9, k1, k2, k3, k4⟩ := hpo_330
      subst e9
      have z1 : cd2 = cd1 := k1.trans i1.symm
      have z2 : ge2 = fl uE1 := k2.trans i2.symm
      have z3 : gl2 = fl uL1 := k3.trans i3.symm
      have z4 : gx2 = fl uX1 := k4.trans i4.symm
      have hP : va_P D vwCl (tw h1 sd cd2 fd2 ge2 gl2 gx2 ++ cw dA h0 hE hL hR hX sd cd1 uE1 uL1 uX1) H := hP
      have hD : va_D A (tw h1 sd cd2 fd2 ge2 gl2 gx2 ++ cw dA h0 hE hL hR hX sd cd1 uE1 uL1 uX1) := hD
      rw [z1, z2, z3, z4] at hP hD
      have hP : va_P D vwCl (tw h1 sd cd1 fd2 (fl uE1) (fl uL1) (fl uX1) ++ cw dA h0 hE hL hR hX sd cd1 uE1 uL1 uX1) H := hP
      have hD : va_D A (tw h1 sd cd1 fd2 (fl uE1) (fl uL1) (fl uX1) ++ cw dA h0 hE hL hR hX sd cd1 uE1 uL1 uX1) := hD
      refine lv_dstore (lv' := [(6, .double (a_R (FP.dmul (FP.i2d (xs (i + 1))) (4593671619917905920 : UInt64)))), (4, .double (a_R (FP.dmul (FP.i2d (xs (i + 1))) (4593671619917905920 : UInt64)))), (3, .int (nI i)), (2, .ref h1), (1, .ref h0), (0, .ref b)]) hx hb dL_law_333 hl (by decide) rfl (fun ls hl => ?_)
      refine lv_dload hx hb dL_law_335 (lv_at hl 1 rfl) ?_
      refine lv_dload hx hb dL_law_337 (lv_at hl 0 rfl) ?_
      refine lv_dcmp hx hb dL_law_339 ?_
      refine lv_if_eq (tgt := 361) hx hb dL_law_340 (by decide) (fun c_340 => ?_) (fun c_340 => absurd (cmp0 (aR_nn ⟨_, rfl⟩)) c_340)
      refine lv_goto (tgt := 724) hx hb dL_law_361 (by decide) ?_
      exact back cd1 uE1 uL1 uX1 fd2 H locs ls hP hD hS (lv_sub hl [2, 3, 4, 5] rfl)
    · refine lv_tableIn (off := 320) (tgt := 364) hx hb dL_law_44 (by decide) (by decide) (by decide) (by decide) ?_
      refine lv_aload_n hx hb dL_law_364 rfl (lv_at hl 2 rfl) ?_
      refine lv_aload_n hx hb dL_law_365 rfl (lv_at hl 3 rfl) ?_
      refine lv_iload_n hx hb dL_law_366 rfl (lv_at hl 0 rfl) ?_
      refine lv_iconst (v := 1) hx hb dL_law_367 (by decide) ?_
      refine lv_iadd hx hb dL_law_368 ?_
      rw [show nI i + 1 = nI (i + 1) from nI_add i 1]
      refine va_sld hx hb hX0 hbl hbA hS (vp_in_nI (n := i + 1) (by omega) (by omega)) dL_law_369 ?_
      rw [nI_clamp (show i + 1 < 2 ^ 31 by omega)]
      refine lv_i2d hx hb dL_law_370 ?_
      refine lv_ldc2d hx hb hown (hts _ q414) dL_law_371 ?_
      refine lv_dmul hx hb dL_law_374 ((XV.df ⟨_, rfl⟩).n64) ?_
      refine cla_d (wr := tw h1 sd cd fd (fl uE) (fl uL) (fl uX)) (wc := cw dA h0 hE hL hR hX sd cd uE uL uX) (va_runV (As := [.double (FP.dmul (FP.i2d (xs (i + 1))) (4593671619917905920 : UInt64))]) (rest := []) ⟨hx, hb, hml, hown, hts⟩ (c_errorPart l D dA h0 hE hL hR hX sd cd uE uL uX (FP.dmul (FP.i2d (xs (i + 1))) (4593671619917905920 : UInt64))  H.size) (cwV 1 hts (lw_V q217 q218 q219 q12 q220) rfl rfl rfl (by decide +kernel) ⟨Nat.le_of_ble_eq_true rfl, Nat.le_of_ble_eq_true rfl⟩) (pr_V hK hN (p_right (w1 := tw h1 sd cd fd (fl uE) (fl uL) (fl uX)) hP) (d_right (w1 := tw h1 sd cd fd (fl uE) (fl uL) (fl uX)) hD) (va_recv hK hP (ci := 0) (q0 := 1) rfl rfl)) rfl rfl hl.1 rfl (lv_room (Nat.le_of_ble_eq_true rfl)) dL_law_375 ⟨by show 6 + 120 * k + 120 ≤ 600000; omega, by show 17 + 14400 * k + 14400 ≤ 7302250; omega⟩) hS hP hD hA (fun r_375 u_375 H locs hpo_375 hP hD hS => ?_)
      refine W.widen (k := 6 + 120 * (k + 1)) (n := 17 + 14400 * (k + 1)) (by show 6 + 120 * k + 120 ≤ 6 + 120 * (k + 1); omega) (by show 17 + 14400 * k + 14400 ≤ 17 + 14400 * (k + 1); omega) ?_
      obtain ⟨cd1, uE1, uL1, uX1⟩ := u_375
      obtain ⟨e9, i1, i2, i3, i4⟩ := hpo_375
      subst e9
      have hP : va_P D vwCl (tw h1 sd cd fd (fl uE) (fl uL) (fl uX) ++ cw dA h0 hE hL hR hX sd cd1 uE1 uL1 uX1) H := hP
      have hD : va_D A (tw h1 sd cd fd (fl uE) (fl uL) (fl uX) ++ cw dA h0 hE hL hR hX sd cd1 uE1 uL1 uX1) := hD
      refine lv_dstore (lv' := [(4, .double (a_X (FP.dmul (FP.i2d (xs (i + 1))) (4593671619917905920 : UInt64)))), (3, .int (nI i)), (2, .ref h1), (1, .ref h0), (0, .ref b)]) hx hb dL_law_378 hl (by decide) rfl (fun ls hl => ?_)
      refine lv_aload_n hx hb dL_law_380 rfl (lv_at hl 2 rfl) ?_
      refine lv_aload_n hx hb dL_law_381 rfl (lv_at hl 4 rfl) ?_
      refine lv_iload_n hx hb dL_law_382 rfl (lv_at hl 1 rfl) ?_
      refine lv_iconst (v := 1) hx hb dL_law_383 (by decide) ?_
      refine lv_iadd hx hb dL_law_384 ?_
      rw [show nI i + 1 = nI (i + 1) from nI_add i 1]
      refine va_sld hx hb hX0 hbl hbA hS (vp_in_nI (n := i + 1) (by omega) (by omega)) dL_law_385 ?_
      rw [nI_clamp (show i + 1 < 2 ^ 31 by omega)]
      refine lv_i2d hx hb dL_law_386 ?_
      refine lv_ldc2d hx hb hown (hts _ q414) dL_law_387 ?_
      refine lv_dmul hx hb dL_law_390 ((XV.df ⟨_, rfl⟩).n64) ?_
      refine cla_d (wr := cw dA h0 hE hL hR hX sd cd1 uE1 uL1 uX1) (wc := tw h1 sd cd fd (fl uE) (fl uL) (fl uX)) (va_runV (As := [.double (FP.dmul (FP.i2d (xs (i + 1))) (4593671619917905920 : UInt64))]) (rest := []) ⟨hx, hb, hml, hown, hts⟩ (t_errorPart l D dA h1 sd cd fd (fl uE) (fl uL) (fl uX) (FP.dmul (FP.i2d (xs (i + 1))) (4593671619917905920 : UInt64))  H.size) (cwV 1 hts (lw_V q370 q371 q372 q18 q373) rfl rfl rfl (by decide +kernel) ⟨Nat.le_of_ble_eq_true rfl, Nat.le_of_ble_eq_true rfl⟩) (pr_V hK hN (p_left (w1 := tw h1 sd cd fd (fl uE) (fl uL) (fl uX)) hP) (d_left (w1 := tw h1 sd cd fd (fl uE) (fl uL) (fl uX)) hD) (va_recv hK hP (ci := 5) (q0 := 0) rfl rfl)) rfl rfl hl.1 rfl (lv_room (Nat.le_of_ble_eq_true rfl)) dL_law_391 ⟨by show 6 + 120 * (k + 1) + 0 ≤ 600000; omega, by show 17 + 14400 * (k + 1) + 0 ≤ 7302250; omega⟩) hS (p_swap hP) (d_swap hD) hA (fun r_391 u_391 H locs hpo_391 hP hD hS => ?_)
      refine W.widen (k := 6 + 120 * (k + 1)) (n := 17 + 14400 * (k + 1)) (by show 6 + 120 * (k + 1) + 0 ≤ 6 + 120 * (k + 1); omega) (by show 17 + 14400 * (k + 1) + 0 ≤ 17 + 14400 * (k + 1); omega) ?_
      have hP := p_swap hP
      have hD := d_swap hD
      obtain ⟨cd2, fd2, ge2, gl2, gx2⟩ := u_391
      obtain ⟨e9, k1, k2, k3, k4⟩ := hpo_391
      subst e9
      have z1 : cd2 = cd1 := k1.trans i1.symm
      have z2 : ge2 = fl uE1 := k2.trans i2.symm
      have z3 : gl2 = fl uL1 := k3.trans i3.symm
      have z4 : gx2 = fl uX1 := k4.trans i4.symm
      have hP : va_P D vwCl (tw h1 sd cd2 fd2 ge2 gl2 gx2 ++ cw dA h0 hE hL hR hX sd cd1 uE1 uL1 uX1) H := hP
      have hD : va_D A (tw h1 sd cd2 fd2 ge2 gl2 gx2 ++ cw dA h0 hE hL hR hX sd cd1 uE1 uL1 uX1) := hD
      rw [z1, z2, z3, z4] at hP hD
      have hP : va_P D vwCl (tw h1 sd cd1 fd2 (fl uE1) (fl uL1) (fl uX1) ++ cw dA h0 hE hL hR hX sd cd1 uE1 uL1 uX1) H := hP
      have hD : va_D A (tw h1 sd cd1 fd2 (fl uE1) (fl uL1) (fl uX1) ++ cw dA h0 hE hL hR hX sd cd1 uE1 uL1 uX1) := hD
      refine lv_dstore (lv' := [(6, .double (a_X (FP.dmul (FP.i2d (xs (i + 1))) (4593671619917905920 : UInt64)))), (4, .double (a_X (FP.dmul (FP.i2d (xs (i + 1))) (4593671619917905920 : UInt64)))), (3, .int (nI i)), (2, .ref h1), (1, .ref h0), (0, .ref b)]) hx hb dL_law_394 hl (by decide) rfl (fun ls hl => ?_)
      refine lv_dload hx hb dL_law_396 (lv_at hl 1 rfl) ?_
      refine lv_dload hx hb dL_law_398 (lv_at hl 0 rfl) ?_
      refine lv_dcmp hx hb dL_law_400 ?_
      refine lv_if_eq (tgt := 422) hx hb dL_law_401 (by decide) (fun c_401 => ?_) (fun c_401 => absurd (cmp0 (aX_nn _)) c_401)
      refine lv_goto (tgt := 724) hx hb dL_law_422 (by decide) ?_
      exact back cd1 uE1 uL1 uX1 fd2 H locs ls hP hD hS (lv_sub hl [2, 3, 4, 5] rfl)
    · refine lv_tableIn (off := 381) (tgt := 425) hx hb dL_law_44 (by decide) (by decide) (by decide) (by decide) ?_
      refine lv_aload_n hx hb dL_law_425 rfl (lv_at hl 2 rfl) ?_
      refine lv_aload_n hx hb dL_law_426 rfl (lv_at hl 3 rfl) ?_
      refine lv_iload_n hx hb dL_law_427 rfl (lv_at hl 0 rfl) ?_
      refine lv_iconst (v := 1) hx hb dL_law_428 (by decide) ?_
      refine lv_iadd hx hb dL_law_429 ?_
      rw [show nI i + 1 = nI (i + 1) from nI_add i 1]
      refine va_sld hx hb hX0 hbl hbA hS (vp_in_nI (n := i + 1) (by omega) (by omega)) dL_law_430 ?_
      rw [nI_clamp (show i + 1 < 2 ^ 31 by omega)]
      refine lv_i2d hx hb dL_law_431 ?_
      refine lv_ldc2d hx hb hown (hts _ q414) dL_law_432 ?_
      refine lv_dmul hx hb dL_law_435 ((XV.df ⟨_, rfl⟩).n64) ?_
      refine lv_aload_n hx hb dL_law_436 rfl (lv_at hl 3 rfl) ?_
      refine lv_iload_n hx hb dL_law_437 rfl (lv_at hl 0 rfl) ?_
      refine lv_iconst (v := 2) hx hb dL_law_438 (by decide) ?_
      refine lv_iadd hx hb dL_law_439 ?_
      rw [show nI i + 2 = nI (i + 2) from nI_add i 2]
      refine va_sld hx hb hX0 hbl hbA hS (vp_in_nI (n := i + 2) (by omega) (by omega)) dL_law_440 ?_
      rw [nI_clamp (show i + 2 < 2 ^ 31 by omega)]
      refine lv_i2d hx hb dL_law_441 ?_
      refine lv_ldc2d hx hb hown (hts _ q414) dL_law_442 ?_
      refine lv_dmul hx hb dL_law_445 ((XV.df ⟨_, rfl⟩).n64) ?_
      refine lv_aload_n hx hb dL_law_446 rfl (lv_at hl 3 rfl) ?_
      refine lv_iload_n hx hb dL_law_447 rfl (lv_at hl 0 rfl) ?_
      refine lv_iconst (v := 3) hx hb dL_law_448 (by decide) ?_
      refine lv_iadd hx hb dL_law_449 ?_
      rw [show nI i + 3 = nI (i + 3) from nI_add i 3]
      refine va_sld hx hb hX0 hbl hbA hS (vp_in_nI (n := i + 3) (by omega) (by omega)) dL_law_450 ?_
      rw [nI_clamp (show i + 3 < 2 ^ 31 by omega)]
      refine lv_i2d hx hb dL_law_451 ?_
      refine lv_ldc2d hx hb hown (hts _ q414) dL_law_452 ?_
      refine lv_dmul hx hb dL_law_455 ((XV.df ⟨_, rfl⟩).n64) ?_
      refine cla_d (wr := tw h1 sd cd fd (fl uE) (fl uL) (fl uX)) (wc := cw dA h0 hE hL hR hX sd cd uE uL uX) (va_runV (As := [.double (FP.dmul (FP.i2d (xs (i + 1))) (4593671619917905920 : UInt64)), .double (FP.dmul (FP.i2d (xs (i + 2))) (4593671619917905920 : UInt64)), .double (FP.dmul (FP.i2d (xs (i + 3))) (4593671619917905920 : UInt64))]) (rest := []) ⟨hx, hb, hml, hown, hts⟩ (c_law l D dA h0 hE hL hR hX sd cd uE uL uX (FP.dmul (FP.i2d (xs (i + 1))) (4593671619917905920 : UInt64)) (FP.dmul (FP.i2d (xs (i + 2))) (4593671619917905920 : UInt64)) (FP.dmul (FP.i2d (xs (i + 3))) (4593671619917905920 : UInt64))  H.size) (cwV 3 hts (lw_V q221 q222 q223 q12 q224) rfl rfl rfl (by decide +kernel) ⟨Nat.le_of_ble_eq_true rfl, Nat.le_of_ble_eq_true rfl⟩) (pr_V hK hN (p_right (w1 := tw h1 sd cd fd (fl uE) (fl uL) (fl uX)) hP) (d_right (w1 := tw h1 sd cd fd (fl uE) (fl uL) (fl uX)) hD) (va_recv hK hP (ci := 0) (q0 := 1) rfl rfl)) rfl rfl hl.1 rfl (lv_room (Nat.le_of_ble_eq_true rfl)) dL_law_456 ⟨by show 6 + 120 * k + 14 ≤ 600000; omega, by show 17 + 14400 * k + 210 ≤ 7302250; omega⟩) hS hP hD hA (fun r_456 u_456 H locs hpo_456 hP hD hS => ?_)
      refine W.widen (k := 6 + 120 * (k + 1)) (n := 17 + 14400 * (k + 1)) (by show 6 + 120 * k + 14 ≤ 6 + 120 * (k + 1); omega) (by show 17 + 14400 * k + 210 ≤ 17 + 14400 * (k + 1); omega) ?_
      obtain ⟨cd1, uE1, uL1, uX1⟩ := u_456
      obtain ⟨e9, i1, i2, i3, i4⟩ := hpo_456
      subst e9
      have hP : va_P D vwCl (tw h1 sd cd fd (fl uE) (fl uL) (fl uX) ++ cw dA h0 hE hL hR hX sd cd1 uE1 uL1 uX1) H := hP
      have hD : va_D A (tw h1 sd cd fd (fl uE) (fl uL) (fl uX) ++ cw dA h0 hE hL hR hX sd cd1 uE1 uL1 uX1) := hD
      refine lv_dstore (lv' := [(4, .double (w_a (FP.dmul (FP.i2d (xs (i + 1))) (4593671619917905920 : UInt64)) (FP.dmul (FP.i2d (xs (i + 2))) (4593671619917905920 : UInt64)) (FP.dmul (FP.i2d (xs (i + 3))) (4593671619917905920 : UInt64)))), (3, .int (nI i)), (2, .ref h1), (1, .ref h0), (0, .ref b)]) hx hb dL_law_459 hl (by decide) rfl (fun ls hl => ?_)
      refine lv_aload_n hx hb dL_law_461 rfl (lv_at hl 2 rfl) ?_
      refine lv_aload_n hx hb dL_law_462 rfl (lv_at hl 4 rfl) ?_
      refine lv_iload_n hx hb dL_law_463 rfl (lv_at hl 1 rfl) ?_
      refine lv_iconst (v := 1) hx hb dL_law_464 (by decide) ?_
      refine lv_iadd hx hb dL_law_465 ?_
      rw [show nI i + 1 = nI (i + 1) from nI_add i 1]
      refine va_sld hx hb hX0 hbl hbA hS (vp_in_nI (n := i + 1) (by omega) (by omega)) dL_law_466 ?_
      rw [nI_clamp (show i + 1 < 2 ^ 31 by omega)]
      refine lv_i2d hx hb dL_law_467 ?_
      refine lv_ldc2d hx hb hown (hts _ q414) dL_law_468 ?_
      refine lv_dmul hx hb dL_law_471 ((XV.df ⟨_, rfl⟩).n64) ?_
      refine lv_aload_n hx hb dL_law_472 rfl (lv_at hl 4 rfl) ?_
      refine lv_iload_n hx hb dL_law_473 rfl (lv_at hl 1 rfl) ?_
      refine lv_iconst (v := 2) hx hb dL_law_474 (by decide) ?_
      refine lv_iadd hx hb dL_law_475 ?_
      rw [show nI i + 2 = nI (i + 2) from nI_add i 2]
      refine va_sld hx hb hX0 hbl hbA hS (vp_in_nI (n := i + 2) (by omega) (by omega)) dL_law_476 ?_
      rw [nI_clamp (show i + 2 < 2 ^ 31 by omega)]
      refine lv_i2d hx hb dL_law_477 ?_
      refine lv_ldc2d hx hb hown (hts _ q414) dL_law_478 ?_
      refine lv_dmul hx hb dL_law_481 ((XV.df ⟨_, rfl⟩).n64) ?_
      refine lv_aload_n hx hb dL_law_482 rfl (lv_at hl 4 rfl) ?_
      refine lv_iload_n hx hb dL_law_483 rfl (lv_at hl 1 rfl) ?_
      refine lv_iconst (v := 3) hx hb dL_law_484 (by decide) ?_
      refine lv_iadd hx hb dL_law_485 ?_
      rw [show nI i + 3 = nI (i + 3) from nI_add i 3]
      refine va_sld hx hb hX0 hbl hbA hS (vp_in_nI (n := i + 3) (by omega) (by omega)) dL_law_486 ?_
      rw [nI_clamp (show i + 3 < 2 ^ 31 by omega)]
      refine lv_i2d hx hb dL_law_487 ?_
      refine lv_ldc2d hx hb hown (hts _ q414) dL_law_488 ?_
      refine lv_dmul hx hb dL_law_491 ((XV.df ⟨_, rfl⟩).n64) ?_
      refine cla_d (wr := cw dA h0 hE hL hR hX sd cd1 uE1 uL1 uX1) (wc := tw h1 sd cd fd (fl uE) (fl uL) (fl uX)) (va_runV (As := [.double (FP.dmul (FP.i2d (xs (i + 1))) (4593671619917905920 : UInt64)), .double (FP.dmul (FP.i2d (xs (i + 2))) (4593671619917905920 : UInt64)), .double (FP.dmul (FP.i2d (xs (i + 3))) (4593671619917905920 : UInt64))]) (rest := []) ⟨hx, hb, hml, hown, hts⟩ (t_law l D dA h1 sd cd fd (fl uE) (fl uL) (fl uX) (FP.dmul (FP.i2d (xs (i + 1))) (4593671619917905920 : UInt64)) (FP.dmul (FP.i2d (xs (i + 2))) (4593671619917905920 : UInt64)) (FP.dmul (FP.i2d (xs (i + 3))) (4593671619917905920 : UInt64))  H.size) (cwV 3 hts (lw_V q382 q383 q384 q18 q385) rfl rfl rfl (by decide +kernel) ⟨Nat.le_of_ble_eq_true rfl, Nat.le_of_ble_eq_true rfl⟩) (pr_V hK hN (p_left (w1 := tw h1 sd cd fd (fl uE) (fl uL) (fl uX)) hP) (d_left (w1 := tw h1 sd cd fd (fl uE) (fl uL) (fl uX)) hD) (va_recv hK hP (ci := 5) (q0 := 0) rfl rfl)) rfl rfl hl.1 rfl (lv_room (Nat.le_of_ble_eq_true rfl)) dL_law_492 ⟨by show 6 + 120 * (k + 1) + 0 ≤ 600000; omega, by show 17 + 14400 * (k + 1) + 0 ≤ 7302250; omega⟩) hS (p_swap hP) (d_swap hD) hA (fun r_492 u_492 H locs hpo_492 hP hD hS => ?_)
      refine W.widen (k := 6 + 120 * (k + 1)) (n := 17 + 14400 * (k + 1)) (by show 6 + 120 * (k + 1) + 0 ≤ 6 + 120 * (k + 1); omega) (by show 17 + 14400 * (k + 1) + 0 ≤ 17 + 14400 * (k + 1); omega) ?_
      have hP := p_swap hP
      have hD := d_swap hD
      obtain ⟨cd2, fd2, ge2, gl2, gx2⟩ := u_492
      obtain ⟨e9, k1, k2, k3, k4⟩ := hpo_492
      subst e9
      have z1 : cd2 = cd1 := k1.trans i1.symm
      have z2 : ge2 = fl uE1 := k2.trans i2.symm
      have z3 : gl2 = fl uL1 := k3.trans i3.symm
      have z4 : gx2 = fl uX1 := k4.trans i4.symm
      have hP : va_P D vwCl (tw h1 sd cd2 fd2 ge2 gl2 gx2 ++ cw dA h0 hE hL hR hX sd cd1 uE1 uL1 uX1) H := hP
      have hD : va_D A (tw h1 sd cd2 fd2 ge2 gl2 gx2 ++ cw dA h0 hE hL hR hX sd cd1 uE1 uL1 uX1) := hD
      rw [z1, z2, z3, z4] at hP hD
      have hP : va_P D vwCl (tw h1 sd cd1 fd2 (fl uE1) (fl uL1) (fl uX1) ++ cw dA h0 hE hL hR hX sd cd1 uE1 uL1 uX1) H := hP
      have hD : va_D A (tw h1 sd cd1 fd2 (fl uE1) (fl uL1) (fl uX1) ++ cw dA h0 hE hL hR hX sd cd1 uE1 uL1 uX1) := hD
      refine lv_dstore (lv' := [(6, .double (w_a (FP.dmul (FP.i2d (xs (i + 1))) (4593671619917905920 : UInt64)) (FP.dmul (FP.i2d (xs (i + 2))) (4593671619917905920 : UInt64)) (FP.dmul (FP.i2d (xs (i + 3))) (4593671619917905920 : UInt64)))), (4, .double (w_a (FP.dmul (FP.i2d (xs (i + 1))) (4593671619917905920 : UInt64)) (FP.dmul (FP.i2d (xs (i + 2))) (4593671619917905920 : UInt64)) (FP.dmul (FP.i2d (xs (i + 3))) (4593671619917905920 : UInt64)))), (3, .int (nI i)), (2, .ref h1), (1, .ref h0), (0, .ref b)]) hx hb dL_law_495 hl (by decide) rfl (fun ls hl => ?_)
      refine lv_dload hx hb dL_law_497 (lv_at hl 1 rfl) ?_
      refine lv_dload hx hb dL_law_499 (lv_at hl 0 rfl) ?_
      refine lv_dcmp hx hb dL_law_501 ?_
      refine lv_if_eq (tgt := 523) hx hb dL_law_502 (by decide) (fun c_502 => ?_) (fun c_502 => absurd (cmp0 (wa_nn _ _ _)) c_502)
      refine lv_goto (tgt := 724) hx hb dL_law_523 (by decide) ?_
      exact back cd1 uE1 uL1 uX1 fd2 H locs ls hP hD hS (lv_sub hl [2, 3, 4, 5] rfl)
    · refine lv_tableIn (off := 482) (tgt := 526) hx hb dL_law_44 (by decide) (by decide) (by decide) (by decide) ?_
      refine lv_aload_n hx hb dL_law_526 rfl (lv_at hl 2 rfl) ?_
      refine lv_aload_n hx hb dL_law_527 rfl (lv_at hl 3 rfl) ?_
      refine lv_iload_n hx hb dL_law_528 rfl (lv_at hl 0 rfl) ?_
      refine lv_iconst (v := 1) hx hb dL_law_529 (by decide) ?_
      refine lv_iadd hx hb dL_law_530 ?_
      rw [show nI i + 1 = nI (i + 1) from nI_add i 1]
      refine va_sld hx hb hX0 hbl hbA hS (vp_in_nI (n := i + 1) (by omega) (by omega)) dL_law_531 ?_
      rw [nI_clamp (show i + 1 < 2 ^ 31 by omega)]
      refine lv_aload_n hx hb dL_law_532 rfl (lv_at hl 3 rfl) ?_
      refine lv_iload_n hx hb dL_law_533 rfl (lv_at hl 0 rfl) ?_
      refine lv_iconst (v := 2) hx hb dL_law_534 (by decide) ?_
      refine lv_iadd hx hb dL_law_535 ?_
      rw [show nI i + 2 = nI (i + 2) from nI_add i 2]
      refine va_sld hx hb hX0 hbl hbA hS (vp_in_nI (n := i + 2) (by omega) (by omega)) dL_law_536 ?_
      rw [nI_clamp (show i + 2 < 2 ^ 31 by omega)]
      refine lv_i2l hx hb dL_law_537 rfl ?_
      refine lv_bipush (v := 32) hx hb dL_law_538 (by decide) ?_
      refine lv_lshl hx hb dL_law_540 rfl ?_
      refine lv_aload_n hx hb dL_law_541 rfl (lv_at hl 3 rfl) ?_
      refine lv_iload_n hx hb dL_law_542 rfl (lv_at hl 0 rfl) ?_
      refine lv_iconst (v := 3) hx hb dL_law_543 (by decide) ?_
      refine lv_iadd hx hb dL_law_544 ?_
      rw [show nI i + 3 = nI (i + 3) from nI_add i 3]
      refine va_sld hx hb hX0 hbl hbA hS (vp_in_nI (n := i + 3) (by omega) (by omega)) dL_law_545 ?_
      rw [nI_clamp (show i + 3 < 2 ^ 31 by omega)]
      refine lv_i2l hx hb dL_law_546 rfl ?_
      refine lv_ldc2 hx hb hown (hts _ q415) dL_law_547 ?_
      refine lv_land hx hb dL_law_550 ?_
      refine lv_lor hx hb dL_law_551 ?_
      refine lv_aload_n hx hb dL_law_552 rfl (lv_at hl 3 rfl) ?_
      refine lv_iload_n hx hb dL_law_553 rfl (lv_at hl 0 rfl) ?_
      refine lv_iconst (v := 4) hx hb dL_law_554 (by decide) ?_
      refine lv_iadd hx hb dL_law_555 ?_
      rw [show nI i + 4 = nI (i + 4) from nI_add i 4]
      refine va_sld hx hb hX0 hbl hbA hS (vp_in_nI (n := i + 4) (by omega) (by omega)) dL_law_556 ?_
      rw [nI_clamp (show i + 4 < 2 ^ 31 by omega)]
      refine cla_d (wr := tw h1 sd cd fd (fl uE) (fl uL) (fl uX)) (wc := cw dA h0 hE hL hR hX sd cd uE uL uX) (va_runV (As := [.int (xs (i + 1)), .long ((((xs (i + 2)).toInt64) <<< ((32 : Int32).toInt64 &&& 63)) ||| (((xs (i + 3)).toInt64) &&& (4294967295 : Int64))), .int (xs (i + 4))]) (rest := []) ⟨hx, hb, hml, hown, hts⟩ (c_normal l D dA h0 hE hL hR hX sd cd uE uL uX (xs (i + 1)) (((xs (i + 2)).toInt64 <<< ((32 : Int32).toInt64 &&& 63)) ||| ((xs (i + 3)).toInt64 &&& (4294967295 : Int64))) (xs (i + 4))  H.size) (cwV 3 hts (lw_V q226 q227 q228 q12 q229) rfl rfl rfl (by decide +kernel) ⟨Nat.le_of_ble_eq_true rfl, Nat.le_of_ble_eq_true rfl⟩) (pr_V hK hN (p_right (w1 := tw h1 sd cd fd (fl uE) (fl uL) (fl uX)) hP) (d_right (w1 := tw h1 sd cd fd (fl uE) (fl uL) (fl uX)) hD) (va_recv hK hP (ci := 0) (q0 := 1) rfl rfl)) rfl rfl hl.1 rfl (lv_room (Nat.le_of_ble_eq_true rfl)) dL_law_557 ⟨by show 6 + 120 * k + 0 ≤ 600000; omega, by show 17 + 14400 * k + 0 ≤ 7302250; omega⟩) hS hP hD hA (fun r_557 u_557 H locs hpo_557 hP hD hS => ?_)
      refine W.widen (k := 6 + 120 * (k + 1)) (n := 17 + 14400 * (k + 1)) (by show 6 + 120 * k + 0 ≤ 6 + 120 * (k + 1); omega) (by show 17 + 14400 * k + 0 ≤ 17 + 14400 * (k + 1); omega) ?_
      obtain ⟨cd1, uE1, uL1, uX1⟩ := u_557
      obtain ⟨e9, i1, i2, i3, i4⟩ := hpo_557
      subst e9
      have hP : va_P D vwCl (tw h1 sd cd fd (fl uE) (fl uL) (fl uX) ++ cw dA h0 hE hL hR hX sd cd1 uE1 uL1 uX1) H := hP
      have hD : va_D A (tw h1 sd cd fd (fl uE) (fl uL) (fl uX) ++ cw dA h0 hE hL hR hX sd cd1 uE1 uL1 uX1) := hD
      refine lv_dstore (lv' := [(4, .double (n_a sd (xs (i + 1)) (((xs (i + 2)).toInt64 <<< ((32 : Int32).toInt64 &&& 63)) ||| ((xs (i + 3)).toInt64 &&& (4294967295 : Int64))) (xs (i + 4)))), (3, .int (nI i)), (2, .ref h1), (1, .ref h0), (0, .ref b)]) hx hb dL_law_560 hl (by decide) rfl (fun ls hl => ?_)
      refine lv_aload_n hx hb dL_law_562 rfl (lv_at hl 2 rfl) ?_
      refine lv_aload_n hx hb dL_law_563 rfl (lv_at hl 4 rfl) ?_
      refine lv_iload_n hx hb dL_law_564 rfl (lv_at hl 1 rfl) ?_
      refine lv_iconst (v := 1) hx hb dL_law_565 (by decide) ?_
      refine lv_iadd hx hb dL_law_566 ?_
      rw [show nI i + 1 = nI (i + 1) from nI_add i 1]
      refine va_sld hx hb hX0 hbl hbA hS (vp_in_nI (n := i + 1) (by omega) (by omega)) dL_law_567 ?_
      rw [nI_clamp (show i + 1 < 2 ^ 31 by omega)]
      refine lv_aload_n hx hb dL_law_568 rfl (lv_at hl 4 rfl) ?_
      refine lv_iload_n hx hb dL_law_569 rfl (lv_at hl 1 rfl) ?_
      refine lv_iconst (v := 2) hx hb dL_law_570 (by decide) ?_
      refine lv_iadd hx hb dL_law_571 ?_
      rw [show nI i + 2 = nI (i + 2) from nI_add i 2]
      refine va_sld hx hb hX0 hbl hbA hS (vp_in_nI (n := i + 2) (by omega) (by omega)) dL_law_572 ?_
      rw [nI_clamp (show i + 2 < 2 ^ 31 by omega)]
      refine lv_i2l hx hb dL_law_573 rfl ?_
      refine lv_bipush (v := 32) hx hb dL_law_574 (by decide) ?_
      refine lv_lshl hx hb dL_law_576 rfl ?_
      refine lv_aload_n hx hb dL_law_577 rfl (lv_at hl 4 rfl) ?_
      refine lv_iload_n hx hb dL_law_578 rfl (lv_at hl 1 rfl) ?_
      refine lv_iconst (v := 3) hx hb dL_law_579 (by decide) ?_
      refine lv_iadd hx hb dL_law_580 ?_
      rw [show nI i + 3 = nI (i + 3) from nI_add i 3]
      refine va_sld hx hb hX0 hbl hbA hS (vp_in_nI (n := i + 3) (by omega) (by omega)) dL_law_581 ?_
      rw [nI_clamp (show i + 3 < 2 ^ 31 by omega)]
      refine lv_i2l hx hb dL_law_582 rfl ?_
      refine lv_ldc2 hx hb hown (hts _ q415) dL_law_583 ?_
      refine lv_land hx hb dL_law_586 ?_
      refine lv_lor hx hb dL_law_587 ?_
      refine lv_aload_n hx hb dL_law_588 rfl (lv_at hl 4 rfl) ?_
      refine lv_iload_n hx hb dL_law_589 rfl (lv_at hl 1 rfl) ?_
      refine lv_iconst (v := 4) hx hb dL_law_590 (by decide) ?_
      refine lv_iadd hx hb dL_law_591 ?_
      rw [show nI i + 4 = nI (i + 4) from nI_add i 4]
      refine va_sld hx hb hX0 hbl hbA hS (vp_in_nI (n := i + 4) (by omega) (by omega)) dL_law_592 ?_
      rw [nI_clamp (show i + 4 < 2 ^ 31 by omega)]
      refine cla_d (wr := cw dA h0 hE hL hR hX sd cd1 uE1 uL1 uX1) (wc := tw h1 sd cd fd (fl uE) (fl uL) (fl uX)) (va_runV (As := [.int (xs (i + 1)), .long ((((xs (i + 2)).toInt64) <<< ((32 : Int32).toInt64 &&& 63)) ||| (((xs (i + 3)).toInt64) &&& (4294967295 : Int64))), .int (xs (i + 4))]) (rest := []) ⟨hx, hb, hml, hown, hts⟩ (t_normal l D dA h1 sd cd fd (fl uE) (fl uL) (fl uX) (xs (i + 1)) (((xs (i + 2)).toInt64 <<< ((32 : Int32).toInt64 &&& 63)) ||| ((xs (i + 3)).toInt64 &&& (4294967295 : Int64))) (xs (i + 4))  H.size) (cwV 3 hts (lw_V q387 q388 q389 q18 q390) rfl rfl rfl (by decide +kernel) ⟨Nat.le_of_ble_eq_true rfl, Nat.le_of_ble_eq_true rfl⟩) (pr_V hK hN (p_left (w1 := tw h1 sd cd fd (fl uE) (fl uL) (fl uX)) hP) (d_left (w1 := tw h1 sd cd fd (fl uE) (fl uL) (fl uX)) hD) (va_recv hK hP (ci := 5) (q0 := 0) rfl rfl)) rfl rfl hl.1 rfl (lv_room (Nat.le_of_ble_eq_true rfl)) dL_law_593 ⟨by show 6 + 120 * (k + 1) + 0 ≤ 600000; omega, by show 17 + 14400 * (k + 1) + 0 ≤ 7302250; omega⟩) hS (p_swap hP) (d_swap hD) hA (fun r_593 u_593 H locs hpo_593 hP hD hS => ?_)
      refine W.widen (k := 6 + 120 * (k + 1)) (n := 17 + 14400 * (k + 1)) (by show 6 + 120 * (k + 1) + 0 ≤ 6 + 120 * (k + 1); omega) (by show 17 + 14400 * (k + 1) + 0 ≤ 17 + 14400 * (k + 1); omega) ?_
      have hP := p_swap hP
      have hD := d_swap hD
      obtain ⟨cd2, fd2, ge2, gl2, gx2⟩ := u_593
      obtain ⟨e9, k1, k2, k3, k4⟩ := hpo_593
      subst e9
      have z1 : cd2 = cd1 := k1.trans i1.symm
      have z2 : ge2 = fl uE1 := k2.trans i2.symm
      have z3 : gl2 = fl uL1 := k3.trans i3.symm
      have z4 : gx2 = fl uX1 := k4.trans i4.symm
      have hP : va_P D vwCl (tw h1 sd cd2 fd2 ge2 gl2 gx2 ++ cw dA h0 hE hL hR hX sd cd1 uE1 uL1 uX1) H := hP
      have hD : va_D A (tw h1 sd cd2 fd2 ge2 gl2 gx2 ++ cw dA h0 hE hL hR hX sd cd1 uE1 uL1 uX1) := hD
      rw [z1, z2, z3, z4] at hP hD
      have hP : va_P D vwCl (tw h1 sd cd1 fd2 (fl uE1) (fl uL1) (fl uX1) ++ cw dA h0 hE hL hR hX sd cd1 uE1 uL1 uX1) H := hP
      have hD : va_D A (tw h1 sd cd1 fd2 (fl uE1) (fl uL1) (fl uX1) ++ cw dA h0 hE hL hR hX sd cd1 uE1 uL1 uX1) := hD
      refine lv_dstore (lv' := [(6, .double (n_a sd (xs (i + 1)) (((xs (i + 2)).toInt64 <<< ((32 : Int32).toInt64 &&& 63)) ||| ((xs (i + 3)).toInt64 &&& (4294967295 : Int64))) (xs (i + 4)))), (4, .double (n_a sd (xs (i + 1)) (((xs (i + 2)).toInt64 <<< ((32 : Int32).toInt64 &&& 63)) ||| ((xs (i + 3)).toInt64 &&& (4294967295 : Int64))) (xs (i + 4)))), (3, .int (nI i)), (2, .ref h1), (1, .ref h0), (0, .ref b)]) hx hb dL_law_596 hl (by decide) rfl (fun ls hl => ?_)
      refine lv_dload hx hb dL_law_598 (lv_at hl 1 rfl) ?_
      refine lv_dload hx hb dL_law_600 (lv_at hl 0 rfl) ?_
      refine lv_dcmp hx hb dL_law_602 ?_
      refine lv_if_eq (tgt := 624) hx hb dL_law_603 (by decide) (fun c_603 => ?_) (fun c_603 => absurd (cmp0 (na_nn _ _ _ _)) c_603)
      refine lv_goto (tgt := 724) hx hb dL_law_624 (by decide) ?_
      exact back cd1 uE1 uL1 uX1 fd2 H locs ls hP hD hS (lv_sub hl [2, 3, 4, 5] rfl)
    · refine lv_tableIn (off := 583) (tgt := 627) hx hb dL_law_44 (by decide) (by decide) (by decide) (by decide) ?_
      refine lv_aload_n hx hb dL_law_627 rfl (lv_at hl 2 rfl) ?_
      refine lv_aload_n hx hb dL_law_628 rfl (lv_at hl 3 rfl) ?_
      refine lv_iload_n hx hb dL_law_629 rfl (lv_at hl 0 rfl) ?_
      refine lv_iconst (v := 1) hx hb dL_law_630 (by decide) ?_
      refine lv_iadd hx hb dL_law_631 ?_
      rw [show nI i + 1 = nI (i + 1) from nI_add i 1]
      refine va_sld hx hb hX0 hbl hbA hS (vp_in_nI (n := i + 1) (by omega) (by omega)) dL_law_632 ?_
      rw [nI_clamp (show i + 1 < 2 ^ 31 by omega)]
      refine lv_aload_n hx hb dL_law_633 rfl (lv_at hl 3 rfl) ?_
      refine lv_iload_n hx hb dL_law_634 rfl (lv_at hl 0 rfl) ?_
      refine lv_iconst (v := 2) hx hb dL_law_635 (by decide) ?_
      refine lv_iadd hx hb dL_law_636 ?_
      rw [show nI i + 2 = nI (i + 2) from nI_add i 2]
      refine va_sld hx hb hX0 hbl hbA hS (vp_in_nI (n := i + 2) (by omega) (by omega)) dL_law_637 ?_
      rw [nI_clamp (show i + 2 < 2 ^ 31 by omega)]
      refine lv_i2d hx hb dL_law_638 ?_
      refine lv_ldc2d hx hb hown (hts _ q414) dL_law_639 ?_
      refine lv_dmul hx hb dL_law_642 ((XV.df ⟨_, rfl⟩).n64) ?_
      refine cla_d (wr := tw h1 sd cd fd (fl uE) (fl uL) (fl uX)) (wc := cw dA h0 hE hL hR hX sd cd uE uL uX) (va_runV (As := [.int (xs (i + 1)), .double (FP.dmul (FP.i2d (xs (i + 2))) (4593671619917905920 : UInt64))]) (rest := []) ⟨hx, hb, hml, hown, hts⟩ (c_bound l D dA h0 hE hL hR hX sd cd uE uL uX (xs (i + 1)) (FP.dmul (FP.i2d (xs (i + 2))) (4593671619917905920 : UInt64)) ⟨_, rfl⟩ H.size) (cwV 2 hts (lw_V q237 q238 q239 q12 q240) rfl rfl rfl (by decide +kernel) ⟨Nat.le_of_ble_eq_true rfl, Nat.le_of_ble_eq_true rfl⟩) (pr_V hK hN (p_right (w1 := tw h1 sd cd fd (fl uE) (fl uL) (fl uX)) hP) (d_right (w1 := tw h1 sd cd fd (fl uE) (fl uL) (fl uX)) hD) (va_recv hK hP (ci := 0) (q0 := 1) rfl rfl)) rfl rfl hl.1 rfl (lv_room (Nat.le_of_ble_eq_true rfl)) dL_law_643 ⟨by show 6 + 120 * k + 14 ≤ 600000; omega, by show 17 + 14400 * k + 210 ≤ 7302250; omega⟩) hS hP hD hA (fun r_643 u_643 H locs hpo_643 hP hD hS => ?_)
      refine W.widen (k := 6 + 120 * (k + 1)) (n := 17 + 14400 * (k + 1)) (by show 6 + 120 * k + 14 ≤ 6 + 120 * (k + 1); omega) (by show 17 + 14400 * k + 210 ≤ 17 + 14400 * (k + 1); omega) ?_
      obtain ⟨cd1, uE1, uL1, uX1⟩ := u_643
      obtain ⟨e9, i1, i2, i3, i4⟩ := hpo_643
      subst e9
      have hP : va_P D vwCl (tw h1 sd cd fd (fl uE) (fl uL) (fl uX) ++ cw dA h0 hE hL hR hX sd cd1 uE1 uL1 uX1) H := hP
      have hD : va_D A (tw h1 sd cd fd (fl uE) (fl uL) (fl uX) ++ cw dA h0 hE hL hR hX sd cd1 uE1 uL1 uX1) := hD
      refine lv_dstore (lv' := [(4, .double (b_a (xs (i + 1)) (FP.dmul (FP.i2d (xs (i + 2))) (4593671619917905920 : UInt64)))), (3, .int (nI i)), (2, .ref h1), (1, .ref h0), (0, .ref b)]) hx hb dL_law_646 hl (by decide) rfl (fun ls hl => ?_)
      refine lv_aload_n hx hb dL_law_648 rfl (lv_at hl 2 rfl) ?_
      refine lv_aload_n hx hb dL_law_649 rfl (lv_at hl 4 rfl) ?_
      refine lv_iload_n hx hb dL_law_650 rfl (lv_at hl 1 rfl) ?_
      refine lv_iconst (v := 1) hx hb dL_law_651 (by decide) ?_
      refine lv_iadd hx hb dL_law_652 ?_
      rw [show nI i + 1 = nI (i + 1) from nI_add i 1]
      refine va_sld hx hb hX0 hbl hbA hS (vp_in_nI (n := i + 1) (by omega) (by omega)) dL_law_653 ?_
      rw [nI_clamp (show i + 1 < 2 ^ 31 by omega)]
      refine lv_aload_n hx hb dL_law_654 rfl (lv_at hl 4 rfl) ?_
      refine lv_iload_n hx hb dL_law_655 rfl (lv_at hl 1 rfl) ?_
      refine lv_iconst (v := 2) hx hb dL_law_656 (by decide) ?_
      refine lv_iadd hx hb dL_law_657 ?_
      rw [show nI i + 2 = nI (i + 2) from nI_add i 2]
      refine va_sld hx hb hX0 hbl hbA hS (vp_in_nI (n := i + 2) (by omega) (by omega)) dL_law_658 ?_
      rw [nI_clamp (show i + 2 < 2 ^ 31 by omega)]
      refine lv_i2d hx hb dL_law_659 ?_
      refine lv_ldc2d hx hb hown (hts _ q414) dL_law_660 ?_
      refine lv_dmul hx hb dL_law_663 ((XV.df ⟨_, rfl⟩).n64) ?_
      refine cla_d (wr := cw dA h0 hE hL hR hX sd cd1 uE1 uL1 uX1) (wc := tw h1 sd cd fd (fl uE) (fl uL) (fl uX)) (va_runV (As := [.int (xs (i + 1)), .double (FP.dmul (FP.i2d (xs (i + 2))) (4593671619917905920 : UInt64))]) (rest := []) ⟨hx, hb, hml, hown, hts⟩ (t_bound l D dA h1 sd cd fd (fl uE) (fl uL) (fl uX) (xs (i + 1)) (FP.dmul (FP.i2d (xs (i + 2))) (4593671619917905920 : UInt64)) ⟨_, rfl⟩ H.size) (cwV 2 hts (lw_V q397 q398 q399 q18 q400) rfl rfl rfl (by decide +kernel) ⟨Nat.le_of_ble_eq_true rfl, Nat.le_of_ble_eq_true rfl⟩) (pr_V hK hN (p_left (w1 := tw h1 sd cd fd (fl uE) (fl uL) (fl uX)) hP) (d_left (w1 := tw h1 sd cd fd (fl uE) (fl uL) (fl uX)) hD) (va_recv hK hP (ci := 5) (q0 := 0) rfl rfl)) rfl rfl hl.1 rfl (lv_room (Nat.le_of_ble_eq_true rfl)) dL_law_664 ⟨by show 6 + 120 * (k + 1) + 0 ≤ 600000; omega, by show 17 + 14400 * (k + 1) + 0 ≤ 7302250; omega⟩) hS (p_swap hP) (d_swap hD) hA (fun r_664 u_664 H locs hpo_664 hP hD hS => ?_)
      refine W.widen (k := 6 + 120 * (k + 1)) (n := 17 + 14400 * (k + 1)) (by show 6 + 120 * (k + 1) + 0 ≤ 6 + 120 * (k + 1); omega) (by show 17 + 14400 * (k + 1) + 0 ≤ 17 + 14400 * (k + 1); omega) ?_
      have hP := p_swap hP
      have hD := d_swap hD
      obtain ⟨cd2, fd2, ge2, gl2, gx2⟩ := u_664
      obtain ⟨e9, k1, k2, k3, k4⟩ := hpo_664
      subst e9
      have z1 : cd2 = cd1 := k1.trans i1.symm
      have z2 : ge2 = fl uE1 := k2.trans i2.symm
      have z3 : gl2 = fl uL1 := k3.trans i3.symm
      have z4 : gx2 = fl uX1 := k4.trans i4.symm
      have hP : va_P D vwCl (tw h1 sd cd2 fd2 ge2 gl2 gx2 ++ cw dA h0 hE hL hR hX sd cd1 uE1 uL1 uX1) H := hP
      have hD : va_D A (tw h1 sd cd2 fd2 ge2 gl2 gx2 ++ cw dA h0 hE hL hR hX sd cd1 uE1 uL1 uX1) := hD
      rw [z1, z2, z3, z4] at hP hD
      have hP : va_P D vwCl (tw h1 sd cd1 fd2 (fl uE1) (fl uL1) (fl uX1) ++ cw dA h0 hE hL hR hX sd cd1 uE1 uL1 uX1) H := hP
      have hD : va_D A (tw h1 sd cd1 fd2 (fl uE1) (fl uL1) (fl uX1) ++ cw dA h0 hE hL hR hX sd cd1 uE1 uL1 uX1) := hD
      refine lv_dstore (lv' := [(6, .double (b_a (xs (i + 1)) (FP.dmul (FP.i2d (xs (i + 2))) (4593671619917905920 : UInt64)))), (4, .double (b_a (xs (i + 1)) (FP.dmul (FP.i2d (xs (i + 2))) (4593671619917905920 : UInt64)))), (3, .int (nI i)), (2, .ref h1), (1, .ref h0), (0, .ref b)]) hx hb dL_law_667 hl (by decide) rfl (fun ls hl => ?_)
      refine lv_dload hx hb dL_law_669 (lv_at hl 1 rfl) ?_
      refine lv_dload hx hb dL_law_671 (lv_at hl 0 rfl) ?_
      refine lv_dcmp hx hb dL_law_673 ?_
      refine lv_if_eq (tgt := 695) hx hb dL_law_674 (by decide) (fun c_674 => ?_) (fun c_674 => absurd (cmp0 (ba_nan _ ⟨_, rfl⟩)) c_674)
      refine lv_goto (tgt := 724) hx hb dL_law_695 (by decide) ?_
      exact back cd1 uE1 uL1 uX1 fd2 H locs ls hP hD hS (lv_sub hl [2, 3, 4, 5] rfl)
    · refine lv_tableIn (off := 654) (tgt := 698) hx hb dL_law_44 (by decide) (by decide) (by decide) (by decide) ?_
      refine lv_aload_n hx hb dL_law_698 rfl (lv_at hl 2 rfl) ?_
      refine cla_i (wr := tw h1 sd cd fd (fl uE) (fl uL) (fl uX)) (wc := cw dA h0 hE hL hR hX sd cd uE uL uX) (va_runV (As := []) (rest := []) ⟨hx, hb, hml, hown, hts⟩ (c_code l D dA h0 hE hL hR hX sd cd uE uL uX H.size) (cwV 0 hts (lw_V q267 q268 q269 q12 q270) rfl rfl rfl (by decide +kernel) ⟨Nat.le_of_ble_eq_true rfl, Nat.le_of_ble_eq_true rfl⟩) (pr_V hK hN (p_right (w1 := tw h1 sd cd fd (fl uE) (fl uL) (fl uX)) hP) (d_right (w1 := tw h1 sd cd fd (fl uE) (fl uL) (fl uX)) hD) (va_recv hK hP (ci := 0) (q0 := 1) rfl rfl)) rfl rfl hl.1 rfl (lv_room (Nat.le_of_ble_eq_true rfl)) dL_law_699 ⟨by show 6 + 120 * k + 0 ≤ 600000; omega, by show 17 + 14400 * k + 0 ≤ 7302250; omega⟩) hS hP hD hA (fun r_699 u_699 H locs hpo_699 hP hD hS => ?_)
      refine W.widen (k := 6 + 120 * (k + 1)) (n := 17 + 14400 * (k + 1)) (by show 6 + 120 * k + 0 ≤ 6 + 120 * (k + 1); omega) (by show 17 + 14400 * k + 0 ≤ 17 + 14400 * (k + 1); omega) ?_
      have e1 : r_699 = cd := hpo_699
      rw [e1]
      have hP : va_P D vwCl (tw h1 sd cd fd (fl uE) (fl uL) (fl uX) ++ cw dA h0 hE hL hR hX sd cd uE uL uX) H := hP
      have hD : va_D A (tw h1 sd cd fd (fl uE) (fl uL) (fl uX) ++ cw dA h0 hE hL hR hX sd cd uE uL uX) := hD
      refine lv_aload_n hx hb dL_law_702 rfl (lv_at hl 1 rfl) ?_
      refine cla_i (wr := cw dA h0 hE hL hR hX sd cd uE uL uX) (wc := tw h1 sd cd fd (fl uE) (fl uL) (fl uX)) (va_runV (As := []) (rest := [.int cd]) ⟨hx, hb, hml, hown, hts⟩ (t_code l D dA h1 sd cd fd (fl uE) (fl uL) (fl uX) H.size) (cwV 0 hts (lw_V q406 q407 q408 q18 q409) rfl rfl rfl (by decide +kernel) ⟨Nat.le_of_ble_eq_true rfl, Nat.le_of_ble_eq_true rfl⟩) (pr_V hK hN (p_left (w1 := tw h1 sd cd fd (fl uE) (fl uL) (fl uX)) hP) (d_left (w1 := tw h1 sd cd fd (fl uE) (fl uL) (fl uX)) hD) (va_recv hK hP (ci := 5) (q0 := 0) rfl rfl)) rfl rfl hl.1 rfl (lv_room (Nat.le_of_ble_eq_true rfl)) dL_law_703 ⟨by show 6 + 120 * (k + 1) + 0 ≤ 600000; omega, by show 17 + 14400 * (k + 1) + 0 ≤ 7302250; omega⟩) hS (p_swap hP) (d_swap hD) hA (fun r_703 u_703 H locs hpo_703 hP hD hS => ?_)
      refine W.widen (k := 6 + 120 * (k + 1)) (n := 17 + 14400 * (k + 1)) (by show 6 + 120 * (k + 1) + 0 ≤ 6 + 120 * (k + 1); omega) (by show 17 + 14400 * (k + 1) + 0 ≤ 17 + 14400 * (k + 1); omega) ?_
      have hP := p_swap hP
      have hD := d_swap hD
      have e2 : r_703 = cd := hpo_703
      rw [e2]
      have hP : va_P D vwCl (tw h1 sd cd fd (fl uE) (fl uL) (fl uX) ++ cw dA h0 hE hL hR hX sd cd uE uL uX) H := hP
      have hD : va_D A (tw h1 sd cd fd (fl uE) (fl uL) (fl uX) ++ cw dA h0 hE hL hR hX sd cd uE uL uX) := hD
      refine lv_icmp_eq (tgt := 724) hx hb dL_law_706 (by decide) (fun c_9 => ?_) (fun c_9 => absurd rfl c_9)
      exact back cd uE uL uX fd H locs ls hP hD hS (lv_sub hl [0, 1, 2, 3] rfl)
    · refine lv_tableIn (off := 667) (tgt := 711) hx hb dL_law_44 (by decide) (by decide) (by decide) (by decide) ?_
      refine lv_aload_n hx hb dL_law_711 rfl (lv_at hl 2 rfl) ?_
      refine cla_i (wr := tw h1 sd cd fd (fl uE) (fl uL) (fl uX)) (wc := cw dA h0 hE hL hR hX sd cd uE uL uX) (va_runV (As := []) (rest := []) ⟨hx, hb, hml, hown, hts⟩ (c_made l D dA h0 hE hL hR hX sd cd uE uL uX H.size) (cwV 0 hts (lw_V q271 q272 q273 q12 q274) rfl rfl rfl (by decide +kernel) ⟨Nat.le_of_ble_eq_true rfl, Nat.le_of_ble_eq_true rfl⟩) (pr_V hK hN (p_right (w1 := tw h1 sd cd fd (fl uE) (fl uL) (fl uX)) hP) (d_right (w1 := tw h1 sd cd fd (fl uE) (fl uL) (fl uX)) hD) (va_recv hK hP (ci := 0) (q0 := 1) rfl rfl)) rfl rfl hl.1 rfl (lv_room (Nat.le_of_ble_eq_true rfl)) dL_law_712 ⟨by show 6 + 120 * k + 0 ≤ 600000; omega, by show 17 + 14400 * k + 0 ≤ 7302250; omega⟩) hS hP hD hA (fun r_712 u_712 H locs hpo_712 hP hD hS => ?_)
      refine W.widen (k := 6 + 120 * (k + 1)) (n := 17 + 14400 * (k + 1)) (by show 6 + 120 * k + 0 ≤ 6 + 120 * (k + 1); omega) (by show 17 + 14400 * k + 0 ≤ 17 + 14400 * (k + 1); omega) ?_
      have e1 : r_712 = fl uE + fl uL + fl uX := hpo_712
      rw [e1]
      have hP : va_P D vwCl (tw h1 sd cd fd (fl uE) (fl uL) (fl uX) ++ cw dA h0 hE hL hR hX sd cd uE uL uX) H := hP
      have hD : va_D A (tw h1 sd cd fd (fl uE) (fl uL) (fl uX) ++ cw dA h0 hE hL hR hX sd cd uE uL uX) := hD
      refine lv_aload_n hx hb dL_law_715 rfl (lv_at hl 1 rfl) ?_
      refine cla_i (wr := cw dA h0 hE hL hR hX sd cd uE uL uX) (wc := tw h1 sd cd fd (fl uE) (fl uL) (fl uX)) (va_runV (As := []) (rest := [.int (fl uE + fl uL + fl uX)]) ⟨hx, hb, hml, hown, hts⟩ (t_made l D dA h1 sd cd fd (fl uE) (fl uL) (fl uX) (fl_01 uE) (fl_01 uL) (fl_01 uX) H.size) (cwV 0 hts (lw_V q410 q411 q412 q18 q413) rfl rfl rfl (by decide +kernel) ⟨Nat.le_of_ble_eq_true rfl, Nat.le_of_ble_eq_true rfl⟩) (pr_V hK hN (p_left (w1 := tw h1 sd cd fd (fl uE) (fl uL) (fl uX)) hP) (d_left (w1 := tw h1 sd cd fd (fl uE) (fl uL) (fl uX)) hD) (va_recv hK hP (ci := 5) (q0 := 0) rfl rfl)) rfl rfl hl.1 rfl (lv_room (Nat.le_of_ble_eq_true rfl)) dL_law_716 ⟨by show 6 + 120 * (k + 1) + 0 ≤ 600000; omega, by show 17 + 14400 * (k + 1) + 0 ≤ 7302250; omega⟩) hS (p_swap hP) (d_swap hD) hA (fun r_716 u_716 H locs hpo_716 hP hD hS => ?_)
      refine W.widen (k := 6 + 120 * (k + 1)) (n := 17 + 14400 * (k + 1)) (by show 6 + 120 * (k + 1) + 0 ≤ 6 + 120 * (k + 1); omega) (by show 17 + 14400 * (k + 1) + 0 ≤ 17 + 14400 * (k + 1); omega) ?_
      have hP := p_swap hP
      have hD := d_swap hD
      have e2 : r_716 = fl uE + fl uL + fl uX := hpo_716
      rw [e2]
      have hP : va_P D vwCl (tw h1 sd cd fd (fl uE) (fl uL) (fl uX) ++ cw dA h0 hE hL hR hX sd cd uE uL uX) H := hP
      have hD : va_D A (tw h1 sd cd fd (fl uE) (fl uL) (fl uX) ++ cw dA h0 hE hL hR hX sd cd uE uL uX) := hD
      refine lv_icmp_eq (tgt := 724) hx hb dL_law_719 (by decide) (fun c_9 => ?_) (fun c_9 => absurd rfl c_9)
      exact back cd uE uL uX fd H locs ls hP hD hS (lv_sub hl [0, 1, 2, 3] rfl)
    · refine lv_tableOut (tgt := 724) hx hb dL_law_44 (Or.inr (by rw [nI_toInt (by omega)]; omega)) (by decide) ?_
      refine W.widen (k := 6 + 120 * (k + 1)) (n := 17 + 14400 * (k + 1)) (by omega) (by omega) ?_
      exact back cd uE uL uX fd H locs ls hP hD hS (lv_sub hl [0, 1, 2, 3] rfl)
end
section
set_option maxHeartbeats 8000000 in
set_option maxRecDepth 100000 in
/-- THE LAW, from its entry -/
theorem whole_start {p : Program} {e : Env} {s : State} {m : MethodId} {below : List Frame} {meth : Method} {c : Code} (l : Launch) {b L : Nat} {xs : Nat → Int32} (hL : L ≤ 321) (C0 : lw_At p s m meth c b L xs) : W p l e room_1 s m #[Value.ref b] below meth c s.heap [] 0 0 (lw_Z below #[Value.ref b] s) (entryFrame m ([Value.ref b] : List Value).toArray 8) := by
  obtain ⟨hx, hb, hr, hml, hown, hts0, hX0, hbl, hlocks, hgv⟩ := id C0
  have hown : s.vm.findClass RX0 = some m.cls := hown
  have hts : ∀ w ∈ lw_all, w.before #[Value.ref b] s = true := fun w h => hts0 w (lw_all_tbl h)
  obtain ⟨A, hAe⟩ : ∃ A : Nat → Prop, A = fun q : Nat => s.heap.size ≤ q := ⟨_, rfl⟩
  have hA : ∀ q : Nat, s.heap.size ≤ q → A q := fun q h => by rw [hAe]; exact h
  have hbA : ¬ A b := by rw [hAe]; exact Nat.not_le.mpr hbl
  obtain ⟨c0, iS0, hKn0⟩ := u_known (C := RX1) (T := TX1) (N := 6) (n := 6) hts0 (fun w h => lw_all_tbl (in_X1 w h)) (hts _ q20)
  obtain ⟨c1, iS1, hKn1⟩ := u_known (C := RX3) (T := TX3) (N := 1) (n := 1) hts0 (fun w h => lw_all_tbl (in_X3 w h)) (hts _ q28)
  obtain ⟨c2, iS2, hKn2⟩ := u_known (C := RX4) (T := TX4) (N := 1) (n := 1) hts0 (fun w h => lw_all_tbl (in_X4 w h)) (hts _ q41)
  obtain ⟨c3, iS3, hKn3⟩ := u_known (C := RX5) (T := TX5) (N := 1) (n := 1) hts0 (fun w h => lw_all_tbl (in_X5 w h)) (hts _ q49)
  obtain ⟨c4, iS4, hKn4⟩ := u_known (C := RX6) (T := TX6) (N := 2) (n := 2) hts0 (fun w h => lw_all_tbl (in_X6 w h)) (hts _ q57)
  obtain ⟨c5, iS5, hKn5⟩ := u_known (C := RX7) (T := TX7) (N := 6) (n := 6) hts0 (fun w h => lw_all_tbl (in_X7 w h)) (hts _ q291)
  obtain ⟨dC, dI, hKc⟩ : ∃ (dC : Nat → ClassId) (dI : Nat → Nat → Nat), ∀ (k : Nat) (q : vw_C), vwCl[k]? = some q → u_Kn s q.1 q.2.1 q.2.2 (dC k) (dI k) := by
    refine ⟨fun k => if k = 0 then c0 else if k = 1 then c1 else if k = 2 then c2 else if k = 3 then c3 else if k = 4 then c4 else c5, fun k => if k = 0 then iS0 else if k = 1 then iS1 else if k = 2 then iS2 else if k = 3 then iS3 else if k = 4 then iS4 else iS5, ?_⟩
    intro k q hq
    match k, hq with
    | 0, hq => cases hq; exact hKn0
    | 1, hq => cases hq; exact hKn1
    | 2, hq => cases hq; exact hKn2
    | 3, hq => cases hq; exact hKn3
    | 4, hq => cases hq; exact hKn4
    | 5, hq => cases hq; exact hKn5
    | k + 6, hq => simp [vwCl] at hq
  obtain ⟨dA, kA, comp, hdA, hkA, hkindA⟩ := Cond.arrayClass_spec (hts _ q196)
  obtain ⟨D, hDe⟩ : ∃ D : va_G, D = (dC, dI) := ⟨_, rfl⟩
  have hK : va_K D vwCl [(dA, .double)] s := by
    rw [hDe]
    refine ⟨hKc, fun k q hk => ?_⟩
    match k, hk with
    | 0, hk => cases hk; exact ⟨fun n z => ⟨fun k h => (by cases h), kA, hkA, comp, hkindA⟩, hdA⟩
    | k + 1, hk => simp at hk
  have hN : NW s := NW.of hts0
  have hS : va_S A s.heap s.heap [] := va_S.rf
  have hP : va_P D vwCl [] s.heap := p_nil
  have hD : va_D A [] := d_nil
  have hl := lv_entry ([.ref b]) (n := 8) (Nat.le_of_ble_eq_true rfl)
  rw [lg_entry_eq]
  generalize (lg_sl ([.ref b]) ++ List.replicate (8 - (lg_sl ([.ref b])).length) Slot.unset).toArray = ls at hl ⊢
  have hl : lv_has ls 8 [(0, .ref b)] := hl
  refine va_new (ci := 0) (fs := [.long 0, .null, .null, .null, .null, .int 0]) (C := RX1) (T := TX1) (N := 6) hx hb hts in_X1 tyX1 tyX1_ok hown (hts _ q19) (hts _ q20) (hts _ q12) hK hP hD hS hA rfl (fun j hj => by rcases (show j = 0 ∨ j = 1 ∨ j = 2 ∨ j = 3 ∨ j = 4 ∨ j = 5 by omega) with rfl | rfl | rfl | rfl | rfl | rfl <;> rfl) (Nat.le_of_ble_eq_true rfl) (Nat.le_of_ble_eq_true rfl) dL_law_0 (fun a_0 H hP hD hS => ?_)
  refine W.widen (k := 1) (n := 6) (Nat.le_of_ble_eq_true rfl) (Nat.le_of_ble_eq_true rfl) ?_
  have hP : va_P D vwCl ([(a_0, .inr (0, [.long 0, .null, .null, .null, .null, .int 0]))]) H := hP
  have hD : va_D A ([(a_0, .inr (0, [.long 0, .null, .null, .null, .null, .int 0]))]) := hD
  refine lv_dup hx hb dL_law_3 rfl ?_
  refine lv_aload_n hx hb dL_law_4 rfl (lv_at hl 0 rfl) ?_
  refine lv_iconst (v := 0) hx hb dL_law_5 (by decide) ?_
  refine va_calli (va_runS (As := [.ref b, .int 0]) (rest := [.ref a_0, .ref a_0]) ⟨hx, hb, hml, hown, hts⟩ (c_cell l b L xs hL) (va_cwS 2 hts (lw_S q287 q288 q11 q289) rfl rfl rfl (by decide +kernel) ⟨Nat.le_of_ble_eq_true rfl, Nat.le_of_ble_eq_true rfl⟩) ⟨X_blind, fun U hU hW => ⟨rfl, by rw [hU]; exact (va_X.moved hW.alike hX0).kept (hS.2.1 b hbl hbA), by rw [hU]; exact Nat.lt_of_lt_of_le hbl hS.1⟩⟩ rfl rfl hl.1 rfl (lv_room (Nat.le_of_ble_eq_true rfl)) dL_law_6 ⟨Nat.le_of_ble_eq_true rfl, Nat.le_of_ble_eq_true rfl⟩) hS (fun q _ h => h.elim) (fun q h => h.elim) (fun r_6 u_6 t_6 H1 locs ht_6 hvm_6 hpo_6 hB_6 hz_6 hk_6 hS => ?_)
  have hP : va_P D vwCl ([(a_0, .inr (0, [.long 0, .null, .null, .null, .null, .int 0]))]) H1 := hP.kept (fun k9 q9 h9 => hk_6 q9.1 (hP k9 q9 h9).lt (fun h => h))
  generalize H1 = H at hP hS ⊢
  have e6 : r_6 = cl_0 L xs := hpo_6
  subst e6
  refine W.widen (k := 1) (n := 6) (Nat.le_of_ble_eq_true rfl) (Nat.le_of_ble_eq_true rfl) ?_
  refine lv_i2l hx hb dL_law_9 rfl ?_
  refine cla_v (wr := []) (wc := [(a_0, .inr (0, [.long 0, .null, .null, .null, .null, .int 0]))]) (va_runI (As := [.long ((cl_0 L xs).toInt64)]) (rest := [.ref a_0]) ⟨hx, hb, hml, hown, hts⟩ (c_init_B l D dA a_0 ((cl_0 L xs).toInt64) H.size) (cwI 1 hts (lw_meth q23) rfl rfl rfl (hts _ q12) (hts _ q21) (hts _ q22) rfl (by decide +kernel) ⟨Nat.le_of_ble_eq_true rfl, Nat.le_of_ble_eq_true rfl⟩) (pr_S hK hN (p_right (w1 := []) (w2 := [(a_0, .inr (0, [.long 0, .null, .null, .null, .null, .int 0]))]) hP) (d_right (w1 := []) (w2 := [(a_0, .inr (0, [.long 0, .null, .null, .null, .null, .int 0]))]) hD)) rfl rfl hl.1 rfl (lv_room (Nat.le_of_ble_eq_true rfl)) dL_law_10 ⟨Nat.le_of_ble_eq_true rfl, Nat.le_of_ble_eq_true rfl⟩) hS hP hD hA (fun u_10 H locs hpo_10 hP hD hS => ?_)
  refine W.widen (k := 5) (n := 11) (Nat.le_of_ble_eq_true rfl) (Nat.le_of_ble_eq_true rfl) ?_
  obtain ⟨e1, e2, e3, e4⟩ := u_10
  have hP : va_P D vwCl (cw dA a_0 e1 e2 e3 e4 (cl_0 L xs).toInt64 0 none none none) H := hP
  have hD : va_D A (cw dA a_0 e1 e2 e3 e4 (cl_0 L xs).toInt64 0 none none none) := hD
  refine lv_astore_n (lv' := [(1, .ref a_0), (0, .ref b)]) hx hb dL_law_13 rfl hl (by decide) rfl (fun ls hl => ?_)
  refine va_new (ci := 5) (fs := [.long 0, .int 0, .int 0, .int 0, .int 0, .int 0]) (C := RX7) (T := TX7) (N := 6) hx hb hts in_X7 tyX7 tyX7_ok hown (hts _ q290) (hts _ q291) (hts _ q18) hK hP hD hS hA rfl (fun j hj => by rcases (show j = 0 ∨ j = 1 ∨ j = 2 ∨ j = 3 ∨ j = 4 ∨ j = 5 by omega) with rfl | rfl | rfl | rfl | rfl | rfl <;> rfl) (Nat.le_of_ble_eq_true rfl) (Nat.le_of_ble_eq_true rfl) dL_law_14 (fun a_14 H hP hD hS => ?_)
  refine W.widen (k := 6) (n := 17) (Nat.le_of_ble_eq_true rfl) (Nat.le_of_ble_eq_true rfl) ?_
  have hP : va_P D vwCl (cw dA a_0 e1 e2 e3 e4 (cl_0 L xs).toInt64 0 none none none ++ ([(a_14, .inr (5, [.long 0, .int 0, .int 0, .int 0, .int 0, .int 0]))] : va_W)) H := hP
  have hD : va_D A (cw dA a_0 e1 e2 e3 e4 (cl_0 L xs).toInt64 0 none none none ++ ([(a_14, .inr (5, [.long 0, .int 0, .int 0, .int 0, .int 0, .int 0]))] : va_W)) := hD
  refine lv_dup hx hb dL_law_17 rfl ?_
  refine lv_aload_n hx hb dL_law_18 rfl (lv_at hl 1 rfl) ?_
  refine lv_iconst (v := 0) hx hb dL_law_19 (by decide) ?_
  refine va_calli (va_runS (As := [.ref b, .int 0]) (rest := [.ref a_14, .ref a_14]) ⟨hx, hb, hml, hown, hts⟩ (c_cell l b L xs hL) (va_cwS 2 hts (lw_S q287 q288 q11 q289) rfl rfl rfl (by decide +kernel) ⟨Nat.le_of_ble_eq_true rfl, Nat.le_of_ble_eq_true rfl⟩) ⟨X_blind, fun U hU hW => ⟨rfl, by rw [hU]; exact (va_X.moved hW.alike hX0).kept (hS.2.1 b hbl hbA), by rw [hU]; exact Nat.lt_of_lt_of_le hbl hS.1⟩⟩ rfl rfl hl.1 rfl (lv_room (Nat.le_of_ble_eq_true rfl)) dL_law_20 ⟨Nat.le_of_ble_eq_true rfl, Nat.le_of_ble_eq_true rfl⟩) hS (fun q _ h => h.elim) (fun q h => h.elim) (fun r_20 u_20 t_20 H1 locs ht_20 hvm_20 hpo_20 hB_20 hz_20 hk_20 hS => ?_)
  have hP : va_P D vwCl (cw dA a_0 e1 e2 e3 e4 (cl_0 L xs).toInt64 0 none none none ++ ([(a_14, .inr (5, [.long 0, .int 0, .int 0, .int 0, .int 0, .int 0]))] : va_W)) H1 := hP.kept (fun k9 q9 h9 => hk_20 q9.1 (hP k9 q9 h9).lt (fun h => h))
  generalize H1 = H at hP hS ⊢
  have e20 : r_20 = cl_0 L xs := hpo_20
  subst e20
  refine W.widen (k := 6) (n := 17) (Nat.le_of_ble_eq_true rfl) (Nat.le_of_ble_eq_true rfl) ?_
  refine lv_i2l hx hb dL_law_23 rfl ?_
  refine cla_v (wr := cw dA a_0 e1 e2 e3 e4 (cl_0 L xs).toInt64 0 none none none) (wc := [(a_14, .inr (5, [.long 0, .int 0, .int 0, .int 0, .int 0, .int 0]))]) (va_runI (As := [.long ((cl_0 L xs).toInt64)]) (rest := [.ref a_14]) ⟨hx, hb, hml, hown, hts⟩ (t_init l D dA a_14 ((cl_0 L xs).toInt64) H.size) (cwI 1 hts (lw_meth q294) rfl rfl rfl (hts _ q18) (hts _ q292) (hts _ q293) rfl (by decide +kernel) ⟨Nat.le_of_ble_eq_true rfl, Nat.le_of_ble_eq_true rfl⟩) (pr_S hK hN (p_right (w1 := cw dA a_0 e1 e2 e3 e4 (cl_0 L xs).toInt64 0 none none none) (w2 := [(a_14, .inr (5, [.long 0, .int 0, .int 0, .int 0, .int 0, .int 0]))]) hP) (d_right (w1 := cw dA a_0 e1 e2 e3 e4 (cl_0 L xs).toInt64 0 none none none) (w2 := [(a_14, .inr (5, [.long 0, .int 0, .int 0, .int 0, .int 0, .int 0]))]) hD)) rfl rfl hl.1 rfl (lv_room (Nat.le_of_ble_eq_true rfl)) dL_law_24 ⟨Nat.le_of_ble_eq_true rfl, Nat.le_of_ble_eq_true rfl⟩) hS hP hD hA (fun u_24 H locs hpo_24 hP hD hS => ?_)
  refine W.widen (k := 6) (n := 17) (Nat.le_of_ble_eq_true rfl) (Nat.le_of_ble_eq_true rfl) ?_
  have hP : va_P D vwCl (cw dA a_0 e1 e2 e3 e4 (cl_0 L xs).toInt64 0 none none none ++ tw a_14 (cl_0 L xs).toInt64 0 0 0 0 0) H := hP
  have hD : va_D A (cw dA a_0 e1 e2 e3 e4 (cl_0 L xs).toInt64 0 none none none ++ tw a_14 (cl_0 L xs).toInt64 0 0 0 0 0) := hD
  refine lv_astore_n (lv' := [(2, .ref a_14), (1, .ref a_0), (0, .ref b)]) hx hb dL_law_27 rfl hl (by decide) rfl (fun ls hl => ?_)
  refine lv_iconst (v := 1) hx hb dL_law_28 (by decide) ?_
  refine lv_istore_n (lv' := [(3, .int 1), (2, .ref a_14), (1, .ref a_0), (0, .ref b)]) hx hb dL_law_29 rfl hl (by decide) rfl (fun ls hl => ?_)
  have hP := p_swap hP
  have hD := d_swap hD
  exact law_loop hL C0 hK hN a_0 e1 e2 e3 e4 a_14 (cl_0 L xs).toInt64 A hAe 65 0 1 0 none none none 0 H locs ls (by decide) (by decide) hP hD hS (lv_sub hl [0, 1, 2, 3] rfl)
end
section
set_option maxRecDepth 100000
set_option maxHeartbeats 4000000 in
theorem lw_walk (l : Launch) (b : Addr) (xs : List Int32) : MetFree l x (headSpec (Jvm.Cond.code x code maxLocals ret :: tables_1) room_1) (lw_P b xs) (fun _ _ _ _ _ => True) lw_Q := by
  refine MetFree.of_bodyS (code := code) (maxLocals := maxLocals) (ret := ret) (by decide) ?_ ?_
  · intro args s m h hn
    obtain ⟨meth, c, h1, h2, h3, h4, h5, h6, -, -⟩ := Cond.code_spec hn (atoms_spec (ws := Jvm.Cond.code x code maxLocals ret :: tables_1) h _ List.mem_cons_self)
    exact ⟨meth, c, h1, h2, h3, h4, h5, h6⟩
  · intro p e s m args below meth c s₁ B hml0 hP _
    obtain ⟨rfl, hx, hbd, hgv⟩ := hP
    obtain ⟨scr, harrAt, hlist, hof, hsmall⟩ := hx
    obtain ⟨hcb, hkn, -, -⟩ := State.arrayAt?_spec harrAt
    have hown : s.vm.findClass R_law = some m.cls := findClass_of_methodNamed B.named
    have hts0 : ∀ c ∈ (Jvm.Cond.code x code maxLocals ret :: tables_1), c.before #[Value.ref b] s = true := atoms_spec (ws := Jvm.Cond.code x code maxLocals ret :: tables_1) B.pre
    have hts : ∀ w ∈ lw_tbl, w.before #[Value.ref b] s = true := k2_hts_sels lw_privs (fun w hw => hts0 w (List.mem_cons_of_mem _ hw)) lw_privs_ok
    have hml : c.maxLocals = 8 := B.maxLocals_eq (hts0 _ List.mem_cons_self)
    have X₀ : Stand p l e room_1 s m #[Value.ref b] below meth c s₁ [] 0 0 := Stand.of_body B
    have hh0 : s₁.heap = s.heap := by rw [B.state]; rfl
    have hsz : scr.slots.size = xs.length := by rw [← Array.length_toList, hlist, List.length_map]
    have hval : ∀ j : Nat, j < xs.length → scr.slots[j]? = some (.int (xs.getD j 0)) := fun j hj => by
      rw [← Array.getElem?_toList, hlist]
      simp [hj]
    have hbl : b < s.heap.size := (Array.getElem?_eq_some_iff.mp hcb).1
    have hX : va_X b xs.length (fun j => xs.getD j 0) s s.heap := ⟨scr, hcb, hof, hkn, hsz, hval⟩
    have K : W p l e room_1 s m #[Value.ref b] below meth c s₁.heap [] 0 0 (lw_Z below #[Value.ref b] s) (entryFrame m ([Value.ref b] : List Value).toArray 8) := by
      rw [hh0]
      exact whole_start l hbd ⟨B.exec, B.bytes, B.returns, hml, hown, hts, hX, hbl, B.notSynchronized, hgv⟩
    obtain ⟨t, a1, o, b1, b2, b3⟩ := K s₁ rfl X₀
    exact ⟨t, o, a1, b1, b2, b3⟩
theorem lw_pre_spec {args : Array Value} {s : State} (h : (Jvm.Cond.and given_1 narrow_1).before args s = true) (hr : rest_1_c.before args s = true) : ∃ (b : Addr) (xs : List Int32), lw_P b xs args s := by
  have hs := flat_of_before _ h
  have hq := flat_of_before _ hr
  have hc : (Cond.count 1).before args s = true := hs _ (by decide +kernel)
  have harr : (Cond.arrayOf (.arg 0) .int).before args s = true := hs _ (by decide +kernel)
  have hle : (Cond.le (.length (.arg 0)) (.int 321)).before args s = true := hs _ (by decide +kernel)
  have hlen : (Cond.isInt (.length (.arg 0))).before args s = true := hq _ (by decide +kernel)
  have hall : (Cond.all (.arg 0) (.isInt (.elem (.arg 0) (.index 0)))).before args s = true := hq _ (by decide +kernel)
  obtain ⟨b, xs, hb, hx⟩ := State.ints_of_pre rfl harr hlen hall
  have hsm : xs.length < 2 ^ 31 := hx.choose_spec.2.2.2
  have hev : (Term.length (.arg 0)).eval args s none [] s = some (.int xs.length.toInt32) := hx.length_eval hb
  have hv := Cond.le_ints hev (show (Term.int 321).eval args s none [] s = some (.int 321) from rfl)
  have hd : xs.length.toInt32 ≤ 321 := by
    simpa [Cond.before, Cond.holds, hv] using hle
  have hN : xs.length ≤ 321 := (Int32.ofNat_le_ofNat hsm (by decide)).mp (show Int32.ofNat xs.length ≤ Int32.ofNat 321 from hd)
  exact ⟨b, xs, Cond.one_arg hc (show args[0]? = some (.ref b) from hb), hx, hN, h⟩
theorem lw_comes (l : Launch) : Comes l x (Jvm.Cond.code x code maxLocals ret :: tables_1) room_1 (fun tb e args s => Calls_1 tb e args s ∧ rest_1 tb e args s ∧ Pre_1 tb e args s)
    (fun _ _ args s o t => lw_Q args s o t) := by
  intro p e ha hc hk s m args below hf hfit hheap happ hpre
  obtain ⟨b, xs, hP⟩ := lw_pre_spec hpre.2.2 hpre.2.1
  obtain ⟨k, o, h1, h2, h3, hQ⟩ := lw_walk l b xs p e ha hc hk s m args below hf ((Spec.applies_iff_loose hf).mp happ).1 hP trivial
  exact ⟨k, o, h1, h2, h3, hQ⟩
theorem lw_frame {s t : State} {o : Outcome} {args : Array Value} (h : Framed s o t [] 600000 7302250) :
    Framed s o t (fieldLocs frame_1_writes args s ++ arrayLocs frame_1_arrays args s ++ staticLocs frame_1_statics s) 600000 7302250 := h
theorem lw_limb (L : Cond) (hL : ∀ (args : Array Value) (s t : State), L.after args s (.returned (some (.int 1))) t = true) :
    ArmFor flags0 classFile x code maxLocals ret World_1 tables_1 room_1 Calls_1 rest_1 Pre_1
      (fun tb e a s o t => postC L tb e a s o t ∧ Framed s o t (fieldLocs frame_1_writes a s ++ arrayLocs frame_1_arrays a s ++ staticLocs frame_1_statics s) 600000 7302250) := by
  intro l _ _ _ p e ha hc hk s m args below hf hfit hheap happ hpre
  obtain ⟨k, o, h1, h2, h3, rfl, hF⟩ := lw_comes l p e ha hc hk s m args below hf hfit hheap happ hpre
  exact ⟨k, _, h1, h2, h3, hL args s _, lw_frame hF⟩
theorem i_vc : Claimed_1_1 ∧ Claimed_1_2 := ⟨lw_limb limb_1_1 (fun args s t => by simp [limb_1_1, Cond.after, Cond.holds, Cond.value]), lw_limb limb_1_2 (fun args s t => Cond.after_iff.mpr (by
  first | (rw [show limb_1_2 = Cond.eq .result (.int 1) from rfl, Cond.eq_ints (x := 1) (y := 1) rfl rfl]; simp; done) | (simp [limb_1_2, Cond.value, Term.eval]; done)))⟩
end
