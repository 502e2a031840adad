section
/-! PLAIN LAW 1: sums, the cost of a deviation, least fractions, the kink lemma -/
def ld_sm (f : Nat → Int) : Nat → Int
  | 0 => 0
  | n + 1 => ld_sm f n + f n
theorem ld_sm_0 (f : Nat → Int) : ld_sm f 0 = 0 := rfl
theorem ld_sm_s (f : Nat → Int) (n : Nat) : ld_sm f (n + 1) = ld_sm f n + f n := rfl
theorem ld_sm_congr {f g : Nat → Int} {n : Nat} (h : ∀ i, i < n → f i = g i) : ld_sm f n = ld_sm g n := by
  induction n with
  | zero => rfl
  | succ n ih => rw [ld_sm_s, ld_sm_s, ih (fun i hi => h i (by omega)), h n (by omega)]
theorem ld_sm_add (f g : Nat → Int) (n : Nat) : ld_sm (fun i => f i + g i) n = ld_sm f n + ld_sm g n := by
  induction n with
  | zero => rfl
  | succ n ih => simp only [ld_sm_s, ih]; omega
theorem ld_sm_sub (f g : Nat → Int) (n : Nat) : ld_sm (fun i => f i - g i) n = ld_sm f n - ld_sm g n := by
  induction n with
  | zero => rfl
  | succ n ih => simp only [ld_sm_s, ih]; omega
theorem ld_sm_mul (c : Int) (f : Nat → Int) (n : Nat) : ld_sm (fun i => c * f i) n = c * ld_sm f n := by
  induction n with
  | zero => simp [ld_sm_0]
  | succ n ih => simp only [ld_sm_s, ih, Int.mul_add]
theorem ld_sm_mulr (c : Int) (f : Nat → Int) (n : Nat) : ld_sm (fun i => f i * c) n = ld_sm f n * c := by
  induction n with
  | zero => simp [ld_sm_0]
  | succ n ih => simp only [ld_sm_s, ih, Int.add_mul]
theorem ld_sm_le {f g : Nat → Int} {n : Nat} (h : ∀ i, i < n → f i ≤ g i) : ld_sm f n ≤ ld_sm g n := by
  induction n with
  | zero => exact Int.le_refl _
  | succ n ih =>
    have h1 := ih (fun i hi => h i (by omega))
    have h2 := h n (by omega)
    rw [ld_sm_s, ld_sm_s]
    omega
theorem ld_sm_zero {f : Nat → Int} {n : Nat} (h : ∀ i, i < n → f i = 0) : ld_sm f n = 0 := by
  induction n with
  | zero => rfl
  | succ n ih => rw [ld_sm_s, ih (fun i hi => h i (by omega)), h n (by omega)]; rfl
theorem ld_sm_nonneg {f : Nat → Int} {n : Nat} (h : ∀ i, i < n → 0 ≤ f i) : 0 ≤ ld_sm f n := by
  have h1 := ld_sm_le (f := fun _ => 0) (g := f) (n := n) h
  rw [ld_sm_zero (f := fun _ => 0) (n := n) (fun _ _ => rfl)] at h1
  exact h1
theorem ld_sm_one {f : Nat → Int} {n j : Nat} (hj : j < n) (h : ∀ i, i < n → i ≠ j → f i = 0) : ld_sm f n = f j := by
  induction n with
  | zero => omega
  | succ n ih =>
    rw [ld_sm_s]
    by_cases e : j = n
    · subst e
      rw [ld_sm_zero (fun i hi => h i (by omega) (by omega))]
      omega
    · rw [ih (by omega) (fun i hi hne => h i (by omega) hne), h n (by omega) (by omega)]
      omega
/-- two sums that differ at one place -/
theorem ld_sm_but {f g : Nat → Int} {n j : Nat} (hj : j < n) (h : ∀ i, i < n → i ≠ j → f i = g i) : ld_sm f n - f j = ld_sm g n - g j := by
  have h1 := ld_sm_one (f := fun i => f i - g i) hj (fun i hi hne => by rw [h i hi hne]; omega)
  rw [ld_sm_sub] at h1
  omega
theorem ld_sm_swap (f : Nat → Nat → Int) (n m : Nat) : ld_sm (fun i => ld_sm (fun j => f i j) m) n = ld_sm (fun j => ld_sm (fun i => f i j) n) m := by
  induction n with
  | zero => rw [ld_sm_0]; exact (ld_sm_zero (fun j _ => rfl)).symm
  | succ n ih =>
    rw [ld_sm_s, ih, ← ld_sm_add]
    exact ld_sm_congr (fun j _ => rfl)
theorem ld_sm_pos {f : Nat → Int} {n : Nat} (h : 0 < ld_sm f n) : ∃ i, i < n ∧ 0 < f i := by
  induction n with
  | zero => rw [ld_sm_0] at h; omega
  | succ n ih =>
    rw [ld_sm_s] at h
    by_cases e : 0 < f n
    · exact ⟨n, by omega, e⟩
    · obtain ⟨i, h1, h2⟩ := ih (by omega)
      exact ⟨i, by omega, h2⟩
theorem ld_sm_bd {f : Nat → Int} {n : Nat} {B : Int} (h : ∀ i, i < n → -B ≤ f i ∧ f i ≤ B) : -((n : Int) * B) ≤ ld_sm f n ∧ ld_sm f n ≤ (n : Int) * B := by
  induction n with
  | zero => rw [ld_sm_0]; simp
  | succ n ih =>
    obtain ⟨h1, h2⟩ := ih (fun i hi => h i (by omega))
    obtain ⟨h3, h4⟩ := h n (by omega)
    have e : ((n + 1 : Nat) : Int) * B = (n : Int) * B + B := by
      rw [Int.natCast_add, Int.add_mul]; simp
    rw [ld_sm_s, e]
    omega
/-- a term of a sum of terms not below 0 -/
theorem ld_sm_neg {f : Nat → Int} {n j : Nat} (hj : j < n) (h : ∀ i, i < n → f i ≤ 0) (hn : f j < 0) : ld_sm f n < 0 := by
  have h1 := ld_sm_but (f := f) (g := fun i => if i = j then 0 else f i) hj (fun i _ hne => by simp [hne])
  have h2 : ld_sm (fun i => if i = j then 0 else f i) n ≤ ld_sm (fun _ => 0) n := ld_sm_le (fun i hi => by
    by_cases e : i = j
    · simp [e]
    · simp [e]; exact h i hi)
  rw [ld_sm_zero (f := fun _ => 0) (n := n) (fun _ _ => rfl)] at h2
  simp only [if_true] at h1
  omega
/-! the cost of a deviation -/
def ld_cst (k d : Int) : Int := if 0 < d then k * d else (k - 4) * d
def ld_k (k : Int) : Prop := k = 1 ∨ k = 2 ∨ k = 3
theorem ld_cst_ge1 {k : Int} (hk : ld_k k) (d : Int) : k * d ≤ ld_cst k d := by
  unfold ld_cst
  rcases hk with rfl | rfl | rfl <;> split <;> omega
theorem ld_cst_ge2 {k : Int} (hk : ld_k k) (d : Int) : (k - 4) * d ≤ ld_cst k d := by
  unfold ld_cst
  rcases hk with rfl | rfl | rfl <;> split <;> omega
theorem ld_cst_nonneg {k : Int} (hk : ld_k k) (d : Int) : 0 ≤ ld_cst k d := by
  unfold ld_cst
  rcases hk with rfl | rfl | rfl <;> split <;> omega
theorem ld_cst_p {k : Int} {d : Int} (h : 0 ≤ d) : ld_cst k d = k * d := by
  unfold ld_cst
  split
  · rfl
  · rw [show d = 0 by omega]; simp
theorem ld_cst_n {k : Int} {d : Int} (h : d ≤ 0) : ld_cst k d = (k - 4) * d := by
  unfold ld_cst
  split
  · omega
  · rfl
theorem ld_cst_add {k : Int} (hk : ld_k k) (a b : Int) : ld_cst k (a + b) ≤ ld_cst k a + ld_cst k b := by
  unfold ld_cst
  rcases hk with rfl | rfl | rfl <;> split <;> split <;> split <;> omega
theorem ld_cst_mul (k : Int) {m : Int} (hm : 0 ≤ m) (d : Int) : ld_cst k (m * d) = m * ld_cst k d := by
  by_cases h : 0 < d
  · rw [ld_cst_p (Int.mul_nonneg hm (by omega)), ld_cst_p (by omega)]
    grind
  · rw [ld_cst_n (Int.mul_nonpos_of_nonneg_of_nonpos hm (by omega)), ld_cst_n (by omega)]
    grind
theorem ld_cst_uv {k : Int} (hk : ld_k k) {u v : Int} (hu : 0 ≤ u) (hv : 0 ≤ v) : ld_cst k (u - v) ≤ k * u + (4 - k) * v := by
  unfold ld_cst
  rcases hk with rfl | rfl | rfl <;> split <;> omega
theorem ld_cst_bd {k : Int} (hk : ld_k k) {d B : Int} (h : -B ≤ d ∧ d ≤ B) : 0 ≤ ld_cst k d ∧ ld_cst k d ≤ 3 * B := by
  unfold ld_cst
  rcases hk with rfl | rfl | rfl <;> split <;> omega
/-! fractions by cross products -/
theorem ld_mono {a b c : Int} (h : a ≤ b) (hc : 0 ≤ c) : a * c ≤ b * c := Int.mul_le_mul_of_nonneg_right h hc
theorem ld_canc {a b c : Int} (hc : 0 < c) (h : a * c ≤ b * c) : a ≤ b := Int.le_of_mul_le_mul_right h hc
theorem ld_monoS {a b c : Int} (h : a < b) (hc : 0 < c) : a * c < b * c := Int.mul_lt_mul_of_pos_right h hc
theorem ld_cancS {a b c : Int} (hc : 0 ≤ c) (h : a * c < b * c) : a < b := Int.lt_of_mul_lt_mul_right h hc
theorem ld_cancE {a b c : Int} (hc : 0 < c) (h : a * c = b * c) : a = b := Int.eq_of_mul_eq_mul_right (by omega) h
theorem ld_frac {a1 b1 a2 b2 a3 b3 : Int} (h1 : 0 < b1) (h2 : 0 < b2) (h3 : 0 < b3) (h12 : a1 * b2 ≤ a2 * b1) (h23 : a2 * b3 ≤ a3 * b2) : a1 * b3 ≤ a3 * b1 := by
  have e1 := ld_mono h12 (Int.le_of_lt h3)
  have e2 := ld_mono h23 (Int.le_of_lt h1)
  refine ld_canc h2 ?_
  have e3 : a1 * b3 * b2 = a1 * b2 * b3 := by grind
  have e4 : a2 * b1 * b3 = a2 * b3 * b1 := by grind
  have e5 : a3 * b2 * b1 = a3 * b1 * b2 := by grind
  omega
theorem ld_fracS {a1 b1 a2 b2 a3 b3 : Int} (h1 : 0 < b1) (h2 : 0 < b2) (h3 : 0 < b3) (h12 : a1 * b2 < a2 * b1) (h23 : a2 * b3 ≤ a3 * b2) : a1 * b3 < a3 * b1 := by
  have e1 := ld_monoS h12 h3
  have e2 := ld_mono h23 (Int.le_of_lt h1)
  refine ld_cancS (Int.le_of_lt h2) ?_
  have e3 : a1 * b3 * b2 = a1 * b2 * b3 := by grind
  have e4 : a2 * b1 * b3 = a2 * b3 * b1 := by grind
  have e5 : a3 * b2 * b1 = a3 * b1 * b2 := by grind
  omega
theorem ld_argmin (R : Nat → Prop) (a b : Nat → Int) (n : Nat) (hb : ∀ i, i < n → R i → 0 < b i) (hne : ∃ i, i < n ∧ R i) : ∃ i, i < n ∧ R i ∧ ∀ j, j < n → R j → a i * b j ≤ a j * b i := by
  induction n with
  | zero => obtain ⟨i, h, -⟩ := hne; omega
  | succ n ih =>
    by_cases h : ∃ i, i < n ∧ R i
    · obtain ⟨i, h1, h2, h3⟩ := ih (fun i hi => hb i (by omega)) h
      by_cases hn : R n
      · by_cases hc : a i * b n ≤ a n * b i
        · refine ⟨i, by omega, h2, fun j hj hR => ?_⟩
          by_cases e : j = n
          · subst e; exact hc
          · exact h3 j (by omega) hR
        · refine ⟨n, by omega, hn, fun j hj hR => ?_⟩
          by_cases e : j = n
          · subst e; exact Int.le_refl _
          · exact ld_frac (hb n (by omega) hn) (hb i (by omega) h2) (hb j hj hR) (by omega) (h3 j (by omega) hR)
      · refine ⟨i, by omega, h2, fun j hj hR => ?_⟩
        by_cases e : j = n
        · subst e; exact absurd hR hn
        · exact h3 j (by omega) hR
    · obtain ⟨i, h1, h2⟩ := hne
      have e : i = n := by
        by_cases e : i < n
        · exact absurd ⟨i, e, h2⟩ h
        · omega
      subst e
      refine ⟨i, h1, h2, fun j hj hR => ?_⟩
      by_cases e : j = i
      · subst e; exact Int.le_refl _
      · exact absurd ⟨j, by omega, hR⟩ h
/-! the kink lemma: a sum of costs of affine functions of t = P / Q is at some kink as small as at t -/
def ld_kP (α β : Int) : Int := if 0 < β then α else -α
def ld_kQ (β : Int) : Int := if 0 < β then β else -β
theorem ld_kQ_pos {β : Int} (h : β ≠ 0) : 0 < ld_kQ β := by unfold ld_kQ; split <;> omega
theorem ld_kink_sum {k : Int} {n : Nat} {α β : Nat → Int} {P Q P' Q' δ : Int} (hQ : 0 < Q) (m : Nat → Int) (hδ : P' * Q - P * Q' = δ) (hδ0 : 0 ≤ δ)
    (h1 : ∀ j, j < n → ld_cst k (Q * α j - P * β j) = m j * (Q * α j - P * β j)) (h2 : ∀ j, j < n → ld_cst k (Q' * (Q * α j - P * β j) - β j * δ) = m j * (Q' * (Q * α j - P * β j) - β j * δ))
    (hS : 0 ≤ ld_sm (fun j => m j * β j) n) : ld_sm (fun j => ld_cst k (Q' * α j - P' * β j)) n * Q ≤ ld_sm (fun j => ld_cst k (Q * α j - P * β j)) n * Q' := by
  have e1 : ld_sm (fun j => ld_cst k (Q' * α j - P' * β j)) n * Q = ld_sm (fun j => m j * (Q' * (Q * α j - P * β j) - β j * δ)) n := by
    rw [Int.mul_comm, ← ld_sm_mul]
    refine ld_sm_congr (fun j hj => ?_)
    rw [← h2 j hj, ← ld_cst_mul k (Int.le_of_lt hQ)]
    congr 1
    rw [← hδ]
    grind
  have e2 : ld_sm (fun j => m j * (Q' * (Q * α j - P * β j) - β j * δ)) n = Q' * ld_sm (fun j => m j * (Q * α j - P * β j)) n - δ * ld_sm (fun j => m j * β j) n := by
    rw [← ld_sm_mul, ← ld_sm_mul, ← ld_sm_sub]
    exact ld_sm_congr (fun j _ => by grind)
  have e3 : ld_sm (fun j => ld_cst k (Q * α j - P * β j)) n = ld_sm (fun j => m j * (Q * α j - P * β j)) n := ld_sm_congr h1
  have e4 := Int.mul_nonneg hδ0 hS
  rw [e1, e2, e3, Int.mul_comm Q']
  omega
theorem ld_kink_R {k : Int} (hk : ld_k k) {n : Nat} {α β : Nat → Int} {P Q : Int} (hQ : 0 < Q) (hb : ∃ i, i < n ∧ β i ≠ 0) (hz : ∀ j, j < n → β j ≠ 0 → Q * α j - P * β j ≠ 0)
    (hS : 0 ≤ ld_sm (fun j => (if 0 < Q * α j - P * β j then k else k - 4) * β j) n) :
    ∃ i, i < n ∧ β i ≠ 0 ∧ ld_sm (fun j => ld_cst k (ld_kQ (β i) * α j - ld_kP (α i) (β i) * β j)) n * Q ≤ ld_sm (fun j => ld_cst k (Q * α j - P * β j)) n * ld_kQ (β i) := by
  have key : ∃ i, i < n ∧ (β i ≠ 0 ∧ 0 < (Q * α i - P * β i) * β i) := by
    by_cases h : ∃ i, i < n ∧ (β i ≠ 0 ∧ 0 < (Q * α i - P * β i) * β i)
    · exact h
    · exfalso
      obtain ⟨i, hi, hbi⟩ := hb
      have sgn : ∀ j, j < n → β j ≠ 0 → (if 0 < Q * α j - P * β j then k else k - 4) * β j < 0 := by
        intro j hj hbj
        have h1 := hz j hj hbj
        generalize hd : Q * α j - P * β j = dv at h1 ⊢
        have h2 : ¬ 0 < dv * β j := fun hp => h ⟨j, hj, hbj, by rw [hd]; exact hp⟩
        by_cases hp : 0 < dv
        · have : β j < 0 := by
            by_cases hb0 : 0 < β j
            · exact absurd (Int.mul_pos hp hb0) h2
            · omega
          rw [if_pos hp]
          rcases hk with rfl | rfl | rfl <;> omega
        · have : 0 < β j := by
            by_cases hb0 : β j < 0
            · exact absurd (Int.mul_pos_of_neg_of_neg (show dv < 0 by omega) hb0) h2
            · omega
          rw [if_neg hp]
          rcases hk with rfl | rfl | rfl <;> omega
      have := ld_sm_neg (f := fun j => (if 0 < Q * α j - P * β j then k else k - 4) * β j) hi (fun j hj => by
        by_cases e : β j = 0
        · rw [e]; simp
        · exact Int.le_of_lt (sgn j hj e)) (sgn i hi hbi)
      omega
  have kqd : ∀ j, β j ≠ 0 → 0 < (Q * α j - P * β j) * β j → ld_kP (α j) (β j) * Q - P * ld_kQ (β j) = ld_kQ (Q * α j - P * β j) := by
    intro j hbj hp
    unfold ld_kP ld_kQ
    by_cases h0 : 0 < β j
    · have h1 : 0 < Q * α j - P * β j := by
        by_cases h2 : 0 < Q * α j - P * β j
        · exact h2
        · exact absurd hp (by have := Int.mul_nonpos_of_nonpos_of_nonneg (show Q * α j - P * β j ≤ 0 by omega) (Int.le_of_lt h0); omega)
      rw [if_pos h0, if_pos h0, if_pos h1]
      grind
    · have h1 : ¬ 0 < Q * α j - P * β j := by
        intro h2
        have := Int.mul_nonpos_of_nonneg_of_nonpos (Int.le_of_lt h2) (show β j ≤ 0 by omega)
        omega
      rw [if_neg h0, if_neg h0, if_neg h1]
      grind
  obtain ⟨i, hi, ⟨hbi, hpi⟩, hmin⟩ := ld_argmin (fun j => β j ≠ 0 ∧ 0 < (Q * α j - P * β j) * β j) (fun j => ld_kQ (Q * α j - P * β j)) (fun j => ld_kQ (β j)) n (fun j _ h => ld_kQ_pos h.1) key
  refine ⟨i, hi, hbi, ?_⟩
  have hq0 := ld_kQ_pos hbi
  have hd0 : 0 < ld_kQ (Q * α i - P * β i) := ld_kQ_pos (hz i hi hbi)
  refine ld_kink_sum hQ (fun j => if 0 < Q * α j - P * β j then k else k - 4) (kqd i hbi hpi) (Int.le_of_lt hd0) (fun j hj => ?_) (fun j hj => ?_) hS
  · by_cases h : 0 < Q * α j - P * β j
    · simp only [if_pos h]; exact ld_cst_p (Int.le_of_lt h)
    · simp only [if_neg h]; exact ld_cst_n (by omega)
  · have hm := hmin j hj
    have hz2 := hz j hj
    generalize Q * α j - P * β j = dv at hm hz2 ⊢
    generalize ld_kQ (Q * α i - P * β i) = δ at hm hd0 ⊢
    generalize ld_kQ (β i) = q at hm hq0 ⊢
    by_cases h : 0 < dv
    · simp only [if_pos h]
      refine ld_cst_p ?_
      by_cases hb0 : 0 < β j
      · have h1 := hm ⟨by omega, Int.mul_pos h hb0⟩
        simp only [ld_kQ, if_pos h, if_pos hb0] at h1
        have e1 : q * dv = dv * q := Int.mul_comm _ _
        have e2 : β j * δ = δ * β j := Int.mul_comm _ _
        omega
      · have h1 := Int.mul_nonneg (Int.le_of_lt hq0) (Int.le_of_lt h)
        have h2 := Int.mul_nonpos_of_nonpos_of_nonneg (show β j ≤ 0 by omega) (Int.le_of_lt hd0)
        omega
    · simp only [if_neg h]
      refine ld_cst_n ?_
      by_cases hb0 : β j = 0
      · rw [hb0]
        have h1 := Int.mul_nonpos_of_nonneg_of_nonpos (Int.le_of_lt hq0) (show dv ≤ 0 by omega)
        omega
      · have hz3 := hz2 hb0
        by_cases hb1 : 0 < β j
        · have h1 := Int.mul_nonpos_of_nonneg_of_nonpos (Int.le_of_lt hq0) (show dv ≤ 0 by omega)
          have h2 := Int.mul_nonneg (Int.le_of_lt hb1) (Int.le_of_lt hd0)
          omega
        · have h1 := hm ⟨hb0, Int.mul_pos_of_neg_of_neg (by omega) (by omega)⟩
          simp only [ld_kQ, if_neg h, if_neg hb1] at h1
          have e1 : -dv * q = -(q * dv) := by grind
          have e2 : δ * -β j = -(β j * δ) := by grind
          omega
theorem ld_kink {k : Int} (hk : ld_k k) {n : Nat} {α β : Nat → Int} {P Q : Int} (hQ : 0 < Q) (hb : ∃ i, i < n ∧ β i ≠ 0) :
    ∃ i, i < n ∧ β i ≠ 0 ∧ ld_sm (fun j => ld_cst k (ld_kQ (β i) * α j - ld_kP (α i) (β i) * β j)) n * Q ≤ ld_sm (fun j => ld_cst k (Q * α j - P * β j)) n * ld_kQ (β i) := by
  by_cases hz : ∀ j, j < n → β j ≠ 0 → Q * α j - P * β j ≠ 0
  · by_cases hS : 0 ≤ ld_sm (fun j => (if 0 < Q * α j - P * β j then k else k - 4) * β j) n
    · exact ld_kink_R hk hQ hb hz hS
    · have hdev : ∀ j, Q * α j - -P * -β j = Q * α j - P * β j := fun j => by grind
      obtain ⟨i, hi, hbi, h⟩ := ld_kink_R hk (n := n) (α := α) (β := fun j => -β j) (P := -P) (Q := Q) hQ (by obtain ⟨i, h1, h2⟩ := hb; exact ⟨i, h1, by omega⟩) (fun j hj hbj => by rw [hdev]; exact hz j hj (by omega)) (by
        have e : ld_sm (fun j => (if 0 < Q * α j - -P * -β j then k else k - 4) * -β j) n = (-1) * ld_sm (fun j => (if 0 < Q * α j - P * β j then k else k - 4) * β j) n := by
          rw [← ld_sm_mul]
          exact ld_sm_congr (fun j _ => by simp only [hdev]; grind)
        rw [e]
        omega)
      refine ⟨i, hi, by omega, ?_⟩
      have hbi0 : β i ≠ 0 := by omega
      have e1 : ld_kQ (-β i) = ld_kQ (β i) := by unfold ld_kQ; split <;> split <;> omega
      have e2 : ld_kP (α i) (-β i) = -ld_kP (α i) (β i) := by unfold ld_kP; split <;> split <;> omega
      have e3 : ld_sm (fun j => ld_cst k (ld_kQ (-β i) * α j - ld_kP (α i) (-β i) * -β j)) n = ld_sm (fun j => ld_cst k (ld_kQ (β i) * α j - ld_kP (α i) (β i) * β j)) n := ld_sm_congr (fun j _ => by
        rw [e1, e2]; congr 1; grind)
      have e4 : ld_sm (fun j => ld_cst k (Q * α j - -P * -β j)) n = ld_sm (fun j => ld_cst k (Q * α j - P * β j)) n := ld_sm_congr (fun j _ => by rw [hdev])
      have h' := h
      rw [e3, e4, e1] at h'
      exact h'
  · have hz' : ∃ i, i < n ∧ β i ≠ 0 ∧ Q * α i - P * β i = 0 := by
      apply Classical.byContradiction
      intro hc
      exact hz (fun j hj hbj e => hc ⟨j, hj, hbj, e⟩)
    obtain ⟨i, hi, hbi, h0⟩ := hz'
    refine ⟨i, hi, hbi, ?_⟩
    have hq0 := ld_kQ_pos hbi
    have e1 : ld_kP (α i) (β i) * Q = P * ld_kQ (β i) := by
      unfold ld_kP ld_kQ
      split
      · rw [Int.mul_comm]; omega
      · have : -α i * Q = -(Q * α i) := by grind
        have : P * -β i = -(P * β i) := by grind
        omega
    rw [Int.mul_comm, Int.mul_comm _ (ld_kQ (β i)), ← ld_sm_mul, ← ld_sm_mul]
    refine Int.le_of_eq (ld_sm_congr (fun j _ => ?_))
    rw [← ld_cst_mul k (Int.le_of_lt hQ), ← ld_cst_mul k (Int.le_of_lt hq0)]
    congr 1
    grind
end
section
/-! PLAIN LAW 2: the quantile, the first rise, candidates and least fractions, fractions in lowest terms -/
theorem ld_cst_m {k m : Int} (x : Int) (h1 : k - 4 ≤ m) (h2 : m ≤ k) : m * x ≤ ld_cst k x := by
  by_cases h : 0 ≤ x
  · rw [ld_cst_p h]; exact ld_mono h2 h
  · rw [ld_cst_n (by omega)]
    have e := Int.mul_le_mul_of_nonneg_right h1 (show 0 ≤ -x by omega)
    have e1 : (k - 4) * -x = -((k - 4) * x) := by grind
    have e2 : m * -x = -(m * x) := by grind
    omega
theorem ld_sm_three (a b c : Int) (p N : Nat) : ld_sm (fun i => if i < p then a else if i = p then b else c) N = if N ≤ p then (N : Int) * a else (p : Int) * a + b + ((N : Int) - 1 - p) * c := by
  induction N with
  | zero => simp [ld_sm_0]
  | succ N ih =>
    rw [ld_sm_s, ih]
    by_cases h1 : N + 1 ≤ p
    · rw [if_pos (show N ≤ p by omega), if_pos h1]
      simp only [if_pos (show N < p by omega)]
      rw [Int.natCast_add, Int.add_mul]; simp
    · rw [if_neg h1]
      by_cases h2 : N = p
      · subst h2
        rw [if_pos (Nat.le_refl _)]
        simp only [if_neg (Nat.lt_irrefl _), if_true]
        rw [show ((N + 1 : Nat) : Int) - 1 - (N : Int) = 0 by omega]; simp
      · rw [if_neg (show ¬ N ≤ p by omega)]
        simp only [if_neg (show ¬ N < p by omega), if_neg h2]
        rw [show ((N + 1 : Nat) : Int) - 1 - (p : Int) = ((N : Int) - 1 - p) + 1 by omega, Int.add_mul ((N : Int) - 1 - p) 1 c]
        omega
/-- the height that leaves k parts in four above is the best one -/
theorem ld_quant {k : Int} (hk : ld_k k) {n p : Nat} (hp : p < n) (D : Nat → Int) (hs : ∀ i j, i ≤ j → j < n → D i ≤ D j) (h1 : 4 * (p : Int) ≤ k * n) (h2 : k * n ≤ 4 * ((p : Int) + 1)) (h : Int) :
    ld_sm (fun i => ld_cst k (D i - D p)) n ≤ ld_sm (fun i => ld_cst k (D i - h)) n := by
  obtain ⟨m, hm⟩ : ∃ m : Nat → Int, m = fun i => if i < p then k - 4 else if i = p then 4 * (p : Int) + k - n * k else k := ⟨_, rfl⟩
  have hm0 : ld_sm m n = 0 := by
    rw [hm, ld_sm_three, if_neg (by omega)]
    rcases hk with rfl | rfl | rfl <;> omega
  have hmb : ∀ i, k - 4 ≤ m i ∧ m i ≤ k := by
    intro i
    rw [hm]
    by_cases a1 : i < p
    · simp only [if_pos a1]; omega
    · by_cases a2 : i = p
      · simp only [if_neg a1, if_pos a2]
        rw [Int.mul_comm (n : Int) k]
        omega
      · simp only [if_neg a1, if_neg a2]; omega
  have hsum : ∀ y : Int, ld_sm (fun i => m i * (D i - y)) n = ld_sm (fun i => m i * D i) n := by
    intro y
    have e : ld_sm (fun i => m i * (D i - y)) n = ld_sm (fun i => m i * D i) n - ld_sm m n * y := by
      rw [← ld_sm_mulr, ← ld_sm_sub]
      exact ld_sm_congr (fun i _ => by grind)
    rw [e, hm0]; omega
  have e1 : ld_sm (fun i => ld_cst k (D i - D p)) n = ld_sm (fun i => m i * (D i - D p)) n := by
    refine ld_sm_congr (fun i hi => ?_)
    by_cases a1 : i < p
    · have := hs i p (by omega) hp
      rw [ld_cst_n (by omega), hm]; simp only [if_pos a1]
    · by_cases a2 : i = p
      · subst a2
        rw [show D i - D i = 0 by omega, ld_cst_n (Int.le_refl _)]; simp
      · have := hs p i (by omega) hi
        rw [ld_cst_p (by omega), hm]; simp only [if_neg a1, if_neg a2]
  rw [e1, hsum, ← hsum h]
  exact ld_sm_le (fun i _ => ld_cst_m _ (hmb i).1 (hmb i).2)
/-- behind the first rise nothing is lower -/
theorem ld_stop {F : Int → Int → Int} (hadd : ∀ p q p' q', F (p + p') (q + q') ≤ F p q + F p' q') (hmul : ∀ m p q, 0 ≤ m → F (m * p) (m * q) = m * F p q) {p0 q0 p1 q1 p2 q2 : Int} (hq0 : 0 < q0) (hq1 : 0 < q1) (hq2 : 0 < q2)
    (h01 : p0 * q1 ≤ p1 * q0) (h12 : p1 * q2 ≤ p2 * q1) (hr : F p0 q0 * q1 < F p1 q1 * q0) : F p0 q0 * q2 ≤ F p2 q2 * q0 := by
  obtain ⟨A, hA⟩ : ∃ A, A = p1 * q0 - p0 * q1 := ⟨_, rfl⟩
  obtain ⟨B, hB⟩ : ∃ B, B = p2 * q1 - p1 * q2 := ⟨_, rfl⟩
  obtain ⟨C, hC⟩ : ∃ C, C = p2 * q0 - p0 * q2 := ⟨_, rfl⟩
  have i1 : C * p1 = B * p0 + A * p2 := by rw [hA, hB, hC]; grind
  have i2 : C * q1 = B * q0 + A * q2 := by rw [hA, hB, hC]; grind
  have hA0 : 0 ≤ A := by omega
  have hB0 : 0 ≤ B := by omega
  have hAp : 0 < A := by
    by_cases e : A = 0
    · exfalso
      have e1 : q0 * p1 = q1 * p0 := by
        have : p1 * q0 = p0 * q1 := by omega
        grind
      have e2 := hmul q0 p1 q1 (by omega)
      have e3 := hmul q1 p0 q0 (by omega)
      rw [e1, Int.mul_comm q0 q1, e3] at e2
      rw [Int.mul_comm (F p0 q0), Int.mul_comm (F p1 q1)] at hr
      omega
    · omega
  have hCp : 0 < C := by
    have a1 := Int.mul_nonneg hB0 (Int.le_of_lt hq0)
    have a2 := Int.mul_pos hAp hq2
    by_cases e : 0 < C
    · exact e
    · have := Int.mul_nonpos_of_nonpos_of_nonneg (show C ≤ 0 by omega) (Int.le_of_lt hq1)
      omega
  have f1 : C * F p1 q1 ≤ B * F p0 q0 + A * F p2 q2 := by
    rw [← hmul C p1 q1 (by omega), ← hmul B p0 q0 hB0, ← hmul A p2 q2 hA0, i1, i2]
    exact hadd _ _ _ _
  have f2 := ld_mono f1 (Int.le_of_lt hq0)
  have f3 := ld_monoS hr hCp
  have f4 : C * F p1 q1 * q0 = F p1 q1 * q0 * C := by grind
  have f5 : F p0 q0 * q1 * C = F p0 q0 * (B * q0 + A * q2) := by rw [← i2]; grind
  have f6 : (B * F p0 q0 + A * F p2 q2) * q0 = F p0 q0 * (B * q0) + F p2 q2 * q0 * A := by grind
  have f7 : F p0 q0 * (B * q0 + A * q2) = F p0 q0 * (B * q0) + F p0 q0 * q2 * A := by grind
  exact ld_canc hAp (by omega)
/-! lines through a point -/
def ld_ct (n : Nat) (X Y : Nat → Int) (k : Int) (i : Nat) (p q : Int) : Int := ld_sm (fun j => ld_cst k (q * (Y j - Y i) - p * (X j - X i))) n
theorem ld_ct_add {k : Int} (hk : ld_k k) (n : Nat) (X Y : Nat → Int) (i : Nat) (p q p' q' : Int) : ld_ct n X Y k i (p + p') (q + q') ≤ ld_ct n X Y k i p q + ld_ct n X Y k i p' q' := by
  unfold ld_ct
  rw [← ld_sm_add]
  refine ld_sm_le (fun j _ => ?_)
  rw [show (q + q') * (Y j - Y i) - (p + p') * (X j - X i) = (q * (Y j - Y i) - p * (X j - X i)) + (q' * (Y j - Y i) - p' * (X j - X i)) by grind]
  exact ld_cst_add hk _ _
theorem ld_ct_mul (k : Int) (n : Nat) (X Y : Nat → Int) (i : Nat) (m p q : Int) (hm : 0 ≤ m) : ld_ct n X Y k i (m * p) (m * q) = m * ld_ct n X Y k i p q := by
  unfold ld_ct
  rw [← ld_sm_mul]
  refine ld_sm_congr (fun j _ => ?_)
  rw [← ld_cst_mul k hm]
  congr 1
  grind
theorem ld_ct_nonneg {k : Int} (hk : ld_k k) (n : Nat) (X Y : Nat → Int) (i : Nat) (p q : Int) : 0 ≤ ld_ct n X Y k i p q := ld_sm_nonneg (fun _ _ => ld_cst_nonneg hk _)
theorem ld_ct_bd {k : Int} (hk : ld_k k) {n : Nat} {X Y : Nat → Int} {i : Nat} {p q P Q : Int} (hn : n ≤ 8) (hi : i < n) (hX : ∀ j, j < n → -20 ≤ X j ∧ X j ≤ 20) (hY : ∀ j, j < n → -20 ≤ Y j ∧ Y j ≤ 20) (hp : -P ≤ p ∧ p ≤ P) (hq : -Q ≤ q ∧ q ≤ Q) :
    0 ≤ ld_ct n X Y k i p q ∧ ld_ct n X Y k i p q ≤ 960 * (P + Q) := by
  refine ⟨ld_ct_nonneg hk n X Y i p q, ?_⟩
  have hb : ∀ j, j < n → -(3 * (40 * (P + Q))) ≤ ld_cst k (q * (Y j - Y i) - p * (X j - X i)) ∧ ld_cst k (q * (Y j - Y i) - p * (X j - X i)) ≤ 3 * (40 * (P + Q)) := by
    intro j hj
    have a1 := hX j hj
    have a2 := hY j hj
    have a3 := hX i hi
    have a4 := hY i hi
    have mb : ∀ (a b A : Int), -A ≤ a ∧ a ≤ A → -40 ≤ b ∧ b ≤ 40 → -(40 * A) ≤ a * b ∧ a * b ≤ 40 * A := by
      intro a b A ha hb
      have t1 := Int.mul_nonneg (show 0 ≤ A - a by omega) (show 0 ≤ 40 - b by omega)
      have t2 := Int.mul_nonneg (show 0 ≤ A + a by omega) (show 0 ≤ 40 + b by omega)
      have t3 := Int.mul_nonneg (show 0 ≤ A - a by omega) (show 0 ≤ 40 + b by omega)
      have t4 := Int.mul_nonneg (show 0 ≤ A + a by omega) (show 0 ≤ 40 - b by omega)
      have s1 : (A - a) * (40 - b) = 40 * A - A * b - 40 * a + a * b := by grind
      have s2 : (A + a) * (40 + b) = 40 * A + A * b + 40 * a + a * b := by grind
      have s3 : (A - a) * (40 + b) = 40 * A + A * b - 40 * a - a * b := by grind
      have s4 : (A + a) * (40 - b) = 40 * A - A * b + 40 * a - a * b := by grind
      omega
    have b1 := mb q (Y j - Y i) Q hq (by omega)
    have b2 := mb p (X j - X i) P hp (by omega)
    have b3 := ld_cst_bd hk (d := q * (Y j - Y i) - p * (X j - X i)) (B := 40 * (P + Q)) (by omega)
    omega
  have h1 := (ld_sm_bd hb).2
  unfold ld_ct
  have h2 : (n : Int) * (3 * (40 * (P + Q))) ≤ 8 * (3 * (40 * (P + Q))) := ld_mono (by omega) (by omega)
  omega
/-- what the lines through point i cost: numerator and denominator -/
def ld_cand (n : Nat) (X Y : Nat → Int) (k : Int) (i : Nat) (t b : Int) : Prop :=
  (∃ j, j < n ∧ X j ≠ X i ∧ b = ld_kQ (X j - X i) ∧ t = ld_ct n X Y k i (ld_kP (Y j - Y i) (X j - X i)) (ld_kQ (X j - X i))) ∨ ((∀ j, j < n → X j = X i) ∧ t = ld_ct n X Y k i 0 1 ∧ b = 1)
theorem ld_cand_pos {n : Nat} {X Y : Nat → Int} {k : Int} {i : Nat} {t b : Int} (h : ld_cand n X Y k i t b) : 0 < b := by
  rcases h with ⟨j, -, h2, rfl, -⟩ | ⟨-, -, rfl⟩
  · exact ld_kQ_pos (by omega)
  · decide
/-- (t, b) is as a fraction the least of a set of fractions; 0 if there is none -/
def ld_min (C : Int → Int → Prop) (t b : Int) : Prop := 0 < b ∧ 0 ≤ t ∧ (∀ t' b', C t' b' → t * b' ≤ t' * b) ∧ ((∃ t' b', C t' b') → ∃ t' b', C t' b' ∧ t * b' = t' * b) ∧ ((∀ t' b', ¬ C t' b') → t = 0)
theorem ld_min_le {C : Int → Int → Prop} (hC : ∀ t b, C t b → 0 < b) {t b t' b' : Int} (h : ld_min C t b) (h' : ld_min C t' b') : t * b' ≤ t' * b := by
  obtain ⟨hb, ht, hl, ha, hn⟩ := h
  obtain ⟨hb', ht', hl', ha', hn'⟩ := h'
  by_cases e : ∃ t' b', C t' b'
  · obtain ⟨t1, b1, h1, h2⟩ := ha' e
    have h3 := hl t1 b1 h1
    exact ld_frac hb (hC _ _ h1) hb' h3 (by rw [h2]; exact Int.le_refl _)
  · have e' : ∀ t' b', ¬ C t' b' := fun t' b' h => e ⟨t', b', h⟩
    rw [hn e', hn' e']
    omega
theorem ld_min_eq {C : Int → Int → Prop} (hC : ∀ t b, C t b → 0 < b) {t b t' b' : Int} (h : ld_min C t b) (h' : ld_min C t' b') : t * b' = t' * b := by
  have h1 := ld_min_le hC h h'
  have h2 := ld_min_le hC h' h
  omega
def ld_all (n : Nat) (X Y : Nat → Int) (k : Int) (t b : Int) : Prop := ∃ i, i < n ∧ ld_cand n X Y k i t b
theorem ld_all_pos {n : Nat} {X Y : Nat → Int} {k : Int} (t b : Int) (h : ld_all n X Y k t b) : 0 < b := by
  obtain ⟨i, -, h⟩ := h
  exact ld_cand_pos h
theorem ld_cand_ex {n : Nat} (X Y : Nat → Int) (k : Int) (i : Nat) : ∃ t b, ld_cand n X Y k i t b := by
  by_cases h : ∃ j, j < n ∧ X j ≠ X i
  · obtain ⟨j, h1, h2⟩ := h
    exact ⟨_, _, Or.inl ⟨j, h1, h2, rfl, rfl⟩⟩
  · exact ⟨_, _, Or.inr ⟨fun j hj => by
      by_cases e : X j = X i
      · exact e
      · exact absurd ⟨j, hj, e⟩ h, rfl, rfl⟩⟩
/-- a cost that no line undercuts and that some line has is the least candidate -/
theorem ld_best {n : Nat} {X Y : Nat → Int} {k : Int} (hk : ld_k k) {t b : Int} (hb : 0 < b) (ht : 0 ≤ t)
    (hlow : ∀ P Q Hh : Int, 0 < Q → t * Q ≤ ld_sm (fun j => ld_cst k (Q * Y j - P * X j - Hh)) n * b)
    (hat : ∃ P Q Hh : Int, 0 < Q ∧ ld_sm (fun j => ld_cst k (Q * Y j - P * X j - Hh)) n * b ≤ t * Q) : ld_min (ld_all n X Y k) t b := by
  have hlow2 : ∀ t' b', ld_all n X Y k t' b' → t * b' ≤ t' * b := by
    intro t' b' h
    have line : ∀ (i : Nat) (p q : Int), 0 < q → t * q ≤ ld_ct n X Y k i p q * b := by
      intro i p q hq
      have h1 := hlow p q (q * Y i - p * X i) hq
      have e : ld_sm (fun j => ld_cst k (q * Y j - p * X j - (q * Y i - p * X i))) n = ld_ct n X Y k i p q := ld_sm_congr (fun j _ => by congr 1; grind)
      rw [e] at h1
      exact h1
    obtain ⟨i, hi, h⟩ := h
    rcases h with ⟨j, -, h2, rfl, rfl⟩ | ⟨-, rfl, rfl⟩
    · exact line i _ _ (ld_kQ_pos (by omega))
    · exact line i 0 1 (by decide)
  refine ⟨hb, ht, hlow2, fun hne => ?_, fun hno => ?_⟩
  · obtain ⟨_, _, i0, hi0, -⟩ := hne
    obtain ⟨P, Q, Hh, hQ, hF⟩ := hat
    obtain ⟨i, hi, -, h1⟩ := ld_kink hk (n := n) (α := fun j => Q * Y j - P * X j) (β := fun _ => 1) (P := Hh) (Q := 1) (by decide) ⟨i0, hi0, by decide⟩
    have e1 : ld_sm (fun j => ld_cst k (ld_kQ 1 * (Q * Y j - P * X j) - ld_kP (Q * Y i - P * X i) 1 * 1)) n = ld_ct n X Y k i P Q := ld_sm_congr (fun j _ => by
      simp only [ld_kQ, ld_kP]
      congr 1
      simp
      grind)
    have e2 : ld_sm (fun j => ld_cst k (1 * (Q * Y j - P * X j) - Hh * 1)) n = ld_sm (fun j => ld_cst k (Q * Y j - P * X j - Hh)) n := ld_sm_congr (fun j _ => by congr 1; omega)
    have h1 : ld_ct n X Y k i P Q ≤ ld_sm (fun j => ld_cst k (Q * Y j - P * X j - Hh)) n := by
      have h1' := h1
      rw [e1, e2] at h1'
      simp only [ld_kQ] at h1'
      simp at h1'
      exact h1'
    have h2 := ld_mono h1 (Int.le_of_lt hb)
    have fin : ∀ t' b', ld_cand n X Y k i t' b' → t' * Q ≤ ld_ct n X Y k i P Q * b' → ∃ t' b', ld_all n X Y k t' b' ∧ t * b' = t' * b := by
      intro t' b' hc h3
      have hb' := ld_cand_pos hc
      have h4 := hlow2 t' b' ⟨i, hi, hc⟩
      refine ⟨t', b', ⟨i, hi, hc⟩, ?_⟩
      have h5 : t' * b ≤ t * b' := by
        refine ld_frac (a2 := ld_ct n X Y k i P Q) (b2 := Q) hb' hQ hb h3 ?_
        omega
      omega
    by_cases hx : ∃ j, j < n ∧ X j - X i ≠ 0
    · obtain ⟨j, hj, hne, h3⟩ := ld_kink hk (n := n) (α := fun j => Y j - Y i) (β := fun j => X j - X i) (P := P) (Q := Q) hQ hx
      exact fin _ _ (Or.inl ⟨j, hj, fun e => hne (by omega), rfl, rfl⟩) h3
    · have hall : ∀ j, j < n → X j = X i := by
        intro j hj
        by_cases e : X j - X i = 0
        · omega
        · exact absurd ⟨j, hj, e⟩ hx
      refine fin _ _ (Or.inr ⟨hall, rfl, rfl⟩) ?_
      have e3 : ld_ct n X Y k i P Q = Q * ld_ct n X Y k i 0 1 := by
        rw [← ld_ct_mul k n X Y i Q 0 1 (Int.le_of_lt hQ)]
        unfold ld_ct
        refine ld_sm_congr (fun j hj => ?_)
        rw [hall j hj]
        congr 1
        grind
      rw [e3, Int.mul_comm Q]
      omega
  · obtain ⟨P, Q, Hh, hQ, hF⟩ := hat
    have hn : n = 0 := by
      by_cases e : n = 0
      · exact e
      · obtain ⟨t', b', hc⟩ := ld_cand_ex (n := n) X Y k 0
        exact absurd ⟨0, by omega, hc⟩ (hno t' b')
    subst hn
    have h0 := hlow P Q Hh hQ
    rw [ld_sm_0] at h0
    by_cases e : t = 0
    · exact e
    · have := Int.mul_pos (show 0 < t by omega) hQ
      omega
/-! lowest terms -/
theorem ld_red_nat {t b t' b' : Nat} (hb : 0 < b) (hb' : 0 < b') (h : t * b' = t' * b) : t / Nat.gcd t b = t' / Nat.gcd t' b' ∧ b / Nat.gcd t b = b' / Nat.gcd t' b' := by
  have hg : 0 < Nat.gcd t b := Nat.gcd_pos_of_pos_right t hb
  have hg' : 0 < Nat.gcd t' b' := Nat.gcd_pos_of_pos_right t' hb'
  have c1 : Nat.Coprime (t / Nat.gcd t b) (b / Nat.gcd t b) := Nat.coprime_div_gcd_div_gcd hg
  have c2 : Nat.Coprime (t' / Nat.gcd t' b') (b' / Nat.gcd t' b') := Nat.coprime_div_gcd_div_gcd hg'
  have e1 : t = t / Nat.gcd t b * Nat.gcd t b := (Nat.div_mul_cancel (Nat.gcd_dvd_left t b)).symm
  have e2 : b = b / Nat.gcd t b * Nat.gcd t b := (Nat.div_mul_cancel (Nat.gcd_dvd_right t b)).symm
  have e3 : t' = t' / Nat.gcd t' b' * Nat.gcd t' b' := (Nat.div_mul_cancel (Nat.gcd_dvd_left t' b')).symm
  have e4 : b' = b' / Nat.gcd t' b' * Nat.gcd t' b' := (Nat.div_mul_cancel (Nat.gcd_dvd_right t' b')).symm
  generalize t / Nat.gcd t b = x at *
  generalize b / Nat.gcd t b = y at *
  generalize t' / Nat.gcd t' b' = x' at *
  generalize b' / Nat.gcd t' b' = y' at *
  generalize Nat.gcd t b = g at *
  generalize Nat.gcd t' b' = g' at *
  subst e1 e2 e3 e4
  have h2 : x * y' = x' * y := by
    have h3 : (x * y') * (g * g') = (x' * y) * (g * g') := by
      calc (x * y') * (g * g') = x * g * (y' * g') := by grind
        _ = x' * g' * (y * g) := h
        _ = (x' * y) * (g * g') := by grind
    exact Nat.eq_of_mul_eq_mul_right (Nat.mul_pos hg hg') h3
  have hy : 0 < y := by
    rcases Nat.eq_zero_or_pos y with e | e
    · rw [e] at hb; omega
    · exact e
  have d1 : y ∣ y' := by
    have : y ∣ x * y' := ⟨x', by rw [h2, Nat.mul_comm]⟩
    exact c1.symm.dvd_of_dvd_mul_left this
  have d2 : y' ∣ y := by
    have : y' ∣ x' * y := ⟨x, by rw [← h2, Nat.mul_comm]⟩
    exact c2.symm.dvd_of_dvd_mul_left this
  have ey : y = y' := Nat.dvd_antisymm d1 d2
  subst ey
  exact ⟨Nat.eq_of_mul_eq_mul_right hy h2, rfl⟩
def ld_rt (t b : Int) : Int := ((t.toNat / Nat.gcd t.toNat b.toNat : Nat) : Int)
def ld_rb (t b : Int) : Int := ((b.toNat / Nat.gcd t.toNat b.toNat : Nat) : Int)
theorem ld_red {t b t' b' : Int} (hb : 0 < b) (hb' : 0 < b') (ht : 0 ≤ t) (ht' : 0 ≤ t') (h : t * b' = t' * b) : ld_rt t b = ld_rt t' b' ∧ ld_rb t b = ld_rb t' b' := by
  have h1 : t.toNat * b'.toNat = t'.toNat * b.toNat := by
    apply Int.ofNat.inj
    show ((t.toNat * b'.toNat : Nat) : Int) = ((t'.toNat * b.toNat : Nat) : Int)
    rw [Int.natCast_mul, Int.natCast_mul, Int.toNat_of_nonneg ht, Int.toNat_of_nonneg ht', Int.toNat_of_nonneg (by omega), Int.toNat_of_nonneg (by omega)]
    exact h
  obtain ⟨h2, h3⟩ := ld_red_nat (t := t.toNat) (b := b.toNat) (t' := t'.toNat) (b' := b'.toNat) (by omega) (by omega) h1
  exact ⟨congrArg (fun x : Nat => (x : Int)) h2, congrArg (fun x : Nat => (x : Int)) h3⟩
/-- the fraction in lowest terms is the same fraction -/
theorem ld_red_same {t b : Int} (hb : 0 < b) (ht : 0 ≤ t) : 0 < ld_rb t b ∧ 0 ≤ ld_rt t b ∧ ld_rt t b * b = t * ld_rb t b ∧ ld_rt t b ≤ t ∧ ld_rb t b ≤ b := by
  have hg : 0 < Nat.gcd t.toNat b.toNat := Nat.gcd_pos_of_pos_right _ (by omega)
  have e1 : t.toNat = t.toNat / Nat.gcd t.toNat b.toNat * Nat.gcd t.toNat b.toNat := (Nat.div_mul_cancel (Nat.gcd_dvd_left _ _)).symm
  have e2 : b.toNat = b.toNat / Nat.gcd t.toNat b.toNat * Nat.gcd t.toNat b.toNat := (Nat.div_mul_cancel (Nat.gcd_dvd_right _ _)).symm
  have l1 : t.toNat / Nat.gcd t.toNat b.toNat ≤ t.toNat := Nat.div_le_self _ _
  have l2 : b.toNat / Nat.gcd t.toNat b.toNat ≤ b.toNat := Nat.div_le_self _ _
  unfold ld_rt ld_rb
  generalize t.toNat / Nat.gcd t.toNat b.toNat = x at *
  generalize b.toNat / Nat.gcd t.toNat b.toNat = y at *
  generalize Nat.gcd t.toNat b.toNat = g at *
  have hy : 0 < y := by
    rcases Nat.eq_zero_or_pos y with e | e
    · rw [e] at e2; omega
    · exact e
  refine ⟨by omega, by omega, ?_, by omega, by omega⟩
  have h : x * b.toNat = t.toNat * y := by
    calc x * b.toNat = x * (y * g) := by rw [← e2]
      _ = x * g * y := by grind
      _ = t.toNat * y := by rw [← e1]
  have h2 : ((x * b.toNat : Nat) : Int) = ((t.toNat * y : Nat) : Int) := congrArg (fun z : Nat => (z : Int)) h
  rw [Int.natCast_mul, Int.natCast_mul, Int.toNat_of_nonneg ht, Int.toNat_of_nonneg (by omega)] at h2
  exact h2
end
section
/-! PLAIN LAW 3: the table of the simplex method, closed: nets (0: slope, 1: height, 2 + i: point i), brackets, rows -/
def ld_nu (c : Nat) : Nat := if c < 2 then 0 else if c < 4 then 1 else if c < 12 then c - 2 else c - 10
def ld_sg (c : Nat) : Int := if c = 1 ∨ c = 3 ∨ 12 ≤ c then -1 else 1
theorem ld_sg_pm (c : Nat) : ld_sg c = 1 ∨ ld_sg c = -1 := by
  unfold ld_sg
  split
  · exact Or.inr rfl
  · exact Or.inl rfl
theorem ld_sg2 (c : Nat) : ld_sg c * ld_sg c = 1 := by
  rcases ld_sg_pm c with h | h <;> rw [h] <;> rfl
def ld_hx (X : Nat → Int) (v : Nat) : Int := if v = 0 then 1 else if v = 1 then 0 else -X (v - 2)
def ld_hy (v : Nat) : Int := if v = 0 then 0 else if v = 1 then 1 else -1
def ld_hw (Y : Nat → Int) (v : Nat) : Int := if v < 2 then 0 else Y (v - 2)
def ld_hb (X : Nat → Int) (u v : Nat) : Int := ld_hx X u * ld_hy v - ld_hy u * ld_hx X v
theorem ld_hb_anti (X : Nat → Int) (u v : Nat) : ld_hb X u v = -ld_hb X v u := by unfold ld_hb; grind
theorem ld_hb_self (X : Nat → Int) (u : Nat) : ld_hb X u u = 0 := by unfold ld_hb; grind
theorem ld_pluck (X : Nat → Int) (v l a b : Nat) : ld_hb X v a * ld_hb X l b - ld_hb X v b * ld_hb X l a = ld_hb X v l * ld_hb X a b := by unfold ld_hb; grind
def ld_M (X : Nat → Int) (a b v w : Nat) : Int := if w = v then ld_hb X a b else if w = a then -ld_hb X v b else if w = b then ld_hb X v a else 0
def ld_N (X Y : Nat → Int) (a b v : Nat) : Int := ld_hb X a b * ld_hw Y v - ld_hb X v b * ld_hw Y a + ld_hb X v a * ld_hw Y b
theorem ld_M_self (X : Nat → Int) (a b v : Nat) : ld_M X a b v v = ld_hb X a b := by unfold ld_M; rw [if_pos rfl]
theorem ld_M_a (X : Nat → Int) {a b v : Nat} (h : a ≠ v) : ld_M X a b v a = -ld_hb X v b := by unfold ld_M; rw [if_neg h, if_pos rfl]
theorem ld_M_b (X : Nat → Int) {a b v : Nat} (h : b ≠ v) (h2 : b ≠ a) : ld_M X a b v b = ld_hb X v a := by unfold ld_M; rw [if_neg h, if_neg h2, if_pos rfl]
theorem ld_M_0 (X : Nat → Int) {a b v w : Nat} (h1 : w ≠ v) (h2 : w ≠ a) (h3 : w ≠ b) : ld_M X a b v w = 0 := by unfold ld_M; rw [if_neg h1, if_neg h2, if_neg h3]
/-- the pivot, entering net a: exact division -/
theorem ld_piv_a (X : Nat → Int) {a b v l : Nat} (hvl : v ≠ l) (hva : v ≠ a) (hvb : v ≠ b) (hla : l ≠ a) (hlb : l ≠ b) (hab : a ≠ b) (w : Nat) :
    ld_hb X a b * ld_M X l b v w = ld_hb X l b * ld_M X a b v w - ld_hb X v b * ld_M X a b l w := by
  by_cases h1 : w = v
  · subst h1
    rw [ld_M_self, ld_M_self, ld_M_0 X hvl hva hvb]; grind
  · by_cases h2 : w = a
    · subst h2
      rw [ld_M_0 X (Ne.symm hva) (Ne.symm hla) hab, ld_M_a X (Ne.symm hva), ld_M_a X (Ne.symm hla)]; grind
    · by_cases h3 : w = b
      · subst h3
        rw [ld_M_b X (Ne.symm hvb) (Ne.symm hlb), ld_M_b X (Ne.symm hvb) (Ne.symm hab), ld_M_b X (Ne.symm hlb) (Ne.symm hab)]
        have := ld_pluck X v l a w
        grind
      · by_cases h4 : w = l
        · subst h4
          rw [ld_M_a X (Ne.symm hvl), ld_M_0 X h1 h2 h3, ld_M_self]; grind
        · rw [ld_M_0 X h1 h4 h3, ld_M_0 X h1 h2 h3, ld_M_0 X h4 h2 h3]; grind
theorem ld_piv_b (X : Nat → Int) {a b v l : Nat} (hvl : v ≠ l) (hva : v ≠ a) (hvb : v ≠ b) (hla : l ≠ a) (hlb : l ≠ b) (hab : a ≠ b) (w : Nat) :
    ld_hb X a b * ld_M X a l v w = ld_hb X a l * ld_M X a b v w + ld_hb X v a * ld_M X a b l w := by
  by_cases h1 : w = v
  · subst h1
    rw [ld_M_self, ld_M_self, ld_M_0 X hvl hva hvb]; grind
  · by_cases h2 : w = b
    · subst h2
      rw [ld_M_0 X (Ne.symm hvb) (Ne.symm hab) (Ne.symm hlb), ld_M_b X (Ne.symm hvb) (Ne.symm hab), ld_M_b X (Ne.symm hlb) (Ne.symm hab), ld_hb_anti X a l]; grind
    · by_cases h3 : w = a
      · subst h3
        rw [ld_M_a X (Ne.symm hva), ld_M_a X (Ne.symm hva), ld_M_a X (Ne.symm hla)]
        have := ld_pluck X v l w b
        have := ld_hb_anti X w l
        grind
      · by_cases h4 : w = l
        · subst h4
          rw [ld_M_b X (Ne.symm hvl) hla, ld_M_0 X h1 h3 h2, ld_M_self]; grind
        · rw [ld_M_0 X h1 h3 h4, ld_M_0 X h1 h3 h2, ld_M_0 X h4 h3 h2]; grind
theorem ld_piv_aN (X Y : Nat → Int) (a b v l : Nat) : ld_hb X a b * ld_N X Y l b v = ld_hb X l b * ld_N X Y a b v - ld_hb X v b * ld_N X Y a b l := by
  unfold ld_N ld_hb; grind
theorem ld_piv_bN (X Y : Nat → Int) (a b v l : Nat) : ld_hb X a b * ld_N X Y a l v = ld_hb X a l * ld_N X Y a b v + ld_hb X v a * ld_N X Y a b l := by
  unfold ld_N ld_hb; grind
theorem ld_row_a (X : Nat → Int) {a b l : Nat} (hla : l ≠ a) (hlb : l ≠ b) (hab : a ≠ b) (w : Nat) : ld_M X a b l w = -ld_M X l b a w := by
  by_cases h1 : w = l
  · subst h1
    rw [ld_M_self, ld_M_a X hla]; grind
  · by_cases h2 : w = a
    · subst h2
      rw [ld_M_self, ld_M_a X (Ne.symm hla)]
    · by_cases h3 : w = b
      · subst h3
        rw [ld_M_b X (Ne.symm hlb) (Ne.symm hab), ld_M_b X (Ne.symm hab) (Ne.symm hlb), ld_hb_anti]
      · rw [ld_M_0 X h1 h2 h3, ld_M_0 X h2 h1 h3]; rfl
theorem ld_row_b (X : Nat → Int) {a b l : Nat} (hla : l ≠ a) (hlb : l ≠ b) (hab : a ≠ b) (w : Nat) : ld_M X a b l w = -ld_M X a l b w := by
  by_cases h1 : w = l
  · subst h1
    rw [ld_M_self, ld_M_b X hlb hla, ld_hb_anti]
  · by_cases h2 : w = a
    · subst h2
      rw [ld_M_a X (Ne.symm hla), ld_M_a X hab, ld_hb_anti X l b]
    · by_cases h3 : w = b
      · subst h3
        rw [ld_M_self, ld_M_b X (Ne.symm hlb) (Ne.symm hab), ld_hb_anti]
      · rw [ld_M_0 X h1 h2 h3, ld_M_0 X h3 h2 h1]; rfl
theorem ld_row_aN (X Y : Nat → Int) (a b l : Nat) : ld_N X Y a b l = -ld_N X Y l b a := by unfold ld_N ld_hb; grind
theorem ld_row_bN (X Y : Nat → Int) (a b l : Nat) : ld_N X Y a b l = -ld_N X Y a l b := by unfold ld_N ld_hb; grind
/-! the rows -/
def ld_tau (X : Nat → Int) (a b : Nat) : Int := if 0 < ld_hb X a b then 1 else -1
theorem ld_tau_pm (X : Nat → Int) (a b : Nat) : ld_tau X a b = 1 ∨ ld_tau X a b = -1 := by
  unfold ld_tau
  split
  · exact Or.inl rfl
  · exact Or.inr rfl
def ld_d (X : Nat → Int) (a b : Nat) : Int := ld_tau X a b * ld_hb X a b
theorem ld_d_pos {X : Nat → Int} {a b : Nat} (h : ld_hb X a b ≠ 0) : 0 < ld_d X a b := by
  unfold ld_d ld_tau
  split <;> omega
theorem ld_tau_of {X : Nat → Int} {a b : Nat} {t : Int} (ht : t = 1 ∨ t = -1) (h : 0 < t * ld_hb X a b) : ld_tau X a b = t ∧ ld_d X a b = t * ld_hb X a b ∧ ld_hb X a b ≠ 0 := by
  have h1 : ld_tau X a b = t := by
    unfold ld_tau
    rcases ht with rfl | rfl
    · rw [if_pos (by omega)]
    · rw [if_neg (by omega)]
  refine ⟨h1, by unfold ld_d; rw [h1], fun e => ?_⟩
  rw [e] at h
  omega
def ld_R (X Y : Nat → Int) (o : Nat → Nat) (a b r c : Nat) : Int :=
  if c < 20 then ld_sg c * (ld_sg (o r) * ld_tau X a b * ld_M X a b (ld_nu (o r)) (ld_nu c)) else ld_sg (o r) * ld_tau X a b * ld_N X Y a b (ld_nu (o r))
def ld_cc (k : Int) (n c : Nat) : Int := if 4 ≤ c ∧ c < 4 + n then k else if 12 ≤ c ∧ c < 12 + n then 4 - k else 0
theorem ld_cc_nonneg {k : Int} (hk : ld_k k) (n c : Nat) : 0 ≤ ld_cc k n c := by
  unfold ld_cc
  rcases hk with rfl | rfl | rfl <;> split <;> (try split) <;> omega
theorem ld_cc_bd {k : Int} (hk : ld_k k) (n c : Nat) : 0 ≤ ld_cc k n c ∧ ld_cc k n c ≤ 3 := by
  unfold ld_cc
  rcases hk with rfl | rfl | rfl <;> split <;> (try split) <;> omega
def ld_R8 (n : Nat) (X Y : Nat → Int) (k : Int) (o : Nat → Nat) (a b c : Nat) : Int := ld_d X a b * ld_cc k n c - ld_sm (fun s => ld_cc k n (o s) * ld_R X Y o a b s c) n
def ld_V (n : Nat) (X Y : Nat → Int) (o : Nat → Nat) (a b : Nat) : Prop :=
  (∀ r, r < n → o r < 20) ∧ (∀ r s, r < n → s < n → ld_nu (o r) = ld_nu (o s) → r = s) ∧ (∀ r, r < n → ld_nu (o r) ≠ a ∧ ld_nu (o r) ≠ b ∧ ld_nu (o r) < n + 2) ∧ a ≠ b ∧ a < n + 2 ∧ b < n + 2 ∧
  (∀ v, v < n + 2 → v = a ∨ v = b ∨ ∃ r, r < n ∧ ld_nu (o r) = v) ∧ ld_hb X a b ≠ 0 ∧ ∀ r, r < n → 0 ≤ ld_R X Y o a b r 20
def ld_upn (o : Nat → Nat) (r c : Nat) : Nat → Nat := fun i => if i = r then c else o i
/-- the pair of free nets behind a pivot -/
def ld_na (o : Nat → Nat) (a row col : Nat) : Nat := if ld_nu col = a then ld_nu (o row) else a
def ld_nb (o : Nat → Nat) (a b row col : Nat) : Nat := if ld_nu col = a then b else ld_nu (o row)
theorem ld_R_lt {X Y : Nat → Int} {o : Nat → Nat} {a b r c : Nat} (h : c < 20) : ld_R X Y o a b r c = ld_sg c * (ld_sg (o r) * ld_tau X a b * ld_M X a b (ld_nu (o r)) (ld_nu c)) := by unfold ld_R; rw [if_pos h]
theorem ld_R_20 {X Y : Nat → Int} {o : Nat → Nat} {a b r : Nat} : ld_R X Y o a b r 20 = ld_sg (o r) * ld_tau X a b * ld_N X Y a b (ld_nu (o r)) := by unfold ld_R; rw [if_neg (by omega)]
theorem ld_R_ge {X Y : Nat → Int} {o : Nat → Nat} {a b r c : Nat} (h : c ≤ 20) : c < 20 ∨ c = 20 := by omega
set_option maxHeartbeats 4000000 in
/-- the pivot: denominator, other rows, its own row -/
theorem ld_pivot {n : Nat} {X Y : Nat → Int} {o : Nat → Nat} {a b row col : Nat} (hV : ld_V n X Y o a b) (hrow : row < n) (hcol : col < 20) (hnet : ld_nu col = a ∨ ld_nu col = b) (hp : 0 < ld_R X Y o a b row col) :
    ld_hb X (ld_na o a row col) (ld_nb o a b row col) ≠ 0 ∧ ld_d X (ld_na o a row col) (ld_nb o a b row col) = ld_R X Y o a b row col ∧
    (∀ r c, r < n → r ≠ row → c ≤ 20 → ld_d X a b * ld_R X Y (ld_upn o row col) (ld_na o a row col) (ld_nb o a b row col) r c = ld_R X Y o a b row col * ld_R X Y o a b r c - ld_R X Y o a b r col * ld_R X Y o a b row c) ∧
    (∀ c, c ≤ 20 → ld_R X Y (ld_upn o row col) (ld_na o a row col) (ld_nb o a b row col) row c = ld_R X Y o a b row c) := by
  obtain ⟨v1, v2, v3, v4, v5, v6, v7, v8, v9⟩ := hV
  obtain ⟨l1, l2, l3⟩ := v3 row hrow
  have hsc := ld_sg_pm col
  have hsr := ld_sg_pm (o row)
  have ht := ld_tau_pm X a b
  have hpe : ld_R X Y o a b row col = ld_sg col * (ld_sg (o row) * ld_tau X a b * ld_M X a b (ld_nu (o row)) (ld_nu col)) := ld_R_lt hcol
  have ho : ∀ r, r ≠ row → ld_upn o row col r = o r := fun r h => by unfold ld_upn; rw [if_neg h]
  have ho2 : ld_upn o row col row = col := by unfold ld_upn; rw [if_pos rfl]
  obtain ⟨t', ht'⟩ : ∃ t' : Int, t' = -(ld_sg col * ld_sg (o row) * ld_tau X a b) := ⟨_, rfl⟩
  have ht'pm : t' = 1 ∨ t' = -1 := by
    rw [ht']
    rcases hsc with h1 | h1 <;> rcases hsr with h2 | h2 <;> rcases ht with h3 | h3 <;> rw [h1, h2, h3] <;> simp
  have hsc2 := ld_sg2 col
  have hsr2 := ld_sg2 (o row)
  by_cases hca : ld_nu col = a
  · have ena : ld_na o a row col = ld_nu (o row) := by unfold ld_na; rw [if_pos hca]
    have enb : ld_nb o a b row col = b := by unfold ld_nb; rw [if_pos hca]
    rw [ena, enb]
    have hM : ld_M X a b (ld_nu (o row)) (ld_nu col) = -ld_hb X (ld_nu (o row)) b := by rw [hca]; exact ld_M_a X (Ne.symm l1)
    rw [hM] at hpe
    have hpt : ld_R X Y o a b row col = t' * ld_hb X (ld_nu (o row)) b := by rw [hpe, ht']; grind
    rw [hpt] at hp
    obtain ⟨w1, w2, w3⟩ := ld_tau_of ht'pm hp
    refine ⟨w3, by rw [w2, hpt], fun r c hr hne hc => ?_, fun c hc => ?_⟩
    · obtain ⟨g1, g2, g3⟩ := v3 r hr
      have hrl : ld_nu (o r) ≠ ld_nu (o row) := fun e => hne (v2 r row hr hrow e)
      have e1 : ld_R X Y o a b r col = ld_sg col * (ld_sg (o r) * ld_tau X a b * -ld_hb X (ld_nu (o r)) b) := by
        rw [ld_R_lt hcol, hca, ld_M_a X (Ne.symm g1)]
      rw [e1, hpt]
      unfold ld_d
      rcases ld_R_ge (X := X) (Y := Y) (o := o) (a := a) (b := b) (r := r) hc with hc | hc
      · rw [ld_R_lt hc, ld_R_lt hc, ld_R_lt hc, ho r hne, w1]
        have key := ld_piv_a X (a := a) (b := b) (v := ld_nu (o r)) (l := ld_nu (o row)) hrl g1 g2 l1 l2 v4 (ld_nu c)
        generalize ld_M X (ld_nu (o row)) b (ld_nu (o r)) (ld_nu c) = m' at key ⊢
        generalize ld_M X a b (ld_nu (o r)) (ld_nu c) = m1 at key ⊢
        generalize ld_M X a b (ld_nu (o row)) (ld_nu c) = m2 at key ⊢
        have k2 : ld_tau X a b * ld_hb X a b * (ld_sg c * (ld_sg (o r) * t' * m')) = ld_tau X a b * ld_sg c * ld_sg (o r) * t' * (ld_hb X a b * m') := by grind
        rw [k2, key, ht']
        grind
      · subst hc
        rw [ld_R_20, ld_R_20, ld_R_20, ho r hne, w1]
        have key := ld_piv_aN X Y a b (ld_nu (o r)) (ld_nu (o row))
        generalize ld_N X Y (ld_nu (o row)) b (ld_nu (o r)) = m' at key ⊢
        generalize ld_N X Y a b (ld_nu (o r)) = m1 at key ⊢
        generalize ld_N X Y a b (ld_nu (o row)) = m2 at key ⊢
        have k2 : ld_tau X a b * ld_hb X a b * (ld_sg (o r) * t' * m') = ld_tau X a b * ld_sg (o r) * t' * (ld_hb X a b * m') := by grind
        rw [k2, key, ht']
        grind
    · rcases ld_R_ge (X := X) (Y := Y) (o := o) (a := a) (b := b) (r := row) hc with hc | hc
      · rw [ld_R_lt hc, ld_R_lt hc, ho2, w1, hca, ld_row_a X l1 l2 v4, ht']
        grind
      · subst hc
        rw [ld_R_20, ld_R_20, ho2, w1, hca, ld_row_aN X Y a b, ht']
        grind
  · have hcb : ld_nu col = b := by
      rcases hnet with h | h
      · exact absurd h hca
      · exact h
    have ena : ld_na o a row col = a := by unfold ld_na; rw [if_neg hca]
    have enb : ld_nb o a b row col = ld_nu (o row) := by unfold ld_nb; rw [if_neg hca]
    rw [ena, enb]
    have hM : ld_M X a b (ld_nu (o row)) (ld_nu col) = ld_hb X (ld_nu (o row)) a := by rw [hcb]; exact ld_M_b X (Ne.symm l2) (Ne.symm v4)
    rw [hM] at hpe
    have hpt : ld_R X Y o a b row col = t' * ld_hb X a (ld_nu (o row)) := by rw [hpe, ht', ld_hb_anti X a]; grind
    rw [hpt] at hp
    obtain ⟨w1, w2, w3⟩ := ld_tau_of ht'pm hp
    refine ⟨w3, by rw [w2, hpt], fun r c hr hne hc => ?_, fun c hc => ?_⟩
    · obtain ⟨g1, g2, g3⟩ := v3 r hr
      have hrl : ld_nu (o r) ≠ ld_nu (o row) := fun e => hne (v2 r row hr hrow e)
      have e1 : ld_R X Y o a b r col = ld_sg col * (ld_sg (o r) * ld_tau X a b * ld_hb X (ld_nu (o r)) a) := by
        rw [ld_R_lt hcol, hcb, ld_M_b X (Ne.symm g2) (Ne.symm v4)]
      rw [e1, hpt]
      unfold ld_d
      rcases ld_R_ge (X := X) (Y := Y) (o := o) (a := a) (b := b) (r := r) hc with hc | hc
      · rw [ld_R_lt hc, ld_R_lt hc, ld_R_lt hc, ho r hne, w1]
        have key := ld_piv_b X (a := a) (b := b) (v := ld_nu (o r)) (l := ld_nu (o row)) hrl g1 g2 l1 l2 v4 (ld_nu c)
        generalize ld_M X a (ld_nu (o row)) (ld_nu (o r)) (ld_nu c) = m' at key ⊢
        generalize ld_M X a b (ld_nu (o r)) (ld_nu c) = m1 at key ⊢
        generalize ld_M X a b (ld_nu (o row)) (ld_nu c) = m2 at key ⊢
        have k2 : ld_tau X a b * ld_hb X a b * (ld_sg c * (ld_sg (o r) * t' * m')) = ld_tau X a b * ld_sg c * ld_sg (o r) * t' * (ld_hb X a b * m') := by grind
        rw [k2, key, ht']
        grind
      · subst hc
        rw [ld_R_20, ld_R_20, ld_R_20, ho r hne, w1]
        have key := ld_piv_bN X Y a b (ld_nu (o r)) (ld_nu (o row))
        generalize ld_N X Y a (ld_nu (o row)) (ld_nu (o r)) = m' at key ⊢
        generalize ld_N X Y a b (ld_nu (o r)) = m1 at key ⊢
        generalize ld_N X Y a b (ld_nu (o row)) = m2 at key ⊢
        have k2 : ld_tau X a b * ld_hb X a b * (ld_sg (o r) * t' * m') = ld_tau X a b * ld_sg (o r) * t' * (ld_hb X a b * m') := by grind
        rw [k2, key, ht']
        grind
    · rcases ld_R_ge (X := X) (Y := Y) (o := o) (a := a) (b := b) (r := row) hc with hc | hc
      · rw [ld_R_lt hc, ld_R_lt hc, ho2, w1, hcb, ld_row_b X l1 l2 v4, ht']
        grind
      · subst hc
        rw [ld_R_20, ld_R_20, ho2, w1, hcb, ld_row_bN X Y a b, ht']
        grind
/-- the pivot: the row of the costs -/
theorem ld_pivot8 {n : Nat} {X Y : Nat → Int} {k : Int} {o : Nat → Nat} {a b row col : Nat} (hV : ld_V n X Y o a b) (hrow : row < n) (hcol : col < 20) (hnet : ld_nu col = a ∨ ld_nu col = b) (hp : 0 < ld_R X Y o a b row col) (c : Nat) (hc : c ≤ 20) :
    ld_d X a b * ld_R8 n X Y k (ld_upn o row col) (ld_na o a row col) (ld_nb o a b row col) c = ld_R X Y o a b row col * ld_R8 n X Y k o a b c - ld_R8 n X Y k o a b col * ld_R X Y o a b row c := by
  obtain ⟨p1, p2, p3, p4⟩ := ld_pivot hV hrow hcol hnet hp
  obtain ⟨R', hR'⟩ : ∃ R', R' = ld_R X Y (ld_upn o row col) (ld_na o a row col) (ld_nb o a b row col) := ⟨_, rfl⟩
  obtain ⟨R, hR⟩ : ∃ R, R = ld_R X Y o a b := ⟨_, rfl⟩
  unfold ld_R8
  rw [p2]
  rw [← hR', ← hR] at p3 p4 ⊢
  have e1 : ld_sm (fun s => ld_d X a b * (ld_cc k n (ld_upn o row col s) * R' s c)) n - ld_d X a b * (ld_cc k n (ld_upn o row col row) * R' row c) = ld_sm (fun s => ld_cc k n (o s) * (R row col * R s c - R s col * R row c)) n - ld_cc k n (o row) * (R row col * R row c - R row col * R row c) := by
    refine ld_sm_but hrow (fun s hs hne => ?_)
    have h1 := p3 s c hs hne hc
    have h2 : ld_upn o row col s = o s := by unfold ld_upn; rw [if_neg hne]
    rw [h2]
    have h3 : ld_d X a b * (ld_cc k n (o s) * R' s c) = ld_cc k n (o s) * (ld_d X a b * R' s c) := by grind
    rw [h3, h1]
  have e2 : ld_upn o row col row = col := by unfold ld_upn; rw [if_pos rfl]
  rw [e2, p4 c hc] at e1
  rw [ld_sm_mul] at e1
  have e3 : ld_sm (fun s => ld_cc k n (o s) * (R row col * R s c - R s col * R row c)) n = R row col * ld_sm (fun s => ld_cc k n (o s) * R s c) n - R row c * ld_sm (fun s => ld_cc k n (o s) * R s col) n := by
    rw [← ld_sm_mul, ← ld_sm_mul, ← ld_sm_sub]
    exact ld_sm_congr (fun s _ => by grind)
  rw [e3] at e1
  generalize ld_sm (fun s => ld_cc k n (ld_upn o row col s) * R' s c) n = S' at e1 ⊢
  generalize ld_sm (fun s => ld_cc k n (o s) * R s c) n = S1 at e1 ⊢
  generalize ld_sm (fun s => ld_cc k n (o s) * R s col) n = S2 at e1 ⊢
  grind
end
section
/-! PLAIN LAW 4: a step of Bland's rule keeps the table valid; the last table is optimal -/
theorem ld_nu_lt {c n : Nat} (hc : c < 20) (h : n + 2 ≤ ld_nu c) (hn : n ≤ 8) : (4 + n ≤ c ∧ c < 12) ∨ 12 + n ≤ c := by
  unfold ld_nu at h
  split at h
  · omega
  · split at h
    · omega
    · split at h <;> omega
theorem ld_nu_pt {c i : Nat} (hc : c < 20) (h : ld_nu c = i + 2) : (c = 4 + i ∧ i < 8 ∧ ld_sg c = 1) ∨ (c = 12 + i ∧ i < 8 ∧ ld_sg c = -1) := by
  unfold ld_nu at h
  split at h
  · omega
  · split at h
    · omega
    · split at h
      · left
        refine ⟨by omega, by omega, ?_⟩
        unfold ld_sg
        rw [if_neg (by omega)]
      · right
        refine ⟨by omega, by omega, ?_⟩
        unfold ld_sg
        rw [if_pos (by omega)]
theorem ld_nu_4 {i : Nat} (hi : i < 8) : ld_nu (4 + i) = i + 2 ∧ ld_sg (4 + i) = 1 := by
  unfold ld_nu ld_sg
  rw [if_neg (by omega), if_neg (by omega), if_pos (by omega), if_neg (by omega)]
  exact ⟨by omega, rfl⟩
theorem ld_nu_12 {i : Nat} : ld_nu (12 + i) = i + 2 ∧ ld_sg (12 + i) = -1 := by
  unfold ld_nu ld_sg
  rw [if_neg (by omega), if_neg (by omega), if_neg (by omega), if_pos (by omega)]
  exact ⟨by omega, rfl⟩
theorem ld_nu_small {c : Nat} (h : ld_nu c < 2) : c < 4 := by
  unfold ld_nu at h
  split at h
  · omega
  · split at h
    · omega
    · split at h <;> omega
/-- the same net: the same column, or its partner -/
theorem ld_nu_inj {c c' : Nat} (hc : c < 20) (hc' : c' < 20) (h : ld_nu c = ld_nu c') : c = c' ∨ ld_sg c * ld_sg c' = -1 := by
  have key : ∀ c, c < 20 → ∀ c', c' < 20 → ld_nu c = ld_nu c' → c = c' ∨ ld_sg c * ld_sg c' = -1 := by decide +kernel
  exact key c hc c' hc' h
theorem ld_R_own {n : Nat} {X Y : Nat → Int} {o : Nat → Nat} {a b : Nat} (hV : ld_V n X Y o a b) {r s : Nat} (hr : r < n) (hs : s < n) : ld_R X Y o a b r (o s) = if r = s then ld_d X a b else 0 := by
  obtain ⟨v1, v2, v3, v4, v5, v6, v7, v8, v9⟩ := hV
  rw [ld_R_lt (v1 s hs)]
  by_cases e : r = s
  · subst e
    rw [if_pos rfl, ld_M_self]
    unfold ld_d
    have := ld_sg2 (o r)
    grind
  · rw [if_neg e, ld_M_0 X (fun h => e (v2 s r hs hr h).symm) (v3 s hs).1 (v3 s hs).2.1]
    grind
/-- a column whose cost is below 0 is one of the free nets -/
theorem ld_R8_net {n : Nat} {X Y : Nat → Int} {k : Int} (hk : ld_k k) (hn : n ≤ 8) {o : Nat → Nat} {a b col : Nat} (hV : ld_V n X Y o a b) (hcol : col < 20) (h : ld_R8 n X Y k o a b col < 0) : ld_nu col = a ∨ ld_nu col = b := by
  have hV0 := hV
  obtain ⟨v1, v2, v3, v4, v5, v6, v7, v8, v9⟩ := hV
  by_cases ha : ld_nu col = a
  · exact Or.inl ha
  by_cases hb : ld_nu col = b
  · exact Or.inr hb
  exfalso
  have hd := ld_d_pos v8
  unfold ld_R8 at h
  by_cases hl : ld_nu col < n + 2
  · rcases v7 _ hl with e | e | ⟨r, hr, e⟩
    · exact ha e
    · exact hb e
    · have e1 : ld_sm (fun s => ld_cc k n (o s) * ld_R X Y o a b s col) n = ld_cc k n (o r) * ld_R X Y o a b r col := by
        refine ld_sm_one (f := fun s => ld_cc k n (o s) * ld_R X Y o a b s col) hr (fun s hs hne => ?_)
        rw [ld_R_lt hcol, ld_M_0 X (fun h => hne (v2 s r hs hr (by rw [← h, e]))) ha hb]
        grind
      rw [e1] at h
      rcases ld_nu_inj (v1 r hr) hcol e with e2 | e2
      · rw [← e2, ld_R_own hV0 hr hr, if_pos rfl] at h
        have : ld_d X a b * ld_cc k n (o r) = ld_cc k n (o r) * ld_d X a b := Int.mul_comm _ _
        omega
      · have e3 : ld_R X Y o a b r col = -ld_d X a b := by
          rw [ld_R_lt hcol, ← e, ld_M_self]
          unfold ld_d
          grind
        rw [e3] at h
        have c1 := Int.mul_nonneg (Int.le_of_lt hd) (ld_cc_nonneg hk n col)
        have c2 := Int.mul_nonneg (Int.le_of_lt hd) (ld_cc_nonneg hk n (o r))
        have : ld_cc k n (o r) * -ld_d X a b = -(ld_d X a b * ld_cc k n (o r)) := by grind
        omega
  · have e1 : ld_sm (fun s => ld_cc k n (o s) * ld_R X Y o a b s col) n = 0 := ld_sm_zero (fun s hs => by
      have := (v3 s hs).2.2
      rw [ld_R_lt hcol, ld_M_0 X (by omega) ha hb]
      grind)
    have e2 : ld_cc k n col = 0 := by
      have := ld_nu_lt hcol (n := n) (by omega) hn
      unfold ld_cc
      rw [if_neg (by omega), if_neg (by omega)]
    rw [e1, e2] at h
    omega
/-- there is a row that limits the column -/
theorem ld_lim_ex {n : Nat} {X Y : Nat → Int} {k : Int} (hk : ld_k k) {o : Nat → Nat} {a b col : Nat} (hV : ld_V n X Y o a b) (h : ld_R8 n X Y k o a b col < 0) : ∃ r, r < n ∧ 0 < ld_R X Y o a b r col := by
  obtain ⟨v1, v2, v3, v4, v5, v6, v7, v8, v9⟩ := hV
  have hd := ld_d_pos v8
  unfold ld_R8 at h
  have c1 := Int.mul_nonneg (Int.le_of_lt hd) (ld_cc_nonneg hk n col)
  obtain ⟨r, hr, h1⟩ := ld_sm_pos (f := fun s => ld_cc k n (o s) * ld_R X Y o a b s col) (n := n) (by omega)
  refine ⟨r, hr, ?_⟩
  by_cases e : 0 < ld_R X Y o a b r col
  · exact e
  · have := Int.mul_nonpos_of_nonneg_of_nonpos (ld_cc_nonneg hk n (o r)) (show ld_R X Y o a b r col ≤ 0 by omega)
    omega
/-- the rule: the entering column, the leaving row -/
def ld_St (n : Nat) (X Y : Nat → Int) (k : Int) (o : Nat → Nat) (a b row col : Nat) : Prop :=
  row < n ∧ col < 20 ∧ ld_R8 n X Y k o a b col < 0 ∧ (∀ c, c < col → 0 ≤ ld_R8 n X Y k o a b c) ∧ 0 < ld_R X Y o a b row col ∧
  ∀ r, r < n → 0 < ld_R X Y o a b r col → ld_R X Y o a b row 20 * ld_R X Y o a b r col < ld_R X Y o a b r 20 * ld_R X Y o a b row col ∨ (ld_R X Y o a b row 20 * ld_R X Y o a b r col = ld_R X Y o a b r 20 * ld_R X Y o a b row col ∧ o row ≤ o r)
theorem ld_next_V {n : Nat} {X Y : Nat → Int} {k : Int} (hk : ld_k k) (hn : n ≤ 8) {o : Nat → Nat} {a b row col : Nat} (hV : ld_V n X Y o a b) (hS : ld_St n X Y k o a b row col) :
    ld_V n X Y (ld_upn o row col) (ld_na o a row col) (ld_nb o a b row col) := by
  obtain ⟨hrow, hcol, hneg, hmin, hp, hrat⟩ := hS
  have hnet := ld_R8_net hk hn hV hcol hneg
  obtain ⟨p1, p2, p3, p4⟩ := ld_pivot hV hrow hcol hnet hp
  obtain ⟨v1, v2, v3, v4, v5, v6, v7, v8, v9⟩ := hV
  obtain ⟨l1, l2, l3⟩ := v3 row hrow
  have hd := ld_d_pos v8
  have ho : ∀ r, r ≠ row → ld_upn o row col r = o r := fun r h => by unfold ld_upn; rw [if_neg h]
  have ho2 : ld_upn o row col row = col := by unfold ld_upn; rw [if_pos rfl]
  have hna : (ld_nu col = a ∧ ld_na o a row col = ld_nu (o row) ∧ ld_nb o a b row col = b) ∨ (ld_nu col = b ∧ ld_na o a row col = a ∧ ld_nb o a b row col = ld_nu (o row)) := by
    by_cases hca : ld_nu col = a
    · left
      exact ⟨hca, by unfold ld_na; rw [if_pos hca], by unfold ld_nb; rw [if_pos hca]⟩
    · right
      refine ⟨by rcases hnet with h | h; exact absurd h hca; exact h, by unfold ld_na; rw [if_neg hca], by unfold ld_nb; rw [if_neg hca]⟩
  refine ⟨fun r hr => ?_, fun r s hr hs e => ?_, fun r hr => ?_, ?_, ?_, ?_, fun v hv => ?_, p1, fun r hr => ?_⟩
  · by_cases e : r = row
    · subst e; rw [ho2]; exact hcol
    · rw [ho r e]; exact v1 r hr
  · by_cases e1 : r = row
    · by_cases e2 : s = row
      · omega
      · exfalso
        subst e1
        rw [ho2, ho s e2] at e
        have := v3 s hs
        rcases hnet with h | h
        · exact this.1 (by omega)
        · exact this.2.1 (by omega)
    · by_cases e2 : s = row
      · exfalso
        subst e2
        rw [ho2, ho r e1] at e
        have := v3 r hr
        rcases hnet with h | h
        · exact this.1 (by omega)
        · exact this.2.1 (by omega)
      · rw [ho r e1, ho s e2] at e
        exact v2 r s hr hs e
  · by_cases e1 : r = row
    · subst e1
      rw [ho2]
      rcases hna with ⟨h1, h2, h3⟩ | ⟨h1, h2, h3⟩
      · rw [h2, h3]; omega
      · rw [h2, h3]; omega
    · rw [ho r e1]
      have hrl : ld_nu (o r) ≠ ld_nu (o row) := fun e => e1 (v2 r row hr hrow e)
      have := v3 r hr
      rcases hna with ⟨h1, h2, h3⟩ | ⟨h1, h2, h3⟩
      · rw [h2, h3]; omega
      · rw [h2, h3]; omega
  · rcases hna with ⟨h1, h2, h3⟩ | ⟨h1, h2, h3⟩
    · rw [h2, h3]; omega
    · rw [h2, h3]; omega
  · rcases hna with ⟨h1, h2, h3⟩ | ⟨h1, h2, h3⟩
    · rw [h2]; omega
    · rw [h2]; omega
  · rcases hna with ⟨h1, h2, h3⟩ | ⟨h1, h2, h3⟩
    · rw [h3]; omega
    · rw [h3]; omega
  · have hrow' : ld_nu (ld_upn o row col row) = ld_nu col := by rw [ho2]
    rcases v7 v hv with e | e | ⟨r, hr, e⟩
    · rcases hna with ⟨h1, h2, h3⟩ | ⟨h1, h2, h3⟩
      · exact Or.inr (Or.inr ⟨row, hrow, by omega⟩)
      · exact Or.inl (by omega)
    · rcases hna with ⟨h1, h2, h3⟩ | ⟨h1, h2, h3⟩
      · exact Or.inr (Or.inl (by omega))
      · exact Or.inr (Or.inr ⟨row, hrow, by omega⟩)
    · by_cases e1 : r = row
      · subst e1
        rcases hna with ⟨h1, h2, h3⟩ | ⟨h1, h2, h3⟩
        · exact Or.inl (by omega)
        · exact Or.inr (Or.inl (by omega))
      · exact Or.inr (Or.inr ⟨r, hr, by rw [ho r e1]; exact e⟩)
  · by_cases e1 : r = row
    · subst e1
      rw [p4 20 (by omega)]
      exact v9 r hr
    · have h1 := p3 r 20 hr e1 (by omega)
      have h2 := v9 r hr
      have h3 := v9 row hrow
      have h4 : 0 ≤ ld_d X a b * ld_R X Y (ld_upn o row col) (ld_na o a row col) (ld_nb o a b row col) r 20 := by
        rw [h1]
        by_cases e2 : 0 < ld_R X Y o a b r col
        · have c1 : ld_R X Y o a b row col * ld_R X Y o a b r 20 = ld_R X Y o a b r 20 * ld_R X Y o a b row col := Int.mul_comm _ _
          have c2 : ld_R X Y o a b r col * ld_R X Y o a b row 20 = ld_R X Y o a b row 20 * ld_R X Y o a b r col := Int.mul_comm _ _
          rcases hrat r hr e2 with h | ⟨h, -⟩
          · omega
          · omega
        · have c1 := Int.mul_nonneg (Int.le_of_lt hp) h2
          have c2 := Int.mul_nonpos_of_nonpos_of_nonneg (show ld_R X Y o a b r col ≤ 0 by omega) h3
          omega
      by_cases e3 : 0 ≤ ld_R X Y (ld_upn o row col) (ld_na o a row col) (ld_nb o a b row col) r 20
      · exact e3
      · have := Int.mul_neg_of_pos_of_neg hd (show ld_R X Y (ld_upn o row col) (ld_na o a row col) (ld_nb o a b row col) r 20 < 0 by omega)
        omega
/-! sums over the nets -/
theorem ld_sm_shift (f : Nat → Int) (n : Nat) : ld_sm f (n + 2) = f 0 + f 1 + ld_sm (fun i => f (i + 2)) n := by
  induction n with
  | zero => simp [ld_sm]
  | succ n ih => rw [ld_sm_s, ih, ld_sm_s]; omega
theorem ld_sm_ind {N j : Nat} (hj : j < N) (g : Nat → Int) : ld_sm (fun w => if w = j then g w else 0) N = g j := by
  rw [ld_sm_one (f := fun w => if w = j then g w else 0) hj (fun i _ hne => by simp [hne])]
  simp
/-- every net is one of the two free ones or the owner of one row -/
theorem ld_nets {n : Nat} {X Y : Nat → Int} {o : Nat → Nat} {a b : Nat} (hV : ld_V n X Y o a b) (f : Nat → Int) : ld_sm f (n + 2) = f a + f b + ld_sm (fun s => f (ld_nu (o s))) n := by
  obtain ⟨v1, v2, v3, v4, v5, v6, v7, v8, v9⟩ := hV
  have e1 : ld_sm f (n + 2) = ld_sm (fun w => ((if w = a then f w else 0) + (if w = b then f w else 0)) + ld_sm (fun s => if ld_nu (o s) = w then f (ld_nu (o s)) else 0) n) (n + 2) := by
    refine ld_sm_congr (fun w hw => ?_)
    rcases v7 w hw with e | e | ⟨r, hr, e⟩
    · rw [if_pos e, if_neg (by omega), ld_sm_zero (fun s hs => by rw [if_neg (fun h => (v3 s hs).1 (by omega))])]
      omega
    · rw [if_neg (by omega), if_pos e, ld_sm_zero (fun s hs => by rw [if_neg (fun h => (v3 s hs).2.1 (by omega))])]
      omega
    · have h3 := v3 r hr
      rw [if_neg (by omega), if_neg (by omega), ld_sm_one (f := fun s => if ld_nu (o s) = w then f (ld_nu (o s)) else 0) hr (fun s hs hne => by
        rw [if_neg (fun h => hne (v2 s r hs hr (by omega)))])]
      simp only [if_pos e]
      rw [e]
      omega
  rw [e1, ld_sm_add, ld_sm_add, ld_sm_ind v5, ld_sm_ind v6, ld_sm_swap]
  congr 1
  refine ld_sm_congr (fun s hs => ?_)
  have h3 := (v3 s hs).2.2
  rw [ld_sm_one (f := fun w => if ld_nu (o s) = w then f (ld_nu (o s)) else 0) h3 (fun w _ hne => by
    rw [if_neg (fun h => hne h.symm)])]
  simp
/-- a row's relation, with any weights of the nets -/
theorem ld_rel {n : Nat} {X Y : Nat → Int} {o : Nat → Nat} {a b : Nat} (hV : ld_V n X Y o a b) {r : Nat} (hr : r < n) (φ : Nat → Int) :
    ld_sm (fun w => ld_M X a b (ld_nu (o r)) w * φ w) (n + 2) = ld_hb X a b * φ (ld_nu (o r)) - ld_hb X (ld_nu (o r)) b * φ a + ld_hb X (ld_nu (o r)) a * φ b := by
  rw [ld_nets hV]
  obtain ⟨v1, v2, v3, v4, v5, v6, v7, v8, v9⟩ := hV
  have h3 := v3 r hr
  rw [ld_sm_one (f := fun s => ld_M X a b (ld_nu (o r)) (ld_nu (o s)) * φ (ld_nu (o s))) hr (fun s hs hne => by
    rw [ld_M_0 X (fun h => hne (v2 s r hs hr h)) (v3 s hs).1 (v3 s hs).2.1]
    omega), ld_M_self, ld_M_a X (Ne.symm h3.1), ld_M_b X (Ne.symm h3.2.1) (Ne.symm v4)]
  grind
set_option maxHeartbeats 4000000 in
/-- no line costs less than the last table says -/
theorem ld_lower {n : Nat} {X Y : Nat → Int} {k : Int} (hn : n ≤ 8) {o : Nat → Nat} {a b : Nat} (hV : ld_V n X Y o a b) (hopt : ∀ c, c < 20 → 0 ≤ ld_R8 n X Y k o a b c) (P Q Hh : Int) :
    (-ld_R8 n X Y k o a b 20) * Q ≤ ld_sm (fun j => ld_cst k (Q * Y j - P * X j - Hh)) n * ld_d X a b := by
  obtain ⟨z, hz⟩ : ∃ z : Nat → Int, z = fun w => P * ld_hx X w + Hh * ld_hy w + Q * ld_hw Y w := ⟨_, rfl⟩
  have z0 : z 0 = P := by rw [hz]; simp [ld_hx, ld_hy, ld_hw]
  have z1 : z 1 = Hh := by rw [hz]; simp [ld_hx, ld_hy, ld_hw]
  have z2 : ∀ i, z (i + 2) = Q * Y i - P * X i - Hh := by intro i; rw [hz]; simp [ld_hx, ld_hy, ld_hw]; grind
  obtain ⟨A, hA⟩ : ∃ A : Nat → Int, A = fun s => ld_cc k n (o s) * (ld_sg (o s) * ld_tau X a b) := ⟨_, rfl⟩
  obtain ⟨μ, hμ⟩ : ∃ μ : Nat → Int, μ = fun w => ld_sm (fun s => A s * ld_M X a b (ld_nu (o s)) w) n := ⟨_, rfl⟩
  have hR8 : ∀ c, c < 20 → ld_R8 n X Y k o a b c = ld_d X a b * ld_cc k n c - ld_sg c * μ (ld_nu c) := by
    intro c hc
    unfold ld_R8
    rw [hμ]
    simp only
    rw [← ld_sm_mul]
    congr 1
    refine ld_sm_congr (fun s _ => ?_)
    rw [ld_R_lt hc, hA]
    grind
  have hrow : ∀ s, s < n → ld_sm (fun i => ld_M X a b (ld_nu (o s)) (i + 2) * z (i + 2)) n = Q * ld_N X Y a b (ld_nu (o s)) - ld_M X a b (ld_nu (o s)) 0 * P - ld_M X a b (ld_nu (o s)) 1 * Hh := by
    intro s hs
    have h1 := ld_rel hV hs z
    rw [ld_sm_shift, z0, z1] at h1
    have h2 : ld_hb X a b * z (ld_nu (o s)) - ld_hb X (ld_nu (o s)) b * z a + ld_hb X (ld_nu (o s)) a * z b = Q * ld_N X Y a b (ld_nu (o s)) := by
      rw [hz]
      unfold ld_N ld_hb
      grind
    omega
  have hd := ld_d_pos hV.2.2.2.2.2.2.2.1
  have hsum : ld_sm (fun i => μ (i + 2) * z (i + 2)) n = Q * ld_sm (fun s => A s * ld_N X Y a b (ld_nu (o s))) n - P * μ 0 - Hh * μ 1 := by
    have e1 : ld_sm (fun i => μ (i + 2) * z (i + 2)) n = ld_sm (fun i => ld_sm (fun s => A s * (ld_M X a b (ld_nu (o s)) (i + 2) * z (i + 2))) n) n := by
      refine ld_sm_congr (fun i _ => ?_)
      rw [hμ]
      simp only
      rw [← ld_sm_mulr]
      exact ld_sm_congr (fun s _ => by grind)
    rw [e1, ld_sm_swap, hμ]
    simp only
    rw [← ld_sm_mul, ← ld_sm_mul, ← ld_sm_mul, ← ld_sm_sub, ← ld_sm_sub]
    refine ld_sm_congr (fun s hs => ?_)
    rw [ld_sm_mul, hrow s hs]
    grind
  have hm0 : μ 0 = 0 := by
    have h1 := hR8 0 (by omega)
    have h2 := hR8 1 (by omega)
    have h3 := hopt 0 (by omega)
    have h4 := hopt 1 (by omega)
    have c0 : ld_cc k n 0 = 0 := by unfold ld_cc; rw [if_neg (by omega), if_neg (by omega)]
    have c1 : ld_cc k n 1 = 0 := by unfold ld_cc; rw [if_neg (by omega), if_neg (by omega)]
    rw [c0, show ld_sg 0 = 1 from rfl, show ld_nu 0 = 0 from rfl] at h1
    rw [c1, show ld_sg 1 = -1 from rfl, show ld_nu 1 = 0 from rfl] at h2
    omega
  have hm1 : μ 1 = 0 := by
    have h1 := hR8 2 (by omega)
    have h2 := hR8 3 (by omega)
    have h3 := hopt 2 (by omega)
    have h4 := hopt 3 (by omega)
    have c0 : ld_cc k n 2 = 0 := by unfold ld_cc; rw [if_neg (by omega), if_neg (by omega)]
    have c1 : ld_cc k n 3 = 0 := by unfold ld_cc; rw [if_neg (by omega), if_neg (by omega)]
    rw [c0, show ld_sg 2 = 1 from rfl, show ld_nu 2 = 1 from rfl] at h1
    rw [c1, show ld_sg 3 = -1 from rfl, show ld_nu 3 = 1 from rfl] at h2
    omega
  have htop : -ld_R8 n X Y k o a b 20 = ld_sm (fun s => A s * ld_N X Y a b (ld_nu (o s))) n := by
    unfold ld_R8
    have c0 : ld_cc k n 20 = 0 := by unfold ld_cc; rw [if_neg (by omega), if_neg (by omega)]
    have e : ld_sm (fun s => ld_cc k n (o s) * ld_R X Y o a b s 20) n = ld_sm (fun s => A s * ld_N X Y a b (ld_nu (o s))) n := ld_sm_congr (fun s _ => by rw [ld_R_20, hA]; grind)
    rw [c0, e]
    omega
  rw [hm0, hm1, ← htop] at hsum
  have hle : ld_sm (fun i => μ (i + 2) * z (i + 2)) n ≤ ld_sm (fun i => ld_cst k (Q * Y i - P * X i - Hh) * ld_d X a b) n := by
    refine ld_sm_le (fun i hi => ?_)
    rw [z2]
    generalize Q * Y i - P * X i - Hh = x
    have h1 := hopt (4 + i) (by omega)
    have h2 := hopt (12 + i) (by omega)
    rw [hR8 _ (by omega), (ld_nu_4 (i := i) (by omega)).1, (ld_nu_4 (i := i) (by omega)).2] at h1
    rw [hR8 _ (by omega), ld_nu_12.1, ld_nu_12.2] at h2
    have c0 : ld_cc k n (4 + i) = k := by unfold ld_cc; rw [if_pos (by omega)]
    have c1 : ld_cc k n (12 + i) = 4 - k := by unfold ld_cc; rw [if_neg (by omega), if_pos (by omega)]
    rw [c0] at h1
    rw [c1] at h2
    by_cases hx : 0 ≤ x
    · rw [ld_cst_p hx]
      have h3 := ld_mono (show μ (i + 2) ≤ ld_d X a b * k by omega) hx
      have h4 : ld_d X a b * k * x = k * x * ld_d X a b := by grind
      omega
    · rw [ld_cst_n (by omega)]
      have h3 := ld_mono (show -μ (i + 2) ≤ ld_d X a b * (4 - k) by omega) (show 0 ≤ -x by omega)
      have h4 : -μ (i + 2) * -x = μ (i + 2) * x := by grind
      have h5 : ld_d X a b * (4 - k) * -x = (k - 4) * x * ld_d X a b := by grind
      omega
  rw [ld_sm_mulr] at hle
  have h6 : (-ld_R8 n X Y k o a b 20) * Q = Q * -ld_R8 n X Y k o a b 20 := Int.mul_comm _ _
  omega
set_option maxHeartbeats 4000000 in
/-- the table's own line costs just what the table says -/
theorem ld_attain {n : Nat} {X Y : Nat → Int} {k : Int} (hn : n ≤ 8) {o : Nat → Nat} {a b : Nat} (hV : ld_V n X Y o a b) :
    ∃ P Q Hh : Int, 0 < Q ∧ ld_sm (fun j => ld_cst k (Q * Y j - P * X j - Hh)) n * ld_d X a b ≤ (-ld_R8 n X Y k o a b 20) * Q := by
  have hV0 := hV
  obtain ⟨v1, v2, v3, v4, v5, v6, v7, v8, v9⟩ := hV
  have hd := ld_d_pos v8
  obtain ⟨P, hP⟩ : ∃ P : Int, P = ld_tau X a b * (ld_hy a * ld_hw Y b - ld_hw Y a * ld_hy b) := ⟨_, rfl⟩
  obtain ⟨Hh, hH⟩ : ∃ Hh : Int, Hh = ld_tau X a b * (ld_hw Y a * ld_hx X b - ld_hx X a * ld_hw Y b) := ⟨_, rfl⟩
  refine ⟨P, ld_d X a b, Hh, hd, Int.le_of_eq ?_⟩
  congr 1
  have hz : ∀ w, P * ld_hx X w + Hh * ld_hy w + ld_d X a b * ld_hw Y w = ld_tau X a b * ld_N X Y a b w := by
    intro w
    rw [hP, hH]
    unfold ld_d ld_N ld_hb
    grind
  have hz2 : ∀ i, ld_d X a b * Y i - P * X i - Hh = ld_tau X a b * ld_N X Y a b (i + 2) := by
    intro i
    rw [← hz]
    simp [ld_hx, ld_hy, ld_hw]
    grind
  have e1 : ld_sm (fun j => ld_cst k (ld_d X a b * Y j - P * X j - Hh)) n = ld_sm (fun i => ld_sm (fun s => if ld_nu (o s) = i + 2 then ld_cc k n (o s) * ld_R X Y o a b s 20 else 0) n) n := by
    refine ld_sm_congr (fun i hi => ?_)
    rw [hz2]
    rcases v7 (i + 2) (by omega) with e | e | ⟨r, hr, e⟩
    · rw [ld_sm_zero (fun s hs => by rw [if_neg (fun h => (v3 s hs).1 (by omega))])]
      have : ld_N X Y a b (i + 2) = 0 := by rw [e]; unfold ld_N; rw [ld_hb_self]; grind
      rw [this, Int.mul_zero, ld_cst_n (Int.le_refl _), Int.mul_zero]
    · rw [ld_sm_zero (fun s hs => by rw [if_neg (fun h => (v3 s hs).2.1 (by omega))])]
      have : ld_N X Y a b (i + 2) = 0 := by rw [e]; unfold ld_N; rw [ld_hb_self, ld_hb_anti X b a]; grind
      rw [this, Int.mul_zero, ld_cst_n (Int.le_refl _), Int.mul_zero]
    · rw [ld_sm_one (f := fun s => if ld_nu (o s) = i + 2 then ld_cc k n (o s) * ld_R X Y o a b s 20 else 0) hr (fun s hs hne => by
        rw [if_neg (fun h => hne (v2 s r hs hr (by omega)))])]
      simp only [if_pos e]
      have h9 := v9 r hr
      have h20 : ld_R X Y o a b r 20 = ld_sg (o r) * ld_tau X a b * ld_N X Y a b (i + 2) := by rw [ld_R_20, e]
      rcases ld_nu_pt (v1 r hr) e with ⟨q1, q2, q3⟩ | ⟨q1, q2, q3⟩
      · rw [q3] at h20
        have h5 : ld_tau X a b * ld_N X Y a b (i + 2) = ld_R X Y o a b r 20 := by rw [h20]; grind
        have c0 : ld_cc k n (o r) = k := by rw [q1]; unfold ld_cc; rw [if_pos (by omega)]
        rw [h5, c0, ld_cst_p h9]
      · rw [q3] at h20
        have h5 : ld_tau X a b * ld_N X Y a b (i + 2) = -ld_R X Y o a b r 20 := by rw [h20]; grind
        have c0 : ld_cc k n (o r) = 4 - k := by rw [q1]; unfold ld_cc; rw [if_neg (by omega), if_pos (by omega)]
        rw [h5, c0, ld_cst_n (by omega)]
        grind
  rw [e1, ld_sm_swap]
  unfold ld_R8
  have c0 : ld_cc k n 20 = 0 := by unfold ld_cc; rw [if_neg (by omega), if_neg (by omega)]
  rw [c0]
  have e2 : ld_sm (fun s => ld_sm (fun i => if ld_nu (o s) = i + 2 then ld_cc k n (o s) * ld_R X Y o a b s 20 else 0) n) n = ld_sm (fun s => ld_cc k n (o s) * ld_R X Y o a b s 20) n := by
    refine ld_sm_congr (fun s hs => ?_)
    by_cases h : ld_nu (o s) < 2
    · have h4 := ld_nu_small h
      have c1 : ld_cc k n (o s) = 0 := by unfold ld_cc; rw [if_neg (by omega), if_neg (by omega)]
      rw [c1, ld_sm_zero (fun i _ => by simp)]
      omega
    · have h5 := (v3 s hs).2.2
      rw [ld_sm_one (f := fun i => if ld_nu (o s) = i + 2 then ld_cc k n (o s) * ld_R X Y o a b s 20 else 0) (j := ld_nu (o s) - 2) (by omega) (fun i _ hne => by
        rw [if_neg (by omega)])]
      rw [if_pos (by omega)]
  rw [e2]
  omega
end
section
/-! PLAIN LAW 5: Bland's rule: no chain of steps goes on for ever -/
theorem ld_basis_M {n : Nat} {X Y : Nat → Int} {o o' : Nat → Nat} {a b a' b' : Nat} (hV : ld_V n X Y o a b) (hV' : ld_V n X Y o' a' b') {r : Nat} (hr : r < n) (w : Nat) :
    ld_hb X a b * ld_M X a' b' (ld_nu (o' r)) w = ld_sm (fun s => ld_M X a' b' (ld_nu (o' r)) (ld_nu (o s)) * ld_M X a b (ld_nu (o s)) w) n := by
  have hV0 := hV
  have hV0' := hV'
  obtain ⟨v1, v2, v3, v4, v5, v6, v7, v8, v9⟩ := hV
  obtain ⟨u1, u2, u3, u4, u5, u6, u7, u8, u9⟩ := hV'
  by_cases hw : w < n + 2
  · rcases v7 w hw with e | e | ⟨t, ht, e⟩
    · subst e
      have h1 := ld_nets hV0 (fun x => ld_M X a' b' (ld_nu (o' r)) x * ld_hb X x b)
      have h2 := ld_rel hV0' hr (fun x => ld_hb X x b)
      rw [h1] at h2
      have h3 : ld_hb X a' b' * ld_hb X (ld_nu (o' r)) b - ld_hb X (ld_nu (o' r)) b' * ld_hb X a' b + ld_hb X (ld_nu (o' r)) a' * ld_hb X b' b = 0 := by unfold ld_hb; grind
      have h4 : ld_sm (fun s => ld_M X a' b' (ld_nu (o' r)) (ld_nu (o s)) * ld_M X w b (ld_nu (o s)) w) n = (-1) * ld_sm (fun s => ld_M X a' b' (ld_nu (o' r)) (ld_nu (o s)) * ld_hb X (ld_nu (o s)) b) n := by
        rw [← ld_sm_mul]
        refine ld_sm_congr (fun s hs => ?_)
        rw [ld_M_a X (Ne.symm (v3 s hs).1)]
        grind
      rw [h4]
      rw [h3, ld_hb_self] at h2
      have h5 : ld_hb X w b * ld_M X a' b' (ld_nu (o' r)) w = ld_M X a' b' (ld_nu (o' r)) w * ld_hb X w b := Int.mul_comm _ _
      omega
    · subst e
      have h1 := ld_nets hV0 (fun x => ld_M X a' b' (ld_nu (o' r)) x * ld_hb X x a)
      have h2 := ld_rel hV0' hr (fun x => ld_hb X x a)
      rw [h1] at h2
      have h3 : ld_hb X a' b' * ld_hb X (ld_nu (o' r)) a - ld_hb X (ld_nu (o' r)) b' * ld_hb X a' a + ld_hb X (ld_nu (o' r)) a' * ld_hb X b' a = 0 := by unfold ld_hb; grind
      have h4 : ld_sm (fun s => ld_M X a' b' (ld_nu (o' r)) (ld_nu (o s)) * ld_M X a w (ld_nu (o s)) w) n = ld_sm (fun s => ld_M X a' b' (ld_nu (o' r)) (ld_nu (o s)) * ld_hb X (ld_nu (o s)) a) n := by
        refine ld_sm_congr (fun s hs => ?_)
        rw [ld_M_b X (Ne.symm (v3 s hs).2.1) (Ne.symm v4)]
      rw [h4]
      rw [h3, ld_hb_self, ld_hb_anti X w a] at h2
      have h5 : ld_M X a' b' (ld_nu (o' r)) w * -ld_hb X a w = -(ld_hb X a w * ld_M X a' b' (ld_nu (o' r)) w) := by grind
      omega
    · subst e
      rw [ld_sm_one (f := fun s => ld_M X a' b' (ld_nu (o' r)) (ld_nu (o s)) * ld_M X a b (ld_nu (o s)) (ld_nu (o t))) ht (fun s hs hne => by
        rw [ld_M_0 X (fun h => hne (v2 t s ht hs h).symm) (v3 t ht).1 (v3 t ht).2.1]; omega), ld_M_self]
      exact Int.mul_comm _ _
  · rw [ld_M_0 X (by have := (u3 r hr).2.2; omega) (by omega) (by omega), ld_sm_zero (fun s hs => by
      rw [ld_M_0 X (a := a) (b := b) (by have := (v3 s hs).2.2; omega) (by omega) (by omega)]; omega)]
    omega
theorem ld_basis {n : Nat} {X Y : Nat → Int} {o o' : Nat → Nat} {a b a' b' : Nat} (hV : ld_V n X Y o a b) (hV' : ld_V n X Y o' a' b') {r c : Nat} (hr : r < n) (hc : c < 20) :
    ld_d X a b * ld_R X Y o' a' b' r c = ld_sm (fun s => ld_R X Y o' a' b' r (o s) * ld_R X Y o a b s c) n := by
  have key := ld_basis_M hV hV' hr (ld_nu c)
  have e1 : ld_sm (fun s => ld_R X Y o' a' b' r (o s) * ld_R X Y o a b s c) n = (ld_sg c * ld_sg (o' r) * ld_tau X a' b' * ld_tau X a b) * ld_sm (fun s => ld_M X a' b' (ld_nu (o' r)) (ld_nu (o s)) * ld_M X a b (ld_nu (o s)) (ld_nu c)) n := by
    rw [← ld_sm_mul]
    refine ld_sm_congr (fun s hs => ?_)
    rw [ld_R_lt hc, ld_R_lt (hV.1 s hs)]
    have := ld_sg2 (o s)
    grind
  rw [e1, ← key, ld_R_lt hc]
  unfold ld_d
  grind
/-- the costs of one table out of those of another -/
theorem ld_basis8 {n : Nat} {X Y : Nat → Int} {k : Int} {o o' : Nat → Nat} {a b a' b' : Nat} (hV : ld_V n X Y o a b) (hV' : ld_V n X Y o' a' b') {c : Nat} (hc : c < 20) :
    ld_d X a b * ld_R8 n X Y k o' a' b' c - ld_sm (fun s => ld_R8 n X Y k o' a' b' (o s) * ld_R X Y o a b s c) n = ld_d X a' b' * ld_R8 n X Y k o a b c := by
  have e1 : ld_sm (fun s => ld_R8 n X Y k o' a' b' (o s) * ld_R X Y o a b s c) n = ld_d X a' b' * ld_sm (fun s => ld_cc k n (o s) * ld_R X Y o a b s c) n - ld_sm (fun s => ld_sm (fun r => ld_cc k n (o' r) * (ld_R X Y o' a' b' r (o s) * ld_R X Y o a b s c)) n) n := by
    rw [← ld_sm_mul, ← ld_sm_sub]
    refine ld_sm_congr (fun s _ => ?_)
    unfold ld_R8
    have e2 : ld_sm (fun r => ld_cc k n (o' r) * (ld_R X Y o' a' b' r (o s) * ld_R X Y o a b s c)) n = ld_sm (fun r => ld_cc k n (o' r) * ld_R X Y o' a' b' r (o s)) n * ld_R X Y o a b s c := by
      rw [← ld_sm_mulr]
      exact ld_sm_congr (fun r _ => by grind)
    rw [e2]
    grind
  have e3 : ld_sm (fun s => ld_sm (fun r => ld_cc k n (o' r) * (ld_R X Y o' a' b' r (o s) * ld_R X Y o a b s c)) n) n = ld_d X a b * ld_sm (fun r => ld_cc k n (o' r) * ld_R X Y o' a' b' r c) n := by
    rw [ld_sm_swap, ← ld_sm_mul]
    refine ld_sm_congr (fun r hr => ?_)
    rw [ld_sm_mul, ← ld_basis hV hV' hr hc]
    grind
  rw [e1, e3]
  unfold ld_R8
  grind
theorem ld_R8_own {n : Nat} {X Y : Nat → Int} {k : Int} {o : Nat → Nat} {a b : Nat} (hV : ld_V n X Y o a b) {s : Nat} (hs : s < n) : ld_R8 n X Y k o a b (o s) = 0 := by
  unfold ld_R8
  rw [ld_sm_one (f := fun r => ld_cc k n (o r) * ld_R X Y o a b r (o s)) hs (fun r hr hne => by rw [ld_R_own hV hr hs, if_neg hne]; omega), ld_R_own hV hs hs, if_pos rfl]
  grind
/-- between a time when it holds and one when it doesn't -/
theorem ld_turn (P : Nat → Prop) (t m : Nat) (h1 : P t) (h2 : ¬ P (t + m)) : ∃ i, i < m ∧ P (t + i) ∧ ¬ P (t + i + 1) := by
  induction m with
  | zero => exact absurd h1 h2
  | succ m ih =>
    by_cases h : P (t + m)
    · exact ⟨m, by omega, h, h2⟩
    · obtain ⟨i, a, b⟩ := ih h
      exact ⟨i, by omega, b⟩
theorem ld_max (c : Nat → Nat) (N : Nat) (h : ∀ t, c t < N) : ∃ t, ∀ s, c s ≤ c t := by
  obtain ⟨m, ⟨t, ht⟩, hm⟩ := pk_least (fun m => ∃ t, N - c t = m) ⟨_, 0, rfl⟩
  refine ⟨t, fun s => ?_⟩
  by_cases e : c s ≤ c t
  · exact e
  · have h1 := h s
    have h2 := h t
    exact absurd ⟨s, rfl⟩ (hm (N - c s) (by omega))
set_option maxHeartbeats 4000000 in
/-- Bland: a chain that comes round is impossible -/
theorem ld_round {n : Nat} {X Y : Nat → Int} {k : Int} (hk : ld_k k) (hn : n ≤ 8) (o : Nat → Nat → Nat) (a b row col : Nat → Nat) (L : Nat) (hL : 0 < L)
    (hV : ∀ t, ld_V n X Y (o t) (a t) (b t)) (hS : ∀ t, ld_St n X Y k (o t) (a t) (b t) (row t) (col t))
    (ho : ∀ t, o (t + 1) = ld_upn (o t) (row t) (col t)) (ha : ∀ t, a (t + 1) = ld_na (o t) (a t) (row t) (col t)) (hb : ∀ t, b (t + 1) = ld_nb (o t) (a t) (b t) (row t) (col t))
    (hper : ∀ t, o (t + L) = o t ∧ a (t + L) = a t ∧ b (t + L) = b t) : False := by
  have hd : ∀ t, 0 < ld_d X (a t) (b t) := fun t => ld_d_pos (hV t).2.2.2.2.2.2.2.1
  have hpiv : ∀ t, ld_d X (a (t + 1)) (b (t + 1)) = ld_R X Y (o t) (a t) (b t) (row t) (col t) ∧
      (∀ r c, r < n → r ≠ row t → c ≤ 20 → ld_d X (a t) (b t) * ld_R X Y (o (t + 1)) (a (t + 1)) (b (t + 1)) r c = ld_R X Y (o t) (a t) (b t) (row t) (col t) * ld_R X Y (o t) (a t) (b t) r c - ld_R X Y (o t) (a t) (b t) r (col t) * ld_R X Y (o t) (a t) (b t) (row t) c) ∧
      (∀ c, c ≤ 20 → ld_R X Y (o (t + 1)) (a (t + 1)) (b (t + 1)) (row t) c = ld_R X Y (o t) (a t) (b t) (row t) c) ∧
      ld_d X (a t) (b t) * ld_R8 n X Y k (o (t + 1)) (a (t + 1)) (b (t + 1)) 20 = ld_R X Y (o t) (a t) (b t) (row t) (col t) * ld_R8 n X Y k (o t) (a t) (b t) 20 - ld_R8 n X Y k (o t) (a t) (b t) (col t) * ld_R X Y (o t) (a t) (b t) (row t) 20 := by
    intro t
    obtain ⟨s1, s2, s3, s4, s5, s6⟩ := hS t
    have hnet := ld_R8_net hk hn (hV t) s2 s3
    obtain ⟨p1, p2, p3, p4⟩ := ld_pivot (hV t) s1 s2 hnet s5
    rw [ho t, ha t, hb t]
    exact ⟨p2, p3, p4, ld_pivot8 (hV t) s1 s2 hnet s5 20 (by omega)⟩
  -- the cost never rises
  have mono1 : ∀ t, ld_R8 n X Y k (o t) (a t) (b t) 20 * ld_d X (a (t + 1)) (b (t + 1)) ≤ ld_R8 n X Y k (o (t + 1)) (a (t + 1)) (b (t + 1)) 20 * ld_d X (a t) (b t) ∧ (0 < ld_R X Y (o t) (a t) (b t) (row t) 20 → ld_R8 n X Y k (o t) (a t) (b t) 20 * ld_d X (a (t + 1)) (b (t + 1)) < ld_R8 n X Y k (o (t + 1)) (a (t + 1)) (b (t + 1)) 20 * ld_d X (a t) (b t)) := by
    intro t
    obtain ⟨q1, q2, q3, q4⟩ := hpiv t
    obtain ⟨s1, s2, s3, s4, s5, s6⟩ := hS t
    have h9 := (hV t).2.2.2.2.2.2.2.2 (row t) s1
    rw [q1]
    have c1 : ld_R8 n X Y k (o (t + 1)) (a (t + 1)) (b (t + 1)) 20 * ld_d X (a t) (b t) = ld_d X (a t) (b t) * ld_R8 n X Y k (o (t + 1)) (a (t + 1)) (b (t + 1)) 20 := Int.mul_comm _ _
    have c2 : ld_R8 n X Y k (o t) (a t) (b t) 20 * ld_R X Y (o t) (a t) (b t) (row t) (col t) = ld_R X Y (o t) (a t) (b t) (row t) (col t) * ld_R8 n X Y k (o t) (a t) (b t) 20 := Int.mul_comm _ _
    have c3 := Int.mul_nonpos_of_nonpos_of_nonneg (Int.le_of_lt s3) h9
    refine ⟨by omega, fun hp => ?_⟩
    have c4 := Int.mul_neg_of_neg_of_pos s3 hp
    omega
  have mono : ∀ m t, ld_R8 n X Y k (o t) (a t) (b t) 20 * ld_d X (a (t + m)) (b (t + m)) ≤ ld_R8 n X Y k (o (t + m)) (a (t + m)) (b (t + m)) 20 * ld_d X (a t) (b t) := by
    intro m
    induction m with
    | zero => intro t; exact Int.le_refl _
    | succ m ih =>
      intro t
      exact ld_frac (hd t) (hd (t + m)) (hd (t + (m + 1))) (ih t) (mono1 (t + m)).1
  have deg : ∀ t, ld_R X Y (o t) (a t) (b t) (row t) 20 = 0 := by
    intro t
    have h9 := (hV t).2.2.2.2.2.2.2.2 (row t) (hS t).1
    by_cases e : ld_R X Y (o t) (a t) (b t) (row t) 20 = 0
    · exact e
    · exfalso
      have h1 := (mono1 t).2 (by omega)
      have h2 := mono (L - 1) (t + 1)
      rw [show t + 1 + (L - 1) = t + L by omega] at h2
      obtain ⟨e1, e2, e3⟩ := hper t
      rw [e1, e2, e3] at h2
      omega
  have hpL : ∀ t, (fun w => ∃ s, s < n ∧ o (t + L) s = w) = (fun w => ∃ s, s < n ∧ o t s = w) := fun t => by rw [(hper t).1]
  obtain ⟨t2, hmax⟩ := ld_max col 20 (fun t => (hS t).2.1)
  -- a column that enters isn't in the basis
  have hnb : ∀ t s, s < n → o t s ≠ col t := by
    intro t s hs e
    have h1 := ld_R8_own (k := k) (hV t) hs
    rw [e] at h1
    have h2 := (hS t).2.2.1
    omega
  -- times
  obtain ⟨i, hi, hb1, hb2⟩ := ld_turn (fun t => ∃ s, s < n ∧ o t s = col t2) (t2 + 1) (L - 1) ⟨row t2, (hS t2).1, by rw [ho t2]; unfold ld_upn; rw [if_pos rfl]⟩ (by
    rw [show t2 + 1 + (L - 1) = t2 + L by omega]
    rintro ⟨s, hs, e⟩
    rw [(hper t2).1] at e
    exact hnb t2 s hs e)
  generalize ht1 : t2 + 1 + i = t1 at hb1 hb2
  have hleave : o t1 (row t1) = col t2 := by
    obtain ⟨s, hs, e⟩ := hb1
    by_cases e1 : s = row t1
    · rw [← e1]; exact e
    · exact absurd ⟨s, hs, by rw [ho t1]; unfold ld_upn; rw [if_neg e1]; exact e⟩ hb2
  -- a column out of the basis at one time, and in it later, enters between
  have hent : ∀ w m t, (¬ ∃ s, s < n ∧ o t s = w) → (∃ s, s < n ∧ o (t + m) s = w) → ∃ j, col j = w := by
    intro w m t h1 h2
    obtain ⟨j, -, g1, g2⟩ := ld_turn (fun t => ¬ ∃ s, s < n ∧ o t s = w) t m h1 (fun h => h h2)
    have g2 := Classical.not_not.mp g2
    obtain ⟨s, hs, e⟩ := g2
    refine ⟨t + j, ?_⟩
    rw [ho (t + j)] at e
    unfold ld_upn at e
    by_cases e1 : s = row (t + j)
    · rw [if_pos e1] at e; exact e
    · rw [if_neg e1] at e
      exact absurd ⟨s, hs, e⟩ g1
  -- a value that is 0 stays 0
  have hzero1 : ∀ w t, (∀ s, s < n → o t s = w → ld_R X Y (o t) (a t) (b t) s 20 = 0) → ∀ s, s < n → o (t + 1) s = w → ld_R X Y (o (t + 1)) (a (t + 1)) (b (t + 1)) s 20 = 0 := by
    intro w t hz s hs e
    obtain ⟨q1, q2, q3, q4⟩ := hpiv t
    by_cases e1 : s = row t
    · rw [e1, q3 20 (by omega)]; exact deg t
    · have h1 := q2 s 20 hs e1 (by omega)
      rw [ho t] at e
      unfold ld_upn at e
      rw [if_neg e1] at e
      rw [hz s hs e, deg t, Int.mul_zero, Int.mul_zero] at h1
      rcases Int.mul_eq_zero.mp h1 with h | h
      · have := hd t; omega
      · exact h
  have hzero : ∀ w m t, (∀ s, s < n → o t s = w → ld_R X Y (o t) (a t) (b t) s 20 = 0) → ∀ s, s < n → o (t + m) s = w → ld_R X Y (o (t + m)) (a (t + m)) (b (t + m)) s 20 = 0 := by
    intro w m
    induction m with
    | zero => intro t hz; exact hz
    | succ m ih => intro t hz; exact hzero1 w (t + m) (ih t hz)
  have et1 : t1 = t2 + (i + 1) := by omega
  -- the column that enters at t1
  have hc1 : col t1 < col t2 := by
    have h1 := hmax t1
    have h2 := hnb t1 (row t1) (hS t1).1
    omega
  have hid := ld_basis8 (k := k) (hV t1) (hV t2) (c := col t1) (hS t1).2.1
  have h1 := (hS t2).2.2.2.1 (col t1) hc1
  have h2 := Int.mul_neg_of_pos_of_neg (hd t2) (hS t1).2.2.1
  have h3 := Int.mul_nonneg (Int.le_of_lt (hd t1)) h1
  obtain ⟨s, hs, hpos⟩ := ld_sm_pos (f := fun s => ld_R8 n X Y k (o t2) (a t2) (b t2) (o t1 s) * ld_R X Y (o t1) (a t1) (b t1) s (col t1)) (n := n) (by omega)
  have hout : ¬ ∃ s', s' < n ∧ o t2 s' = o t1 s := by
    rintro ⟨s', hs', e⟩
    have := ld_R8_own (k := k) (hV t2) hs'
    rw [e] at this
    rw [this] at hpos
    omega
  obtain ⟨j, hj⟩ := hent (o t1 s) (i + 1) t2 hout ⟨s, hs, by rw [← et1]⟩
  have hwle : o t1 s ≤ col t2 := by rw [← hj]; exact hmax j
  have hz1 : ld_R X Y (o t1) (a t1) (b t1) s 20 = 0 := by
    rw [et1]
    exact hzero (o t1 s) (i + 1) t2 (fun s' hs' e => absurd ⟨s', hs', e⟩ hout) s hs (by rw [← et1])
  obtain ⟨r1, r2, r3, r4, r5, r6⟩ := hS t1
  by_cases hw : o t1 s = col t2
  · have hsr : s = row t1 := (hV t1).2.1 s (row t1) hs r1 (by rw [hw, hleave])
    rw [hw, hsr] at hpos
    have h5 := Int.mul_neg_of_neg_of_pos (hS t2).2.2.1 r5
    omega
  · have h4 := (hS t2).2.2.2.1 (o t1 s) (by omega)
    have h5 : 0 < ld_R X Y (o t1) (a t1) (b t1) s (col t1) := by
      by_cases e : 0 < ld_R X Y (o t1) (a t1) (b t1) s (col t1)
      · exact e
      · have := Int.mul_nonpos_of_nonneg_of_nonpos h4 (show ld_R X Y (o t1) (a t1) (b t1) s (col t1) ≤ 0 by omega)
        omega
    have h6 := r6 s hs h5
    rw [deg t1, hz1, hleave] at h6
    omega
/-! finitely many tables -/
theorem ld_pigeon {α : Type} (l : List α) : ∀ f : Nat → α, (∀ i, f i ∈ l) → ∃ s t, s < t ∧ f s = f t := by
  induction l with
  | nil => intro f h; exact absurd (h 0) (by simp)
  | cons x l ih =>
    intro f h
    by_cases h1 : ∃ i, f i = x
    · obtain ⟨i, hi⟩ := h1
      by_cases h2 : ∃ j, i < j ∧ f j = x
      · obtain ⟨j, hj, e⟩ := h2
        exact ⟨i, j, hj, by rw [hi, e]⟩
      · obtain ⟨s, t, hst, e⟩ := ih (fun m => f (i + 1 + m)) (fun m => by
          rcases List.mem_cons.mp (h (i + 1 + m)) with e | e
          · exact absurd ⟨i + 1 + m, by omega, e⟩ h2
          · exact e)
        exact ⟨i + 1 + s, i + 1 + t, by omega, e⟩
    · exact ih f (fun m => by
        rcases List.mem_cons.mp (h m) with e | e
        · exact absurd ⟨m, e⟩ h1
        · exact e)
def ld_lists (N : Nat) : Nat → List (List Nat)
  | 0 => [[]]
  | m + 1 => (List.range N).flatMap (fun x => (ld_lists N m).map (fun l => x :: l))
theorem ld_lists_mem (N : Nat) : ∀ l : List Nat, (∀ x ∈ l, x < N) → l ∈ ld_lists N l.length := by
  intro l
  induction l with
  | nil => intro _; simp [ld_lists]
  | cons x l ih =>
    intro h
    show x :: l ∈ (List.range N).flatMap (fun x => (ld_lists N l.length).map (fun l => x :: l))
    refine List.mem_flatMap.mpr ⟨x, List.mem_range.mpr (h x List.mem_cons_self), List.mem_map.mpr ⟨l, ih (fun y hy => h y (List.mem_cons_of_mem _ hy)), rfl⟩⟩
def ld_next (q : (Nat → Nat) × Nat × Nat) (row col : Nat) : (Nat → Nat) × Nat × Nat := (ld_upn q.1 row col, ld_na q.1 q.2.1 row col, ld_nb q.1 q.2.1 q.2.2 row col)
def ld_Stp (n : Nat) (X Y : Nat → Int) (k : Int) (q q' : (Nat → Nat) × Nat × Nat) : Prop := ld_V n X Y q.1 q.2.1 q.2.2 ∧ ∃ row col, ld_St n X Y k q.1 q.2.1 q.2.2 row col ∧ q' = ld_next q row col
theorem ld_bland {n : Nat} {X Y : Nat → Int} {k : Int} (hk : ld_k k) (hn : n ≤ 8) (f : Nat → (Nat → Nat) × Nat × Nat) (hf : ∀ t, ld_Stp n X Y k (f t) (f (t + 1))) : False := by
  have hrest : ∀ m t r, n ≤ r → (f (t + m)).1 r = (f t).1 r := by
    intro m
    induction m with
    | zero => intro t r _; rfl
    | succ m ih =>
      intro t r hr
      obtain ⟨-, row, col, hS, e⟩ := hf (t + m)
      rw [← ih t r hr]
      show (f (t + m + 1)).1 r = _
      rw [e]
      show ld_upn _ row col r = _
      unfold ld_upn
      rw [if_neg (by have := hS.1; omega)]
  obtain ⟨s, t, hst, e⟩ := ld_pigeon (ld_lists 20 (n + 2)) (fun i => (f i).2.1 :: (f i).2.2 :: (List.range n).map (f i).1) (fun i => by
    have h := ld_lists_mem 20 ((f i).2.1 :: (f i).2.2 :: (List.range n).map (f i).1) (by
      obtain ⟨hV, -⟩ := hf i
      obtain ⟨v1, v2, v3, v4, v5, v6, v7, v8, v9⟩ := hV
      intro x hx
      rcases List.mem_cons.mp hx with h | h
      · omega
      · rcases List.mem_cons.mp h with h | h
        · omega
        · obtain ⟨r, hr, rfl⟩ := List.mem_map.mp h
          exact v1 r (List.mem_range.mp hr))
    simpa using h)
  simp only [List.cons.injEq] at e
  obtain ⟨ea, eb, eo⟩ := e
  have eo : (f s).1 = (f t).1 := by
    funext r
    by_cases hr : r < n
    · have h1 : ((List.range n).map (f s).1)[r]? = ((List.range n).map (f t).1)[r]? := by rw [eo]
      simp [hr] at h1
      exact h1
    · have := hrest (t - s) s r (by omega)
      rw [show s + (t - s) = t by omega] at this
      exact this.symm
  have efs : f t = f s := by
    rw [← Prod.eta (f t), ← Prod.eta (f s), ← Prod.eta (f t).2, ← Prod.eta (f s).2, eo, ea, eb]
  obtain ⟨L, hL⟩ : ∃ L, L = t - s := ⟨_, rfl⟩
  have hL0 : 0 < L := by omega
  -- the chain that comes round
  have hg : ∀ i, ld_Stp n X Y k (f (s + i % L)) (f (s + (i + 1) % L)) := by
    intro i
    have h1 := hf (s + i % L)
    have h2 := Nat.mod_lt i hL0
    by_cases e : i % L + 1 = L
    · have h3 : (i + 1) % L = 0 := by
        rw [Nat.add_mod]
        by_cases e1 : L = 1
        · subst e1; omega
        · rw [Nat.mod_eq_of_lt (show 1 < L by omega), e, Nat.mod_self]
      rw [h3, Nat.add_zero, ← efs]
      rw [show s + i % L + 1 = t by omega] at h1
      exact h1
    · have h3 : (i + 1) % L = i % L + 1 := by
        rw [Nat.add_mod]
        by_cases e1 : L = 1
        · subst e1; omega
        · rw [Nat.mod_eq_of_lt (show 1 < L by omega), Nat.mod_eq_of_lt (by omega)]
      rw [h3]
      exact h1
  obtain ⟨row, hrow⟩ : ∃ row : Nat → Nat, ∀ i, ∃ col, ld_St n X Y k (f (s + i % L)).1 (f (s + i % L)).2.1 (f (s + i % L)).2.2 (row i) col ∧ f (s + (i + 1) % L) = ld_next (f (s + i % L)) (row i) col :=
    ⟨fun i => (hg i).2.choose, fun i => (hg i).2.choose_spec⟩
  obtain ⟨col, hcol⟩ : ∃ col : Nat → Nat, ∀ i, ld_St n X Y k (f (s + i % L)).1 (f (s + i % L)).2.1 (f (s + i % L)).2.2 (row i) (col i) ∧ f (s + (i + 1) % L) = ld_next (f (s + i % L)) (row i) (col i) :=
    ⟨fun i => (hrow i).choose, fun i => (hrow i).choose_spec⟩
  exact ld_round hk hn (fun i => (f (s + i % L)).1) (fun i => (f (s + i % L)).2.1) (fun i => (f (s + i % L)).2.2) row col L hL0 (fun i => (hg i).1) (fun i => (hcol i).1)
    (fun i => by rw [(hcol i).2]; rfl) (fun i => by rw [(hcol i).2]; rfl) (fun i => by rw [(hcol i).2]; rfl) (fun i => by simp)
/-- so the steps are well founded -/
theorem ld_acc {n : Nat} {X Y : Nat → Int} {k : Int} (hk : ld_k k) (hn : n ≤ 8) (q : (Nat → Nat) × Nat × Nat) : Acc (fun q' q => ld_Stp n X Y k q q') q := by
  apply Classical.byContradiction
  intro h0
  have step : ∀ q : {q : (Nat → Nat) × Nat × Nat // ¬ Acc (fun q' q => ld_Stp n X Y k q q') q}, ∃ q' : {q : (Nat → Nat) × Nat × Nat // ¬ Acc (fun q' q => ld_Stp n X Y k q q') q}, ld_Stp n X Y k q.1 q'.1 := by
    intro q
    apply Classical.byContradiction
    intro h
    refine q.2 (Acc.intro _ (fun q' hq' => ?_))
    apply Classical.byContradiction
    intro hn'
    exact h ⟨⟨q', hn'⟩, hq'⟩
  obtain ⟨nx, hnx⟩ : ∃ nx : {q : (Nat → Nat) × Nat × Nat // ¬ Acc (fun q' q => ld_Stp n X Y k q q') q} → {q : (Nat → Nat) × Nat × Nat // ¬ Acc (fun q' q => ld_Stp n X Y k q q') q}, ∀ q, ld_Stp n X Y k q.1 (nx q).1 := ⟨fun q => (step q).choose, fun q => (step q).choose_spec⟩
  exact ld_bland hk hn (fun t => (Nat.rec ⟨q, h0⟩ (fun _ q => nx q) t : {q : (Nat → Nat) × Nat × Nat // ¬ Acc (fun q' q => ld_Stp n X Y k q q') q}).1) (fun t => hnx _)
end
section
-- ===== PART A: goes FIRST, ahead of the names: the tables' words, and 'selects' of the private methods out of them =====
/-- a private method of a class that the tables say can be made, by its rows of tables_1 -/
def lw_okq (q : MethodName × Nat) : Prop := (q.1.cls ≠ "java/lang/invoke/MethodHandle" ∧ q.1.cls ≠ "java/lang/invoke/VarHandle") ∧ Cond.instantiable q.1.cls q.2 ∈ tables_1 ∧ Cond.privateMethod q.1 ∈ tables_1 ∧ Cond.instanceMethod q.1 ∈ tables_1
set_option maxRecDepth 100000
theorem lw_t1 {w : Cond} (h : w ∈ tables_1_1) : w ∈ tables_1 := List.mem_append_left _ h
theorem lw_t2 {w : Cond} (h : w ∈ tables_1_2) : w ∈ tables_1 := List.mem_append_right _ h
theorem lw_p0 : lw_okq (⟨"LeastDeviations", "isPoint", "(I)Z"⟩, 12) := ⟨⟨by decide +kernel, by decide +kernel⟩, lw_t1 (List.mem_of_getElem? (i := 4) rfl), lw_t1 (List.mem_of_getElem? (i := 60) rfl), lw_t1 (List.mem_of_getElem? (i := 61) rfl)⟩
theorem lw_p1 : lw_okq (⟨"LeastDeviations", "solve", "()V"⟩, 12) := ⟨⟨by decide +kernel, by decide +kernel⟩, lw_t1 (List.mem_of_getElem? (i := 4) rfl), lw_t1 (List.mem_of_getElem? (i := 72) rfl), lw_t1 (List.mem_of_getElem? (i := 73) rfl)⟩
theorem lw_p2 : lw_okq (⟨"LeastDeviations", "fillTable", "()V"⟩, 12) := ⟨⟨by decide +kernel, by decide +kernel⟩, lw_t1 (List.mem_of_getElem? (i := 4) rfl), lw_t1 (List.mem_of_getElem? (i := 76) rfl), lw_t1 (List.mem_of_getElem? (i := 77) rfl)⟩
theorem lw_p3 : lw_okq (⟨"LeastDeviations", "cheaper", "()I"⟩, 12) := ⟨⟨by decide +kernel, by decide +kernel⟩, lw_t1 (List.mem_of_getElem? (i := 4) rfl), lw_t1 (List.mem_of_getElem? (i := 80) rfl), lw_t1 (List.mem_of_getElem? (i := 81) rfl)⟩
theorem lw_p4 : lw_okq (⟨"LeastDeviations", "limiting", "(I)I"⟩, 12) := ⟨⟨by decide +kernel, by decide +kernel⟩, lw_t1 (List.mem_of_getElem? (i := 4) rfl), lw_t1 (List.mem_of_getElem? (i := 84) rfl), lw_t1 (List.mem_of_getElem? (i := 85) rfl)⟩
theorem lw_p5 : lw_okq (⟨"LeastDeviations", "exchange", "(II)V"⟩, 12) := ⟨⟨by decide +kernel, by decide +kernel⟩, lw_t1 (List.mem_of_getElem? (i := 4) rfl), lw_t1 (List.mem_of_getElem? (i := 88) rfl), lw_t1 (List.mem_of_getElem? (i := 89) rfl)⟩
theorem lw_p6 : lw_okq (⟨"LeastDeviations", "lowest", "()V"⟩, 12) := ⟨⟨by decide +kernel, by decide +kernel⟩, lw_t1 (List.mem_of_getElem? (i := 4) rfl), lw_t1 (List.mem_of_getElem? (i := 92) rfl), lw_t1 (List.mem_of_getElem? (i := 93) rfl)⟩
theorem lw_p7 : lw_okq (⟨"LeastDeviations", "slopeCost", "(II)I"⟩, 12) := ⟨⟨by decide +kernel, by decide +kernel⟩, lw_t1 (List.mem_of_getElem? (i := 4) rfl), lw_t1 (List.mem_of_getElem? (i := 104) rfl), lw_t1 (List.mem_of_getElem? (i := 105) rfl)⟩
theorem lw_p8 : lw_okq (⟨"LeastDeviations", "insert", "(II)V"⟩, 12) := ⟨⟨by decide +kernel, by decide +kernel⟩, lw_t1 (List.mem_of_getElem? (i := 4) rfl), lw_t1 (List.mem_of_getElem? (i := 108) rfl), lw_t1 (List.mem_of_getElem? (i := 109) rfl)⟩
theorem lw_p9 : lw_okq (⟨"LeastDeviations", "costOf", "(I)I"⟩, 12) := ⟨⟨by decide +kernel, by decide +kernel⟩, lw_t1 (List.mem_of_getElem? (i := 4) rfl), lw_t1 (List.mem_of_getElem? (i := 112) rfl), lw_t1 (List.mem_of_getElem? (i := 113) rfl)⟩
theorem lw_p10 : lw_okq (⟨"LeastDeviations", "costThrough", "(III)I"⟩, 12) := ⟨⟨by decide +kernel, by decide +kernel⟩, lw_t1 (List.mem_of_getElem? (i := 4) rfl), lw_t1 (List.mem_of_getElem? (i := 124) rfl), lw_t1 (List.mem_of_getElem? (i := 125) rfl)⟩
theorem lw_p11 : lw_okq (⟨"LeastDeviations", "solveThrough", "(I)V"⟩, 12) := ⟨⟨by decide +kernel, by decide +kernel⟩, lw_t1 (List.mem_of_getElem? (i := 4) rfl), lw_t1 (List.mem_of_getElem? (i := 132) rfl), lw_t1 (List.mem_of_getElem? (i := 133) rfl)⟩
theorem lw_p12 : lw_okq (⟨"LeastDeviationsModel", "isPoint", "(I)Z"⟩, 7) := ⟨⟨by decide +kernel, by decide +kernel⟩, lw_t1 (List.mem_of_getElem? (i := 144) rfl), lw_t1 (List.mem_of_getElem? (i := 180) rfl), lw_t1 (List.mem_of_getElem? (i := 181) rfl)⟩
theorem lw_p13 : lw_okq (⟨"LeastDeviationsModel", "least", "()V"⟩, 7) := ⟨⟨by decide +kernel, by decide +kernel⟩, lw_t1 (List.mem_of_getElem? (i := 144) rfl), lw_t1 (List.mem_of_getElem? (i := 192) rfl), lw_t1 (List.mem_of_getElem? (i := 193) rfl)⟩
theorem lw_p14 : lw_okq (⟨"LeastDeviationsModel", "begin", "()V"⟩, 7) := ⟨⟨by decide +kernel, by decide +kernel⟩, lw_t1 (List.mem_of_getElem? (i := 144) rfl), lw_t1 (List.mem_of_getElem? (i := 196) rfl), lw_t1 (List.mem_of_getElem? (i := 197) rfl)⟩
theorem lw_p15 : lw_okq (⟨"LeastDeviationsModel", "lookThrough", "(I)V"⟩, 7) := ⟨⟨by decide +kernel, by decide +kernel⟩, lw_t1 (List.mem_of_getElem? (i := 144) rfl), lw_t1 (List.mem_of_getElem? (i := 200) rfl), lw_t1 (List.mem_of_getElem? (i := 201) rfl)⟩
def lw_privs_1 : List (MethodName × Nat) := [(⟨"LeastDeviations", "isPoint", "(I)Z"⟩, 12), (⟨"LeastDeviations", "solve", "()V"⟩, 12), (⟨"LeastDeviations", "fillTable", "()V"⟩, 12), (⟨"LeastDeviations", "cheaper", "()I"⟩, 12), (⟨"LeastDeviations", "limiting", "(I)I"⟩, 12), (⟨"LeastDeviations", "exchange", "(II)V"⟩, 12), (⟨"LeastDeviations", "lowest", "()V"⟩, 12), (⟨"LeastDeviations", "slopeCost", "(II)I"⟩, 12), (⟨"LeastDeviations", "insert", "(II)V"⟩, 12), (⟨"LeastDeviations", "costOf", "(I)I"⟩, 12), (⟨"LeastDeviations", "costThrough", "(III)I"⟩, 12), (⟨"LeastDeviations", "solveThrough", "(I)V"⟩, 12), (⟨"LeastDeviationsModel", "isPoint", "(I)Z"⟩, 7), (⟨"LeastDeviationsModel", "least", "()V"⟩, 7), (⟨"LeastDeviationsModel", "begin", "()V"⟩, 7), (⟨"LeastDeviationsModel", "lookThrough", "(I)V"⟩, 7)]
theorem lw_r1 : ∀ q ∈ lw_privs_1, lw_okq q := List.forall_mem_cons.mpr ⟨lw_p0, List.forall_mem_cons.mpr ⟨lw_p1, List.forall_mem_cons.mpr ⟨lw_p2, List.forall_mem_cons.mpr ⟨lw_p3, List.forall_mem_cons.mpr ⟨lw_p4, List.forall_mem_cons.mpr ⟨lw_p5, List.forall_mem_cons.mpr ⟨lw_p6, List.forall_mem_cons.mpr ⟨lw_p7, List.forall_mem_cons.mpr ⟨lw_p8, List.forall_mem_cons.mpr ⟨lw_p9, List.forall_mem_cons.mpr ⟨lw_p10, List.forall_mem_cons.mpr ⟨lw_p11, List.forall_mem_cons.mpr ⟨lw_p12, List.forall_mem_cons.mpr ⟨lw_p13, List.forall_mem_cons.mpr ⟨lw_p14, List.forall_mem_cons.mpr ⟨lw_p15, fun _ h => absurd h List.not_mem_nil⟩⟩⟩⟩⟩⟩⟩⟩⟩⟩⟩⟩⟩⟩⟩⟩
theorem lw_p16 : lw_okq (⟨"LeastDeviationsModel", "rise", "(II)I"⟩, 7) := ⟨⟨by decide +kernel, by decide +kernel⟩, lw_t1 (List.mem_of_getElem? (i := 144) rfl), lw_t1 (List.mem_of_getElem? (i := 204) rfl), lw_t1 (List.mem_of_getElem? (i := 205) rfl)⟩
theorem lw_p17 : lw_okq (⟨"LeastDeviationsModel", "run", "(II)I"⟩, 7) := ⟨⟨by decide +kernel, by decide +kernel⟩, lw_t1 (List.mem_of_getElem? (i := 144) rfl), lw_t1 (List.mem_of_getElem? (i := 208) rfl), lw_t1 (List.mem_of_getElem? (i := 209) rfl)⟩
theorem lw_p18 : lw_okq (⟨"LeastDeviationsModel", "costOf", "(III)J"⟩, 7) := ⟨⟨by decide +kernel, by decide +kernel⟩, lw_t1 (List.mem_of_getElem? (i := 144) rfl), lw_t1 (List.mem_of_getElem? (i := 212) rfl), lw_t1 (List.mem_of_getElem? (i := 213) rfl)⟩
theorem lw_p19 : lw_okq (⟨"LeastDeviationsModel", "cost", "(J)J"⟩, 7) := ⟨⟨by decide +kernel, by decide +kernel⟩, lw_t1 (List.mem_of_getElem? (i := 144) rfl), lw_t1 (List.mem_of_getElem? (i := 216) rfl), lw_t1 (List.mem_of_getElem? (i := 217) rfl)⟩
theorem lw_p20 : lw_okq (⟨"LeastDeviationsModel", "look", "(JJ)V"⟩, 7) := ⟨⟨by decide +kernel, by decide +kernel⟩, lw_t1 (List.mem_of_getElem? (i := 144) rfl), lw_t1 (List.mem_of_getElem? (i := 220) rfl), lw_t1 (List.mem_of_getElem? (i := 221) rfl)⟩
theorem lw_p21 : lw_okq (⟨"LeastDeviationsModel", "upper", "()I"⟩, 7) := ⟨⟨by decide +kernel, by decide +kernel⟩, lw_t1 (List.mem_of_getElem? (i := 144) rfl), lw_t1 (List.mem_of_getElem? (i := 224) rfl), lw_t1 (List.mem_of_getElem? (i := 225) rfl)⟩
theorem lw_p22 : lw_okq (⟨"LeastDeviationsModel", "common", "()J"⟩, 7) := ⟨⟨by decide +kernel, by decide +kernel⟩, lw_t1 (List.mem_of_getElem? (i := 144) rfl), lw_t1 (List.mem_of_getElem? (i := 228) rfl), lw_t1 (List.mem_of_getElem? (i := 229) rfl)⟩
theorem lw_p23 : lw_okq (⟨"LeastDeviationsModel", "lower", "()I"⟩, 7) := ⟨⟨by decide +kernel, by decide +kernel⟩, lw_t1 (List.mem_of_getElem? (i := 144) rfl), lw_t1 (List.mem_of_getElem? (i := 236) rfl), lw_t1 (List.mem_of_getElem? (i := 237) rfl)⟩
theorem lw_p24 : lw_okq (⟨"LeastDeviationsModel", "isSlope", "(II)Z"⟩, 7) := ⟨⟨by decide +kernel, by decide +kernel⟩, lw_t1 (List.mem_of_getElem? (i := 144) rfl), lw_t2 (List.mem_of_getElem? (i := 4) rfl), lw_t2 (List.mem_of_getElem? (i := 5) rfl)⟩
theorem lw_p25 : lw_okq (⟨"LeastDeviationsModel", "with", "(II)J"⟩, 7) := ⟨⟨by decide +kernel, by decide +kernel⟩, lw_t1 (List.mem_of_getElem? (i := 144) rfl), lw_t2 (List.mem_of_getElem? (i := 8) rfl), lw_t2 (List.mem_of_getElem? (i := 9) rfl)⟩
def lw_privs_2 : List (MethodName × Nat) := [(⟨"LeastDeviationsModel", "rise", "(II)I"⟩, 7), (⟨"LeastDeviationsModel", "run", "(II)I"⟩, 7), (⟨"LeastDeviationsModel", "costOf", "(III)J"⟩, 7), (⟨"LeastDeviationsModel", "cost", "(J)J"⟩, 7), (⟨"LeastDeviationsModel", "look", "(JJ)V"⟩, 7), (⟨"LeastDeviationsModel", "upper", "()I"⟩, 7), (⟨"LeastDeviationsModel", "common", "()J"⟩, 7), (⟨"LeastDeviationsModel", "lower", "()I"⟩, 7), (⟨"LeastDeviationsModel", "isSlope", "(II)Z"⟩, 7), (⟨"LeastDeviationsModel", "with", "(II)J"⟩, 7)]
theorem lw_r2 : ∀ q ∈ lw_privs_2, lw_okq q := List.forall_mem_cons.mpr ⟨lw_p16, List.forall_mem_cons.mpr ⟨lw_p17, List.forall_mem_cons.mpr ⟨lw_p18, List.forall_mem_cons.mpr ⟨lw_p19, List.forall_mem_cons.mpr ⟨lw_p20, List.forall_mem_cons.mpr ⟨lw_p21, List.forall_mem_cons.mpr ⟨lw_p22, List.forall_mem_cons.mpr ⟨lw_p23, List.forall_mem_cons.mpr ⟨lw_p24, List.forall_mem_cons.mpr ⟨lw_p25, fun _ h => absurd h List.not_mem_nil⟩⟩⟩⟩⟩⟩⟩⟩⟩⟩
def lw_privs : List (MethodName × Nat) := lw_privs_1 ++ (lw_privs_2)
def lw_tbl : List Cond := k2_sels lw_privs ++ tables_1
theorem lw_privs_ok : ∀ q ∈ lw_privs, lw_okq q := by
  show ∀ q ∈ lw_privs_1 ++ (lw_privs_2), lw_okq q
  exact List.forall_mem_append.mpr ⟨lw_r1, lw_r2⟩
-- ===== ONE list of words for every method: the tables' words that hold all through a run =====
def lw_all : List Cond := lw_tbl.filter goodWord
/-- a word of the tables by its place: claim/WORDS.tsv -/
theorem lw_w {w : Cond} (i : Nat) (h : lw_tbl[i]? = some w) (g : goodWord w = true) : w ∈ lw_all := List.mem_filter.mpr ⟨List.mem_of_getElem? h, g⟩
theorem lw_all_tbl {w : Cond} (h : w ∈ lw_all) : w ∈ lw_tbl := (List.mem_filter.mp h).1
theorem lw_self : GoodIn lw_all lw_all := fun w h => ⟨h, good_of_word (List.mem_filter.mp h).2⟩
/-- a class's field words, by their places -/
theorem lw_in (ws : List Cond) (ps : List Nat) (hp : ws = ps.filterMap (fun i => lw_tbl[i]?)) (hg : ws.all goodWord = true) : ∀ w ∈ ws, w ∈ lw_all := by
  intro w h
  have h1 := List.all_eq_true.mp hg w h
  rw [hp] at h
  obtain ⟨i, -, hi⟩ := List.mem_filterMap.mp h
  exact lw_w i hi h1
/-- the words of a contract for the method y with code b, L locals, answer r -/
abbrev ws_ (y : MethodName) (b : ByteArray) (L : Nat) (r : Option FieldType) : List Cond := Cond.code y b L r :: lw_all
theorem lw_meth {y : MethodName} {b : ByteArray} {L : Nat} {r : Option FieldType} (h : Cond.code y b L r ∈ lw_all) : GoodIn lw_all (ws_ y b L r) := by
  intro w hw
  rcases List.mem_cons.mp hw with e | e
  · rw [e]
    exact lw_self _ h
  · exact lw_self _ e
theorem lw_app {a c : List Cond} (ha : ∀ w ∈ a, w ∈ lw_all) (hc : GoodIn lw_all c) : GoodIn lw_all (a ++ c) := by
  intro w hw
  rcases List.mem_append.mp hw with e | e
  · exact lw_self w (ha w e)
  · exact hc w e
/-- what a call through an object asks: cwV n hts (lw_V ..) -/
theorem lw_V {own : String} {idx : Nat} {C : String} {y : MethodName} {b : ByteArray} {L : Nat} {r : Option FieldType} (h1 : Cond.methodLink own idx y ∈ lw_all) (h2 : Cond.instanceMethod y ∈ lw_all) (h3 : Cond.selects C y y ∈ lw_all) (h4 : Cond.initialized C ∈ lw_all) (h5 : Cond.code y b L r ∈ lw_all) : GoodIn lw_all (wsV own idx C y (ws_ y b L r)) := by
  refine lw_app ?_ (lw_meth h5)
  intro w hw
  simp only [List.mem_cons, List.not_mem_nil, or_false] at hw
  rcases hw with e | e | e | e
  · rw [e]; exact h1
  · rw [e]; exact h2
  · rw [e]; exact h3
  · rw [e]; exact h4
/-- what a static call asks: va_cwS n hts (lw_S ..) -/
theorem lw_S {own : String} {idx : Nat} {y : MethodName} {b : ByteArray} {L : Nat} {r : Option FieldType} (h1 : Cond.methodLink own idx y ∈ lw_all) (h2 : Cond.static y ∈ lw_all) (h3 : Cond.initialized y.cls ∈ lw_all) (h4 : Cond.code y b L r ∈ lw_all) : GoodIn lw_all (va_wsS own idx y (ws_ y b L r)) := by
  refine lw_app ?_ (lw_meth h4)
  intro w hw
  simp only [List.mem_cons, List.not_mem_nil, or_false] at hw
  rcases hw with e | e | e
  · rw [e]; exact h1
  · rw [e]; exact h2
  · rw [e]; exact h3
/-- the words of a contract for a method WITH HANDLERS (hh: its table) -/
abbrev wsW_ (y : MethodName) (b : ByteArray) (L : Nat) (r : Option FieldType) (hh : List (Nat × Nat × Nat × Nat)) : List Cond := Cond.codeWith y b L r hh :: lw_all
theorem lw_methW {y : MethodName} {b : ByteArray} {L : Nat} {r : Option FieldType} {hh : List (Nat × Nat × Nat × Nat)} (h : Cond.codeWith y b L r hh ∈ lw_all) : GoodIn lw_all (wsW_ y b L r hh) := by
  intro w hw
  rcases List.mem_cons.mp hw with e | e
  · rw [e]
    exact lw_self _ h
  · exact lw_self _ e
/-- any list of words by their places (lw_in), good -/
theorem lw_good {ws : List Cond} (h : ∀ w ∈ ws, w ∈ lw_all) : GoodIn lw_all ws := fun w hw => lw_self w (h w hw)
/-- what a call of a method with handlers asks: vx_cwVW n hts (lw_VW ..), vx_cwSW n hts (lw_SW ..) -/
theorem lw_VW {own : String} {idx : Nat} {C : String} {y : MethodName} {b : ByteArray} {L : Nat} {r : Option FieldType} {hh : List (Nat × Nat × Nat × Nat)} (h1 : Cond.methodLink own idx y ∈ lw_all) (h2 : Cond.instanceMethod y ∈ lw_all) (h3 : Cond.selects C y y ∈ lw_all) (h4 : Cond.initialized C ∈ lw_all) (h5 : Cond.codeWith y b L r hh ∈ lw_all) : GoodIn lw_all (wsV own idx C y (wsW_ y b L r hh)) := by
  refine lw_app ?_ (lw_methW h5)
  intro w hw
  simp only [List.mem_cons, List.not_mem_nil, or_false] at hw
  rcases hw with e | e | e | e
  · rw [e]; exact h1
  · rw [e]; exact h2
  · rw [e]; exact h3
  · rw [e]; exact h4
theorem lw_SW {own : String} {idx : Nat} {y : MethodName} {b : ByteArray} {L : Nat} {r : Option FieldType} {hh : List (Nat × Nat × Nat × Nat)} (h1 : Cond.methodLink own idx y ∈ lw_all) (h2 : Cond.static y ∈ lw_all) (h3 : Cond.initialized y.cls ∈ lw_all) (h4 : Cond.codeWith y b L r hh ∈ lw_all) : GoodIn lw_all (va_wsS own idx y (wsW_ y b L r hh)) := by
  refine lw_app ?_ (lw_methW h4)
  intro w hw
  simp only [List.mem_cons, List.not_mem_nil, or_false] at hw
  rcases hw with e | e | e
  · rw [e]; exact h1
  · rw [e]; exact h2
  · rw [e]; exact h3
/-- a word by its place in its run of the tables -/
theorem lw_at {r : List Cond} (hr : ∀ w ∈ r, w ∈ lw_tbl) {w : Cond} (i : Nat) (h : r[i]? = some w) : w ∈ lw_tbl := hr w (List.mem_of_getElem? h)
theorem lw_g {w : Cond} (h : w ∈ lw_tbl) (g : goodWord w = true) : w ∈ lw_all := List.mem_filter.mpr ⟨h, g⟩
theorem lw_ms : ∀ w ∈ k2_sels lw_privs, w ∈ lw_tbl := fun w h => show w ∈ k2_sels lw_privs ++ tables_1 from List.mem_append_left _ h
theorem lw_m1 : ∀ w ∈ tables_1_1, w ∈ lw_tbl := fun w h => show w ∈ k2_sels lw_privs ++ tables_1 from List.mem_append_right (k2_sels lw_privs) (show w ∈ tables_1 from List.mem_append_left _ h)
theorem lw_m2 : ∀ w ∈ tables_1_2, w ∈ lw_tbl := fun w h => show w ∈ k2_sels lw_privs ++ tables_1 from List.mem_append_right (k2_sels lw_privs) (show w ∈ tables_1 from List.mem_append_right _ h)
theorem qs0 : (Cond.selects "LeastDeviations" ⟨"LeastDeviations", "isPoint", "(I)Z"⟩ ⟨"LeastDeviations", "isPoint", "(I)Z"⟩) ∈ lw_all := lw_g (lw_at lw_ms 0 rfl) rfl
theorem qs1 : (Cond.selects "LeastDeviations" ⟨"LeastDeviations", "solve", "()V"⟩ ⟨"LeastDeviations", "solve", "()V"⟩) ∈ lw_all := lw_g (lw_at lw_ms 1 rfl) rfl
theorem qs2 : (Cond.selects "LeastDeviations" ⟨"LeastDeviations", "fillTable", "()V"⟩ ⟨"LeastDeviations", "fillTable", "()V"⟩) ∈ lw_all := lw_g (lw_at lw_ms 2 rfl) rfl
theorem qs3 : (Cond.selects "LeastDeviations" ⟨"LeastDeviations", "cheaper", "()I"⟩ ⟨"LeastDeviations", "cheaper", "()I"⟩) ∈ lw_all := lw_g (lw_at lw_ms 3 rfl) rfl
theorem qs4 : (Cond.selects "LeastDeviations" ⟨"LeastDeviations", "limiting", "(I)I"⟩ ⟨"LeastDeviations", "limiting", "(I)I"⟩) ∈ lw_all := lw_g (lw_at lw_ms 4 rfl) rfl
theorem qs5 : (Cond.selects "LeastDeviations" ⟨"LeastDeviations", "exchange", "(II)V"⟩ ⟨"LeastDeviations", "exchange", "(II)V"⟩) ∈ lw_all := lw_g (lw_at lw_ms 5 rfl) rfl
theorem qs6 : (Cond.selects "LeastDeviations" ⟨"LeastDeviations", "lowest", "()V"⟩ ⟨"LeastDeviations", "lowest", "()V"⟩) ∈ lw_all := lw_g (lw_at lw_ms 6 rfl) rfl
theorem qs7 : (Cond.selects "LeastDeviations" ⟨"LeastDeviations", "slopeCost", "(II)I"⟩ ⟨"LeastDeviations", "slopeCost", "(II)I"⟩) ∈ lw_all := lw_g (lw_at lw_ms 7 rfl) rfl
theorem qs8 : (Cond.selects "LeastDeviations" ⟨"LeastDeviations", "insert", "(II)V"⟩ ⟨"LeastDeviations", "insert", "(II)V"⟩) ∈ lw_all := lw_g (lw_at lw_ms 8 rfl) rfl
theorem qs9 : (Cond.selects "LeastDeviations" ⟨"LeastDeviations", "costOf", "(I)I"⟩ ⟨"LeastDeviations", "costOf", "(I)I"⟩) ∈ lw_all := lw_g (lw_at lw_ms 9 rfl) rfl
theorem qs10 : (Cond.selects "LeastDeviations" ⟨"LeastDeviations", "costThrough", "(III)I"⟩ ⟨"LeastDeviations", "costThrough", "(III)I"⟩) ∈ lw_all := lw_g (lw_at lw_ms 10 rfl) rfl
theorem qs11 : (Cond.selects "LeastDeviations" ⟨"LeastDeviations", "solveThrough", "(I)V"⟩ ⟨"LeastDeviations", "solveThrough", "(I)V"⟩) ∈ lw_all := lw_g (lw_at lw_ms 11 rfl) rfl
theorem qs12 : (Cond.selects "LeastDeviationsModel" ⟨"LeastDeviationsModel", "isPoint", "(I)Z"⟩ ⟨"LeastDeviationsModel", "isPoint", "(I)Z"⟩) ∈ lw_all := lw_g (lw_at lw_ms 12 rfl) rfl
theorem qs13 : (Cond.selects "LeastDeviationsModel" ⟨"LeastDeviationsModel", "least", "()V"⟩ ⟨"LeastDeviationsModel", "least", "()V"⟩) ∈ lw_all := lw_g (lw_at lw_ms 13 rfl) rfl
theorem qs14 : (Cond.selects "LeastDeviationsModel" ⟨"LeastDeviationsModel", "begin", "()V"⟩ ⟨"LeastDeviationsModel", "begin", "()V"⟩) ∈ lw_all := lw_g (lw_at lw_ms 14 rfl) rfl
theorem qs15 : (Cond.selects "LeastDeviationsModel" ⟨"LeastDeviationsModel", "lookThrough", "(I)V"⟩ ⟨"LeastDeviationsModel", "lookThrough", "(I)V"⟩) ∈ lw_all := lw_g (lw_at lw_ms 15 rfl) rfl
theorem qs16 : (Cond.selects "LeastDeviationsModel" ⟨"LeastDeviationsModel", "rise", "(II)I"⟩ ⟨"LeastDeviationsModel", "rise", "(II)I"⟩) ∈ lw_all := lw_g (lw_at lw_ms 16 rfl) rfl
theorem qs17 : (Cond.selects "LeastDeviationsModel" ⟨"LeastDeviationsModel", "run", "(II)I"⟩ ⟨"LeastDeviationsModel", "run", "(II)I"⟩) ∈ lw_all := lw_g (lw_at lw_ms 17 rfl) rfl
theorem qs18 : (Cond.selects "LeastDeviationsModel" ⟨"LeastDeviationsModel", "costOf", "(III)J"⟩ ⟨"LeastDeviationsModel", "costOf", "(III)J"⟩) ∈ lw_all := lw_g (lw_at lw_ms 18 rfl) rfl
theorem qs19 : (Cond.selects "LeastDeviationsModel" ⟨"LeastDeviationsModel", "cost", "(J)J"⟩ ⟨"LeastDeviationsModel", "cost", "(J)J"⟩) ∈ lw_all := lw_g (lw_at lw_ms 19 rfl) rfl
theorem qs20 : (Cond.selects "LeastDeviationsModel" ⟨"LeastDeviationsModel", "look", "(JJ)V"⟩ ⟨"LeastDeviationsModel", "look", "(JJ)V"⟩) ∈ lw_all := lw_g (lw_at lw_ms 20 rfl) rfl
theorem qs21 : (Cond.selects "LeastDeviationsModel" ⟨"LeastDeviationsModel", "upper", "()I"⟩ ⟨"LeastDeviationsModel", "upper", "()I"⟩) ∈ lw_all := lw_g (lw_at lw_ms 21 rfl) rfl
theorem qs22 : (Cond.selects "LeastDeviationsModel" ⟨"LeastDeviationsModel", "common", "()J"⟩ ⟨"LeastDeviationsModel", "common", "()J"⟩) ∈ lw_all := lw_g (lw_at lw_ms 22 rfl) rfl
theorem qs23 : (Cond.selects "LeastDeviationsModel" ⟨"LeastDeviationsModel", "lower", "()I"⟩ ⟨"LeastDeviationsModel", "lower", "()I"⟩) ∈ lw_all := lw_g (lw_at lw_ms 23 rfl) rfl
theorem qs24 : (Cond.selects "LeastDeviationsModel" ⟨"LeastDeviationsModel", "isSlope", "(II)Z"⟩ ⟨"LeastDeviationsModel", "isSlope", "(II)Z"⟩) ∈ lw_all := lw_g (lw_at lw_ms 24 rfl) rfl
theorem qs25 : (Cond.selects "LeastDeviationsModel" ⟨"LeastDeviationsModel", "with", "(II)J"⟩ ⟨"LeastDeviationsModel", "with", "(II)J"⟩) ∈ lw_all := lw_g (lw_at lw_ms 25 rfl) rfl
end
section
set_option maxRecDepth 100000
/-! java/lang/Object -/
def RJ0 : String := "java/lang/Object"
abbrev cJ0_init : ByteArray := object_method_1_code
def yJ0_init : MethodName := ⟨RJ0, "<init>", "()V"⟩
theorem dJ0_init_0 : decode cJ0_init 0 = .ok (.return_, 1) := by decide +kernel
theorem q35 : (Jvm.Cond.instanceMethod ({ cls := "java/lang/Object", name := "<init>", desc := "()V" } : Jvm.MethodName)) ∈ lw_all := lw_g (lw_at lw_m1 9 rfl) rfl
theorem q36 : (Jvm.Cond.code ({ cls := "java/lang/Object", name := "<init>", desc := "()V" } : Jvm.MethodName) object_method_1_code (1 : Nat) (Option.none : Option Jvm.ClassFile.FieldType)) ∈ lw_all := lw_g (lw_at lw_m1 10 rfl) rfl
theorem q74 : (Jvm.Cond.arrayClass Jvm.ClassFile.FieldType.byte) ∈ lw_all := lw_g (lw_at lw_m1 48 rfl) rfl
theorem q75 : (Jvm.Cond.arrayClass Jvm.ClassFile.FieldType.long) ∈ lw_all := lw_g (lw_at lw_m1 49 rfl) rfl
theorem q76 : (Jvm.Cond.arrayClass Jvm.ClassFile.FieldType.int) ∈ lw_all := lw_g (lw_at lw_m1 50 rfl) rfl
theorem q26 : (Jvm.Cond.initialized "LeastDeviationsLaw") ∈ lw_all := lw_g (lw_at lw_m1 0 rfl) rfl
theorem q29 : (Jvm.Cond.classLink "LeastDeviationsLaw" (7 : Nat) "LeastDeviations") ∈ lw_all := lw_g (lw_at lw_m1 3 rfl) rfl
theorem q31 : (Jvm.Cond.methodLink "LeastDeviationsLaw" (9 : Nat) ({ cls := "LeastDeviations", name := "<init>", desc := "()V" } : Jvm.MethodName)) ∈ lw_all := lw_g (lw_at lw_m1 5 rfl) rfl
theorem q77 : (Jvm.Cond.methodLink "LeastDeviationsLaw" (13 : Nat) ({ cls := "LeastDeviations", name := "add", desc := "(II)I" } : Jvm.MethodName)) ∈ lw_all := lw_g (lw_at lw_m1 51 rfl) rfl
theorem q81 : (Jvm.Cond.methodLink "LeastDeviationsLaw" (18 : Nat) ({ cls := "LeastDeviations", name := "drop", desc := "(I)I" } : Jvm.MethodName)) ∈ lw_all := lw_g (lw_at lw_m1 55 rfl) rfl
theorem q89 : (Jvm.Cond.methodLink "LeastDeviationsLaw" (23 : Nat) ({ cls := "LeastDeviations", name := "lean", desc := "(I)Z" } : Jvm.MethodName)) ∈ lw_all := lw_g (lw_at lw_m1 63 rfl) rfl
theorem q93 : (Jvm.Cond.methodLink "LeastDeviationsLaw" (28 : Nat) ({ cls := "LeastDeviations", name := "leastTop", desc := "()I" } : Jvm.MethodName)) ∈ lw_all := lw_g (lw_at lw_m1 67 rfl) rfl
theorem q121 : (Jvm.Cond.methodLink "LeastDeviationsLaw" (33 : Nat) ({ cls := "LeastDeviations", name := "leastBottom", desc := "()I" } : Jvm.MethodName)) ∈ lw_all := lw_g (lw_at lw_m1 95 rfl) rfl
theorem q125 : (Jvm.Cond.methodLink "LeastDeviationsLaw" (37 : Nat) ({ cls := "LeastDeviations", name := "withSlope", desc := "(II)I" } : Jvm.MethodName)) ∈ lw_all := lw_g (lw_at lw_m1 99 rfl) rfl
theorem q141 : (Jvm.Cond.methodLink "LeastDeviationsLaw" (41 : Nat) ({ cls := "LeastDeviations", name := "bestSlope", desc := "(II)Z" } : Jvm.MethodName)) ∈ lw_all := lw_g (lw_at lw_m1 115 rfl) rfl
theorem q145 : (Jvm.Cond.methodLink "LeastDeviationsLaw" (46 : Nat) ({ cls := "LeastDeviations", name := "bestPair", desc := "(II)Z" } : Jvm.MethodName)) ∈ lw_all := lw_g (lw_at lw_m1 119 rfl) rfl
theorem q153 : (Jvm.Cond.methodLink "LeastDeviationsLaw" (50 : Nat) ({ cls := "LeastDeviations", name := "throughTop", desc := "(I)I" } : Jvm.MethodName)) ∈ lw_all := lw_g (lw_at lw_m1 127 rfl) rfl
theorem q161 : (Jvm.Cond.methodLink "LeastDeviationsLaw" (54 : Nat) ({ cls := "LeastDeviations", name := "throughBottom", desc := "(I)I" } : Jvm.MethodName)) ∈ lw_all := lw_g (lw_at lw_m1 135 rfl) rfl
theorem q165 : (Jvm.Cond.methodLink "LeastDeviationsLaw" (58 : Nat) ({ cls := "LeastDeviations", name := "points", desc := "()I" } : Jvm.MethodName)) ∈ lw_all := lw_g (lw_at lw_m1 139 rfl) rfl
theorem q169 : (Jvm.Cond.classLink "LeastDeviationsLaw" (10 : Nat) "LeastDeviationsModel") ∈ lw_all := lw_g (lw_at lw_m1 143 rfl) rfl
theorem q171 : (Jvm.Cond.methodLink "LeastDeviationsLaw" (12 : Nat) ({ cls := "LeastDeviationsModel", name := "<init>", desc := "()V" } : Jvm.MethodName)) ∈ lw_all := lw_g (lw_at lw_m1 145 rfl) rfl
theorem q197 : (Jvm.Cond.methodLink "LeastDeviationsLaw" (17 : Nat) ({ cls := "LeastDeviationsModel", name := "add", desc := "(II)I" } : Jvm.MethodName)) ∈ lw_all := lw_g (lw_at lw_m1 171 rfl) rfl
theorem q201 : (Jvm.Cond.methodLink "LeastDeviationsLaw" (22 : Nat) ({ cls := "LeastDeviationsModel", name := "drop", desc := "(I)I" } : Jvm.MethodName)) ∈ lw_all := lw_g (lw_at lw_m1 175 rfl) rfl
theorem q209 : (Jvm.Cond.methodLink "LeastDeviationsLaw" (27 : Nat) ({ cls := "LeastDeviationsModel", name := "lean", desc := "(I)Z" } : Jvm.MethodName)) ∈ lw_all := lw_g (lw_at lw_m1 183 rfl) rfl
theorem q213 : (Jvm.Cond.methodLink "LeastDeviationsLaw" (32 : Nat) ({ cls := "LeastDeviationsModel", name := "leastTop", desc := "()I" } : Jvm.MethodName)) ∈ lw_all := lw_g (lw_at lw_m1 187 rfl) rfl
theorem q257 : (Jvm.Cond.methodLink "LeastDeviationsLaw" (36 : Nat) ({ cls := "LeastDeviationsModel", name := "leastBottom", desc := "()I" } : Jvm.MethodName)) ∈ lw_all := lw_g (lw_at lw_m1 231 rfl) rfl
theorem q265 : (Jvm.Cond.methodLink "LeastDeviationsLaw" (40 : Nat) ({ cls := "LeastDeviationsModel", name := "withSlope", desc := "(II)I" } : Jvm.MethodName)) ∈ lw_all := lw_g (lw_at lw_m1 239 rfl) rfl
theorem q278 : (Jvm.Cond.methodLink "LeastDeviationsLaw" (45 : Nat) ({ cls := "LeastDeviationsModel", name := "bestSlope", desc := "(II)Z" } : Jvm.MethodName)) ∈ lw_all := lw_g (lw_at lw_m2 12 rfl) rfl
theorem q282 : (Jvm.Cond.methodLink "LeastDeviationsLaw" (49 : Nat) ({ cls := "LeastDeviationsModel", name := "bestPair", desc := "(II)Z" } : Jvm.MethodName)) ∈ lw_all := lw_g (lw_at lw_m2 16 rfl) rfl
theorem q286 : (Jvm.Cond.methodLink "LeastDeviationsLaw" (53 : Nat) ({ cls := "LeastDeviationsModel", name := "throughTop", desc := "(I)I" } : Jvm.MethodName)) ∈ lw_all := lw_g (lw_at lw_m2 20 rfl) rfl
theorem q290 : (Jvm.Cond.methodLink "LeastDeviationsLaw" (57 : Nat) ({ cls := "LeastDeviationsModel", name := "throughBottom", desc := "(I)I" } : Jvm.MethodName)) ∈ lw_all := lw_g (lw_at lw_m2 24 rfl) rfl
theorem q294 : (Jvm.Cond.methodLink "LeastDeviationsLaw" (61 : Nat) ({ cls := "LeastDeviationsModel", name := "points", desc := "()I" } : Jvm.MethodName)) ∈ lw_all := lw_g (lw_at lw_m2 28 rfl) rfl
/-! the law's own entry -/
abbrev cL_law : ByteArray := code
theorem dL_law_0 : decode cL_law 0 = .ok (.new 7, 3) := by decide +kernel
theorem dL_law_3 : decode cL_law 3 = .ok (.dup, 1) := by decide +kernel
theorem dL_law_4 : decode cL_law 4 = .ok (.invokespecial 9, 3) := by decide +kernel
theorem dL_law_7 : decode cL_law 7 = .ok (.astore_n 1, 1) := by decide +kernel
theorem dL_law_8 : decode cL_law 8 = .ok (.new 10, 3) := by decide +kernel
theorem dL_law_11 : decode cL_law 11 = .ok (.dup, 1) := by decide +kernel
theorem dL_law_12 : decode cL_law 12 = .ok (.invokespecial 12, 3) := by decide +kernel
theorem dL_law_15 : decode cL_law 15 = .ok (.astore_n 2, 1) := by decide +kernel
theorem dL_law_16 : decode cL_law 16 = .ok (.iconst 0, 1) := by decide +kernel
theorem dL_law_17 : decode cL_law 17 = .ok (.istore_n 3, 1) := by decide +kernel
theorem dL_law_18 : decode cL_law 18 = .ok (.iload_n 3, 1) := by decide +kernel
theorem dL_law_19 : decode cL_law 19 = .ok (.aload_n 0, 1) := by decide +kernel
theorem dL_law_20 : decode cL_law 20 = .ok (.arraylength, 1) := by decide +kernel
theorem dL_law_21 : decode cL_law 21 = .ok (.iconst 3, 1) := by decide +kernel
theorem dL_law_22 : decode cL_law 22 = .ok (.isub, 1) := by decide +kernel
theorem dL_law_23 : decode cL_law 23 = .ok (.if_icmp .gt 338, 3) := by decide +kernel
theorem dL_law_26 : decode cL_law 26 = .ok (.aload_n 0, 1) := by decide +kernel
theorem dL_law_27 : decode cL_law 27 = .ok (.iload_n 3, 1) := by decide +kernel
theorem dL_law_28 : decode cL_law 28 = .ok (.iaload, 1) := by decide +kernel
theorem dL_law_29 : decode cL_law 29 = .ok (.bipush 15, 2) := by decide +kernel
theorem dL_law_31 : decode cL_law 31 = .ok (.iand, 1) := by decide +kernel
theorem dL_law_32 : decode cL_law 32 = .ok (.tableswitch 323 0 10 #[60, 93, 116, 139, 152, 165, 198, 231, 264, 287, 310], 60) := by decide +kernel
theorem dL_law_92 : decode cL_law 92 = .ok (.aload_n 1, 1) := by decide +kernel
theorem dL_law_93 : decode cL_law 93 = .ok (.aload_n 0, 1) := by decide +kernel
theorem dL_law_94 : decode cL_law 94 = .ok (.iload_n 3, 1) := by decide +kernel
theorem dL_law_95 : decode cL_law 95 = .ok (.iconst 1, 1) := by decide +kernel
theorem dL_law_96 : decode cL_law 96 = .ok (.iadd, 1) := by decide +kernel
theorem dL_law_97 : decode cL_law 97 = .ok (.iaload, 1) := by decide +kernel
theorem dL_law_98 : decode cL_law 98 = .ok (.aload_n 0, 1) := by decide +kernel
theorem dL_law_99 : decode cL_law 99 = .ok (.iload_n 3, 1) := by decide +kernel
theorem dL_law_100 : decode cL_law 100 = .ok (.iconst 2, 1) := by decide +kernel
theorem dL_law_101 : decode cL_law 101 = .ok (.iadd, 1) := by decide +kernel
theorem dL_law_102 : decode cL_law 102 = .ok (.iaload, 1) := by decide +kernel
theorem dL_law_103 : decode cL_law 103 = .ok (.invokevirtual 13, 3) := by decide +kernel
theorem dL_law_106 : decode cL_law 106 = .ok (.aload_n 2, 1) := by decide +kernel
theorem dL_law_107 : decode cL_law 107 = .ok (.aload_n 0, 1) := by decide +kernel
theorem dL_law_108 : decode cL_law 108 = .ok (.iload_n 3, 1) := by decide +kernel
theorem dL_law_109 : decode cL_law 109 = .ok (.iconst 1, 1) := by decide +kernel
theorem dL_law_110 : decode cL_law 110 = .ok (.iadd, 1) := by decide +kernel
theorem dL_law_111 : decode cL_law 111 = .ok (.iaload, 1) := by decide +kernel
theorem dL_law_112 : decode cL_law 112 = .ok (.aload_n 0, 1) := by decide +kernel
theorem dL_law_113 : decode cL_law 113 = .ok (.iload_n 3, 1) := by decide +kernel
theorem dL_law_114 : decode cL_law 114 = .ok (.iconst 2, 1) := by decide +kernel
theorem dL_law_115 : decode cL_law 115 = .ok (.iadd, 1) := by decide +kernel
theorem dL_law_116 : decode cL_law 116 = .ok (.iaload, 1) := by decide +kernel
theorem dL_law_117 : decode cL_law 117 = .ok (.invokevirtual 17, 3) := by decide +kernel
theorem dL_law_120 : decode cL_law 120 = .ok (.if_icmp .eq 235, 3) := by decide +kernel
theorem dL_law_123 : decode cL_law 123 = .ok (.iconst 0, 1) := by decide +kernel
theorem dL_law_124 : decode cL_law 124 = .ok (.ireturn, 1) := by decide +kernel
theorem dL_law_125 : decode cL_law 125 = .ok (.aload_n 1, 1) := by decide +kernel
theorem dL_law_126 : decode cL_law 126 = .ok (.aload_n 0, 1) := by decide +kernel
theorem dL_law_127 : decode cL_law 127 = .ok (.iload_n 3, 1) := by decide +kernel
theorem dL_law_128 : decode cL_law 128 = .ok (.iconst 1, 1) := by decide +kernel
theorem dL_law_129 : decode cL_law 129 = .ok (.iadd, 1) := by decide +kernel
theorem dL_law_130 : decode cL_law 130 = .ok (.iaload, 1) := by decide +kernel
theorem dL_law_131 : decode cL_law 131 = .ok (.invokevirtual 18, 3) := by decide +kernel
theorem dL_law_134 : decode cL_law 134 = .ok (.aload_n 2, 1) := by decide +kernel
theorem dL_law_135 : decode cL_law 135 = .ok (.aload_n 0, 1) := by decide +kernel
theorem dL_law_136 : decode cL_law 136 = .ok (.iload_n 3, 1) := by decide +kernel
theorem dL_law_137 : decode cL_law 137 = .ok (.iconst 1, 1) := by decide +kernel
theorem dL_law_138 : decode cL_law 138 = .ok (.iadd, 1) := by decide +kernel
theorem dL_law_139 : decode cL_law 139 = .ok (.iaload, 1) := by decide +kernel
theorem dL_law_140 : decode cL_law 140 = .ok (.invokevirtual 22, 3) := by decide +kernel
theorem dL_law_143 : decode cL_law 143 = .ok (.if_icmp .eq 212, 3) := by decide +kernel
theorem dL_law_146 : decode cL_law 146 = .ok (.iconst 0, 1) := by decide +kernel
theorem dL_law_147 : decode cL_law 147 = .ok (.ireturn, 1) := by decide +kernel
theorem dL_law_148 : decode cL_law 148 = .ok (.aload_n 1, 1) := by decide +kernel
theorem dL_law_149 : decode cL_law 149 = .ok (.aload_n 0, 1) := by decide +kernel
theorem dL_law_150 : decode cL_law 150 = .ok (.iload_n 3, 1) := by decide +kernel
theorem dL_law_151 : decode cL_law 151 = .ok (.iconst 1, 1) := by decide +kernel
theorem dL_law_152 : decode cL_law 152 = .ok (.iadd, 1) := by decide +kernel
theorem dL_law_153 : decode cL_law 153 = .ok (.iaload, 1) := by decide +kernel
theorem dL_law_154 : decode cL_law 154 = .ok (.invokevirtual 23, 3) := by decide +kernel
theorem dL_law_157 : decode cL_law 157 = .ok (.aload_n 2, 1) := by decide +kernel
theorem dL_law_158 : decode cL_law 158 = .ok (.aload_n 0, 1) := by decide +kernel
theorem dL_law_159 : decode cL_law 159 = .ok (.iload_n 3, 1) := by decide +kernel
theorem dL_law_160 : decode cL_law 160 = .ok (.iconst 1, 1) := by decide +kernel
theorem dL_law_161 : decode cL_law 161 = .ok (.iadd, 1) := by decide +kernel
theorem dL_law_162 : decode cL_law 162 = .ok (.iaload, 1) := by decide +kernel
theorem dL_law_163 : decode cL_law 163 = .ok (.invokevirtual 27, 3) := by decide +kernel
theorem dL_law_166 : decode cL_law 166 = .ok (.if_icmp .eq 189, 3) := by decide +kernel
theorem dL_law_169 : decode cL_law 169 = .ok (.iconst 0, 1) := by decide +kernel
theorem dL_law_170 : decode cL_law 170 = .ok (.ireturn, 1) := by decide +kernel
theorem dL_law_171 : decode cL_law 171 = .ok (.aload_n 1, 1) := by decide +kernel
theorem dL_law_172 : decode cL_law 172 = .ok (.invokevirtual 28, 3) := by decide +kernel
theorem dL_law_175 : decode cL_law 175 = .ok (.aload_n 2, 1) := by decide +kernel
theorem dL_law_176 : decode cL_law 176 = .ok (.invokevirtual 32, 3) := by decide +kernel
theorem dL_law_179 : decode cL_law 179 = .ok (.if_icmp .eq 176, 3) := by decide +kernel
theorem dL_law_182 : decode cL_law 182 = .ok (.iconst 0, 1) := by decide +kernel
theorem dL_law_183 : decode cL_law 183 = .ok (.ireturn, 1) := by decide +kernel
theorem dL_law_184 : decode cL_law 184 = .ok (.aload_n 1, 1) := by decide +kernel
theorem dL_law_185 : decode cL_law 185 = .ok (.invokevirtual 33, 3) := by decide +kernel
theorem dL_law_188 : decode cL_law 188 = .ok (.aload_n 2, 1) := by decide +kernel
theorem dL_law_189 : decode cL_law 189 = .ok (.invokevirtual 36, 3) := by decide +kernel
theorem dL_law_192 : decode cL_law 192 = .ok (.if_icmp .eq 163, 3) := by decide +kernel
theorem dL_law_195 : decode cL_law 195 = .ok (.iconst 0, 1) := by decide +kernel
theorem dL_law_196 : decode cL_law 196 = .ok (.ireturn, 1) := by decide +kernel
theorem dL_law_197 : decode cL_law 197 = .ok (.aload_n 1, 1) := by decide +kernel
theorem dL_law_198 : decode cL_law 198 = .ok (.aload_n 0, 1) := by decide +kernel
theorem dL_law_199 : decode cL_law 199 = .ok (.iload_n 3, 1) := by decide +kernel
theorem dL_law_200 : decode cL_law 200 = .ok (.iconst 1, 1) := by decide +kernel
theorem dL_law_201 : decode cL_law 201 = .ok (.iadd, 1) := by decide +kernel
theorem dL_law_202 : decode cL_law 202 = .ok (.iaload, 1) := by decide +kernel
theorem dL_law_203 : decode cL_law 203 = .ok (.aload_n 0, 1) := by decide +kernel
theorem dL_law_204 : decode cL_law 204 = .ok (.iload_n 3, 1) := by decide +kernel
theorem dL_law_205 : decode cL_law 205 = .ok (.iconst 2, 1) := by decide +kernel
theorem dL_law_206 : decode cL_law 206 = .ok (.iadd, 1) := by decide +kernel
theorem dL_law_207 : decode cL_law 207 = .ok (.iaload, 1) := by decide +kernel
theorem dL_law_208 : decode cL_law 208 = .ok (.invokevirtual 37, 3) := by decide +kernel
theorem dL_law_211 : decode cL_law 211 = .ok (.aload_n 2, 1) := by decide +kernel
theorem dL_law_212 : decode cL_law 212 = .ok (.aload_n 0, 1) := by decide +kernel
theorem dL_law_213 : decode cL_law 213 = .ok (.iload_n 3, 1) := by decide +kernel
theorem dL_law_214 : decode cL_law 214 = .ok (.iconst 1, 1) := by decide +kernel
theorem dL_law_215 : decode cL_law 215 = .ok (.iadd, 1) := by decide +kernel
theorem dL_law_216 : decode cL_law 216 = .ok (.iaload, 1) := by decide +kernel
theorem dL_law_217 : decode cL_law 217 = .ok (.aload_n 0, 1) := by decide +kernel
theorem dL_law_218 : decode cL_law 218 = .ok (.iload_n 3, 1) := by decide +kernel
theorem dL_law_219 : decode cL_law 219 = .ok (.iconst 2, 1) := by decide +kernel
theorem dL_law_220 : decode cL_law 220 = .ok (.iadd, 1) := by decide +kernel
theorem dL_law_221 : decode cL_law 221 = .ok (.iaload, 1) := by decide +kernel
theorem dL_law_222 : decode cL_law 222 = .ok (.invokevirtual 40, 3) := by decide +kernel
theorem dL_law_225 : decode cL_law 225 = .ok (.if_icmp .eq 130, 3) := by decide +kernel
theorem dL_law_228 : decode cL_law 228 = .ok (.iconst 0, 1) := by decide +kernel
theorem dL_law_229 : decode cL_law 229 = .ok (.ireturn, 1) := by decide +kernel
theorem dL_law_230 : decode cL_law 230 = .ok (.aload_n 1, 1) := by decide +kernel
theorem dL_law_231 : decode cL_law 231 = .ok (.aload_n 0, 1) := by decide +kernel
theorem dL_law_232 : decode cL_law 232 = .ok (.iload_n 3, 1) := by decide +kernel
theorem dL_law_233 : decode cL_law 233 = .ok (.iconst 1, 1) := by decide +kernel
theorem dL_law_234 : decode cL_law 234 = .ok (.iadd, 1) := by decide +kernel
theorem dL_law_235 : decode cL_law 235 = .ok (.iaload, 1) := by decide +kernel
theorem dL_law_236 : decode cL_law 236 = .ok (.aload_n 0, 1) := by decide +kernel
theorem dL_law_237 : decode cL_law 237 = .ok (.iload_n 3, 1) := by decide +kernel
theorem dL_law_238 : decode cL_law 238 = .ok (.iconst 2, 1) := by decide +kernel
theorem dL_law_239 : decode cL_law 239 = .ok (.iadd, 1) := by decide +kernel
theorem dL_law_240 : decode cL_law 240 = .ok (.iaload, 1) := by decide +kernel
theorem dL_law_241 : decode cL_law 241 = .ok (.invokevirtual 41, 3) := by decide +kernel
theorem dL_law_244 : decode cL_law 244 = .ok (.aload_n 2, 1) := by decide +kernel
theorem dL_law_245 : decode cL_law 245 = .ok (.aload_n 0, 1) := by decide +kernel
theorem dL_law_246 : decode cL_law 246 = .ok (.iload_n 3, 1) := by decide +kernel
theorem dL_law_247 : decode cL_law 247 = .ok (.iconst 1, 1) := by decide +kernel
theorem dL_law_248 : decode cL_law 248 = .ok (.iadd, 1) := by decide +kernel
theorem dL_law_249 : decode cL_law 249 = .ok (.iaload, 1) := by decide +kernel
theorem dL_law_250 : decode cL_law 250 = .ok (.aload_n 0, 1) := by decide +kernel
theorem dL_law_251 : decode cL_law 251 = .ok (.iload_n 3, 1) := by decide +kernel
theorem dL_law_252 : decode cL_law 252 = .ok (.iconst 2, 1) := by decide +kernel
theorem dL_law_253 : decode cL_law 253 = .ok (.iadd, 1) := by decide +kernel
theorem dL_law_254 : decode cL_law 254 = .ok (.iaload, 1) := by decide +kernel
theorem dL_law_255 : decode cL_law 255 = .ok (.invokevirtual 45, 3) := by decide +kernel
theorem dL_law_258 : decode cL_law 258 = .ok (.if_icmp .eq 97, 3) := by decide +kernel
theorem dL_law_261 : decode cL_law 261 = .ok (.iconst 0, 1) := by decide +kernel
theorem dL_law_262 : decode cL_law 262 = .ok (.ireturn, 1) := by decide +kernel
theorem dL_law_263 : decode cL_law 263 = .ok (.aload_n 1, 1) := by decide +kernel
theorem dL_law_264 : decode cL_law 264 = .ok (.aload_n 0, 1) := by decide +kernel
theorem dL_law_265 : decode cL_law 265 = .ok (.iload_n 3, 1) := by decide +kernel
theorem dL_law_266 : decode cL_law 266 = .ok (.iconst 1, 1) := by decide +kernel
theorem dL_law_267 : decode cL_law 267 = .ok (.iadd, 1) := by decide +kernel
theorem dL_law_268 : decode cL_law 268 = .ok (.iaload, 1) := by decide +kernel
theorem dL_law_269 : decode cL_law 269 = .ok (.aload_n 0, 1) := by decide +kernel
theorem dL_law_270 : decode cL_law 270 = .ok (.iload_n 3, 1) := by decide +kernel
theorem dL_law_271 : decode cL_law 271 = .ok (.iconst 2, 1) := by decide +kernel
theorem dL_law_272 : decode cL_law 272 = .ok (.iadd, 1) := by decide +kernel
theorem dL_law_273 : decode cL_law 273 = .ok (.iaload, 1) := by decide +kernel
theorem dL_law_274 : decode cL_law 274 = .ok (.invokevirtual 46, 3) := by decide +kernel
theorem dL_law_277 : decode cL_law 277 = .ok (.aload_n 2, 1) := by decide +kernel
theorem dL_law_278 : decode cL_law 278 = .ok (.aload_n 0, 1) := by decide +kernel
theorem dL_law_279 : decode cL_law 279 = .ok (.iload_n 3, 1) := by decide +kernel
theorem dL_law_280 : decode cL_law 280 = .ok (.iconst 1, 1) := by decide +kernel
theorem dL_law_281 : decode cL_law 281 = .ok (.iadd, 1) := by decide +kernel
theorem dL_law_282 : decode cL_law 282 = .ok (.iaload, 1) := by decide +kernel
theorem dL_law_283 : decode cL_law 283 = .ok (.aload_n 0, 1) := by decide +kernel
theorem dL_law_284 : decode cL_law 284 = .ok (.iload_n 3, 1) := by decide +kernel
theorem dL_law_285 : decode cL_law 285 = .ok (.iconst 2, 1) := by decide +kernel
theorem dL_law_286 : decode cL_law 286 = .ok (.iadd, 1) := by decide +kernel
theorem dL_law_287 : decode cL_law 287 = .ok (.iaload, 1) := by decide +kernel
theorem dL_law_288 : decode cL_law 288 = .ok (.invokevirtual 49, 3) := by decide +kernel
theorem dL_law_291 : decode cL_law 291 = .ok (.if_icmp .eq 64, 3) := by decide +kernel
theorem dL_law_294 : decode cL_law 294 = .ok (.iconst 0, 1) := by decide +kernel
theorem dL_law_295 : decode cL_law 295 = .ok (.ireturn, 1) := by decide +kernel
theorem dL_law_296 : decode cL_law 296 = .ok (.aload_n 1, 1) := by decide +kernel
theorem dL_law_297 : decode cL_law 297 = .ok (.aload_n 0, 1) := by decide +kernel
theorem dL_law_298 : decode cL_law 298 = .ok (.iload_n 3, 1) := by decide +kernel
theorem dL_law_299 : decode cL_law 299 = .ok (.iconst 1, 1) := by decide +kernel
theorem dL_law_300 : decode cL_law 300 = .ok (.iadd, 1) := by decide +kernel
theorem dL_law_301 : decode cL_law 301 = .ok (.iaload, 1) := by decide +kernel
theorem dL_law_302 : decode cL_law 302 = .ok (.invokevirtual 50, 3) := by decide +kernel
theorem dL_law_305 : decode cL_law 305 = .ok (.aload_n 2, 1) := by decide +kernel
theorem dL_law_306 : decode cL_law 306 = .ok (.aload_n 0, 1) := by decide +kernel
theorem dL_law_307 : decode cL_law 307 = .ok (.iload_n 3, 1) := by decide +kernel
theorem dL_law_308 : decode cL_law 308 = .ok (.iconst 1, 1) := by decide +kernel
theorem dL_law_309 : decode cL_law 309 = .ok (.iadd, 1) := by decide +kernel
theorem dL_law_310 : decode cL_law 310 = .ok (.iaload, 1) := by decide +kernel
theorem dL_law_311 : decode cL_law 311 = .ok (.invokevirtual 53, 3) := by decide +kernel
theorem dL_law_314 : decode cL_law 314 = .ok (.if_icmp .eq 41, 3) := by decide +kernel
theorem dL_law_317 : decode cL_law 317 = .ok (.iconst 0, 1) := by decide +kernel
theorem dL_law_318 : decode cL_law 318 = .ok (.ireturn, 1) := by decide +kernel
theorem dL_law_319 : decode cL_law 319 = .ok (.aload_n 1, 1) := by decide +kernel
theorem dL_law_320 : decode cL_law 320 = .ok (.aload_n 0, 1) := by decide +kernel
theorem dL_law_321 : decode cL_law 321 = .ok (.iload_n 3, 1) := by decide +kernel
theorem dL_law_322 : decode cL_law 322 = .ok (.iconst 1, 1) := by decide +kernel
theorem dL_law_323 : decode cL_law 323 = .ok (.iadd, 1) := by decide +kernel
theorem dL_law_324 : decode cL_law 324 = .ok (.iaload, 1) := by decide +kernel
theorem dL_law_325 : decode cL_law 325 = .ok (.invokevirtual 54, 3) := by decide +kernel
theorem dL_law_328 : decode cL_law 328 = .ok (.aload_n 2, 1) := by decide +kernel
theorem dL_law_329 : decode cL_law 329 = .ok (.aload_n 0, 1) := by decide +kernel
theorem dL_law_330 : decode cL_law 330 = .ok (.iload_n 3, 1) := by decide +kernel
theorem dL_law_331 : decode cL_law 331 = .ok (.iconst 1, 1) := by decide +kernel
theorem dL_law_332 : decode cL_law 332 = .ok (.iadd, 1) := by decide +kernel
theorem dL_law_333 : decode cL_law 333 = .ok (.iaload, 1) := by decide +kernel
theorem dL_law_334 : decode cL_law 334 = .ok (.invokevirtual 57, 3) := by decide +kernel
theorem dL_law_337 : decode cL_law 337 = .ok (.if_icmp .eq 18, 3) := by decide +kernel
theorem dL_law_340 : decode cL_law 340 = .ok (.iconst 0, 1) := by decide +kernel
theorem dL_law_341 : decode cL_law 341 = .ok (.ireturn, 1) := by decide +kernel
theorem dL_law_342 : decode cL_law 342 = .ok (.aload_n 1, 1) := by decide +kernel
theorem dL_law_343 : decode cL_law 343 = .ok (.invokevirtual 58, 3) := by decide +kernel
theorem dL_law_346 : decode cL_law 346 = .ok (.aload_n 2, 1) := by decide +kernel
theorem dL_law_347 : decode cL_law 347 = .ok (.invokevirtual 61, 3) := by decide +kernel
theorem dL_law_350 : decode cL_law 350 = .ok (.if_icmp .eq 5, 3) := by decide +kernel
theorem dL_law_353 : decode cL_law 353 = .ok (.iconst 0, 1) := by decide +kernel
theorem dL_law_354 : decode cL_law 354 = .ok (.ireturn, 1) := by decide +kernel
theorem dL_law_355 : decode cL_law 355 = .ok (.iinc 3 3, 3) := by decide +kernel
theorem dL_law_358 : decode cL_law 358 = .ok (.goto (-340), 3) := by decide +kernel
theorem dL_law_361 : decode cL_law 361 = .ok (.iconst 1, 1) := by decide +kernel
theorem dL_law_362 : decode cL_law 362 = .ok (.ireturn, 1) := by decide +kernel
end
section
set_option maxRecDepth 100000
/-! LeastDeviations -/
def RX0 : String := "LeastDeviations"
def TX0 : u_T := fun k => match k with
  | 0 => ("LeastDeviations", "pointCount", "I", false)
  | 1 => ("LeastDeviations", "lean", "I", false)
  | 2 => ("LeastDeviations", "pointX", "[B", true)
  | 3 => ("LeastDeviations", "pointY", "[B", true)
  | 4 => ("LeastDeviations", "table", "[J", true)
  | 5 => ("LeastDeviations", "denominator", "J", false)
  | 6 => ("LeastDeviations", "owner", "[B", true)
  | 7 => ("LeastDeviations", "top", "J", false)
  | 8 => ("LeastDeviations", "bottom", "J", false)
  | 9 => ("LeastDeviations", "sortTop", "[I", true)
  | 10 => ("LeastDeviations", "sortBottom", "[I", true)
  | _ => ("LeastDeviations", "sortCount", "I", false)
def tyX0 : Nat → FieldType := fun k => match k with
  | 0 => .int
  | 1 => .int
  | 2 => .array .byte
  | 3 => .array .byte
  | 4 => .array .long
  | 5 => .long
  | 6 => .array .byte
  | 7 => .long
  | 8 => .long
  | 9 => .array .int
  | 10 => .array .int
  | _ => .int
abbrev wsX00 : List Cond := u_ws RX0 TX0 12
theorem nmX0 : ∀ a, a < 12 → ∀ b, b < 12 → a ≠ b → (TX0 a).2.1 ≠ (TX0 b).2.1 := by decide +kernel
theorem tyX0_ok : ∀ k, k < 12 → parseFieldDescriptor (TX0 k).2.2.1 = some (tyX0 k) := by decide +kernel
abbrev cX0_init : ByteArray := prog_1_method_1_code
def yX0_init : MethodName := ⟨RX0, "<init>", "()V"⟩
theorem dX0_init_0 : decode cX0_init 0 = .ok (.aload_n 0, 1) := by decide +kernel
theorem dX0_init_1 : decode cX0_init 1 = .ok (.invokespecial 1, 3) := by decide +kernel
theorem dX0_init_4 : decode cX0_init 4 = .ok (.aload_n 0, 1) := by decide +kernel
theorem dX0_init_5 : decode cX0_init 5 = .ok (.bipush 8, 2) := by decide +kernel
theorem dX0_init_7 : decode cX0_init 7 = .ok (.newarray .byte, 2) := by decide +kernel
theorem dX0_init_9 : decode cX0_init 9 = .ok (.putfield 7, 3) := by decide +kernel
theorem dX0_init_12 : decode cX0_init 12 = .ok (.aload_n 0, 1) := by decide +kernel
theorem dX0_init_13 : decode cX0_init 13 = .ok (.bipush 8, 2) := by decide +kernel
theorem dX0_init_15 : decode cX0_init 15 = .ok (.newarray .byte, 2) := by decide +kernel
theorem dX0_init_17 : decode cX0_init 17 = .ok (.putfield 13, 3) := by decide +kernel
theorem dX0_init_20 : decode cX0_init 20 = .ok (.aload_n 0, 1) := by decide +kernel
theorem dX0_init_21 : decode cX0_init 21 = .ok (.sipush 189, 3) := by decide +kernel
theorem dX0_init_24 : decode cX0_init 24 = .ok (.newarray .long, 2) := by decide +kernel
theorem dX0_init_26 : decode cX0_init 26 = .ok (.putfield 16, 3) := by decide +kernel
theorem dX0_init_29 : decode cX0_init 29 = .ok (.aload_n 0, 1) := by decide +kernel
theorem dX0_init_30 : decode cX0_init 30 = .ok (.bipush 8, 2) := by decide +kernel
theorem dX0_init_32 : decode cX0_init 32 = .ok (.newarray .byte, 2) := by decide +kernel
theorem dX0_init_34 : decode cX0_init 34 = .ok (.putfield 20, 3) := by decide +kernel
theorem dX0_init_37 : decode cX0_init 37 = .ok (.aload_n 0, 1) := by decide +kernel
theorem dX0_init_38 : decode cX0_init 38 = .ok (.bipush 8, 2) := by decide +kernel
theorem dX0_init_40 : decode cX0_init 40 = .ok (.newarray .int, 2) := by decide +kernel
theorem dX0_init_42 : decode cX0_init 42 = .ok (.putfield 23, 3) := by decide +kernel
theorem dX0_init_45 : decode cX0_init 45 = .ok (.aload_n 0, 1) := by decide +kernel
theorem dX0_init_46 : decode cX0_init 46 = .ok (.bipush 8, 2) := by decide +kernel
theorem dX0_init_48 : decode cX0_init 48 = .ok (.newarray .int, 2) := by decide +kernel
theorem dX0_init_50 : decode cX0_init 50 = .ok (.putfield 27, 3) := by decide +kernel
theorem dX0_init_53 : decode cX0_init 53 = .ok (.aload_n 0, 1) := by decide +kernel
theorem dX0_init_54 : decode cX0_init 54 = .ok (.iconst 2, 1) := by decide +kernel
theorem dX0_init_55 : decode cX0_init 55 = .ok (.putfield 30, 3) := by decide +kernel
theorem dX0_init_58 : decode cX0_init 58 = .ok (.return_, 1) := by decide +kernel
abbrev cX0_add : ByteArray := prog_1_method_2_code
def yX0_add : MethodName := ⟨RX0, "add", "(II)I"⟩
theorem dX0_add_0 : decode cX0_add 0 = .ok (.aload_n 0, 1) := by decide +kernel
theorem dX0_add_1 : decode cX0_add 1 = .ok (.getfield 34, 3) := by decide +kernel
theorem dX0_add_4 : decode cX0_add 4 = .ok (.bipush 8, 2) := by decide +kernel
theorem dX0_add_6 : decode cX0_add 6 = .ok (.if_icmp .lt 6, 3) := by decide +kernel
theorem dX0_add_9 : decode cX0_add 9 = .ok (.bipush (-2), 2) := by decide +kernel
theorem dX0_add_11 : decode cX0_add 11 = .ok (.ireturn, 1) := by decide +kernel
theorem dX0_add_12 : decode cX0_add 12 = .ok (.iload_n 1, 1) := by decide +kernel
theorem dX0_add_13 : decode cX0_add 13 = .ok (.bipush (-20), 2) := by decide +kernel
theorem dX0_add_15 : decode cX0_add 15 = .ok (.if_icmp .lt 21, 3) := by decide +kernel
theorem dX0_add_18 : decode cX0_add 18 = .ok (.iload_n 1, 1) := by decide +kernel
theorem dX0_add_19 : decode cX0_add 19 = .ok (.bipush 20, 2) := by decide +kernel
theorem dX0_add_21 : decode cX0_add 21 = .ok (.if_icmp .gt 15, 3) := by decide +kernel
theorem dX0_add_24 : decode cX0_add 24 = .ok (.iload_n 2, 1) := by decide +kernel
theorem dX0_add_25 : decode cX0_add 25 = .ok (.bipush (-20), 2) := by decide +kernel
theorem dX0_add_27 : decode cX0_add 27 = .ok (.if_icmp .lt 9, 3) := by decide +kernel
theorem dX0_add_30 : decode cX0_add 30 = .ok (.iload_n 2, 1) := by decide +kernel
theorem dX0_add_31 : decode cX0_add 31 = .ok (.bipush 20, 2) := by decide +kernel
theorem dX0_add_33 : decode cX0_add 33 = .ok (.if_icmp .le 5, 3) := by decide +kernel
theorem dX0_add_36 : decode cX0_add 36 = .ok (.iconst (-1), 1) := by decide +kernel
theorem dX0_add_37 : decode cX0_add 37 = .ok (.ireturn, 1) := by decide +kernel
theorem dX0_add_38 : decode cX0_add 38 = .ok (.aload_n 0, 1) := by decide +kernel
theorem dX0_add_39 : decode cX0_add 39 = .ok (.getfield 7, 3) := by decide +kernel
theorem dX0_add_42 : decode cX0_add 42 = .ok (.aload_n 0, 1) := by decide +kernel
theorem dX0_add_43 : decode cX0_add 43 = .ok (.getfield 34, 3) := by decide +kernel
theorem dX0_add_46 : decode cX0_add 46 = .ok (.iload_n 1, 1) := by decide +kernel
theorem dX0_add_47 : decode cX0_add 47 = .ok (.i2b, 1) := by decide +kernel
theorem dX0_add_48 : decode cX0_add 48 = .ok (.bastore, 1) := by decide +kernel
theorem dX0_add_49 : decode cX0_add 49 = .ok (.aload_n 0, 1) := by decide +kernel
theorem dX0_add_50 : decode cX0_add 50 = .ok (.getfield 13, 3) := by decide +kernel
theorem dX0_add_53 : decode cX0_add 53 = .ok (.aload_n 0, 1) := by decide +kernel
theorem dX0_add_54 : decode cX0_add 54 = .ok (.getfield 34, 3) := by decide +kernel
theorem dX0_add_57 : decode cX0_add 57 = .ok (.iload_n 2, 1) := by decide +kernel
theorem dX0_add_58 : decode cX0_add 58 = .ok (.i2b, 1) := by decide +kernel
theorem dX0_add_59 : decode cX0_add 59 = .ok (.bastore, 1) := by decide +kernel
theorem dX0_add_60 : decode cX0_add 60 = .ok (.aload_n 0, 1) := by decide +kernel
theorem dX0_add_61 : decode cX0_add 61 = .ok (.dup, 1) := by decide +kernel
theorem dX0_add_62 : decode cX0_add 62 = .ok (.getfield 34, 3) := by decide +kernel
theorem dX0_add_65 : decode cX0_add 65 = .ok (.iconst 1, 1) := by decide +kernel
theorem dX0_add_66 : decode cX0_add 66 = .ok (.iadd, 1) := by decide +kernel
theorem dX0_add_67 : decode cX0_add 67 = .ok (.putfield 34, 3) := by decide +kernel
theorem dX0_add_70 : decode cX0_add 70 = .ok (.aload_n 0, 1) := by decide +kernel
theorem dX0_add_71 : decode cX0_add 71 = .ok (.getfield 34, 3) := by decide +kernel
theorem dX0_add_74 : decode cX0_add 74 = .ok (.ireturn, 1) := by decide +kernel
abbrev cX0_drop : ByteArray := prog_1_method_3_code
def yX0_drop : MethodName := ⟨RX0, "drop", "(I)I"⟩
theorem dX0_drop_0 : decode cX0_drop 0 = .ok (.aload_n 0, 1) := by decide +kernel
theorem dX0_drop_1 : decode cX0_drop 1 = .ok (.iload_n 1, 1) := by decide +kernel
theorem dX0_drop_2 : decode cX0_drop 2 = .ok (.invokevirtual 37, 3) := by decide +kernel
theorem dX0_drop_5 : decode cX0_drop 5 = .ok (.ifCond .ne 5, 3) := by decide +kernel
theorem dX0_drop_8 : decode cX0_drop 8 = .ok (.iconst (-1), 1) := by decide +kernel
theorem dX0_drop_9 : decode cX0_drop 9 = .ok (.ireturn, 1) := by decide +kernel
theorem dX0_drop_10 : decode cX0_drop 10 = .ok (.aload_n 0, 1) := by decide +kernel
theorem dX0_drop_11 : decode cX0_drop 11 = .ok (.dup, 1) := by decide +kernel
theorem dX0_drop_12 : decode cX0_drop 12 = .ok (.getfield 34, 3) := by decide +kernel
theorem dX0_drop_15 : decode cX0_drop 15 = .ok (.iconst 1, 1) := by decide +kernel
theorem dX0_drop_16 : decode cX0_drop 16 = .ok (.isub, 1) := by decide +kernel
theorem dX0_drop_17 : decode cX0_drop 17 = .ok (.putfield 34, 3) := by decide +kernel
theorem dX0_drop_20 : decode cX0_drop 20 = .ok (.iload_n 1, 1) := by decide +kernel
theorem dX0_drop_21 : decode cX0_drop 21 = .ok (.istore_n 2, 1) := by decide +kernel
theorem dX0_drop_22 : decode cX0_drop 22 = .ok (.iload_n 2, 1) := by decide +kernel
theorem dX0_drop_23 : decode cX0_drop 23 = .ok (.aload_n 0, 1) := by decide +kernel
theorem dX0_drop_24 : decode cX0_drop 24 = .ok (.getfield 34, 3) := by decide +kernel
theorem dX0_drop_27 : decode cX0_drop 27 = .ok (.if_icmp .ge 37, 3) := by decide +kernel
theorem dX0_drop_30 : decode cX0_drop 30 = .ok (.aload_n 0, 1) := by decide +kernel
theorem dX0_drop_31 : decode cX0_drop 31 = .ok (.getfield 7, 3) := by decide +kernel
theorem dX0_drop_34 : decode cX0_drop 34 = .ok (.iload_n 2, 1) := by decide +kernel
theorem dX0_drop_35 : decode cX0_drop 35 = .ok (.aload_n 0, 1) := by decide +kernel
theorem dX0_drop_36 : decode cX0_drop 36 = .ok (.getfield 7, 3) := by decide +kernel
theorem dX0_drop_39 : decode cX0_drop 39 = .ok (.iload_n 2, 1) := by decide +kernel
theorem dX0_drop_40 : decode cX0_drop 40 = .ok (.iconst 1, 1) := by decide +kernel
theorem dX0_drop_41 : decode cX0_drop 41 = .ok (.iadd, 1) := by decide +kernel
theorem dX0_drop_42 : decode cX0_drop 42 = .ok (.baload, 1) := by decide +kernel
theorem dX0_drop_43 : decode cX0_drop 43 = .ok (.bastore, 1) := by decide +kernel
theorem dX0_drop_44 : decode cX0_drop 44 = .ok (.aload_n 0, 1) := by decide +kernel
theorem dX0_drop_45 : decode cX0_drop 45 = .ok (.getfield 13, 3) := by decide +kernel
theorem dX0_drop_48 : decode cX0_drop 48 = .ok (.iload_n 2, 1) := by decide +kernel
theorem dX0_drop_49 : decode cX0_drop 49 = .ok (.aload_n 0, 1) := by decide +kernel
theorem dX0_drop_50 : decode cX0_drop 50 = .ok (.getfield 13, 3) := by decide +kernel
theorem dX0_drop_53 : decode cX0_drop 53 = .ok (.iload_n 2, 1) := by decide +kernel
theorem dX0_drop_54 : decode cX0_drop 54 = .ok (.iconst 1, 1) := by decide +kernel
theorem dX0_drop_55 : decode cX0_drop 55 = .ok (.iadd, 1) := by decide +kernel
theorem dX0_drop_56 : decode cX0_drop 56 = .ok (.baload, 1) := by decide +kernel
theorem dX0_drop_57 : decode cX0_drop 57 = .ok (.bastore, 1) := by decide +kernel
theorem dX0_drop_58 : decode cX0_drop 58 = .ok (.iinc 2 1, 3) := by decide +kernel
theorem dX0_drop_61 : decode cX0_drop 61 = .ok (.goto (-39), 3) := by decide +kernel
theorem dX0_drop_64 : decode cX0_drop 64 = .ok (.aload_n 0, 1) := by decide +kernel
theorem dX0_drop_65 : decode cX0_drop 65 = .ok (.getfield 34, 3) := by decide +kernel
theorem dX0_drop_68 : decode cX0_drop 68 = .ok (.ireturn, 1) := by decide +kernel
abbrev cX0_isPoint : ByteArray := prog_1_method_5_code
def yX0_isPoint : MethodName := ⟨RX0, "isPoint", "(I)Z"⟩
theorem dX0_isPoint_0 : decode cX0_isPoint 0 = .ok (.iload_n 1, 1) := by decide +kernel
theorem dX0_isPoint_1 : decode cX0_isPoint 1 = .ok (.ifCond .lt 15, 3) := by decide +kernel
theorem dX0_isPoint_4 : decode cX0_isPoint 4 = .ok (.iload_n 1, 1) := by decide +kernel
theorem dX0_isPoint_5 : decode cX0_isPoint 5 = .ok (.aload_n 0, 1) := by decide +kernel
theorem dX0_isPoint_6 : decode cX0_isPoint 6 = .ok (.getfield 34, 3) := by decide +kernel
theorem dX0_isPoint_9 : decode cX0_isPoint 9 = .ok (.if_icmp .ge 7, 3) := by decide +kernel
theorem dX0_isPoint_12 : decode cX0_isPoint 12 = .ok (.iconst 1, 1) := by decide +kernel
theorem dX0_isPoint_13 : decode cX0_isPoint 13 = .ok (.goto 4, 3) := by decide +kernel
theorem dX0_isPoint_16 : decode cX0_isPoint 16 = .ok (.iconst 0, 1) := by decide +kernel
theorem dX0_isPoint_17 : decode cX0_isPoint 17 = .ok (.ireturn, 1) := by decide +kernel
abbrev cX0_lean : ByteArray := prog_1_method_4_code
def yX0_lean : MethodName := ⟨RX0, "lean", "(I)Z"⟩
theorem dX0_lean_0 : decode cX0_lean 0 = .ok (.iload_n 1, 1) := by decide +kernel
theorem dX0_lean_1 : decode cX0_lean 1 = .ok (.iconst 1, 1) := by decide +kernel
theorem dX0_lean_2 : decode cX0_lean 2 = .ok (.if_icmp .lt 8, 3) := by decide +kernel
theorem dX0_lean_5 : decode cX0_lean 5 = .ok (.iload_n 1, 1) := by decide +kernel
theorem dX0_lean_6 : decode cX0_lean 6 = .ok (.iconst 3, 1) := by decide +kernel
theorem dX0_lean_7 : decode cX0_lean 7 = .ok (.if_icmp .le 5, 3) := by decide +kernel
theorem dX0_lean_10 : decode cX0_lean 10 = .ok (.iconst 0, 1) := by decide +kernel
theorem dX0_lean_11 : decode cX0_lean 11 = .ok (.ireturn, 1) := by decide +kernel
theorem dX0_lean_12 : decode cX0_lean 12 = .ok (.aload_n 0, 1) := by decide +kernel
theorem dX0_lean_13 : decode cX0_lean 13 = .ok (.iload_n 1, 1) := by decide +kernel
theorem dX0_lean_14 : decode cX0_lean 14 = .ok (.putfield 30, 3) := by decide +kernel
theorem dX0_lean_17 : decode cX0_lean 17 = .ok (.iconst 1, 1) := by decide +kernel
theorem dX0_lean_18 : decode cX0_lean 18 = .ok (.ireturn, 1) := by decide +kernel
abbrev cX0_leastTop : ByteArray := prog_1_method_6_code
def yX0_leastTop : MethodName := ⟨RX0, "leastTop", "()I"⟩
theorem dX0_leastTop_0 : decode cX0_leastTop 0 = .ok (.aload_n 0, 1) := by decide +kernel
theorem dX0_leastTop_1 : decode cX0_leastTop 1 = .ok (.invokevirtual 41, 3) := by decide +kernel
theorem dX0_leastTop_4 : decode cX0_leastTop 4 = .ok (.aload_n 0, 1) := by decide +kernel
theorem dX0_leastTop_5 : decode cX0_leastTop 5 = .ok (.getfield 44, 3) := by decide +kernel
theorem dX0_leastTop_8 : decode cX0_leastTop 8 = .ok (.l2i, 1) := by decide +kernel
theorem dX0_leastTop_9 : decode cX0_leastTop 9 = .ok (.ireturn, 1) := by decide +kernel
abbrev cX0_solve : ByteArray := prog_1_method_21_code
def yX0_solve : MethodName := ⟨RX0, "solve", "()V"⟩
theorem dX0_solve_0 : decode cX0_solve 0 = .ok (.aload_n 0, 1) := by decide +kernel
theorem dX0_solve_1 : decode cX0_solve 1 = .ok (.invokevirtual 80, 3) := by decide +kernel
theorem dX0_solve_4 : decode cX0_solve 4 = .ok (.aload_n 0, 1) := by decide +kernel
theorem dX0_solve_5 : decode cX0_solve 5 = .ok (.invokevirtual 83, 3) := by decide +kernel
theorem dX0_solve_8 : decode cX0_solve 8 = .ok (.istore_n 1, 1) := by decide +kernel
theorem dX0_solve_9 : decode cX0_solve 9 = .ok (.iload_n 1, 1) := by decide +kernel
theorem dX0_solve_10 : decode cX0_solve 10 = .ok (.ifCond .lt 23, 3) := by decide +kernel
theorem dX0_solve_13 : decode cX0_solve 13 = .ok (.aload_n 0, 1) := by decide +kernel
theorem dX0_solve_14 : decode cX0_solve 14 = .ok (.iload_n 1, 1) := by decide +kernel
theorem dX0_solve_15 : decode cX0_solve 15 = .ok (.invokevirtual 87, 3) := by decide +kernel
theorem dX0_solve_18 : decode cX0_solve 18 = .ok (.istore_n 2, 1) := by decide +kernel
theorem dX0_solve_19 : decode cX0_solve 19 = .ok (.aload_n 0, 1) := by decide +kernel
theorem dX0_solve_20 : decode cX0_solve 20 = .ok (.iload_n 2, 1) := by decide +kernel
theorem dX0_solve_21 : decode cX0_solve 21 = .ok (.iload_n 1, 1) := by decide +kernel
theorem dX0_solve_22 : decode cX0_solve 22 = .ok (.invokevirtual 90, 3) := by decide +kernel
theorem dX0_solve_25 : decode cX0_solve 25 = .ok (.aload_n 0, 1) := by decide +kernel
theorem dX0_solve_26 : decode cX0_solve 26 = .ok (.invokevirtual 83, 3) := by decide +kernel
theorem dX0_solve_29 : decode cX0_solve 29 = .ok (.istore_n 1, 1) := by decide +kernel
theorem dX0_solve_30 : decode cX0_solve 30 = .ok (.goto (-21), 3) := by decide +kernel
theorem dX0_solve_33 : decode cX0_solve 33 = .ok (.aload_n 0, 1) := by decide +kernel
theorem dX0_solve_34 : decode cX0_solve 34 = .ok (.aload_n 0, 1) := by decide +kernel
theorem dX0_solve_35 : decode cX0_solve 35 = .ok (.getfield 16, 3) := by decide +kernel
theorem dX0_solve_38 : decode cX0_solve 38 = .ok (.sipush 188, 3) := by decide +kernel
theorem dX0_solve_41 : decode cX0_solve 41 = .ok (.laload, 1) := by decide +kernel
theorem dX0_solve_42 : decode cX0_solve 42 = .ok (.lneg, 1) := by decide +kernel
theorem dX0_solve_43 : decode cX0_solve 43 = .ok (.putfield 44, 3) := by decide +kernel
theorem dX0_solve_46 : decode cX0_solve 46 = .ok (.aload_n 0, 1) := by decide +kernel
theorem dX0_solve_47 : decode cX0_solve 47 = .ok (.aload_n 0, 1) := by decide +kernel
theorem dX0_solve_48 : decode cX0_solve 48 = .ok (.getfield 77, 3) := by decide +kernel
theorem dX0_solve_51 : decode cX0_solve 51 = .ok (.putfield 48, 3) := by decide +kernel
theorem dX0_solve_54 : decode cX0_solve 54 = .ok (.aload_n 0, 1) := by decide +kernel
theorem dX0_solve_55 : decode cX0_solve 55 = .ok (.invokevirtual 74, 3) := by decide +kernel
theorem dX0_solve_58 : decode cX0_solve 58 = .ok (.return_, 1) := by decide +kernel
abbrev cX0_fillTable : ByteArray := prog_1_method_20_code
def yX0_fillTable : MethodName := ⟨RX0, "fillTable", "()V"⟩
theorem dX0_fillTable_0 : decode cX0_fillTable 0 = .ok (.iconst 0, 1) := by decide +kernel
theorem dX0_fillTable_1 : decode cX0_fillTable 1 = .ok (.istore_n 1, 1) := by decide +kernel
theorem dX0_fillTable_2 : decode cX0_fillTable 2 = .ok (.iload_n 1, 1) := by decide +kernel
theorem dX0_fillTable_3 : decode cX0_fillTable 3 = .ok (.sipush 189, 3) := by decide +kernel
theorem dX0_fillTable_6 : decode cX0_fillTable 6 = .ok (.if_icmp .ge 16, 3) := by decide +kernel
theorem dX0_fillTable_9 : decode cX0_fillTable 9 = .ok (.aload_n 0, 1) := by decide +kernel
theorem dX0_fillTable_10 : decode cX0_fillTable 10 = .ok (.getfield 16, 3) := by decide +kernel
theorem dX0_fillTable_13 : decode cX0_fillTable 13 = .ok (.iload_n 1, 1) := by decide +kernel
theorem dX0_fillTable_14 : decode cX0_fillTable 14 = .ok (.lconst 0, 1) := by decide +kernel
theorem dX0_fillTable_15 : decode cX0_fillTable 15 = .ok (.lastore, 1) := by decide +kernel
theorem dX0_fillTable_16 : decode cX0_fillTable 16 = .ok (.iinc 1 1, 3) := by decide +kernel
theorem dX0_fillTable_19 : decode cX0_fillTable 19 = .ok (.goto (-17), 3) := by decide +kernel
theorem dX0_fillTable_22 : decode cX0_fillTable 22 = .ok (.aload_n 0, 1) := by decide +kernel
theorem dX0_fillTable_23 : decode cX0_fillTable 23 = .ok (.lconst 1, 1) := by decide +kernel
theorem dX0_fillTable_24 : decode cX0_fillTable 24 = .ok (.putfield 77, 3) := by decide +kernel
theorem dX0_fillTable_27 : decode cX0_fillTable 27 = .ok (.sipush 168, 3) := by decide +kernel
theorem dX0_fillTable_30 : decode cX0_fillTable 30 = .ok (.istore_n 1, 1) := by decide +kernel
theorem dX0_fillTable_31 : decode cX0_fillTable 31 = .ok (.iconst 0, 1) := by decide +kernel
theorem dX0_fillTable_32 : decode cX0_fillTable 32 = .ok (.istore_n 2, 1) := by decide +kernel
theorem dX0_fillTable_33 : decode cX0_fillTable 33 = .ok (.iload_n 2, 1) := by decide +kernel
theorem dX0_fillTable_34 : decode cX0_fillTable 34 = .ok (.aload_n 0, 1) := by decide +kernel
theorem dX0_fillTable_35 : decode cX0_fillTable 35 = .ok (.getfield 34, 3) := by decide +kernel
theorem dX0_fillTable_38 : decode cX0_fillTable 38 = .ok (.if_icmp .ge 189, 3) := by decide +kernel
theorem dX0_fillTable_41 : decode cX0_fillTable 41 = .ok (.aload_n 0, 1) := by decide +kernel
theorem dX0_fillTable_42 : decode cX0_fillTable 42 = .ok (.getfield 13, 3) := by decide +kernel
theorem dX0_fillTable_45 : decode cX0_fillTable 45 = .ok (.iload_n 2, 1) := by decide +kernel
theorem dX0_fillTable_46 : decode cX0_fillTable 46 = .ok (.baload, 1) := by decide +kernel
theorem dX0_fillTable_47 : decode cX0_fillTable 47 = .ok (.ifCond .ge 7, 3) := by decide +kernel
theorem dX0_fillTable_50 : decode cX0_fillTable 50 = .ok (.iconst (-1), 1) := by decide +kernel
theorem dX0_fillTable_51 : decode cX0_fillTable 51 = .ok (.goto 4, 3) := by decide +kernel
theorem dX0_fillTable_54 : decode cX0_fillTable 54 = .ok (.iconst 1, 1) := by decide +kernel
theorem dX0_fillTable_55 : decode cX0_fillTable 55 = .ok (.istore_n 3, 1) := by decide +kernel
theorem dX0_fillTable_56 : decode cX0_fillTable 56 = .ok (.bipush 21, 2) := by decide +kernel
theorem dX0_fillTable_58 : decode cX0_fillTable 58 = .ok (.iload_n 2, 1) := by decide +kernel
theorem dX0_fillTable_59 : decode cX0_fillTable 59 = .ok (.imul, 1) := by decide +kernel
theorem dX0_fillTable_60 : decode cX0_fillTable 60 = .ok (.istore 4, 2) := by decide +kernel
theorem dX0_fillTable_62 : decode cX0_fillTable 62 = .ok (.aload_n 0, 1) := by decide +kernel
theorem dX0_fillTable_63 : decode cX0_fillTable 63 = .ok (.getfield 16, 3) := by decide +kernel
theorem dX0_fillTable_66 : decode cX0_fillTable 66 = .ok (.iload 4, 2) := by decide +kernel
theorem dX0_fillTable_68 : decode cX0_fillTable 68 = .ok (.iload_n 3, 1) := by decide +kernel
theorem dX0_fillTable_69 : decode cX0_fillTable 69 = .ok (.aload_n 0, 1) := by decide +kernel
theorem dX0_fillTable_70 : decode cX0_fillTable 70 = .ok (.getfield 7, 3) := by decide +kernel
theorem dX0_fillTable_73 : decode cX0_fillTable 73 = .ok (.iload_n 2, 1) := by decide +kernel
theorem dX0_fillTable_74 : decode cX0_fillTable 74 = .ok (.baload, 1) := by decide +kernel
theorem dX0_fillTable_75 : decode cX0_fillTable 75 = .ok (.imul, 1) := by decide +kernel
theorem dX0_fillTable_76 : decode cX0_fillTable 76 = .ok (.i2l, 1) := by decide +kernel
theorem dX0_fillTable_77 : decode cX0_fillTable 77 = .ok (.lastore, 1) := by decide +kernel
theorem dX0_fillTable_78 : decode cX0_fillTable 78 = .ok (.aload_n 0, 1) := by decide +kernel
theorem dX0_fillTable_79 : decode cX0_fillTable 79 = .ok (.getfield 16, 3) := by decide +kernel
theorem dX0_fillTable_82 : decode cX0_fillTable 82 = .ok (.iload 4, 2) := by decide +kernel
theorem dX0_fillTable_84 : decode cX0_fillTable 84 = .ok (.iconst 1, 1) := by decide +kernel
theorem dX0_fillTable_85 : decode cX0_fillTable 85 = .ok (.iadd, 1) := by decide +kernel
theorem dX0_fillTable_86 : decode cX0_fillTable 86 = .ok (.iload_n 3, 1) := by decide +kernel
theorem dX0_fillTable_87 : decode cX0_fillTable 87 = .ok (.ineg, 1) := by decide +kernel
theorem dX0_fillTable_88 : decode cX0_fillTable 88 = .ok (.aload_n 0, 1) := by decide +kernel
theorem dX0_fillTable_89 : decode cX0_fillTable 89 = .ok (.getfield 7, 3) := by decide +kernel
theorem dX0_fillTable_92 : decode cX0_fillTable 92 = .ok (.iload_n 2, 1) := by decide +kernel
theorem dX0_fillTable_93 : decode cX0_fillTable 93 = .ok (.baload, 1) := by decide +kernel
theorem dX0_fillTable_94 : decode cX0_fillTable 94 = .ok (.imul, 1) := by decide +kernel
theorem dX0_fillTable_95 : decode cX0_fillTable 95 = .ok (.i2l, 1) := by decide +kernel
theorem dX0_fillTable_96 : decode cX0_fillTable 96 = .ok (.lastore, 1) := by decide +kernel
theorem dX0_fillTable_97 : decode cX0_fillTable 97 = .ok (.aload_n 0, 1) := by decide +kernel
theorem dX0_fillTable_98 : decode cX0_fillTable 98 = .ok (.getfield 16, 3) := by decide +kernel
theorem dX0_fillTable_101 : decode cX0_fillTable 101 = .ok (.iload 4, 2) := by decide +kernel
theorem dX0_fillTable_103 : decode cX0_fillTable 103 = .ok (.iconst 2, 1) := by decide +kernel
theorem dX0_fillTable_104 : decode cX0_fillTable 104 = .ok (.iadd, 1) := by decide +kernel
theorem dX0_fillTable_105 : decode cX0_fillTable 105 = .ok (.iload_n 3, 1) := by decide +kernel
theorem dX0_fillTable_106 : decode cX0_fillTable 106 = .ok (.i2l, 1) := by decide +kernel
theorem dX0_fillTable_107 : decode cX0_fillTable 107 = .ok (.lastore, 1) := by decide +kernel
theorem dX0_fillTable_108 : decode cX0_fillTable 108 = .ok (.aload_n 0, 1) := by decide +kernel
theorem dX0_fillTable_109 : decode cX0_fillTable 109 = .ok (.getfield 16, 3) := by decide +kernel
theorem dX0_fillTable_112 : decode cX0_fillTable 112 = .ok (.iload 4, 2) := by decide +kernel
theorem dX0_fillTable_114 : decode cX0_fillTable 114 = .ok (.iconst 3, 1) := by decide +kernel
theorem dX0_fillTable_115 : decode cX0_fillTable 115 = .ok (.iadd, 1) := by decide +kernel
theorem dX0_fillTable_116 : decode cX0_fillTable 116 = .ok (.iload_n 3, 1) := by decide +kernel
theorem dX0_fillTable_117 : decode cX0_fillTable 117 = .ok (.ineg, 1) := by decide +kernel
theorem dX0_fillTable_118 : decode cX0_fillTable 118 = .ok (.i2l, 1) := by decide +kernel
theorem dX0_fillTable_119 : decode cX0_fillTable 119 = .ok (.lastore, 1) := by decide +kernel
theorem dX0_fillTable_120 : decode cX0_fillTable 120 = .ok (.aload_n 0, 1) := by decide +kernel
theorem dX0_fillTable_121 : decode cX0_fillTable 121 = .ok (.getfield 16, 3) := by decide +kernel
theorem dX0_fillTable_124 : decode cX0_fillTable 124 = .ok (.iload 4, 2) := by decide +kernel
theorem dX0_fillTable_126 : decode cX0_fillTable 126 = .ok (.iconst 4, 1) := by decide +kernel
theorem dX0_fillTable_127 : decode cX0_fillTable 127 = .ok (.iadd, 1) := by decide +kernel
theorem dX0_fillTable_128 : decode cX0_fillTable 128 = .ok (.iload_n 2, 1) := by decide +kernel
theorem dX0_fillTable_129 : decode cX0_fillTable 129 = .ok (.iadd, 1) := by decide +kernel
theorem dX0_fillTable_130 : decode cX0_fillTable 130 = .ok (.iload_n 3, 1) := by decide +kernel
theorem dX0_fillTable_131 : decode cX0_fillTable 131 = .ok (.i2l, 1) := by decide +kernel
theorem dX0_fillTable_132 : decode cX0_fillTable 132 = .ok (.lastore, 1) := by decide +kernel
theorem dX0_fillTable_133 : decode cX0_fillTable 133 = .ok (.aload_n 0, 1) := by decide +kernel
theorem dX0_fillTable_134 : decode cX0_fillTable 134 = .ok (.getfield 16, 3) := by decide +kernel
theorem dX0_fillTable_137 : decode cX0_fillTable 137 = .ok (.iload 4, 2) := by decide +kernel
theorem dX0_fillTable_139 : decode cX0_fillTable 139 = .ok (.bipush 12, 2) := by decide +kernel
theorem dX0_fillTable_141 : decode cX0_fillTable 141 = .ok (.iadd, 1) := by decide +kernel
theorem dX0_fillTable_142 : decode cX0_fillTable 142 = .ok (.iload_n 2, 1) := by decide +kernel
theorem dX0_fillTable_143 : decode cX0_fillTable 143 = .ok (.iadd, 1) := by decide +kernel
theorem dX0_fillTable_144 : decode cX0_fillTable 144 = .ok (.iload_n 3, 1) := by decide +kernel
theorem dX0_fillTable_145 : decode cX0_fillTable 145 = .ok (.ineg, 1) := by decide +kernel
theorem dX0_fillTable_146 : decode cX0_fillTable 146 = .ok (.i2l, 1) := by decide +kernel
theorem dX0_fillTable_147 : decode cX0_fillTable 147 = .ok (.lastore, 1) := by decide +kernel
theorem dX0_fillTable_148 : decode cX0_fillTable 148 = .ok (.aload_n 0, 1) := by decide +kernel
theorem dX0_fillTable_149 : decode cX0_fillTable 149 = .ok (.getfield 16, 3) := by decide +kernel
theorem dX0_fillTable_152 : decode cX0_fillTable 152 = .ok (.iload 4, 2) := by decide +kernel
theorem dX0_fillTable_154 : decode cX0_fillTable 154 = .ok (.bipush 20, 2) := by decide +kernel
theorem dX0_fillTable_156 : decode cX0_fillTable 156 = .ok (.iadd, 1) := by decide +kernel
theorem dX0_fillTable_157 : decode cX0_fillTable 157 = .ok (.iload_n 3, 1) := by decide +kernel
theorem dX0_fillTable_158 : decode cX0_fillTable 158 = .ok (.aload_n 0, 1) := by decide +kernel
theorem dX0_fillTable_159 : decode cX0_fillTable 159 = .ok (.getfield 13, 3) := by decide +kernel
theorem dX0_fillTable_162 : decode cX0_fillTable 162 = .ok (.iload_n 2, 1) := by decide +kernel
theorem dX0_fillTable_163 : decode cX0_fillTable 163 = .ok (.baload, 1) := by decide +kernel
theorem dX0_fillTable_164 : decode cX0_fillTable 164 = .ok (.imul, 1) := by decide +kernel
theorem dX0_fillTable_165 : decode cX0_fillTable 165 = .ok (.i2l, 1) := by decide +kernel
theorem dX0_fillTable_166 : decode cX0_fillTable 166 = .ok (.lastore, 1) := by decide +kernel
theorem dX0_fillTable_167 : decode cX0_fillTable 167 = .ok (.aload_n 0, 1) := by decide +kernel
theorem dX0_fillTable_168 : decode cX0_fillTable 168 = .ok (.getfield 20, 3) := by decide +kernel
theorem dX0_fillTable_171 : decode cX0_fillTable 171 = .ok (.iload_n 2, 1) := by decide +kernel
theorem dX0_fillTable_172 : decode cX0_fillTable 172 = .ok (.iload_n 3, 1) := by decide +kernel
theorem dX0_fillTable_173 : decode cX0_fillTable 173 = .ok (.ifCond .le 9, 3) := by decide +kernel
theorem dX0_fillTable_176 : decode cX0_fillTable 176 = .ok (.iconst 4, 1) := by decide +kernel
theorem dX0_fillTable_177 : decode cX0_fillTable 177 = .ok (.iload_n 2, 1) := by decide +kernel
theorem dX0_fillTable_178 : decode cX0_fillTable 178 = .ok (.iadd, 1) := by decide +kernel
theorem dX0_fillTable_179 : decode cX0_fillTable 179 = .ok (.goto 7, 3) := by decide +kernel
theorem dX0_fillTable_182 : decode cX0_fillTable 182 = .ok (.bipush 12, 2) := by decide +kernel
theorem dX0_fillTable_184 : decode cX0_fillTable 184 = .ok (.iload_n 2, 1) := by decide +kernel
theorem dX0_fillTable_185 : decode cX0_fillTable 185 = .ok (.iadd, 1) := by decide +kernel
theorem dX0_fillTable_186 : decode cX0_fillTable 186 = .ok (.i2b, 1) := by decide +kernel
theorem dX0_fillTable_187 : decode cX0_fillTable 187 = .ok (.bastore, 1) := by decide +kernel
theorem dX0_fillTable_188 : decode cX0_fillTable 188 = .ok (.aload_n 0, 1) := by decide +kernel
theorem dX0_fillTable_189 : decode cX0_fillTable 189 = .ok (.getfield 16, 3) := by decide +kernel
theorem dX0_fillTable_192 : decode cX0_fillTable 192 = .ok (.iload_n 1, 1) := by decide +kernel
theorem dX0_fillTable_193 : decode cX0_fillTable 193 = .ok (.iconst 4, 1) := by decide +kernel
theorem dX0_fillTable_194 : decode cX0_fillTable 194 = .ok (.iadd, 1) := by decide +kernel
theorem dX0_fillTable_195 : decode cX0_fillTable 195 = .ok (.iload_n 2, 1) := by decide +kernel
theorem dX0_fillTable_196 : decode cX0_fillTable 196 = .ok (.iadd, 1) := by decide +kernel
theorem dX0_fillTable_197 : decode cX0_fillTable 197 = .ok (.aload_n 0, 1) := by decide +kernel
theorem dX0_fillTable_198 : decode cX0_fillTable 198 = .ok (.getfield 30, 3) := by decide +kernel
theorem dX0_fillTable_201 : decode cX0_fillTable 201 = .ok (.i2l, 1) := by decide +kernel
theorem dX0_fillTable_202 : decode cX0_fillTable 202 = .ok (.lastore, 1) := by decide +kernel
theorem dX0_fillTable_203 : decode cX0_fillTable 203 = .ok (.aload_n 0, 1) := by decide +kernel
theorem dX0_fillTable_204 : decode cX0_fillTable 204 = .ok (.getfield 16, 3) := by decide +kernel
theorem dX0_fillTable_207 : decode cX0_fillTable 207 = .ok (.iload_n 1, 1) := by decide +kernel
theorem dX0_fillTable_208 : decode cX0_fillTable 208 = .ok (.bipush 12, 2) := by decide +kernel
theorem dX0_fillTable_210 : decode cX0_fillTable 210 = .ok (.iadd, 1) := by decide +kernel
theorem dX0_fillTable_211 : decode cX0_fillTable 211 = .ok (.iload_n 2, 1) := by decide +kernel
theorem dX0_fillTable_212 : decode cX0_fillTable 212 = .ok (.iadd, 1) := by decide +kernel
theorem dX0_fillTable_213 : decode cX0_fillTable 213 = .ok (.iconst 4, 1) := by decide +kernel
theorem dX0_fillTable_214 : decode cX0_fillTable 214 = .ok (.aload_n 0, 1) := by decide +kernel
theorem dX0_fillTable_215 : decode cX0_fillTable 215 = .ok (.getfield 30, 3) := by decide +kernel
theorem dX0_fillTable_218 : decode cX0_fillTable 218 = .ok (.isub, 1) := by decide +kernel
theorem dX0_fillTable_219 : decode cX0_fillTable 219 = .ok (.i2l, 1) := by decide +kernel
theorem dX0_fillTable_220 : decode cX0_fillTable 220 = .ok (.lastore, 1) := by decide +kernel
theorem dX0_fillTable_221 : decode cX0_fillTable 221 = .ok (.iinc 2 1, 3) := by decide +kernel
theorem dX0_fillTable_224 : decode cX0_fillTable 224 = .ok (.goto (-191), 3) := by decide +kernel
theorem dX0_fillTable_227 : decode cX0_fillTable 227 = .ok (.iconst 0, 1) := by decide +kernel
theorem dX0_fillTable_228 : decode cX0_fillTable 228 = .ok (.istore_n 2, 1) := by decide +kernel
theorem dX0_fillTable_229 : decode cX0_fillTable 229 = .ok (.iload_n 2, 1) := by decide +kernel
theorem dX0_fillTable_230 : decode cX0_fillTable 230 = .ok (.aload_n 0, 1) := by decide +kernel
theorem dX0_fillTable_231 : decode cX0_fillTable 231 = .ok (.getfield 34, 3) := by decide +kernel
theorem dX0_fillTable_234 : decode cX0_fillTable 234 = .ok (.if_icmp .ge 78, 3) := by decide +kernel
theorem dX0_fillTable_237 : decode cX0_fillTable 237 = .ok (.aload_n 0, 1) := by decide +kernel
theorem dX0_fillTable_238 : decode cX0_fillTable 238 = .ok (.getfield 20, 3) := by decide +kernel
theorem dX0_fillTable_241 : decode cX0_fillTable 241 = .ok (.iload_n 2, 1) := by decide +kernel
theorem dX0_fillTable_242 : decode cX0_fillTable 242 = .ok (.baload, 1) := by decide +kernel
theorem dX0_fillTable_243 : decode cX0_fillTable 243 = .ok (.bipush 12, 2) := by decide +kernel
theorem dX0_fillTable_245 : decode cX0_fillTable 245 = .ok (.if_icmp .ge 11, 3) := by decide +kernel
theorem dX0_fillTable_248 : decode cX0_fillTable 248 = .ok (.aload_n 0, 1) := by decide +kernel
theorem dX0_fillTable_249 : decode cX0_fillTable 249 = .ok (.getfield 30, 3) := by decide +kernel
theorem dX0_fillTable_252 : decode cX0_fillTable 252 = .ok (.i2l, 1) := by decide +kernel
theorem dX0_fillTable_253 : decode cX0_fillTable 253 = .ok (.goto 10, 3) := by decide +kernel
theorem dX0_fillTable_256 : decode cX0_fillTable 256 = .ok (.iconst 4, 1) := by decide +kernel
theorem dX0_fillTable_257 : decode cX0_fillTable 257 = .ok (.aload_n 0, 1) := by decide +kernel
theorem dX0_fillTable_258 : decode cX0_fillTable 258 = .ok (.getfield 30, 3) := by decide +kernel
theorem dX0_fillTable_261 : decode cX0_fillTable 261 = .ok (.isub, 1) := by decide +kernel
theorem dX0_fillTable_262 : decode cX0_fillTable 262 = .ok (.i2l, 1) := by decide +kernel
theorem dX0_fillTable_263 : decode cX0_fillTable 263 = .ok (.lstore_n 3, 1) := by decide +kernel
theorem dX0_fillTable_264 : decode cX0_fillTable 264 = .ok (.iconst 0, 1) := by decide +kernel
theorem dX0_fillTable_265 : decode cX0_fillTable 265 = .ok (.istore 5, 2) := by decide +kernel
theorem dX0_fillTable_267 : decode cX0_fillTable 267 = .ok (.iload 5, 2) := by decide +kernel
theorem dX0_fillTable_269 : decode cX0_fillTable 269 = .ok (.bipush 21, 2) := by decide +kernel
theorem dX0_fillTable_271 : decode cX0_fillTable 271 = .ok (.if_icmp .ge 35, 3) := by decide +kernel
theorem dX0_fillTable_274 : decode cX0_fillTable 274 = .ok (.aload_n 0, 1) := by decide +kernel
theorem dX0_fillTable_275 : decode cX0_fillTable 275 = .ok (.getfield 16, 3) := by decide +kernel
theorem dX0_fillTable_278 : decode cX0_fillTable 278 = .ok (.iload_n 1, 1) := by decide +kernel
theorem dX0_fillTable_279 : decode cX0_fillTable 279 = .ok (.iload 5, 2) := by decide +kernel
theorem dX0_fillTable_281 : decode cX0_fillTable 281 = .ok (.iadd, 1) := by decide +kernel
theorem dX0_fillTable_282 : decode cX0_fillTable 282 = .ok (.dup2, 1) := by decide +kernel
theorem dX0_fillTable_283 : decode cX0_fillTable 283 = .ok (.laload, 1) := by decide +kernel
theorem dX0_fillTable_284 : decode cX0_fillTable 284 = .ok (.lload_n 3, 1) := by decide +kernel
theorem dX0_fillTable_285 : decode cX0_fillTable 285 = .ok (.aload_n 0, 1) := by decide +kernel
theorem dX0_fillTable_286 : decode cX0_fillTable 286 = .ok (.getfield 16, 3) := by decide +kernel
theorem dX0_fillTable_289 : decode cX0_fillTable 289 = .ok (.bipush 21, 2) := by decide +kernel
theorem dX0_fillTable_291 : decode cX0_fillTable 291 = .ok (.iload_n 2, 1) := by decide +kernel
theorem dX0_fillTable_292 : decode cX0_fillTable 292 = .ok (.imul, 1) := by decide +kernel
theorem dX0_fillTable_293 : decode cX0_fillTable 293 = .ok (.iload 5, 2) := by decide +kernel
theorem dX0_fillTable_295 : decode cX0_fillTable 295 = .ok (.iadd, 1) := by decide +kernel
theorem dX0_fillTable_296 : decode cX0_fillTable 296 = .ok (.laload, 1) := by decide +kernel
theorem dX0_fillTable_297 : decode cX0_fillTable 297 = .ok (.lmul, 1) := by decide +kernel
theorem dX0_fillTable_298 : decode cX0_fillTable 298 = .ok (.lsub, 1) := by decide +kernel
theorem dX0_fillTable_299 : decode cX0_fillTable 299 = .ok (.lastore, 1) := by decide +kernel
theorem dX0_fillTable_300 : decode cX0_fillTable 300 = .ok (.iinc 5 1, 3) := by decide +kernel
theorem dX0_fillTable_303 : decode cX0_fillTable 303 = .ok (.goto (-36), 3) := by decide +kernel
theorem dX0_fillTable_306 : decode cX0_fillTable 306 = .ok (.iinc 2 1, 3) := by decide +kernel
theorem dX0_fillTable_309 : decode cX0_fillTable 309 = .ok (.goto (-80), 3) := by decide +kernel
theorem dX0_fillTable_312 : decode cX0_fillTable 312 = .ok (.return_, 1) := by decide +kernel
end
section
set_option maxRecDepth 100000
abbrev cX0_cheaper : ByteArray := prog_1_method_22_code
def yX0_cheaper : MethodName := ⟨RX0, "cheaper", "()I"⟩
theorem dX0_cheaper_0 : decode cX0_cheaper 0 = .ok (.iconst 0, 1) := by decide +kernel
theorem dX0_cheaper_1 : decode cX0_cheaper 1 = .ok (.istore_n 1, 1) := by decide +kernel
theorem dX0_cheaper_2 : decode cX0_cheaper 2 = .ok (.iload_n 1, 1) := by decide +kernel
theorem dX0_cheaper_3 : decode cX0_cheaper 3 = .ok (.bipush 20, 2) := by decide +kernel
theorem dX0_cheaper_5 : decode cX0_cheaper 5 = .ok (.if_icmp .ge 26, 3) := by decide +kernel
theorem dX0_cheaper_8 : decode cX0_cheaper 8 = .ok (.aload_n 0, 1) := by decide +kernel
theorem dX0_cheaper_9 : decode cX0_cheaper 9 = .ok (.getfield 16, 3) := by decide +kernel
theorem dX0_cheaper_12 : decode cX0_cheaper 12 = .ok (.sipush 168, 3) := by decide +kernel
theorem dX0_cheaper_15 : decode cX0_cheaper 15 = .ok (.iload_n 1, 1) := by decide +kernel
theorem dX0_cheaper_16 : decode cX0_cheaper 16 = .ok (.iadd, 1) := by decide +kernel
theorem dX0_cheaper_17 : decode cX0_cheaper 17 = .ok (.laload, 1) := by decide +kernel
theorem dX0_cheaper_18 : decode cX0_cheaper 18 = .ok (.lconst 0, 1) := by decide +kernel
theorem dX0_cheaper_19 : decode cX0_cheaper 19 = .ok (.lcmp, 1) := by decide +kernel
theorem dX0_cheaper_20 : decode cX0_cheaper 20 = .ok (.ifCond .ge 5, 3) := by decide +kernel
theorem dX0_cheaper_23 : decode cX0_cheaper 23 = .ok (.iload_n 1, 1) := by decide +kernel
theorem dX0_cheaper_24 : decode cX0_cheaper 24 = .ok (.ireturn, 1) := by decide +kernel
theorem dX0_cheaper_25 : decode cX0_cheaper 25 = .ok (.iinc 1 1, 3) := by decide +kernel
theorem dX0_cheaper_28 : decode cX0_cheaper 28 = .ok (.goto (-26), 3) := by decide +kernel
theorem dX0_cheaper_31 : decode cX0_cheaper 31 = .ok (.iconst (-1), 1) := by decide +kernel
theorem dX0_cheaper_32 : decode cX0_cheaper 32 = .ok (.ireturn, 1) := by decide +kernel
abbrev cX0_limiting : ByteArray := prog_1_method_23_code
def yX0_limiting : MethodName := ⟨RX0, "limiting", "(I)I"⟩
theorem dX0_limiting_0 : decode cX0_limiting 0 = .ok (.iconst (-1), 1) := by decide +kernel
theorem dX0_limiting_1 : decode cX0_limiting 1 = .ok (.istore_n 2, 1) := by decide +kernel
theorem dX0_limiting_2 : decode cX0_limiting 2 = .ok (.iconst 0, 1) := by decide +kernel
theorem dX0_limiting_3 : decode cX0_limiting 3 = .ok (.istore_n 3, 1) := by decide +kernel
theorem dX0_limiting_4 : decode cX0_limiting 4 = .ok (.iload_n 3, 1) := by decide +kernel
theorem dX0_limiting_5 : decode cX0_limiting 5 = .ok (.aload_n 0, 1) := by decide +kernel
theorem dX0_limiting_6 : decode cX0_limiting 6 = .ok (.getfield 34, 3) := by decide +kernel
theorem dX0_limiting_9 : decode cX0_limiting 9 = .ok (.if_icmp .ge 117, 3) := by decide +kernel
theorem dX0_limiting_12 : decode cX0_limiting 12 = .ok (.aload_n 0, 1) := by decide +kernel
theorem dX0_limiting_13 : decode cX0_limiting 13 = .ok (.getfield 16, 3) := by decide +kernel
theorem dX0_limiting_16 : decode cX0_limiting 16 = .ok (.bipush 21, 2) := by decide +kernel
theorem dX0_limiting_18 : decode cX0_limiting 18 = .ok (.iload_n 3, 1) := by decide +kernel
theorem dX0_limiting_19 : decode cX0_limiting 19 = .ok (.imul, 1) := by decide +kernel
theorem dX0_limiting_20 : decode cX0_limiting 20 = .ok (.iload_n 1, 1) := by decide +kernel
theorem dX0_limiting_21 : decode cX0_limiting 21 = .ok (.iadd, 1) := by decide +kernel
theorem dX0_limiting_22 : decode cX0_limiting 22 = .ok (.laload, 1) := by decide +kernel
theorem dX0_limiting_23 : decode cX0_limiting 23 = .ok (.lstore 4, 2) := by decide +kernel
theorem dX0_limiting_25 : decode cX0_limiting 25 = .ok (.lload 4, 2) := by decide +kernel
theorem dX0_limiting_27 : decode cX0_limiting 27 = .ok (.lconst 0, 1) := by decide +kernel
theorem dX0_limiting_28 : decode cX0_limiting 28 = .ok (.lcmp, 1) := by decide +kernel
theorem dX0_limiting_29 : decode cX0_limiting 29 = .ok (.ifCond .gt 6, 3) := by decide +kernel
theorem dX0_limiting_32 : decode cX0_limiting 32 = .ok (.goto 88, 3) := by decide +kernel
theorem dX0_limiting_35 : decode cX0_limiting 35 = .ok (.iload_n 2, 1) := by decide +kernel
theorem dX0_limiting_36 : decode cX0_limiting 36 = .ok (.ifCond .ge 8, 3) := by decide +kernel
theorem dX0_limiting_39 : decode cX0_limiting 39 = .ok (.iload_n 3, 1) := by decide +kernel
theorem dX0_limiting_40 : decode cX0_limiting 40 = .ok (.istore_n 2, 1) := by decide +kernel
theorem dX0_limiting_41 : decode cX0_limiting 41 = .ok (.goto 79, 3) := by decide +kernel
theorem dX0_limiting_44 : decode cX0_limiting 44 = .ok (.aload_n 0, 1) := by decide +kernel
theorem dX0_limiting_45 : decode cX0_limiting 45 = .ok (.getfield 16, 3) := by decide +kernel
theorem dX0_limiting_48 : decode cX0_limiting 48 = .ok (.bipush 21, 2) := by decide +kernel
theorem dX0_limiting_50 : decode cX0_limiting 50 = .ok (.iload_n 3, 1) := by decide +kernel
theorem dX0_limiting_51 : decode cX0_limiting 51 = .ok (.imul, 1) := by decide +kernel
theorem dX0_limiting_52 : decode cX0_limiting 52 = .ok (.bipush 20, 2) := by decide +kernel
theorem dX0_limiting_54 : decode cX0_limiting 54 = .ok (.iadd, 1) := by decide +kernel
theorem dX0_limiting_55 : decode cX0_limiting 55 = .ok (.laload, 1) := by decide +kernel
theorem dX0_limiting_56 : decode cX0_limiting 56 = .ok (.aload_n 0, 1) := by decide +kernel
theorem dX0_limiting_57 : decode cX0_limiting 57 = .ok (.getfield 16, 3) := by decide +kernel
theorem dX0_limiting_60 : decode cX0_limiting 60 = .ok (.bipush 21, 2) := by decide +kernel
theorem dX0_limiting_62 : decode cX0_limiting 62 = .ok (.iload_n 2, 1) := by decide +kernel
theorem dX0_limiting_63 : decode cX0_limiting 63 = .ok (.imul, 1) := by decide +kernel
theorem dX0_limiting_64 : decode cX0_limiting 64 = .ok (.iload_n 1, 1) := by decide +kernel
theorem dX0_limiting_65 : decode cX0_limiting 65 = .ok (.iadd, 1) := by decide +kernel
theorem dX0_limiting_66 : decode cX0_limiting 66 = .ok (.laload, 1) := by decide +kernel
theorem dX0_limiting_67 : decode cX0_limiting 67 = .ok (.lmul, 1) := by decide +kernel
theorem dX0_limiting_68 : decode cX0_limiting 68 = .ok (.lstore 6, 2) := by decide +kernel
theorem dX0_limiting_70 : decode cX0_limiting 70 = .ok (.aload_n 0, 1) := by decide +kernel
theorem dX0_limiting_71 : decode cX0_limiting 71 = .ok (.getfield 16, 3) := by decide +kernel
theorem dX0_limiting_74 : decode cX0_limiting 74 = .ok (.bipush 21, 2) := by decide +kernel
theorem dX0_limiting_76 : decode cX0_limiting 76 = .ok (.iload_n 2, 1) := by decide +kernel
theorem dX0_limiting_77 : decode cX0_limiting 77 = .ok (.imul, 1) := by decide +kernel
theorem dX0_limiting_78 : decode cX0_limiting 78 = .ok (.bipush 20, 2) := by decide +kernel
theorem dX0_limiting_80 : decode cX0_limiting 80 = .ok (.iadd, 1) := by decide +kernel
theorem dX0_limiting_81 : decode cX0_limiting 81 = .ok (.laload, 1) := by decide +kernel
theorem dX0_limiting_82 : decode cX0_limiting 82 = .ok (.lload 4, 2) := by decide +kernel
theorem dX0_limiting_84 : decode cX0_limiting 84 = .ok (.lmul, 1) := by decide +kernel
theorem dX0_limiting_85 : decode cX0_limiting 85 = .ok (.lstore 8, 2) := by decide +kernel
theorem dX0_limiting_87 : decode cX0_limiting 87 = .ok (.lload 6, 2) := by decide +kernel
theorem dX0_limiting_89 : decode cX0_limiting 89 = .ok (.lload 8, 2) := by decide +kernel
theorem dX0_limiting_91 : decode cX0_limiting 91 = .ok (.lcmp, 1) := by decide +kernel
theorem dX0_limiting_92 : decode cX0_limiting 92 = .ok (.ifCond .lt 26, 3) := by decide +kernel
theorem dX0_limiting_95 : decode cX0_limiting 95 = .ok (.lload 6, 2) := by decide +kernel
theorem dX0_limiting_97 : decode cX0_limiting 97 = .ok (.lload 8, 2) := by decide +kernel
theorem dX0_limiting_99 : decode cX0_limiting 99 = .ok (.lcmp, 1) := by decide +kernel
theorem dX0_limiting_100 : decode cX0_limiting 100 = .ok (.ifCond .ne 20, 3) := by decide +kernel
theorem dX0_limiting_103 : decode cX0_limiting 103 = .ok (.aload_n 0, 1) := by decide +kernel
theorem dX0_limiting_104 : decode cX0_limiting 104 = .ok (.getfield 20, 3) := by decide +kernel
theorem dX0_limiting_107 : decode cX0_limiting 107 = .ok (.iload_n 3, 1) := by decide +kernel
theorem dX0_limiting_108 : decode cX0_limiting 108 = .ok (.baload, 1) := by decide +kernel
theorem dX0_limiting_109 : decode cX0_limiting 109 = .ok (.aload_n 0, 1) := by decide +kernel
theorem dX0_limiting_110 : decode cX0_limiting 110 = .ok (.getfield 20, 3) := by decide +kernel
theorem dX0_limiting_113 : decode cX0_limiting 113 = .ok (.iload_n 2, 1) := by decide +kernel
theorem dX0_limiting_114 : decode cX0_limiting 114 = .ok (.baload, 1) := by decide +kernel
theorem dX0_limiting_115 : decode cX0_limiting 115 = .ok (.if_icmp .ge 5, 3) := by decide +kernel
theorem dX0_limiting_118 : decode cX0_limiting 118 = .ok (.iload_n 3, 1) := by decide +kernel
theorem dX0_limiting_119 : decode cX0_limiting 119 = .ok (.istore_n 2, 1) := by decide +kernel
theorem dX0_limiting_120 : decode cX0_limiting 120 = .ok (.iinc 3 1, 3) := by decide +kernel
theorem dX0_limiting_123 : decode cX0_limiting 123 = .ok (.goto (-119), 3) := by decide +kernel
theorem dX0_limiting_126 : decode cX0_limiting 126 = .ok (.iload_n 2, 1) := by decide +kernel
theorem dX0_limiting_127 : decode cX0_limiting 127 = .ok (.ireturn, 1) := by decide +kernel
abbrev cX0_exchange : ByteArray := prog_1_method_24_code
def yX0_exchange : MethodName := ⟨RX0, "exchange", "(II)V"⟩
theorem dX0_exchange_0 : decode cX0_exchange 0 = .ok (.aload_n 0, 1) := by decide +kernel
theorem dX0_exchange_1 : decode cX0_exchange 1 = .ok (.getfield 16, 3) := by decide +kernel
theorem dX0_exchange_4 : decode cX0_exchange 4 = .ok (.bipush 21, 2) := by decide +kernel
theorem dX0_exchange_6 : decode cX0_exchange 6 = .ok (.iload_n 1, 1) := by decide +kernel
theorem dX0_exchange_7 : decode cX0_exchange 7 = .ok (.imul, 1) := by decide +kernel
theorem dX0_exchange_8 : decode cX0_exchange 8 = .ok (.iload_n 2, 1) := by decide +kernel
theorem dX0_exchange_9 : decode cX0_exchange 9 = .ok (.iadd, 1) := by decide +kernel
theorem dX0_exchange_10 : decode cX0_exchange 10 = .ok (.laload, 1) := by decide +kernel
theorem dX0_exchange_11 : decode cX0_exchange 11 = .ok (.lstore_n 3, 1) := by decide +kernel
theorem dX0_exchange_12 : decode cX0_exchange 12 = .ok (.iconst 0, 1) := by decide +kernel
theorem dX0_exchange_13 : decode cX0_exchange 13 = .ok (.istore 5, 2) := by decide +kernel
theorem dX0_exchange_15 : decode cX0_exchange 15 = .ok (.iload 5, 2) := by decide +kernel
theorem dX0_exchange_17 : decode cX0_exchange 17 = .ok (.bipush 8, 2) := by decide +kernel
theorem dX0_exchange_19 : decode cX0_exchange 19 = .ok (.if_icmp .gt 113, 3) := by decide +kernel
theorem dX0_exchange_22 : decode cX0_exchange 22 = .ok (.iload 5, 2) := by decide +kernel
theorem dX0_exchange_24 : decode cX0_exchange 24 = .ok (.iload_n 1, 1) := by decide +kernel
theorem dX0_exchange_25 : decode cX0_exchange 25 = .ok (.if_icmp .eq 101, 3) := by decide +kernel
theorem dX0_exchange_28 : decode cX0_exchange 28 = .ok (.iload 5, 2) := by decide +kernel
theorem dX0_exchange_30 : decode cX0_exchange 30 = .ok (.aload_n 0, 1) := by decide +kernel
theorem dX0_exchange_31 : decode cX0_exchange 31 = .ok (.getfield 34, 3) := by decide +kernel
theorem dX0_exchange_34 : decode cX0_exchange 34 = .ok (.if_icmp .lt 13, 3) := by decide +kernel
theorem dX0_exchange_37 : decode cX0_exchange 37 = .ok (.iload 5, 2) := by decide +kernel
theorem dX0_exchange_39 : decode cX0_exchange 39 = .ok (.bipush 8, 2) := by decide +kernel
theorem dX0_exchange_41 : decode cX0_exchange 41 = .ok (.if_icmp .ge 6, 3) := by decide +kernel
theorem dX0_exchange_44 : decode cX0_exchange 44 = .ok (.goto 82, 3) := by decide +kernel
theorem dX0_exchange_47 : decode cX0_exchange 47 = .ok (.aload_n 0, 1) := by decide +kernel
theorem dX0_exchange_48 : decode cX0_exchange 48 = .ok (.getfield 16, 3) := by decide +kernel
theorem dX0_exchange_51 : decode cX0_exchange 51 = .ok (.bipush 21, 2) := by decide +kernel
theorem dX0_exchange_53 : decode cX0_exchange 53 = .ok (.iload 5, 2) := by decide +kernel
theorem dX0_exchange_55 : decode cX0_exchange 55 = .ok (.imul, 1) := by decide +kernel
theorem dX0_exchange_56 : decode cX0_exchange 56 = .ok (.iload_n 2, 1) := by decide +kernel
theorem dX0_exchange_57 : decode cX0_exchange 57 = .ok (.iadd, 1) := by decide +kernel
theorem dX0_exchange_58 : decode cX0_exchange 58 = .ok (.laload, 1) := by decide +kernel
theorem dX0_exchange_59 : decode cX0_exchange 59 = .ok (.lstore 6, 2) := by decide +kernel
theorem dX0_exchange_61 : decode cX0_exchange 61 = .ok (.iconst 0, 1) := by decide +kernel
theorem dX0_exchange_62 : decode cX0_exchange 62 = .ok (.istore 8, 2) := by decide +kernel
theorem dX0_exchange_64 : decode cX0_exchange 64 = .ok (.iload 8, 2) := by decide +kernel
theorem dX0_exchange_66 : decode cX0_exchange 66 = .ok (.bipush 21, 2) := by decide +kernel
theorem dX0_exchange_68 : decode cX0_exchange 68 = .ok (.if_icmp .ge 58, 3) := by decide +kernel
theorem dX0_exchange_71 : decode cX0_exchange 71 = .ok (.aload_n 0, 1) := by decide +kernel
theorem dX0_exchange_72 : decode cX0_exchange 72 = .ok (.getfield 16, 3) := by decide +kernel
theorem dX0_exchange_75 : decode cX0_exchange 75 = .ok (.bipush 21, 2) := by decide +kernel
theorem dX0_exchange_77 : decode cX0_exchange 77 = .ok (.iload 5, 2) := by decide +kernel
theorem dX0_exchange_79 : decode cX0_exchange 79 = .ok (.imul, 1) := by decide +kernel
theorem dX0_exchange_80 : decode cX0_exchange 80 = .ok (.iload 8, 2) := by decide +kernel
theorem dX0_exchange_82 : decode cX0_exchange 82 = .ok (.iadd, 1) := by decide +kernel
theorem dX0_exchange_83 : decode cX0_exchange 83 = .ok (.aload_n 0, 1) := by decide +kernel
theorem dX0_exchange_84 : decode cX0_exchange 84 = .ok (.getfield 16, 3) := by decide +kernel
theorem dX0_exchange_87 : decode cX0_exchange 87 = .ok (.bipush 21, 2) := by decide +kernel
theorem dX0_exchange_89 : decode cX0_exchange 89 = .ok (.iload 5, 2) := by decide +kernel
theorem dX0_exchange_91 : decode cX0_exchange 91 = .ok (.imul, 1) := by decide +kernel
theorem dX0_exchange_92 : decode cX0_exchange 92 = .ok (.iload 8, 2) := by decide +kernel
theorem dX0_exchange_94 : decode cX0_exchange 94 = .ok (.iadd, 1) := by decide +kernel
theorem dX0_exchange_95 : decode cX0_exchange 95 = .ok (.laload, 1) := by decide +kernel
theorem dX0_exchange_96 : decode cX0_exchange 96 = .ok (.lload_n 3, 1) := by decide +kernel
theorem dX0_exchange_97 : decode cX0_exchange 97 = .ok (.lmul, 1) := by decide +kernel
theorem dX0_exchange_98 : decode cX0_exchange 98 = .ok (.lload 6, 2) := by decide +kernel
theorem dX0_exchange_100 : decode cX0_exchange 100 = .ok (.aload_n 0, 1) := by decide +kernel
theorem dX0_exchange_101 : decode cX0_exchange 101 = .ok (.getfield 16, 3) := by decide +kernel
theorem dX0_exchange_104 : decode cX0_exchange 104 = .ok (.bipush 21, 2) := by decide +kernel
theorem dX0_exchange_106 : decode cX0_exchange 106 = .ok (.iload_n 1, 1) := by decide +kernel
theorem dX0_exchange_107 : decode cX0_exchange 107 = .ok (.imul, 1) := by decide +kernel
theorem dX0_exchange_108 : decode cX0_exchange 108 = .ok (.iload 8, 2) := by decide +kernel
theorem dX0_exchange_110 : decode cX0_exchange 110 = .ok (.iadd, 1) := by decide +kernel
theorem dX0_exchange_111 : decode cX0_exchange 111 = .ok (.laload, 1) := by decide +kernel
theorem dX0_exchange_112 : decode cX0_exchange 112 = .ok (.lmul, 1) := by decide +kernel
theorem dX0_exchange_113 : decode cX0_exchange 113 = .ok (.lsub, 1) := by decide +kernel
theorem dX0_exchange_114 : decode cX0_exchange 114 = .ok (.aload_n 0, 1) := by decide +kernel
theorem dX0_exchange_115 : decode cX0_exchange 115 = .ok (.getfield 77, 3) := by decide +kernel
theorem dX0_exchange_118 : decode cX0_exchange 118 = .ok (.ldiv, 1) := by decide +kernel
theorem dX0_exchange_119 : decode cX0_exchange 119 = .ok (.lastore, 1) := by decide +kernel
theorem dX0_exchange_120 : decode cX0_exchange 120 = .ok (.iinc 8 1, 3) := by decide +kernel
theorem dX0_exchange_123 : decode cX0_exchange 123 = .ok (.goto (-59), 3) := by decide +kernel
theorem dX0_exchange_126 : decode cX0_exchange 126 = .ok (.iinc 5 1, 3) := by decide +kernel
theorem dX0_exchange_129 : decode cX0_exchange 129 = .ok (.goto (-114), 3) := by decide +kernel
theorem dX0_exchange_132 : decode cX0_exchange 132 = .ok (.aload_n 0, 1) := by decide +kernel
theorem dX0_exchange_133 : decode cX0_exchange 133 = .ok (.lload_n 3, 1) := by decide +kernel
theorem dX0_exchange_134 : decode cX0_exchange 134 = .ok (.putfield 77, 3) := by decide +kernel
theorem dX0_exchange_137 : decode cX0_exchange 137 = .ok (.aload_n 0, 1) := by decide +kernel
theorem dX0_exchange_138 : decode cX0_exchange 138 = .ok (.getfield 20, 3) := by decide +kernel
theorem dX0_exchange_141 : decode cX0_exchange 141 = .ok (.iload_n 1, 1) := by decide +kernel
theorem dX0_exchange_142 : decode cX0_exchange 142 = .ok (.iload_n 2, 1) := by decide +kernel
theorem dX0_exchange_143 : decode cX0_exchange 143 = .ok (.i2b, 1) := by decide +kernel
theorem dX0_exchange_144 : decode cX0_exchange 144 = .ok (.bastore, 1) := by decide +kernel
theorem dX0_exchange_145 : decode cX0_exchange 145 = .ok (.return_, 1) := by decide +kernel
abbrev cX0_lowest : ByteArray := prog_1_method_15_code
def yX0_lowest : MethodName := ⟨RX0, "lowest", "()V"⟩
theorem dX0_lowest_0 : decode cX0_lowest 0 = .ok (.aload_n 0, 1) := by decide +kernel
theorem dX0_lowest_1 : decode cX0_lowest 1 = .ok (.getfield 44, 3) := by decide +kernel
theorem dX0_lowest_4 : decode cX0_lowest 4 = .ok (.lstore_n 1, 1) := by decide +kernel
theorem dX0_lowest_5 : decode cX0_lowest 5 = .ok (.aload_n 0, 1) := by decide +kernel
theorem dX0_lowest_6 : decode cX0_lowest 6 = .ok (.getfield 48, 3) := by decide +kernel
theorem dX0_lowest_9 : decode cX0_lowest 9 = .ok (.lstore_n 3, 1) := by decide +kernel
theorem dX0_lowest_10 : decode cX0_lowest 10 = .ok (.lload_n 1, 1) := by decide +kernel
theorem dX0_lowest_11 : decode cX0_lowest 11 = .ok (.lconst 0, 1) := by decide +kernel
theorem dX0_lowest_12 : decode cX0_lowest 12 = .ok (.lcmp, 1) := by decide +kernel
theorem dX0_lowest_13 : decode cX0_lowest 13 = .ok (.ifCond .eq 16, 3) := by decide +kernel
theorem dX0_lowest_16 : decode cX0_lowest 16 = .ok (.lload_n 3, 1) := by decide +kernel
theorem dX0_lowest_17 : decode cX0_lowest 17 = .ok (.lload_n 1, 1) := by decide +kernel
theorem dX0_lowest_18 : decode cX0_lowest 18 = .ok (.lrem, 1) := by decide +kernel
theorem dX0_lowest_19 : decode cX0_lowest 19 = .ok (.lstore 5, 2) := by decide +kernel
theorem dX0_lowest_21 : decode cX0_lowest 21 = .ok (.lload_n 1, 1) := by decide +kernel
theorem dX0_lowest_22 : decode cX0_lowest 22 = .ok (.lstore_n 3, 1) := by decide +kernel
theorem dX0_lowest_23 : decode cX0_lowest 23 = .ok (.lload 5, 2) := by decide +kernel
theorem dX0_lowest_25 : decode cX0_lowest 25 = .ok (.lstore_n 1, 1) := by decide +kernel
theorem dX0_lowest_26 : decode cX0_lowest 26 = .ok (.goto (-16), 3) := by decide +kernel
theorem dX0_lowest_29 : decode cX0_lowest 29 = .ok (.aload_n 0, 1) := by decide +kernel
theorem dX0_lowest_30 : decode cX0_lowest 30 = .ok (.dup, 1) := by decide +kernel
theorem dX0_lowest_31 : decode cX0_lowest 31 = .ok (.getfield 44, 3) := by decide +kernel
theorem dX0_lowest_34 : decode cX0_lowest 34 = .ok (.lload_n 3, 1) := by decide +kernel
theorem dX0_lowest_35 : decode cX0_lowest 35 = .ok (.ldiv, 1) := by decide +kernel
theorem dX0_lowest_36 : decode cX0_lowest 36 = .ok (.putfield 44, 3) := by decide +kernel
theorem dX0_lowest_39 : decode cX0_lowest 39 = .ok (.aload_n 0, 1) := by decide +kernel
theorem dX0_lowest_40 : decode cX0_lowest 40 = .ok (.dup, 1) := by decide +kernel
theorem dX0_lowest_41 : decode cX0_lowest 41 = .ok (.getfield 48, 3) := by decide +kernel
theorem dX0_lowest_44 : decode cX0_lowest 44 = .ok (.lload_n 3, 1) := by decide +kernel
theorem dX0_lowest_45 : decode cX0_lowest 45 = .ok (.ldiv, 1) := by decide +kernel
theorem dX0_lowest_46 : decode cX0_lowest 46 = .ok (.putfield 48, 3) := by decide +kernel
theorem dX0_lowest_49 : decode cX0_lowest 49 = .ok (.return_, 1) := by decide +kernel
abbrev cX0_leastBottom : ByteArray := prog_1_method_7_code
def yX0_leastBottom : MethodName := ⟨RX0, "leastBottom", "()I"⟩
theorem dX0_leastBottom_0 : decode cX0_leastBottom 0 = .ok (.aload_n 0, 1) := by decide +kernel
theorem dX0_leastBottom_1 : decode cX0_leastBottom 1 = .ok (.invokevirtual 41, 3) := by decide +kernel
theorem dX0_leastBottom_4 : decode cX0_leastBottom 4 = .ok (.aload_n 0, 1) := by decide +kernel
theorem dX0_leastBottom_5 : decode cX0_leastBottom 5 = .ok (.getfield 48, 3) := by decide +kernel
theorem dX0_leastBottom_8 : decode cX0_leastBottom 8 = .ok (.l2i, 1) := by decide +kernel
theorem dX0_leastBottom_9 : decode cX0_leastBottom 9 = .ok (.ireturn, 1) := by decide +kernel
abbrev cX0_withSlope : ByteArray := prog_1_method_8_code
def yX0_withSlope : MethodName := ⟨RX0, "withSlope", "(II)I"⟩
theorem dX0_withSlope_0 : decode cX0_withSlope 0 = .ok (.iload_n 1, 1) := by decide +kernel
theorem dX0_withSlope_1 : decode cX0_withSlope 1 = .ok (.sipush (-1000), 3) := by decide +kernel
theorem dX0_withSlope_4 : decode cX0_withSlope 4 = .ok (.if_icmp .lt 21, 3) := by decide +kernel
theorem dX0_withSlope_7 : decode cX0_withSlope 7 = .ok (.iload_n 1, 1) := by decide +kernel
theorem dX0_withSlope_8 : decode cX0_withSlope 8 = .ok (.sipush 1000, 3) := by decide +kernel
theorem dX0_withSlope_11 : decode cX0_withSlope 11 = .ok (.if_icmp .gt 14, 3) := by decide +kernel
theorem dX0_withSlope_14 : decode cX0_withSlope 14 = .ok (.iload_n 2, 1) := by decide +kernel
theorem dX0_withSlope_15 : decode cX0_withSlope 15 = .ok (.iconst 1, 1) := by decide +kernel
theorem dX0_withSlope_16 : decode cX0_withSlope 16 = .ok (.if_icmp .lt 9, 3) := by decide +kernel
theorem dX0_withSlope_19 : decode cX0_withSlope 19 = .ok (.iload_n 2, 1) := by decide +kernel
theorem dX0_withSlope_20 : decode cX0_withSlope 20 = .ok (.bipush 40, 2) := by decide +kernel
theorem dX0_withSlope_22 : decode cX0_withSlope 22 = .ok (.if_icmp .le 5, 3) := by decide +kernel
theorem dX0_withSlope_25 : decode cX0_withSlope 25 = .ok (.iconst (-1), 1) := by decide +kernel
theorem dX0_withSlope_26 : decode cX0_withSlope 26 = .ok (.ireturn, 1) := by decide +kernel
theorem dX0_withSlope_27 : decode cX0_withSlope 27 = .ok (.aload_n 0, 1) := by decide +kernel
theorem dX0_withSlope_28 : decode cX0_withSlope 28 = .ok (.iload_n 1, 1) := by decide +kernel
theorem dX0_withSlope_29 : decode cX0_withSlope 29 = .ok (.iload_n 2, 1) := by decide +kernel
theorem dX0_withSlope_30 : decode cX0_withSlope 30 = .ok (.invokevirtual 51, 3) := by decide +kernel
theorem dX0_withSlope_33 : decode cX0_withSlope 33 = .ok (.ireturn, 1) := by decide +kernel
abbrev cX0_slopeCost : ByteArray := prog_1_method_16_code
def yX0_slopeCost : MethodName := ⟨RX0, "slopeCost", "(II)I"⟩
theorem dX0_slopeCost_0 : decode cX0_slopeCost 0 = .ok (.aload_n 0, 1) := by decide +kernel
theorem dX0_slopeCost_1 : decode cX0_slopeCost 1 = .ok (.iconst 0, 1) := by decide +kernel
theorem dX0_slopeCost_2 : decode cX0_slopeCost 2 = .ok (.putfield 63, 3) := by decide +kernel
theorem dX0_slopeCost_5 : decode cX0_slopeCost 5 = .ok (.iconst 0, 1) := by decide +kernel
theorem dX0_slopeCost_6 : decode cX0_slopeCost 6 = .ok (.istore_n 3, 1) := by decide +kernel
theorem dX0_slopeCost_7 : decode cX0_slopeCost 7 = .ok (.iload_n 3, 1) := by decide +kernel
theorem dX0_slopeCost_8 : decode cX0_slopeCost 8 = .ok (.aload_n 0, 1) := by decide +kernel
theorem dX0_slopeCost_9 : decode cX0_slopeCost 9 = .ok (.getfield 34, 3) := by decide +kernel
theorem dX0_slopeCost_12 : decode cX0_slopeCost 12 = .ok (.if_icmp .ge 35, 3) := by decide +kernel
theorem dX0_slopeCost_15 : decode cX0_slopeCost 15 = .ok (.aload_n 0, 1) := by decide +kernel
theorem dX0_slopeCost_16 : decode cX0_slopeCost 16 = .ok (.getfield 13, 3) := by decide +kernel
theorem dX0_slopeCost_19 : decode cX0_slopeCost 19 = .ok (.iload_n 3, 1) := by decide +kernel
theorem dX0_slopeCost_20 : decode cX0_slopeCost 20 = .ok (.baload, 1) := by decide +kernel
theorem dX0_slopeCost_21 : decode cX0_slopeCost 21 = .ok (.iload_n 2, 1) := by decide +kernel
theorem dX0_slopeCost_22 : decode cX0_slopeCost 22 = .ok (.imul, 1) := by decide +kernel
theorem dX0_slopeCost_23 : decode cX0_slopeCost 23 = .ok (.iload_n 1, 1) := by decide +kernel
theorem dX0_slopeCost_24 : decode cX0_slopeCost 24 = .ok (.aload_n 0, 1) := by decide +kernel
theorem dX0_slopeCost_25 : decode cX0_slopeCost 25 = .ok (.getfield 7, 3) := by decide +kernel
theorem dX0_slopeCost_28 : decode cX0_slopeCost 28 = .ok (.iload_n 3, 1) := by decide +kernel
theorem dX0_slopeCost_29 : decode cX0_slopeCost 29 = .ok (.baload, 1) := by decide +kernel
theorem dX0_slopeCost_30 : decode cX0_slopeCost 30 = .ok (.imul, 1) := by decide +kernel
theorem dX0_slopeCost_31 : decode cX0_slopeCost 31 = .ok (.isub, 1) := by decide +kernel
theorem dX0_slopeCost_32 : decode cX0_slopeCost 32 = .ok (.istore 4, 2) := by decide +kernel
theorem dX0_slopeCost_34 : decode cX0_slopeCost 34 = .ok (.aload_n 0, 1) := by decide +kernel
theorem dX0_slopeCost_35 : decode cX0_slopeCost 35 = .ok (.iload 4, 2) := by decide +kernel
theorem dX0_slopeCost_37 : decode cX0_slopeCost 37 = .ok (.iconst 1, 1) := by decide +kernel
theorem dX0_slopeCost_38 : decode cX0_slopeCost 38 = .ok (.invokevirtual 66, 3) := by decide +kernel
theorem dX0_slopeCost_41 : decode cX0_slopeCost 41 = .ok (.iinc 3 1, 3) := by decide +kernel
theorem dX0_slopeCost_44 : decode cX0_slopeCost 44 = .ok (.goto (-37), 3) := by decide +kernel
theorem dX0_slopeCost_47 : decode cX0_slopeCost 47 = .ok (.aload_n 0, 1) := by decide +kernel
theorem dX0_slopeCost_48 : decode cX0_slopeCost 48 = .ok (.getfield 63, 3) := by decide +kernel
theorem dX0_slopeCost_51 : decode cX0_slopeCost 51 = .ok (.ifCond .ne 5, 3) := by decide +kernel
theorem dX0_slopeCost_54 : decode cX0_slopeCost 54 = .ok (.iconst 0, 1) := by decide +kernel
theorem dX0_slopeCost_55 : decode cX0_slopeCost 55 = .ok (.ireturn, 1) := by decide +kernel
theorem dX0_slopeCost_56 : decode cX0_slopeCost 56 = .ok (.iconst 0, 1) := by decide +kernel
theorem dX0_slopeCost_57 : decode cX0_slopeCost 57 = .ok (.istore_n 3, 1) := by decide +kernel
theorem dX0_slopeCost_58 : decode cX0_slopeCost 58 = .ok (.iconst 4, 1) := by decide +kernel
theorem dX0_slopeCost_59 : decode cX0_slopeCost 59 = .ok (.iload_n 3, 1) := by decide +kernel
theorem dX0_slopeCost_60 : decode cX0_slopeCost 60 = .ok (.iconst 1, 1) := by decide +kernel
theorem dX0_slopeCost_61 : decode cX0_slopeCost 61 = .ok (.iadd, 1) := by decide +kernel
theorem dX0_slopeCost_62 : decode cX0_slopeCost 62 = .ok (.imul, 1) := by decide +kernel
theorem dX0_slopeCost_63 : decode cX0_slopeCost 63 = .ok (.aload_n 0, 1) := by decide +kernel
theorem dX0_slopeCost_64 : decode cX0_slopeCost 64 = .ok (.getfield 30, 3) := by decide +kernel
theorem dX0_slopeCost_67 : decode cX0_slopeCost 67 = .ok (.aload_n 0, 1) := by decide +kernel
theorem dX0_slopeCost_68 : decode cX0_slopeCost 68 = .ok (.getfield 63, 3) := by decide +kernel
theorem dX0_slopeCost_71 : decode cX0_slopeCost 71 = .ok (.imul, 1) := by decide +kernel
theorem dX0_slopeCost_72 : decode cX0_slopeCost 72 = .ok (.if_icmp .ge 9, 3) := by decide +kernel
theorem dX0_slopeCost_75 : decode cX0_slopeCost 75 = .ok (.iinc 3 1, 3) := by decide +kernel
theorem dX0_slopeCost_78 : decode cX0_slopeCost 78 = .ok (.goto (-20), 3) := by decide +kernel
theorem dX0_slopeCost_81 : decode cX0_slopeCost 81 = .ok (.aload_n 0, 1) := by decide +kernel
theorem dX0_slopeCost_82 : decode cX0_slopeCost 82 = .ok (.getfield 23, 3) := by decide +kernel
theorem dX0_slopeCost_85 : decode cX0_slopeCost 85 = .ok (.iload_n 3, 1) := by decide +kernel
theorem dX0_slopeCost_86 : decode cX0_slopeCost 86 = .ok (.iaload, 1) := by decide +kernel
theorem dX0_slopeCost_87 : decode cX0_slopeCost 87 = .ok (.istore 4, 2) := by decide +kernel
theorem dX0_slopeCost_89 : decode cX0_slopeCost 89 = .ok (.iconst 0, 1) := by decide +kernel
theorem dX0_slopeCost_90 : decode cX0_slopeCost 90 = .ok (.istore 5, 2) := by decide +kernel
theorem dX0_slopeCost_92 : decode cX0_slopeCost 92 = .ok (.iconst 0, 1) := by decide +kernel
theorem dX0_slopeCost_93 : decode cX0_slopeCost 93 = .ok (.istore 6, 2) := by decide +kernel
theorem dX0_slopeCost_95 : decode cX0_slopeCost 95 = .ok (.iload 6, 2) := by decide +kernel
theorem dX0_slopeCost_97 : decode cX0_slopeCost 97 = .ok (.aload_n 0, 1) := by decide +kernel
theorem dX0_slopeCost_98 : decode cX0_slopeCost 98 = .ok (.getfield 63, 3) := by decide +kernel
theorem dX0_slopeCost_101 : decode cX0_slopeCost 101 = .ok (.if_icmp .ge 28, 3) := by decide +kernel
theorem dX0_slopeCost_104 : decode cX0_slopeCost 104 = .ok (.iload 5, 2) := by decide +kernel
theorem dX0_slopeCost_106 : decode cX0_slopeCost 106 = .ok (.aload_n 0, 1) := by decide +kernel
theorem dX0_slopeCost_107 : decode cX0_slopeCost 107 = .ok (.aload_n 0, 1) := by decide +kernel
theorem dX0_slopeCost_108 : decode cX0_slopeCost 108 = .ok (.getfield 23, 3) := by decide +kernel
theorem dX0_slopeCost_111 : decode cX0_slopeCost 111 = .ok (.iload 6, 2) := by decide +kernel
theorem dX0_slopeCost_113 : decode cX0_slopeCost 113 = .ok (.iaload, 1) := by decide +kernel
theorem dX0_slopeCost_114 : decode cX0_slopeCost 114 = .ok (.iload 4, 2) := by decide +kernel
theorem dX0_slopeCost_116 : decode cX0_slopeCost 116 = .ok (.isub, 1) := by decide +kernel
theorem dX0_slopeCost_117 : decode cX0_slopeCost 117 = .ok (.invokevirtual 70, 3) := by decide +kernel
theorem dX0_slopeCost_120 : decode cX0_slopeCost 120 = .ok (.iadd, 1) := by decide +kernel
theorem dX0_slopeCost_121 : decode cX0_slopeCost 121 = .ok (.istore 5, 2) := by decide +kernel
theorem dX0_slopeCost_123 : decode cX0_slopeCost 123 = .ok (.iinc 6 1, 3) := by decide +kernel
theorem dX0_slopeCost_126 : decode cX0_slopeCost 126 = .ok (.goto (-31), 3) := by decide +kernel
theorem dX0_slopeCost_129 : decode cX0_slopeCost 129 = .ok (.iload 5, 2) := by decide +kernel
theorem dX0_slopeCost_131 : decode cX0_slopeCost 131 = .ok (.ireturn, 1) := by decide +kernel
end
section
set_option maxRecDepth 100000
abbrev cX0_insert : ByteArray := prog_1_method_17_code
def yX0_insert : MethodName := ⟨RX0, "insert", "(II)V"⟩
theorem dX0_insert_0 : decode cX0_insert 0 = .ok (.aload_n 0, 1) := by decide +kernel
theorem dX0_insert_1 : decode cX0_insert 1 = .ok (.getfield 63, 3) := by decide +kernel
theorem dX0_insert_4 : decode cX0_insert 4 = .ok (.istore_n 3, 1) := by decide +kernel
theorem dX0_insert_5 : decode cX0_insert 5 = .ok (.iload_n 3, 1) := by decide +kernel
theorem dX0_insert_6 : decode cX0_insert 6 = .ok (.ifCond .le 60, 3) := by decide +kernel
theorem dX0_insert_9 : decode cX0_insert 9 = .ok (.aload_n 0, 1) := by decide +kernel
theorem dX0_insert_10 : decode cX0_insert 10 = .ok (.getfield 23, 3) := by decide +kernel
theorem dX0_insert_13 : decode cX0_insert 13 = .ok (.iload_n 3, 1) := by decide +kernel
theorem dX0_insert_14 : decode cX0_insert 14 = .ok (.iconst 1, 1) := by decide +kernel
theorem dX0_insert_15 : decode cX0_insert 15 = .ok (.isub, 1) := by decide +kernel
theorem dX0_insert_16 : decode cX0_insert 16 = .ok (.iaload, 1) := by decide +kernel
theorem dX0_insert_17 : decode cX0_insert 17 = .ok (.iload_n 2, 1) := by decide +kernel
theorem dX0_insert_18 : decode cX0_insert 18 = .ok (.imul, 1) := by decide +kernel
theorem dX0_insert_19 : decode cX0_insert 19 = .ok (.iload_n 1, 1) := by decide +kernel
theorem dX0_insert_20 : decode cX0_insert 20 = .ok (.aload_n 0, 1) := by decide +kernel
theorem dX0_insert_21 : decode cX0_insert 21 = .ok (.getfield 27, 3) := by decide +kernel
theorem dX0_insert_24 : decode cX0_insert 24 = .ok (.iload_n 3, 1) := by decide +kernel
theorem dX0_insert_25 : decode cX0_insert 25 = .ok (.iconst 1, 1) := by decide +kernel
theorem dX0_insert_26 : decode cX0_insert 26 = .ok (.isub, 1) := by decide +kernel
theorem dX0_insert_27 : decode cX0_insert 27 = .ok (.iaload, 1) := by decide +kernel
theorem dX0_insert_28 : decode cX0_insert 28 = .ok (.imul, 1) := by decide +kernel
theorem dX0_insert_29 : decode cX0_insert 29 = .ok (.if_icmp .le 37, 3) := by decide +kernel
theorem dX0_insert_32 : decode cX0_insert 32 = .ok (.aload_n 0, 1) := by decide +kernel
theorem dX0_insert_33 : decode cX0_insert 33 = .ok (.getfield 23, 3) := by decide +kernel
theorem dX0_insert_36 : decode cX0_insert 36 = .ok (.iload_n 3, 1) := by decide +kernel
theorem dX0_insert_37 : decode cX0_insert 37 = .ok (.aload_n 0, 1) := by decide +kernel
theorem dX0_insert_38 : decode cX0_insert 38 = .ok (.getfield 23, 3) := by decide +kernel
theorem dX0_insert_41 : decode cX0_insert 41 = .ok (.iload_n 3, 1) := by decide +kernel
theorem dX0_insert_42 : decode cX0_insert 42 = .ok (.iconst 1, 1) := by decide +kernel
theorem dX0_insert_43 : decode cX0_insert 43 = .ok (.isub, 1) := by decide +kernel
theorem dX0_insert_44 : decode cX0_insert 44 = .ok (.iaload, 1) := by decide +kernel
theorem dX0_insert_45 : decode cX0_insert 45 = .ok (.iastore, 1) := by decide +kernel
theorem dX0_insert_46 : decode cX0_insert 46 = .ok (.aload_n 0, 1) := by decide +kernel
theorem dX0_insert_47 : decode cX0_insert 47 = .ok (.getfield 27, 3) := by decide +kernel
theorem dX0_insert_50 : decode cX0_insert 50 = .ok (.iload_n 3, 1) := by decide +kernel
theorem dX0_insert_51 : decode cX0_insert 51 = .ok (.aload_n 0, 1) := by decide +kernel
theorem dX0_insert_52 : decode cX0_insert 52 = .ok (.getfield 27, 3) := by decide +kernel
theorem dX0_insert_55 : decode cX0_insert 55 = .ok (.iload_n 3, 1) := by decide +kernel
theorem dX0_insert_56 : decode cX0_insert 56 = .ok (.iconst 1, 1) := by decide +kernel
theorem dX0_insert_57 : decode cX0_insert 57 = .ok (.isub, 1) := by decide +kernel
theorem dX0_insert_58 : decode cX0_insert 58 = .ok (.iaload, 1) := by decide +kernel
theorem dX0_insert_59 : decode cX0_insert 59 = .ok (.iastore, 1) := by decide +kernel
theorem dX0_insert_60 : decode cX0_insert 60 = .ok (.iinc 3 (-1), 3) := by decide +kernel
theorem dX0_insert_63 : decode cX0_insert 63 = .ok (.goto (-58), 3) := by decide +kernel
theorem dX0_insert_66 : decode cX0_insert 66 = .ok (.aload_n 0, 1) := by decide +kernel
theorem dX0_insert_67 : decode cX0_insert 67 = .ok (.getfield 23, 3) := by decide +kernel
theorem dX0_insert_70 : decode cX0_insert 70 = .ok (.iload_n 3, 1) := by decide +kernel
theorem dX0_insert_71 : decode cX0_insert 71 = .ok (.iload_n 1, 1) := by decide +kernel
theorem dX0_insert_72 : decode cX0_insert 72 = .ok (.iastore, 1) := by decide +kernel
theorem dX0_insert_73 : decode cX0_insert 73 = .ok (.aload_n 0, 1) := by decide +kernel
theorem dX0_insert_74 : decode cX0_insert 74 = .ok (.getfield 27, 3) := by decide +kernel
theorem dX0_insert_77 : decode cX0_insert 77 = .ok (.iload_n 3, 1) := by decide +kernel
theorem dX0_insert_78 : decode cX0_insert 78 = .ok (.iload_n 2, 1) := by decide +kernel
theorem dX0_insert_79 : decode cX0_insert 79 = .ok (.iastore, 1) := by decide +kernel
theorem dX0_insert_80 : decode cX0_insert 80 = .ok (.aload_n 0, 1) := by decide +kernel
theorem dX0_insert_81 : decode cX0_insert 81 = .ok (.dup, 1) := by decide +kernel
theorem dX0_insert_82 : decode cX0_insert 82 = .ok (.getfield 63, 3) := by decide +kernel
theorem dX0_insert_85 : decode cX0_insert 85 = .ok (.iconst 1, 1) := by decide +kernel
theorem dX0_insert_86 : decode cX0_insert 86 = .ok (.iadd, 1) := by decide +kernel
theorem dX0_insert_87 : decode cX0_insert 87 = .ok (.putfield 63, 3) := by decide +kernel
theorem dX0_insert_90 : decode cX0_insert 90 = .ok (.return_, 1) := by decide +kernel
abbrev cX0_costOf : ByteArray := prog_1_method_14_code
def yX0_costOf : MethodName := ⟨RX0, "costOf", "(I)I"⟩
theorem dX0_costOf_0 : decode cX0_costOf 0 = .ok (.iload_n 1, 1) := by decide +kernel
theorem dX0_costOf_1 : decode cX0_costOf 1 = .ok (.ifCond .le 12, 3) := by decide +kernel
theorem dX0_costOf_4 : decode cX0_costOf 4 = .ok (.aload_n 0, 1) := by decide +kernel
theorem dX0_costOf_5 : decode cX0_costOf 5 = .ok (.getfield 30, 3) := by decide +kernel
theorem dX0_costOf_8 : decode cX0_costOf 8 = .ok (.iload_n 1, 1) := by decide +kernel
theorem dX0_costOf_9 : decode cX0_costOf 9 = .ok (.imul, 1) := by decide +kernel
theorem dX0_costOf_10 : decode cX0_costOf 10 = .ok (.goto 11, 3) := by decide +kernel
theorem dX0_costOf_13 : decode cX0_costOf 13 = .ok (.aload_n 0, 1) := by decide +kernel
theorem dX0_costOf_14 : decode cX0_costOf 14 = .ok (.getfield 30, 3) := by decide +kernel
theorem dX0_costOf_17 : decode cX0_costOf 17 = .ok (.iconst 4, 1) := by decide +kernel
theorem dX0_costOf_18 : decode cX0_costOf 18 = .ok (.isub, 1) := by decide +kernel
theorem dX0_costOf_19 : decode cX0_costOf 19 = .ok (.iload_n 1, 1) := by decide +kernel
theorem dX0_costOf_20 : decode cX0_costOf 20 = .ok (.imul, 1) := by decide +kernel
theorem dX0_costOf_21 : decode cX0_costOf 21 = .ok (.ireturn, 1) := by decide +kernel
abbrev cX0_bestSlope : ByteArray := prog_1_method_9_code
def yX0_bestSlope : MethodName := ⟨RX0, "bestSlope", "(II)Z"⟩
theorem dX0_bestSlope_0 : decode cX0_bestSlope 0 = .ok (.iload_n 1, 1) := by decide +kernel
theorem dX0_bestSlope_1 : decode cX0_bestSlope 1 = .ok (.sipush (-1000), 3) := by decide +kernel
theorem dX0_bestSlope_4 : decode cX0_bestSlope 4 = .ok (.if_icmp .lt 21, 3) := by decide +kernel
theorem dX0_bestSlope_7 : decode cX0_bestSlope 7 = .ok (.iload_n 1, 1) := by decide +kernel
theorem dX0_bestSlope_8 : decode cX0_bestSlope 8 = .ok (.sipush 1000, 3) := by decide +kernel
theorem dX0_bestSlope_11 : decode cX0_bestSlope 11 = .ok (.if_icmp .gt 14, 3) := by decide +kernel
theorem dX0_bestSlope_14 : decode cX0_bestSlope 14 = .ok (.iload_n 2, 1) := by decide +kernel
theorem dX0_bestSlope_15 : decode cX0_bestSlope 15 = .ok (.iconst 1, 1) := by decide +kernel
theorem dX0_bestSlope_16 : decode cX0_bestSlope 16 = .ok (.if_icmp .lt 9, 3) := by decide +kernel
theorem dX0_bestSlope_19 : decode cX0_bestSlope 19 = .ok (.iload_n 2, 1) := by decide +kernel
theorem dX0_bestSlope_20 : decode cX0_bestSlope 20 = .ok (.bipush 40, 2) := by decide +kernel
theorem dX0_bestSlope_22 : decode cX0_bestSlope 22 = .ok (.if_icmp .le 5, 3) := by decide +kernel
theorem dX0_bestSlope_25 : decode cX0_bestSlope 25 = .ok (.iconst 0, 1) := by decide +kernel
theorem dX0_bestSlope_26 : decode cX0_bestSlope 26 = .ok (.ireturn, 1) := by decide +kernel
theorem dX0_bestSlope_27 : decode cX0_bestSlope 27 = .ok (.aload_n 0, 1) := by decide +kernel
theorem dX0_bestSlope_28 : decode cX0_bestSlope 28 = .ok (.invokevirtual 41, 3) := by decide +kernel
theorem dX0_bestSlope_31 : decode cX0_bestSlope 31 = .ok (.aload_n 0, 1) := by decide +kernel
theorem dX0_bestSlope_32 : decode cX0_bestSlope 32 = .ok (.iload_n 1, 1) := by decide +kernel
theorem dX0_bestSlope_33 : decode cX0_bestSlope 33 = .ok (.iload_n 2, 1) := by decide +kernel
theorem dX0_bestSlope_34 : decode cX0_bestSlope 34 = .ok (.invokevirtual 51, 3) := by decide +kernel
theorem dX0_bestSlope_37 : decode cX0_bestSlope 37 = .ok (.i2l, 1) := by decide +kernel
theorem dX0_bestSlope_38 : decode cX0_bestSlope 38 = .ok (.aload_n 0, 1) := by decide +kernel
theorem dX0_bestSlope_39 : decode cX0_bestSlope 39 = .ok (.getfield 48, 3) := by decide +kernel
theorem dX0_bestSlope_42 : decode cX0_bestSlope 42 = .ok (.lmul, 1) := by decide +kernel
theorem dX0_bestSlope_43 : decode cX0_bestSlope 43 = .ok (.aload_n 0, 1) := by decide +kernel
theorem dX0_bestSlope_44 : decode cX0_bestSlope 44 = .ok (.getfield 44, 3) := by decide +kernel
theorem dX0_bestSlope_47 : decode cX0_bestSlope 47 = .ok (.iload_n 2, 1) := by decide +kernel
theorem dX0_bestSlope_48 : decode cX0_bestSlope 48 = .ok (.i2l, 1) := by decide +kernel
theorem dX0_bestSlope_49 : decode cX0_bestSlope 49 = .ok (.lmul, 1) := by decide +kernel
theorem dX0_bestSlope_50 : decode cX0_bestSlope 50 = .ok (.lcmp, 1) := by decide +kernel
theorem dX0_bestSlope_51 : decode cX0_bestSlope 51 = .ok (.ifCond .ne 7, 3) := by decide +kernel
theorem dX0_bestSlope_54 : decode cX0_bestSlope 54 = .ok (.iconst 1, 1) := by decide +kernel
theorem dX0_bestSlope_55 : decode cX0_bestSlope 55 = .ok (.goto 4, 3) := by decide +kernel
theorem dX0_bestSlope_58 : decode cX0_bestSlope 58 = .ok (.iconst 0, 1) := by decide +kernel
theorem dX0_bestSlope_59 : decode cX0_bestSlope 59 = .ok (.ireturn, 1) := by decide +kernel
abbrev cX0_bestPair : ByteArray := prog_1_method_10_code
def yX0_bestPair : MethodName := ⟨RX0, "bestPair", "(II)Z"⟩
theorem dX0_bestPair_0 : decode cX0_bestPair 0 = .ok (.aload_n 0, 1) := by decide +kernel
theorem dX0_bestPair_1 : decode cX0_bestPair 1 = .ok (.iload_n 1, 1) := by decide +kernel
theorem dX0_bestPair_2 : decode cX0_bestPair 2 = .ok (.invokevirtual 37, 3) := by decide +kernel
theorem dX0_bestPair_5 : decode cX0_bestPair 5 = .ok (.ifCond .eq 26, 3) := by decide +kernel
theorem dX0_bestPair_8 : decode cX0_bestPair 8 = .ok (.aload_n 0, 1) := by decide +kernel
theorem dX0_bestPair_9 : decode cX0_bestPair 9 = .ok (.iload_n 2, 1) := by decide +kernel
theorem dX0_bestPair_10 : decode cX0_bestPair 10 = .ok (.invokevirtual 37, 3) := by decide +kernel
theorem dX0_bestPair_13 : decode cX0_bestPair 13 = .ok (.ifCond .eq 18, 3) := by decide +kernel
theorem dX0_bestPair_16 : decode cX0_bestPair 16 = .ok (.aload_n 0, 1) := by decide +kernel
theorem dX0_bestPair_17 : decode cX0_bestPair 17 = .ok (.getfield 7, 3) := by decide +kernel
theorem dX0_bestPair_20 : decode cX0_bestPair 20 = .ok (.iload_n 1, 1) := by decide +kernel
theorem dX0_bestPair_21 : decode cX0_bestPair 21 = .ok (.baload, 1) := by decide +kernel
theorem dX0_bestPair_22 : decode cX0_bestPair 22 = .ok (.aload_n 0, 1) := by decide +kernel
theorem dX0_bestPair_23 : decode cX0_bestPair 23 = .ok (.getfield 7, 3) := by decide +kernel
theorem dX0_bestPair_26 : decode cX0_bestPair 26 = .ok (.iload_n 2, 1) := by decide +kernel
theorem dX0_bestPair_27 : decode cX0_bestPair 27 = .ok (.baload, 1) := by decide +kernel
theorem dX0_bestPair_28 : decode cX0_bestPair 28 = .ok (.if_icmp .ne 5, 3) := by decide +kernel
theorem dX0_bestPair_31 : decode cX0_bestPair 31 = .ok (.iconst 0, 1) := by decide +kernel
theorem dX0_bestPair_32 : decode cX0_bestPair 32 = .ok (.ireturn, 1) := by decide +kernel
theorem dX0_bestPair_33 : decode cX0_bestPair 33 = .ok (.aload_n 0, 1) := by decide +kernel
theorem dX0_bestPair_34 : decode cX0_bestPair 34 = .ok (.getfield 7, 3) := by decide +kernel
theorem dX0_bestPair_37 : decode cX0_bestPair 37 = .ok (.iload_n 2, 1) := by decide +kernel
theorem dX0_bestPair_38 : decode cX0_bestPair 38 = .ok (.baload, 1) := by decide +kernel
theorem dX0_bestPair_39 : decode cX0_bestPair 39 = .ok (.aload_n 0, 1) := by decide +kernel
theorem dX0_bestPair_40 : decode cX0_bestPair 40 = .ok (.getfield 7, 3) := by decide +kernel
theorem dX0_bestPair_43 : decode cX0_bestPair 43 = .ok (.iload_n 1, 1) := by decide +kernel
theorem dX0_bestPair_44 : decode cX0_bestPair 44 = .ok (.baload, 1) := by decide +kernel
theorem dX0_bestPair_45 : decode cX0_bestPair 45 = .ok (.isub, 1) := by decide +kernel
theorem dX0_bestPair_46 : decode cX0_bestPair 46 = .ok (.istore_n 3, 1) := by decide +kernel
theorem dX0_bestPair_47 : decode cX0_bestPair 47 = .ok (.aload_n 0, 1) := by decide +kernel
theorem dX0_bestPair_48 : decode cX0_bestPair 48 = .ok (.getfield 13, 3) := by decide +kernel
theorem dX0_bestPair_51 : decode cX0_bestPair 51 = .ok (.iload_n 2, 1) := by decide +kernel
theorem dX0_bestPair_52 : decode cX0_bestPair 52 = .ok (.baload, 1) := by decide +kernel
theorem dX0_bestPair_53 : decode cX0_bestPair 53 = .ok (.aload_n 0, 1) := by decide +kernel
theorem dX0_bestPair_54 : decode cX0_bestPair 54 = .ok (.getfield 13, 3) := by decide +kernel
theorem dX0_bestPair_57 : decode cX0_bestPair 57 = .ok (.iload_n 1, 1) := by decide +kernel
theorem dX0_bestPair_58 : decode cX0_bestPair 58 = .ok (.baload, 1) := by decide +kernel
theorem dX0_bestPair_59 : decode cX0_bestPair 59 = .ok (.isub, 1) := by decide +kernel
theorem dX0_bestPair_60 : decode cX0_bestPair 60 = .ok (.istore 4, 2) := by decide +kernel
theorem dX0_bestPair_62 : decode cX0_bestPair 62 = .ok (.iload_n 3, 1) := by decide +kernel
theorem dX0_bestPair_63 : decode cX0_bestPair 63 = .ok (.ifCond .ge 11, 3) := by decide +kernel
theorem dX0_bestPair_66 : decode cX0_bestPair 66 = .ok (.iload_n 3, 1) := by decide +kernel
theorem dX0_bestPair_67 : decode cX0_bestPair 67 = .ok (.ineg, 1) := by decide +kernel
theorem dX0_bestPair_68 : decode cX0_bestPair 68 = .ok (.istore_n 3, 1) := by decide +kernel
theorem dX0_bestPair_69 : decode cX0_bestPair 69 = .ok (.iload 4, 2) := by decide +kernel
theorem dX0_bestPair_71 : decode cX0_bestPair 71 = .ok (.ineg, 1) := by decide +kernel
theorem dX0_bestPair_72 : decode cX0_bestPair 72 = .ok (.istore 4, 2) := by decide +kernel
theorem dX0_bestPair_74 : decode cX0_bestPair 74 = .ok (.aload_n 0, 1) := by decide +kernel
theorem dX0_bestPair_75 : decode cX0_bestPair 75 = .ok (.invokevirtual 41, 3) := by decide +kernel
theorem dX0_bestPair_78 : decode cX0_bestPair 78 = .ok (.aload_n 0, 1) := by decide +kernel
theorem dX0_bestPair_79 : decode cX0_bestPair 79 = .ok (.iload_n 1, 1) := by decide +kernel
theorem dX0_bestPair_80 : decode cX0_bestPair 80 = .ok (.iload 4, 2) := by decide +kernel
theorem dX0_bestPair_82 : decode cX0_bestPair 82 = .ok (.iload_n 3, 1) := by decide +kernel
theorem dX0_bestPair_83 : decode cX0_bestPair 83 = .ok (.invokevirtual 55, 3) := by decide +kernel
theorem dX0_bestPair_86 : decode cX0_bestPair 86 = .ok (.i2l, 1) := by decide +kernel
theorem dX0_bestPair_87 : decode cX0_bestPair 87 = .ok (.aload_n 0, 1) := by decide +kernel
theorem dX0_bestPair_88 : decode cX0_bestPair 88 = .ok (.getfield 48, 3) := by decide +kernel
theorem dX0_bestPair_91 : decode cX0_bestPair 91 = .ok (.lmul, 1) := by decide +kernel
theorem dX0_bestPair_92 : decode cX0_bestPair 92 = .ok (.aload_n 0, 1) := by decide +kernel
theorem dX0_bestPair_93 : decode cX0_bestPair 93 = .ok (.getfield 44, 3) := by decide +kernel
theorem dX0_bestPair_96 : decode cX0_bestPair 96 = .ok (.iload_n 3, 1) := by decide +kernel
theorem dX0_bestPair_97 : decode cX0_bestPair 97 = .ok (.i2l, 1) := by decide +kernel
theorem dX0_bestPair_98 : decode cX0_bestPair 98 = .ok (.lmul, 1) := by decide +kernel
theorem dX0_bestPair_99 : decode cX0_bestPair 99 = .ok (.lcmp, 1) := by decide +kernel
theorem dX0_bestPair_100 : decode cX0_bestPair 100 = .ok (.ifCond .ne 7, 3) := by decide +kernel
theorem dX0_bestPair_103 : decode cX0_bestPair 103 = .ok (.iconst 1, 1) := by decide +kernel
theorem dX0_bestPair_104 : decode cX0_bestPair 104 = .ok (.goto 4, 3) := by decide +kernel
theorem dX0_bestPair_107 : decode cX0_bestPair 107 = .ok (.iconst 0, 1) := by decide +kernel
theorem dX0_bestPair_108 : decode cX0_bestPair 108 = .ok (.ireturn, 1) := by decide +kernel
abbrev cX0_costThrough : ByteArray := prog_1_method_18_code
def yX0_costThrough : MethodName := ⟨RX0, "costThrough", "(III)I"⟩
theorem dX0_costThrough_0 : decode cX0_costThrough 0 = .ok (.iconst 0, 1) := by decide +kernel
theorem dX0_costThrough_1 : decode cX0_costThrough 1 = .ok (.istore 4, 2) := by decide +kernel
theorem dX0_costThrough_3 : decode cX0_costThrough 3 = .ok (.iconst 0, 1) := by decide +kernel
theorem dX0_costThrough_4 : decode cX0_costThrough 4 = .ok (.istore 5, 2) := by decide +kernel
theorem dX0_costThrough_6 : decode cX0_costThrough 6 = .ok (.iload 5, 2) := by decide +kernel
theorem dX0_costThrough_8 : decode cX0_costThrough 8 = .ok (.aload_n 0, 1) := by decide +kernel
theorem dX0_costThrough_9 : decode cX0_costThrough 9 = .ok (.getfield 34, 3) := by decide +kernel
theorem dX0_costThrough_12 : decode cX0_costThrough 12 = .ok (.if_icmp .ge 55, 3) := by decide +kernel
theorem dX0_costThrough_15 : decode cX0_costThrough 15 = .ok (.aload_n 0, 1) := by decide +kernel
theorem dX0_costThrough_16 : decode cX0_costThrough 16 = .ok (.getfield 13, 3) := by decide +kernel
theorem dX0_costThrough_19 : decode cX0_costThrough 19 = .ok (.iload 5, 2) := by decide +kernel
theorem dX0_costThrough_21 : decode cX0_costThrough 21 = .ok (.baload, 1) := by decide +kernel
theorem dX0_costThrough_22 : decode cX0_costThrough 22 = .ok (.aload_n 0, 1) := by decide +kernel
theorem dX0_costThrough_23 : decode cX0_costThrough 23 = .ok (.getfield 13, 3) := by decide +kernel
theorem dX0_costThrough_26 : decode cX0_costThrough 26 = .ok (.iload_n 1, 1) := by decide +kernel
theorem dX0_costThrough_27 : decode cX0_costThrough 27 = .ok (.baload, 1) := by decide +kernel
theorem dX0_costThrough_28 : decode cX0_costThrough 28 = .ok (.isub, 1) := by decide +kernel
theorem dX0_costThrough_29 : decode cX0_costThrough 29 = .ok (.iload_n 3, 1) := by decide +kernel
theorem dX0_costThrough_30 : decode cX0_costThrough 30 = .ok (.imul, 1) := by decide +kernel
theorem dX0_costThrough_31 : decode cX0_costThrough 31 = .ok (.iload_n 2, 1) := by decide +kernel
theorem dX0_costThrough_32 : decode cX0_costThrough 32 = .ok (.aload_n 0, 1) := by decide +kernel
theorem dX0_costThrough_33 : decode cX0_costThrough 33 = .ok (.getfield 7, 3) := by decide +kernel
theorem dX0_costThrough_36 : decode cX0_costThrough 36 = .ok (.iload 5, 2) := by decide +kernel
theorem dX0_costThrough_38 : decode cX0_costThrough 38 = .ok (.baload, 1) := by decide +kernel
theorem dX0_costThrough_39 : decode cX0_costThrough 39 = .ok (.aload_n 0, 1) := by decide +kernel
theorem dX0_costThrough_40 : decode cX0_costThrough 40 = .ok (.getfield 7, 3) := by decide +kernel
theorem dX0_costThrough_43 : decode cX0_costThrough 43 = .ok (.iload_n 1, 1) := by decide +kernel
theorem dX0_costThrough_44 : decode cX0_costThrough 44 = .ok (.baload, 1) := by decide +kernel
theorem dX0_costThrough_45 : decode cX0_costThrough 45 = .ok (.isub, 1) := by decide +kernel
theorem dX0_costThrough_46 : decode cX0_costThrough 46 = .ok (.imul, 1) := by decide +kernel
theorem dX0_costThrough_47 : decode cX0_costThrough 47 = .ok (.isub, 1) := by decide +kernel
theorem dX0_costThrough_48 : decode cX0_costThrough 48 = .ok (.istore 6, 2) := by decide +kernel
theorem dX0_costThrough_50 : decode cX0_costThrough 50 = .ok (.iload 4, 2) := by decide +kernel
theorem dX0_costThrough_52 : decode cX0_costThrough 52 = .ok (.aload_n 0, 1) := by decide +kernel
theorem dX0_costThrough_53 : decode cX0_costThrough 53 = .ok (.iload 6, 2) := by decide +kernel
theorem dX0_costThrough_55 : decode cX0_costThrough 55 = .ok (.invokevirtual 70, 3) := by decide +kernel
theorem dX0_costThrough_58 : decode cX0_costThrough 58 = .ok (.iadd, 1) := by decide +kernel
theorem dX0_costThrough_59 : decode cX0_costThrough 59 = .ok (.istore 4, 2) := by decide +kernel
theorem dX0_costThrough_61 : decode cX0_costThrough 61 = .ok (.iinc 5 1, 3) := by decide +kernel
theorem dX0_costThrough_64 : decode cX0_costThrough 64 = .ok (.goto (-58), 3) := by decide +kernel
theorem dX0_costThrough_67 : decode cX0_costThrough 67 = .ok (.iload 4, 2) := by decide +kernel
theorem dX0_costThrough_69 : decode cX0_costThrough 69 = .ok (.ireturn, 1) := by decide +kernel
abbrev cX0_throughTop : ByteArray := prog_1_method_11_code
def yX0_throughTop : MethodName := ⟨RX0, "throughTop", "(I)I"⟩
theorem dX0_throughTop_0 : decode cX0_throughTop 0 = .ok (.aload_n 0, 1) := by decide +kernel
theorem dX0_throughTop_1 : decode cX0_throughTop 1 = .ok (.iload_n 1, 1) := by decide +kernel
theorem dX0_throughTop_2 : decode cX0_throughTop 2 = .ok (.invokevirtual 37, 3) := by decide +kernel
theorem dX0_throughTop_5 : decode cX0_throughTop 5 = .ok (.ifCond .ne 5, 3) := by decide +kernel
theorem dX0_throughTop_8 : decode cX0_throughTop 8 = .ok (.iconst (-1), 1) := by decide +kernel
theorem dX0_throughTop_9 : decode cX0_throughTop 9 = .ok (.ireturn, 1) := by decide +kernel
theorem dX0_throughTop_10 : decode cX0_throughTop 10 = .ok (.aload_n 0, 1) := by decide +kernel
theorem dX0_throughTop_11 : decode cX0_throughTop 11 = .ok (.iload_n 1, 1) := by decide +kernel
theorem dX0_throughTop_12 : decode cX0_throughTop 12 = .ok (.invokevirtual 59, 3) := by decide +kernel
theorem dX0_throughTop_15 : decode cX0_throughTop 15 = .ok (.aload_n 0, 1) := by decide +kernel
theorem dX0_throughTop_16 : decode cX0_throughTop 16 = .ok (.getfield 44, 3) := by decide +kernel
theorem dX0_throughTop_19 : decode cX0_throughTop 19 = .ok (.l2i, 1) := by decide +kernel
theorem dX0_throughTop_20 : decode cX0_throughTop 20 = .ok (.ireturn, 1) := by decide +kernel
abbrev cX0_solveThrough : ByteArray := prog_1_method_19_code
def yX0_solveThrough : MethodName := ⟨RX0, "solveThrough", "(I)V"⟩
theorem dX0_solveThrough_0 : decode cX0_solveThrough 0 = .ok (.aload_n 0, 1) := by decide +kernel
theorem dX0_solveThrough_1 : decode cX0_solveThrough 1 = .ok (.iconst 0, 1) := by decide +kernel
theorem dX0_solveThrough_2 : decode cX0_solveThrough 2 = .ok (.putfield 63, 3) := by decide +kernel
theorem dX0_solveThrough_5 : decode cX0_solveThrough 5 = .ok (.iconst 0, 1) := by decide +kernel
theorem dX0_solveThrough_6 : decode cX0_solveThrough 6 = .ok (.istore_n 2, 1) := by decide +kernel
theorem dX0_solveThrough_7 : decode cX0_solveThrough 7 = .ok (.iload_n 2, 1) := by decide +kernel
theorem dX0_solveThrough_8 : decode cX0_solveThrough 8 = .ok (.aload_n 0, 1) := by decide +kernel
theorem dX0_solveThrough_9 : decode cX0_solveThrough 9 = .ok (.getfield 34, 3) := by decide +kernel
theorem dX0_solveThrough_12 : decode cX0_solveThrough 12 = .ok (.if_icmp .ge 62, 3) := by decide +kernel
theorem dX0_solveThrough_15 : decode cX0_solveThrough 15 = .ok (.aload_n 0, 1) := by decide +kernel
theorem dX0_solveThrough_16 : decode cX0_solveThrough 16 = .ok (.getfield 7, 3) := by decide +kernel
theorem dX0_solveThrough_19 : decode cX0_solveThrough 19 = .ok (.iload_n 2, 1) := by decide +kernel
theorem dX0_solveThrough_20 : decode cX0_solveThrough 20 = .ok (.baload, 1) := by decide +kernel
theorem dX0_solveThrough_21 : decode cX0_solveThrough 21 = .ok (.aload_n 0, 1) := by decide +kernel
theorem dX0_solveThrough_22 : decode cX0_solveThrough 22 = .ok (.getfield 7, 3) := by decide +kernel
theorem dX0_solveThrough_25 : decode cX0_solveThrough 25 = .ok (.iload_n 1, 1) := by decide +kernel
theorem dX0_solveThrough_26 : decode cX0_solveThrough 26 = .ok (.baload, 1) := by decide +kernel
theorem dX0_solveThrough_27 : decode cX0_solveThrough 27 = .ok (.isub, 1) := by decide +kernel
theorem dX0_solveThrough_28 : decode cX0_solveThrough 28 = .ok (.istore_n 3, 1) := by decide +kernel
theorem dX0_solveThrough_29 : decode cX0_solveThrough 29 = .ok (.aload_n 0, 1) := by decide +kernel
theorem dX0_solveThrough_30 : decode cX0_solveThrough 30 = .ok (.getfield 13, 3) := by decide +kernel
theorem dX0_solveThrough_33 : decode cX0_solveThrough 33 = .ok (.iload_n 2, 1) := by decide +kernel
theorem dX0_solveThrough_34 : decode cX0_solveThrough 34 = .ok (.baload, 1) := by decide +kernel
theorem dX0_solveThrough_35 : decode cX0_solveThrough 35 = .ok (.aload_n 0, 1) := by decide +kernel
theorem dX0_solveThrough_36 : decode cX0_solveThrough 36 = .ok (.getfield 13, 3) := by decide +kernel
theorem dX0_solveThrough_39 : decode cX0_solveThrough 39 = .ok (.iload_n 1, 1) := by decide +kernel
theorem dX0_solveThrough_40 : decode cX0_solveThrough 40 = .ok (.baload, 1) := by decide +kernel
theorem dX0_solveThrough_41 : decode cX0_solveThrough 41 = .ok (.isub, 1) := by decide +kernel
theorem dX0_solveThrough_42 : decode cX0_solveThrough 42 = .ok (.istore 4, 2) := by decide +kernel
theorem dX0_solveThrough_44 : decode cX0_solveThrough 44 = .ok (.iload_n 3, 1) := by decide +kernel
theorem dX0_solveThrough_45 : decode cX0_solveThrough 45 = .ok (.ifCond .le 10, 3) := by decide +kernel
theorem dX0_solveThrough_48 : decode cX0_solveThrough 48 = .ok (.aload_n 0, 1) := by decide +kernel
theorem dX0_solveThrough_49 : decode cX0_solveThrough 49 = .ok (.iload 4, 2) := by decide +kernel
theorem dX0_solveThrough_51 : decode cX0_solveThrough 51 = .ok (.iload_n 3, 1) := by decide +kernel
theorem dX0_solveThrough_52 : decode cX0_solveThrough 52 = .ok (.invokevirtual 66, 3) := by decide +kernel
theorem dX0_solveThrough_55 : decode cX0_solveThrough 55 = .ok (.iload_n 3, 1) := by decide +kernel
theorem dX0_solveThrough_56 : decode cX0_solveThrough 56 = .ok (.ifCond .ge 12, 3) := by decide +kernel
theorem dX0_solveThrough_59 : decode cX0_solveThrough 59 = .ok (.aload_n 0, 1) := by decide +kernel
theorem dX0_solveThrough_60 : decode cX0_solveThrough 60 = .ok (.iload 4, 2) := by decide +kernel
theorem dX0_solveThrough_62 : decode cX0_solveThrough 62 = .ok (.ineg, 1) := by decide +kernel
theorem dX0_solveThrough_63 : decode cX0_solveThrough 63 = .ok (.iload_n 3, 1) := by decide +kernel
theorem dX0_solveThrough_64 : decode cX0_solveThrough 64 = .ok (.ineg, 1) := by decide +kernel
theorem dX0_solveThrough_65 : decode cX0_solveThrough 65 = .ok (.invokevirtual 66, 3) := by decide +kernel
theorem dX0_solveThrough_68 : decode cX0_solveThrough 68 = .ok (.iinc 2 1, 3) := by decide +kernel
theorem dX0_solveThrough_71 : decode cX0_solveThrough 71 = .ok (.goto (-64), 3) := by decide +kernel
theorem dX0_solveThrough_74 : decode cX0_solveThrough 74 = .ok (.aload_n 0, 1) := by decide +kernel
theorem dX0_solveThrough_75 : decode cX0_solveThrough 75 = .ok (.aload_n 0, 1) := by decide +kernel
theorem dX0_solveThrough_76 : decode cX0_solveThrough 76 = .ok (.iload_n 1, 1) := by decide +kernel
theorem dX0_solveThrough_77 : decode cX0_solveThrough 77 = .ok (.iconst 0, 1) := by decide +kernel
theorem dX0_solveThrough_78 : decode cX0_solveThrough 78 = .ok (.iconst 1, 1) := by decide +kernel
theorem dX0_solveThrough_79 : decode cX0_solveThrough 79 = .ok (.invokevirtual 55, 3) := by decide +kernel
theorem dX0_solveThrough_82 : decode cX0_solveThrough 82 = .ok (.i2l, 1) := by decide +kernel
theorem dX0_solveThrough_83 : decode cX0_solveThrough 83 = .ok (.putfield 44, 3) := by decide +kernel
theorem dX0_solveThrough_86 : decode cX0_solveThrough 86 = .ok (.aload_n 0, 1) := by decide +kernel
theorem dX0_solveThrough_87 : decode cX0_solveThrough 87 = .ok (.lconst 1, 1) := by decide +kernel
theorem dX0_solveThrough_88 : decode cX0_solveThrough 88 = .ok (.putfield 48, 3) := by decide +kernel
theorem dX0_solveThrough_91 : decode cX0_solveThrough 91 = .ok (.aload_n 0, 1) := by decide +kernel
theorem dX0_solveThrough_92 : decode cX0_solveThrough 92 = .ok (.getfield 63, 3) := by decide +kernel
theorem dX0_solveThrough_95 : decode cX0_solveThrough 95 = .ok (.ifCond .le 7, 3) := by decide +kernel
theorem dX0_solveThrough_98 : decode cX0_solveThrough 98 = .ok (.iconst 1, 1) := by decide +kernel
theorem dX0_solveThrough_99 : decode cX0_solveThrough 99 = .ok (.goto 4, 3) := by decide +kernel
theorem dX0_solveThrough_102 : decode cX0_solveThrough 102 = .ok (.iconst 0, 1) := by decide +kernel
theorem dX0_solveThrough_103 : decode cX0_solveThrough 103 = .ok (.istore_n 2, 1) := by decide +kernel
theorem dX0_solveThrough_104 : decode cX0_solveThrough 104 = .ok (.iconst 0, 1) := by decide +kernel
theorem dX0_solveThrough_105 : decode cX0_solveThrough 105 = .ok (.istore_n 3, 1) := by decide +kernel
theorem dX0_solveThrough_106 : decode cX0_solveThrough 106 = .ok (.iload_n 3, 1) := by decide +kernel
theorem dX0_solveThrough_107 : decode cX0_solveThrough 107 = .ok (.aload_n 0, 1) := by decide +kernel
theorem dX0_solveThrough_108 : decode cX0_solveThrough 108 = .ok (.getfield 63, 3) := by decide +kernel
theorem dX0_solveThrough_111 : decode cX0_solveThrough 111 = .ok (.if_icmp .ge 90, 3) := by decide +kernel
theorem dX0_solveThrough_114 : decode cX0_solveThrough 114 = .ok (.iload_n 2, 1) := by decide +kernel
theorem dX0_solveThrough_115 : decode cX0_solveThrough 115 = .ok (.ifCond .eq 86, 3) := by decide +kernel
theorem dX0_solveThrough_118 : decode cX0_solveThrough 118 = .ok (.aload_n 0, 1) := by decide +kernel
theorem dX0_solveThrough_119 : decode cX0_solveThrough 119 = .ok (.iload_n 1, 1) := by decide +kernel
theorem dX0_solveThrough_120 : decode cX0_solveThrough 120 = .ok (.aload_n 0, 1) := by decide +kernel
theorem dX0_solveThrough_121 : decode cX0_solveThrough 121 = .ok (.getfield 23, 3) := by decide +kernel
theorem dX0_solveThrough_124 : decode cX0_solveThrough 124 = .ok (.iload_n 3, 1) := by decide +kernel
theorem dX0_solveThrough_125 : decode cX0_solveThrough 125 = .ok (.iaload, 1) := by decide +kernel
theorem dX0_solveThrough_126 : decode cX0_solveThrough 126 = .ok (.aload_n 0, 1) := by decide +kernel
theorem dX0_solveThrough_127 : decode cX0_solveThrough 127 = .ok (.getfield 27, 3) := by decide +kernel
theorem dX0_solveThrough_130 : decode cX0_solveThrough 130 = .ok (.iload_n 3, 1) := by decide +kernel
theorem dX0_solveThrough_131 : decode cX0_solveThrough 131 = .ok (.iaload, 1) := by decide +kernel
theorem dX0_solveThrough_132 : decode cX0_solveThrough 132 = .ok (.invokevirtual 55, 3) := by decide +kernel
theorem dX0_solveThrough_135 : decode cX0_solveThrough 135 = .ok (.i2l, 1) := by decide +kernel
theorem dX0_solveThrough_136 : decode cX0_solveThrough 136 = .ok (.lstore 4, 2) := by decide +kernel
theorem dX0_solveThrough_138 : decode cX0_solveThrough 138 = .ok (.iload_n 3, 1) := by decide +kernel
theorem dX0_solveThrough_139 : decode cX0_solveThrough 139 = .ok (.ifCond .eq 26, 3) := by decide +kernel
theorem dX0_solveThrough_142 : decode cX0_solveThrough 142 = .ok (.lload 4, 2) := by decide +kernel
theorem dX0_solveThrough_144 : decode cX0_solveThrough 144 = .ok (.aload_n 0, 1) := by decide +kernel
theorem dX0_solveThrough_145 : decode cX0_solveThrough 145 = .ok (.getfield 48, 3) := by decide +kernel
theorem dX0_solveThrough_148 : decode cX0_solveThrough 148 = .ok (.lmul, 1) := by decide +kernel
theorem dX0_solveThrough_149 : decode cX0_solveThrough 149 = .ok (.aload_n 0, 1) := by decide +kernel
theorem dX0_solveThrough_150 : decode cX0_solveThrough 150 = .ok (.getfield 44, 3) := by decide +kernel
theorem dX0_solveThrough_153 : decode cX0_solveThrough 153 = .ok (.aload_n 0, 1) := by decide +kernel
theorem dX0_solveThrough_154 : decode cX0_solveThrough 154 = .ok (.getfield 27, 3) := by decide +kernel
theorem dX0_solveThrough_157 : decode cX0_solveThrough 157 = .ok (.iload_n 3, 1) := by decide +kernel
theorem dX0_solveThrough_158 : decode cX0_solveThrough 158 = .ok (.iaload, 1) := by decide +kernel
theorem dX0_solveThrough_159 : decode cX0_solveThrough 159 = .ok (.i2l, 1) := by decide +kernel
theorem dX0_solveThrough_160 : decode cX0_solveThrough 160 = .ok (.lmul, 1) := by decide +kernel
theorem dX0_solveThrough_161 : decode cX0_solveThrough 161 = .ok (.lcmp, 1) := by decide +kernel
theorem dX0_solveThrough_162 : decode cX0_solveThrough 162 = .ok (.ifCond .gt 7, 3) := by decide +kernel
theorem dX0_solveThrough_165 : decode cX0_solveThrough 165 = .ok (.iconst 1, 1) := by decide +kernel
theorem dX0_solveThrough_166 : decode cX0_solveThrough 166 = .ok (.goto 4, 3) := by decide +kernel
theorem dX0_solveThrough_169 : decode cX0_solveThrough 169 = .ok (.iconst 0, 1) := by decide +kernel
theorem dX0_solveThrough_170 : decode cX0_solveThrough 170 = .ok (.istore_n 2, 1) := by decide +kernel
theorem dX0_solveThrough_171 : decode cX0_solveThrough 171 = .ok (.iload_n 2, 1) := by decide +kernel
theorem dX0_solveThrough_172 : decode cX0_solveThrough 172 = .ok (.ifCond .ne 6, 3) := by decide +kernel
theorem dX0_solveThrough_175 : decode cX0_solveThrough 175 = .ok (.goto 20, 3) := by decide +kernel
theorem dX0_solveThrough_178 : decode cX0_solveThrough 178 = .ok (.aload_n 0, 1) := by decide +kernel
theorem dX0_solveThrough_179 : decode cX0_solveThrough 179 = .ok (.lload 4, 2) := by decide +kernel
theorem dX0_solveThrough_181 : decode cX0_solveThrough 181 = .ok (.putfield 44, 3) := by decide +kernel
theorem dX0_solveThrough_184 : decode cX0_solveThrough 184 = .ok (.aload_n 0, 1) := by decide +kernel
theorem dX0_solveThrough_185 : decode cX0_solveThrough 185 = .ok (.aload_n 0, 1) := by decide +kernel
theorem dX0_solveThrough_186 : decode cX0_solveThrough 186 = .ok (.getfield 27, 3) := by decide +kernel
theorem dX0_solveThrough_189 : decode cX0_solveThrough 189 = .ok (.iload_n 3, 1) := by decide +kernel
theorem dX0_solveThrough_190 : decode cX0_solveThrough 190 = .ok (.iaload, 1) := by decide +kernel
theorem dX0_solveThrough_191 : decode cX0_solveThrough 191 = .ok (.i2l, 1) := by decide +kernel
theorem dX0_solveThrough_192 : decode cX0_solveThrough 192 = .ok (.putfield 48, 3) := by decide +kernel
theorem dX0_solveThrough_195 : decode cX0_solveThrough 195 = .ok (.iinc 3 1, 3) := by decide +kernel
theorem dX0_solveThrough_198 : decode cX0_solveThrough 198 = .ok (.goto (-92), 3) := by decide +kernel
theorem dX0_solveThrough_201 : decode cX0_solveThrough 201 = .ok (.aload_n 0, 1) := by decide +kernel
theorem dX0_solveThrough_202 : decode cX0_solveThrough 202 = .ok (.invokevirtual 74, 3) := by decide +kernel
theorem dX0_solveThrough_205 : decode cX0_solveThrough 205 = .ok (.return_, 1) := by decide +kernel
end
section
set_option maxRecDepth 100000
abbrev cX0_throughBottom : ByteArray := prog_1_method_12_code
def yX0_throughBottom : MethodName := ⟨RX0, "throughBottom", "(I)I"⟩
theorem dX0_throughBottom_0 : decode cX0_throughBottom 0 = .ok (.aload_n 0, 1) := by decide +kernel
theorem dX0_throughBottom_1 : decode cX0_throughBottom 1 = .ok (.iload_n 1, 1) := by decide +kernel
theorem dX0_throughBottom_2 : decode cX0_throughBottom 2 = .ok (.invokevirtual 37, 3) := by decide +kernel
theorem dX0_throughBottom_5 : decode cX0_throughBottom 5 = .ok (.ifCond .ne 5, 3) := by decide +kernel
theorem dX0_throughBottom_8 : decode cX0_throughBottom 8 = .ok (.iconst (-1), 1) := by decide +kernel
theorem dX0_throughBottom_9 : decode cX0_throughBottom 9 = .ok (.ireturn, 1) := by decide +kernel
theorem dX0_throughBottom_10 : decode cX0_throughBottom 10 = .ok (.aload_n 0, 1) := by decide +kernel
theorem dX0_throughBottom_11 : decode cX0_throughBottom 11 = .ok (.iload_n 1, 1) := by decide +kernel
theorem dX0_throughBottom_12 : decode cX0_throughBottom 12 = .ok (.invokevirtual 59, 3) := by decide +kernel
theorem dX0_throughBottom_15 : decode cX0_throughBottom 15 = .ok (.aload_n 0, 1) := by decide +kernel
theorem dX0_throughBottom_16 : decode cX0_throughBottom 16 = .ok (.getfield 48, 3) := by decide +kernel
theorem dX0_throughBottom_19 : decode cX0_throughBottom 19 = .ok (.l2i, 1) := by decide +kernel
theorem dX0_throughBottom_20 : decode cX0_throughBottom 20 = .ok (.ireturn, 1) := by decide +kernel
abbrev cX0_points : ByteArray := prog_1_method_13_code
def yX0_points : MethodName := ⟨RX0, "points", "()I"⟩
theorem dX0_points_0 : decode cX0_points 0 = .ok (.aload_n 0, 1) := by decide +kernel
theorem dX0_points_1 : decode cX0_points 1 = .ok (.getfield 34, 3) := by decide +kernel
theorem dX0_points_4 : decode cX0_points 4 = .ok (.ireturn, 1) := by decide +kernel
theorem q27 : (Jvm.Cond.initialized "LeastDeviations") ∈ lw_all := lw_g (lw_at lw_m1 1 rfl) rfl
theorem q30 : (Jvm.Cond.instantiable "LeastDeviations" (12 : Nat)) ∈ lw_all := lw_g (lw_at lw_m1 4 rfl) rfl
theorem q32 : (Jvm.Cond.instanceMethod ({ cls := "LeastDeviations", name := "<init>", desc := "()V" } : Jvm.MethodName)) ∈ lw_all := lw_g (lw_at lw_m1 6 rfl) rfl
theorem q33 : (Jvm.Cond.code ({ cls := "LeastDeviations", name := "<init>", desc := "()V" } : Jvm.MethodName) prog_1_method_1_code (1 : Nat) (Option.none : Option Jvm.ClassFile.FieldType)) ∈ lw_all := lw_g (lw_at lw_m1 7 rfl) rfl
theorem q34 : (Jvm.Cond.methodLink "LeastDeviations" (1 : Nat) ({ cls := "java/lang/Object", name := "<init>", desc := "()V" } : Jvm.MethodName)) ∈ lw_all := lw_g (lw_at lw_m1 8 rfl) rfl
theorem q37 : (Jvm.Cond.fieldLink "LeastDeviations" (34 : Nat) "LeastDeviations" "pointCount" "I") ∈ lw_all := lw_g (lw_at lw_m1 11 rfl) rfl
theorem q38 : (Jvm.Cond.fieldLink "LeastDeviations" (30 : Nat) "LeastDeviations" "lean" "I") ∈ lw_all := lw_g (lw_at lw_m1 12 rfl) rfl
theorem q39 : (Jvm.Cond.fieldLink "LeastDeviations" (7 : Nat) "LeastDeviations" "pointX" "[B") ∈ lw_all := lw_g (lw_at lw_m1 13 rfl) rfl
theorem q40 : (Jvm.Cond.fieldLink "LeastDeviations" (13 : Nat) "LeastDeviations" "pointY" "[B") ∈ lw_all := lw_g (lw_at lw_m1 14 rfl) rfl
theorem q41 : (Jvm.Cond.fieldLink "LeastDeviations" (16 : Nat) "LeastDeviations" "table" "[J") ∈ lw_all := lw_g (lw_at lw_m1 15 rfl) rfl
theorem q42 : (Jvm.Cond.fieldLink "LeastDeviations" (77 : Nat) "LeastDeviations" "denominator" "J") ∈ lw_all := lw_g (lw_at lw_m1 16 rfl) rfl
theorem q43 : (Jvm.Cond.fieldLink "LeastDeviations" (20 : Nat) "LeastDeviations" "owner" "[B") ∈ lw_all := lw_g (lw_at lw_m1 17 rfl) rfl
theorem q44 : (Jvm.Cond.fieldLink "LeastDeviations" (44 : Nat) "LeastDeviations" "top" "J") ∈ lw_all := lw_g (lw_at lw_m1 18 rfl) rfl
theorem q45 : (Jvm.Cond.fieldLink "LeastDeviations" (48 : Nat) "LeastDeviations" "bottom" "J") ∈ lw_all := lw_g (lw_at lw_m1 19 rfl) rfl
theorem q46 : (Jvm.Cond.fieldLink "LeastDeviations" (23 : Nat) "LeastDeviations" "sortTop" "[I") ∈ lw_all := lw_g (lw_at lw_m1 20 rfl) rfl
theorem q47 : (Jvm.Cond.fieldLink "LeastDeviations" (27 : Nat) "LeastDeviations" "sortBottom" "[I") ∈ lw_all := lw_g (lw_at lw_m1 21 rfl) rfl
theorem q48 : (Jvm.Cond.fieldLink "LeastDeviations" (63 : Nat) "LeastDeviations" "sortCount" "I") ∈ lw_all := lw_g (lw_at lw_m1 22 rfl) rfl
theorem q49 : (Jvm.Cond.lays "LeastDeviations" "LeastDeviations" "pointCount" "I") ∈ lw_all := lw_g (lw_at lw_m1 23 rfl) rfl
theorem q50 : (Jvm.Cond.soleField "LeastDeviations" "pointCount") ∈ lw_all := lw_g (lw_at lw_m1 24 rfl) rfl
theorem q51 : (Jvm.Cond.lays "LeastDeviations" "LeastDeviations" "lean" "I") ∈ lw_all := lw_g (lw_at lw_m1 25 rfl) rfl
theorem q52 : (Jvm.Cond.soleField "LeastDeviations" "lean") ∈ lw_all := lw_g (lw_at lw_m1 26 rfl) rfl
theorem q53 : (Jvm.Cond.laysFinal "LeastDeviations" "LeastDeviations" "pointX" "[B") ∈ lw_all := lw_g (lw_at lw_m1 27 rfl) rfl
theorem q54 : (Jvm.Cond.soleField "LeastDeviations" "pointX") ∈ lw_all := lw_g (lw_at lw_m1 28 rfl) rfl
theorem q55 : (Jvm.Cond.laysFinal "LeastDeviations" "LeastDeviations" "pointY" "[B") ∈ lw_all := lw_g (lw_at lw_m1 29 rfl) rfl
theorem q56 : (Jvm.Cond.soleField "LeastDeviations" "pointY") ∈ lw_all := lw_g (lw_at lw_m1 30 rfl) rfl
theorem q57 : (Jvm.Cond.laysFinal "LeastDeviations" "LeastDeviations" "table" "[J") ∈ lw_all := lw_g (lw_at lw_m1 31 rfl) rfl
theorem q58 : (Jvm.Cond.soleField "LeastDeviations" "table") ∈ lw_all := lw_g (lw_at lw_m1 32 rfl) rfl
theorem q59 : (Jvm.Cond.lays "LeastDeviations" "LeastDeviations" "denominator" "J") ∈ lw_all := lw_g (lw_at lw_m1 33 rfl) rfl
theorem q60 : (Jvm.Cond.soleField "LeastDeviations" "denominator") ∈ lw_all := lw_g (lw_at lw_m1 34 rfl) rfl
theorem q61 : (Jvm.Cond.laysFinal "LeastDeviations" "LeastDeviations" "owner" "[B") ∈ lw_all := lw_g (lw_at lw_m1 35 rfl) rfl
theorem q62 : (Jvm.Cond.soleField "LeastDeviations" "owner") ∈ lw_all := lw_g (lw_at lw_m1 36 rfl) rfl
theorem q63 : (Jvm.Cond.lays "LeastDeviations" "LeastDeviations" "top" "J") ∈ lw_all := lw_g (lw_at lw_m1 37 rfl) rfl
theorem q64 : (Jvm.Cond.soleField "LeastDeviations" "top") ∈ lw_all := lw_g (lw_at lw_m1 38 rfl) rfl
theorem q65 : (Jvm.Cond.lays "LeastDeviations" "LeastDeviations" "bottom" "J") ∈ lw_all := lw_g (lw_at lw_m1 39 rfl) rfl
theorem q66 : (Jvm.Cond.soleField "LeastDeviations" "bottom") ∈ lw_all := lw_g (lw_at lw_m1 40 rfl) rfl
theorem q67 : (Jvm.Cond.laysFinal "LeastDeviations" "LeastDeviations" "sortTop" "[I") ∈ lw_all := lw_g (lw_at lw_m1 41 rfl) rfl
theorem q68 : (Jvm.Cond.soleField "LeastDeviations" "sortTop") ∈ lw_all := lw_g (lw_at lw_m1 42 rfl) rfl
theorem q69 : (Jvm.Cond.laysFinal "LeastDeviations" "LeastDeviations" "sortBottom" "[I") ∈ lw_all := lw_g (lw_at lw_m1 43 rfl) rfl
theorem q70 : (Jvm.Cond.soleField "LeastDeviations" "sortBottom") ∈ lw_all := lw_g (lw_at lw_m1 44 rfl) rfl
theorem q71 : (Jvm.Cond.lays "LeastDeviations" "LeastDeviations" "sortCount" "I") ∈ lw_all := lw_g (lw_at lw_m1 45 rfl) rfl
theorem q72 : (Jvm.Cond.soleField "LeastDeviations" "sortCount") ∈ lw_all := lw_g (lw_at lw_m1 46 rfl) rfl
theorem q73 : (Jvm.Cond.superclass "LeastDeviations" "java/lang/Object") ∈ lw_all := lw_g (lw_at lw_m1 47 rfl) rfl
theorem q78 : (Jvm.Cond.instanceMethod ({ cls := "LeastDeviations", name := "add", desc := "(II)I" } : Jvm.MethodName)) ∈ lw_all := lw_g (lw_at lw_m1 52 rfl) rfl
theorem q79 : (Jvm.Cond.selects "LeastDeviations" ({ cls := "LeastDeviations", name := "add", desc := "(II)I" } : Jvm.MethodName) ({ cls := "LeastDeviations", name := "add", desc := "(II)I" } : Jvm.MethodName)) ∈ lw_all := lw_g (lw_at lw_m1 53 rfl) rfl
theorem q80 : (Jvm.Cond.code ({ cls := "LeastDeviations", name := "add", desc := "(II)I" } : Jvm.MethodName) prog_1_method_2_code (3 : Nat) (Option.some Jvm.ClassFile.FieldType.int)) ∈ lw_all := lw_g (lw_at lw_m1 54 rfl) rfl
theorem q82 : (Jvm.Cond.instanceMethod ({ cls := "LeastDeviations", name := "drop", desc := "(I)I" } : Jvm.MethodName)) ∈ lw_all := lw_g (lw_at lw_m1 56 rfl) rfl
theorem q83 : (Jvm.Cond.selects "LeastDeviations" ({ cls := "LeastDeviations", name := "drop", desc := "(I)I" } : Jvm.MethodName) ({ cls := "LeastDeviations", name := "drop", desc := "(I)I" } : Jvm.MethodName)) ∈ lw_all := lw_g (lw_at lw_m1 57 rfl) rfl
theorem q84 : (Jvm.Cond.code ({ cls := "LeastDeviations", name := "drop", desc := "(I)I" } : Jvm.MethodName) prog_1_method_3_code (3 : Nat) (Option.some Jvm.ClassFile.FieldType.int)) ∈ lw_all := lw_g (lw_at lw_m1 58 rfl) rfl
theorem q85 : (Jvm.Cond.methodLink "LeastDeviations" (37 : Nat) ({ cls := "LeastDeviations", name := "isPoint", desc := "(I)Z" } : Jvm.MethodName)) ∈ lw_all := lw_g (lw_at lw_m1 59 rfl) rfl
theorem q86 : (Jvm.Cond.privateMethod ({ cls := "LeastDeviations", name := "isPoint", desc := "(I)Z" } : Jvm.MethodName)) ∈ lw_tbl := lw_at lw_m1 60 rfl
theorem q87 : (Jvm.Cond.instanceMethod ({ cls := "LeastDeviations", name := "isPoint", desc := "(I)Z" } : Jvm.MethodName)) ∈ lw_all := lw_g (lw_at lw_m1 61 rfl) rfl
theorem q88 : (Jvm.Cond.code ({ cls := "LeastDeviations", name := "isPoint", desc := "(I)Z" } : Jvm.MethodName) prog_1_method_5_code (2 : Nat) (Option.some Jvm.ClassFile.FieldType.boolean)) ∈ lw_all := lw_g (lw_at lw_m1 62 rfl) rfl
theorem q90 : (Jvm.Cond.instanceMethod ({ cls := "LeastDeviations", name := "lean", desc := "(I)Z" } : Jvm.MethodName)) ∈ lw_all := lw_g (lw_at lw_m1 64 rfl) rfl
theorem q91 : (Jvm.Cond.selects "LeastDeviations" ({ cls := "LeastDeviations", name := "lean", desc := "(I)Z" } : Jvm.MethodName) ({ cls := "LeastDeviations", name := "lean", desc := "(I)Z" } : Jvm.MethodName)) ∈ lw_all := lw_g (lw_at lw_m1 65 rfl) rfl
theorem q92 : (Jvm.Cond.code ({ cls := "LeastDeviations", name := "lean", desc := "(I)Z" } : Jvm.MethodName) prog_1_method_4_code (2 : Nat) (Option.some Jvm.ClassFile.FieldType.boolean)) ∈ lw_all := lw_g (lw_at lw_m1 66 rfl) rfl
theorem q94 : (Jvm.Cond.instanceMethod ({ cls := "LeastDeviations", name := "leastTop", desc := "()I" } : Jvm.MethodName)) ∈ lw_all := lw_g (lw_at lw_m1 68 rfl) rfl
theorem q95 : (Jvm.Cond.selects "LeastDeviations" ({ cls := "LeastDeviations", name := "leastTop", desc := "()I" } : Jvm.MethodName) ({ cls := "LeastDeviations", name := "leastTop", desc := "()I" } : Jvm.MethodName)) ∈ lw_all := lw_g (lw_at lw_m1 69 rfl) rfl
theorem q96 : (Jvm.Cond.code ({ cls := "LeastDeviations", name := "leastTop", desc := "()I" } : Jvm.MethodName) prog_1_method_6_code (1 : Nat) (Option.some Jvm.ClassFile.FieldType.int)) ∈ lw_all := lw_g (lw_at lw_m1 70 rfl) rfl
theorem q97 : (Jvm.Cond.methodLink "LeastDeviations" (41 : Nat) ({ cls := "LeastDeviations", name := "solve", desc := "()V" } : Jvm.MethodName)) ∈ lw_all := lw_g (lw_at lw_m1 71 rfl) rfl
theorem q98 : (Jvm.Cond.privateMethod ({ cls := "LeastDeviations", name := "solve", desc := "()V" } : Jvm.MethodName)) ∈ lw_tbl := lw_at lw_m1 72 rfl
theorem q99 : (Jvm.Cond.instanceMethod ({ cls := "LeastDeviations", name := "solve", desc := "()V" } : Jvm.MethodName)) ∈ lw_all := lw_g (lw_at lw_m1 73 rfl) rfl
theorem q100 : (Jvm.Cond.code ({ cls := "LeastDeviations", name := "solve", desc := "()V" } : Jvm.MethodName) prog_1_method_21_code (3 : Nat) (Option.none : Option Jvm.ClassFile.FieldType)) ∈ lw_all := lw_g (lw_at lw_m1 74 rfl) rfl
theorem q101 : (Jvm.Cond.methodLink "LeastDeviations" (80 : Nat) ({ cls := "LeastDeviations", name := "fillTable", desc := "()V" } : Jvm.MethodName)) ∈ lw_all := lw_g (lw_at lw_m1 75 rfl) rfl
theorem q102 : (Jvm.Cond.privateMethod ({ cls := "LeastDeviations", name := "fillTable", desc := "()V" } : Jvm.MethodName)) ∈ lw_tbl := lw_at lw_m1 76 rfl
theorem q103 : (Jvm.Cond.instanceMethod ({ cls := "LeastDeviations", name := "fillTable", desc := "()V" } : Jvm.MethodName)) ∈ lw_all := lw_g (lw_at lw_m1 77 rfl) rfl
theorem q104 : (Jvm.Cond.code ({ cls := "LeastDeviations", name := "fillTable", desc := "()V" } : Jvm.MethodName) prog_1_method_20_code (6 : Nat) (Option.none : Option Jvm.ClassFile.FieldType)) ∈ lw_all := lw_g (lw_at lw_m1 78 rfl) rfl
theorem q105 : (Jvm.Cond.methodLink "LeastDeviations" (83 : Nat) ({ cls := "LeastDeviations", name := "cheaper", desc := "()I" } : Jvm.MethodName)) ∈ lw_all := lw_g (lw_at lw_m1 79 rfl) rfl
theorem q106 : (Jvm.Cond.privateMethod ({ cls := "LeastDeviations", name := "cheaper", desc := "()I" } : Jvm.MethodName)) ∈ lw_tbl := lw_at lw_m1 80 rfl
theorem q107 : (Jvm.Cond.instanceMethod ({ cls := "LeastDeviations", name := "cheaper", desc := "()I" } : Jvm.MethodName)) ∈ lw_all := lw_g (lw_at lw_m1 81 rfl) rfl
theorem q108 : (Jvm.Cond.code ({ cls := "LeastDeviations", name := "cheaper", desc := "()I" } : Jvm.MethodName) prog_1_method_22_code (2 : Nat) (Option.some Jvm.ClassFile.FieldType.int)) ∈ lw_all := lw_g (lw_at lw_m1 82 rfl) rfl
theorem q109 : (Jvm.Cond.methodLink "LeastDeviations" (87 : Nat) ({ cls := "LeastDeviations", name := "limiting", desc := "(I)I" } : Jvm.MethodName)) ∈ lw_all := lw_g (lw_at lw_m1 83 rfl) rfl
theorem q110 : (Jvm.Cond.privateMethod ({ cls := "LeastDeviations", name := "limiting", desc := "(I)I" } : Jvm.MethodName)) ∈ lw_tbl := lw_at lw_m1 84 rfl
theorem q111 : (Jvm.Cond.instanceMethod ({ cls := "LeastDeviations", name := "limiting", desc := "(I)I" } : Jvm.MethodName)) ∈ lw_all := lw_g (lw_at lw_m1 85 rfl) rfl
theorem q112 : (Jvm.Cond.code ({ cls := "LeastDeviations", name := "limiting", desc := "(I)I" } : Jvm.MethodName) prog_1_method_23_code (10 : Nat) (Option.some Jvm.ClassFile.FieldType.int)) ∈ lw_all := lw_g (lw_at lw_m1 86 rfl) rfl
theorem q113 : (Jvm.Cond.methodLink "LeastDeviations" (90 : Nat) ({ cls := "LeastDeviations", name := "exchange", desc := "(II)V" } : Jvm.MethodName)) ∈ lw_all := lw_g (lw_at lw_m1 87 rfl) rfl
theorem q114 : (Jvm.Cond.privateMethod ({ cls := "LeastDeviations", name := "exchange", desc := "(II)V" } : Jvm.MethodName)) ∈ lw_tbl := lw_at lw_m1 88 rfl
theorem q115 : (Jvm.Cond.instanceMethod ({ cls := "LeastDeviations", name := "exchange", desc := "(II)V" } : Jvm.MethodName)) ∈ lw_all := lw_g (lw_at lw_m1 89 rfl) rfl
theorem q116 : (Jvm.Cond.code ({ cls := "LeastDeviations", name := "exchange", desc := "(II)V" } : Jvm.MethodName) prog_1_method_24_code (9 : Nat) (Option.none : Option Jvm.ClassFile.FieldType)) ∈ lw_all := lw_g (lw_at lw_m1 90 rfl) rfl
theorem q117 : (Jvm.Cond.methodLink "LeastDeviations" (74 : Nat) ({ cls := "LeastDeviations", name := "lowest", desc := "()V" } : Jvm.MethodName)) ∈ lw_all := lw_g (lw_at lw_m1 91 rfl) rfl
theorem q118 : (Jvm.Cond.privateMethod ({ cls := "LeastDeviations", name := "lowest", desc := "()V" } : Jvm.MethodName)) ∈ lw_tbl := lw_at lw_m1 92 rfl
theorem q119 : (Jvm.Cond.instanceMethod ({ cls := "LeastDeviations", name := "lowest", desc := "()V" } : Jvm.MethodName)) ∈ lw_all := lw_g (lw_at lw_m1 93 rfl) rfl
theorem q120 : (Jvm.Cond.code ({ cls := "LeastDeviations", name := "lowest", desc := "()V" } : Jvm.MethodName) prog_1_method_15_code (7 : Nat) (Option.none : Option Jvm.ClassFile.FieldType)) ∈ lw_all := lw_g (lw_at lw_m1 94 rfl) rfl
theorem q122 : (Jvm.Cond.instanceMethod ({ cls := "LeastDeviations", name := "leastBottom", desc := "()I" } : Jvm.MethodName)) ∈ lw_all := lw_g (lw_at lw_m1 96 rfl) rfl
theorem q123 : (Jvm.Cond.selects "LeastDeviations" ({ cls := "LeastDeviations", name := "leastBottom", desc := "()I" } : Jvm.MethodName) ({ cls := "LeastDeviations", name := "leastBottom", desc := "()I" } : Jvm.MethodName)) ∈ lw_all := lw_g (lw_at lw_m1 97 rfl) rfl
theorem q124 : (Jvm.Cond.code ({ cls := "LeastDeviations", name := "leastBottom", desc := "()I" } : Jvm.MethodName) prog_1_method_7_code (1 : Nat) (Option.some Jvm.ClassFile.FieldType.int)) ∈ lw_all := lw_g (lw_at lw_m1 98 rfl) rfl
theorem q126 : (Jvm.Cond.instanceMethod ({ cls := "LeastDeviations", name := "withSlope", desc := "(II)I" } : Jvm.MethodName)) ∈ lw_all := lw_g (lw_at lw_m1 100 rfl) rfl
theorem q127 : (Jvm.Cond.selects "LeastDeviations" ({ cls := "LeastDeviations", name := "withSlope", desc := "(II)I" } : Jvm.MethodName) ({ cls := "LeastDeviations", name := "withSlope", desc := "(II)I" } : Jvm.MethodName)) ∈ lw_all := lw_g (lw_at lw_m1 101 rfl) rfl
theorem q128 : (Jvm.Cond.code ({ cls := "LeastDeviations", name := "withSlope", desc := "(II)I" } : Jvm.MethodName) prog_1_method_8_code (3 : Nat) (Option.some Jvm.ClassFile.FieldType.int)) ∈ lw_all := lw_g (lw_at lw_m1 102 rfl) rfl
theorem q129 : (Jvm.Cond.methodLink "LeastDeviations" (51 : Nat) ({ cls := "LeastDeviations", name := "slopeCost", desc := "(II)I" } : Jvm.MethodName)) ∈ lw_all := lw_g (lw_at lw_m1 103 rfl) rfl
theorem q130 : (Jvm.Cond.privateMethod ({ cls := "LeastDeviations", name := "slopeCost", desc := "(II)I" } : Jvm.MethodName)) ∈ lw_tbl := lw_at lw_m1 104 rfl
theorem q131 : (Jvm.Cond.instanceMethod ({ cls := "LeastDeviations", name := "slopeCost", desc := "(II)I" } : Jvm.MethodName)) ∈ lw_all := lw_g (lw_at lw_m1 105 rfl) rfl
theorem q132 : (Jvm.Cond.code ({ cls := "LeastDeviations", name := "slopeCost", desc := "(II)I" } : Jvm.MethodName) prog_1_method_16_code (7 : Nat) (Option.some Jvm.ClassFile.FieldType.int)) ∈ lw_all := lw_g (lw_at lw_m1 106 rfl) rfl
theorem q133 : (Jvm.Cond.methodLink "LeastDeviations" (66 : Nat) ({ cls := "LeastDeviations", name := "insert", desc := "(II)V" } : Jvm.MethodName)) ∈ lw_all := lw_g (lw_at lw_m1 107 rfl) rfl
theorem q134 : (Jvm.Cond.privateMethod ({ cls := "LeastDeviations", name := "insert", desc := "(II)V" } : Jvm.MethodName)) ∈ lw_tbl := lw_at lw_m1 108 rfl
theorem q135 : (Jvm.Cond.instanceMethod ({ cls := "LeastDeviations", name := "insert", desc := "(II)V" } : Jvm.MethodName)) ∈ lw_all := lw_g (lw_at lw_m1 109 rfl) rfl
theorem q136 : (Jvm.Cond.code ({ cls := "LeastDeviations", name := "insert", desc := "(II)V" } : Jvm.MethodName) prog_1_method_17_code (4 : Nat) (Option.none : Option Jvm.ClassFile.FieldType)) ∈ lw_all := lw_g (lw_at lw_m1 110 rfl) rfl
theorem q137 : (Jvm.Cond.methodLink "LeastDeviations" (70 : Nat) ({ cls := "LeastDeviations", name := "costOf", desc := "(I)I" } : Jvm.MethodName)) ∈ lw_all := lw_g (lw_at lw_m1 111 rfl) rfl
theorem q138 : (Jvm.Cond.privateMethod ({ cls := "LeastDeviations", name := "costOf", desc := "(I)I" } : Jvm.MethodName)) ∈ lw_tbl := lw_at lw_m1 112 rfl
theorem q139 : (Jvm.Cond.instanceMethod ({ cls := "LeastDeviations", name := "costOf", desc := "(I)I" } : Jvm.MethodName)) ∈ lw_all := lw_g (lw_at lw_m1 113 rfl) rfl
theorem q140 : (Jvm.Cond.code ({ cls := "LeastDeviations", name := "costOf", desc := "(I)I" } : Jvm.MethodName) prog_1_method_14_code (2 : Nat) (Option.some Jvm.ClassFile.FieldType.int)) ∈ lw_all := lw_g (lw_at lw_m1 114 rfl) rfl
theorem q142 : (Jvm.Cond.instanceMethod ({ cls := "LeastDeviations", name := "bestSlope", desc := "(II)Z" } : Jvm.MethodName)) ∈ lw_all := lw_g (lw_at lw_m1 116 rfl) rfl
theorem q143 : (Jvm.Cond.selects "LeastDeviations" ({ cls := "LeastDeviations", name := "bestSlope", desc := "(II)Z" } : Jvm.MethodName) ({ cls := "LeastDeviations", name := "bestSlope", desc := "(II)Z" } : Jvm.MethodName)) ∈ lw_all := lw_g (lw_at lw_m1 117 rfl) rfl
theorem q144 : (Jvm.Cond.code ({ cls := "LeastDeviations", name := "bestSlope", desc := "(II)Z" } : Jvm.MethodName) prog_1_method_9_code (3 : Nat) (Option.some Jvm.ClassFile.FieldType.boolean)) ∈ lw_all := lw_g (lw_at lw_m1 118 rfl) rfl
theorem q146 : (Jvm.Cond.instanceMethod ({ cls := "LeastDeviations", name := "bestPair", desc := "(II)Z" } : Jvm.MethodName)) ∈ lw_all := lw_g (lw_at lw_m1 120 rfl) rfl
theorem q147 : (Jvm.Cond.selects "LeastDeviations" ({ cls := "LeastDeviations", name := "bestPair", desc := "(II)Z" } : Jvm.MethodName) ({ cls := "LeastDeviations", name := "bestPair", desc := "(II)Z" } : Jvm.MethodName)) ∈ lw_all := lw_g (lw_at lw_m1 121 rfl) rfl
theorem q148 : (Jvm.Cond.code ({ cls := "LeastDeviations", name := "bestPair", desc := "(II)Z" } : Jvm.MethodName) prog_1_method_10_code (5 : Nat) (Option.some Jvm.ClassFile.FieldType.boolean)) ∈ lw_all := lw_g (lw_at lw_m1 122 rfl) rfl
theorem q149 : (Jvm.Cond.methodLink "LeastDeviations" (55 : Nat) ({ cls := "LeastDeviations", name := "costThrough", desc := "(III)I" } : Jvm.MethodName)) ∈ lw_all := lw_g (lw_at lw_m1 123 rfl) rfl
theorem q150 : (Jvm.Cond.privateMethod ({ cls := "LeastDeviations", name := "costThrough", desc := "(III)I" } : Jvm.MethodName)) ∈ lw_tbl := lw_at lw_m1 124 rfl
theorem q151 : (Jvm.Cond.instanceMethod ({ cls := "LeastDeviations", name := "costThrough", desc := "(III)I" } : Jvm.MethodName)) ∈ lw_all := lw_g (lw_at lw_m1 125 rfl) rfl
theorem q152 : (Jvm.Cond.code ({ cls := "LeastDeviations", name := "costThrough", desc := "(III)I" } : Jvm.MethodName) prog_1_method_18_code (7 : Nat) (Option.some Jvm.ClassFile.FieldType.int)) ∈ lw_all := lw_g (lw_at lw_m1 126 rfl) rfl
theorem q154 : (Jvm.Cond.instanceMethod ({ cls := "LeastDeviations", name := "throughTop", desc := "(I)I" } : Jvm.MethodName)) ∈ lw_all := lw_g (lw_at lw_m1 128 rfl) rfl
theorem q155 : (Jvm.Cond.selects "LeastDeviations" ({ cls := "LeastDeviations", name := "throughTop", desc := "(I)I" } : Jvm.MethodName) ({ cls := "LeastDeviations", name := "throughTop", desc := "(I)I" } : Jvm.MethodName)) ∈ lw_all := lw_g (lw_at lw_m1 129 rfl) rfl
theorem q156 : (Jvm.Cond.code ({ cls := "LeastDeviations", name := "throughTop", desc := "(I)I" } : Jvm.MethodName) prog_1_method_11_code (2 : Nat) (Option.some Jvm.ClassFile.FieldType.int)) ∈ lw_all := lw_g (lw_at lw_m1 130 rfl) rfl
theorem q157 : (Jvm.Cond.methodLink "LeastDeviations" (59 : Nat) ({ cls := "LeastDeviations", name := "solveThrough", desc := "(I)V" } : Jvm.MethodName)) ∈ lw_all := lw_g (lw_at lw_m1 131 rfl) rfl
theorem q158 : (Jvm.Cond.privateMethod ({ cls := "LeastDeviations", name := "solveThrough", desc := "(I)V" } : Jvm.MethodName)) ∈ lw_tbl := lw_at lw_m1 132 rfl
theorem q159 : (Jvm.Cond.instanceMethod ({ cls := "LeastDeviations", name := "solveThrough", desc := "(I)V" } : Jvm.MethodName)) ∈ lw_all := lw_g (lw_at lw_m1 133 rfl) rfl
theorem q160 : (Jvm.Cond.code ({ cls := "LeastDeviations", name := "solveThrough", desc := "(I)V" } : Jvm.MethodName) prog_1_method_19_code (6 : Nat) (Option.none : Option Jvm.ClassFile.FieldType)) ∈ lw_all := lw_g (lw_at lw_m1 134 rfl) rfl
theorem q162 : (Jvm.Cond.instanceMethod ({ cls := "LeastDeviations", name := "throughBottom", desc := "(I)I" } : Jvm.MethodName)) ∈ lw_all := lw_g (lw_at lw_m1 136 rfl) rfl
theorem q163 : (Jvm.Cond.selects "LeastDeviations" ({ cls := "LeastDeviations", name := "throughBottom", desc := "(I)I" } : Jvm.MethodName) ({ cls := "LeastDeviations", name := "throughBottom", desc := "(I)I" } : Jvm.MethodName)) ∈ lw_all := lw_g (lw_at lw_m1 137 rfl) rfl
theorem q164 : (Jvm.Cond.code ({ cls := "LeastDeviations", name := "throughBottom", desc := "(I)I" } : Jvm.MethodName) prog_1_method_12_code (2 : Nat) (Option.some Jvm.ClassFile.FieldType.int)) ∈ lw_all := lw_g (lw_at lw_m1 138 rfl) rfl
theorem q166 : (Jvm.Cond.instanceMethod ({ cls := "LeastDeviations", name := "points", desc := "()I" } : Jvm.MethodName)) ∈ lw_all := lw_g (lw_at lw_m1 140 rfl) rfl
theorem q167 : (Jvm.Cond.selects "LeastDeviations" ({ cls := "LeastDeviations", name := "points", desc := "()I" } : Jvm.MethodName) ({ cls := "LeastDeviations", name := "points", desc := "()I" } : Jvm.MethodName)) ∈ lw_all := lw_g (lw_at lw_m1 141 rfl) rfl
theorem q168 : (Jvm.Cond.code ({ cls := "LeastDeviations", name := "points", desc := "()I" } : Jvm.MethodName) prog_1_method_13_code (1 : Nat) (Option.some Jvm.ClassFile.FieldType.int)) ∈ lw_all := lw_g (lw_at lw_m1 142 rfl) rfl
theorem in_X0 : ∀ w ∈ wsX00, w ∈ lw_all := lw_in wsX00 [49, 51, 53, 55, 57, 59, 61, 63, 65, 67, 69, 71] (by decide +kernel) (by decide +kernel)
end
section
set_option maxRecDepth 100000
/-! LeastDeviationsModel -/
def RX1 : String := "LeastDeviationsModel"
def TX1 : u_T := fun k => match k with
  | 0 => ("LeastDeviationsModel", "n", "I", false)
  | 1 => ("LeastDeviationsModel", "lean", "I", false)
  | 2 => ("LeastDeviationsModel", "px", "[I", false)
  | 3 => ("LeastDeviationsModel", "py", "[I", false)
  | 4 => ("LeastDeviationsModel", "top", "J", false)
  | 5 => ("LeastDeviationsModel", "bottom", "J", false)
  | _ => ("LeastDeviationsModel", "found", "Z", false)
def tyX1 : Nat → FieldType := fun k => match k with
  | 0 => .int
  | 1 => .int
  | 2 => .array .int
  | 3 => .array .int
  | 4 => .long
  | 5 => .long
  | _ => .boolean
abbrev wsX10 : List Cond := u_ws RX1 TX1 7
theorem nmX1 : ∀ a, a < 7 → ∀ b, b < 7 → a ≠ b → (TX1 a).2.1 ≠ (TX1 b).2.1 := by decide +kernel
theorem tyX1_ok : ∀ k, k < 7 → parseFieldDescriptor (TX1 k).2.2.1 = some (tyX1 k) := by decide +kernel
abbrev cX1_init : ByteArray := prog_3_method_1_code
def yX1_init : MethodName := ⟨RX1, "<init>", "()V"⟩
theorem dX1_init_0 : decode cX1_init 0 = .ok (.aload_n 0, 1) := by decide +kernel
theorem dX1_init_1 : decode cX1_init 1 = .ok (.invokespecial 1, 3) := by decide +kernel
theorem dX1_init_4 : decode cX1_init 4 = .ok (.aload_n 0, 1) := by decide +kernel
theorem dX1_init_5 : decode cX1_init 5 = .ok (.iconst 0, 1) := by decide +kernel
theorem dX1_init_6 : decode cX1_init 6 = .ok (.putfield 7, 3) := by decide +kernel
theorem dX1_init_9 : decode cX1_init 9 = .ok (.aload_n 0, 1) := by decide +kernel
theorem dX1_init_10 : decode cX1_init 10 = .ok (.iconst 2, 1) := by decide +kernel
theorem dX1_init_11 : decode cX1_init 11 = .ok (.putfield 13, 3) := by decide +kernel
theorem dX1_init_14 : decode cX1_init 14 = .ok (.aload_n 0, 1) := by decide +kernel
theorem dX1_init_15 : decode cX1_init 15 = .ok (.bipush 8, 2) := by decide +kernel
theorem dX1_init_17 : decode cX1_init 17 = .ok (.newarray .int, 2) := by decide +kernel
theorem dX1_init_19 : decode cX1_init 19 = .ok (.putfield 16, 3) := by decide +kernel
theorem dX1_init_22 : decode cX1_init 22 = .ok (.aload_n 0, 1) := by decide +kernel
theorem dX1_init_23 : decode cX1_init 23 = .ok (.bipush 8, 2) := by decide +kernel
theorem dX1_init_25 : decode cX1_init 25 = .ok (.newarray .int, 2) := by decide +kernel
theorem dX1_init_27 : decode cX1_init 27 = .ok (.putfield 20, 3) := by decide +kernel
theorem dX1_init_30 : decode cX1_init 30 = .ok (.return_, 1) := by decide +kernel
abbrev cX1_add : ByteArray := prog_3_method_3_code
def yX1_add : MethodName := ⟨RX1, "add", "(II)I"⟩
theorem dX1_add_0 : decode cX1_add 0 = .ok (.aload_n 0, 1) := by decide +kernel
theorem dX1_add_1 : decode cX1_add 1 = .ok (.getfield 7, 3) := by decide +kernel
theorem dX1_add_4 : decode cX1_add 4 = .ok (.bipush 8, 2) := by decide +kernel
theorem dX1_add_6 : decode cX1_add 6 = .ok (.if_icmp .ne 6, 3) := by decide +kernel
theorem dX1_add_9 : decode cX1_add 9 = .ok (.bipush (-2), 2) := by decide +kernel
theorem dX1_add_11 : decode cX1_add 11 = .ok (.ireturn, 1) := by decide +kernel
theorem dX1_add_12 : decode cX1_add 12 = .ok (.iload_n 1, 1) := by decide +kernel
theorem dX1_add_13 : decode cX1_add 13 = .ok (.bipush (-20), 2) := by decide +kernel
theorem dX1_add_15 : decode cX1_add 15 = .ok (.if_icmp .lt 21, 3) := by decide +kernel
theorem dX1_add_18 : decode cX1_add 18 = .ok (.iload_n 1, 1) := by decide +kernel
theorem dX1_add_19 : decode cX1_add 19 = .ok (.bipush 20, 2) := by decide +kernel
theorem dX1_add_21 : decode cX1_add 21 = .ok (.if_icmp .gt 15, 3) := by decide +kernel
theorem dX1_add_24 : decode cX1_add 24 = .ok (.iload_n 2, 1) := by decide +kernel
theorem dX1_add_25 : decode cX1_add 25 = .ok (.bipush (-20), 2) := by decide +kernel
theorem dX1_add_27 : decode cX1_add 27 = .ok (.if_icmp .lt 9, 3) := by decide +kernel
theorem dX1_add_30 : decode cX1_add 30 = .ok (.iload_n 2, 1) := by decide +kernel
theorem dX1_add_31 : decode cX1_add 31 = .ok (.bipush 20, 2) := by decide +kernel
theorem dX1_add_33 : decode cX1_add 33 = .ok (.if_icmp .le 5, 3) := by decide +kernel
theorem dX1_add_36 : decode cX1_add 36 = .ok (.iconst (-1), 1) := by decide +kernel
theorem dX1_add_37 : decode cX1_add 37 = .ok (.ireturn, 1) := by decide +kernel
theorem dX1_add_38 : decode cX1_add 38 = .ok (.aload_n 0, 1) := by decide +kernel
theorem dX1_add_39 : decode cX1_add 39 = .ok (.getfield 16, 3) := by decide +kernel
theorem dX1_add_42 : decode cX1_add 42 = .ok (.aload_n 0, 1) := by decide +kernel
theorem dX1_add_43 : decode cX1_add 43 = .ok (.getfield 7, 3) := by decide +kernel
theorem dX1_add_46 : decode cX1_add 46 = .ok (.iload_n 1, 1) := by decide +kernel
theorem dX1_add_47 : decode cX1_add 47 = .ok (.iastore, 1) := by decide +kernel
theorem dX1_add_48 : decode cX1_add 48 = .ok (.aload_n 0, 1) := by decide +kernel
theorem dX1_add_49 : decode cX1_add 49 = .ok (.getfield 20, 3) := by decide +kernel
theorem dX1_add_52 : decode cX1_add 52 = .ok (.aload_n 0, 1) := by decide +kernel
theorem dX1_add_53 : decode cX1_add 53 = .ok (.getfield 7, 3) := by decide +kernel
theorem dX1_add_56 : decode cX1_add 56 = .ok (.iload_n 2, 1) := by decide +kernel
theorem dX1_add_57 : decode cX1_add 57 = .ok (.iastore, 1) := by decide +kernel
theorem dX1_add_58 : decode cX1_add 58 = .ok (.aload_n 0, 1) := by decide +kernel
theorem dX1_add_59 : decode cX1_add 59 = .ok (.dup, 1) := by decide +kernel
theorem dX1_add_60 : decode cX1_add 60 = .ok (.getfield 7, 3) := by decide +kernel
theorem dX1_add_63 : decode cX1_add 63 = .ok (.iconst 1, 1) := by decide +kernel
theorem dX1_add_64 : decode cX1_add 64 = .ok (.iadd, 1) := by decide +kernel
theorem dX1_add_65 : decode cX1_add 65 = .ok (.putfield 7, 3) := by decide +kernel
theorem dX1_add_68 : decode cX1_add 68 = .ok (.aload_n 0, 1) := by decide +kernel
theorem dX1_add_69 : decode cX1_add 69 = .ok (.getfield 7, 3) := by decide +kernel
theorem dX1_add_72 : decode cX1_add 72 = .ok (.ireturn, 1) := by decide +kernel
abbrev cX1_drop : ByteArray := prog_3_method_4_code
def yX1_drop : MethodName := ⟨RX1, "drop", "(I)I"⟩
theorem dX1_drop_0 : decode cX1_drop 0 = .ok (.aload_n 0, 1) := by decide +kernel
theorem dX1_drop_1 : decode cX1_drop 1 = .ok (.iload_n 1, 1) := by decide +kernel
theorem dX1_drop_2 : decode cX1_drop 2 = .ok (.invokevirtual 23, 3) := by decide +kernel
theorem dX1_drop_5 : decode cX1_drop 5 = .ok (.ifCond .ne 5, 3) := by decide +kernel
theorem dX1_drop_8 : decode cX1_drop 8 = .ok (.iconst (-1), 1) := by decide +kernel
theorem dX1_drop_9 : decode cX1_drop 9 = .ok (.ireturn, 1) := by decide +kernel
theorem dX1_drop_10 : decode cX1_drop 10 = .ok (.iload_n 1, 1) := by decide +kernel
theorem dX1_drop_11 : decode cX1_drop 11 = .ok (.istore_n 2, 1) := by decide +kernel
theorem dX1_drop_12 : decode cX1_drop 12 = .ok (.iload_n 2, 1) := by decide +kernel
theorem dX1_drop_13 : decode cX1_drop 13 = .ok (.aload_n 0, 1) := by decide +kernel
theorem dX1_drop_14 : decode cX1_drop 14 = .ok (.getfield 7, 3) := by decide +kernel
theorem dX1_drop_17 : decode cX1_drop 17 = .ok (.iconst 1, 1) := by decide +kernel
theorem dX1_drop_18 : decode cX1_drop 18 = .ok (.isub, 1) := by decide +kernel
theorem dX1_drop_19 : decode cX1_drop 19 = .ok (.if_icmp .ge 37, 3) := by decide +kernel
theorem dX1_drop_22 : decode cX1_drop 22 = .ok (.aload_n 0, 1) := by decide +kernel
theorem dX1_drop_23 : decode cX1_drop 23 = .ok (.getfield 16, 3) := by decide +kernel
theorem dX1_drop_26 : decode cX1_drop 26 = .ok (.iload_n 2, 1) := by decide +kernel
theorem dX1_drop_27 : decode cX1_drop 27 = .ok (.aload_n 0, 1) := by decide +kernel
theorem dX1_drop_28 : decode cX1_drop 28 = .ok (.getfield 16, 3) := by decide +kernel
theorem dX1_drop_31 : decode cX1_drop 31 = .ok (.iload_n 2, 1) := by decide +kernel
theorem dX1_drop_32 : decode cX1_drop 32 = .ok (.iconst 1, 1) := by decide +kernel
theorem dX1_drop_33 : decode cX1_drop 33 = .ok (.iadd, 1) := by decide +kernel
theorem dX1_drop_34 : decode cX1_drop 34 = .ok (.iaload, 1) := by decide +kernel
theorem dX1_drop_35 : decode cX1_drop 35 = .ok (.iastore, 1) := by decide +kernel
theorem dX1_drop_36 : decode cX1_drop 36 = .ok (.aload_n 0, 1) := by decide +kernel
theorem dX1_drop_37 : decode cX1_drop 37 = .ok (.getfield 20, 3) := by decide +kernel
theorem dX1_drop_40 : decode cX1_drop 40 = .ok (.iload_n 2, 1) := by decide +kernel
theorem dX1_drop_41 : decode cX1_drop 41 = .ok (.aload_n 0, 1) := by decide +kernel
theorem dX1_drop_42 : decode cX1_drop 42 = .ok (.getfield 20, 3) := by decide +kernel
theorem dX1_drop_45 : decode cX1_drop 45 = .ok (.iload_n 2, 1) := by decide +kernel
theorem dX1_drop_46 : decode cX1_drop 46 = .ok (.iconst 1, 1) := by decide +kernel
theorem dX1_drop_47 : decode cX1_drop 47 = .ok (.iadd, 1) := by decide +kernel
theorem dX1_drop_48 : decode cX1_drop 48 = .ok (.iaload, 1) := by decide +kernel
theorem dX1_drop_49 : decode cX1_drop 49 = .ok (.iastore, 1) := by decide +kernel
theorem dX1_drop_50 : decode cX1_drop 50 = .ok (.iinc 2 1, 3) := by decide +kernel
theorem dX1_drop_53 : decode cX1_drop 53 = .ok (.goto (-41), 3) := by decide +kernel
theorem dX1_drop_56 : decode cX1_drop 56 = .ok (.aload_n 0, 1) := by decide +kernel
theorem dX1_drop_57 : decode cX1_drop 57 = .ok (.dup, 1) := by decide +kernel
theorem dX1_drop_58 : decode cX1_drop 58 = .ok (.getfield 7, 3) := by decide +kernel
theorem dX1_drop_61 : decode cX1_drop 61 = .ok (.iconst 1, 1) := by decide +kernel
theorem dX1_drop_62 : decode cX1_drop 62 = .ok (.isub, 1) := by decide +kernel
theorem dX1_drop_63 : decode cX1_drop 63 = .ok (.putfield 7, 3) := by decide +kernel
theorem dX1_drop_66 : decode cX1_drop 66 = .ok (.aload_n 0, 1) := by decide +kernel
theorem dX1_drop_67 : decode cX1_drop 67 = .ok (.getfield 7, 3) := by decide +kernel
theorem dX1_drop_70 : decode cX1_drop 70 = .ok (.ireturn, 1) := by decide +kernel
abbrev cX1_isPoint : ByteArray := prog_3_method_2_code
def yX1_isPoint : MethodName := ⟨RX1, "isPoint", "(I)Z"⟩
theorem dX1_isPoint_0 : decode cX1_isPoint 0 = .ok (.iload_n 1, 1) := by decide +kernel
theorem dX1_isPoint_1 : decode cX1_isPoint 1 = .ok (.ifCond .lt 15, 3) := by decide +kernel
theorem dX1_isPoint_4 : decode cX1_isPoint 4 = .ok (.iload_n 1, 1) := by decide +kernel
theorem dX1_isPoint_5 : decode cX1_isPoint 5 = .ok (.aload_n 0, 1) := by decide +kernel
theorem dX1_isPoint_6 : decode cX1_isPoint 6 = .ok (.getfield 7, 3) := by decide +kernel
theorem dX1_isPoint_9 : decode cX1_isPoint 9 = .ok (.if_icmp .ge 7, 3) := by decide +kernel
theorem dX1_isPoint_12 : decode cX1_isPoint 12 = .ok (.iconst 1, 1) := by decide +kernel
theorem dX1_isPoint_13 : decode cX1_isPoint 13 = .ok (.goto 4, 3) := by decide +kernel
theorem dX1_isPoint_16 : decode cX1_isPoint 16 = .ok (.iconst 0, 1) := by decide +kernel
theorem dX1_isPoint_17 : decode cX1_isPoint 17 = .ok (.ireturn, 1) := by decide +kernel
abbrev cX1_lean : ByteArray := prog_3_method_5_code
def yX1_lean : MethodName := ⟨RX1, "lean", "(I)Z"⟩
theorem dX1_lean_0 : decode cX1_lean 0 = .ok (.iload_n 1, 1) := by decide +kernel
theorem dX1_lean_1 : decode cX1_lean 1 = .ok (.iconst 1, 1) := by decide +kernel
theorem dX1_lean_2 : decode cX1_lean 2 = .ok (.if_icmp .lt 8, 3) := by decide +kernel
theorem dX1_lean_5 : decode cX1_lean 5 = .ok (.iload_n 1, 1) := by decide +kernel
theorem dX1_lean_6 : decode cX1_lean 6 = .ok (.iconst 3, 1) := by decide +kernel
theorem dX1_lean_7 : decode cX1_lean 7 = .ok (.if_icmp .le 5, 3) := by decide +kernel
theorem dX1_lean_10 : decode cX1_lean 10 = .ok (.iconst 0, 1) := by decide +kernel
theorem dX1_lean_11 : decode cX1_lean 11 = .ok (.ireturn, 1) := by decide +kernel
theorem dX1_lean_12 : decode cX1_lean 12 = .ok (.aload_n 0, 1) := by decide +kernel
theorem dX1_lean_13 : decode cX1_lean 13 = .ok (.iload_n 1, 1) := by decide +kernel
theorem dX1_lean_14 : decode cX1_lean 14 = .ok (.putfield 13, 3) := by decide +kernel
theorem dX1_lean_17 : decode cX1_lean 17 = .ok (.iconst 1, 1) := by decide +kernel
theorem dX1_lean_18 : decode cX1_lean 18 = .ok (.ireturn, 1) := by decide +kernel
abbrev cX1_leastTop : ByteArray := prog_3_method_17_code
def yX1_leastTop : MethodName := ⟨RX1, "leastTop", "()I"⟩
theorem dX1_leastTop_0 : decode cX1_leastTop 0 = .ok (.aload_n 0, 1) := by decide +kernel
theorem dX1_leastTop_1 : decode cX1_leastTop 1 = .ok (.invokevirtual 68, 3) := by decide +kernel
theorem dX1_leastTop_4 : decode cX1_leastTop 4 = .ok (.aload_n 0, 1) := by decide +kernel
theorem dX1_leastTop_5 : decode cX1_leastTop 5 = .ok (.invokevirtual 71, 3) := by decide +kernel
theorem dX1_leastTop_8 : decode cX1_leastTop 8 = .ok (.ireturn, 1) := by decide +kernel
abbrev cX1_least : ByteArray := prog_3_method_13_code
def yX1_least : MethodName := ⟨RX1, "least", "()V"⟩
theorem dX1_least_0 : decode cX1_least 0 = .ok (.aload_n 0, 1) := by decide +kernel
theorem dX1_least_1 : decode cX1_least 1 = .ok (.invokevirtual 57, 3) := by decide +kernel
theorem dX1_least_4 : decode cX1_least 4 = .ok (.iconst 0, 1) := by decide +kernel
theorem dX1_least_5 : decode cX1_least 5 = .ok (.istore_n 1, 1) := by decide +kernel
theorem dX1_least_6 : decode cX1_least 6 = .ok (.iload_n 1, 1) := by decide +kernel
theorem dX1_least_7 : decode cX1_least 7 = .ok (.aload_n 0, 1) := by decide +kernel
theorem dX1_least_8 : decode cX1_least 8 = .ok (.getfield 7, 3) := by decide +kernel
theorem dX1_least_11 : decode cX1_least 11 = .ok (.if_icmp .ge 14, 3) := by decide +kernel
theorem dX1_least_14 : decode cX1_least 14 = .ok (.aload_n 0, 1) := by decide +kernel
theorem dX1_least_15 : decode cX1_least 15 = .ok (.iload_n 1, 1) := by decide +kernel
theorem dX1_least_16 : decode cX1_least 16 = .ok (.invokevirtual 60, 3) := by decide +kernel
theorem dX1_least_19 : decode cX1_least 19 = .ok (.iinc 1 1, 3) := by decide +kernel
theorem dX1_least_22 : decode cX1_least 22 = .ok (.goto (-16), 3) := by decide +kernel
theorem dX1_least_25 : decode cX1_least 25 = .ok (.return_, 1) := by decide +kernel
abbrev cX1_begin : ByteArray := prog_3_method_12_code
def yX1_begin : MethodName := ⟨RX1, "begin", "()V"⟩
theorem dX1_begin_0 : decode cX1_begin 0 = .ok (.aload_n 0, 1) := by decide +kernel
theorem dX1_begin_1 : decode cX1_begin 1 = .ok (.iconst 0, 1) := by decide +kernel
theorem dX1_begin_2 : decode cX1_begin 2 = .ok (.putfield 31, 3) := by decide +kernel
theorem dX1_begin_5 : decode cX1_begin 5 = .ok (.aload_n 0, 1) := by decide +kernel
theorem dX1_begin_6 : decode cX1_begin 6 = .ok (.lconst 0, 1) := by decide +kernel
theorem dX1_begin_7 : decode cX1_begin 7 = .ok (.putfield 39, 3) := by decide +kernel
theorem dX1_begin_10 : decode cX1_begin 10 = .ok (.aload_n 0, 1) := by decide +kernel
theorem dX1_begin_11 : decode cX1_begin 11 = .ok (.lconst 1, 1) := by decide +kernel
theorem dX1_begin_12 : decode cX1_begin 12 = .ok (.putfield 35, 3) := by decide +kernel
theorem dX1_begin_15 : decode cX1_begin 15 = .ok (.return_, 1) := by decide +kernel
abbrev cX1_lookThrough : ByteArray := prog_3_method_11_code
def yX1_lookThrough : MethodName := ⟨RX1, "lookThrough", "(I)V"⟩
theorem dX1_lookThrough_0 : decode cX1_lookThrough 0 = .ok (.iconst 1, 1) := by decide +kernel
theorem dX1_lookThrough_1 : decode cX1_lookThrough 1 = .ok (.istore_n 2, 1) := by decide +kernel
theorem dX1_lookThrough_2 : decode cX1_lookThrough 2 = .ok (.iconst 0, 1) := by decide +kernel
theorem dX1_lookThrough_3 : decode cX1_lookThrough 3 = .ok (.istore_n 3, 1) := by decide +kernel
theorem dX1_lookThrough_4 : decode cX1_lookThrough 4 = .ok (.iload_n 3, 1) := by decide +kernel
theorem dX1_lookThrough_5 : decode cX1_lookThrough 5 = .ok (.aload_n 0, 1) := by decide +kernel
theorem dX1_lookThrough_6 : decode cX1_lookThrough 6 = .ok (.getfield 7, 3) := by decide +kernel
theorem dX1_lookThrough_9 : decode cX1_lookThrough 9 = .ok (.if_icmp .ge 62, 3) := by decide +kernel
theorem dX1_lookThrough_12 : decode cX1_lookThrough 12 = .ok (.aload_n 0, 1) := by decide +kernel
theorem dX1_lookThrough_13 : decode cX1_lookThrough 13 = .ok (.getfield 16, 3) := by decide +kernel
theorem dX1_lookThrough_16 : decode cX1_lookThrough 16 = .ok (.iload_n 3, 1) := by decide +kernel
theorem dX1_lookThrough_17 : decode cX1_lookThrough 17 = .ok (.iaload, 1) := by decide +kernel
theorem dX1_lookThrough_18 : decode cX1_lookThrough 18 = .ok (.aload_n 0, 1) := by decide +kernel
theorem dX1_lookThrough_19 : decode cX1_lookThrough 19 = .ok (.getfield 16, 3) := by decide +kernel
theorem dX1_lookThrough_22 : decode cX1_lookThrough 22 = .ok (.iload_n 1, 1) := by decide +kernel
theorem dX1_lookThrough_23 : decode cX1_lookThrough 23 = .ok (.iaload, 1) := by decide +kernel
theorem dX1_lookThrough_24 : decode cX1_lookThrough 24 = .ok (.if_icmp .eq 41, 3) := by decide +kernel
theorem dX1_lookThrough_27 : decode cX1_lookThrough 27 = .ok (.aload_n 0, 1) := by decide +kernel
theorem dX1_lookThrough_28 : decode cX1_lookThrough 28 = .ok (.iload_n 1, 1) := by decide +kernel
theorem dX1_lookThrough_29 : decode cX1_lookThrough 29 = .ok (.iload_n 3, 1) := by decide +kernel
theorem dX1_lookThrough_30 : decode cX1_lookThrough 30 = .ok (.invokevirtual 42, 3) := by decide +kernel
theorem dX1_lookThrough_33 : decode cX1_lookThrough 33 = .ok (.istore 4, 2) := by decide +kernel
theorem dX1_lookThrough_35 : decode cX1_lookThrough 35 = .ok (.aload_n 0, 1) := by decide +kernel
theorem dX1_lookThrough_36 : decode cX1_lookThrough 36 = .ok (.iload_n 1, 1) := by decide +kernel
theorem dX1_lookThrough_37 : decode cX1_lookThrough 37 = .ok (.iload_n 3, 1) := by decide +kernel
theorem dX1_lookThrough_38 : decode cX1_lookThrough 38 = .ok (.invokevirtual 46, 3) := by decide +kernel
theorem dX1_lookThrough_41 : decode cX1_lookThrough 41 = .ok (.istore 5, 2) := by decide +kernel
theorem dX1_lookThrough_43 : decode cX1_lookThrough 43 = .ok (.aload_n 0, 1) := by decide +kernel
theorem dX1_lookThrough_44 : decode cX1_lookThrough 44 = .ok (.iload_n 1, 1) := by decide +kernel
theorem dX1_lookThrough_45 : decode cX1_lookThrough 45 = .ok (.iload 4, 2) := by decide +kernel
theorem dX1_lookThrough_47 : decode cX1_lookThrough 47 = .ok (.iload 5, 2) := by decide +kernel
theorem dX1_lookThrough_49 : decode cX1_lookThrough 49 = .ok (.invokevirtual 49, 3) := by decide +kernel
theorem dX1_lookThrough_52 : decode cX1_lookThrough 52 = .ok (.lstore 6, 2) := by decide +kernel
theorem dX1_lookThrough_54 : decode cX1_lookThrough 54 = .ok (.aload_n 0, 1) := by decide +kernel
theorem dX1_lookThrough_55 : decode cX1_lookThrough 55 = .ok (.lload 6, 2) := by decide +kernel
theorem dX1_lookThrough_57 : decode cX1_lookThrough 57 = .ok (.iload 5, 2) := by decide +kernel
theorem dX1_lookThrough_59 : decode cX1_lookThrough 59 = .ok (.i2l, 1) := by decide +kernel
theorem dX1_lookThrough_60 : decode cX1_lookThrough 60 = .ok (.invokevirtual 53, 3) := by decide +kernel
theorem dX1_lookThrough_63 : decode cX1_lookThrough 63 = .ok (.iconst 0, 1) := by decide +kernel
theorem dX1_lookThrough_64 : decode cX1_lookThrough 64 = .ok (.istore_n 2, 1) := by decide +kernel
theorem dX1_lookThrough_65 : decode cX1_lookThrough 65 = .ok (.iinc 3 1, 3) := by decide +kernel
theorem dX1_lookThrough_68 : decode cX1_lookThrough 68 = .ok (.goto (-64), 3) := by decide +kernel
theorem dX1_lookThrough_71 : decode cX1_lookThrough 71 = .ok (.aload_n 0, 1) := by decide +kernel
theorem dX1_lookThrough_72 : decode cX1_lookThrough 72 = .ok (.iload_n 1, 1) := by decide +kernel
theorem dX1_lookThrough_73 : decode cX1_lookThrough 73 = .ok (.iconst 0, 1) := by decide +kernel
theorem dX1_lookThrough_74 : decode cX1_lookThrough 74 = .ok (.iconst 1, 1) := by decide +kernel
theorem dX1_lookThrough_75 : decode cX1_lookThrough 75 = .ok (.invokevirtual 49, 3) := by decide +kernel
theorem dX1_lookThrough_78 : decode cX1_lookThrough 78 = .ok (.lstore_n 3, 1) := by decide +kernel
theorem dX1_lookThrough_79 : decode cX1_lookThrough 79 = .ok (.iload_n 2, 1) := by decide +kernel
theorem dX1_lookThrough_80 : decode cX1_lookThrough 80 = .ok (.ifCond .eq 9, 3) := by decide +kernel
theorem dX1_lookThrough_83 : decode cX1_lookThrough 83 = .ok (.aload_n 0, 1) := by decide +kernel
theorem dX1_lookThrough_84 : decode cX1_lookThrough 84 = .ok (.lload_n 3, 1) := by decide +kernel
theorem dX1_lookThrough_85 : decode cX1_lookThrough 85 = .ok (.lconst 1, 1) := by decide +kernel
theorem dX1_lookThrough_86 : decode cX1_lookThrough 86 = .ok (.invokevirtual 53, 3) := by decide +kernel
theorem dX1_lookThrough_89 : decode cX1_lookThrough 89 = .ok (.return_, 1) := by decide +kernel
abbrev cX1_rise : ByteArray := prog_3_method_9_code
def yX1_rise : MethodName := ⟨RX1, "rise", "(II)I"⟩
theorem dX1_rise_0 : decode cX1_rise 0 = .ok (.aload_n 0, 1) := by decide +kernel
theorem dX1_rise_1 : decode cX1_rise 1 = .ok (.getfield 16, 3) := by decide +kernel
theorem dX1_rise_4 : decode cX1_rise 4 = .ok (.iload_n 2, 1) := by decide +kernel
theorem dX1_rise_5 : decode cX1_rise 5 = .ok (.iaload, 1) := by decide +kernel
theorem dX1_rise_6 : decode cX1_rise 6 = .ok (.aload_n 0, 1) := by decide +kernel
theorem dX1_rise_7 : decode cX1_rise 7 = .ok (.getfield 16, 3) := by decide +kernel
theorem dX1_rise_10 : decode cX1_rise 10 = .ok (.iload_n 1, 1) := by decide +kernel
theorem dX1_rise_11 : decode cX1_rise 11 = .ok (.iaload, 1) := by decide +kernel
theorem dX1_rise_12 : decode cX1_rise 12 = .ok (.if_icmp .le 19, 3) := by decide +kernel
theorem dX1_rise_15 : decode cX1_rise 15 = .ok (.aload_n 0, 1) := by decide +kernel
theorem dX1_rise_16 : decode cX1_rise 16 = .ok (.getfield 20, 3) := by decide +kernel
theorem dX1_rise_19 : decode cX1_rise 19 = .ok (.iload_n 2, 1) := by decide +kernel
theorem dX1_rise_20 : decode cX1_rise 20 = .ok (.iaload, 1) := by decide +kernel
theorem dX1_rise_21 : decode cX1_rise 21 = .ok (.aload_n 0, 1) := by decide +kernel
theorem dX1_rise_22 : decode cX1_rise 22 = .ok (.getfield 20, 3) := by decide +kernel
theorem dX1_rise_25 : decode cX1_rise 25 = .ok (.iload_n 1, 1) := by decide +kernel
theorem dX1_rise_26 : decode cX1_rise 26 = .ok (.iaload, 1) := by decide +kernel
theorem dX1_rise_27 : decode cX1_rise 27 = .ok (.isub, 1) := by decide +kernel
theorem dX1_rise_28 : decode cX1_rise 28 = .ok (.goto 16, 3) := by decide +kernel
theorem dX1_rise_31 : decode cX1_rise 31 = .ok (.aload_n 0, 1) := by decide +kernel
theorem dX1_rise_32 : decode cX1_rise 32 = .ok (.getfield 20, 3) := by decide +kernel
theorem dX1_rise_35 : decode cX1_rise 35 = .ok (.iload_n 1, 1) := by decide +kernel
theorem dX1_rise_36 : decode cX1_rise 36 = .ok (.iaload, 1) := by decide +kernel
theorem dX1_rise_37 : decode cX1_rise 37 = .ok (.aload_n 0, 1) := by decide +kernel
theorem dX1_rise_38 : decode cX1_rise 38 = .ok (.getfield 20, 3) := by decide +kernel
theorem dX1_rise_41 : decode cX1_rise 41 = .ok (.iload_n 2, 1) := by decide +kernel
theorem dX1_rise_42 : decode cX1_rise 42 = .ok (.iaload, 1) := by decide +kernel
theorem dX1_rise_43 : decode cX1_rise 43 = .ok (.isub, 1) := by decide +kernel
theorem dX1_rise_44 : decode cX1_rise 44 = .ok (.ireturn, 1) := by decide +kernel
abbrev cX1_run : ByteArray := prog_3_method_8_code
def yX1_run : MethodName := ⟨RX1, "run", "(II)I"⟩
theorem dX1_run_0 : decode cX1_run 0 = .ok (.aload_n 0, 1) := by decide +kernel
theorem dX1_run_1 : decode cX1_run 1 = .ok (.getfield 16, 3) := by decide +kernel
theorem dX1_run_4 : decode cX1_run 4 = .ok (.iload_n 2, 1) := by decide +kernel
theorem dX1_run_5 : decode cX1_run 5 = .ok (.iaload, 1) := by decide +kernel
theorem dX1_run_6 : decode cX1_run 6 = .ok (.aload_n 0, 1) := by decide +kernel
theorem dX1_run_7 : decode cX1_run 7 = .ok (.getfield 16, 3) := by decide +kernel
theorem dX1_run_10 : decode cX1_run 10 = .ok (.iload_n 1, 1) := by decide +kernel
theorem dX1_run_11 : decode cX1_run 11 = .ok (.iaload, 1) := by decide +kernel
theorem dX1_run_12 : decode cX1_run 12 = .ok (.if_icmp .le 19, 3) := by decide +kernel
theorem dX1_run_15 : decode cX1_run 15 = .ok (.aload_n 0, 1) := by decide +kernel
theorem dX1_run_16 : decode cX1_run 16 = .ok (.getfield 16, 3) := by decide +kernel
theorem dX1_run_19 : decode cX1_run 19 = .ok (.iload_n 2, 1) := by decide +kernel
theorem dX1_run_20 : decode cX1_run 20 = .ok (.iaload, 1) := by decide +kernel
theorem dX1_run_21 : decode cX1_run 21 = .ok (.aload_n 0, 1) := by decide +kernel
theorem dX1_run_22 : decode cX1_run 22 = .ok (.getfield 16, 3) := by decide +kernel
theorem dX1_run_25 : decode cX1_run 25 = .ok (.iload_n 1, 1) := by decide +kernel
theorem dX1_run_26 : decode cX1_run 26 = .ok (.iaload, 1) := by decide +kernel
theorem dX1_run_27 : decode cX1_run 27 = .ok (.isub, 1) := by decide +kernel
theorem dX1_run_28 : decode cX1_run 28 = .ok (.goto 16, 3) := by decide +kernel
theorem dX1_run_31 : decode cX1_run 31 = .ok (.aload_n 0, 1) := by decide +kernel
theorem dX1_run_32 : decode cX1_run 32 = .ok (.getfield 16, 3) := by decide +kernel
theorem dX1_run_35 : decode cX1_run 35 = .ok (.iload_n 1, 1) := by decide +kernel
theorem dX1_run_36 : decode cX1_run 36 = .ok (.iaload, 1) := by decide +kernel
theorem dX1_run_37 : decode cX1_run 37 = .ok (.aload_n 0, 1) := by decide +kernel
theorem dX1_run_38 : decode cX1_run 38 = .ok (.getfield 16, 3) := by decide +kernel
theorem dX1_run_41 : decode cX1_run 41 = .ok (.iload_n 2, 1) := by decide +kernel
theorem dX1_run_42 : decode cX1_run 42 = .ok (.iaload, 1) := by decide +kernel
theorem dX1_run_43 : decode cX1_run 43 = .ok (.isub, 1) := by decide +kernel
theorem dX1_run_44 : decode cX1_run 44 = .ok (.ireturn, 1) := by decide +kernel
abbrev cX1_costOf : ByteArray := prog_3_method_7_code
def yX1_costOf : MethodName := ⟨RX1, "costOf", "(III)J"⟩
theorem dX1_costOf_0 : decode cX1_costOf 0 = .ok (.lconst 0, 1) := by decide +kernel
theorem dX1_costOf_1 : decode cX1_costOf 1 = .ok (.lstore 4, 2) := by decide +kernel
theorem dX1_costOf_3 : decode cX1_costOf 3 = .ok (.iconst 0, 1) := by decide +kernel
theorem dX1_costOf_4 : decode cX1_costOf 4 = .ok (.istore 6, 2) := by decide +kernel
theorem dX1_costOf_6 : decode cX1_costOf 6 = .ok (.iload 6, 2) := by decide +kernel
theorem dX1_costOf_8 : decode cX1_costOf 8 = .ok (.aload_n 0, 1) := by decide +kernel
theorem dX1_costOf_9 : decode cX1_costOf 9 = .ok (.getfield 7, 3) := by decide +kernel
theorem dX1_costOf_12 : decode cX1_costOf 12 = .ok (.if_icmp .ge 55, 3) := by decide +kernel
theorem dX1_costOf_15 : decode cX1_costOf 15 = .ok (.lload 4, 2) := by decide +kernel
theorem dX1_costOf_17 : decode cX1_costOf 17 = .ok (.aload_n 0, 1) := by decide +kernel
theorem dX1_costOf_18 : decode cX1_costOf 18 = .ok (.iload_n 3, 1) := by decide +kernel
theorem dX1_costOf_19 : decode cX1_costOf 19 = .ok (.i2l, 1) := by decide +kernel
theorem dX1_costOf_20 : decode cX1_costOf 20 = .ok (.aload_n 0, 1) := by decide +kernel
theorem dX1_costOf_21 : decode cX1_costOf 21 = .ok (.getfield 20, 3) := by decide +kernel
theorem dX1_costOf_24 : decode cX1_costOf 24 = .ok (.iload 6, 2) := by decide +kernel
theorem dX1_costOf_26 : decode cX1_costOf 26 = .ok (.iaload, 1) := by decide +kernel
theorem dX1_costOf_27 : decode cX1_costOf 27 = .ok (.aload_n 0, 1) := by decide +kernel
theorem dX1_costOf_28 : decode cX1_costOf 28 = .ok (.getfield 20, 3) := by decide +kernel
theorem dX1_costOf_31 : decode cX1_costOf 31 = .ok (.iload_n 1, 1) := by decide +kernel
theorem dX1_costOf_32 : decode cX1_costOf 32 = .ok (.iaload, 1) := by decide +kernel
theorem dX1_costOf_33 : decode cX1_costOf 33 = .ok (.isub, 1) := by decide +kernel
theorem dX1_costOf_34 : decode cX1_costOf 34 = .ok (.i2l, 1) := by decide +kernel
theorem dX1_costOf_35 : decode cX1_costOf 35 = .ok (.lmul, 1) := by decide +kernel
theorem dX1_costOf_36 : decode cX1_costOf 36 = .ok (.iload_n 2, 1) := by decide +kernel
theorem dX1_costOf_37 : decode cX1_costOf 37 = .ok (.i2l, 1) := by decide +kernel
theorem dX1_costOf_38 : decode cX1_costOf 38 = .ok (.aload_n 0, 1) := by decide +kernel
theorem dX1_costOf_39 : decode cX1_costOf 39 = .ok (.getfield 16, 3) := by decide +kernel
theorem dX1_costOf_42 : decode cX1_costOf 42 = .ok (.iload 6, 2) := by decide +kernel
theorem dX1_costOf_44 : decode cX1_costOf 44 = .ok (.iaload, 1) := by decide +kernel
theorem dX1_costOf_45 : decode cX1_costOf 45 = .ok (.aload_n 0, 1) := by decide +kernel
theorem dX1_costOf_46 : decode cX1_costOf 46 = .ok (.getfield 16, 3) := by decide +kernel
theorem dX1_costOf_49 : decode cX1_costOf 49 = .ok (.iload_n 1, 1) := by decide +kernel
theorem dX1_costOf_50 : decode cX1_costOf 50 = .ok (.iaload, 1) := by decide +kernel
theorem dX1_costOf_51 : decode cX1_costOf 51 = .ok (.isub, 1) := by decide +kernel
theorem dX1_costOf_52 : decode cX1_costOf 52 = .ok (.i2l, 1) := by decide +kernel
theorem dX1_costOf_53 : decode cX1_costOf 53 = .ok (.lmul, 1) := by decide +kernel
theorem dX1_costOf_54 : decode cX1_costOf 54 = .ok (.lsub, 1) := by decide +kernel
theorem dX1_costOf_55 : decode cX1_costOf 55 = .ok (.invokevirtual 27, 3) := by decide +kernel
theorem dX1_costOf_58 : decode cX1_costOf 58 = .ok (.ladd, 1) := by decide +kernel
theorem dX1_costOf_59 : decode cX1_costOf 59 = .ok (.lstore 4, 2) := by decide +kernel
theorem dX1_costOf_61 : decode cX1_costOf 61 = .ok (.iinc 6 1, 3) := by decide +kernel
theorem dX1_costOf_64 : decode cX1_costOf 64 = .ok (.goto (-58), 3) := by decide +kernel
theorem dX1_costOf_67 : decode cX1_costOf 67 = .ok (.lload 4, 2) := by decide +kernel
theorem dX1_costOf_69 : decode cX1_costOf 69 = .ok (.lreturn, 1) := by decide +kernel
end
section
set_option maxRecDepth 100000
abbrev cX1_cost : ByteArray := prog_3_method_6_code
def yX1_cost : MethodName := ⟨RX1, "cost", "(J)J"⟩
theorem dX1_cost_0 : decode cX1_cost 0 = .ok (.lload_n 1, 1) := by decide +kernel
theorem dX1_cost_1 : decode cX1_cost 1 = .ok (.lconst 0, 1) := by decide +kernel
theorem dX1_cost_2 : decode cX1_cost 2 = .ok (.lcmp, 1) := by decide +kernel
theorem dX1_cost_3 : decode cX1_cost 3 = .ok (.ifCond .le 13, 3) := by decide +kernel
theorem dX1_cost_6 : decode cX1_cost 6 = .ok (.aload_n 0, 1) := by decide +kernel
theorem dX1_cost_7 : decode cX1_cost 7 = .ok (.getfield 13, 3) := by decide +kernel
theorem dX1_cost_10 : decode cX1_cost 10 = .ok (.i2l, 1) := by decide +kernel
theorem dX1_cost_11 : decode cX1_cost 11 = .ok (.lload_n 1, 1) := by decide +kernel
theorem dX1_cost_12 : decode cX1_cost 12 = .ok (.lmul, 1) := by decide +kernel
theorem dX1_cost_13 : decode cX1_cost 13 = .ok (.goto 12, 3) := by decide +kernel
theorem dX1_cost_16 : decode cX1_cost 16 = .ok (.aload_n 0, 1) := by decide +kernel
theorem dX1_cost_17 : decode cX1_cost 17 = .ok (.getfield 13, 3) := by decide +kernel
theorem dX1_cost_20 : decode cX1_cost 20 = .ok (.iconst 4, 1) := by decide +kernel
theorem dX1_cost_21 : decode cX1_cost 21 = .ok (.isub, 1) := by decide +kernel
theorem dX1_cost_22 : decode cX1_cost 22 = .ok (.i2l, 1) := by decide +kernel
theorem dX1_cost_23 : decode cX1_cost 23 = .ok (.lload_n 1, 1) := by decide +kernel
theorem dX1_cost_24 : decode cX1_cost 24 = .ok (.lmul, 1) := by decide +kernel
theorem dX1_cost_25 : decode cX1_cost 25 = .ok (.lreturn, 1) := by decide +kernel
abbrev cX1_look : ByteArray := prog_3_method_10_code
def yX1_look : MethodName := ⟨RX1, "look", "(JJ)V"⟩
theorem dX1_look_0 : decode cX1_look 0 = .ok (.aload_n 0, 1) := by decide +kernel
theorem dX1_look_1 : decode cX1_look 1 = .ok (.getfield 31, 3) := by decide +kernel
theorem dX1_look_4 : decode cX1_look 4 = .ok (.ifCond .eq 19, 3) := by decide +kernel
theorem dX1_look_7 : decode cX1_look 7 = .ok (.lload_n 1, 1) := by decide +kernel
theorem dX1_look_8 : decode cX1_look 8 = .ok (.aload_n 0, 1) := by decide +kernel
theorem dX1_look_9 : decode cX1_look 9 = .ok (.getfield 35, 3) := by decide +kernel
theorem dX1_look_12 : decode cX1_look 12 = .ok (.lmul, 1) := by decide +kernel
theorem dX1_look_13 : decode cX1_look 13 = .ok (.aload_n 0, 1) := by decide +kernel
theorem dX1_look_14 : decode cX1_look 14 = .ok (.getfield 39, 3) := by decide +kernel
theorem dX1_look_17 : decode cX1_look 17 = .ok (.lload_n 3, 1) := by decide +kernel
theorem dX1_look_18 : decode cX1_look 18 = .ok (.lmul, 1) := by decide +kernel
theorem dX1_look_19 : decode cX1_look 19 = .ok (.lcmp, 1) := by decide +kernel
theorem dX1_look_20 : decode cX1_look 20 = .ok (.ifCond .ge 18, 3) := by decide +kernel
theorem dX1_look_23 : decode cX1_look 23 = .ok (.aload_n 0, 1) := by decide +kernel
theorem dX1_look_24 : decode cX1_look 24 = .ok (.iconst 1, 1) := by decide +kernel
theorem dX1_look_25 : decode cX1_look 25 = .ok (.putfield 31, 3) := by decide +kernel
theorem dX1_look_28 : decode cX1_look 28 = .ok (.aload_n 0, 1) := by decide +kernel
theorem dX1_look_29 : decode cX1_look 29 = .ok (.lload_n 1, 1) := by decide +kernel
theorem dX1_look_30 : decode cX1_look 30 = .ok (.putfield 39, 3) := by decide +kernel
theorem dX1_look_33 : decode cX1_look 33 = .ok (.aload_n 0, 1) := by decide +kernel
theorem dX1_look_34 : decode cX1_look 34 = .ok (.lload_n 3, 1) := by decide +kernel
theorem dX1_look_35 : decode cX1_look 35 = .ok (.putfield 35, 3) := by decide +kernel
theorem dX1_look_38 : decode cX1_look 38 = .ok (.return_, 1) := by decide +kernel
abbrev cX1_upper : ByteArray := prog_3_method_15_code
def yX1_upper : MethodName := ⟨RX1, "upper", "()I"⟩
theorem dX1_upper_0 : decode cX1_upper 0 = .ok (.aload_n 0, 1) := by decide +kernel
theorem dX1_upper_1 : decode cX1_upper 1 = .ok (.invokevirtual 64, 3) := by decide +kernel
theorem dX1_upper_4 : decode cX1_upper 4 = .ok (.lstore_n 1, 1) := by decide +kernel
theorem dX1_upper_5 : decode cX1_upper 5 = .ok (.aload_n 0, 1) := by decide +kernel
theorem dX1_upper_6 : decode cX1_upper 6 = .ok (.getfield 39, 3) := by decide +kernel
theorem dX1_upper_9 : decode cX1_upper 9 = .ok (.lload_n 1, 1) := by decide +kernel
theorem dX1_upper_10 : decode cX1_upper 10 = .ok (.ldiv, 1) := by decide +kernel
theorem dX1_upper_11 : decode cX1_upper 11 = .ok (.l2i, 1) := by decide +kernel
theorem dX1_upper_12 : decode cX1_upper 12 = .ok (.ireturn, 1) := by decide +kernel
abbrev cX1_common : ByteArray := prog_3_method_14_code
def yX1_common : MethodName := ⟨RX1, "common", "()J"⟩
theorem dX1_common_0 : decode cX1_common 0 = .ok (.aload_n 0, 1) := by decide +kernel
theorem dX1_common_1 : decode cX1_common 1 = .ok (.getfield 39, 3) := by decide +kernel
theorem dX1_common_4 : decode cX1_common 4 = .ok (.lstore_n 1, 1) := by decide +kernel
theorem dX1_common_5 : decode cX1_common 5 = .ok (.aload_n 0, 1) := by decide +kernel
theorem dX1_common_6 : decode cX1_common 6 = .ok (.getfield 35, 3) := by decide +kernel
theorem dX1_common_9 : decode cX1_common 9 = .ok (.lstore_n 3, 1) := by decide +kernel
theorem dX1_common_10 : decode cX1_common 10 = .ok (.iconst 0, 1) := by decide +kernel
theorem dX1_common_11 : decode cX1_common 11 = .ok (.istore 5, 2) := by decide +kernel
theorem dX1_common_13 : decode cX1_common 13 = .ok (.iload 5, 2) := by decide +kernel
theorem dX1_common_15 : decode cX1_common 15 = .ok (.bipush 90, 2) := by decide +kernel
theorem dX1_common_17 : decode cX1_common 17 = .ok (.if_icmp .ge 35, 3) := by decide +kernel
theorem dX1_common_20 : decode cX1_common 20 = .ok (.lload_n 1, 1) := by decide +kernel
theorem dX1_common_21 : decode cX1_common 21 = .ok (.lconst 0, 1) := by decide +kernel
theorem dX1_common_22 : decode cX1_common 22 = .ok (.lcmp, 1) := by decide +kernel
theorem dX1_common_23 : decode cX1_common 23 = .ok (.ifCond .eq 23, 3) := by decide +kernel
theorem dX1_common_26 : decode cX1_common 26 = .ok (.lload_n 3, 1) := by decide +kernel
theorem dX1_common_27 : decode cX1_common 27 = .ok (.lload_n 1, 1) := by decide +kernel
theorem dX1_common_28 : decode cX1_common 28 = .ok (.lconst 0, 1) := by decide +kernel
theorem dX1_common_29 : decode cX1_common 29 = .ok (.lcmp, 1) := by decide +kernel
theorem dX1_common_30 : decode cX1_common 30 = .ok (.ifCond .ne 7, 3) := by decide +kernel
theorem dX1_common_33 : decode cX1_common 33 = .ok (.lconst 1, 1) := by decide +kernel
theorem dX1_common_34 : decode cX1_common 34 = .ok (.goto 4, 3) := by decide +kernel
theorem dX1_common_37 : decode cX1_common 37 = .ok (.lload_n 1, 1) := by decide +kernel
theorem dX1_common_38 : decode cX1_common 38 = .ok (.lrem, 1) := by decide +kernel
theorem dX1_common_39 : decode cX1_common 39 = .ok (.lstore 6, 2) := by decide +kernel
theorem dX1_common_41 : decode cX1_common 41 = .ok (.lload_n 1, 1) := by decide +kernel
theorem dX1_common_42 : decode cX1_common 42 = .ok (.lstore_n 3, 1) := by decide +kernel
theorem dX1_common_43 : decode cX1_common 43 = .ok (.lload 6, 2) := by decide +kernel
theorem dX1_common_45 : decode cX1_common 45 = .ok (.lstore_n 1, 1) := by decide +kernel
theorem dX1_common_46 : decode cX1_common 46 = .ok (.iinc 5 1, 3) := by decide +kernel
theorem dX1_common_49 : decode cX1_common 49 = .ok (.goto (-36), 3) := by decide +kernel
theorem dX1_common_52 : decode cX1_common 52 = .ok (.lload_n 3, 1) := by decide +kernel
theorem dX1_common_53 : decode cX1_common 53 = .ok (.lconst 1, 1) := by decide +kernel
theorem dX1_common_54 : decode cX1_common 54 = .ok (.lcmp, 1) := by decide +kernel
theorem dX1_common_55 : decode cX1_common 55 = .ok (.ifCond .ge 7, 3) := by decide +kernel
theorem dX1_common_58 : decode cX1_common 58 = .ok (.lconst 1, 1) := by decide +kernel
theorem dX1_common_59 : decode cX1_common 59 = .ok (.goto 4, 3) := by decide +kernel
theorem dX1_common_62 : decode cX1_common 62 = .ok (.lload_n 3, 1) := by decide +kernel
theorem dX1_common_63 : decode cX1_common 63 = .ok (.lreturn, 1) := by decide +kernel
abbrev cX1_leastBottom : ByteArray := prog_3_method_18_code
def yX1_leastBottom : MethodName := ⟨RX1, "leastBottom", "()I"⟩
theorem dX1_leastBottom_0 : decode cX1_leastBottom 0 = .ok (.aload_n 0, 1) := by decide +kernel
theorem dX1_leastBottom_1 : decode cX1_leastBottom 1 = .ok (.invokevirtual 68, 3) := by decide +kernel
theorem dX1_leastBottom_4 : decode cX1_leastBottom 4 = .ok (.aload_n 0, 1) := by decide +kernel
theorem dX1_leastBottom_5 : decode cX1_leastBottom 5 = .ok (.invokevirtual 75, 3) := by decide +kernel
theorem dX1_leastBottom_8 : decode cX1_leastBottom 8 = .ok (.ireturn, 1) := by decide +kernel
abbrev cX1_lower : ByteArray := prog_3_method_16_code
def yX1_lower : MethodName := ⟨RX1, "lower", "()I"⟩
theorem dX1_lower_0 : decode cX1_lower 0 = .ok (.aload_n 0, 1) := by decide +kernel
theorem dX1_lower_1 : decode cX1_lower 1 = .ok (.invokevirtual 64, 3) := by decide +kernel
theorem dX1_lower_4 : decode cX1_lower 4 = .ok (.lstore_n 1, 1) := by decide +kernel
theorem dX1_lower_5 : decode cX1_lower 5 = .ok (.aload_n 0, 1) := by decide +kernel
theorem dX1_lower_6 : decode cX1_lower 6 = .ok (.getfield 35, 3) := by decide +kernel
theorem dX1_lower_9 : decode cX1_lower 9 = .ok (.lload_n 1, 1) := by decide +kernel
theorem dX1_lower_10 : decode cX1_lower 10 = .ok (.ldiv, 1) := by decide +kernel
theorem dX1_lower_11 : decode cX1_lower 11 = .ok (.l2i, 1) := by decide +kernel
theorem dX1_lower_12 : decode cX1_lower 12 = .ok (.ireturn, 1) := by decide +kernel
abbrev cX1_withSlope : ByteArray := prog_3_method_21_code
def yX1_withSlope : MethodName := ⟨RX1, "withSlope", "(II)I"⟩
theorem dX1_withSlope_0 : decode cX1_withSlope 0 = .ok (.aload_n 0, 1) := by decide +kernel
theorem dX1_withSlope_1 : decode cX1_withSlope 1 = .ok (.iload_n 1, 1) := by decide +kernel
theorem dX1_withSlope_2 : decode cX1_withSlope 2 = .ok (.iload_n 2, 1) := by decide +kernel
theorem dX1_withSlope_3 : decode cX1_withSlope 3 = .ok (.invokevirtual 80, 3) := by decide +kernel
theorem dX1_withSlope_6 : decode cX1_withSlope 6 = .ok (.ifCond .eq 13, 3) := by decide +kernel
theorem dX1_withSlope_9 : decode cX1_withSlope 9 = .ok (.aload_n 0, 1) := by decide +kernel
theorem dX1_withSlope_10 : decode cX1_withSlope 10 = .ok (.iload_n 1, 1) := by decide +kernel
theorem dX1_withSlope_11 : decode cX1_withSlope 11 = .ok (.iload_n 2, 1) := by decide +kernel
theorem dX1_withSlope_12 : decode cX1_withSlope 12 = .ok (.invokevirtual 84, 3) := by decide +kernel
theorem dX1_withSlope_15 : decode cX1_withSlope 15 = .ok (.l2i, 1) := by decide +kernel
theorem dX1_withSlope_16 : decode cX1_withSlope 16 = .ok (.goto 4, 3) := by decide +kernel
theorem dX1_withSlope_19 : decode cX1_withSlope 19 = .ok (.iconst (-1), 1) := by decide +kernel
theorem dX1_withSlope_20 : decode cX1_withSlope 20 = .ok (.ireturn, 1) := by decide +kernel
abbrev cX1_isSlope : ByteArray := prog_3_method_19_code
def yX1_isSlope : MethodName := ⟨RX1, "isSlope", "(II)Z"⟩
theorem dX1_isSlope_0 : decode cX1_isSlope 0 = .ok (.iload_n 1, 1) := by decide +kernel
theorem dX1_isSlope_1 : decode cX1_isSlope 1 = .ok (.sipush (-1000), 3) := by decide +kernel
theorem dX1_isSlope_4 : decode cX1_isSlope 4 = .ok (.if_icmp .lt 25, 3) := by decide +kernel
theorem dX1_isSlope_7 : decode cX1_isSlope 7 = .ok (.iload_n 1, 1) := by decide +kernel
theorem dX1_isSlope_8 : decode cX1_isSlope 8 = .ok (.sipush 1000, 3) := by decide +kernel
theorem dX1_isSlope_11 : decode cX1_isSlope 11 = .ok (.if_icmp .gt 18, 3) := by decide +kernel
theorem dX1_isSlope_14 : decode cX1_isSlope 14 = .ok (.iload_n 2, 1) := by decide +kernel
theorem dX1_isSlope_15 : decode cX1_isSlope 15 = .ok (.iconst 1, 1) := by decide +kernel
theorem dX1_isSlope_16 : decode cX1_isSlope 16 = .ok (.if_icmp .lt 13, 3) := by decide +kernel
theorem dX1_isSlope_19 : decode cX1_isSlope 19 = .ok (.iload_n 2, 1) := by decide +kernel
theorem dX1_isSlope_20 : decode cX1_isSlope 20 = .ok (.bipush 40, 2) := by decide +kernel
theorem dX1_isSlope_22 : decode cX1_isSlope 22 = .ok (.if_icmp .gt 7, 3) := by decide +kernel
theorem dX1_isSlope_25 : decode cX1_isSlope 25 = .ok (.iconst 1, 1) := by decide +kernel
theorem dX1_isSlope_26 : decode cX1_isSlope 26 = .ok (.goto 4, 3) := by decide +kernel
theorem dX1_isSlope_29 : decode cX1_isSlope 29 = .ok (.iconst 0, 1) := by decide +kernel
theorem dX1_isSlope_30 : decode cX1_isSlope 30 = .ok (.ireturn, 1) := by decide +kernel
abbrev cX1_with : ByteArray := prog_3_method_20_code
def yX1_with : MethodName := ⟨RX1, "with", "(II)J"⟩
theorem dX1_with_0 : decode cX1_with 0 = .ok (.ldc2_w 78, 3) := by decide +kernel
theorem dX1_with_3 : decode cX1_with 3 = .ok (.lstore_n 3, 1) := by decide +kernel
theorem dX1_with_4 : decode cX1_with 4 = .ok (.iconst 0, 1) := by decide +kernel
theorem dX1_with_5 : decode cX1_with 5 = .ok (.istore 5, 2) := by decide +kernel
theorem dX1_with_7 : decode cX1_with 7 = .ok (.iload 5, 2) := by decide +kernel
theorem dX1_with_9 : decode cX1_with 9 = .ok (.aload_n 0, 1) := by decide +kernel
theorem dX1_with_10 : decode cX1_with 10 = .ok (.getfield 7, 3) := by decide +kernel
theorem dX1_with_13 : decode cX1_with 13 = .ok (.if_icmp .ge 35, 3) := by decide +kernel
theorem dX1_with_16 : decode cX1_with 16 = .ok (.aload_n 0, 1) := by decide +kernel
theorem dX1_with_17 : decode cX1_with 17 = .ok (.iload 5, 2) := by decide +kernel
theorem dX1_with_19 : decode cX1_with 19 = .ok (.iload_n 1, 1) := by decide +kernel
theorem dX1_with_20 : decode cX1_with 20 = .ok (.iload_n 2, 1) := by decide +kernel
theorem dX1_with_21 : decode cX1_with 21 = .ok (.invokevirtual 49, 3) := by decide +kernel
theorem dX1_with_24 : decode cX1_with 24 = .ok (.lstore 6, 2) := by decide +kernel
theorem dX1_with_26 : decode cX1_with 26 = .ok (.lload_n 3, 1) := by decide +kernel
theorem dX1_with_27 : decode cX1_with 27 = .ok (.lconst 0, 1) := by decide +kernel
theorem dX1_with_28 : decode cX1_with 28 = .ok (.lcmp, 1) := by decide +kernel
theorem dX1_with_29 : decode cX1_with 29 = .ok (.ifCond .lt 10, 3) := by decide +kernel
theorem dX1_with_32 : decode cX1_with 32 = .ok (.lload 6, 2) := by decide +kernel
theorem dX1_with_34 : decode cX1_with 34 = .ok (.lload_n 3, 1) := by decide +kernel
theorem dX1_with_35 : decode cX1_with 35 = .ok (.lcmp, 1) := by decide +kernel
theorem dX1_with_36 : decode cX1_with 36 = .ok (.ifCond .ge 6, 3) := by decide +kernel
theorem dX1_with_39 : decode cX1_with 39 = .ok (.lload 6, 2) := by decide +kernel
theorem dX1_with_41 : decode cX1_with 41 = .ok (.lstore_n 3, 1) := by decide +kernel
theorem dX1_with_42 : decode cX1_with 42 = .ok (.iinc 5 1, 3) := by decide +kernel
theorem dX1_with_45 : decode cX1_with 45 = .ok (.goto (-38), 3) := by decide +kernel
theorem dX1_with_48 : decode cX1_with 48 = .ok (.lload_n 3, 1) := by decide +kernel
theorem dX1_with_49 : decode cX1_with 49 = .ok (.lconst 0, 1) := by decide +kernel
theorem dX1_with_50 : decode cX1_with 50 = .ok (.lcmp, 1) := by decide +kernel
theorem dX1_with_51 : decode cX1_with 51 = .ok (.ifCond .ge 7, 3) := by decide +kernel
theorem dX1_with_54 : decode cX1_with 54 = .ok (.lconst 0, 1) := by decide +kernel
theorem dX1_with_55 : decode cX1_with 55 = .ok (.goto 4, 3) := by decide +kernel
theorem dX1_with_58 : decode cX1_with 58 = .ok (.lload_n 3, 1) := by decide +kernel
theorem dX1_with_59 : decode cX1_with 59 = .ok (.lreturn, 1) := by decide +kernel
abbrev cX1_bestSlope : ByteArray := prog_3_method_22_code
def yX1_bestSlope : MethodName := ⟨RX1, "bestSlope", "(II)Z"⟩
theorem dX1_bestSlope_0 : decode cX1_bestSlope 0 = .ok (.aload_n 0, 1) := by decide +kernel
theorem dX1_bestSlope_1 : decode cX1_bestSlope 1 = .ok (.iload_n 1, 1) := by decide +kernel
theorem dX1_bestSlope_2 : decode cX1_bestSlope 2 = .ok (.iload_n 2, 1) := by decide +kernel
theorem dX1_bestSlope_3 : decode cX1_bestSlope 3 = .ok (.invokevirtual 80, 3) := by decide +kernel
theorem dX1_bestSlope_6 : decode cX1_bestSlope 6 = .ok (.ifCond .ne 5, 3) := by decide +kernel
theorem dX1_bestSlope_9 : decode cX1_bestSlope 9 = .ok (.iconst 0, 1) := by decide +kernel
theorem dX1_bestSlope_10 : decode cX1_bestSlope 10 = .ok (.ireturn, 1) := by decide +kernel
theorem dX1_bestSlope_11 : decode cX1_bestSlope 11 = .ok (.aload_n 0, 1) := by decide +kernel
theorem dX1_bestSlope_12 : decode cX1_bestSlope 12 = .ok (.invokevirtual 68, 3) := by decide +kernel
theorem dX1_bestSlope_15 : decode cX1_bestSlope 15 = .ok (.aload_n 0, 1) := by decide +kernel
theorem dX1_bestSlope_16 : decode cX1_bestSlope 16 = .ok (.iload_n 1, 1) := by decide +kernel
theorem dX1_bestSlope_17 : decode cX1_bestSlope 17 = .ok (.iload_n 2, 1) := by decide +kernel
theorem dX1_bestSlope_18 : decode cX1_bestSlope 18 = .ok (.invokevirtual 84, 3) := by decide +kernel
theorem dX1_bestSlope_21 : decode cX1_bestSlope 21 = .ok (.aload_n 0, 1) := by decide +kernel
theorem dX1_bestSlope_22 : decode cX1_bestSlope 22 = .ok (.getfield 35, 3) := by decide +kernel
theorem dX1_bestSlope_25 : decode cX1_bestSlope 25 = .ok (.lmul, 1) := by decide +kernel
theorem dX1_bestSlope_26 : decode cX1_bestSlope 26 = .ok (.aload_n 0, 1) := by decide +kernel
theorem dX1_bestSlope_27 : decode cX1_bestSlope 27 = .ok (.getfield 39, 3) := by decide +kernel
theorem dX1_bestSlope_30 : decode cX1_bestSlope 30 = .ok (.iload_n 2, 1) := by decide +kernel
theorem dX1_bestSlope_31 : decode cX1_bestSlope 31 = .ok (.i2l, 1) := by decide +kernel
theorem dX1_bestSlope_32 : decode cX1_bestSlope 32 = .ok (.lmul, 1) := by decide +kernel
theorem dX1_bestSlope_33 : decode cX1_bestSlope 33 = .ok (.lcmp, 1) := by decide +kernel
theorem dX1_bestSlope_34 : decode cX1_bestSlope 34 = .ok (.ifCond .ne 7, 3) := by decide +kernel
theorem dX1_bestSlope_37 : decode cX1_bestSlope 37 = .ok (.iconst 1, 1) := by decide +kernel
theorem dX1_bestSlope_38 : decode cX1_bestSlope 38 = .ok (.goto 4, 3) := by decide +kernel
theorem dX1_bestSlope_41 : decode cX1_bestSlope 41 = .ok (.iconst 0, 1) := by decide +kernel
theorem dX1_bestSlope_42 : decode cX1_bestSlope 42 = .ok (.ireturn, 1) := by decide +kernel
abbrev cX1_bestPair : ByteArray := prog_3_method_23_code
def yX1_bestPair : MethodName := ⟨RX1, "bestPair", "(II)Z"⟩
theorem dX1_bestPair_0 : decode cX1_bestPair 0 = .ok (.aload_n 0, 1) := by decide +kernel
theorem dX1_bestPair_1 : decode cX1_bestPair 1 = .ok (.iload_n 1, 1) := by decide +kernel
theorem dX1_bestPair_2 : decode cX1_bestPair 2 = .ok (.invokevirtual 23, 3) := by decide +kernel
theorem dX1_bestPair_5 : decode cX1_bestPair 5 = .ok (.ifCond .eq 26, 3) := by decide +kernel
theorem dX1_bestPair_8 : decode cX1_bestPair 8 = .ok (.aload_n 0, 1) := by decide +kernel
theorem dX1_bestPair_9 : decode cX1_bestPair 9 = .ok (.iload_n 2, 1) := by decide +kernel
theorem dX1_bestPair_10 : decode cX1_bestPair 10 = .ok (.invokevirtual 23, 3) := by decide +kernel
theorem dX1_bestPair_13 : decode cX1_bestPair 13 = .ok (.ifCond .eq 18, 3) := by decide +kernel
theorem dX1_bestPair_16 : decode cX1_bestPair 16 = .ok (.aload_n 0, 1) := by decide +kernel
theorem dX1_bestPair_17 : decode cX1_bestPair 17 = .ok (.getfield 16, 3) := by decide +kernel
theorem dX1_bestPair_20 : decode cX1_bestPair 20 = .ok (.iload_n 1, 1) := by decide +kernel
theorem dX1_bestPair_21 : decode cX1_bestPair 21 = .ok (.iaload, 1) := by decide +kernel
theorem dX1_bestPair_22 : decode cX1_bestPair 22 = .ok (.aload_n 0, 1) := by decide +kernel
theorem dX1_bestPair_23 : decode cX1_bestPair 23 = .ok (.getfield 16, 3) := by decide +kernel
theorem dX1_bestPair_26 : decode cX1_bestPair 26 = .ok (.iload_n 2, 1) := by decide +kernel
theorem dX1_bestPair_27 : decode cX1_bestPair 27 = .ok (.iaload, 1) := by decide +kernel
theorem dX1_bestPair_28 : decode cX1_bestPair 28 = .ok (.if_icmp .ne 5, 3) := by decide +kernel
theorem dX1_bestPair_31 : decode cX1_bestPair 31 = .ok (.iconst 0, 1) := by decide +kernel
theorem dX1_bestPair_32 : decode cX1_bestPair 32 = .ok (.ireturn, 1) := by decide +kernel
theorem dX1_bestPair_33 : decode cX1_bestPair 33 = .ok (.aload_n 0, 1) := by decide +kernel
theorem dX1_bestPair_34 : decode cX1_bestPair 34 = .ok (.invokevirtual 68, 3) := by decide +kernel
theorem dX1_bestPair_37 : decode cX1_bestPair 37 = .ok (.aload_n 0, 1) := by decide +kernel
theorem dX1_bestPair_38 : decode cX1_bestPair 38 = .ok (.iload_n 1, 1) := by decide +kernel
theorem dX1_bestPair_39 : decode cX1_bestPair 39 = .ok (.iload_n 2, 1) := by decide +kernel
theorem dX1_bestPair_40 : decode cX1_bestPair 40 = .ok (.invokevirtual 42, 3) := by decide +kernel
theorem dX1_bestPair_43 : decode cX1_bestPair 43 = .ok (.istore_n 3, 1) := by decide +kernel
theorem dX1_bestPair_44 : decode cX1_bestPair 44 = .ok (.aload_n 0, 1) := by decide +kernel
theorem dX1_bestPair_45 : decode cX1_bestPair 45 = .ok (.iload_n 1, 1) := by decide +kernel
theorem dX1_bestPair_46 : decode cX1_bestPair 46 = .ok (.iload_n 2, 1) := by decide +kernel
theorem dX1_bestPair_47 : decode cX1_bestPair 47 = .ok (.invokevirtual 46, 3) := by decide +kernel
theorem dX1_bestPair_50 : decode cX1_bestPair 50 = .ok (.istore 4, 2) := by decide +kernel
theorem dX1_bestPair_52 : decode cX1_bestPair 52 = .ok (.aload_n 0, 1) := by decide +kernel
theorem dX1_bestPair_53 : decode cX1_bestPair 53 = .ok (.iload_n 1, 1) := by decide +kernel
theorem dX1_bestPair_54 : decode cX1_bestPair 54 = .ok (.iload_n 3, 1) := by decide +kernel
theorem dX1_bestPair_55 : decode cX1_bestPair 55 = .ok (.iload 4, 2) := by decide +kernel
theorem dX1_bestPair_57 : decode cX1_bestPair 57 = .ok (.invokevirtual 49, 3) := by decide +kernel
theorem dX1_bestPair_60 : decode cX1_bestPair 60 = .ok (.aload_n 0, 1) := by decide +kernel
theorem dX1_bestPair_61 : decode cX1_bestPair 61 = .ok (.getfield 35, 3) := by decide +kernel
theorem dX1_bestPair_64 : decode cX1_bestPair 64 = .ok (.lmul, 1) := by decide +kernel
theorem dX1_bestPair_65 : decode cX1_bestPair 65 = .ok (.aload_n 0, 1) := by decide +kernel
theorem dX1_bestPair_66 : decode cX1_bestPair 66 = .ok (.getfield 39, 3) := by decide +kernel
theorem dX1_bestPair_69 : decode cX1_bestPair 69 = .ok (.iload 4, 2) := by decide +kernel
theorem dX1_bestPair_71 : decode cX1_bestPair 71 = .ok (.i2l, 1) := by decide +kernel
theorem dX1_bestPair_72 : decode cX1_bestPair 72 = .ok (.lmul, 1) := by decide +kernel
theorem dX1_bestPair_73 : decode cX1_bestPair 73 = .ok (.lcmp, 1) := by decide +kernel
theorem dX1_bestPair_74 : decode cX1_bestPair 74 = .ok (.ifCond .ne 7, 3) := by decide +kernel
theorem dX1_bestPair_77 : decode cX1_bestPair 77 = .ok (.iconst 1, 1) := by decide +kernel
theorem dX1_bestPair_78 : decode cX1_bestPair 78 = .ok (.goto 4, 3) := by decide +kernel
theorem dX1_bestPair_81 : decode cX1_bestPair 81 = .ok (.iconst 0, 1) := by decide +kernel
theorem dX1_bestPair_82 : decode cX1_bestPair 82 = .ok (.ireturn, 1) := by decide +kernel
abbrev cX1_throughTop : ByteArray := prog_3_method_24_code
def yX1_throughTop : MethodName := ⟨RX1, "throughTop", "(I)I"⟩
theorem dX1_throughTop_0 : decode cX1_throughTop 0 = .ok (.aload_n 0, 1) := by decide +kernel
theorem dX1_throughTop_1 : decode cX1_throughTop 1 = .ok (.iload_n 1, 1) := by decide +kernel
theorem dX1_throughTop_2 : decode cX1_throughTop 2 = .ok (.invokevirtual 23, 3) := by decide +kernel
theorem dX1_throughTop_5 : decode cX1_throughTop 5 = .ok (.ifCond .ne 5, 3) := by decide +kernel
theorem dX1_throughTop_8 : decode cX1_throughTop 8 = .ok (.iconst (-1), 1) := by decide +kernel
theorem dX1_throughTop_9 : decode cX1_throughTop 9 = .ok (.ireturn, 1) := by decide +kernel
theorem dX1_throughTop_10 : decode cX1_throughTop 10 = .ok (.aload_n 0, 1) := by decide +kernel
theorem dX1_throughTop_11 : decode cX1_throughTop 11 = .ok (.invokevirtual 57, 3) := by decide +kernel
theorem dX1_throughTop_14 : decode cX1_throughTop 14 = .ok (.aload_n 0, 1) := by decide +kernel
theorem dX1_throughTop_15 : decode cX1_throughTop 15 = .ok (.iload_n 1, 1) := by decide +kernel
theorem dX1_throughTop_16 : decode cX1_throughTop 16 = .ok (.invokevirtual 60, 3) := by decide +kernel
theorem dX1_throughTop_19 : decode cX1_throughTop 19 = .ok (.aload_n 0, 1) := by decide +kernel
theorem dX1_throughTop_20 : decode cX1_throughTop 20 = .ok (.invokevirtual 71, 3) := by decide +kernel
theorem dX1_throughTop_23 : decode cX1_throughTop 23 = .ok (.ireturn, 1) := by decide +kernel
abbrev cX1_throughBottom : ByteArray := prog_3_method_25_code
def yX1_throughBottom : MethodName := ⟨RX1, "throughBottom", "(I)I"⟩
theorem dX1_throughBottom_0 : decode cX1_throughBottom 0 = .ok (.aload_n 0, 1) := by decide +kernel
theorem dX1_throughBottom_1 : decode cX1_throughBottom 1 = .ok (.iload_n 1, 1) := by decide +kernel
theorem dX1_throughBottom_2 : decode cX1_throughBottom 2 = .ok (.invokevirtual 23, 3) := by decide +kernel
theorem dX1_throughBottom_5 : decode cX1_throughBottom 5 = .ok (.ifCond .ne 5, 3) := by decide +kernel
theorem dX1_throughBottom_8 : decode cX1_throughBottom 8 = .ok (.iconst (-1), 1) := by decide +kernel
theorem dX1_throughBottom_9 : decode cX1_throughBottom 9 = .ok (.ireturn, 1) := by decide +kernel
theorem dX1_throughBottom_10 : decode cX1_throughBottom 10 = .ok (.aload_n 0, 1) := by decide +kernel
theorem dX1_throughBottom_11 : decode cX1_throughBottom 11 = .ok (.invokevirtual 57, 3) := by decide +kernel
theorem dX1_throughBottom_14 : decode cX1_throughBottom 14 = .ok (.aload_n 0, 1) := by decide +kernel
theorem dX1_throughBottom_15 : decode cX1_throughBottom 15 = .ok (.iload_n 1, 1) := by decide +kernel
theorem dX1_throughBottom_16 : decode cX1_throughBottom 16 = .ok (.invokevirtual 60, 3) := by decide +kernel
theorem dX1_throughBottom_19 : decode cX1_throughBottom 19 = .ok (.aload_n 0, 1) := by decide +kernel
theorem dX1_throughBottom_20 : decode cX1_throughBottom 20 = .ok (.invokevirtual 75, 3) := by decide +kernel
theorem dX1_throughBottom_23 : decode cX1_throughBottom 23 = .ok (.ireturn, 1) := by decide +kernel
abbrev cX1_points : ByteArray := prog_3_method_26_code
def yX1_points : MethodName := ⟨RX1, "points", "()I"⟩
theorem dX1_points_0 : decode cX1_points 0 = .ok (.aload_n 0, 1) := by decide +kernel
theorem dX1_points_1 : decode cX1_points 1 = .ok (.getfield 7, 3) := by decide +kernel
theorem dX1_points_4 : decode cX1_points 4 = .ok (.ireturn, 1) := by decide +kernel
theorem q28 : (Jvm.Cond.initialized "LeastDeviationsModel") ∈ lw_all := lw_g (lw_at lw_m1 2 rfl) rfl
theorem q170 : (Jvm.Cond.instantiable "LeastDeviationsModel" (7 : Nat)) ∈ lw_all := lw_g (lw_at lw_m1 144 rfl) rfl
theorem q172 : (Jvm.Cond.instanceMethod ({ cls := "LeastDeviationsModel", name := "<init>", desc := "()V" } : Jvm.MethodName)) ∈ lw_all := lw_g (lw_at lw_m1 146 rfl) rfl
theorem q173 : (Jvm.Cond.code ({ cls := "LeastDeviationsModel", name := "<init>", desc := "()V" } : Jvm.MethodName) prog_3_method_1_code (1 : Nat) (Option.none : Option Jvm.ClassFile.FieldType)) ∈ lw_all := lw_g (lw_at lw_m1 147 rfl) rfl
theorem q174 : (Jvm.Cond.methodLink "LeastDeviationsModel" (1 : Nat) ({ cls := "java/lang/Object", name := "<init>", desc := "()V" } : Jvm.MethodName)) ∈ lw_all := lw_g (lw_at lw_m1 148 rfl) rfl
theorem q175 : (Jvm.Cond.fieldLink "LeastDeviationsModel" (7 : Nat) "LeastDeviationsModel" "n" "I") ∈ lw_all := lw_g (lw_at lw_m1 149 rfl) rfl
theorem q176 : (Jvm.Cond.fieldLink "LeastDeviationsModel" (13 : Nat) "LeastDeviationsModel" "lean" "I") ∈ lw_all := lw_g (lw_at lw_m1 150 rfl) rfl
theorem q177 : (Jvm.Cond.fieldLink "LeastDeviationsModel" (16 : Nat) "LeastDeviationsModel" "px" "[I") ∈ lw_all := lw_g (lw_at lw_m1 151 rfl) rfl
theorem q178 : (Jvm.Cond.fieldLink "LeastDeviationsModel" (20 : Nat) "LeastDeviationsModel" "py" "[I") ∈ lw_all := lw_g (lw_at lw_m1 152 rfl) rfl
theorem q179 : (Jvm.Cond.fieldLink "LeastDeviationsModel" (39 : Nat) "LeastDeviationsModel" "top" "J") ∈ lw_all := lw_g (lw_at lw_m1 153 rfl) rfl
theorem q180 : (Jvm.Cond.fieldLink "LeastDeviationsModel" (35 : Nat) "LeastDeviationsModel" "bottom" "J") ∈ lw_all := lw_g (lw_at lw_m1 154 rfl) rfl
theorem q181 : (Jvm.Cond.fieldLink "LeastDeviationsModel" (31 : Nat) "LeastDeviationsModel" "found" "Z") ∈ lw_all := lw_g (lw_at lw_m1 155 rfl) rfl
theorem q182 : (Jvm.Cond.lays "LeastDeviationsModel" "LeastDeviationsModel" "n" "I") ∈ lw_all := lw_g (lw_at lw_m1 156 rfl) rfl
theorem q183 : (Jvm.Cond.soleField "LeastDeviationsModel" "n") ∈ lw_all := lw_g (lw_at lw_m1 157 rfl) rfl
theorem q184 : (Jvm.Cond.lays "LeastDeviationsModel" "LeastDeviationsModel" "lean" "I") ∈ lw_all := lw_g (lw_at lw_m1 158 rfl) rfl
theorem q185 : (Jvm.Cond.soleField "LeastDeviationsModel" "lean") ∈ lw_all := lw_g (lw_at lw_m1 159 rfl) rfl
theorem q186 : (Jvm.Cond.lays "LeastDeviationsModel" "LeastDeviationsModel" "px" "[I") ∈ lw_all := lw_g (lw_at lw_m1 160 rfl) rfl
theorem q187 : (Jvm.Cond.soleField "LeastDeviationsModel" "px") ∈ lw_all := lw_g (lw_at lw_m1 161 rfl) rfl
theorem q188 : (Jvm.Cond.lays "LeastDeviationsModel" "LeastDeviationsModel" "py" "[I") ∈ lw_all := lw_g (lw_at lw_m1 162 rfl) rfl
theorem q189 : (Jvm.Cond.soleField "LeastDeviationsModel" "py") ∈ lw_all := lw_g (lw_at lw_m1 163 rfl) rfl
theorem q190 : (Jvm.Cond.lays "LeastDeviationsModel" "LeastDeviationsModel" "top" "J") ∈ lw_all := lw_g (lw_at lw_m1 164 rfl) rfl
theorem q191 : (Jvm.Cond.soleField "LeastDeviationsModel" "top") ∈ lw_all := lw_g (lw_at lw_m1 165 rfl) rfl
theorem q192 : (Jvm.Cond.lays "LeastDeviationsModel" "LeastDeviationsModel" "bottom" "J") ∈ lw_all := lw_g (lw_at lw_m1 166 rfl) rfl
theorem q193 : (Jvm.Cond.soleField "LeastDeviationsModel" "bottom") ∈ lw_all := lw_g (lw_at lw_m1 167 rfl) rfl
theorem q194 : (Jvm.Cond.lays "LeastDeviationsModel" "LeastDeviationsModel" "found" "Z") ∈ lw_all := lw_g (lw_at lw_m1 168 rfl) rfl
theorem q195 : (Jvm.Cond.soleField "LeastDeviationsModel" "found") ∈ lw_all := lw_g (lw_at lw_m1 169 rfl) rfl
theorem q196 : (Jvm.Cond.superclass "LeastDeviationsModel" "java/lang/Object") ∈ lw_all := lw_g (lw_at lw_m1 170 rfl) rfl
theorem q198 : (Jvm.Cond.instanceMethod ({ cls := "LeastDeviationsModel", name := "add", desc := "(II)I" } : Jvm.MethodName)) ∈ lw_all := lw_g (lw_at lw_m1 172 rfl) rfl
end
section
set_option maxRecDepth 100000
theorem q199 : (Jvm.Cond.selects "LeastDeviationsModel" ({ cls := "LeastDeviationsModel", name := "add", desc := "(II)I" } : Jvm.MethodName) ({ cls := "LeastDeviationsModel", name := "add", desc := "(II)I" } : Jvm.MethodName)) ∈ lw_all := lw_g (lw_at lw_m1 173 rfl) rfl
theorem q200 : (Jvm.Cond.code ({ cls := "LeastDeviationsModel", name := "add", desc := "(II)I" } : Jvm.MethodName) prog_3_method_3_code (3 : Nat) (Option.some Jvm.ClassFile.FieldType.int)) ∈ lw_all := lw_g (lw_at lw_m1 174 rfl) rfl
theorem q202 : (Jvm.Cond.instanceMethod ({ cls := "LeastDeviationsModel", name := "drop", desc := "(I)I" } : Jvm.MethodName)) ∈ lw_all := lw_g (lw_at lw_m1 176 rfl) rfl
theorem q203 : (Jvm.Cond.selects "LeastDeviationsModel" ({ cls := "LeastDeviationsModel", name := "drop", desc := "(I)I" } : Jvm.MethodName) ({ cls := "LeastDeviationsModel", name := "drop", desc := "(I)I" } : Jvm.MethodName)) ∈ lw_all := lw_g (lw_at lw_m1 177 rfl) rfl
theorem q204 : (Jvm.Cond.code ({ cls := "LeastDeviationsModel", name := "drop", desc := "(I)I" } : Jvm.MethodName) prog_3_method_4_code (3 : Nat) (Option.some Jvm.ClassFile.FieldType.int)) ∈ lw_all := lw_g (lw_at lw_m1 178 rfl) rfl
theorem q205 : (Jvm.Cond.methodLink "LeastDeviationsModel" (23 : Nat) ({ cls := "LeastDeviationsModel", name := "isPoint", desc := "(I)Z" } : Jvm.MethodName)) ∈ lw_all := lw_g (lw_at lw_m1 179 rfl) rfl
theorem q206 : (Jvm.Cond.privateMethod ({ cls := "LeastDeviationsModel", name := "isPoint", desc := "(I)Z" } : Jvm.MethodName)) ∈ lw_tbl := lw_at lw_m1 180 rfl
theorem q207 : (Jvm.Cond.instanceMethod ({ cls := "LeastDeviationsModel", name := "isPoint", desc := "(I)Z" } : Jvm.MethodName)) ∈ lw_all := lw_g (lw_at lw_m1 181 rfl) rfl
theorem q208 : (Jvm.Cond.code ({ cls := "LeastDeviationsModel", name := "isPoint", desc := "(I)Z" } : Jvm.MethodName) prog_3_method_2_code (2 : Nat) (Option.some Jvm.ClassFile.FieldType.boolean)) ∈ lw_all := lw_g (lw_at lw_m1 182 rfl) rfl
theorem q210 : (Jvm.Cond.instanceMethod ({ cls := "LeastDeviationsModel", name := "lean", desc := "(I)Z" } : Jvm.MethodName)) ∈ lw_all := lw_g (lw_at lw_m1 184 rfl) rfl
theorem q211 : (Jvm.Cond.selects "LeastDeviationsModel" ({ cls := "LeastDeviationsModel", name := "lean", desc := "(I)Z" } : Jvm.MethodName) ({ cls := "LeastDeviationsModel", name := "lean", desc := "(I)Z" } : Jvm.MethodName)) ∈ lw_all := lw_g (lw_at lw_m1 185 rfl) rfl
theorem q212 : (Jvm.Cond.code ({ cls := "LeastDeviationsModel", name := "lean", desc := "(I)Z" } : Jvm.MethodName) prog_3_method_5_code (2 : Nat) (Option.some Jvm.ClassFile.FieldType.boolean)) ∈ lw_all := lw_g (lw_at lw_m1 186 rfl) rfl
theorem q214 : (Jvm.Cond.instanceMethod ({ cls := "LeastDeviationsModel", name := "leastTop", desc := "()I" } : Jvm.MethodName)) ∈ lw_all := lw_g (lw_at lw_m1 188 rfl) rfl
theorem q215 : (Jvm.Cond.selects "LeastDeviationsModel" ({ cls := "LeastDeviationsModel", name := "leastTop", desc := "()I" } : Jvm.MethodName) ({ cls := "LeastDeviationsModel", name := "leastTop", desc := "()I" } : Jvm.MethodName)) ∈ lw_all := lw_g (lw_at lw_m1 189 rfl) rfl
theorem q216 : (Jvm.Cond.code ({ cls := "LeastDeviationsModel", name := "leastTop", desc := "()I" } : Jvm.MethodName) prog_3_method_17_code (1 : Nat) (Option.some Jvm.ClassFile.FieldType.int)) ∈ lw_all := lw_g (lw_at lw_m1 190 rfl) rfl
theorem q217 : (Jvm.Cond.methodLink "LeastDeviationsModel" (68 : Nat) ({ cls := "LeastDeviationsModel", name := "least", desc := "()V" } : Jvm.MethodName)) ∈ lw_all := lw_g (lw_at lw_m1 191 rfl) rfl
theorem q218 : (Jvm.Cond.privateMethod ({ cls := "LeastDeviationsModel", name := "least", desc := "()V" } : Jvm.MethodName)) ∈ lw_tbl := lw_at lw_m1 192 rfl
theorem q219 : (Jvm.Cond.instanceMethod ({ cls := "LeastDeviationsModel", name := "least", desc := "()V" } : Jvm.MethodName)) ∈ lw_all := lw_g (lw_at lw_m1 193 rfl) rfl
theorem q220 : (Jvm.Cond.code ({ cls := "LeastDeviationsModel", name := "least", desc := "()V" } : Jvm.MethodName) prog_3_method_13_code (2 : Nat) (Option.none : Option Jvm.ClassFile.FieldType)) ∈ lw_all := lw_g (lw_at lw_m1 194 rfl) rfl
theorem q221 : (Jvm.Cond.methodLink "LeastDeviationsModel" (57 : Nat) ({ cls := "LeastDeviationsModel", name := "begin", desc := "()V" } : Jvm.MethodName)) ∈ lw_all := lw_g (lw_at lw_m1 195 rfl) rfl
theorem q222 : (Jvm.Cond.privateMethod ({ cls := "LeastDeviationsModel", name := "begin", desc := "()V" } : Jvm.MethodName)) ∈ lw_tbl := lw_at lw_m1 196 rfl
theorem q223 : (Jvm.Cond.instanceMethod ({ cls := "LeastDeviationsModel", name := "begin", desc := "()V" } : Jvm.MethodName)) ∈ lw_all := lw_g (lw_at lw_m1 197 rfl) rfl
theorem q224 : (Jvm.Cond.code ({ cls := "LeastDeviationsModel", name := "begin", desc := "()V" } : Jvm.MethodName) prog_3_method_12_code (1 : Nat) (Option.none : Option Jvm.ClassFile.FieldType)) ∈ lw_all := lw_g (lw_at lw_m1 198 rfl) rfl
theorem q225 : (Jvm.Cond.methodLink "LeastDeviationsModel" (60 : Nat) ({ cls := "LeastDeviationsModel", name := "lookThrough", desc := "(I)V" } : Jvm.MethodName)) ∈ lw_all := lw_g (lw_at lw_m1 199 rfl) rfl
theorem q226 : (Jvm.Cond.privateMethod ({ cls := "LeastDeviationsModel", name := "lookThrough", desc := "(I)V" } : Jvm.MethodName)) ∈ lw_tbl := lw_at lw_m1 200 rfl
theorem q227 : (Jvm.Cond.instanceMethod ({ cls := "LeastDeviationsModel", name := "lookThrough", desc := "(I)V" } : Jvm.MethodName)) ∈ lw_all := lw_g (lw_at lw_m1 201 rfl) rfl
theorem q228 : (Jvm.Cond.code ({ cls := "LeastDeviationsModel", name := "lookThrough", desc := "(I)V" } : Jvm.MethodName) prog_3_method_11_code (8 : Nat) (Option.none : Option Jvm.ClassFile.FieldType)) ∈ lw_all := lw_g (lw_at lw_m1 202 rfl) rfl
theorem q229 : (Jvm.Cond.methodLink "LeastDeviationsModel" (42 : Nat) ({ cls := "LeastDeviationsModel", name := "rise", desc := "(II)I" } : Jvm.MethodName)) ∈ lw_all := lw_g (lw_at lw_m1 203 rfl) rfl
theorem q230 : (Jvm.Cond.privateMethod ({ cls := "LeastDeviationsModel", name := "rise", desc := "(II)I" } : Jvm.MethodName)) ∈ lw_tbl := lw_at lw_m1 204 rfl
theorem q231 : (Jvm.Cond.instanceMethod ({ cls := "LeastDeviationsModel", name := "rise", desc := "(II)I" } : Jvm.MethodName)) ∈ lw_all := lw_g (lw_at lw_m1 205 rfl) rfl
theorem q232 : (Jvm.Cond.code ({ cls := "LeastDeviationsModel", name := "rise", desc := "(II)I" } : Jvm.MethodName) prog_3_method_9_code (3 : Nat) (Option.some Jvm.ClassFile.FieldType.int)) ∈ lw_all := lw_g (lw_at lw_m1 206 rfl) rfl
theorem q233 : (Jvm.Cond.methodLink "LeastDeviationsModel" (46 : Nat) ({ cls := "LeastDeviationsModel", name := "run", desc := "(II)I" } : Jvm.MethodName)) ∈ lw_all := lw_g (lw_at lw_m1 207 rfl) rfl
theorem q234 : (Jvm.Cond.privateMethod ({ cls := "LeastDeviationsModel", name := "run", desc := "(II)I" } : Jvm.MethodName)) ∈ lw_tbl := lw_at lw_m1 208 rfl
theorem q235 : (Jvm.Cond.instanceMethod ({ cls := "LeastDeviationsModel", name := "run", desc := "(II)I" } : Jvm.MethodName)) ∈ lw_all := lw_g (lw_at lw_m1 209 rfl) rfl
theorem q236 : (Jvm.Cond.code ({ cls := "LeastDeviationsModel", name := "run", desc := "(II)I" } : Jvm.MethodName) prog_3_method_8_code (3 : Nat) (Option.some Jvm.ClassFile.FieldType.int)) ∈ lw_all := lw_g (lw_at lw_m1 210 rfl) rfl
theorem q237 : (Jvm.Cond.methodLink "LeastDeviationsModel" (49 : Nat) ({ cls := "LeastDeviationsModel", name := "costOf", desc := "(III)J" } : Jvm.MethodName)) ∈ lw_all := lw_g (lw_at lw_m1 211 rfl) rfl
theorem q238 : (Jvm.Cond.privateMethod ({ cls := "LeastDeviationsModel", name := "costOf", desc := "(III)J" } : Jvm.MethodName)) ∈ lw_tbl := lw_at lw_m1 212 rfl
theorem q239 : (Jvm.Cond.instanceMethod ({ cls := "LeastDeviationsModel", name := "costOf", desc := "(III)J" } : Jvm.MethodName)) ∈ lw_all := lw_g (lw_at lw_m1 213 rfl) rfl
theorem q240 : (Jvm.Cond.code ({ cls := "LeastDeviationsModel", name := "costOf", desc := "(III)J" } : Jvm.MethodName) prog_3_method_7_code (7 : Nat) (Option.some Jvm.ClassFile.FieldType.long)) ∈ lw_all := lw_g (lw_at lw_m1 214 rfl) rfl
theorem q241 : (Jvm.Cond.methodLink "LeastDeviationsModel" (27 : Nat) ({ cls := "LeastDeviationsModel", name := "cost", desc := "(J)J" } : Jvm.MethodName)) ∈ lw_all := lw_g (lw_at lw_m1 215 rfl) rfl
theorem q242 : (Jvm.Cond.privateMethod ({ cls := "LeastDeviationsModel", name := "cost", desc := "(J)J" } : Jvm.MethodName)) ∈ lw_tbl := lw_at lw_m1 216 rfl
theorem q243 : (Jvm.Cond.instanceMethod ({ cls := "LeastDeviationsModel", name := "cost", desc := "(J)J" } : Jvm.MethodName)) ∈ lw_all := lw_g (lw_at lw_m1 217 rfl) rfl
theorem q244 : (Jvm.Cond.code ({ cls := "LeastDeviationsModel", name := "cost", desc := "(J)J" } : Jvm.MethodName) prog_3_method_6_code (3 : Nat) (Option.some Jvm.ClassFile.FieldType.long)) ∈ lw_all := lw_g (lw_at lw_m1 218 rfl) rfl
theorem q245 : (Jvm.Cond.methodLink "LeastDeviationsModel" (53 : Nat) ({ cls := "LeastDeviationsModel", name := "look", desc := "(JJ)V" } : Jvm.MethodName)) ∈ lw_all := lw_g (lw_at lw_m1 219 rfl) rfl
theorem q246 : (Jvm.Cond.privateMethod ({ cls := "LeastDeviationsModel", name := "look", desc := "(JJ)V" } : Jvm.MethodName)) ∈ lw_tbl := lw_at lw_m1 220 rfl
theorem q247 : (Jvm.Cond.instanceMethod ({ cls := "LeastDeviationsModel", name := "look", desc := "(JJ)V" } : Jvm.MethodName)) ∈ lw_all := lw_g (lw_at lw_m1 221 rfl) rfl
theorem q248 : (Jvm.Cond.code ({ cls := "LeastDeviationsModel", name := "look", desc := "(JJ)V" } : Jvm.MethodName) prog_3_method_10_code (5 : Nat) (Option.none : Option Jvm.ClassFile.FieldType)) ∈ lw_all := lw_g (lw_at lw_m1 222 rfl) rfl
theorem q249 : (Jvm.Cond.methodLink "LeastDeviationsModel" (71 : Nat) ({ cls := "LeastDeviationsModel", name := "upper", desc := "()I" } : Jvm.MethodName)) ∈ lw_all := lw_g (lw_at lw_m1 223 rfl) rfl
theorem q250 : (Jvm.Cond.privateMethod ({ cls := "LeastDeviationsModel", name := "upper", desc := "()I" } : Jvm.MethodName)) ∈ lw_tbl := lw_at lw_m1 224 rfl
theorem q251 : (Jvm.Cond.instanceMethod ({ cls := "LeastDeviationsModel", name := "upper", desc := "()I" } : Jvm.MethodName)) ∈ lw_all := lw_g (lw_at lw_m1 225 rfl) rfl
theorem q252 : (Jvm.Cond.code ({ cls := "LeastDeviationsModel", name := "upper", desc := "()I" } : Jvm.MethodName) prog_3_method_15_code (3 : Nat) (Option.some Jvm.ClassFile.FieldType.int)) ∈ lw_all := lw_g (lw_at lw_m1 226 rfl) rfl
theorem q253 : (Jvm.Cond.methodLink "LeastDeviationsModel" (64 : Nat) ({ cls := "LeastDeviationsModel", name := "common", desc := "()J" } : Jvm.MethodName)) ∈ lw_all := lw_g (lw_at lw_m1 227 rfl) rfl
theorem q254 : (Jvm.Cond.privateMethod ({ cls := "LeastDeviationsModel", name := "common", desc := "()J" } : Jvm.MethodName)) ∈ lw_tbl := lw_at lw_m1 228 rfl
theorem q255 : (Jvm.Cond.instanceMethod ({ cls := "LeastDeviationsModel", name := "common", desc := "()J" } : Jvm.MethodName)) ∈ lw_all := lw_g (lw_at lw_m1 229 rfl) rfl
theorem q256 : (Jvm.Cond.code ({ cls := "LeastDeviationsModel", name := "common", desc := "()J" } : Jvm.MethodName) prog_3_method_14_code (8 : Nat) (Option.some Jvm.ClassFile.FieldType.long)) ∈ lw_all := lw_g (lw_at lw_m1 230 rfl) rfl
theorem q258 : (Jvm.Cond.instanceMethod ({ cls := "LeastDeviationsModel", name := "leastBottom", desc := "()I" } : Jvm.MethodName)) ∈ lw_all := lw_g (lw_at lw_m1 232 rfl) rfl
theorem q259 : (Jvm.Cond.selects "LeastDeviationsModel" ({ cls := "LeastDeviationsModel", name := "leastBottom", desc := "()I" } : Jvm.MethodName) ({ cls := "LeastDeviationsModel", name := "leastBottom", desc := "()I" } : Jvm.MethodName)) ∈ lw_all := lw_g (lw_at lw_m1 233 rfl) rfl
theorem q260 : (Jvm.Cond.code ({ cls := "LeastDeviationsModel", name := "leastBottom", desc := "()I" } : Jvm.MethodName) prog_3_method_18_code (1 : Nat) (Option.some Jvm.ClassFile.FieldType.int)) ∈ lw_all := lw_g (lw_at lw_m1 234 rfl) rfl
theorem q261 : (Jvm.Cond.methodLink "LeastDeviationsModel" (75 : Nat) ({ cls := "LeastDeviationsModel", name := "lower", desc := "()I" } : Jvm.MethodName)) ∈ lw_all := lw_g (lw_at lw_m1 235 rfl) rfl
theorem q262 : (Jvm.Cond.privateMethod ({ cls := "LeastDeviationsModel", name := "lower", desc := "()I" } : Jvm.MethodName)) ∈ lw_tbl := lw_at lw_m1 236 rfl
theorem q263 : (Jvm.Cond.instanceMethod ({ cls := "LeastDeviationsModel", name := "lower", desc := "()I" } : Jvm.MethodName)) ∈ lw_all := lw_g (lw_at lw_m1 237 rfl) rfl
theorem q264 : (Jvm.Cond.code ({ cls := "LeastDeviationsModel", name := "lower", desc := "()I" } : Jvm.MethodName) prog_3_method_16_code (3 : Nat) (Option.some Jvm.ClassFile.FieldType.int)) ∈ lw_all := lw_g (lw_at lw_m1 238 rfl) rfl
theorem q266 : (Jvm.Cond.instanceMethod ({ cls := "LeastDeviationsModel", name := "withSlope", desc := "(II)I" } : Jvm.MethodName)) ∈ lw_all := lw_g (lw_at lw_m2 0 rfl) rfl
theorem q267 : (Jvm.Cond.selects "LeastDeviationsModel" ({ cls := "LeastDeviationsModel", name := "withSlope", desc := "(II)I" } : Jvm.MethodName) ({ cls := "LeastDeviationsModel", name := "withSlope", desc := "(II)I" } : Jvm.MethodName)) ∈ lw_all := lw_g (lw_at lw_m2 1 rfl) rfl
theorem q268 : (Jvm.Cond.code ({ cls := "LeastDeviationsModel", name := "withSlope", desc := "(II)I" } : Jvm.MethodName) prog_3_method_21_code (3 : Nat) (Option.some Jvm.ClassFile.FieldType.int)) ∈ lw_all := lw_g (lw_at lw_m2 2 rfl) rfl
theorem q269 : (Jvm.Cond.methodLink "LeastDeviationsModel" (80 : Nat) ({ cls := "LeastDeviationsModel", name := "isSlope", desc := "(II)Z" } : Jvm.MethodName)) ∈ lw_all := lw_g (lw_at lw_m2 3 rfl) rfl
theorem q270 : (Jvm.Cond.privateMethod ({ cls := "LeastDeviationsModel", name := "isSlope", desc := "(II)Z" } : Jvm.MethodName)) ∈ lw_tbl := lw_at lw_m2 4 rfl
theorem q271 : (Jvm.Cond.instanceMethod ({ cls := "LeastDeviationsModel", name := "isSlope", desc := "(II)Z" } : Jvm.MethodName)) ∈ lw_all := lw_g (lw_at lw_m2 5 rfl) rfl
theorem q272 : (Jvm.Cond.code ({ cls := "LeastDeviationsModel", name := "isSlope", desc := "(II)Z" } : Jvm.MethodName) prog_3_method_19_code (3 : Nat) (Option.some Jvm.ClassFile.FieldType.boolean)) ∈ lw_all := lw_g (lw_at lw_m2 6 rfl) rfl
theorem q273 : (Jvm.Cond.methodLink "LeastDeviationsModel" (84 : Nat) ({ cls := "LeastDeviationsModel", name := "with", desc := "(II)J" } : Jvm.MethodName)) ∈ lw_all := lw_g (lw_at lw_m2 7 rfl) rfl
theorem q274 : (Jvm.Cond.privateMethod ({ cls := "LeastDeviationsModel", name := "with", desc := "(II)J" } : Jvm.MethodName)) ∈ lw_tbl := lw_at lw_m2 8 rfl
theorem q275 : (Jvm.Cond.instanceMethod ({ cls := "LeastDeviationsModel", name := "with", desc := "(II)J" } : Jvm.MethodName)) ∈ lw_all := lw_g (lw_at lw_m2 9 rfl) rfl
theorem q276 : (Jvm.Cond.code ({ cls := "LeastDeviationsModel", name := "with", desc := "(II)J" } : Jvm.MethodName) prog_3_method_20_code (8 : Nat) (Option.some Jvm.ClassFile.FieldType.long)) ∈ lw_all := lw_g (lw_at lw_m2 10 rfl) rfl
theorem q277 : (Jvm.Cond.constantLong "LeastDeviationsModel" (78 : Nat) (-1 : Int64)) ∈ lw_all := lw_g (lw_at lw_m2 11 rfl) rfl
theorem q279 : (Jvm.Cond.instanceMethod ({ cls := "LeastDeviationsModel", name := "bestSlope", desc := "(II)Z" } : Jvm.MethodName)) ∈ lw_all := lw_g (lw_at lw_m2 13 rfl) rfl
theorem q280 : (Jvm.Cond.selects "LeastDeviationsModel" ({ cls := "LeastDeviationsModel", name := "bestSlope", desc := "(II)Z" } : Jvm.MethodName) ({ cls := "LeastDeviationsModel", name := "bestSlope", desc := "(II)Z" } : Jvm.MethodName)) ∈ lw_all := lw_g (lw_at lw_m2 14 rfl) rfl
theorem q281 : (Jvm.Cond.code ({ cls := "LeastDeviationsModel", name := "bestSlope", desc := "(II)Z" } : Jvm.MethodName) prog_3_method_22_code (3 : Nat) (Option.some Jvm.ClassFile.FieldType.boolean)) ∈ lw_all := lw_g (lw_at lw_m2 15 rfl) rfl
theorem q283 : (Jvm.Cond.instanceMethod ({ cls := "LeastDeviationsModel", name := "bestPair", desc := "(II)Z" } : Jvm.MethodName)) ∈ lw_all := lw_g (lw_at lw_m2 17 rfl) rfl
theorem q284 : (Jvm.Cond.selects "LeastDeviationsModel" ({ cls := "LeastDeviationsModel", name := "bestPair", desc := "(II)Z" } : Jvm.MethodName) ({ cls := "LeastDeviationsModel", name := "bestPair", desc := "(II)Z" } : Jvm.MethodName)) ∈ lw_all := lw_g (lw_at lw_m2 18 rfl) rfl
theorem q285 : (Jvm.Cond.code ({ cls := "LeastDeviationsModel", name := "bestPair", desc := "(II)Z" } : Jvm.MethodName) prog_3_method_23_code (5 : Nat) (Option.some Jvm.ClassFile.FieldType.boolean)) ∈ lw_all := lw_g (lw_at lw_m2 19 rfl) rfl
theorem q287 : (Jvm.Cond.instanceMethod ({ cls := "LeastDeviationsModel", name := "throughTop", desc := "(I)I" } : Jvm.MethodName)) ∈ lw_all := lw_g (lw_at lw_m2 21 rfl) rfl
theorem q288 : (Jvm.Cond.selects "LeastDeviationsModel" ({ cls := "LeastDeviationsModel", name := "throughTop", desc := "(I)I" } : Jvm.MethodName) ({ cls := "LeastDeviationsModel", name := "throughTop", desc := "(I)I" } : Jvm.MethodName)) ∈ lw_all := lw_g (lw_at lw_m2 22 rfl) rfl
theorem q289 : (Jvm.Cond.code ({ cls := "LeastDeviationsModel", name := "throughTop", desc := "(I)I" } : Jvm.MethodName) prog_3_method_24_code (2 : Nat) (Option.some Jvm.ClassFile.FieldType.int)) ∈ lw_all := lw_g (lw_at lw_m2 23 rfl) rfl
theorem q291 : (Jvm.Cond.instanceMethod ({ cls := "LeastDeviationsModel", name := "throughBottom", desc := "(I)I" } : Jvm.MethodName)) ∈ lw_all := lw_g (lw_at lw_m2 25 rfl) rfl
theorem q292 : (Jvm.Cond.selects "LeastDeviationsModel" ({ cls := "LeastDeviationsModel", name := "throughBottom", desc := "(I)I" } : Jvm.MethodName) ({ cls := "LeastDeviationsModel", name := "throughBottom", desc := "(I)I" } : Jvm.MethodName)) ∈ lw_all := lw_g (lw_at lw_m2 26 rfl) rfl
theorem q293 : (Jvm.Cond.code ({ cls := "LeastDeviationsModel", name := "throughBottom", desc := "(I)I" } : Jvm.MethodName) prog_3_method_25_code (2 : Nat) (Option.some Jvm.ClassFile.FieldType.int)) ∈ lw_all := lw_g (lw_at lw_m2 27 rfl) rfl
theorem q295 : (Jvm.Cond.instanceMethod ({ cls := "LeastDeviationsModel", name := "points", desc := "()I" } : Jvm.MethodName)) ∈ lw_all := lw_g (lw_at lw_m2 29 rfl) rfl
theorem q296 : (Jvm.Cond.selects "LeastDeviationsModel" ({ cls := "LeastDeviationsModel", name := "points", desc := "()I" } : Jvm.MethodName) ({ cls := "LeastDeviationsModel", name := "points", desc := "()I" } : Jvm.MethodName)) ∈ lw_all := lw_g (lw_at lw_m2 30 rfl) rfl
theorem q297 : (Jvm.Cond.code ({ cls := "LeastDeviationsModel", name := "points", desc := "()I" } : Jvm.MethodName) prog_3_method_26_code (1 : Nat) (Option.some Jvm.ClassFile.FieldType.int)) ∈ lw_all := lw_g (lw_at lw_m2 31 rfl) rfl
theorem in_X1 : ∀ w ∈ wsX10, w ∈ lw_all := lw_in wsX10 [182, 184, 186, 188, 190, 192, 194] (by decide +kernel) (by decide +kernel)
end
section
/-! OWN ROWS: int cells hold zi x, long cells zl x for a mathematical x; ZW: the machine at a frame, for every heap that holds the world ws and every array of locals that holds lv -/
abbrev vwCl : List vw_C := [(RX0, TX0, 12), (RX1, TX1, 7)]
def zi (x : Int) : Int32 := Int32.ofInt x
def zl (x : Int) : Int64 := Int64.ofInt x
def bI (x : Int) : Prop := -2147483648 ≤ x ∧ x ≤ 2147483647
def bL (x : Int) : Prop := -9223372036854775808 ≤ x ∧ x ≤ 9223372036854775807
theorem bI.L {x : Int} (h : bI x) : bL x := by unfold bI at h; unfold bL; omega
theorem zi_add (a b : Int) : zi a + zi b = zi (a + b) := (Int32.ofInt_add a b).symm
theorem zi_sub (a b : Int) : zi a - zi b = zi (a - b) := (Int32.ofInt_sub a b).symm
theorem zi_mul (a b : Int) : zi a * zi b = zi (a * b) := (Int32.ofInt_mul a b).symm
theorem zi_neg (a : Int) : -zi a = zi (-a) := (Int32.ofInt_neg a).symm
theorem zl_add (a b : Int) : zl a + zl b = zl (a + b) := (Int64.ofInt_add a b).symm
theorem zl_sub (a b : Int) : zl a - zl b = zl (a - b) := (Int64.ofInt_sub a b).symm
theorem zl_mul (a b : Int) : zl a * zl b = zl (a * b) := (Int64.ofInt_mul a b).symm
theorem zl_neg (a : Int) : -zl a = zl (-a) := (Int64.ofInt_neg a).symm
theorem zi_toInt {a : Int} (h : bI a) : (zi a).toInt = a := Int32.toInt_ofInt_of_le (by unfold bI at h; omega) (by unfold bI at h; omega)
theorem zl_toInt {a : Int} (h : bL a) : (zl a).toInt = a := Int64.toInt_ofInt_of_le (by unfold bL at h; omega) (by unfold bL at h; omega)
theorem zi_eq {a b : Int} (ha : bI a) (hb : bI b) : zi a = zi b ↔ a = b := by
  constructor
  · intro h
    have := congrArg Int32.toInt h
    rw [zi_toInt ha, zi_toInt hb] at this
    exact this
  · intro h; rw [h]
theorem zi_lt {a b : Int} (ha : bI a) (hb : bI b) : zi a < zi b ↔ a < b := by
  rw [Int32.lt_iff_toInt_lt, zi_toInt ha, zi_toInt hb]
theorem zi_le {a b : Int} (ha : bI a) (hb : bI b) : zi a ≤ zi b ↔ a ≤ b := by
  rw [Int32.le_iff_toInt_le, zi_toInt ha, zi_toInt hb]
theorem zl_eq {a b : Int} (ha : bL a) (hb : bL b) : zl a = zl b ↔ a = b := by
  constructor
  · intro h
    have := congrArg Int64.toInt h
    rw [zl_toInt ha, zl_toInt hb] at this
    exact this
  · intro h; rw [h]
theorem zl_lt {a b : Int} (ha : bL a) (hb : bL b) : zl a < zl b ↔ a < b := by
  rw [Int64.lt_iff_toInt_lt, zl_toInt ha, zl_toInt hb]
theorem zl_le {a b : Int} (ha : bL a) (hb : bL b) : zl a ≤ zl b ↔ a ≤ b := by
  rw [Int64.le_iff_toInt_le, zl_toInt ha, zl_toInt hb]
theorem zi_0 : zi 0 = 0 := rfl
theorem zl_0 : zl 0 = 0 := rfl
theorem bI_0 : bI 0 := by unfold bI; omega
theorem bL_0 : bL 0 := by unfold bL; omega
theorem zi_l {a : Int} (h : bI a) : (zi a).toInt64 = zl a := by
  apply Int64.toInt_inj.mp
  rw [Int32.toInt_toInt64, zi_toInt h, zl_toInt h.L]
theorem zl_i (a : Int) : (zl a).toInt32 = zi a := Int64.toInt32_ofInt
theorem zi_b {a : Int} (h : -128 ≤ a ∧ a ≤ 127) : (zi a).toInt8.toInt32 = zi a := by
  apply Int32.toInt_inj.mp
  have h1 : bI a := by unfold bI; omega
  rw [Int8.toInt_toInt32, Int32.toInt_toInt8, zi_toInt h1]
  exact Int.bmod_eq_of_le (by omega) (by omega)
theorem zi_nb {a : Int} (h : -128 ≤ a ∧ a ≤ 127) : vp_nar .byte (zi a) = zi a := by rw [vp_nar_byte, zi_b h]
theorem zi_cl {a : Int} {k : Nat} (hk : a = (k : Int)) (hb : k < 2147483648) : (zi a).toNatClampNeg = k := by
  subst hk
  unfold zi
  rw [Int32.toNatClampNeg_ofInt_of_le (by omega) (by omega)]
  exact Int.toNat_natCast k
theorem zi_in {a : Int} {k n : Nat} (hk : a = (k : Int)) (hn : k < n) (hb : n < 2147483648) : vp_in (zi a) n := by
  rw [vp_in_iff, zi_toInt (by unfold bI; omega)]
  omega
theorem zl_div {a b : Int} (ha : bL a) (hb : bL b) : zl a / zl b = zl (a.tdiv b) :=
  (Int64.ofInt_tdiv (by unfold bL at ha; rw [Int64.toInt_minValue]; omega) (by unfold bL at ha; rw [Int64.toInt_maxValue]; omega) (by unfold bL at hb; rw [Int64.toInt_minValue]; omega) (by unfold bL at hb; rw [Int64.toInt_maxValue]; omega)).symm
theorem zl_rem {a b : Int} (ha : bL a) (hb : bL b) : zl a - zl a / zl b * zl b = zl (a.tmod b) := by
  rw [zl_div ha hb, zl_mul, zl_sub, Int.tmod_def, Int.mul_comm b]
def ld_up (f : Nat → Int) (k : Nat) (x : Int) : Nat → Int := fun j => if j = k then x else f j
theorem ld_up_s (f : Nat → Int) (k : Nat) (x : Int) : ld_up f k x k = x := by unfold ld_up; rw [if_pos rfl]
theorem ld_up_n (f : Nat → Int) {k j : Nat} (x : Int) (h : j ≠ k) : ld_up f k x j = f j := by unfold ld_up; rw [if_neg h]
theorem zi_upd (f : Nat → Int) (k : Nat) (x : Int) : upd (fun j => zi (f j)) k (zi x) = fun j => zi (ld_up f k x j) := by
  funext j
  unfold upd ld_up
  split <;> rfl
theorem zl_upd (f : Nat → Int) (k : Nat) (x : Int) : vp_updL (fun j => zl (f j)) k (zl x) = fun j => zl (ld_up f k x j) := by
  funext j
  unfold vp_updL ld_up
  split <;> rfl
/-- what is fixed in a method -/
def ZC (p : Program) (s : State) (m : MethodId) (args : Array Value) (c : Code) (cc : ByteArray) (nL : Nat) (own : String) (D : va_G) (tys : List (ClassId × FieldType)) (A : Nat → Prop) : Prop :=
  p.tables.exec = Jvm.exec ∧ c.code = cc ∧ c.maxLocals = nL ∧ s.vm.findClass own = some m.cls ∧ (∀ w ∈ lw_all, w.before args s = true) ∧ va_K D vwCl tys s ∧ ∀ q : Nat, s.heap.size ≤ q → A q
def ZW (p : Program) (l : Launch) (e : Env) (R : Room) (s : State) (m : MethodId) (args : Array Value) (below : List Frame) (meth : Method) (c : Code) (cells slots : Nat) (Q : State → Prop) (D : va_G) (A : Nat → Prop) (nL : Nat) (ws : va_W) (pc : Nat) (lv : List (Nat × Value)) (st : List Value) : Prop :=
  ∀ (H : Heap) (locs : List Loc) (ls : Array Slot), va_P D vwCl ws H → va_D A ws → va_S A s.heap H locs → lv_has ls nL lv → W p l e R s m args below meth c H locs cells slots Q (F0 m pc ls st)
section ZR
variable {p : Program} {l : Launch} {e : Env} {R : Room} {s : State} {m : MethodId} {args : Array Value} {below : List Frame} {meth : Method} {c : Code} {cells slots : Nat} {Q : State → Prop} {D : va_G} {A : Nat → Prop} {nL : Nat} {ws : va_W} {pc : Nat} {lv lv' : List (Nat × Value)} {st : List Value} {cc : ByteArray} {own : String} {tys : List (ClassId × FieldType)}
theorem zr_nmi {x : Int} (k : ∀ y : Int, y = x → ZW p l e R s m args below meth c cells slots Q D A nL ws pc lv (.int (zi y) :: st)) : ZW p l e R s m args below meth c cells slots Q D A nL ws pc lv (.int (zi x) :: st) := k x rfl
theorem zr_nml {x : Int} (k : ∀ y : Int, y = x → ZW p l e R s m args below meth c cells slots Q D A nL ws pc lv (.long (zl y) :: st)) : ZW p l e R s m args below meth c cells slots Q D A nL ws pc lv (.long (zl x) :: st) := k x rfl
/-- the value on the stack, rewritten -/
theorem zr_eqi {x y : Int} (h : x = y) (k : ZW p l e R s m args below meth c cells slots Q D A nL ws pc lv (.int (zi y) :: st)) : ZW p l e R s m args below meth c cells slots Q D A nL ws pc lv (.int (zi x) :: st) := h ▸ k
theorem zr_eql {x y : Int} (h : x = y) (k : ZW p l e R s m args below meth c cells slots Q D A nL ws pc lv (.long (zl y) :: st)) : ZW p l e R s m args below meth c cells slots Q D A nL ws pc lv (.long (zl x) :: st) := h ▸ k
theorem zr_lv (ks : List Nat) (hl : lv_pick lv ks = lv') (k : ZW p l e R s m args below meth c cells slots Q D A nL ws pc lv' st) : ZW p l e R s m args below meth c cells slots Q D A nL ws pc lv st := fun H locs ls hP hD hS h => k H locs ls hP hD hS (lv_sub h ks hl)
theorem zr_pc {pc' : Nat} (h : pc = pc') (k : ZW p l e R s m args below meth c cells slots Q D A nL ws pc' lv st) : ZW p l e R s m args below meth c cells slots Q D A nL ws pc lv st := h ▸ k
theorem zr_iconst (C : ZC p s m args c cc nL own D tys A) {n : Int} (hdg : decode cc pc = .ok (.iconst n, 1))
    (k : ZW p l e R s m args below meth c cells slots Q D A nL ws (pc + 1) lv (.int (zi n) :: st)) : ZW p l e R s m args below meth c cells slots Q D A nL ws pc lv st :=
  fun H locs ls hP hD hS hl => lv_iconst C.1 C.2.1 hdg rfl (k H locs ls hP hD hS hl)
theorem zr_bipush (C : ZC p s m args c cc nL own D tys A) {n : Int} (hdg : decode cc pc = .ok (.bipush n, 2)) (hn : -128 ≤ n ∧ n ≤ 127)
    (k : ZW p l e R s m args below meth c cells slots Q D A nL ws (pc + 2) lv (.int (zi n) :: st)) : ZW p l e R s m args below meth c cells slots Q D A nL ws pc lv st :=
  fun H locs ls hP hD hS hl => lv_bipush C.1 C.2.1 hdg (by rw [← zi_b hn]; unfold zi; rw [Int32.toInt8_ofInt]) (k H locs ls hP hD hS hl)
theorem zr_sipush (C : ZC p s m args c cc nL own D tys A) {n v : Int} (hdg : decode cc pc = .ok (.sipush n, 3)) (hv : (Int16.ofInt n).toInt32 = zi v)
    (k : ZW p l e R s m args below meth c cells slots Q D A nL ws (pc + 3) lv (.int (zi v) :: st)) : ZW p l e R s m args below meth c cells slots Q D A nL ws pc lv st :=
  fun H locs ls hP hD hS hl => lv_sipush C.1 C.2.1 hdg hv (k H locs ls hP hD hS hl)
theorem zr_lconst0 (C : ZC p s m args c cc nL own D tys A)  (hdg : decode cc pc = .ok (.lconst 0, 1))
    (k : ZW p l e R s m args below meth c cells slots Q D A nL ws (pc + 1) lv (.long (zl 0) :: st)) : ZW p l e R s m args below meth c cells slots Q D A nL ws pc lv st :=
  fun H locs ls hP hD hS hl => lv_lconst C.1 C.2.1 hdg rfl (k H locs ls hP hD hS hl)
theorem zr_lconst1 (C : ZC p s m args c cc nL own D tys A)  (hdg : decode cc pc = .ok (.lconst 1, 1))
    (k : ZW p l e R s m args below meth c cells slots Q D A nL ws (pc + 1) lv (.long (zl 1) :: st)) : ZW p l e R s m args below meth c cells slots Q D A nL ws pc lv st :=
  fun H locs ls hP hD hS hl => lv_lconst C.1 C.2.1 hdg rfl (k H locs ls hP hD hS hl)
theorem zr_iload_n (C : ZC p s m args c cc nL own D tys A) {kf : Fin 4} {i : Nat} {x : Int32} (j : Nat) (hdg : decode cc pc = .ok (.iload_n kf, 1)) (hi : (kf : Nat) = i) (hj : lv[j]? = some (i, (.int x)))
    (k : ZW p l e R s m args below meth c cells slots Q D A nL ws (pc + 1) lv (.int x :: st)) : ZW p l e R s m args below meth c cells slots Q D A nL ws pc lv st :=
  fun H locs ls hP hD hS hl => lv_iload_n C.1 C.2.1 hdg hi (lv_at hl j hj) (k H locs ls hP hD hS hl)
theorem zr_iload (C : ZC p s m args c cc nL own D tys A) {i : Nat} {x : Int32} (j : Nat) (hdg : decode cc pc = .ok (.iload i, 2)) (hj : lv[j]? = some (i, (.int x)))
    (k : ZW p l e R s m args below meth c cells slots Q D A nL ws (pc + 2) lv (.int x :: st)) : ZW p l e R s m args below meth c cells slots Q D A nL ws pc lv st :=
  fun H locs ls hP hD hS hl => lv_iload C.1 C.2.1 hdg (lv_at hl j hj) (k H locs ls hP hD hS hl)
theorem zr_lload_n (C : ZC p s m args c cc nL own D tys A) {kf : Fin 4} {i : Nat} {x : Int64} (j : Nat) (hdg : decode cc pc = .ok (.lload_n kf, 1)) (hi : (kf : Nat) = i) (hj : lv[j]? = some (i, (.long x)))
    (k : ZW p l e R s m args below meth c cells slots Q D A nL ws (pc + 1) lv (.long x :: st)) : ZW p l e R s m args below meth c cells slots Q D A nL ws pc lv st :=
  fun H locs ls hP hD hS hl => lv_lload_n C.1 C.2.1 hdg hi (lv_at hl j hj) (k H locs ls hP hD hS hl)
theorem zr_lload (C : ZC p s m args c cc nL own D tys A) {i : Nat} {x : Int64} (j : Nat) (hdg : decode cc pc = .ok (.lload i, 2)) (hj : lv[j]? = some (i, (.long x)))
    (k : ZW p l e R s m args below meth c cells slots Q D A nL ws (pc + 2) lv (.long x :: st)) : ZW p l e R s m args below meth c cells slots Q D A nL ws pc lv st :=
  fun H locs ls hP hD hS hl => lv_lload C.1 C.2.1 hdg (lv_at hl j hj) (k H locs ls hP hD hS hl)
theorem zr_aload_n (C : ZC p s m args c cc nL own D tys A) {kf : Fin 4} {i : Nat} {x : Nat} (j : Nat) (hdg : decode cc pc = .ok (.aload_n kf, 1)) (hi : (kf : Nat) = i) (hj : lv[j]? = some (i, (.ref x)))
    (k : ZW p l e R s m args below meth c cells slots Q D A nL ws (pc + 1) lv (.ref x :: st)) : ZW p l e R s m args below meth c cells slots Q D A nL ws pc lv st :=
  fun H locs ls hP hD hS hl => lv_aload_n C.1 C.2.1 hdg hi (lv_at hl j hj) (k H locs ls hP hD hS hl)
theorem zr_aload (C : ZC p s m args c cc nL own D tys A) {i : Nat} {x : Nat} (j : Nat) (hdg : decode cc pc = .ok (.aload i, 2)) (hj : lv[j]? = some (i, (.ref x)))
    (k : ZW p l e R s m args below meth c cells slots Q D A nL ws (pc + 2) lv (.ref x :: st)) : ZW p l e R s m args below meth c cells slots Q D A nL ws pc lv st :=
  fun H locs ls hP hD hS hl => lv_aload C.1 C.2.1 hdg (lv_at hl j hj) (k H locs ls hP hD hS hl)
theorem zr_istore_n (C : ZC p s m args c cc nL own D tys A) {kf : Fin 4} {i : Nat} {x : Int32} (hdg : decode cc pc = .ok (.istore_n kf, 1)) (hi : (kf : Nat) = i) (hn : i < nL) (hlv : (i, Value.int x) :: lv.filter (fun q => !(q.1 == i) && !(q.1 + 1 == i && q.2.category == 2)) = lv')
    (k : ZW p l e R s m args below meth c cells slots Q D A nL ws (pc + 1) lv' st) : ZW p l e R s m args below meth c cells slots Q D A nL ws pc lv (.int x :: st) := fun H locs ls hP hD hS hl => lv_istore_n C.1 C.2.1 hdg hi hl hn hlv (fun ls' hl' => k H locs ls' hP hD hS hl')
theorem zr_istore (C : ZC p s m args c cc nL own D tys A) {i : Nat} {x : Int32} (hdg : decode cc pc = .ok (.istore i, 2)) (hn : i < nL) (hlv : (i, Value.int x) :: lv.filter (fun q => !(q.1 == i) && !(q.1 + 1 == i && q.2.category == 2)) = lv')
    (k : ZW p l e R s m args below meth c cells slots Q D A nL ws (pc + 2) lv' st) : ZW p l e R s m args below meth c cells slots Q D A nL ws pc lv (.int x :: st) := fun H locs ls hP hD hS hl => lv_istore C.1 C.2.1 hdg hl hn hlv (fun ls' hl' => k H locs ls' hP hD hS hl')
theorem zr_lstore_n (C : ZC p s m args c cc nL own D tys A) {kf : Fin 4} {i : Nat} {x : Int64} (hdg : decode cc pc = .ok (.lstore_n kf, 1)) (hi : (kf : Nat) = i) (hn : i + 1 < nL) (hlv : (i, Value.long x) :: lv.filter (fun q => !(q.1 == i) && (!(q.1 == i + 1) && !(q.1 + 1 == i && q.2.category == 2))) = lv')
    (k : ZW p l e R s m args below meth c cells slots Q D A nL ws (pc + 1) lv' st) : ZW p l e R s m args below meth c cells slots Q D A nL ws pc lv (.long x :: st) := fun H locs ls hP hD hS hl => lv_lstore_n C.1 C.2.1 hdg hi hl hn hlv (fun ls' hl' => k H locs ls' hP hD hS hl')
theorem zr_lstore (C : ZC p s m args c cc nL own D tys A) {i : Nat} {x : Int64} (hdg : decode cc pc = .ok (.lstore i, 2)) (hn : i + 1 < nL) (hlv : (i, Value.long x) :: lv.filter (fun q => !(q.1 == i) && (!(q.1 == i + 1) && !(q.1 + 1 == i && q.2.category == 2))) = lv')
    (k : ZW p l e R s m args below meth c cells slots Q D A nL ws (pc + 2) lv' st) : ZW p l e R s m args below meth c cells slots Q D A nL ws pc lv (.long x :: st) := fun H locs ls hP hD hS hl => lv_lstore C.1 C.2.1 hdg hl hn hlv (fun ls' hl' => k H locs ls' hP hD hS hl')
theorem zr_astore_n (C : ZC p s m args c cc nL own D tys A) {kf : Fin 4} {i : Nat} {x : Nat} (hdg : decode cc pc = .ok (.astore_n kf, 1)) (hi : (kf : Nat) = i) (hn : i < nL) (hlv : (i, Value.ref x) :: lv.filter (fun q => !(q.1 == i) && !(q.1 + 1 == i && q.2.category == 2)) = lv')
    (k : ZW p l e R s m args below meth c cells slots Q D A nL ws (pc + 1) lv' st) : ZW p l e R s m args below meth c cells slots Q D A nL ws pc lv (.ref x :: st) := fun H locs ls hP hD hS hl => lv_astore_n C.1 C.2.1 hdg hi hl hn hlv (fun ls' hl' => k H locs ls' hP hD hS hl')
theorem zr_astore (C : ZC p s m args c cc nL own D tys A) {i : Nat} {x : Nat} (hdg : decode cc pc = .ok (.astore i, 2)) (hn : i < nL) (hlv : (i, Value.ref x) :: lv.filter (fun q => !(q.1 == i) && !(q.1 + 1 == i && q.2.category == 2)) = lv')
    (k : ZW p l e R s m args below meth c cells slots Q D A nL ws (pc + 2) lv' st) : ZW p l e R s m args below meth c cells slots Q D A nL ws pc lv (.ref x :: st) := fun H locs ls hP hD hS hl => lv_astore C.1 C.2.1 hdg hl hn hlv (fun ls' hl' => k H locs ls' hP hD hS hl')
theorem zr_iinc (C : ZC p s m args c cc nL own D tys A) {i : Nat} {n x : Int} {v : Int} (j : Nat) (hdg : decode cc pc = .ok (.iinc i n, 3)) (hj : lv[j]? = some (i, .int (zi x))) (hv : x + n = v) (hn : i < nL) (hlv : (i, Value.int (zi v)) :: lv.filter (fun q => !(q.1 == i) && !(q.1 + 1 == i && q.2.category == 2)) = lv')
    (k : ZW p l e R s m args below meth c cells slots Q D A nL ws (pc + 3) lv' st) : ZW p l e R s m args below meth c cells slots Q D A nL ws pc lv st := fun H locs ls hP hD hS hl => lv_iinc (v := zi v) C.1 C.2.1 hdg hl hj (by rw [← hv]; exact zi_add x n) hn hlv (fun ls' hl' => k H locs ls' hP hD hS hl')
theorem zr_iadd (C : ZC p s m args c cc nL own D tys A) {a b : Int} (hdg : decode cc pc = .ok (.iadd, 1))
    (k : ZW p l e R s m args below meth c cells slots Q D A nL ws (pc + 1) lv (.int (zi (a + b)) :: st)) : ZW p l e R s m args below meth c cells slots Q D A nL ws pc lv (.int (zi b) :: .int (zi a) :: st) :=
  fun H locs ls hP hD hS hl => lv_iadd C.1 C.2.1 hdg (by rw [zi_add]; exact k H locs ls hP hD hS hl)
theorem zr_isub (C : ZC p s m args c cc nL own D tys A) {a b : Int} (hdg : decode cc pc = .ok (.isub, 1))
    (k : ZW p l e R s m args below meth c cells slots Q D A nL ws (pc + 1) lv (.int (zi (a - b)) :: st)) : ZW p l e R s m args below meth c cells slots Q D A nL ws pc lv (.int (zi b) :: .int (zi a) :: st) :=
  fun H locs ls hP hD hS hl => lv_isub C.1 C.2.1 hdg (by rw [zi_sub]; exact k H locs ls hP hD hS hl)
theorem zr_imul (C : ZC p s m args c cc nL own D tys A) {a b : Int} (hdg : decode cc pc = .ok (.imul, 1))
    (k : ZW p l e R s m args below meth c cells slots Q D A nL ws (pc + 1) lv (.int (zi (a * b)) :: st)) : ZW p l e R s m args below meth c cells slots Q D A nL ws pc lv (.int (zi b) :: .int (zi a) :: st) :=
  fun H locs ls hP hD hS hl => lv_imul C.1 C.2.1 hdg (by rw [zi_mul]; exact k H locs ls hP hD hS hl)
theorem zr_ladd (C : ZC p s m args c cc nL own D tys A) {a b : Int} (hdg : decode cc pc = .ok (.ladd, 1))
    (k : ZW p l e R s m args below meth c cells slots Q D A nL ws (pc + 1) lv (.long (zl (a + b)) :: st)) : ZW p l e R s m args below meth c cells slots Q D A nL ws pc lv (.long (zl b) :: .long (zl a) :: st) :=
  fun H locs ls hP hD hS hl => lv_ladd C.1 C.2.1 hdg (by rw [zl_add]; exact k H locs ls hP hD hS hl)
theorem zr_lsub (C : ZC p s m args c cc nL own D tys A) {a b : Int} (hdg : decode cc pc = .ok (.lsub, 1))
    (k : ZW p l e R s m args below meth c cells slots Q D A nL ws (pc + 1) lv (.long (zl (a - b)) :: st)) : ZW p l e R s m args below meth c cells slots Q D A nL ws pc lv (.long (zl b) :: .long (zl a) :: st) :=
  fun H locs ls hP hD hS hl => lv_lsub C.1 C.2.1 hdg (by rw [zl_sub]; exact k H locs ls hP hD hS hl)
theorem zr_lmul (C : ZC p s m args c cc nL own D tys A) {a b : Int} (hdg : decode cc pc = .ok (.lmul, 1))
    (k : ZW p l e R s m args below meth c cells slots Q D A nL ws (pc + 1) lv (.long (zl (a * b)) :: st)) : ZW p l e R s m args below meth c cells slots Q D A nL ws pc lv (.long (zl b) :: .long (zl a) :: st) :=
  fun H locs ls hP hD hS hl => lv_lmul C.1 C.2.1 hdg (by rw [zl_mul]; exact k H locs ls hP hD hS hl)
theorem zr_ineg (C : ZC p s m args c cc nL own D tys A) {a : Int} (hdg : decode cc pc = .ok (.ineg, 1))
    (k : ZW p l e R s m args below meth c cells slots Q D A nL ws (pc + 1) lv (.int (zi (-a)) :: st)) : ZW p l e R s m args below meth c cells slots Q D A nL ws pc lv (.int (zi a) :: st) :=
  fun H locs ls hP hD hS hl => lv_ineg C.1 C.2.1 hdg (by rw [zi_neg]; exact k H locs ls hP hD hS hl)
theorem zr_lneg (C : ZC p s m args c cc nL own D tys A) {a : Int} (hdg : decode cc pc = .ok (.lneg, 1))
    (k : ZW p l e R s m args below meth c cells slots Q D A nL ws (pc + 1) lv (.long (zl (-a)) :: st)) : ZW p l e R s m args below meth c cells slots Q D A nL ws pc lv (.long (zl a) :: st) :=
  fun H locs ls hP hD hS hl => lv_lneg C.1 C.2.1 hdg (by rw [zl_neg]; exact k H locs ls hP hD hS hl)
theorem zr_ldiv (C : ZC p s m args c cc nL own D tys A) {a b : Int} (hdg : decode cc pc = .ok (.ldiv, 1)) (hne : b ≠ 0) (ha : bL a) (hb : bL b)
    (k : ZW p l e R s m args below meth c cells slots Q D A nL ws (pc + 1) lv (.long (zl (a.tdiv b)) :: st)) : ZW p l e R s m args below meth c cells slots Q D A nL ws pc lv (.long (zl b) :: .long (zl a) :: st) :=
  fun H locs ls hP hD hS hl => lv_ldiv C.1 C.2.1 hdg (by intro h; exact hne ((zl_eq hb bL_0).mp h)) (by rw [zl_div ha hb]; exact k H locs ls hP hD hS hl)
theorem zr_lrem (C : ZC p s m args c cc nL own D tys A) {a b : Int} (hdg : decode cc pc = .ok (.lrem, 1)) (hne : b ≠ 0) (ha : bL a) (hb : bL b)
    (k : ZW p l e R s m args below meth c cells slots Q D A nL ws (pc + 1) lv (.long (zl (a.tmod b)) :: st)) : ZW p l e R s m args below meth c cells slots Q D A nL ws pc lv (.long (zl b) :: .long (zl a) :: st) :=
  fun H locs ls hP hD hS hl => lv_lrem C.1 C.2.1 hdg (by intro h; exact hne ((zl_eq hb bL_0).mp h)) (by rw [zl_rem ha hb]; exact k H locs ls hP hD hS hl)
theorem zr_i2l (C : ZC p s m args c cc nL own D tys A) {a : Int} (hdg : decode cc pc = .ok (.i2l, 1)) (ha : bI a)
    (k : ZW p l e R s m args below meth c cells slots Q D A nL ws (pc + 1) lv (.long (zl a) :: st)) : ZW p l e R s m args below meth c cells slots Q D A nL ws pc lv (.int (zi a) :: st) :=
  fun H locs ls hP hD hS hl => lv_i2l C.1 C.2.1 hdg (zi_l ha) (k H locs ls hP hD hS hl)
theorem zr_l2i (C : ZC p s m args c cc nL own D tys A) {a : Int} (hdg : decode cc pc = .ok (.l2i, 1))
    (k : ZW p l e R s m args below meth c cells slots Q D A nL ws (pc + 1) lv (.int (zi a) :: st)) : ZW p l e R s m args below meth c cells slots Q D A nL ws pc lv (.long (zl a) :: st) :=
  fun H locs ls hP hD hS hl => lv_l2i C.1 C.2.1 hdg (zl_i a) (k H locs ls hP hD hS hl)
theorem zr_i2b (C : ZC p s m args c cc nL own D tys A) {a : Int} (hdg : decode cc pc = .ok (.i2b, 1)) (ha : -128 ≤ a ∧ a ≤ 127)
    (k : ZW p l e R s m args below meth c cells slots Q D A nL ws (pc + 1) lv (.int (zi a) :: st)) : ZW p l e R s m args below meth c cells slots Q D A nL ws pc lv (.int (zi a) :: st) :=
  fun H locs ls hP hD hS hl => lv_i2b C.1 C.2.1 hdg (zi_b ha) (k H locs ls hP hD hS hl)
theorem zr_dup (C : ZC p s m args c cc nL own D tys A) {va : Value} (hdg : decode cc pc = .ok (.dup, 1)) (hva : va.category = 1)
    (k : ZW p l e R s m args below meth c cells slots Q D A nL ws (pc + 1) lv (va :: va :: st)) : ZW p l e R s m args below meth c cells slots Q D A nL ws pc lv (va :: st) :=
  fun H locs ls hP hD hS hl => lv_dup C.1 C.2.1 hdg hva (k H locs ls hP hD hS hl)
theorem zr_dup2_11 (C : ZC p s m args c cc nL own D tys A) {va vb : Value} (hdg : decode cc pc = .ok (.dup2, 1)) (hva : va.category = 1) (hvb : vb.category = 1)
    (k : ZW p l e R s m args below meth c cells slots Q D A nL ws (pc + 1) lv (va :: vb :: va :: vb :: st)) : ZW p l e R s m args below meth c cells slots Q D A nL ws pc lv (va :: vb :: st) :=
  fun H locs ls hP hD hS hl => lv_dup2_11 C.1 C.2.1 hdg hva hvb (k H locs ls hP hD hS hl)
theorem zr_goto (C : ZC p s m args c cc nL own D tys A) {off : Int} {tgt : Nat} (hdg : decode cc pc = .ok (.goto off, 3)) (ht : (pc : Int) + off = (tgt : Int))
    (k : ZW p l e R s m args below meth c cells slots Q D A nL ws tgt lv st) : ZW p l e R s m args below meth c cells slots Q D A nL ws pc lv st :=
  fun H locs ls hP hD hS hl => lv_goto C.1 C.2.1 hdg ht (k H locs ls hP hD hS hl)
theorem zr_icmp_eq (C : ZC p s m args c cc nL own D tys A) {a b : Int} {off : Int} {tgt : Nat} (hdg : decode cc pc = .ok (.if_icmp .eq off, 3)) (ht : (pc : Int) + off = (tgt : Int)) (ha : bI a) (hb : bI b)
    (kt : a = b → ZW p l e R s m args below meth c cells slots Q D A nL ws tgt lv st) (kf : a ≠ b → ZW p l e R s m args below meth c cells slots Q D A nL ws (pc + 3) lv st) : ZW p l e R s m args below meth c cells slots Q D A nL ws pc lv (.int (zi b) :: .int (zi a) :: st) :=
  fun H locs ls hP hD hS hl => lv_icmp_eq C.1 C.2.1 hdg ht (fun h => kt ((zi_eq ha hb).mp h) H locs ls hP hD hS hl) (fun h => kf (fun q => h ((zi_eq ha hb).mpr q)) H locs ls hP hD hS hl)
theorem zr_icmp_ne (C : ZC p s m args c cc nL own D tys A) {a b : Int} {off : Int} {tgt : Nat} (hdg : decode cc pc = .ok (.if_icmp .ne off, 3)) (ht : (pc : Int) + off = (tgt : Int)) (ha : bI a) (hb : bI b)
    (kt : a ≠ b → ZW p l e R s m args below meth c cells slots Q D A nL ws tgt lv st) (kf : a = b → ZW p l e R s m args below meth c cells slots Q D A nL ws (pc + 3) lv st) : ZW p l e R s m args below meth c cells slots Q D A nL ws pc lv (.int (zi b) :: .int (zi a) :: st) :=
  fun H locs ls hP hD hS hl => lv_icmp_ne C.1 C.2.1 hdg ht (fun h => kt (fun q => h ((zi_eq ha hb).mpr q)) H locs ls hP hD hS hl) (fun h => kf ((zi_eq ha hb).mp h) H locs ls hP hD hS hl)
theorem zr_icmp_lt (C : ZC p s m args c cc nL own D tys A) {a b : Int} {off : Int} {tgt : Nat} (hdg : decode cc pc = .ok (.if_icmp .lt off, 3)) (ht : (pc : Int) + off = (tgt : Int)) (ha : bI a) (hb : bI b)
    (kt : a < b → ZW p l e R s m args below meth c cells slots Q D A nL ws tgt lv st) (kf : b ≤ a → ZW p l e R s m args below meth c cells slots Q D A nL ws (pc + 3) lv st) : ZW p l e R s m args below meth c cells slots Q D A nL ws pc lv (.int (zi b) :: .int (zi a) :: st) :=
  fun H locs ls hP hD hS hl => lv_icmp_lt C.1 C.2.1 hdg ht (fun h => kt ((zi_lt ha hb).mp h) H locs ls hP hD hS hl) (fun h => kf (Int.not_lt.mp (fun q => h ((zi_lt ha hb).mpr q))) H locs ls hP hD hS hl)
theorem zr_icmp_ge (C : ZC p s m args c cc nL own D tys A) {a b : Int} {off : Int} {tgt : Nat} (hdg : decode cc pc = .ok (.if_icmp .ge off, 3)) (ht : (pc : Int) + off = (tgt : Int)) (ha : bI a) (hb : bI b)
    (kt : b ≤ a → ZW p l e R s m args below meth c cells slots Q D A nL ws tgt lv st) (kf : a < b → ZW p l e R s m args below meth c cells slots Q D A nL ws (pc + 3) lv st) : ZW p l e R s m args below meth c cells slots Q D A nL ws pc lv (.int (zi b) :: .int (zi a) :: st) :=
  fun H locs ls hP hD hS hl => lv_icmp_ge C.1 C.2.1 hdg ht (fun h => kt ((zi_le hb ha).mp h) H locs ls hP hD hS hl) (fun h => kf (Int.not_le.mp (fun q => h ((zi_le hb ha).mpr q))) H locs ls hP hD hS hl)
theorem zr_icmp_gt (C : ZC p s m args c cc nL own D tys A) {a b : Int} {off : Int} {tgt : Nat} (hdg : decode cc pc = .ok (.if_icmp .gt off, 3)) (ht : (pc : Int) + off = (tgt : Int)) (ha : bI a) (hb : bI b)
    (kt : b < a → ZW p l e R s m args below meth c cells slots Q D A nL ws tgt lv st) (kf : a ≤ b → ZW p l e R s m args below meth c cells slots Q D A nL ws (pc + 3) lv st) : ZW p l e R s m args below meth c cells slots Q D A nL ws pc lv (.int (zi b) :: .int (zi a) :: st) :=
  fun H locs ls hP hD hS hl => lv_icmp_gt C.1 C.2.1 hdg ht (fun h => kt ((zi_lt hb ha).mp h) H locs ls hP hD hS hl) (fun h => kf (Int.not_lt.mp (fun q => h ((zi_lt hb ha).mpr q))) H locs ls hP hD hS hl)
theorem zr_icmp_le (C : ZC p s m args c cc nL own D tys A) {a b : Int} {off : Int} {tgt : Nat} (hdg : decode cc pc = .ok (.if_icmp .le off, 3)) (ht : (pc : Int) + off = (tgt : Int)) (ha : bI a) (hb : bI b)
    (kt : a ≤ b → ZW p l e R s m args below meth c cells slots Q D A nL ws tgt lv st) (kf : b < a → ZW p l e R s m args below meth c cells slots Q D A nL ws (pc + 3) lv st) : ZW p l e R s m args below meth c cells slots Q D A nL ws pc lv (.int (zi b) :: .int (zi a) :: st) :=
  fun H locs ls hP hD hS hl => lv_icmp_le C.1 C.2.1 hdg ht (fun h => kt ((zi_le ha hb).mp h) H locs ls hP hD hS hl) (fun h => kf (Int.not_le.mp (fun q => h ((zi_le ha hb).mpr q))) H locs ls hP hD hS hl)
theorem zr_if_eq (C : ZC p s m args c cc nL own D tys A) {a : Int} {off : Int} {tgt : Nat} (hdg : decode cc pc = .ok (.ifCond .eq off, 3)) (ht : (pc : Int) + off = (tgt : Int)) (ha : bI a)
    (kt : a = 0 → ZW p l e R s m args below meth c cells slots Q D A nL ws tgt lv st) (kf : a ≠ 0 → ZW p l e R s m args below meth c cells slots Q D A nL ws (pc + 3) lv st) : ZW p l e R s m args below meth c cells slots Q D A nL ws pc lv (.int (zi a) :: st) :=
  fun H locs ls hP hD hS hl => lv_if_eq C.1 C.2.1 hdg ht (fun h => kt ((zi_eq ha bI_0).mp h) H locs ls hP hD hS hl) (fun h => kf (fun q => h ((zi_eq ha bI_0).mpr q)) H locs ls hP hD hS hl)
theorem zr_if_ne (C : ZC p s m args c cc nL own D tys A) {a : Int} {off : Int} {tgt : Nat} (hdg : decode cc pc = .ok (.ifCond .ne off, 3)) (ht : (pc : Int) + off = (tgt : Int)) (ha : bI a)
    (kt : a ≠ 0 → ZW p l e R s m args below meth c cells slots Q D A nL ws tgt lv st) (kf : a = 0 → ZW p l e R s m args below meth c cells slots Q D A nL ws (pc + 3) lv st) : ZW p l e R s m args below meth c cells slots Q D A nL ws pc lv (.int (zi a) :: st) :=
  fun H locs ls hP hD hS hl => lv_if_ne C.1 C.2.1 hdg ht (fun h => kt (fun q => h ((zi_eq ha bI_0).mpr q)) H locs ls hP hD hS hl) (fun h => kf ((zi_eq ha bI_0).mp h) H locs ls hP hD hS hl)
theorem zr_if_lt (C : ZC p s m args c cc nL own D tys A) {a : Int} {off : Int} {tgt : Nat} (hdg : decode cc pc = .ok (.ifCond .lt off, 3)) (ht : (pc : Int) + off = (tgt : Int)) (ha : bI a)
    (kt : a < 0 → ZW p l e R s m args below meth c cells slots Q D A nL ws tgt lv st) (kf : 0 ≤ a → ZW p l e R s m args below meth c cells slots Q D A nL ws (pc + 3) lv st) : ZW p l e R s m args below meth c cells slots Q D A nL ws pc lv (.int (zi a) :: st) :=
  fun H locs ls hP hD hS hl => lv_if_lt C.1 C.2.1 hdg ht (fun h => kt ((zi_lt ha bI_0).mp h) H locs ls hP hD hS hl) (fun h => kf (Int.not_lt.mp (fun q => h ((zi_lt ha bI_0).mpr q))) H locs ls hP hD hS hl)
theorem zr_if_ge (C : ZC p s m args c cc nL own D tys A) {a : Int} {off : Int} {tgt : Nat} (hdg : decode cc pc = .ok (.ifCond .ge off, 3)) (ht : (pc : Int) + off = (tgt : Int)) (ha : bI a)
    (kt : 0 ≤ a → ZW p l e R s m args below meth c cells slots Q D A nL ws tgt lv st) (kf : a < 0 → ZW p l e R s m args below meth c cells slots Q D A nL ws (pc + 3) lv st) : ZW p l e R s m args below meth c cells slots Q D A nL ws pc lv (.int (zi a) :: st) :=
  fun H locs ls hP hD hS hl => lv_if_ge C.1 C.2.1 hdg ht (fun h => kt ((zi_le bI_0 ha).mp h) H locs ls hP hD hS hl) (fun h => kf (Int.not_le.mp (fun q => h ((zi_le bI_0 ha).mpr q))) H locs ls hP hD hS hl)
theorem zr_if_gt (C : ZC p s m args c cc nL own D tys A) {a : Int} {off : Int} {tgt : Nat} (hdg : decode cc pc = .ok (.ifCond .gt off, 3)) (ht : (pc : Int) + off = (tgt : Int)) (ha : bI a)
    (kt : 0 < a → ZW p l e R s m args below meth c cells slots Q D A nL ws tgt lv st) (kf : a ≤ 0 → ZW p l e R s m args below meth c cells slots Q D A nL ws (pc + 3) lv st) : ZW p l e R s m args below meth c cells slots Q D A nL ws pc lv (.int (zi a) :: st) :=
  fun H locs ls hP hD hS hl => lv_if_gt C.1 C.2.1 hdg ht (fun h => kt ((zi_lt bI_0 ha).mp h) H locs ls hP hD hS hl) (fun h => kf (Int.not_lt.mp (fun q => h ((zi_lt bI_0 ha).mpr q))) H locs ls hP hD hS hl)
theorem zr_if_le (C : ZC p s m args c cc nL own D tys A) {a : Int} {off : Int} {tgt : Nat} (hdg : decode cc pc = .ok (.ifCond .le off, 3)) (ht : (pc : Int) + off = (tgt : Int)) (ha : bI a)
    (kt : a ≤ 0 → ZW p l e R s m args below meth c cells slots Q D A nL ws tgt lv st) (kf : 0 < a → ZW p l e R s m args below meth c cells slots Q D A nL ws (pc + 3) lv st) : ZW p l e R s m args below meth c cells slots Q D A nL ws pc lv (.int (zi a) :: st) :=
  fun H locs ls hP hD hS hl => lv_if_le C.1 C.2.1 hdg ht (fun h => kt ((zi_le ha bI_0).mp h) H locs ls hP hD hS hl) (fun h => kf (Int.not_le.mp (fun q => h ((zi_le ha bI_0).mpr q))) H locs ls hP hD hS hl)
theorem zr_lcmp_eq (C : ZC p s m args c cc nL own D tys A) {a b : Int} {off : Int} {tgt : Nat} (hdc : decode cc pc = .ok (.lcmp, 1)) (hdg : decode cc (pc + 1) = .ok (.ifCond .eq off, 3)) (ht : ((pc + 1 : Nat) : Int) + off = (tgt : Int)) (ha : bL a) (hb : bL b)
    (kt : a = b → ZW p l e R s m args below meth c cells slots Q D A nL ws tgt lv st) (kf : a ≠ b → ZW p l e R s m args below meth c cells slots Q D A nL ws (pc + 1 + 3) lv st) : ZW p l e R s m args below meth c cells slots Q D A nL ws pc lv (.long (zl b) :: .long (zl a) :: st) :=
  fun H locs ls hP hD hS hl => W.lcmp C.1 C.2.1 hdc (lv_if_eq C.1 C.2.1 hdg ht (fun h => kt ((zl_eq ha hb).mp ((lg_cmp_eq _ _).mp h)) H locs ls hP hD hS hl) (fun h => kf (fun q => h ((lg_cmp_eq _ _).mpr ((zl_eq ha hb).mpr q))) H locs ls hP hD hS hl))
theorem zr_lcmp_ne (C : ZC p s m args c cc nL own D tys A) {a b : Int} {off : Int} {tgt : Nat} (hdc : decode cc pc = .ok (.lcmp, 1)) (hdg : decode cc (pc + 1) = .ok (.ifCond .ne off, 3)) (ht : ((pc + 1 : Nat) : Int) + off = (tgt : Int)) (ha : bL a) (hb : bL b)
    (kt : a ≠ b → ZW p l e R s m args below meth c cells slots Q D A nL ws tgt lv st) (kf : a = b → ZW p l e R s m args below meth c cells slots Q D A nL ws (pc + 1 + 3) lv st) : ZW p l e R s m args below meth c cells slots Q D A nL ws pc lv (.long (zl b) :: .long (zl a) :: st) :=
  fun H locs ls hP hD hS hl => W.lcmp C.1 C.2.1 hdc (lv_if_ne C.1 C.2.1 hdg ht (fun h => kt (fun q => h ((lg_cmp_eq _ _).mpr ((zl_eq ha hb).mpr q))) H locs ls hP hD hS hl) (fun h => kf ((zl_eq ha hb).mp ((lg_cmp_eq _ _).mp h)) H locs ls hP hD hS hl))
theorem zr_lcmp_lt (C : ZC p s m args c cc nL own D tys A) {a b : Int} {off : Int} {tgt : Nat} (hdc : decode cc pc = .ok (.lcmp, 1)) (hdg : decode cc (pc + 1) = .ok (.ifCond .lt off, 3)) (ht : ((pc + 1 : Nat) : Int) + off = (tgt : Int)) (ha : bL a) (hb : bL b)
    (kt : a < b → ZW p l e R s m args below meth c cells slots Q D A nL ws tgt lv st) (kf : b ≤ a → ZW p l e R s m args below meth c cells slots Q D A nL ws (pc + 1 + 3) lv st) : ZW p l e R s m args below meth c cells slots Q D A nL ws pc lv (.long (zl b) :: .long (zl a) :: st) :=
  fun H locs ls hP hD hS hl => W.lcmp C.1 C.2.1 hdc (lv_if_lt C.1 C.2.1 hdg ht (fun h => kt ((zl_lt ha hb).mp ((lg_cmp_lt _ _).mp h)) H locs ls hP hD hS hl) (fun h => kf (Int.not_lt.mp (fun q => h ((lg_cmp_lt _ _).mpr ((zl_lt ha hb).mpr q)))) H locs ls hP hD hS hl))
theorem zr_lcmp_ge (C : ZC p s m args c cc nL own D tys A) {a b : Int} {off : Int} {tgt : Nat} (hdc : decode cc pc = .ok (.lcmp, 1)) (hdg : decode cc (pc + 1) = .ok (.ifCond .ge off, 3)) (ht : ((pc + 1 : Nat) : Int) + off = (tgt : Int)) (ha : bL a) (hb : bL b)
    (kt : b ≤ a → ZW p l e R s m args below meth c cells slots Q D A nL ws tgt lv st) (kf : a < b → ZW p l e R s m args below meth c cells slots Q D A nL ws (pc + 1 + 3) lv st) : ZW p l e R s m args below meth c cells slots Q D A nL ws pc lv (.long (zl b) :: .long (zl a) :: st) :=
  fun H locs ls hP hD hS hl => W.lcmp C.1 C.2.1 hdc (lv_if_ge C.1 C.2.1 hdg ht (fun h => kt ((zl_le hb ha).mp ((lg_cmp_ge _ _).mp h)) H locs ls hP hD hS hl) (fun h => kf (Int.not_le.mp (fun q => h ((lg_cmp_ge _ _).mpr ((zl_le hb ha).mpr q)))) H locs ls hP hD hS hl))
theorem zr_lcmp_gt (C : ZC p s m args c cc nL own D tys A) {a b : Int} {off : Int} {tgt : Nat} (hdc : decode cc pc = .ok (.lcmp, 1)) (hdg : decode cc (pc + 1) = .ok (.ifCond .gt off, 3)) (ht : ((pc + 1 : Nat) : Int) + off = (tgt : Int)) (ha : bL a) (hb : bL b)
    (kt : b < a → ZW p l e R s m args below meth c cells slots Q D A nL ws tgt lv st) (kf : a ≤ b → ZW p l e R s m args below meth c cells slots Q D A nL ws (pc + 1 + 3) lv st) : ZW p l e R s m args below meth c cells slots Q D A nL ws pc lv (.long (zl b) :: .long (zl a) :: st) :=
  fun H locs ls hP hD hS hl => W.lcmp C.1 C.2.1 hdc (lv_if_gt C.1 C.2.1 hdg ht (fun h => kt ((zl_lt hb ha).mp ((lg_cmp_gt _ _).mp h)) H locs ls hP hD hS hl) (fun h => kf (Int.not_lt.mp (fun q => h ((lg_cmp_gt _ _).mpr ((zl_lt hb ha).mpr q)))) H locs ls hP hD hS hl))
theorem zr_lcmp_le (C : ZC p s m args c cc nL own D tys A) {a b : Int} {off : Int} {tgt : Nat} (hdc : decode cc pc = .ok (.lcmp, 1)) (hdg : decode cc (pc + 1) = .ok (.ifCond .le off, 3)) (ht : ((pc + 1 : Nat) : Int) + off = (tgt : Int)) (ha : bL a) (hb : bL b)
    (kt : a ≤ b → ZW p l e R s m args below meth c cells slots Q D A nL ws tgt lv st) (kf : b < a → ZW p l e R s m args below meth c cells slots Q D A nL ws (pc + 1 + 3) lv st) : ZW p l e R s m args below meth c cells slots Q D A nL ws pc lv (.long (zl b) :: .long (zl a) :: st) :=
  fun H locs ls hP hD hS hl => W.lcmp C.1 C.2.1 hdc (lv_if_le C.1 C.2.1 hdg ht (fun h => kt ((zl_le ha hb).mp ((lg_cmp_le _ _).mp h)) H locs ls hP hD hS hl) (fun h => kf (Int.not_le.mp (fun q => h ((lg_cmp_le _ _).mpr ((zl_le ha hb).mpr q)))) H locs ls hP hD hS hl))
theorem zr_get (C : ZC p s m args c cc nL own D tys A) {ref C0 : String} {T : u_T} {N ci index a : Nat} (hin : ∀ w ∈ u_ws C0 T N, w ∈ lw_all) (q0 : Nat) {fs : List Value} (he : ws[q0]? = some (a, .inr (ci, fs))) (hc : vwCl[ci]? = some (C0, T, N)) (k0 : Nat) (hk : k0 < N) (hlink : Cond.fieldLink own index ref (T k0).2.1 (T k0).2.2.1 ∈ lw_all) (hsame : (T k0).1 = ref) {v : Value} (hv : fs[k0]? = some v) (hdg : decode cc pc = .ok (.getfield index, 3))
    (k : ZW p l e R s m args below meth c cells slots Q D A nL ws (pc + 3) lv (v :: st)) : ZW p l e R s m args below meth c cells slots Q D A nL ws pc lv (.ref a :: st) :=
  fun H locs ls hP hD hS hl => va_get (Ts := lw_all) C.1 C.2.1 C.2.2.2.2.1 hin C.2.2.2.1 C.2.2.2.2.2.1 hP q0 he hc k0 hk (C.2.2.2.2.1 _ hlink) (fun x h => by rw [← hsame]; exact h) hv hdg (k H locs ls hP hD hS hl)
theorem zr_put (C : ZC p s m args c cc nL own D tys A) {ref C0 : String} {T : u_T} {N ci index a : Nat} {ws' : va_W} (hin : ∀ w ∈ u_ws C0 T N, w ∈ lw_all) (ty0 : Nat → FieldType) (hty : ∀ k, k < N → parseFieldDescriptor (T k).2.2.1 = some (ty0 k)) (hnm : ∀ a, a < N → ∀ b, b < N → a ≠ b → (T a).2.1 ≠ (T b).2.1) (q0 : Nat) {fs : List Value} (he : ws[q0]? = some (a, .inr (ci, fs))) (hc : vwCl[ci]? = some (C0, T, N)) (k0 : Nat) (hk : k0 < N) (hlink : Cond.fieldLink own index ref (T k0).2.1 (T k0).2.2.1 ∈ lw_all) (hsame : (T k0).1 = ref) (hfin : (T k0).2.2.2 = false) {ty : FieldType} {v : Value} (hd : parseFieldDescriptor (T k0).2.2.1 = some ty) (hn : narrow ty v = v) (hfit : fits ty v = true) (hlen : k0 < fs.length)
    (hw : ws.set q0 (a, .inr (ci, fs.set k0 v)) = ws') (hdg : decode cc pc = .ok (.putfield index, 3))
    (k : ZW p l e R s m args below meth c cells slots Q D A nL ws' (pc + 3) lv st) : ZW p l e R s m args below meth c cells slots Q D A nL ws pc lv (v :: .ref a :: st) :=
  fun H locs ls hP hD hS hl => va_put (Ts := lw_all) C.1 C.2.1 C.2.2.2.2.1 hin ty0 hty hnm C.2.2.2.1 C.2.2.2.2.2.1 hP hD hS q0 he hc k0 hk (C.2.2.2.2.1 _ hlink) (fun x h => by rw [← hsame]; exact h) hfin hd hn hfit hlen hdg (fun H1 locs1 hP1 hD1 hS1 => k H1 locs1 ls (hw ▸ hP1) (hw ▸ hD1) hS1 hl)
theorem zr_iald (C : ZC p s m args c cc nL own D tys A) (q0 t0 : Nat) {a n : Nat} {cA : ClassId} {f : Nat → Int} {i : Int} (ha : ws[q0]? = some (a, .inl (cA, n, .inl (fun j => zi (f j))))) (ht : tys[t0]? = some (cA, .int)) (hn : n < 2147483648) (i0 : Nat) (hi : i = (i0 : Int)) (hlt : i0 < n) (hdg : decode cc pc = .ok (.iaload, 1))
    (k : ZW p l e R s m args below meth c cells slots Q D A nL ws (pc + 1) lv (.int (zi (f i0)) :: st)) : ZW p l e R s m args below meth c cells slots Q D A nL ws pc lv (.int (zi i) :: .ref a :: st) :=
  fun H locs ls hP hD hS hl => va_iald C.1 C.2.1 C.2.2.2.2.2.1 hP q0 t0 ha ht (zi_in hi hlt hn) hdg (by rw [zi_cl hi (by omega)]; exact k H locs ls hP hD hS hl)
theorem zr_bald (C : ZC p s m args c cc nL own D tys A) (q0 t0 : Nat) {a n : Nat} {cA : ClassId} {f : Nat → Int} {i : Int} (ha : ws[q0]? = some (a, .inl (cA, n, .inl (fun j => zi (f j))))) (ht : tys[t0]? = some (cA, .byte)) (hn : n < 2147483648) (i0 : Nat) (hi : i = (i0 : Int)) (hlt : i0 < n) (hdg : decode cc pc = .ok (.baload, 1))
    (k : ZW p l e R s m args below meth c cells slots Q D A nL ws (pc + 1) lv (.int (zi (f i0)) :: st)) : ZW p l e R s m args below meth c cells slots Q D A nL ws pc lv (.int (zi i) :: .ref a :: st) :=
  fun H locs ls hP hD hS hl => va_bald C.1 C.2.1 C.2.2.2.2.2.1 hP q0 t0 ha ht (zi_in hi hlt hn) hdg (by rw [zi_cl hi (by omega)]; exact k H locs ls hP hD hS hl)
theorem zr_lald (C : ZC p s m args c cc nL own D tys A) (q0 t0 : Nat) {a n : Nat} {cA : ClassId} {f : Nat → Int} {i : Int} (ha : ws[q0]? = some (a, .inl (cA, n, .inr (.inl (fun j => zl (f j)))))) (ht : tys[t0]? = some (cA, .long)) (hn : n < 2147483648) (i0 : Nat) (hi : i = (i0 : Int)) (hlt : i0 < n) (hdg : decode cc pc = .ok (.laload, 1))
    (k : ZW p l e R s m args below meth c cells slots Q D A nL ws (pc + 1) lv (.long (zl (f i0)) :: st)) : ZW p l e R s m args below meth c cells slots Q D A nL ws pc lv (.int (zi i) :: .ref a :: st) :=
  fun H locs ls hP hD hS hl => va_lald C.1 C.2.1 C.2.2.2.2.2.1 hP q0 t0 ha ht (zi_in hi hlt hn) hdg (by rw [zi_cl hi (by omega)]; exact k H locs ls hP hD hS hl)
theorem zr_iast (C : ZC p s m args c cc nL own D tys A) (q0 t0 : Nat) {a n : Nat} {cA : ClassId} {f : Nat → Int} {i x : Int} {ws' : va_W} (ha : ws[q0]? = some (a, .inl (cA, n, .inl (fun j => zi (f j))))) (ht : tys[t0]? = some (cA, .int)) (hn : n < 2147483648) (i0 : Nat) (hi : i = (i0 : Int)) (hlt : i0 < n) (hw : ws.set q0 (a, .inl (cA, n, .inl (fun j => zi (ld_up f i0 x j)))) = ws') (hdg : decode cc pc = .ok (.iastore, 1))
    (k : ZW p l e R s m args below meth c cells slots Q D A nL ws' (pc + 1) lv st) : ZW p l e R s m args below meth c cells slots Q D A nL ws pc lv (.int (zi x) :: .int (zi i) :: .ref a :: st) :=
  fun H locs ls hP hD hS hl => va_iast C.1 C.2.1 C.2.2.2.2.2.1 hP hD hS q0 t0 ha ht (zi_in hi hlt hn) hdg (fun H1 locs1 hP1 hD1 hS1 => by
    rw [zi_cl hi (by omega), zi_upd, hw] at hP1 hD1
    exact k H1 locs1 ls hP1 hD1 hS1 hl)
theorem zr_bast (C : ZC p s m args c cc nL own D tys A) (q0 t0 : Nat) {a n : Nat} {cA : ClassId} {f : Nat → Int} {i x : Int} {ws' : va_W} (ha : ws[q0]? = some (a, .inl (cA, n, .inl (fun j => zi (f j))))) (ht : tys[t0]? = some (cA, .byte)) (hn : n < 2147483648) (i0 : Nat) (hi : i = (i0 : Int)) (hlt : i0 < n) (hx : -128 ≤ x ∧ x ≤ 127) (hw : ws.set q0 (a, .inl (cA, n, .inl (fun j => zi (ld_up f i0 x j)))) = ws') (hdg : decode cc pc = .ok (.bastore, 1))
    (k : ZW p l e R s m args below meth c cells slots Q D A nL ws' (pc + 1) lv st) : ZW p l e R s m args below meth c cells slots Q D A nL ws pc lv (.int (zi x) :: .int (zi i) :: .ref a :: st) :=
  fun H locs ls hP hD hS hl => va_bast C.1 C.2.1 C.2.2.2.2.2.1 hP hD hS q0 t0 ha ht (zi_in hi hlt hn) hdg (fun H1 locs1 hP1 hD1 hS1 => by
    rw [zi_cl hi (by omega), zi_nb hx, zi_upd, hw] at hP1 hD1
    exact k H1 locs1 ls hP1 hD1 hS1 hl)
theorem zr_last (C : ZC p s m args c cc nL own D tys A) (q0 t0 : Nat) {a n : Nat} {cA : ClassId} {f : Nat → Int} {i x : Int} {ws' : va_W} (ha : ws[q0]? = some (a, .inl (cA, n, .inr (.inl (fun j => zl (f j)))))) (ht : tys[t0]? = some (cA, .long)) (hn : n < 2147483648) (i0 : Nat) (hi : i = (i0 : Int)) (hlt : i0 < n) (hw : ws.set q0 (a, .inl (cA, n, .inr (.inl (fun j => zl (ld_up f i0 x j))))) = ws') (hdg : decode cc pc = .ok (.lastore, 1))
    (k : ZW p l e R s m args below meth c cells slots Q D A nL ws' (pc + 1) lv st) : ZW p l e R s m args below meth c cells slots Q D A nL ws pc lv (.long (zl x) :: .int (zi i) :: .ref a :: st) :=
  fun H locs ls hP hD hS hl => va_last C.1 C.2.1 C.2.2.2.2.2.1 hP hD hS q0 t0 ha ht (zi_in hi hlt hn) hdg (fun H1 locs1 hP1 hD1 hS1 => by
    rw [zi_cl hi (by omega), zl_upd, hw] at hP1 hD1
    exact k H1 locs1 ls hP1 hD1 hS1 hl)
end ZR
end
section
/-! OWN ROWS 2: contracts, entry, return, calls; the two classes' worlds and their rows -/
def ZPre (D : va_G) (tys : List (ClassId × FieldType)) (ws : va_W) (sz : Nat) (av : List Value) : Array Value → State → Prop := va_Pc av (fun U => U.heap.size = sz ∧ va_P D vwCl ws U.heap ∧ va_K D vwCl tys U ∧ va_D (fun _ => True) ws)
def ZB (D : va_G) (tys : List (ClassId × FieldType)) (A : Nat → Prop) (ws : va_W) (t : State) : Prop := va_P D vwCl ws t.heap ∧ va_K D vwCl tys t ∧ va_D A ws
/-- a contract: from any heap that holds the world ws, with these arguments: it answers x, the world is wn u, and P x u -/
def ZMi (l : Launch) (y : MethodName) (cc : ByteArray) (L : Nat) (ret : Option FieldType) (rm : Room) (D : va_G) (tys : List (ClassId × FieldType)) (ws : va_W) (av : List Value) {S : Type} (P : Int → S → Prop) (wn : S → va_W) : Prop :=
  ∀ sz : Nat, Met l y (ws_ y cc L ret) rm (ZPre D tys ws sz av) (va_Qi (fun r (u : Int × S) => r = zi u.1 ∧ P u.1 u.2) (fun u t => ZB D tys (va_A ws sz) (wn u.2) t) (va_A ws sz)) 0 0 (va_A ws sz)
def ZMl (l : Launch) (y : MethodName) (cc : ByteArray) (L : Nat) (ret : Option FieldType) (rm : Room) (D : va_G) (tys : List (ClassId × FieldType)) (ws : va_W) (av : List Value) {S : Type} (P : Int → S → Prop) (wn : S → va_W) : Prop :=
  ∀ sz : Nat, Met l y (ws_ y cc L ret) rm (ZPre D tys ws sz av) (va_Ql (fun r (u : Int × S) => r = zl u.1 ∧ P u.1 u.2) (fun u t => ZB D tys (va_A ws sz) (wn u.2) t) (va_A ws sz)) 0 0 (va_A ws sz)
def ZMv (l : Launch) (y : MethodName) (cc : ByteArray) (L : Nat) (ret : Option FieldType) (rm : Room) (D : va_G) (tys : List (ClassId × FieldType)) (ws : va_W) (av : List Value) {S : Type} (P : S → Prop) (wn : S → va_W) : Prop :=
  ∀ sz : Nat, Met l y (ws_ y cc L ret) rm (ZPre D tys ws sz av) (va_Qv (fun (u : S) => P u) (fun u t => ZB D tys (va_A ws sz) (wn u) t) (va_A ws sz)) 0 0 (va_A ws sz)
def ZQi (below : List Frame) (args : Array Value) (s : State) (A : Nat → Prop) (D : va_G) (tys : List (ClassId × FieldType)) {S : Type} (P : Int → S → Prop) (wn : S → va_W) : State → Prop :=
  MQ below (va_Qi (fun r (u : Int × S) => r = zi u.1 ∧ P u.1 u.2) (fun u t => ZB D tys A (wn u.2) t) A) args s 0 0 A
def ZQl (below : List Frame) (args : Array Value) (s : State) (A : Nat → Prop) (D : va_G) (tys : List (ClassId × FieldType)) {S : Type} (P : Int → S → Prop) (wn : S → va_W) : State → Prop :=
  MQ below (va_Ql (fun r (u : Int × S) => r = zl u.1 ∧ P u.1 u.2) (fun u t => ZB D tys A (wn u.2) t) A) args s 0 0 A
def ZQv (below : List Frame) (args : Array Value) (s : State) (A : Nat → Prop) (D : va_G) (tys : List (ClassId × FieldType)) {S : Type} (P : S → Prop) (wn : S → va_W) : State → Prop :=
  MQ below (va_Qv (fun (u : S) => P u) (fun u t => ZB D tys A (wn u) t) A) args s 0 0 A
section ZR2
variable {p : Program} {l : Launch} {e : Env} {R : Room} {s : State} {m : MethodId} {args : Array Value} {below : List Frame} {meth : Method} {c : Code} {cells slots : Nat} {Q : State → Prop} {D : va_G} {A : Nat → Prop} {nL : Nat} {ws : va_W} {pc : Nat} {lv lv' : List (Nat × Value)} {st st0 : List Value} {cc : ByteArray} {own : String} {tys : List (ClassId × FieldType)} {S : Type} {P : Int → S → Prop} {Pv : S → Prop} {wn : S → va_W}
theorem zr_iret (C : ZC p s m args c cc nL own D tys A) (hr : meth.sig.returnType = some .int) (hlk : meth.locks = false) {x : Int} (u : S) (hdg : decode cc pc = .ok (.ireturn, 1)) (hw : wn u = ws) (hp : P x u) : ZW p l e R s m args below meth c 0 0 (ZQi below args s A D tys P wn) D A nL ws pc lv [.int (zi x)] :=
  fun H locs ls hP hD hS hl => W.iret C.1 C.2.1 hr (fun t ht hW => ⟨⟨zi x, (x, u), rfl, ⟨rfl, hp⟩, by rw [ht]; show va_P D vwCl (wn u) H; rw [hw]; exact hP, va_K.moved hW.alike C.2.2.2.2.2.1, by show va_D A (wn u); rw [hw]; exact hD⟩, hS.F ht⟩) hS.2.2 hdg hlk
theorem zi_bit {x : Int} (h : x = 0 ∨ x = 1) : narrow .boolean (.int (zi x)) = .int (zi x) := by
  rcases h with rfl | rfl <;> rfl
theorem zr_zret (C : ZC p s m args c cc nL own D tys A) (hr : meth.sig.returnType = some .boolean) (hlk : meth.locks = false) {x : Int} (u : S) (hdg : decode cc pc = .ok (.ireturn, 1)) (hx : x = 0 ∨ x = 1) (hw : wn u = ws) (hp : P x u) : ZW p l e R s m args below meth c 0 0 (ZQi below args s A D tys P wn) D A nL ws pc lv [.int (zi x)] :=
  fun H locs ls hP hD hS hl => W.zret C.1 C.2.1 hr (zi_bit hx) (fun t ht hW => ⟨⟨zi x, (x, u), rfl, ⟨rfl, hp⟩, by rw [ht]; show va_P D vwCl (wn u) H; rw [hw]; exact hP, va_K.moved hW.alike C.2.2.2.2.2.1, by show va_D A (wn u); rw [hw]; exact hD⟩, hS.F ht⟩) hS.2.2 hdg hlk
theorem zr_lret (C : ZC p s m args c cc nL own D tys A) (hr : meth.sig.returnType = some .long) (hlk : meth.locks = false) {x : Int} (u : S) (hdg : decode cc pc = .ok (.lreturn, 1)) (hw : wn u = ws) (hp : P x u) : ZW p l e R s m args below meth c 0 0 (ZQl below args s A D tys P wn) D A nL ws pc lv [.long (zl x)] :=
  fun H locs ls hP hD hS hl => W.lret C.1 C.2.1 hr (fun t ht hW => ⟨⟨zl x, (x, u), rfl, ⟨rfl, hp⟩, by rw [ht]; show va_P D vwCl (wn u) H; rw [hw]; exact hP, va_K.moved hW.alike C.2.2.2.2.2.1, by show va_D A (wn u); rw [hw]; exact hD⟩, hS.F ht⟩) hS.2.2 hdg hlk
theorem zr_vret (C : ZC p s m args c cc nL own D tys A) (hr : meth.sig.returnType = none) (hlk : meth.locks = false) (u : S) (hdg : decode cc pc = .ok (.return_, 1)) (hw : wn u = ws) (hp : Pv u) : ZW p l e R s m args below meth c 0 0 (ZQv below args s A D tys Pv wn) D A nL ws pc lv [] :=
  fun H locs ls hP hD hS hl => W.vret C.1 C.2.1 hr (fun t ht hW => ⟨⟨u, rfl, hp, by rw [ht]; show va_P D vwCl (wn u) H; rw [hw]; exact hP, va_K.moved hW.alike C.2.2.2.2.2.1, by show va_D A (wn u); rw [hw]; exact hD⟩, hS.F ht⟩) hS.2.2 hdg hlk
theorem zr_free (hD : va_D A ws) {H : Heap} {locs : List Loc} (hS : va_S A s.heap H locs) (hA : ∀ q : Nat, s.heap.size ≤ q → A q) : ∀ q, va_A ws H.size q → A q := by
  intro q h
  rcases h with ⟨k, e, h⟩ | h
  · exact hD.2 k (q, e) h
  · exact hA q (Nat.le_trans hS.1 h)
theorem zr_calli (C : ZC p s m args c cc nL own D tys A) {y : MethodName} {cc' : ByteArray} {L' : Nat} {ret : Option FieldType} {rm' : Room} {b index ci : Nat} {As : List Value} {C0 : String} {q : vw_C} {fs : List Value} (n : Nat) (hM : ZMi l y cc' L' ret rm' D tys ws (.ref b :: As) P wn)
    (h1 : Cond.methodLink own index y ∈ lw_all) (h2 : Cond.instanceMethod y ∈ lw_all) (h3 : Cond.selects C0 y y ∈ lw_all) (h4 : Cond.initialized C0 ∈ lw_all) (h5 : Cond.code y cc' L' ret ∈ lw_all)
    (hd : y.cls = C0 ∧ y.cls ≠ "java/lang/invoke/MethodHandle" ∧ y.cls ≠ "java/lang/invoke/VarHandle" ∧ (parseMethodDescriptor y.desc).map (fun d => d.parameters.length) = some n) (hR : rm'.frames + 1 ≤ R.frames ∧ 8 + (L' + 11) + rm'.locals ≤ R.locals) (hcs : rm'.cells = 0 ∧ rm'.slots = 0)
    (hn : As.length = n) (he : ws[0]? = some (b, .inr (ci, fs))) (hc : vwCl[ci]? = some q) (hq : q.1 = C0) (hroom : (st.map fun v => v.category).sum ≤ 8) (hcr : cells ≤ R.cells ∧ slots ≤ R.slots) (hdg : decode cc pc = .ok (.invokevirtual index, 3)) (hst : As.reverse ++ .ref b :: st = st0)
    (kk : ∀ (x : Int) (u : S), P x u → ZW p l e R s m args below meth c cells slots Q D A nL (wn u) (pc + 3) lv (.int (zi x) :: st)) : ZW p l e R s m args below meth c cells slots Q D A nL ws pc lv st0 := by
  intro H locs ls hP hD hS hl
  obtain ⟨hx, hb, hml, hown, hts, hK, hA⟩ := C
  subst hst
  have hFc := zr_free hD hS hA
  refine va_calli (va_runV (C := C0) (As := As) (rest := st) ⟨hx, hb, hml, hown, hts⟩ (hM H.size) (cwV n hts (lw_V h1 h2 h3 h4 h5) rfl hcs.1 hcs.2 hd hR) ⟨fun a U g mk q => by obtain ⟨q0, q1, qP, qK, qD⟩ := q; exact ⟨q0, q1, qP, va_K.moved (u := U) (U := U.calling g mk a) (Vm.Alike.refl U.vm) qK, qD⟩, hq ▸ va_recv hK hP hc he, fun U hU hW => ⟨rfl, by rw [hU], by rw [hU]; exact hP, va_K.moved hW.alike hK, hD.weaken (fun _ _ _ _ => trivial)⟩⟩ rfl hn hl.1 rfl (lv_room hroom) hdg hcr) hS (fun q _ h => hFc q h) hFc (fun r u t H1 locs1 ht hvm hw1 hB hz1 hk1 hS1 => ?_)
  obtain ⟨hP1, hK1, hD1⟩ := hB
  rw [ht] at hP1
  · obtain ⟨hr1, hp1⟩ := hw1
    subst hr1
    exact kk u.1 u.2 hp1 H1 locs1 ls hP1 (hD1.weaken (fun k q _ h => hFc q.1 h)) hS1 hl
theorem zr_calll (C : ZC p s m args c cc nL own D tys A) {y : MethodName} {cc' : ByteArray} {L' : Nat} {ret : Option FieldType} {rm' : Room} {b index ci : Nat} {As : List Value} {C0 : String} {q : vw_C} {fs : List Value} (n : Nat) (hM : ZMl l y cc' L' ret rm' D tys ws (.ref b :: As) P wn)
    (h1 : Cond.methodLink own index y ∈ lw_all) (h2 : Cond.instanceMethod y ∈ lw_all) (h3 : Cond.selects C0 y y ∈ lw_all) (h4 : Cond.initialized C0 ∈ lw_all) (h5 : Cond.code y cc' L' ret ∈ lw_all)
    (hd : y.cls = C0 ∧ y.cls ≠ "java/lang/invoke/MethodHandle" ∧ y.cls ≠ "java/lang/invoke/VarHandle" ∧ (parseMethodDescriptor y.desc).map (fun d => d.parameters.length) = some n) (hR : rm'.frames + 1 ≤ R.frames ∧ 8 + (L' + 11) + rm'.locals ≤ R.locals) (hcs : rm'.cells = 0 ∧ rm'.slots = 0)
    (hn : As.length = n) (he : ws[0]? = some (b, .inr (ci, fs))) (hc : vwCl[ci]? = some q) (hq : q.1 = C0) (hroom : (st.map fun v => v.category).sum ≤ 8) (hcr : cells ≤ R.cells ∧ slots ≤ R.slots) (hdg : decode cc pc = .ok (.invokevirtual index, 3)) (hst : As.reverse ++ .ref b :: st = st0)
    (kk : ∀ (x : Int) (u : S), P x u → ZW p l e R s m args below meth c cells slots Q D A nL (wn u) (pc + 3) lv (.long (zl x) :: st)) : ZW p l e R s m args below meth c cells slots Q D A nL ws pc lv st0 := by
  intro H locs ls hP hD hS hl
  obtain ⟨hx, hb, hml, hown, hts, hK, hA⟩ := C
  subst hst
  have hFc := zr_free hD hS hA
  refine va_calll (va_runV (C := C0) (As := As) (rest := st) ⟨hx, hb, hml, hown, hts⟩ (hM H.size) (cwV n hts (lw_V h1 h2 h3 h4 h5) rfl hcs.1 hcs.2 hd hR) ⟨fun a U g mk q => by obtain ⟨q0, q1, qP, qK, qD⟩ := q; exact ⟨q0, q1, qP, va_K.moved (u := U) (U := U.calling g mk a) (Vm.Alike.refl U.vm) qK, qD⟩, hq ▸ va_recv hK hP hc he, fun U hU hW => ⟨rfl, by rw [hU], by rw [hU]; exact hP, va_K.moved hW.alike hK, hD.weaken (fun _ _ _ _ => trivial)⟩⟩ rfl hn hl.1 rfl (lv_room hroom) hdg hcr) hS (fun q _ h => hFc q h) hFc (fun r u t H1 locs1 ht hvm hw1 hB hz1 hk1 hS1 => ?_)
  obtain ⟨hP1, hK1, hD1⟩ := hB
  rw [ht] at hP1
  · obtain ⟨hr1, hp1⟩ := hw1
    subst hr1
    exact kk u.1 u.2 hp1 H1 locs1 ls hP1 (hD1.weaken (fun k q _ h => hFc q.1 h)) hS1 hl
theorem zr_callv (C : ZC p s m args c cc nL own D tys A) {y : MethodName} {cc' : ByteArray} {L' : Nat} {ret : Option FieldType} {rm' : Room} {b index ci : Nat} {As : List Value} {C0 : String} {q : vw_C} {fs : List Value} (n : Nat) (hM : ZMv l y cc' L' ret rm' D tys ws (.ref b :: As) Pv wn)
    (h1 : Cond.methodLink own index y ∈ lw_all) (h2 : Cond.instanceMethod y ∈ lw_all) (h3 : Cond.selects C0 y y ∈ lw_all) (h4 : Cond.initialized C0 ∈ lw_all) (h5 : Cond.code y cc' L' ret ∈ lw_all)
    (hd : y.cls = C0 ∧ y.cls ≠ "java/lang/invoke/MethodHandle" ∧ y.cls ≠ "java/lang/invoke/VarHandle" ∧ (parseMethodDescriptor y.desc).map (fun d => d.parameters.length) = some n) (hR : rm'.frames + 1 ≤ R.frames ∧ 8 + (L' + 11) + rm'.locals ≤ R.locals) (hcs : rm'.cells = 0 ∧ rm'.slots = 0)
    (hn : As.length = n) (he : ws[0]? = some (b, .inr (ci, fs))) (hc : vwCl[ci]? = some q) (hq : q.1 = C0) (hroom : (st.map fun v => v.category).sum ≤ 8) (hcr : cells ≤ R.cells ∧ slots ≤ R.slots) (hdg : decode cc pc = .ok (.invokevirtual index, 3)) (hst : As.reverse ++ .ref b :: st = st0)
    (kk : ∀ u : S, Pv u → ZW p l e R s m args below meth c cells slots Q D A nL (wn u) (pc + 3) lv st) : ZW p l e R s m args below meth c cells slots Q D A nL ws pc lv st0 := by
  intro H locs ls hP hD hS hl
  obtain ⟨hx, hb, hml, hown, hts, hK, hA⟩ := C
  subst hst
  have hFc := zr_free hD hS hA
  refine va_callv (va_runV (C := C0) (As := As) (rest := st) ⟨hx, hb, hml, hown, hts⟩ (hM H.size) (cwV n hts (lw_V h1 h2 h3 h4 h5) rfl hcs.1 hcs.2 hd hR) ⟨fun a U g mk q => by obtain ⟨q0, q1, qP, qK, qD⟩ := q; exact ⟨q0, q1, qP, va_K.moved (u := U) (U := U.calling g mk a) (Vm.Alike.refl U.vm) qK, qD⟩, hq ▸ va_recv hK hP hc he, fun U hU hW => ⟨rfl, by rw [hU], by rw [hU]; exact hP, va_K.moved hW.alike hK, hD.weaken (fun _ _ _ _ => trivial)⟩⟩ rfl hn hl.1 rfl (lv_room hroom) hdg hcr) hS (fun q _ h => hFc q h) hFc (fun u t H1 locs1 ht hvm hw1 hB hz1 hk1 hS1 => ?_)
  obtain ⟨hP1, hK1, hD1⟩ := hB
  rw [ht] at hP1
  · exact kk u hw1 H1 locs1 ls hP1 (hD1.weaken (fun k q _ h => hFc q.1 h)) hS1 hl
end ZR2
theorem zr_meti {l : Launch} {y : MethodName} {cc : ByteArray} {L : Nat} {rm : Room} {D : va_G} {tys : List (ClassId × FieldType)} {ws : va_W} {av : List Value} {lv0 : List (Nat × Value)} {S : Type} {P : Int → S → Prop} {wn : S → va_W} (hy : plainName y.cls = true) (hav : (lg_sl av).length ≤ L) (hlv : lv_args 0 av = lv0)
    (body : ∀ (p : Program) (e : Env) (s : State) (m : MethodId) (args : Array Value) (below : List Frame) (meth : Method) (c : Code) (A : Nat → Prop) (Q : State → Prop), ZC p s m args c cc L y.cls D tys A → (∀ {ws : va_W} {pc : Nat} {lv : List (Nat × Value)} {x : Int} (u : S), decode cc pc = .ok (.ireturn, 1) → wn u = ws → P x u → ZW p l e rm s m args below meth c 0 0 Q D A L ws pc lv [.int (zi x)]) → ZW p l e rm s m args below meth c 0 0 Q D A L ws 0 lv0 []) : ZMi l y cc L (some .int) rm D tys ws av P wn := by
  intro sz
  refine Met.ofW (cc := cc) (maxL := L) (ret := some .int) hy rfl ?_
  intro p e s m args below meth c s₁ B hml hv
  obtain ⟨rfl, hsz, hP, hK, hD0⟩ := hv
  have hts := atoms_spec (ws := ws_ y cc L (some .int)) B.pre
  have hts : ∀ w ∈ lw_all, w.before _ s = true := fun w h => hts w (List.mem_cons_of_mem _ h)
  have hown : s.vm.findClass y.cls = some m.cls := findClass_of_methodNamed B.named
  subst hsz
  have hD := hD0.self (sz := s.heap.size)
  rw [lg_entry_eq]
  have hl := lv_entry av (n := L) hav
  have C : ZC p s m av.toArray c cc L y.cls D tys (va_A ws s.heap.size) := ⟨B.exec, B.bytes, hml, hown, hts, hK, fun q h => Or.inr h⟩
  exact body p e s m _ below meth c (va_A ws s.heap.size) (ZQi below av.toArray s (va_A ws s.heap.size) D tys P wn) C (fun u hd hw hp => zr_iret C B.returns B.notSynchronized u hd hw hp) s.heap [] _ hP hD va_S.rf (hlv ▸ hl)
theorem zr_metz {l : Launch} {y : MethodName} {cc : ByteArray} {L : Nat} {rm : Room} {D : va_G} {tys : List (ClassId × FieldType)} {ws : va_W} {av : List Value} {lv0 : List (Nat × Value)} {S : Type} {P : Int → S → Prop} {wn : S → va_W} (hy : plainName y.cls = true) (hav : (lg_sl av).length ≤ L) (hlv : lv_args 0 av = lv0)
    (body : ∀ (p : Program) (e : Env) (s : State) (m : MethodId) (args : Array Value) (below : List Frame) (meth : Method) (c : Code) (A : Nat → Prop) (Q : State → Prop), ZC p s m args c cc L y.cls D tys A → (∀ {ws : va_W} {pc : Nat} {lv : List (Nat × Value)} {x : Int} (u : S), decode cc pc = .ok (.ireturn, 1) → (x = 0 ∨ x = 1) → wn u = ws → P x u → ZW p l e rm s m args below meth c 0 0 Q D A L ws pc lv [.int (zi x)]) → ZW p l e rm s m args below meth c 0 0 Q D A L ws 0 lv0 []) : ZMi l y cc L (some .boolean) rm D tys ws av P wn := by
  intro sz
  refine Met.ofW (cc := cc) (maxL := L) (ret := some .boolean) hy rfl ?_
  intro p e s m args below meth c s₁ B hml hv
  obtain ⟨rfl, hsz, hP, hK, hD0⟩ := hv
  have hts := atoms_spec (ws := ws_ y cc L (some .boolean)) B.pre
  have hts : ∀ w ∈ lw_all, w.before _ s = true := fun w h => hts w (List.mem_cons_of_mem _ h)
  have hown : s.vm.findClass y.cls = some m.cls := findClass_of_methodNamed B.named
  subst hsz
  have hD := hD0.self (sz := s.heap.size)
  rw [lg_entry_eq]
  have hl := lv_entry av (n := L) hav
  have C : ZC p s m av.toArray c cc L y.cls D tys (va_A ws s.heap.size) := ⟨B.exec, B.bytes, hml, hown, hts, hK, fun q h => Or.inr h⟩
  exact body p e s m _ below meth c (va_A ws s.heap.size) (ZQi below av.toArray s (va_A ws s.heap.size) D tys P wn) C (fun u hd hx hw hp => zr_zret C B.returns B.notSynchronized u hd hx hw hp) s.heap [] _ hP hD va_S.rf (hlv ▸ hl)
theorem zr_metl {l : Launch} {y : MethodName} {cc : ByteArray} {L : Nat} {rm : Room} {D : va_G} {tys : List (ClassId × FieldType)} {ws : va_W} {av : List Value} {lv0 : List (Nat × Value)} {S : Type} {P : Int → S → Prop} {wn : S → va_W} (hy : plainName y.cls = true) (hav : (lg_sl av).length ≤ L) (hlv : lv_args 0 av = lv0)
    (body : ∀ (p : Program) (e : Env) (s : State) (m : MethodId) (args : Array Value) (below : List Frame) (meth : Method) (c : Code) (A : Nat → Prop) (Q : State → Prop), ZC p s m args c cc L y.cls D tys A → (∀ {ws : va_W} {pc : Nat} {lv : List (Nat × Value)} {x : Int} (u : S), decode cc pc = .ok (.lreturn, 1) → wn u = ws → P x u → ZW p l e rm s m args below meth c 0 0 Q D A L ws pc lv [.long (zl x)]) → ZW p l e rm s m args below meth c 0 0 Q D A L ws 0 lv0 []) : ZMl l y cc L (some .long) rm D tys ws av P wn := by
  intro sz
  refine Met.ofW (cc := cc) (maxL := L) (ret := some .long) hy rfl ?_
  intro p e s m args below meth c s₁ B hml hv
  obtain ⟨rfl, hsz, hP, hK, hD0⟩ := hv
  have hts := atoms_spec (ws := ws_ y cc L (some .long)) B.pre
  have hts : ∀ w ∈ lw_all, w.before _ s = true := fun w h => hts w (List.mem_cons_of_mem _ h)
  have hown : s.vm.findClass y.cls = some m.cls := findClass_of_methodNamed B.named
  subst hsz
  have hD := hD0.self (sz := s.heap.size)
  rw [lg_entry_eq]
  have hl := lv_entry av (n := L) hav
  have C : ZC p s m av.toArray c cc L y.cls D tys (va_A ws s.heap.size) := ⟨B.exec, B.bytes, hml, hown, hts, hK, fun q h => Or.inr h⟩
  exact body p e s m _ below meth c (va_A ws s.heap.size) (ZQl below av.toArray s (va_A ws s.heap.size) D tys P wn) C (fun u hd hw hp => zr_lret C B.returns B.notSynchronized u hd hw hp) s.heap [] _ hP hD va_S.rf (hlv ▸ hl)
theorem zr_metv {l : Launch} {y : MethodName} {cc : ByteArray} {L : Nat} {rm : Room} {D : va_G} {tys : List (ClassId × FieldType)} {ws : va_W} {av : List Value} {lv0 : List (Nat × Value)} {S : Type} {P : S → Prop} {wn : S → va_W} (hy : plainName y.cls = true) (hav : (lg_sl av).length ≤ L) (hlv : lv_args 0 av = lv0)
    (body : ∀ (p : Program) (e : Env) (s : State) (m : MethodId) (args : Array Value) (below : List Frame) (meth : Method) (c : Code) (A : Nat → Prop) (Q : State → Prop), ZC p s m args c cc L y.cls D tys A → (∀ {ws : va_W} {pc : Nat} {lv : List (Nat × Value)} (u : S), decode cc pc = .ok (.return_, 1) → wn u = ws → P u → ZW p l e rm s m args below meth c 0 0 Q D A L ws pc lv []) → ZW p l e rm s m args below meth c 0 0 Q D A L ws 0 lv0 []) : ZMv l y cc L (none) rm D tys ws av P wn := by
  intro sz
  refine Met.ofW (cc := cc) (maxL := L) (ret := none) hy rfl ?_
  intro p e s m args below meth c s₁ B hml hv
  obtain ⟨rfl, hsz, hP, hK, hD0⟩ := hv
  have hts := atoms_spec (ws := ws_ y cc L (none)) B.pre
  have hts : ∀ w ∈ lw_all, w.before _ s = true := fun w h => hts w (List.mem_cons_of_mem _ h)
  have hown : s.vm.findClass y.cls = some m.cls := findClass_of_methodNamed B.named
  subst hsz
  have hD := hD0.self (sz := s.heap.size)
  rw [lg_entry_eq]
  have hl := lv_entry av (n := L) hav
  have C : ZC p s m av.toArray c cc L y.cls D tys (va_A ws s.heap.size) := ⟨B.exec, B.bytes, hml, hown, hts, hK, fun q h => Or.inr h⟩
  exact body p e s m _ below meth c (va_A ws s.heap.size) (ZQv below av.toArray s (va_A ws s.heap.size) D tys P wn) C (fun u hd hw hp => zr_vret C B.returns B.notSynchronized u hd hw hp) s.heap [] _ hP hD va_S.rf (hlv ▸ hl)
/-- the world of a LeastDeviations object: g its addresses, dd its arrays' classes -/
def wX (g : Nat → Nat) (dd : Nat → ClassId) (pn pk dn tp bt sc : Int) (px py tb ow so sb : Nat → Int) : va_W := [(g 0, .inr (0, [.int (zi pn), .int (zi pk), .ref (g 1), .ref (g 2), .ref (g 3), .long (zl dn), .ref (g 4), .long (zl tp), .long (zl bt), .ref (g 5), .ref (g 6), .int (zi sc)])), (g 1, .inl (dd 1, 8, .inl (fun j => zi (px j)))), (g 2, .inl (dd 2, 8, .inl (fun j => zi (py j)))), (g 3, .inl (dd 3, 189, .inr (.inl (fun j => zl (tb j))))), (g 4, .inl (dd 4, 8, .inl (fun j => zi (ow j)))), (g 5, .inl (dd 5, 8, .inl (fun j => zi (so j)))), (g 6, .inl (dd 6, 8, .inl (fun j => zi (sb j))))]
def tysX (dd : Nat → ClassId) : List (ClassId × FieldType) := [(dd 1, .byte), (dd 2, .byte), (dd 3, .long), (dd 4, .byte), (dd 5, .int), (dd 6, .int)]
/-- the world of a LeastDeviationsModel object -/
def wM (g : Nat → Nat) (dd : Nat → ClassId) (pn pk tp bt fd : Int) (px py : Nat → Int) : va_W := [(g 0, .inr (1, [.int (zi pn), .int (zi pk), .ref (g 1), .ref (g 2), .long (zl tp), .long (zl bt), .int (zi fd)])), (g 1, .inl (dd 1, 8, .inl (fun j => zi (px j)))), (g 2, .inl (dd 2, 8, .inl (fun j => zi (py j))))]
def tysM (dd : Nat → ClassId) : List (ClassId × FieldType) := [(dd 1, .int), (dd 2, .int)]
section ZR3
variable {p : Program} {l : Launch} {e : Env} {R : Room} {s : State} {m : MethodId} {args : Array Value} {below : List Frame} {meth : Method} {c : Code} {cells slots : Nat} {Q : State → Prop} {D : va_G} {A : Nat → Prop} {nL : Nat} {pc : Nat} {lv : List (Nat × Value)} {st : List Value} {cc : ByteArray} {g : Nat → Nat} {dd : Nat → ClassId} {pn pk dn tp bt sc fd : Int} {px py tb ow so sb : Nat → Int}
theorem xg_34 (C : ZC p s m args c cc nL RX0 D (tysX dd) A) (hdg : decode cc pc = .ok (.getfield 34, 3)) (k : ZW p l e R s m args below meth c cells slots Q D A nL (wX g dd pn pk dn tp bt sc px py tb ow so sb) (pc + 3) lv (.int (zi pn) :: st)) : ZW p l e R s m args below meth c cells slots Q D A nL (wX g dd pn pk dn tp bt sc px py tb ow so sb) pc lv (.ref (g 0) :: st) := zr_get C in_X0 0 rfl rfl 0 (by decide) q37 rfl rfl hdg k
theorem xp_34 (C : ZC p s m args c cc nL RX0 D (tysX dd) A) {x : Int} (hdg : decode cc pc = .ok (.putfield 34, 3)) (k : ZW p l e R s m args below meth c cells slots Q D A nL (wX g dd x pk dn tp bt sc px py tb ow so sb) (pc + 3) lv st) : ZW p l e R s m args below meth c cells slots Q D A nL (wX g dd pn pk dn tp bt sc px py tb ow so sb) pc lv (.int (zi x) :: .ref (g 0) :: st) := zr_put (ws' := wX g dd x pk dn tp bt sc px py tb ow so sb) C in_X0 tyX0 tyX0_ok nmX0 0 rfl rfl 0 (by decide) q37 rfl rfl (ty := .int) (by decide +kernel) rfl rfl (Nat.le_of_ble_eq_true rfl) rfl hdg k
theorem xg_30 (C : ZC p s m args c cc nL RX0 D (tysX dd) A) (hdg : decode cc pc = .ok (.getfield 30, 3)) (k : ZW p l e R s m args below meth c cells slots Q D A nL (wX g dd pn pk dn tp bt sc px py tb ow so sb) (pc + 3) lv (.int (zi pk) :: st)) : ZW p l e R s m args below meth c cells slots Q D A nL (wX g dd pn pk dn tp bt sc px py tb ow so sb) pc lv (.ref (g 0) :: st) := zr_get C in_X0 0 rfl rfl 1 (by decide) q38 rfl rfl hdg k
theorem xp_30 (C : ZC p s m args c cc nL RX0 D (tysX dd) A) {x : Int} (hdg : decode cc pc = .ok (.putfield 30, 3)) (k : ZW p l e R s m args below meth c cells slots Q D A nL (wX g dd pn x dn tp bt sc px py tb ow so sb) (pc + 3) lv st) : ZW p l e R s m args below meth c cells slots Q D A nL (wX g dd pn pk dn tp bt sc px py tb ow so sb) pc lv (.int (zi x) :: .ref (g 0) :: st) := zr_put (ws' := wX g dd pn x dn tp bt sc px py tb ow so sb) C in_X0 tyX0 tyX0_ok nmX0 0 rfl rfl 1 (by decide) q38 rfl rfl (ty := .int) (by decide +kernel) rfl rfl (Nat.le_of_ble_eq_true rfl) rfl hdg k
theorem xg_7 (C : ZC p s m args c cc nL RX0 D (tysX dd) A) (hdg : decode cc pc = .ok (.getfield 7, 3)) (k : ZW p l e R s m args below meth c cells slots Q D A nL (wX g dd pn pk dn tp bt sc px py tb ow so sb) (pc + 3) lv (.ref (g 1) :: st)) : ZW p l e R s m args below meth c cells slots Q D A nL (wX g dd pn pk dn tp bt sc px py tb ow so sb) pc lv (.ref (g 0) :: st) := zr_get C in_X0 0 rfl rfl 2 (by decide) q39 rfl rfl hdg k
theorem xg_13 (C : ZC p s m args c cc nL RX0 D (tysX dd) A) (hdg : decode cc pc = .ok (.getfield 13, 3)) (k : ZW p l e R s m args below meth c cells slots Q D A nL (wX g dd pn pk dn tp bt sc px py tb ow so sb) (pc + 3) lv (.ref (g 2) :: st)) : ZW p l e R s m args below meth c cells slots Q D A nL (wX g dd pn pk dn tp bt sc px py tb ow so sb) pc lv (.ref (g 0) :: st) := zr_get C in_X0 0 rfl rfl 3 (by decide) q40 rfl rfl hdg k
theorem xg_16 (C : ZC p s m args c cc nL RX0 D (tysX dd) A) (hdg : decode cc pc = .ok (.getfield 16, 3)) (k : ZW p l e R s m args below meth c cells slots Q D A nL (wX g dd pn pk dn tp bt sc px py tb ow so sb) (pc + 3) lv (.ref (g 3) :: st)) : ZW p l e R s m args below meth c cells slots Q D A nL (wX g dd pn pk dn tp bt sc px py tb ow so sb) pc lv (.ref (g 0) :: st) := zr_get C in_X0 0 rfl rfl 4 (by decide) q41 rfl rfl hdg k
theorem xg_77 (C : ZC p s m args c cc nL RX0 D (tysX dd) A) (hdg : decode cc pc = .ok (.getfield 77, 3)) (k : ZW p l e R s m args below meth c cells slots Q D A nL (wX g dd pn pk dn tp bt sc px py tb ow so sb) (pc + 3) lv (.long (zl dn) :: st)) : ZW p l e R s m args below meth c cells slots Q D A nL (wX g dd pn pk dn tp bt sc px py tb ow so sb) pc lv (.ref (g 0) :: st) := zr_get C in_X0 0 rfl rfl 5 (by decide) q42 rfl rfl hdg k
theorem xp_77 (C : ZC p s m args c cc nL RX0 D (tysX dd) A) {x : Int} (hdg : decode cc pc = .ok (.putfield 77, 3)) (k : ZW p l e R s m args below meth c cells slots Q D A nL (wX g dd pn pk x tp bt sc px py tb ow so sb) (pc + 3) lv st) : ZW p l e R s m args below meth c cells slots Q D A nL (wX g dd pn pk dn tp bt sc px py tb ow so sb) pc lv (.long (zl x) :: .ref (g 0) :: st) := zr_put (ws' := wX g dd pn pk x tp bt sc px py tb ow so sb) C in_X0 tyX0 tyX0_ok nmX0 0 rfl rfl 5 (by decide) q42 rfl rfl (ty := .long) (by decide +kernel) rfl rfl (Nat.le_of_ble_eq_true rfl) rfl hdg k
theorem xg_20 (C : ZC p s m args c cc nL RX0 D (tysX dd) A) (hdg : decode cc pc = .ok (.getfield 20, 3)) (k : ZW p l e R s m args below meth c cells slots Q D A nL (wX g dd pn pk dn tp bt sc px py tb ow so sb) (pc + 3) lv (.ref (g 4) :: st)) : ZW p l e R s m args below meth c cells slots Q D A nL (wX g dd pn pk dn tp bt sc px py tb ow so sb) pc lv (.ref (g 0) :: st) := zr_get C in_X0 0 rfl rfl 6 (by decide) q43 rfl rfl hdg k
theorem xg_44 (C : ZC p s m args c cc nL RX0 D (tysX dd) A) (hdg : decode cc pc = .ok (.getfield 44, 3)) (k : ZW p l e R s m args below meth c cells slots Q D A nL (wX g dd pn pk dn tp bt sc px py tb ow so sb) (pc + 3) lv (.long (zl tp) :: st)) : ZW p l e R s m args below meth c cells slots Q D A nL (wX g dd pn pk dn tp bt sc px py tb ow so sb) pc lv (.ref (g 0) :: st) := zr_get C in_X0 0 rfl rfl 7 (by decide) q44 rfl rfl hdg k
theorem xp_44 (C : ZC p s m args c cc nL RX0 D (tysX dd) A) {x : Int} (hdg : decode cc pc = .ok (.putfield 44, 3)) (k : ZW p l e R s m args below meth c cells slots Q D A nL (wX g dd pn pk dn x bt sc px py tb ow so sb) (pc + 3) lv st) : ZW p l e R s m args below meth c cells slots Q D A nL (wX g dd pn pk dn tp bt sc px py tb ow so sb) pc lv (.long (zl x) :: .ref (g 0) :: st) := zr_put (ws' := wX g dd pn pk dn x bt sc px py tb ow so sb) C in_X0 tyX0 tyX0_ok nmX0 0 rfl rfl 7 (by decide) q44 rfl rfl (ty := .long) (by decide +kernel) rfl rfl (Nat.le_of_ble_eq_true rfl) rfl hdg k
theorem xg_48 (C : ZC p s m args c cc nL RX0 D (tysX dd) A) (hdg : decode cc pc = .ok (.getfield 48, 3)) (k : ZW p l e R s m args below meth c cells slots Q D A nL (wX g dd pn pk dn tp bt sc px py tb ow so sb) (pc + 3) lv (.long (zl bt) :: st)) : ZW p l e R s m args below meth c cells slots Q D A nL (wX g dd pn pk dn tp bt sc px py tb ow so sb) pc lv (.ref (g 0) :: st) := zr_get C in_X0 0 rfl rfl 8 (by decide) q45 rfl rfl hdg k
theorem xp_48 (C : ZC p s m args c cc nL RX0 D (tysX dd) A) {x : Int} (hdg : decode cc pc = .ok (.putfield 48, 3)) (k : ZW p l e R s m args below meth c cells slots Q D A nL (wX g dd pn pk dn tp x sc px py tb ow so sb) (pc + 3) lv st) : ZW p l e R s m args below meth c cells slots Q D A nL (wX g dd pn pk dn tp bt sc px py tb ow so sb) pc lv (.long (zl x) :: .ref (g 0) :: st) := zr_put (ws' := wX g dd pn pk dn tp x sc px py tb ow so sb) C in_X0 tyX0 tyX0_ok nmX0 0 rfl rfl 8 (by decide) q45 rfl rfl (ty := .long) (by decide +kernel) rfl rfl (Nat.le_of_ble_eq_true rfl) rfl hdg k
theorem xg_23 (C : ZC p s m args c cc nL RX0 D (tysX dd) A) (hdg : decode cc pc = .ok (.getfield 23, 3)) (k : ZW p l e R s m args below meth c cells slots Q D A nL (wX g dd pn pk dn tp bt sc px py tb ow so sb) (pc + 3) lv (.ref (g 5) :: st)) : ZW p l e R s m args below meth c cells slots Q D A nL (wX g dd pn pk dn tp bt sc px py tb ow so sb) pc lv (.ref (g 0) :: st) := zr_get C in_X0 0 rfl rfl 9 (by decide) q46 rfl rfl hdg k
theorem xg_27 (C : ZC p s m args c cc nL RX0 D (tysX dd) A) (hdg : decode cc pc = .ok (.getfield 27, 3)) (k : ZW p l e R s m args below meth c cells slots Q D A nL (wX g dd pn pk dn tp bt sc px py tb ow so sb) (pc + 3) lv (.ref (g 6) :: st)) : ZW p l e R s m args below meth c cells slots Q D A nL (wX g dd pn pk dn tp bt sc px py tb ow so sb) pc lv (.ref (g 0) :: st) := zr_get C in_X0 0 rfl rfl 10 (by decide) q47 rfl rfl hdg k
theorem xg_63 (C : ZC p s m args c cc nL RX0 D (tysX dd) A) (hdg : decode cc pc = .ok (.getfield 63, 3)) (k : ZW p l e R s m args below meth c cells slots Q D A nL (wX g dd pn pk dn tp bt sc px py tb ow so sb) (pc + 3) lv (.int (zi sc) :: st)) : ZW p l e R s m args below meth c cells slots Q D A nL (wX g dd pn pk dn tp bt sc px py tb ow so sb) pc lv (.ref (g 0) :: st) := zr_get C in_X0 0 rfl rfl 11 (by decide) q48 rfl rfl hdg k
theorem xp_63 (C : ZC p s m args c cc nL RX0 D (tysX dd) A) {x : Int} (hdg : decode cc pc = .ok (.putfield 63, 3)) (k : ZW p l e R s m args below meth c cells slots Q D A nL (wX g dd pn pk dn tp bt x px py tb ow so sb) (pc + 3) lv st) : ZW p l e R s m args below meth c cells slots Q D A nL (wX g dd pn pk dn tp bt sc px py tb ow so sb) pc lv (.int (zi x) :: .ref (g 0) :: st) := zr_put (ws' := wX g dd pn pk dn tp bt x px py tb ow so sb) C in_X0 tyX0 tyX0_ok nmX0 0 rfl rfl 11 (by decide) q48 rfl rfl (ty := .int) (by decide +kernel) rfl rfl (Nat.le_of_ble_eq_true rfl) rfl hdg k
theorem xl_px (C : ZC p s m args c cc nL RX0 D (tysX dd) A) {i : Int} (i0 : Nat) (hi : i = (i0 : Int)) (hlt : i0 < 8) (hdg : decode cc pc = .ok (.baload, 1)) (k : ZW p l e R s m args below meth c cells slots Q D A nL (wX g dd pn pk dn tp bt sc px py tb ow so sb) (pc + 1) lv (.int (zi (px i0)) :: st)) : ZW p l e R s m args below meth c cells slots Q D A nL (wX g dd pn pk dn tp bt sc px py tb ow so sb) pc lv (.int (zi i) :: .ref (g 1) :: st) := zr_bald C 1 0 rfl rfl (by decide) i0 hi hlt hdg k
theorem xs_px (C : ZC p s m args c cc nL RX0 D (tysX dd) A) {i x : Int} (i0 : Nat) (hi : i = (i0 : Int)) (hlt : i0 < 8) (hx : -128 ≤ x ∧ x ≤ 127) (hdg : decode cc pc = .ok (.bastore, 1)) (k : ZW p l e R s m args below meth c cells slots Q D A nL (wX g dd pn pk dn tp bt sc (ld_up px i0 x) py tb ow so sb) (pc + 1) lv st) : ZW p l e R s m args below meth c cells slots Q D A nL (wX g dd pn pk dn tp bt sc px py tb ow so sb) pc lv (.int (zi x) :: .int (zi i) :: .ref (g 1) :: st) := zr_bast C 1 0 rfl rfl (by decide) i0 hi hlt hx rfl hdg k
theorem xl_py (C : ZC p s m args c cc nL RX0 D (tysX dd) A) {i : Int} (i0 : Nat) (hi : i = (i0 : Int)) (hlt : i0 < 8) (hdg : decode cc pc = .ok (.baload, 1)) (k : ZW p l e R s m args below meth c cells slots Q D A nL (wX g dd pn pk dn tp bt sc px py tb ow so sb) (pc + 1) lv (.int (zi (py i0)) :: st)) : ZW p l e R s m args below meth c cells slots Q D A nL (wX g dd pn pk dn tp bt sc px py tb ow so sb) pc lv (.int (zi i) :: .ref (g 2) :: st) := zr_bald C 2 1 rfl rfl (by decide) i0 hi hlt hdg k
theorem xs_py (C : ZC p s m args c cc nL RX0 D (tysX dd) A) {i x : Int} (i0 : Nat) (hi : i = (i0 : Int)) (hlt : i0 < 8) (hx : -128 ≤ x ∧ x ≤ 127) (hdg : decode cc pc = .ok (.bastore, 1)) (k : ZW p l e R s m args below meth c cells slots Q D A nL (wX g dd pn pk dn tp bt sc px (ld_up py i0 x) tb ow so sb) (pc + 1) lv st) : ZW p l e R s m args below meth c cells slots Q D A nL (wX g dd pn pk dn tp bt sc px py tb ow so sb) pc lv (.int (zi x) :: .int (zi i) :: .ref (g 2) :: st) := zr_bast C 2 1 rfl rfl (by decide) i0 hi hlt hx rfl hdg k
theorem xl_tb (C : ZC p s m args c cc nL RX0 D (tysX dd) A) {i : Int} (i0 : Nat) (hi : i = (i0 : Int)) (hlt : i0 < 189) (hdg : decode cc pc = .ok (.laload, 1)) (k : ZW p l e R s m args below meth c cells slots Q D A nL (wX g dd pn pk dn tp bt sc px py tb ow so sb) (pc + 1) lv (.long (zl (tb i0)) :: st)) : ZW p l e R s m args below meth c cells slots Q D A nL (wX g dd pn pk dn tp bt sc px py tb ow so sb) pc lv (.int (zi i) :: .ref (g 3) :: st) := zr_lald C 3 2 rfl rfl (by decide) i0 hi hlt hdg k
theorem xs_tb (C : ZC p s m args c cc nL RX0 D (tysX dd) A) {i x : Int} (i0 : Nat) (hi : i = (i0 : Int)) (hlt : i0 < 189) (hdg : decode cc pc = .ok (.lastore, 1)) (k : ZW p l e R s m args below meth c cells slots Q D A nL (wX g dd pn pk dn tp bt sc px py (ld_up tb i0 x) ow so sb) (pc + 1) lv st) : ZW p l e R s m args below meth c cells slots Q D A nL (wX g dd pn pk dn tp bt sc px py tb ow so sb) pc lv (.long (zl x) :: .int (zi i) :: .ref (g 3) :: st) := zr_last C 3 2 rfl rfl (by decide) i0 hi hlt rfl hdg k
theorem xl_ow (C : ZC p s m args c cc nL RX0 D (tysX dd) A) {i : Int} (i0 : Nat) (hi : i = (i0 : Int)) (hlt : i0 < 8) (hdg : decode cc pc = .ok (.baload, 1)) (k : ZW p l e R s m args below meth c cells slots Q D A nL (wX g dd pn pk dn tp bt sc px py tb ow so sb) (pc + 1) lv (.int (zi (ow i0)) :: st)) : ZW p l e R s m args below meth c cells slots Q D A nL (wX g dd pn pk dn tp bt sc px py tb ow so sb) pc lv (.int (zi i) :: .ref (g 4) :: st) := zr_bald C 4 3 rfl rfl (by decide) i0 hi hlt hdg k
theorem xs_ow (C : ZC p s m args c cc nL RX0 D (tysX dd) A) {i x : Int} (i0 : Nat) (hi : i = (i0 : Int)) (hlt : i0 < 8) (hx : -128 ≤ x ∧ x ≤ 127) (hdg : decode cc pc = .ok (.bastore, 1)) (k : ZW p l e R s m args below meth c cells slots Q D A nL (wX g dd pn pk dn tp bt sc px py tb (ld_up ow i0 x) so sb) (pc + 1) lv st) : ZW p l e R s m args below meth c cells slots Q D A nL (wX g dd pn pk dn tp bt sc px py tb ow so sb) pc lv (.int (zi x) :: .int (zi i) :: .ref (g 4) :: st) := zr_bast C 4 3 rfl rfl (by decide) i0 hi hlt hx rfl hdg k
theorem xl_so (C : ZC p s m args c cc nL RX0 D (tysX dd) A) {i : Int} (i0 : Nat) (hi : i = (i0 : Int)) (hlt : i0 < 8) (hdg : decode cc pc = .ok (.iaload, 1)) (k : ZW p l e R s m args below meth c cells slots Q D A nL (wX g dd pn pk dn tp bt sc px py tb ow so sb) (pc + 1) lv (.int (zi (so i0)) :: st)) : ZW p l e R s m args below meth c cells slots Q D A nL (wX g dd pn pk dn tp bt sc px py tb ow so sb) pc lv (.int (zi i) :: .ref (g 5) :: st) := zr_iald C 5 4 rfl rfl (by decide) i0 hi hlt hdg k
theorem xs_so (C : ZC p s m args c cc nL RX0 D (tysX dd) A) {i x : Int} (i0 : Nat) (hi : i = (i0 : Int)) (hlt : i0 < 8) (hdg : decode cc pc = .ok (.iastore, 1)) (k : ZW p l e R s m args below meth c cells slots Q D A nL (wX g dd pn pk dn tp bt sc px py tb ow (ld_up so i0 x) sb) (pc + 1) lv st) : ZW p l e R s m args below meth c cells slots Q D A nL (wX g dd pn pk dn tp bt sc px py tb ow so sb) pc lv (.int (zi x) :: .int (zi i) :: .ref (g 5) :: st) := zr_iast C 5 4 rfl rfl (by decide) i0 hi hlt rfl hdg k
theorem xl_sb (C : ZC p s m args c cc nL RX0 D (tysX dd) A) {i : Int} (i0 : Nat) (hi : i = (i0 : Int)) (hlt : i0 < 8) (hdg : decode cc pc = .ok (.iaload, 1)) (k : ZW p l e R s m args below meth c cells slots Q D A nL (wX g dd pn pk dn tp bt sc px py tb ow so sb) (pc + 1) lv (.int (zi (sb i0)) :: st)) : ZW p l e R s m args below meth c cells slots Q D A nL (wX g dd pn pk dn tp bt sc px py tb ow so sb) pc lv (.int (zi i) :: .ref (g 6) :: st) := zr_iald C 6 5 rfl rfl (by decide) i0 hi hlt hdg k
theorem xs_sb (C : ZC p s m args c cc nL RX0 D (tysX dd) A) {i x : Int} (i0 : Nat) (hi : i = (i0 : Int)) (hlt : i0 < 8) (hdg : decode cc pc = .ok (.iastore, 1)) (k : ZW p l e R s m args below meth c cells slots Q D A nL (wX g dd pn pk dn tp bt sc px py tb ow so (ld_up sb i0 x)) (pc + 1) lv st) : ZW p l e R s m args below meth c cells slots Q D A nL (wX g dd pn pk dn tp bt sc px py tb ow so sb) pc lv (.int (zi x) :: .int (zi i) :: .ref (g 6) :: st) := zr_iast C 6 5 rfl rfl (by decide) i0 hi hlt rfl hdg k
theorem mg_7 (C : ZC p s m args c cc nL RX1 D (tysM dd) A) (hdg : decode cc pc = .ok (.getfield 7, 3)) (k : ZW p l e R s m args below meth c cells slots Q D A nL (wM g dd pn pk tp bt fd px py) (pc + 3) lv (.int (zi pn) :: st)) : ZW p l e R s m args below meth c cells slots Q D A nL (wM g dd pn pk tp bt fd px py) pc lv (.ref (g 0) :: st) := zr_get C in_X1 0 rfl rfl 0 (by decide) q175 rfl rfl hdg k
theorem mp_7 (C : ZC p s m args c cc nL RX1 D (tysM dd) A) {x : Int} (hdg : decode cc pc = .ok (.putfield 7, 3)) (k : ZW p l e R s m args below meth c cells slots Q D A nL (wM g dd x pk tp bt fd px py) (pc + 3) lv st) : ZW p l e R s m args below meth c cells slots Q D A nL (wM g dd pn pk tp bt fd px py) pc lv (.int (zi x) :: .ref (g 0) :: st) := zr_put (ws' := wM g dd x pk tp bt fd px py) C in_X1 tyX1 tyX1_ok nmX1 0 rfl rfl 0 (by decide) q175 rfl rfl (ty := .int) (by decide +kernel) rfl rfl (Nat.le_of_ble_eq_true rfl) rfl hdg k
theorem mg_13 (C : ZC p s m args c cc nL RX1 D (tysM dd) A) (hdg : decode cc pc = .ok (.getfield 13, 3)) (k : ZW p l e R s m args below meth c cells slots Q D A nL (wM g dd pn pk tp bt fd px py) (pc + 3) lv (.int (zi pk) :: st)) : ZW p l e R s m args below meth c cells slots Q D A nL (wM g dd pn pk tp bt fd px py) pc lv (.ref (g 0) :: st) := zr_get C in_X1 0 rfl rfl 1 (by decide) q176 rfl rfl hdg k
theorem mp_13 (C : ZC p s m args c cc nL RX1 D (tysM dd) A) {x : Int} (hdg : decode cc pc = .ok (.putfield 13, 3)) (k : ZW p l e R s m args below meth c cells slots Q D A nL (wM g dd pn x tp bt fd px py) (pc + 3) lv st) : ZW p l e R s m args below meth c cells slots Q D A nL (wM g dd pn pk tp bt fd px py) pc lv (.int (zi x) :: .ref (g 0) :: st) := zr_put (ws' := wM g dd pn x tp bt fd px py) C in_X1 tyX1 tyX1_ok nmX1 0 rfl rfl 1 (by decide) q176 rfl rfl (ty := .int) (by decide +kernel) rfl rfl (Nat.le_of_ble_eq_true rfl) rfl hdg k
theorem mg_16 (C : ZC p s m args c cc nL RX1 D (tysM dd) A) (hdg : decode cc pc = .ok (.getfield 16, 3)) (k : ZW p l e R s m args below meth c cells slots Q D A nL (wM g dd pn pk tp bt fd px py) (pc + 3) lv (.ref (g 1) :: st)) : ZW p l e R s m args below meth c cells slots Q D A nL (wM g dd pn pk tp bt fd px py) pc lv (.ref (g 0) :: st) := zr_get C in_X1 0 rfl rfl 2 (by decide) q177 rfl rfl hdg k
theorem mg_20 (C : ZC p s m args c cc nL RX1 D (tysM dd) A) (hdg : decode cc pc = .ok (.getfield 20, 3)) (k : ZW p l e R s m args below meth c cells slots Q D A nL (wM g dd pn pk tp bt fd px py) (pc + 3) lv (.ref (g 2) :: st)) : ZW p l e R s m args below meth c cells slots Q D A nL (wM g dd pn pk tp bt fd px py) pc lv (.ref (g 0) :: st) := zr_get C in_X1 0 rfl rfl 3 (by decide) q178 rfl rfl hdg k
theorem mg_39 (C : ZC p s m args c cc nL RX1 D (tysM dd) A) (hdg : decode cc pc = .ok (.getfield 39, 3)) (k : ZW p l e R s m args below meth c cells slots Q D A nL (wM g dd pn pk tp bt fd px py) (pc + 3) lv (.long (zl tp) :: st)) : ZW p l e R s m args below meth c cells slots Q D A nL (wM g dd pn pk tp bt fd px py) pc lv (.ref (g 0) :: st) := zr_get C in_X1 0 rfl rfl 4 (by decide) q179 rfl rfl hdg k
theorem mp_39 (C : ZC p s m args c cc nL RX1 D (tysM dd) A) {x : Int} (hdg : decode cc pc = .ok (.putfield 39, 3)) (k : ZW p l e R s m args below meth c cells slots Q D A nL (wM g dd pn pk x bt fd px py) (pc + 3) lv st) : ZW p l e R s m args below meth c cells slots Q D A nL (wM g dd pn pk tp bt fd px py) pc lv (.long (zl x) :: .ref (g 0) :: st) := zr_put (ws' := wM g dd pn pk x bt fd px py) C in_X1 tyX1 tyX1_ok nmX1 0 rfl rfl 4 (by decide) q179 rfl rfl (ty := .long) (by decide +kernel) rfl rfl (Nat.le_of_ble_eq_true rfl) rfl hdg k
theorem mg_35 (C : ZC p s m args c cc nL RX1 D (tysM dd) A) (hdg : decode cc pc = .ok (.getfield 35, 3)) (k : ZW p l e R s m args below meth c cells slots Q D A nL (wM g dd pn pk tp bt fd px py) (pc + 3) lv (.long (zl bt) :: st)) : ZW p l e R s m args below meth c cells slots Q D A nL (wM g dd pn pk tp bt fd px py) pc lv (.ref (g 0) :: st) := zr_get C in_X1 0 rfl rfl 5 (by decide) q180 rfl rfl hdg k
theorem mp_35 (C : ZC p s m args c cc nL RX1 D (tysM dd) A) {x : Int} (hdg : decode cc pc = .ok (.putfield 35, 3)) (k : ZW p l e R s m args below meth c cells slots Q D A nL (wM g dd pn pk tp x fd px py) (pc + 3) lv st) : ZW p l e R s m args below meth c cells slots Q D A nL (wM g dd pn pk tp bt fd px py) pc lv (.long (zl x) :: .ref (g 0) :: st) := zr_put (ws' := wM g dd pn pk tp x fd px py) C in_X1 tyX1 tyX1_ok nmX1 0 rfl rfl 5 (by decide) q180 rfl rfl (ty := .long) (by decide +kernel) rfl rfl (Nat.le_of_ble_eq_true rfl) rfl hdg k
theorem mg_31 (C : ZC p s m args c cc nL RX1 D (tysM dd) A) (hdg : decode cc pc = .ok (.getfield 31, 3)) (k : ZW p l e R s m args below meth c cells slots Q D A nL (wM g dd pn pk tp bt fd px py) (pc + 3) lv (.int (zi fd) :: st)) : ZW p l e R s m args below meth c cells slots Q D A nL (wM g dd pn pk tp bt fd px py) pc lv (.ref (g 0) :: st) := zr_get C in_X1 0 rfl rfl 6 (by decide) q181 rfl rfl hdg k
theorem mp_31 (C : ZC p s m args c cc nL RX1 D (tysM dd) A) {x : Int} (hx : x = 0 ∨ x = 1) (hdg : decode cc pc = .ok (.putfield 31, 3)) (k : ZW p l e R s m args below meth c cells slots Q D A nL (wM g dd pn pk tp bt x px py) (pc + 3) lv st) : ZW p l e R s m args below meth c cells slots Q D A nL (wM g dd pn pk tp bt fd px py) pc lv (.int (zi x) :: .ref (g 0) :: st) := zr_put (ws' := wM g dd pn pk tp bt x px py) C in_X1 tyX1 tyX1_ok nmX1 0 rfl rfl 6 (by decide) q181 rfl rfl (ty := .boolean) (by decide +kernel) (zi_bit hx) (by rcases hx with rfl | rfl <;> rfl) (Nat.le_of_ble_eq_true rfl) rfl hdg k
theorem ml_px (C : ZC p s m args c cc nL RX1 D (tysM dd) A) {i : Int} (i0 : Nat) (hi : i = (i0 : Int)) (hlt : i0 < 8) (hdg : decode cc pc = .ok (.iaload, 1)) (k : ZW p l e R s m args below meth c cells slots Q D A nL (wM g dd pn pk tp bt fd px py) (pc + 1) lv (.int (zi (px i0)) :: st)) : ZW p l e R s m args below meth c cells slots Q D A nL (wM g dd pn pk tp bt fd px py) pc lv (.int (zi i) :: .ref (g 1) :: st) := zr_iald C 1 0 rfl rfl (by decide) i0 hi hlt hdg k
theorem ms_px (C : ZC p s m args c cc nL RX1 D (tysM dd) A) {i x : Int} (i0 : Nat) (hi : i = (i0 : Int)) (hlt : i0 < 8) (hdg : decode cc pc = .ok (.iastore, 1)) (k : ZW p l e R s m args below meth c cells slots Q D A nL (wM g dd pn pk tp bt fd (ld_up px i0 x) py) (pc + 1) lv st) : ZW p l e R s m args below meth c cells slots Q D A nL (wM g dd pn pk tp bt fd px py) pc lv (.int (zi x) :: .int (zi i) :: .ref (g 1) :: st) := zr_iast C 1 0 rfl rfl (by decide) i0 hi hlt rfl hdg k
theorem ml_py (C : ZC p s m args c cc nL RX1 D (tysM dd) A) {i : Int} (i0 : Nat) (hi : i = (i0 : Int)) (hlt : i0 < 8) (hdg : decode cc pc = .ok (.iaload, 1)) (k : ZW p l e R s m args below meth c cells slots Q D A nL (wM g dd pn pk tp bt fd px py) (pc + 1) lv (.int (zi (py i0)) :: st)) : ZW p l e R s m args below meth c cells slots Q D A nL (wM g dd pn pk tp bt fd px py) pc lv (.int (zi i) :: .ref (g 2) :: st) := zr_iald C 2 1 rfl rfl (by decide) i0 hi hlt hdg k
theorem ms_py (C : ZC p s m args c cc nL RX1 D (tysM dd) A) {i x : Int} (i0 : Nat) (hi : i = (i0 : Int)) (hlt : i0 < 8) (hdg : decode cc pc = .ok (.iastore, 1)) (k : ZW p l e R s m args below meth c cells slots Q D A nL (wM g dd pn pk tp bt fd px (ld_up py i0 x)) (pc + 1) lv st) : ZW p l e R s m args below meth c cells slots Q D A nL (wM g dd pn pk tp bt fd px py) pc lv (.int (zi x) :: .int (zi i) :: .ref (g 2) :: st) := zr_iast C 2 1 rfl rfl (by decide) i0 hi hlt rfl hdg k
end ZR3
end
section
/-! LeastDeviations: the small methods -/
set_option maxHeartbeats 4000000 in
set_option maxRecDepth 100000 in
theorem cX_isPoint (l : Launch) (D : va_G) (g : Nat → Nat) (dd : Nat → ClassId) (n : Nat) (pk dn tp bt sc : Int) (px py tb ow so sb : Nat → Int) (i : Int) (hn : n ≤ 8) (hi : bI i) : ZMi l yX0_isPoint cX0_isPoint 2 (some .boolean) { frames := 0, cells := 0, slots := 0, locals := 0 } D (tysX dd) (wX g dd (n : Int) pk dn tp bt sc px py tb ow so sb) [.ref (g 0), .int (zi i)] (S := Unit) (fun r _ => (r = 1 ∧ 0 ≤ i ∧ i < (n : Int)) ∨ (r = 0 ∧ ¬ (0 ≤ i ∧ i < (n : Int)))) (fun _ => wX g dd (n : Int) pk dn tp bt sc px py tb ow so sb) := by
  refine zr_metz (lv0 := [(0, .ref ((g 0))), (1, .int (zi i))]) (by decide) (Nat.le_of_ble_eq_true rfl) rfl ?_
  intro p e s m args below meth c_ A Q C hret
  have C : ZC p s m args c_ cX0_isPoint 2 RX0 D (tysX dd) A := C
  unfold bI at hi
  refine zr_iload_n C 1 dX0_isPoint_0 rfl rfl ?_
  refine zr_if_lt (tgt := 16) C dX0_isPoint_1 (by decide) (by unfold bI; omega) (fun h1 => ?_) (fun h1 => ?_)
  · refine zr_iconst C dX0_isPoint_16 ?_
    exact hret () dX0_isPoint_17 (Or.inl rfl) rfl (Or.inr ⟨rfl, by omega⟩)
  · refine zr_iload_n C 1 dX0_isPoint_4 rfl rfl ?_
    refine zr_aload_n C 0 dX0_isPoint_5 rfl rfl ?_
    refine xg_34 C dX0_isPoint_6 ?_
    refine zr_icmp_ge (tgt := 16) C dX0_isPoint_9 (by decide) (by unfold bI; omega) (by unfold bI; omega) (fun h2 => ?_) (fun h2 => ?_)
    · refine zr_iconst C dX0_isPoint_16 ?_
      exact hret () dX0_isPoint_17 (Or.inl rfl) rfl (Or.inr ⟨rfl, by omega⟩)
    · refine zr_iconst C dX0_isPoint_12 ?_
      refine zr_goto (tgt := 17) C dX0_isPoint_13 (by decide) ?_
      exact hret () dX0_isPoint_17 (Or.inr rfl) rfl (Or.inl ⟨rfl, by omega, by omega⟩)
set_option maxHeartbeats 4000000 in
set_option maxRecDepth 100000 in
theorem cX_costOf (l : Launch) (D : va_G) (g : Nat → Nat) (dd : Nat → ClassId) (n : Nat) (pk dn tp bt sc : Int) (px py tb ow so sb : Nat → Int) (d : Int) (hd : bI d) : ZMi l yX0_costOf cX0_costOf 2 (some .int) { frames := 0, cells := 0, slots := 0, locals := 0 } D (tysX dd) (wX g dd (n : Int) pk dn tp bt sc px py tb ow so sb) [.ref (g 0), .int (zi d)] (S := Unit) (fun r _ => r = ld_cst pk d) (fun _ => wX g dd (n : Int) pk dn tp bt sc px py tb ow so sb) := by
  refine zr_meti (lv0 := [(0, .ref ((g 0))), (1, .int (zi d))]) (by decide) (Nat.le_of_ble_eq_true rfl) rfl ?_
  intro p e s m args below meth c_ A Q C hret
  have C : ZC p s m args c_ cX0_costOf 2 RX0 D (tysX dd) A := C
  unfold bI at hd
  refine zr_iload_n C 1 dX0_costOf_0 rfl rfl ?_
  refine zr_if_le (tgt := 13) C dX0_costOf_1 (by decide) (by unfold bI; omega) (fun h1 => ?_) (fun h1 => ?_)
  · refine zr_aload_n C 0 dX0_costOf_13 rfl rfl ?_
    refine xg_30 C dX0_costOf_14 ?_
    refine zr_iconst C dX0_costOf_17 ?_
    refine zr_isub C dX0_costOf_18 ?_
    refine zr_iload_n C 1 dX0_costOf_19 rfl rfl ?_
    refine zr_imul C dX0_costOf_20 ?_
    exact hret () dX0_costOf_21 rfl ((ld_cst_n h1).symm)
  · refine zr_aload_n C 0 dX0_costOf_4 rfl rfl ?_
    refine xg_30 C dX0_costOf_5 ?_
    refine zr_iload_n C 1 dX0_costOf_8 rfl rfl ?_
    refine zr_imul C dX0_costOf_9 ?_
    refine zr_goto (tgt := 21) C dX0_costOf_10 (by decide) ?_
    exact hret () dX0_costOf_21 rfl ((ld_cst_p (Int.le_of_lt h1)).symm)
set_option maxHeartbeats 4000000 in
set_option maxRecDepth 100000 in
theorem cX_points (l : Launch) (D : va_G) (g : Nat → Nat) (dd : Nat → ClassId) (n : Nat) (pk dn tp bt sc : Int) (px py tb ow so sb : Nat → Int)  : ZMi l yX0_points cX0_points 1 (some .int) { frames := 0, cells := 0, slots := 0, locals := 0 } D (tysX dd) (wX g dd (n : Int) pk dn tp bt sc px py tb ow so sb) [.ref (g 0)] (S := Unit) (fun r _ => r = (n : Int)) (fun _ => wX g dd (n : Int) pk dn tp bt sc px py tb ow so sb) := by
  refine zr_meti (lv0 := [(0, .ref ((g 0)))]) (by decide) (Nat.le_of_ble_eq_true rfl) rfl ?_
  intro p e s m args below meth c_ A Q C hret
  have C : ZC p s m args c_ cX0_points 1 RX0 D (tysX dd) A := C
  refine zr_aload_n C 0 dX0_points_0 rfl rfl ?_
  refine xg_34 C dX0_points_1 ?_
  exact hret () dX0_points_4 rfl rfl
set_option maxHeartbeats 4000000 in
set_option maxRecDepth 100000 in
theorem cX_lean (l : Launch) (D : va_G) (g : Nat → Nat) (dd : Nat → ClassId) (n : Nat) (pk dn tp bt sc : Int) (px py tb ow so sb : Nat → Int) (k : Int) (hk : bI k) : ZMi l yX0_lean cX0_lean 2 (some .boolean) { frames := 0, cells := 0, slots := 0, locals := 0 } D (tysX dd) (wX g dd (n : Int) pk dn tp bt sc px py tb ow so sb) [.ref (g 0), .int (zi k)] (S := Int) (fun r u => (r = 1 ∧ 1 ≤ k ∧ k ≤ 3 ∧ u = k) ∨ (r = 0 ∧ ¬ (1 ≤ k ∧ k ≤ 3) ∧ u = pk)) (fun u => wX g dd (n : Int) u dn tp bt sc px py tb ow so sb) := by
  refine zr_metz (lv0 := [(0, .ref ((g 0))), (1, .int (zi k))]) (by decide) (Nat.le_of_ble_eq_true rfl) rfl ?_
  intro p e s m args below meth c_ A Q C hret
  have C : ZC p s m args c_ cX0_lean 2 RX0 D (tysX dd) A := C
  unfold bI at hk
  refine zr_iload_n C 1 dX0_lean_0 rfl rfl ?_
  refine zr_iconst C dX0_lean_1 ?_
  refine zr_icmp_lt (tgt := 10) C dX0_lean_2 (by decide) (by unfold bI; omega) (by unfold bI; omega) (fun h1 => ?_) (fun h1 => ?_)
  · refine zr_iconst C dX0_lean_10 ?_
    exact hret pk dX0_lean_11 (Or.inl rfl) rfl (Or.inr ⟨rfl, by omega, rfl⟩)
  · refine zr_iload_n C 1 dX0_lean_5 rfl rfl ?_
    refine zr_iconst C dX0_lean_6 ?_
    refine zr_icmp_le (tgt := 12) C dX0_lean_7 (by decide) (by unfold bI; omega) (by unfold bI; omega) (fun h2 => ?_) (fun h2 => ?_)
    · refine zr_aload_n C 0 dX0_lean_12 rfl rfl ?_
      refine zr_iload_n C 1 dX0_lean_13 rfl rfl ?_
      refine xp_30 C dX0_lean_14 ?_
      refine zr_iconst C dX0_lean_17 ?_
      exact hret k dX0_lean_18 (Or.inr rfl) rfl (Or.inl ⟨rfl, by omega, by omega, rfl⟩)
    · refine zr_iconst C dX0_lean_10 ?_
      exact hret pk dX0_lean_11 (Or.inl rfl) rfl (Or.inr ⟨rfl, by omega, rfl⟩)
set_option maxHeartbeats 4000000 in
set_option maxRecDepth 100000 in
theorem cX_add (l : Launch) (D : va_G) (g : Nat → Nat) (dd : Nat → ClassId) (n : Nat) (pk dn tp bt sc : Int) (px py tb ow so sb : Nat → Int) (x y : Int) (hn : n ≤ 8) (hx : bI x) (hy : bI y) : ZMi l yX0_add cX0_add 3 (some .int) { frames := 0, cells := 0, slots := 0, locals := 0 } D (tysX dd) (wX g dd (n : Int) pk dn tp bt sc px py tb ow so sb) [.ref (g 0), .int (zi x), .int (zi y)] (S := Nat × (Nat → Int) × (Nat → Int)) (fun r u => (n = 8 ∧ r = -2 ∧ u = (n, px, py)) ∨ (n < 8 ∧ ¬ (-20 ≤ x ∧ x ≤ 20 ∧ -20 ≤ y ∧ y ≤ 20) ∧ r = -1 ∧ u = (n, px, py)) ∨ (n < 8 ∧ (-20 ≤ x ∧ x ≤ 20 ∧ -20 ≤ y ∧ y ≤ 20) ∧ r = (n : Int) + 1 ∧ u = (n + 1, ld_up px n x, ld_up py n y))) (fun u => wX g dd ((u.1 : Nat) : Int) pk dn tp bt sc u.2.1 u.2.2 tb ow so sb) := by
  refine zr_meti (lv0 := [(0, .ref ((g 0))), (1, .int (zi x)), (2, .int (zi y))]) (by decide) (Nat.le_of_ble_eq_true rfl) rfl ?_
  intro p e s m args below meth c_ A Q C hret
  have C : ZC p s m args c_ cX0_add 3 RX0 D (tysX dd) A := C
  unfold bI at hx hy
  refine zr_aload_n C 0 dX0_add_0 rfl rfl ?_
  refine xg_34 C dX0_add_1 ?_
  refine zr_bipush C dX0_add_4 (by decide) ?_
  refine zr_icmp_lt (tgt := 12) C dX0_add_6 (by decide) (by unfold bI; omega) (by unfold bI; omega) (fun h1 => ?_) (fun h1 => ?_)
  · refine zr_iload_n C 1 dX0_add_12 rfl rfl ?_
    refine zr_bipush C dX0_add_13 (by decide) ?_
    refine zr_icmp_lt (tgt := 36) C dX0_add_15 (by decide) (by unfold bI; omega) (by unfold bI; omega) (fun h2 => ?_) (fun h2 => ?_)
    · refine zr_iconst C dX0_add_36 ?_
      exact hret (n, px, py) dX0_add_37 rfl (Or.inr (Or.inl ⟨by omega, by omega, rfl, rfl⟩))
    · refine zr_iload_n C 1 dX0_add_18 rfl rfl ?_
      refine zr_bipush C dX0_add_19 (by decide) ?_
      refine zr_icmp_gt (tgt := 36) C dX0_add_21 (by decide) (by unfold bI; omega) (by unfold bI; omega) (fun h3 => ?_) (fun h3 => ?_)
      · refine zr_iconst C dX0_add_36 ?_
        exact hret (n, px, py) dX0_add_37 rfl (Or.inr (Or.inl ⟨by omega, by omega, rfl, rfl⟩))
      · refine zr_iload_n C 2 dX0_add_24 rfl rfl ?_
        refine zr_bipush C dX0_add_25 (by decide) ?_
        refine zr_icmp_lt (tgt := 36) C dX0_add_27 (by decide) (by unfold bI; omega) (by unfold bI; omega) (fun h4 => ?_) (fun h4 => ?_)
        · refine zr_iconst C dX0_add_36 ?_
          exact hret (n, px, py) dX0_add_37 rfl (Or.inr (Or.inl ⟨by omega, by omega, rfl, rfl⟩))
        · refine zr_iload_n C 2 dX0_add_30 rfl rfl ?_
          refine zr_bipush C dX0_add_31 (by decide) ?_
          refine zr_icmp_le (tgt := 38) C dX0_add_33 (by decide) (by unfold bI; omega) (by unfold bI; omega) (fun h5 => ?_) (fun h5 => ?_)
          · refine zr_aload_n C 0 dX0_add_38 rfl rfl ?_
            refine xg_7 C dX0_add_39 ?_
            refine zr_aload_n C 0 dX0_add_42 rfl rfl ?_
            refine xg_34 C dX0_add_43 ?_
            refine zr_iload_n C 1 dX0_add_46 rfl rfl ?_
            refine zr_i2b C dX0_add_47 (by omega) ?_
            refine xs_px C n (by omega) (by omega) (by omega) dX0_add_48 ?_
            refine zr_aload_n C 0 dX0_add_49 rfl rfl ?_
            refine xg_13 C dX0_add_50 ?_
            refine zr_aload_n C 0 dX0_add_53 rfl rfl ?_
            refine xg_34 C dX0_add_54 ?_
            refine zr_iload_n C 2 dX0_add_57 rfl rfl ?_
            refine zr_i2b C dX0_add_58 (by omega) ?_
            refine xs_py C n (by omega) (by omega) (by omega) dX0_add_59 ?_
            refine zr_aload_n C 0 dX0_add_60 rfl rfl ?_
            refine zr_dup C dX0_add_61 rfl ?_
            refine xg_34 C dX0_add_62 ?_
            refine zr_iconst C dX0_add_65 ?_
            refine zr_iadd C dX0_add_66 ?_
            refine xp_34 C dX0_add_67 ?_
            refine zr_aload_n C 0 dX0_add_70 rfl rfl ?_
            refine xg_34 C dX0_add_71 ?_
            exact hret (n + 1, ld_up px n x, ld_up py n y) dX0_add_74 rfl (Or.inr (Or.inr ⟨by omega, by omega, rfl, rfl⟩))
          · refine zr_iconst C dX0_add_36 ?_
            exact hret (n, px, py) dX0_add_37 rfl (Or.inr (Or.inl ⟨by omega, by omega, rfl, rfl⟩))
  · refine zr_bipush C dX0_add_9 (by decide) ?_
    exact hret (n, px, py) dX0_add_11 rfl (Or.inl ⟨by omega, rfl, rfl⟩)
end
section
/-! PLAIN LAW 6: small things for the walks -/
def ld_ok (n : Nat) (X Y : Nat → Int) : Prop := n ≤ 8 ∧ ∀ j, j < n → (-20 ≤ X j ∧ X j ≤ 20) ∧ (-20 ≤ Y j ∧ Y j ≤ 20)
theorem ld_prod {a b : Int} (A B : Int) (ha : -A ≤ a ∧ a ≤ A) (hb : -B ≤ b ∧ b ≤ B) : -(A * B) ≤ a * b ∧ a * b ≤ A * B := by
  have t1 := Int.mul_nonneg (show 0 ≤ A - a by omega) (show 0 ≤ B - b by omega)
  have t2 := Int.mul_nonneg (show 0 ≤ A + a by omega) (show 0 ≤ B + b by omega)
  have t3 := Int.mul_nonneg (show 0 ≤ A - a by omega) (show 0 ≤ B + b by omega)
  have t4 := Int.mul_nonneg (show 0 ≤ A + a by omega) (show 0 ≤ B - b by omega)
  have s1 : (A - a) * (B - b) = A * B - A * b - B * a + a * b := by grind
  have s2 : (A + a) * (B + b) = A * B + A * b + B * a + a * b := by grind
  have s3 : (A - a) * (B + b) = A * B + A * b - B * a - a * b := by grind
  have s4 : (A + a) * (B - b) = A * B - A * b + B * a - a * b := by grind
  omega
theorem ld_gcd_step {x y : Nat} : Nat.gcd (y % x) x = Nat.gcd x y := (Nat.gcd_rec x y).symm
/-- a place put into a sorted row -/
def ld_ins (c : Nat) (so sb : Nat → Int) (num und : Int) (so' sb' : Nat → Int) : Prop :=
  ∃ a, a ≤ c ∧ (∀ j, j < a → so' j = so j ∧ sb' j = sb j) ∧ so' a = num ∧ sb' a = und ∧ (∀ j, a ≤ j → j < c → so' (j + 1) = so j ∧ sb' (j + 1) = sb j) ∧ (0 < a → so (a - 1) * und ≤ num * sb (a - 1)) ∧ (∀ j, a ≤ j → j < c → num * sb j < so j * und)
theorem ld_ins_mk {c a : Nat} {so sb qo qb : Nat → Int} {num und : Int} (ha : a ≤ c) (hlo : ∀ j, j < a → qo j = so j ∧ qb j = sb j) (hhi : ∀ j, a ≤ j → j < c → qo (j + 1) = so j ∧ qb (j + 1) = sb j) (hle : 0 < a → so (a - 1) * und ≤ num * sb (a - 1)) (hgt : ∀ j, a ≤ j → j < c → num * sb j < so j * und) : ld_ins c so sb num und (ld_up qo a num) (ld_up qb a und) :=
  ⟨a, ha, fun j hj => by rw [ld_up_n _ _ (by omega), ld_up_n _ _ (by omega)]; exact hlo j hj, ld_up_s _ _ _, ld_up_s _ _ _, fun j h1 h2 => by rw [ld_up_n _ _ (by omega), ld_up_n _ _ (by omega)]; exact hhi j h1 h2, hle, hgt⟩
end
section
/-! LeastDeviations: lowest, drop, insert, costThrough -/
set_option maxHeartbeats 4000000 in
set_option maxRecDepth 100000 in
theorem cX_lowest (l : Launch) (D : va_G) (g : Nat → Nat) (dd : Nat → ClassId) (n : Nat) (pk dn tp bt sc : Int) (px py tb ow so sb : Nat → Int) (ht : 0 ≤ tp ∧ tp ≤ 1000000000000) (hb : 0 < bt ∧ bt ≤ 1000000000000) : ZMv l yX0_lowest cX0_lowest 7 none { frames := 0, cells := 0, slots := 0, locals := 0 } D (tysX dd) (wX g dd (n : Int) pk dn tp bt sc px py tb ow so sb) [.ref (g 0)] (S := Int × Int) (fun u => u = (ld_rt tp bt, ld_rb tp bt)) (fun u => wX g dd (n : Int) pk dn u.1 u.2 sc px py tb ow so sb) := by
  refine zr_metv (lv0 := [(0, .ref ((g 0)))]) (by decide) (Nat.le_of_ble_eq_true rfl) rfl ?_
  intro p e s m args below meth c_ A Q C hret
  have C : ZC p s m args c_ cX0_lowest 7 RX0 D (tysX dd) A := C
  obtain ⟨T, hT⟩ : ∃ T : Nat, tp = (T : Int) := ⟨tp.toNat, by omega⟩
  obtain ⟨Bm, hB⟩ : ∃ Bm : Nat, bt = (Bm : Int) := ⟨bt.toNat, by omega⟩
  subst hT hB
  have loop : ∀ (N x y : Nat), x < N → x ≤ 1000000000000 → y ≤ 1000000000000 → 0 < y → Nat.gcd x y = Nat.gcd T Bm → ZW p l e { frames := 0, cells := 0, slots := 0, locals := 0 } s m args below meth c_ 0 0 Q D A 7 (wX g dd (n : Int) pk dn (T : Int) (Bm : Int) sc px py tb ow so sb) 10 [(3, .long (zl (y : Int))), (1, .long (zl (x : Int))), (0, .ref ((g 0)))] [] := by
    intro N
    induction N with
    | zero => intro x y h; omega
    | succ N ih =>
      intro x y hN hx hy hy0 hg
      refine zr_lload_n C 1 dX0_lowest_10 rfl rfl ?_
      refine zr_lconst0 C dX0_lowest_11 ?_
      refine zr_lcmp_eq (tgt := 29) C dX0_lowest_12 dX0_lowest_13 (by decide) (by unfold bL; omega) (by unfold bL; omega) (fun h1 => ?_) (fun h1 => ?_)
      · have hx0 : x = 0 := by omega
        subst hx0
        rw [Nat.gcd_zero_left] at hg
        refine zr_aload_n C 2 dX0_lowest_29 rfl rfl ?_
        refine zr_dup C dX0_lowest_30 rfl ?_
        refine xg_44 C dX0_lowest_31 ?_
        refine zr_lload_n C 0 dX0_lowest_34 rfl rfl ?_
        refine zr_ldiv C dX0_lowest_35 (by omega) (by unfold bL; omega) (by unfold bL; omega) ?_
        refine zr_eql (y := ld_rt (T : Int) (Bm : Int)) (by unfold ld_rt; rw [hg, Int.toNat_natCast, Int.toNat_natCast]; exact (Int.ofNat_tdiv T (Nat.gcd T Bm)).symm) ?_
        refine xp_44 C dX0_lowest_36 ?_
        refine zr_aload_n C 2 dX0_lowest_39 rfl rfl ?_
        refine zr_dup C dX0_lowest_40 rfl ?_
        refine xg_48 C dX0_lowest_41 ?_
        refine zr_lload_n C 0 dX0_lowest_44 rfl rfl ?_
        refine zr_ldiv C dX0_lowest_45 (by omega) (by unfold bL; omega) (by unfold bL; omega) ?_
        refine zr_eql (y := ld_rb (T : Int) (Bm : Int)) (by unfold ld_rb; rw [hg, Int.toNat_natCast, Int.toNat_natCast]; exact (Int.ofNat_tdiv Bm (Nat.gcd T Bm)).symm) ?_
        refine xp_48 C dX0_lowest_46 ?_
        exact hret (_, _) dX0_lowest_49 rfl rfl
      · have hm := Nat.mod_lt y (show 0 < x by omega)
        have hm2 : ((y : Int)).tmod (x : Int) = ((y % x : Nat) : Int) := (Int.ofNat_tmod y x).symm
        refine zr_lload_n C 0 dX0_lowest_16 rfl rfl ?_
        refine zr_lload_n C 1 dX0_lowest_17 rfl rfl ?_
        refine zr_lrem C dX0_lowest_18 (by omega) (by unfold bL; omega) (by unfold bL; omega) ?_
        refine zr_lstore (lv' := [(5, .long (zl ((y : Int).tmod (x : Int)))), (3, .long (zl (y : Int))), (1, .long (zl (x : Int))), (0, .ref ((g 0)))]) C dX0_lowest_19 (by decide) rfl ?_
        refine zr_lload_n C 2 dX0_lowest_21 rfl rfl ?_
        refine zr_lstore_n (lv' := [(3, .long (zl (x : Int))), (5, .long (zl ((y : Int).tmod (x : Int)))), (1, .long (zl (x : Int))), (0, .ref ((g 0)))]) C dX0_lowest_22 rfl (by decide) rfl ?_
        refine zr_lload C 1 dX0_lowest_23 rfl ?_
        refine zr_lstore_n (lv' := [(1, .long (zl ((y : Int).tmod (x : Int)))), (3, .long (zl (x : Int))), (5, .long (zl ((y : Int).tmod (x : Int)))), (0, .ref ((g 0)))]) C dX0_lowest_25 rfl (by decide) rfl ?_
        refine zr_goto (tgt := 10) C dX0_lowest_26 (by decide) ?_
        rw [hm2]
        refine zr_lv [1, 0, 3] rfl ?_
        exact ih (y % x) x (by omega) (by omega) (by omega) (by omega) (by rw [ld_gcd_step]; exact hg)
  refine zr_aload_n C 0 dX0_lowest_0 rfl rfl ?_
  refine xg_44 C dX0_lowest_1 ?_
  refine zr_lstore_n (lv' := [(1, .long (zl (T : Int))), (0, .ref ((g 0)))]) C dX0_lowest_4 rfl (by decide) rfl ?_
  refine zr_aload_n C 1 dX0_lowest_5 rfl rfl ?_
  refine xg_48 C dX0_lowest_6 ?_
  refine zr_lstore_n (lv' := [(3, .long (zl (Bm : Int))), (1, .long (zl (T : Int))), (0, .ref ((g 0)))]) C dX0_lowest_9 rfl (by decide) rfl ?_
  exact loop (T + 1) T Bm (by omega) (by omega) (by omega) (by omega) rfl
set_option maxHeartbeats 4000000 in
set_option maxRecDepth 100000 in
theorem cX_drop (l : Launch) (D : va_G) (g : Nat → Nat) (dd : Nat → ClassId) (n : Nat) (pk dn tp bt sc : Int) (px py tb ow so sb : Nat → Int) (i : Int) (hok : ld_ok n px py) (hi : bI i) : ZMi l yX0_drop cX0_drop 3 (some .int) { frames := 1, cells := 0, slots := 0, locals := 21 } D (tysX dd) (wX g dd (n : Int) pk dn tp bt sc px py tb ow so sb) [.ref (g 0), .int (zi i)] (S := Nat × (Nat → Int) × (Nat → Int)) (fun r u => (¬ (0 ≤ i ∧ i < (n : Int)) ∧ r = -1 ∧ u = (n, px, py)) ∨ ((0 ≤ i ∧ i < (n : Int)) ∧ r = (n : Int) - 1 ∧ u.1 + 1 = n ∧ ∀ j, j < u.1 → u.2.1 j = (if (j : Int) < i then px j else px (j + 1)) ∧ u.2.2 j = (if (j : Int) < i then py j else py (j + 1)))) (fun u => wX g dd ((u.1 : Nat) : Int) pk dn tp bt sc u.2.1 u.2.2 tb ow so sb) := by
  refine zr_meti (lv0 := [(0, .ref ((g 0))), (1, .int (zi i))]) (by decide) (Nat.le_of_ble_eq_true rfl) rfl ?_
  intro p e s m args below meth c_ A Q C hret
  have C : ZC p s m args c_ cX0_drop 3 RX0 D (tysX dd) A := C
  obtain ⟨hn, hxy⟩ := hok
  refine zr_aload_n C 0 dX0_drop_0 rfl rfl ?_
  refine zr_iload_n C 1 dX0_drop_1 rfl rfl ?_
  refine zr_calli C 1 (cX_isPoint l D g dd n pk dn tp bt sc px py tb ow so sb i hn hi) q85 q87 qs0 q27 q88 (by decide +kernel) ⟨Nat.le_of_ble_eq_true rfl, Nat.le_of_ble_eq_true rfl⟩ ⟨rfl, rfl⟩ rfl rfl rfl rfl (Nat.le_of_ble_eq_true rfl) ⟨Nat.zero_le _, Nat.zero_le _⟩ dX0_drop_2 rfl (fun r1 _ hp1 => ?_)
  unfold bI at hi
  refine zr_if_ne (tgt := 10) C dX0_drop_5 (by decide) (by unfold bI; omega) (fun h1 => ?_) (fun h1 => ?_)
  · have hin : 0 ≤ i ∧ i < (n : Int) := by omega
    obtain ⟨i0, hi0⟩ : ∃ i0 : Nat, i = (i0 : Int) := ⟨i.toNat, by omega⟩
    subst hi0
    obtain ⟨n1, hn1⟩ : ∃ n1 : Nat, n = n1 + 1 := ⟨n - 1, by omega⟩
    subst hn1
    have loop : ∀ (N k : Nat) (qx qy : Nat → Int), n1 < k + N → i0 ≤ k → k ≤ n1 → (∀ j, j < n1 + 1 → qx j = (if i0 ≤ j ∧ j < k then px (j + 1) else px j)) → (∀ j, j < n1 + 1 → qy j = (if i0 ≤ j ∧ j < k then py (j + 1) else py j)) → ZW p l e { frames := 1, cells := 0, slots := 0, locals := 21 } s m args below meth c_ 0 0 Q D A 3 (wX g dd (n1 : Int) pk dn tp bt sc qx qy tb ow so sb) 22 [(2, .int (zi (k : Int))), (0, .ref ((g 0))), (1, .int (zi (i0 : Int)))] [] := by
      intro N
      induction N with
      | zero => intro k qx qy h1 h2 h3; omega
      | succ N ih =>
        intro k qx qy hN hik hk hqx hqy
        refine zr_iload_n C 0 dX0_drop_22 rfl rfl ?_
        refine zr_aload_n C 1 dX0_drop_23 rfl rfl ?_
        refine xg_34 C dX0_drop_24 ?_
        refine zr_icmp_ge (tgt := 64) C dX0_drop_27 (by decide) (by unfold bI; omega) (by unfold bI; omega) (fun h2 => ?_) (fun h2 => ?_)
        · refine zr_aload_n C 1 dX0_drop_64 rfl rfl ?_
          refine xg_34 C dX0_drop_65 ?_
          refine hret (n1, qx, qy) dX0_drop_68 rfl (Or.inr ⟨hin, by omega, rfl, fun j hj => ?_⟩)
          have hj : j < n1 := hj
          show qx j = _ ∧ qy j = _
          rw [hqx j (by omega), hqy j (by omega)]
          by_cases e : j < i0
          · rw [if_neg (by omega), if_pos (by omega), if_neg (by omega), if_pos (by omega)]; exact ⟨rfl, rfl⟩
          · rw [if_pos (by omega), if_neg (by omega), if_pos (by omega), if_neg (by omega)]; exact ⟨rfl, rfl⟩
        · have hk1 : k < n1 := by omega
          have hb1 := hxy (k + 1) (by omega)
          have e1 : qx (k + 1) = px (k + 1) := by rw [hqx (k + 1) (by omega), if_neg (by omega)]
          have e2 : qy (k + 1) = py (k + 1) := by rw [hqy (k + 1) (by omega), if_neg (by omega)]
          refine zr_aload_n C 1 dX0_drop_30 rfl rfl ?_
          refine xg_7 C dX0_drop_31 ?_
          refine zr_iload_n C 0 dX0_drop_34 rfl rfl ?_
          refine zr_aload_n C 1 dX0_drop_35 rfl rfl ?_
          refine xg_7 C dX0_drop_36 ?_
          refine zr_iload_n C 0 dX0_drop_39 rfl rfl ?_
          refine zr_iconst C dX0_drop_40 ?_
          refine zr_iadd C dX0_drop_41 ?_
          refine xl_px C (k + 1) (by omega) (by omega) dX0_drop_42 ?_
          refine xs_px C k (by omega) (by omega) (by omega) dX0_drop_43 ?_
          refine zr_aload_n C 1 dX0_drop_44 rfl rfl ?_
          refine xg_13 C dX0_drop_45 ?_
          refine zr_iload_n C 0 dX0_drop_48 rfl rfl ?_
          refine zr_aload_n C 1 dX0_drop_49 rfl rfl ?_
          refine xg_13 C dX0_drop_50 ?_
          refine zr_iload_n C 0 dX0_drop_53 rfl rfl ?_
          refine zr_iconst C dX0_drop_54 ?_
          refine zr_iadd C dX0_drop_55 ?_
          refine xl_py C (k + 1) (by omega) (by omega) dX0_drop_56 ?_
          refine xs_py C k (by omega) (by omega) (by omega) dX0_drop_57 ?_
          refine zr_iinc (v := ((k + 1 : Nat) : Int)) (lv' := [(2, .int (zi ((k + 1 : Nat) : Int))), (0, .ref ((g 0))), (1, .int (zi (i0 : Int)))]) C 0 dX0_drop_58 rfl (rfl) (by decide) rfl ?_
          refine zr_goto (tgt := 22) C dX0_drop_61 (by decide) ?_
          refine ih (k + 1) (ld_up qx k (qx (k + 1))) (ld_up qy k (qy (k + 1))) (by omega) (by omega) (by omega) (fun j hj => ?_) (fun j hj => ?_)
          · by_cases e : j = k
            · subst e; rw [ld_up_s, e1, if_pos (by omega)]
            · rw [ld_up_n _ _ e, hqx j hj]
              by_cases e3 : i0 ≤ j ∧ j < k
              · rw [if_pos e3, if_pos (by omega)]
              · rw [if_neg e3, if_neg (by omega)]
          · by_cases e : j = k
            · subst e; rw [ld_up_s, e2, if_pos (by omega)]
            · rw [ld_up_n _ _ e, hqy j hj]
              by_cases e3 : i0 ≤ j ∧ j < k
              · rw [if_pos e3, if_pos (by omega)]
              · rw [if_neg e3, if_neg (by omega)]
    refine zr_aload_n C 0 dX0_drop_10 rfl rfl ?_
    refine zr_dup C dX0_drop_11 rfl ?_
    refine xg_34 C dX0_drop_12 ?_
    refine zr_iconst C dX0_drop_15 ?_
    refine zr_isub C dX0_drop_16 ?_
    refine zr_eqi (y := (n1 : Int)) (by omega) ?_
    refine xp_34 C dX0_drop_17 ?_
    refine zr_iload_n C 1 dX0_drop_20 rfl rfl ?_
    refine zr_istore_n (lv' := [(2, .int (zi (i0 : Int))), (0, .ref ((g 0))), (1, .int (zi (i0 : Int)))]) C dX0_drop_21 rfl (by decide) rfl ?_
    exact loop (n1 + 1) i0 px py (by omega) (by omega) (by omega) (fun j _ => by rw [if_neg (by omega)]) (fun j _ => by rw [if_neg (by omega)])
  · refine zr_iconst C dX0_drop_8 ?_
    exact hret (n, px, py) dX0_drop_9 rfl (Or.inl ⟨by omega, rfl, rfl⟩)
set_option maxHeartbeats 4000000 in
set_option maxRecDepth 100000 in
theorem cX_insert (l : Launch) (D : va_G) (g : Nat → Nat) (dd : Nat → ClassId) (n c : Nat) (pk dn tp bt : Int) (px py tb ow so sb : Nat → Int) (num und : Int) (hc : c < 8) (hs : ∀ j, j < c → (-30000 ≤ so j ∧ so j ≤ 30000) ∧ (1 ≤ sb j ∧ sb j ≤ 40)) (hnum : -30000 ≤ num ∧ num ≤ 30000) (hund : 1 ≤ und ∧ und ≤ 40) : ZMv l yX0_insert cX0_insert 4 none { frames := 0, cells := 0, slots := 0, locals := 0 } D (tysX dd) (wX g dd (n : Int) pk dn tp bt (c : Int) px py tb ow so sb) [.ref (g 0), .int (zi num), .int (zi und)] (S := (Nat → Int) × (Nat → Int)) (fun u => ld_ins c so sb num und u.1 u.2) (fun u => wX g dd (n : Int) pk dn tp bt ((c + 1 : Nat) : Int) px py tb ow u.1 u.2) := by
  refine zr_metv (lv0 := [(0, .ref ((g 0))), (1, .int (zi num)), (2, .int (zi und))]) (by decide) (Nat.le_of_ble_eq_true rfl) rfl ?_
  intro p e s m args below meth c_ A Q C hret
  have C : ZC p s m args c_ cX0_insert 4 RX0 D (tysX dd) A := C
  have loop : ∀ (a : Nat) (qo qb : Nat → Int), a ≤ c → (∀ j, j < a → qo j = so j ∧ qb j = sb j) → (∀ j, a ≤ j → j < c → qo (j + 1) = so j ∧ qb (j + 1) = sb j) → (∀ j, a ≤ j → j < c → num * sb j < so j * und) → ZW p l e { frames := 0, cells := 0, slots := 0, locals := 0 } s m args below meth c_ 0 0 Q D A 4 (wX g dd (n : Int) pk dn tp bt (c : Int) px py tb ow qo qb) 5 [(3, .int (zi (a : Int))), (0, .ref ((g 0))), (1, .int (zi num)), (2, .int (zi und))] [] := by
    intro a
    induction a with
    | zero =>
      intro qo qb ha hlo hhi hgt
      refine zr_iload_n C 0 dX0_insert_5 rfl rfl ?_
      refine zr_if_le (tgt := 66) C dX0_insert_6 (by decide) (by unfold bI; omega) (fun h1 => ?_) (fun h1 => ?_)
      · refine zr_aload_n C 1 dX0_insert_66 rfl rfl ?_
        refine xg_23 C dX0_insert_67 ?_
        refine zr_iload_n C 0 dX0_insert_70 rfl rfl ?_
        refine zr_iload_n C 2 dX0_insert_71 rfl rfl ?_
        refine xs_so C 0 (rfl) (by omega) dX0_insert_72 ?_
        refine zr_aload_n C 1 dX0_insert_73 rfl rfl ?_
        refine xg_27 C dX0_insert_74 ?_
        refine zr_iload_n C 0 dX0_insert_77 rfl rfl ?_
        refine zr_iload_n C 3 dX0_insert_78 rfl rfl ?_
        refine xs_sb C 0 (rfl) (by omega) dX0_insert_79 ?_
        refine zr_aload_n C 1 dX0_insert_80 rfl rfl ?_
        refine zr_dup C dX0_insert_81 rfl ?_
        refine xg_63 C dX0_insert_82 ?_
        refine zr_iconst C dX0_insert_85 ?_
        refine zr_iadd C dX0_insert_86 ?_
        refine xp_63 C dX0_insert_87 ?_
        exact hret (ld_up qo 0 num, ld_up qb 0 und) dX0_insert_90 rfl (ld_ins_mk (a := 0) (by omega) (fun j hj => hlo j (by omega)) (fun j h1 h2 => hhi j (by omega) h2) (fun h => absurd h (by omega)) (fun j h1 h2 => hgt j (by omega) h2))
      · exact absurd h1 (by omega)
    | succ a ih =>
      intro qo qb ha hlo hhi hgt
      obtain ⟨eo, eb⟩ := hlo a (by omega)
      obtain ⟨hso, hsb⟩ := hs a (by omega)
      have b1 := ld_prod 30000 40 (a := so a) (b := und) (by omega) (by omega)
      have b2 := ld_prod 30000 40 (a := num) (b := sb a) (by omega) (by omega)
      refine zr_iload_n C 0 dX0_insert_5 rfl rfl ?_
      refine zr_if_le (tgt := 66) C dX0_insert_6 (by decide) (by unfold bI; omega) (fun h1 => ?_) (fun h1 => ?_)
      · exact absurd h1 (by omega)
      · refine zr_aload_n C 1 dX0_insert_9 rfl rfl ?_
        refine xg_23 C dX0_insert_10 ?_
        refine zr_iload_n C 0 dX0_insert_13 rfl rfl ?_
        refine zr_iconst C dX0_insert_14 ?_
        refine zr_isub C dX0_insert_15 ?_
        refine xl_so C a (by omega) (by omega) dX0_insert_16 ?_
        refine zr_iload_n C 3 dX0_insert_17 rfl rfl ?_
        refine zr_imul C dX0_insert_18 ?_
        refine zr_iload_n C 2 dX0_insert_19 rfl rfl ?_
        refine zr_aload_n C 1 dX0_insert_20 rfl rfl ?_
        refine xg_27 C dX0_insert_21 ?_
        refine zr_iload_n C 0 dX0_insert_24 rfl rfl ?_
        refine zr_iconst C dX0_insert_25 ?_
        refine zr_isub C dX0_insert_26 ?_
        refine xl_sb C a (by omega) (by omega) dX0_insert_27 ?_
        refine zr_imul C dX0_insert_28 ?_
        rw [eo, eb]
        refine zr_icmp_le (tgt := 66) C dX0_insert_29 (by decide) (by unfold bI; omega) (by unfold bI; omega) (fun h2 => ?_) (fun h2 => ?_)
        · refine zr_aload_n C 1 dX0_insert_66 rfl rfl ?_
          refine xg_23 C dX0_insert_67 ?_
          refine zr_iload_n C 0 dX0_insert_70 rfl rfl ?_
          refine zr_iload_n C 2 dX0_insert_71 rfl rfl ?_
          refine xs_so C (a + 1) (rfl) (by omega) dX0_insert_72 ?_
          refine zr_aload_n C 1 dX0_insert_73 rfl rfl ?_
          refine xg_27 C dX0_insert_74 ?_
          refine zr_iload_n C 0 dX0_insert_77 rfl rfl ?_
          refine zr_iload_n C 3 dX0_insert_78 rfl rfl ?_
          refine xs_sb C (a + 1) (rfl) (by omega) dX0_insert_79 ?_
          refine zr_aload_n C 1 dX0_insert_80 rfl rfl ?_
          refine zr_dup C dX0_insert_81 rfl ?_
          refine xg_63 C dX0_insert_82 ?_
          refine zr_iconst C dX0_insert_85 ?_
          refine zr_iadd C dX0_insert_86 ?_
          refine xp_63 C dX0_insert_87 ?_
          exact hret (ld_up qo (a + 1) num, ld_up qb (a + 1) und) dX0_insert_90 rfl (ld_ins_mk (a := (a + 1)) (by omega) (fun j hj => hlo j (by omega)) (fun j h1 h2 => hhi j (by omega) h2) (fun _ => h2) (fun j h1 h2 => hgt j (by omega) h2))
        · refine zr_aload_n C 1 dX0_insert_32 rfl rfl ?_
          refine xg_23 C dX0_insert_33 ?_
          refine zr_iload_n C 0 dX0_insert_36 rfl rfl ?_
          refine zr_aload_n C 1 dX0_insert_37 rfl rfl ?_
          refine xg_23 C dX0_insert_38 ?_
          refine zr_iload_n C 0 dX0_insert_41 rfl rfl ?_
          refine zr_iconst C dX0_insert_42 ?_
          refine zr_isub C dX0_insert_43 ?_
          refine xl_so C a (by omega) (by omega) dX0_insert_44 ?_
          refine xs_so C (a + 1) (rfl) (by omega) dX0_insert_45 ?_
          refine zr_aload_n C 1 dX0_insert_46 rfl rfl ?_
          refine xg_27 C dX0_insert_47 ?_
          refine zr_iload_n C 0 dX0_insert_50 rfl rfl ?_
          refine zr_aload_n C 1 dX0_insert_51 rfl rfl ?_
          refine xg_27 C dX0_insert_52 ?_
          refine zr_iload_n C 0 dX0_insert_55 rfl rfl ?_
          refine zr_iconst C dX0_insert_56 ?_
          refine zr_isub C dX0_insert_57 ?_
          refine xl_sb C a (by omega) (by omega) dX0_insert_58 ?_
          refine xs_sb C (a + 1) (rfl) (by omega) dX0_insert_59 ?_
          refine zr_iinc (v := (a : Int)) (lv' := [(3, .int (zi (a : Int))), (0, .ref ((g 0))), (1, .int (zi num)), (2, .int (zi und))]) C 0 dX0_insert_60 rfl (by omega) (by decide) rfl ?_
          refine zr_goto (tgt := 5) C dX0_insert_63 (by decide) ?_
          refine ih (ld_up qo (a + 1) (qo a)) (ld_up qb (a + 1) (qb a)) (by omega) (fun j hj => ?_) (fun j h3 h4 => ?_) (fun j h3 h4 => ?_)
          · rw [ld_up_n _ _ (by omega), ld_up_n _ _ (by omega)]; exact hlo j (by omega)
          · by_cases e : j = a
            · subst e; rw [ld_up_s, ld_up_s]; exact ⟨eo, eb⟩
            · rw [ld_up_n _ _ (by omega), ld_up_n _ _ (by omega)]; exact hhi j (by omega) h4
          · by_cases e : j = a
            · subst e; exact h2
            · exact hgt j (by omega) h4
  refine zr_aload_n C 0 dX0_insert_0 rfl rfl ?_
  refine xg_63 C dX0_insert_1 ?_
  refine zr_istore_n (lv' := [(3, .int (zi (c : Int))), (0, .ref ((g 0))), (1, .int (zi num)), (2, .int (zi und))]) C dX0_insert_4 rfl (by decide) rfl ?_
  exact loop c so sb (Nat.le_refl _) (fun j _ => ⟨rfl, rfl⟩) (fun j h1 h2 => absurd h2 (by omega)) (fun j h1 h2 => absurd h2 (by omega))
set_option maxHeartbeats 4000000 in
set_option maxRecDepth 100000 in
theorem cX_costThrough (l : Launch) (D : va_G) (g : Nat → Nat) (dd : Nat → ClassId) (n : Nat) (pk dn tp bt sc : Int) (px py tb ow so sb : Nat → Int) (i : Nat) (p q : Int) (hok : ld_ok n px py) (hi : i < n) (hp : -1000 ≤ p ∧ p ≤ 1000) (hq : -1000 ≤ q ∧ q ≤ 1000) : ZMi l yX0_costThrough cX0_costThrough 7 (some .int) { frames := 1, cells := 0, slots := 0, locals := 21 } D (tysX dd) (wX g dd (n : Int) pk dn tp bt sc px py tb ow so sb) [.ref (g 0), .int (zi (i : Int)), .int (zi p), .int (zi q)] (S := Unit) (fun r _ => r = ld_ct n px py pk i p q) (fun _ => wX g dd (n : Int) pk dn tp bt sc px py tb ow so sb) := by
  refine zr_meti (lv0 := [(0, .ref ((g 0))), (1, .int (zi (i : Int))), (2, .int (zi p)), (3, .int (zi q))]) (by decide) (Nat.le_of_ble_eq_true rfl) rfl ?_
  intro pr e s m args below meth c_ A Q C hret
  have C : ZC pr s m args c_ cX0_costThrough 7 RX0 D (tysX dd) A := C
  obtain ⟨hn, hxy⟩ := hok
  have loop : ∀ (N j : Nat), n < j + N → j ≤ n → ZW pr l e { frames := 1, cells := 0, slots := 0, locals := 21 } s m args below meth c_ 0 0 Q D A 7 (wX g dd (n : Int) pk dn tp bt sc px py tb ow so sb) 6 [(5, .int (zi (j : Int))), (4, .int (zi (ld_sm (fun j => ld_cst pk (q * (py j - py i) - p * (px j - px i))) j))), (0, .ref ((g 0))), (1, .int (zi (i : Int))), (2, .int (zi p)), (3, .int (zi q))] [] := by
    intro N
    induction N with
    | zero => intro j h1 h2; omega
    | succ N ih =>
      intro j hN hj
      refine zr_iload C 0 dX0_costThrough_6 rfl ?_
      refine zr_aload_n C 2 dX0_costThrough_8 rfl rfl ?_
      refine xg_34 C dX0_costThrough_9 ?_
      refine zr_icmp_ge (tgt := 67) C dX0_costThrough_12 (by decide) (by unfold bI; omega) (by unfold bI; omega) (fun h1 => ?_) (fun h1 => ?_)
      · have e : j = n := by omega
        subst e
        refine zr_iload C 1 dX0_costThrough_67 rfl ?_
        exact hret () dX0_costThrough_69 rfl rfl
      · have hj1 : j < n := by omega
        have hbi := hxy i hi
        have hbj := hxy j hj1
        have b1 := ld_prod 40 1000 (a := py j - py i) (b := q) (by omega) (by omega)
        have b2 := ld_prod 1000 40 (a := p) (b := px j - px i) (by omega) (by omega)
        refine zr_aload_n C 2 dX0_costThrough_15 rfl rfl ?_
        refine xg_13 C dX0_costThrough_16 ?_
        refine zr_iload C 0 dX0_costThrough_19 rfl ?_
        refine xl_py C j (by omega) (by omega) dX0_costThrough_21 ?_
        refine zr_aload_n C 2 dX0_costThrough_22 rfl rfl ?_
        refine xg_13 C dX0_costThrough_23 ?_
        refine zr_iload_n C 3 dX0_costThrough_26 rfl rfl ?_
        refine xl_py C i (by omega) (by omega) dX0_costThrough_27 ?_
        refine zr_isub C dX0_costThrough_28 ?_
        refine zr_iload_n C 5 dX0_costThrough_29 rfl rfl ?_
        refine zr_imul C dX0_costThrough_30 ?_
        refine zr_iload_n C 4 dX0_costThrough_31 rfl rfl ?_
        refine zr_aload_n C 2 dX0_costThrough_32 rfl rfl ?_
        refine xg_7 C dX0_costThrough_33 ?_
        refine zr_iload C 0 dX0_costThrough_36 rfl ?_
        refine xl_px C j (by omega) (by omega) dX0_costThrough_38 ?_
        refine zr_aload_n C 2 dX0_costThrough_39 rfl rfl ?_
        refine xg_7 C dX0_costThrough_40 ?_
        refine zr_iload_n C 3 dX0_costThrough_43 rfl rfl ?_
        refine xl_px C i (by omega) (by omega) dX0_costThrough_44 ?_
        refine zr_isub C dX0_costThrough_45 ?_
        refine zr_imul C dX0_costThrough_46 ?_
        refine zr_isub C dX0_costThrough_47 ?_
        refine zr_nmi (fun dv hdv => ?_)
        refine zr_istore (lv' := [(6, .int (zi dv)), (5, .int (zi (j : Int))), (4, .int (zi (ld_sm (fun j => ld_cst pk (q * (py j - py i) - p * (px j - px i))) j))), (0, .ref ((g 0))), (1, .int (zi (i : Int))), (2, .int (zi p)), (3, .int (zi q))]) C dX0_costThrough_48 (by decide) rfl ?_
        refine zr_iload C 2 dX0_costThrough_50 rfl ?_
        refine zr_aload_n C 3 dX0_costThrough_52 rfl rfl ?_
        refine zr_iload C 0 dX0_costThrough_53 rfl ?_
        refine zr_calli C 1 (cX_costOf l D g dd n pk dn tp bt sc px py tb ow so sb dv (by unfold bI; omega)) q137 q139 qs9 q27 q140 (by decide +kernel) ⟨Nat.le_of_ble_eq_true rfl, Nat.le_of_ble_eq_true rfl⟩ ⟨rfl, rfl⟩ rfl rfl rfl rfl (Nat.le_of_ble_eq_true rfl) ⟨Nat.zero_le _, Nat.zero_le _⟩ dX0_costThrough_55 rfl (fun r1 _ hp1 => ?_)
        have e1 : ld_sm (fun j => ld_cst pk (q * (py j - py i) - p * (px j - px i))) j + r1 = ld_sm (fun j => ld_cst pk (q * (py j - py i) - p * (px j - px i))) (j + 1) := by rw [ld_sm_s, hp1, hdv, Int.mul_comm (py j - py i) q]
        refine zr_iadd C dX0_costThrough_58 ?_
        refine zr_nmi (fun sm1 hsm1 => ?_)
        refine zr_istore (lv' := [(4, .int (zi sm1)), (6, .int (zi dv)), (5, .int (zi (j : Int))), (0, .ref ((g 0))), (1, .int (zi (i : Int))), (2, .int (zi p)), (3, .int (zi q))]) C dX0_costThrough_59 (by decide) rfl ?_
        refine zr_iinc (v := ((j + 1 : Nat) : Int)) (lv' := [(5, .int (zi ((j + 1 : Nat) : Int))), (4, .int (zi sm1)), (6, .int (zi dv)), (0, .ref ((g 0))), (1, .int (zi (i : Int))), (2, .int (zi p)), (3, .int (zi q))]) C 2 dX0_costThrough_61 rfl (rfl) (by decide) rfl ?_
        refine zr_goto (tgt := 6) C dX0_costThrough_64 (by decide) ?_
        subst hsm1
        rw [e1]
        refine zr_lv [0, 1, 3, 4, 5, 6] rfl ?_
        exact ih (j + 1) (by omega) (by omega)
  refine zr_iconst C dX0_costThrough_0 ?_
  refine zr_istore (lv' := [(4, .int (zi (ld_sm (fun j => ld_cst pk (q * (py j - py i) - p * (px j - px i))) 0))), (0, .ref ((g 0))), (1, .int (zi (i : Int))), (2, .int (zi p)), (3, .int (zi q))]) C dX0_costThrough_1 (by decide) rfl ?_
  refine zr_iconst C dX0_costThrough_3 ?_
  refine zr_istore (lv' := [(5, .int (zi ((0 : Nat) : Int))), (4, .int (zi (ld_sm (fun j => ld_cst pk (q * (py j - py i) - p * (px j - px i))) 0))), (0, .ref ((g 0))), (1, .int (zi (i : Int))), (2, .int (zi p)), (3, .int (zi q))]) C dX0_costThrough_4 (by decide) rfl ?_
  exact loop (n + 1) 0 (by omega) (by omega)
end
section
/-! PLAIN LAW 7: rows kept in order; the least line through a point -/
theorem ld_ins_sum {c : Nat} {so sb so' sb' : Nat → Int} {num und : Int} (h : ld_ins c so sb num und so' sb') (φ : Int → Int → Int) : ld_sm (fun j => φ (so' j) (sb' j)) (c + 1) = ld_sm (fun j => φ (so j) (sb j)) c + φ num und := by
  obtain ⟨a, ha, h1, h2, h3, h4, h5, h6⟩ := h
  have key : ∀ m, a + m ≤ c → ld_sm (fun j => φ (so' j) (sb' j)) (a + m + 1) = ld_sm (fun j => φ (so j) (sb j)) (a + m) + φ num und := by
    intro m
    induction m with
    | zero =>
      intro _
      rw [Nat.add_zero, ld_sm_s, h2, h3]
      congr 1
      exact ld_sm_congr (fun j hj => by rw [(h1 j hj).1, (h1 j hj).2])
    | succ m ih =>
      intro hm
      obtain ⟨e1, e2⟩ := h4 (a + m) (by omega) (by omega)
      rw [ld_sm_s, show a + (m + 1) = a + m + 1 by omega, ih (by omega), e1, e2, ld_sm_s]
      omega
  have := key (c - a) (by omega)
  rw [show a + (c - a) = c by omega] at this
  exact this
def ld_sorted (c : Nat) (so sb : Nat → Int) : Prop := ∀ i j, i ≤ j → j < c → so i * sb j ≤ so j * sb i
theorem ld_ins_sorted {c : Nat} {so sb so' sb' : Nat → Int} {num und : Int} (hpos : ∀ j, j < c → 0 < sb j) (hund : 0 < und) (hs : ld_sorted c so sb) (h : ld_ins c so sb num und so' sb') : ld_sorted (c + 1) so' sb' := by
  obtain ⟨a, ha, h1, h2, h3, h4, h5, h6⟩ := h
  intro i j hij hj
  by_cases e : i = j
  · subst e; exact Int.le_refl _
  by_cases c1 : j < a
  · rw [(h1 i (by omega)).1, (h1 i (by omega)).2, (h1 j c1).1, (h1 j c1).2]
    exact hs i j hij (by omega)
  by_cases c2 : j = a
  · subst c2
    rw [(h1 i (by omega)).1, (h1 i (by omega)).2, h2, h3]
    have e1 := h5 (by omega)
    have e2 := hs i (j - 1) (by omega) (by omega)
    exact ld_frac (hpos i (by omega)) (hpos (j - 1) (by omega)) hund e2 e1
  · obtain ⟨j', rfl⟩ : ∃ j', j = j' + 1 := ⟨j - 1, by omega⟩
    rw [(h4 j' (by omega) (by omega)).1, (h4 j' (by omega) (by omega)).2]
    by_cases c3 : i < a
    · rw [(h1 i c3).1, (h1 i c3).2]
      exact hs i j' (by omega) (by omega)
    by_cases c4 : i = a
    · subst c4
      rw [h2, h3]
      exact Int.le_of_lt (h6 j' (by omega) (by omega))
    · obtain ⟨i', rfl⟩ : ∃ i', i = i' + 1 := ⟨i - 1, by omega⟩
      rw [(h4 i' (by omega) (by omega)).1, (h4 i' (by omega) (by omega)).2]
      exact hs i' j' (by omega) (by omega)
theorem ld_ins_mem {c : Nat} {so sb so' sb' : Nat → Int} {num und : Int} (h : ld_ins c so sb num und so' sb') :
    (∀ j, j < c + 1 → (so' j = num ∧ sb' j = und) ∨ ∃ i, i < c ∧ so' j = so i ∧ sb' j = sb i) ∧ (∃ j, j < c + 1 ∧ so' j = num ∧ sb' j = und) ∧ (∀ i, i < c → ∃ j, j < c + 1 ∧ so' j = so i ∧ sb' j = sb i) := by
  obtain ⟨a, ha, h1, h2, h3, h4, h5, h6⟩ := h
  refine ⟨fun j hj => ?_, ⟨a, by omega, h2, h3⟩, fun i hi => ?_⟩
  · by_cases c1 : j < a
    · exact Or.inr ⟨j, by omega, h1 j c1⟩
    by_cases c2 : j = a
    · subst c2; exact Or.inl ⟨h2, h3⟩
    · obtain ⟨j', rfl⟩ : ∃ j', j = j' + 1 := ⟨j - 1, by omega⟩
      exact Or.inr ⟨j', by omega, h4 j' (by omega) (by omega)⟩
  · by_cases c1 : i < a
    · exact ⟨i, by omega, h1 i c1⟩
    · exact ⟨i + 1, by omega, h4 i (by omega) hi⟩
/-- the rows that slopeCost sorts: the first i deviations -/
def ld_Isl (n : Nat) (Dv : Nat → Int) (i : Nat) (so sb : Nat → Int) : Prop :=
  (∀ a b, a ≤ b → b < i → so a ≤ so b) ∧ (∀ j, j < i → sb j = 1 ∧ (-30000 ≤ so j ∧ so j ≤ 30000) ∧ ∃ t, t < n ∧ so j = Dv t) ∧ ∀ φ : Int → Int, ld_sm (fun j => φ (so j)) i = ld_sm (fun j => φ (Dv j)) i
theorem ld_Isl_0 (n : Nat) (Dv so sb : Nat → Int) : ld_Isl n Dv 0 so sb := ⟨fun _ _ _ h => absurd h (by omega), fun _ h => absurd h (by omega), fun _ => rfl⟩
theorem ld_Isl_s {n i : Nat} {Dv so sb so' sb' : Nat → Int} (hi : i < n) (hb : -30000 ≤ Dv i ∧ Dv i ≤ 30000) (h : ld_Isl n Dv i so sb) (hin : ld_ins i so sb (Dv i) 1 so' sb') : ld_Isl n Dv (i + 1) so' sb' := by
  obtain ⟨s1, s2, s3⟩ := h
  have hs := ld_ins_sorted (fun j hj => by rw [(s2 j hj).1]; decide) (by decide) (fun a b hab hb => by rw [(s2 b hb).1, (s2 a (by omega)).1]; have := s1 a b hab hb; omega) hin
  obtain ⟨m1, m2, m3⟩ := ld_ins_mem hin
  have q : ∀ j, j < i + 1 → sb' j = 1 ∧ (-30000 ≤ so' j ∧ so' j ≤ 30000) ∧ ∃ t, t < n ∧ so' j = Dv t := by
    intro j hj
    rcases m1 j hj with ⟨e1, e2⟩ | ⟨k, hk, e1, e2⟩
    · exact ⟨e2, by omega, i, hi, e1⟩
    · obtain ⟨a1, a2, t, a3, a4⟩ := s2 k hk
      exact ⟨by omega, by omega, t, a3, by omega⟩
  refine ⟨fun a b hab hb => ?_, q, fun φ => ?_⟩
  · have := hs a b hab hb
    rw [(q a (by omega)).1, (q b hb).1] at this
    omega
  · have := ld_ins_sum hin (fun x _ => φ x)
    rw [this, s3 φ, ld_sm_s]
/-- what slopeCost answers is the least cost of a line of that slope through a point -/
theorem ld_slope {k : Int} (hk : ld_k k) {n p : Nat} {X Y so sb : Nat → Int} {pp q : Int} (hp : p < n) (h : ld_Isl n (fun j => Y j * q - pp * X j) n so sb) (h1 : 4 * (p : Int) ≤ k * n) (h2 : k * n ≤ 4 * ((p : Int) + 1)) :
    (∃ i, i < n ∧ ld_sm (fun j => ld_cst k (so j - so p)) n = ld_ct n X Y k i pp q) ∧ ∀ i, i < n → ld_sm (fun j => ld_cst k (so j - so p)) n ≤ ld_ct n X Y k i pp q := by
  obtain ⟨s1, s2, s3⟩ := h
  have hsum : ∀ i, ld_sm (fun j => ld_cst k (so j - (Y i * q - pp * X i))) n = ld_ct n X Y k i pp q := by
    intro i
    rw [s3 (fun x => ld_cst k (x - (Y i * q - pp * X i)))]
    exact ld_sm_congr (fun j _ => by congr 1; grind)
  refine ⟨?_, fun i hi => ?_⟩
  · obtain ⟨-, -, t, ht, e⟩ := s2 p hp
    refine ⟨t, ht, ?_⟩
    rw [← hsum t]
    exact ld_sm_congr (fun j _ => by rw [e])
  · rw [← hsum i]
    exact ld_quant hk hp so s1 h1 h2 _
/-- the rows that solveThrough sorts: the slopes to the points ahead of j -/
def ld_Ith (X Y : Nat → Int) (i j c : Nat) (so sb : Nat → Int) : Prop :=
  c ≤ j ∧ ld_sorted c so sb ∧ (∀ a, a < c → (-40 ≤ so a ∧ so a ≤ 40) ∧ (1 ≤ sb a ∧ sb a ≤ 40)) ∧ (∀ a, a < c → ∃ t, t < j ∧ X t ≠ X i ∧ so a = ld_kP (Y t - Y i) (X t - X i) ∧ sb a = ld_kQ (X t - X i)) ∧ ∀ t, t < j → X t ≠ X i → ∃ a, a < c ∧ so a = ld_kP (Y t - Y i) (X t - X i) ∧ sb a = ld_kQ (X t - X i)
theorem ld_Ith_0 (X Y : Nat → Int) (i : Nat) (so sb : Nat → Int) : ld_Ith X Y i 0 0 so sb :=
  ⟨Nat.le_refl _, fun _ _ _ h => absurd h (by omega), fun _ h => absurd h (by omega), fun _ h => absurd h (by omega), fun _ h => absurd h (by omega)⟩
theorem ld_Ith_same {X Y : Nat → Int} {i j c : Nat} {so sb : Nat → Int} (h : ld_Ith X Y i j c so sb) (e : X j = X i) : ld_Ith X Y i (j + 1) c so sb := by
  obtain ⟨a1, a2, a3, a4, a5⟩ := h
  refine ⟨by omega, a2, a3, fun a ha => ?_, fun t ht hne => ?_⟩
  · obtain ⟨t, b1, b2⟩ := a4 a ha
    exact ⟨t, by omega, b2⟩
  · by_cases e2 : t = j
    · subst e2; exact absurd e hne
    · exact a5 t (by omega) hne
theorem ld_Ith_s {X Y : Nat → Int} {i j c : Nat} {so sb so' sb' : Nat → Int} {num und : Int} (h : ld_Ith X Y i j c so sb) (e : X j ≠ X i) (en : num = ld_kP (Y j - Y i) (X j - X i)) (eu : und = ld_kQ (X j - X i)) (hb : (-40 ≤ num ∧ num ≤ 40) ∧ (1 ≤ und ∧ und ≤ 40)) (hin : ld_ins c so sb num und so' sb') : ld_Ith X Y i (j + 1) (c + 1) so' sb' := by
  obtain ⟨a1, a2, a3, a4, a5⟩ := h
  have hs := ld_ins_sorted (fun j hj => by have := (a3 j hj).2; omega) (by omega) a2 hin
  obtain ⟨m1, m2, m3⟩ := ld_ins_mem hin
  refine ⟨by omega, hs, fun a ha => ?_, fun a ha => ?_, fun t ht hne => ?_⟩
  · rcases m1 a ha with ⟨e1, e2⟩ | ⟨k, hk, e1, e2⟩
    · rw [e1, e2]; exact hb
    · rw [e1, e2]; exact a3 k hk
  · rcases m1 a ha with ⟨e1, e2⟩ | ⟨k, hk, e1, e2⟩
    · exact ⟨j, by omega, e, by omega, by omega⟩
    · obtain ⟨t, b1, b2, b3, b4⟩ := a4 k hk
      exact ⟨t, by omega, b2, by omega, by omega⟩
  · by_cases e2 : t = j
    · subst e2
      obtain ⟨a, b1, b2, b3⟩ := m2
      exact ⟨a, b1, by omega, by omega⟩
    · obtain ⟨a, b1, b2, b3⟩ := a5 t (by omega) hne
      obtain ⟨a', c1, c2, c3⟩ := m3 a b1
      exact ⟨a', c1, by omega, by omega⟩
theorem ld_thr_alone {k : Int} (hk : ld_k k) {n : Nat} {X Y : Nat → Int} {i : Nat} (h : ∀ t, t < n → X t = X i) : ld_min (ld_cand n X Y k i) (ld_ct n X Y k i 0 1) 1 := by
  have hc : ld_cand n X Y k i (ld_ct n X Y k i 0 1) 1 := Or.inr ⟨h, rfl, rfl⟩
  refine ⟨by decide, ld_ct_nonneg hk _ _ _ _ _ _, fun t' b' hh => ?_, fun _ => ⟨_, _, hc, rfl⟩, fun hno => absurd hc (hno _ _)⟩
  rcases hh with ⟨j, h1, h2, -, -⟩ | ⟨-, rfl, rfl⟩
  · exact absurd (h j h1) h2
  · exact Int.le_refl _
theorem ld_thr_min {k : Int} (hk : ld_k k) {n c e : Nat} {X Y so sb : Nat → Int} {i : Nat} (h : ld_Ith X Y i n c so sb) (he : e < c) (hm : ∀ a, a < c → ld_ct n X Y k i (so e) (sb e) * sb a ≤ ld_ct n X Y k i (so a) (sb a) * sb e) :
    ld_min (ld_cand n X Y k i) (ld_ct n X Y k i (so e) (sb e)) (sb e) := by
  obtain ⟨a1, a2, a3, a4, a5⟩ := h
  obtain ⟨t, b1, b2, b3, b4⟩ := a4 e he
  have hc : ld_cand n X Y k i (ld_ct n X Y k i (so e) (sb e)) (sb e) := Or.inl ⟨t, b1, b2, b4, by rw [b3, b4]⟩
  refine ⟨by have := (a3 e he).2; omega, ld_ct_nonneg hk _ _ _ _ _ _, fun t' b' hh => ?_, fun _ => ⟨_, _, hc, rfl⟩, fun hno => absurd hc (hno _ _)⟩
  rcases hh with ⟨j, h1, h2, rfl, rfl⟩ | ⟨h1, -, -⟩
  · obtain ⟨a, c1, c2, c3⟩ := a5 j h1 h2
    have := hm a c1
    rw [c2, c3] at this
    exact this
  · exact absurd (h1 t b1) b2
/-- one more slope: the cost doesn't rise -/
theorem ld_fall_s {F : Nat → Int} {sb : Nat → Int} {q : Nat} (hpos : ∀ a, a < q + 2 → 0 < sb a) (hch : ∀ a, a < q + 1 → F q * sb a ≤ F a * sb q) (h : F (q + 1) * sb q ≤ F q * sb (q + 1)) : ∀ a, a < q + 2 → F (q + 1) * sb a ≤ F a * sb (q + 1) := by
  intro a ha
  by_cases e : a = q + 1
  · subst e; exact Int.le_refl _
  · exact ld_frac (hpos (q + 1) (by omega)) (hpos q (by omega)) (hpos a ha) h (hch a (by omega))
/-- one more slope: the cost rises; nothing behind it is lower -/
theorem ld_rise {k : Int} (hk : ld_k k) {n c q : Nat} {X Y so sb : Nat → Int} {i : Nat} (h : ld_Ith X Y i n c so sb) (hq : q + 1 < c) (hch : ∀ a, a < q + 1 → ld_ct n X Y k i (so q) (sb q) * sb a ≤ ld_ct n X Y k i (so a) (sb a) * sb q)
    (hr : ld_ct n X Y k i (so q) (sb q) * sb (q + 1) < ld_ct n X Y k i (so (q + 1)) (sb (q + 1)) * sb q) : ∀ a, a < c → ld_ct n X Y k i (so q) (sb q) * sb a ≤ ld_ct n X Y k i (so a) (sb a) * sb q := by
  obtain ⟨a1, a2, a3, a4, a5⟩ := h
  intro a ha
  by_cases e : a < q + 1
  · exact hch a e
  · exact ld_stop (F := ld_ct n X Y k i) (fun p q p' q' => ld_ct_add hk n X Y i p q p' q') (fun m p q hm => ld_ct_mul k n X Y i m p q hm) (by have := (a3 q (by omega)).2; omega) (by have := (a3 (q + 1) hq).2; omega) (by have := (a3 a ha).2; omega) (a2 q (q + 1) (by omega) hq) (a2 (q + 1) a (by omega) ha) hr
end
section
/-! PLAIN LAW 8: the answers, as said of both classes -/
/-- the least cost with a given slope -/
def ld_wmin (n : Nat) (X Y : Nat → Int) (k p q r : Int) : Prop := (n = 0 → r = 0) ∧ (0 < n → (∃ i, i < n ∧ r = ld_ct n X Y k i p q) ∧ ∀ i, i < n → r ≤ ld_ct n X Y k i p q)
theorem ld_wmin_eq {n : Nat} {X Y : Nat → Int} {k p q r r' : Int} (h : ld_wmin n X Y k p q r) (h' : ld_wmin n X Y k p q r') : r = r' := by
  by_cases e : n = 0
  · rw [h.1 e, h'.1 e]
  · obtain ⟨⟨i, hi, h1⟩, h2⟩ := h.2 (by omega)
    obtain ⟨⟨j, hj, h3⟩, h4⟩ := h'.2 (by omega)
    have := h2 j hj
    have := h4 i hi
    omega
def ld_J (n : Nat) (X Y : Nat → Int) (k : Int) (i c : Nat) (so sb : Nat → Int) (q : Nat) (fl T B : Int) : Prop :=
  (0 ≤ T ∧ T ≤ 100000) ∧ (1 ≤ B ∧ B ≤ 40) ∧ q ≤ c ∧ ((fl = 1 ∧ 0 < c ∧ (q = 0 ∨ ∃ z, q = z + 1 ∧ T = ld_ct n X Y k i (so z) (sb z) ∧ B = sb z ∧ ∀ a, a < z + 1 → ld_ct n X Y k i (so z) (sb z) * sb a ≤ ld_ct n X Y k i (so a) (sb a) * sb z)) ∨ (fl = 0 ∧ ld_min (ld_cand n X Y k i) T B))
theorem ld_J_exit {n : Nat} {X Y : Nat → Int} {k : Int} (hk : ld_k k) {i c : Nat} {so sb : Nat → Int} {q : Nat} {fl T B : Int} (h : ld_Ith X Y i n c so sb) (hJ : ld_J n X Y k i c so sb q fl T B) (he : c ≤ q ∨ fl = 0) : ld_min (ld_cand n X Y k i) T B := by
  obtain ⟨-, -, hq, hJ⟩ := hJ
  rcases hJ with ⟨h1, h2, h3⟩ | ⟨h1, h2⟩
  · rcases h3 with h3 | ⟨z, h3, rfl, rfl, h4⟩
    · omega
    · have e : z + 1 = c := by omega
      exact ld_thr_min hk h (by omega) (fun a ha => h4 a (by omega))
  · exact h2
theorem ld_J_0 {n : Nat} {X Y : Nat → Int} {k : Int} (hk : ld_k k) {i c : Nat} {so sb : Nat → Int} (h : ld_Ith X Y i n c so sb) (hb : ld_ct n X Y k i 0 1 ≤ 100000) : ld_J n X Y k i c so sb 0 (if 0 < c then 1 else 0) (ld_ct n X Y k i 0 1) 1 := by
  refine ⟨⟨ld_ct_nonneg hk _ _ _ _ _ _, hb⟩, by omega, by omega, ?_⟩
  by_cases e : 0 < c
  · rw [if_pos e]
    exact Or.inl ⟨rfl, e, Or.inl rfl⟩
  · rw [if_neg e]
    refine Or.inr ⟨rfl, ld_thr_alone hk (fun t ht => ?_)⟩
    by_cases e2 : X t = X i
    · exact e2
    · obtain ⟨a, ha, -⟩ := h.2.2.2.2 t ht e2
      omega
theorem ld_J_fall {n : Nat} {X Y : Nat → Int} {k : Int} {i c : Nat} {so sb : Nat → Int} {q : Nat} {T B C : Int} (h : ld_Ith X Y i n c so sb) (hJ : ld_J n X Y k i c so sb q 1 T B) (hq : q < c) (hC : C = ld_ct n X Y k i (so q) (sb q)) (hC2 : 0 ≤ C ∧ C ≤ 100000) (hle : q = 0 ∨ C * B ≤ T * sb q) : ld_J n X Y k i c so sb (q + 1) 1 C (sb q) := by
  obtain ⟨hT, hB, hqc, hJ⟩ := hJ
  subst hC
  refine ⟨hC2, (h.2.2.1 q hq).2, by omega, Or.inl ⟨rfl, by omega, Or.inr ⟨q, rfl, rfl, rfl, ?_⟩⟩⟩
  rcases hJ with ⟨h1, h2, h3⟩ | ⟨h1, h2⟩
  · rcases h3 with rfl | ⟨z, rfl, rfl, rfl, h4⟩
    · intro a ha
      rw [show a = 0 by omega]
      exact Int.le_refl _
    · have h5 : ld_ct n X Y k i (so (z + 1)) (sb (z + 1)) * sb z ≤ ld_ct n X Y k i (so z) (sb z) * sb (z + 1) := by
        rcases hle with h | h
        · omega
        · exact h
      exact ld_fall_s (F := fun a => ld_ct n X Y k i (so a) (sb a)) (fun a ha => by have := (h.2.2.1 a (by omega)).2; omega) h4 h5
  · omega
theorem ld_J_rise {n : Nat} {X Y : Nat → Int} {k : Int} (hk : ld_k k) {i c : Nat} {so sb : Nat → Int} {q : Nat} {T B C : Int} (h : ld_Ith X Y i n c so sb) (hJ : ld_J n X Y k i c so sb q 1 T B) (hq : q < c) (hq0 : q ≠ 0) (hC : C = ld_ct n X Y k i (so q) (sb q)) (hgt : T * sb q < C * B) : ld_J n X Y k i c so sb (q + 1) 0 T B := by
  obtain ⟨hT, hB, hqc, hJ⟩ := hJ
  subst hC
  refine ⟨hT, hB, by omega, Or.inr ⟨rfl, ?_⟩⟩
  rcases hJ with ⟨h1, h2, h3⟩ | ⟨h1, h2⟩
  · rcases h3 with rfl | ⟨z, rfl, rfl, rfl, h4⟩
    · omega
    · exact ld_thr_min hk h (by omega) (ld_rise hk h hq h4 hgt)
  · omega
theorem ld_k_n {k : Int} (hk : ld_k k) (n : Nat) (hn : n ≤ 8) : 0 ≤ k * n ∧ k * n ≤ 24 ∧ k * n ≤ 3 * n := by
  rcases hk with rfl | rfl | rfl <;> omega
end
section
/-! LeastDeviations: slopeCost, solveThrough and their callers -/
set_option maxHeartbeats 4000000 in
set_option maxRecDepth 100000 in
theorem cX_slopeCost (l : Launch) (D : va_G) (g : Nat → Nat) (dd : Nat → ClassId) (n : Nat) (pk dn tp bt sc : Int) (px py tb ow so sb : Nat → Int) (p q : Int) (hok : ld_ok n px py) (hk : ld_k pk) (hp : -1000 ≤ p ∧ p ≤ 1000) (hq : 1 ≤ q ∧ q ≤ 40) : ZMi l yX0_slopeCost cX0_slopeCost 7 (some .int) { frames := 1, cells := 0, slots := 0, locals := 23 } D (tysX dd) (wX g dd (n : Int) pk dn tp bt sc px py tb ow so sb) [.ref (g 0), .int (zi p), .int (zi q)] (S := Nat × (Nat → Int) × (Nat → Int)) (fun r _ => ld_wmin n px py pk p q r) (fun u => wX g dd (n : Int) pk dn tp bt ((u.1 : Nat) : Int) px py tb ow u.2.1 u.2.2) := by
  refine zr_meti (lv0 := [(0, .ref ((g 0))), (1, .int (zi p)), (2, .int (zi q))]) (by decide) (Nat.le_of_ble_eq_true rfl) rfl ?_
  intro pr e s m args below meth c_ A Q C hret
  have C : ZC pr s m args c_ cX0_slopeCost 7 RX0 D (tysX dd) A := C
  obtain ⟨hn, hxy⟩ := hok
  obtain ⟨hkn1, hkn2, hkn3⟩ := ld_k_n hk n hn
  have loop1 : ∀ (N i : Nat) (qo qb : Nat → Int), n < i + N → i ≤ n → ld_Isl n (fun j => py j * q - p * px j) i qo qb → ZW pr l e { frames := 1, cells := 0, slots := 0, locals := 23 } s m args below meth c_ 0 0 Q D A 7 (wX g dd (n : Int) pk dn tp bt (i : Int) px py tb ow qo qb) 7 [(3, .int (zi (i : Int))), (0, .ref ((g 0))), (1, .int (zi p)), (2, .int (zi q))] [] := by
    intro N
    induction N with
    | zero => intro i qo qb h1 h2; omega
    | succ N ih =>
      intro i qo qb hN hi hI
      refine zr_iload_n C 0 dX0_slopeCost_7 rfl rfl ?_
      refine zr_aload_n C 1 dX0_slopeCost_8 rfl rfl ?_
      refine xg_34 C dX0_slopeCost_9 ?_
      refine zr_icmp_ge (tgt := 47) C dX0_slopeCost_12 (by decide) (by unfold bI; omega) (by unfold bI; omega) (fun h1 => ?_) (fun h1 => ?_)
      · have e : n = i := by omega
        subst e
        refine zr_aload_n C 1 dX0_slopeCost_47 rfl rfl ?_
        refine xg_63 C dX0_slopeCost_48 ?_
        refine zr_if_ne (tgt := 56) C dX0_slopeCost_51 (by decide) (by unfold bI; omega) (fun h2 => ?_) (fun h2 => ?_)
        · have loop2 : ∀ (N a : Nat), n ≤ a + N → a < n → 4 * (a : Int) ≤ pk * n → ZW pr l e { frames := 1, cells := 0, slots := 0, locals := 23 } s m args below meth c_ 0 0 Q D A 7 (wX g dd (n : Int) pk dn tp bt (n : Int) px py tb ow qo qb) 58 [(3, .int (zi (a : Int))), (0, .ref ((g 0))), (1, .int (zi p)), (2, .int (zi q))] [] := by
            intro N
            induction N with
            | zero => intro a h1 h2; omega
            | succ N ih2 =>
              intro a hN2 ha ha4
              refine zr_iconst C dX0_slopeCost_58 ?_
              refine zr_iload_n C 0 dX0_slopeCost_59 rfl rfl ?_
              refine zr_iconst C dX0_slopeCost_60 ?_
              refine zr_iadd C dX0_slopeCost_61 ?_
              refine zr_imul C dX0_slopeCost_62 ?_
              refine zr_aload_n C 1 dX0_slopeCost_63 rfl rfl ?_
              refine xg_30 C dX0_slopeCost_64 ?_
              refine zr_aload_n C 1 dX0_slopeCost_67 rfl rfl ?_
              refine xg_63 C dX0_slopeCost_68 ?_
              refine zr_imul C dX0_slopeCost_71 ?_
              refine zr_icmp_ge (tgt := 81) C dX0_slopeCost_72 (by decide) (by unfold bI; omega) (by unfold bI; omega) (fun h3 => ?_) (fun h3 => ?_)
              · refine zr_aload_n C 1 dX0_slopeCost_81 rfl rfl ?_
                refine xg_23 C dX0_slopeCost_82 ?_
                refine zr_iload_n C 0 dX0_slopeCost_85 rfl rfl ?_
                refine xl_so C a (by omega) (by omega) dX0_slopeCost_86 ?_
                refine zr_istore (lv' := [(4, .int (zi (qo a))), (3, .int (zi (a : Int))), (0, .ref ((g 0))), (1, .int (zi p)), (2, .int (zi q))]) C dX0_slopeCost_87 (by decide) rfl ?_
                have loop3 : ∀ (N j : Nat), n < j + N → j ≤ n → ZW pr l e { frames := 1, cells := 0, slots := 0, locals := 23 } s m args below meth c_ 0 0 Q D A 7 (wX g dd (n : Int) pk dn tp bt (n : Int) px py tb ow qo qb) 95 [(6, .int (zi (j : Int))), (5, .int (zi (ld_sm (fun j => ld_cst pk (qo j - qo a)) j))), (4, .int (zi (qo a))), (0, .ref ((g 0)))] [] := by
                  intro N
                  induction N with
                  | zero => intro j h1 h2; omega
                  | succ N ih3 =>
                    intro j hN3 hj
                    refine zr_iload C 0 dX0_slopeCost_95 rfl ?_
                    refine zr_aload_n C 3 dX0_slopeCost_97 rfl rfl ?_
                    refine xg_63 C dX0_slopeCost_98 ?_
                    refine zr_icmp_ge (tgt := 129) C dX0_slopeCost_101 (by decide) (by unfold bI; omega) (by unfold bI; omega) (fun h4 => ?_) (fun h4 => ?_)
                    · have e : n = j := by omega
                      subst e
                      refine zr_iload C 1 dX0_slopeCost_129 rfl ?_
                      exact hret (n, qo, qb) dX0_slopeCost_131 rfl ⟨fun h => absurd h (by omega), fun _ => ld_slope hk ha hI ha4 h3⟩
                    · have hj1 : j < n := by omega
                      have b1 := (hI.2.1 j hj1).2.1
                      have b2 := (hI.2.1 a ha).2.1
                      refine zr_iload C 1 dX0_slopeCost_104 rfl ?_
                      refine zr_aload_n C 3 dX0_slopeCost_106 rfl rfl ?_
                      refine zr_aload_n C 3 dX0_slopeCost_107 rfl rfl ?_
                      refine xg_23 C dX0_slopeCost_108 ?_
                      refine zr_iload C 0 dX0_slopeCost_111 rfl ?_
                      refine xl_so C j (by omega) (by omega) dX0_slopeCost_113 ?_
                      refine zr_iload C 2 dX0_slopeCost_114 rfl ?_
                      refine zr_isub C dX0_slopeCost_116 ?_
                      refine zr_calli C 1 (cX_costOf l D g dd n pk dn tp bt (n : Int) px py tb ow qo qb (qo j - qo a) (by unfold bI; omega)) q137 q139 qs9 q27 q140 (by decide +kernel) ⟨Nat.le_of_ble_eq_true rfl, Nat.le_of_ble_eq_true rfl⟩ ⟨rfl, rfl⟩ rfl rfl rfl rfl (Nat.le_of_ble_eq_true rfl) ⟨Nat.zero_le _, Nat.zero_le _⟩ dX0_slopeCost_117 rfl (fun r1 _ hp1 => ?_)
                      have e1 : ld_sm (fun j => ld_cst pk (qo j - qo a)) j + r1 = ld_sm (fun j => ld_cst pk (qo j - qo a)) (j + 1) := by rw [ld_sm_s, hp1]
                      refine zr_iadd C dX0_slopeCost_120 ?_
                      refine zr_nmi (fun sm1 hsm1 => ?_)
                      refine zr_istore (lv' := [(5, .int (zi sm1)), (6, .int (zi (j : Int))), (4, .int (zi (qo a))), (0, .ref ((g 0)))]) C dX0_slopeCost_121 (by decide) rfl ?_
                      refine zr_iinc (v := ((j + 1 : Nat) : Int)) (lv' := [(6, .int (zi ((j + 1 : Nat) : Int))), (5, .int (zi sm1)), (4, .int (zi (qo a))), (0, .ref ((g 0)))]) C 1 dX0_slopeCost_123 rfl (rfl) (by decide) rfl ?_
                      refine zr_goto (tgt := 95) C dX0_slopeCost_126 (by decide) ?_
                      subst hsm1
                      rw [e1]
                      refine zr_lv [0, 1, 2, 3] rfl ?_
                      exact ih3 (j + 1) (by omega) (by omega)
                refine zr_iconst C dX0_slopeCost_89 ?_
                refine zr_istore (lv' := [(5, .int (zi (ld_sm (fun j => ld_cst pk (qo j - qo a)) 0))), (4, .int (zi (qo a))), (3, .int (zi (a : Int))), (0, .ref ((g 0))), (1, .int (zi p)), (2, .int (zi q))]) C dX0_slopeCost_90 (by decide) rfl ?_
                refine zr_iconst C dX0_slopeCost_92 ?_
                refine zr_istore (lv' := [(6, .int (zi ((0 : Nat) : Int))), (5, .int (zi (ld_sm (fun j => ld_cst pk (qo j - qo a)) 0))), (4, .int (zi (qo a))), (3, .int (zi (a : Int))), (0, .ref ((g 0))), (1, .int (zi p)), (2, .int (zi q))]) C dX0_slopeCost_93 (by decide) rfl ?_
                refine zr_lv [0, 1, 2, 4] rfl ?_
                exact loop3 (n + 1) 0 (by omega) (by omega)
              · refine zr_iinc (v := ((a + 1 : Nat) : Int)) (lv' := [(3, .int (zi ((a + 1 : Nat) : Int))), (0, .ref ((g 0))), (1, .int (zi p)), (2, .int (zi q))]) C 0 dX0_slopeCost_75 rfl (rfl) (by decide) rfl ?_
                refine zr_goto (tgt := 58) C dX0_slopeCost_78 (by decide) ?_
                exact ih2 (a + 1) (by omega) (by omega) (by omega)
          refine zr_iconst C dX0_slopeCost_56 ?_
          refine zr_istore_n (lv' := [(3, .int (zi ((0 : Nat) : Int))), (0, .ref ((g 0))), (1, .int (zi p)), (2, .int (zi q))]) C dX0_slopeCost_57 rfl (by decide) rfl ?_
          exact loop2 n 0 (by omega) (by omega) (by omega)
        · refine zr_iconst C dX0_slopeCost_54 ?_
          exact hret (n, qo, qb) dX0_slopeCost_55 rfl ⟨fun _ => rfl, fun h => absurd h (by omega)⟩
      · have hi1 : i < n := by omega
        have hb := hxy i hi1
        have b1 := ld_prod 20 40 (a := py i) (b := q) (by omega) (by omega)
        have b2 := ld_prod 1000 20 (a := p) (b := px i) (by omega) (by omega)
        refine zr_aload_n C 1 dX0_slopeCost_15 rfl rfl ?_
        refine xg_13 C dX0_slopeCost_16 ?_
        refine zr_iload_n C 0 dX0_slopeCost_19 rfl rfl ?_
        refine xl_py C i (by omega) (by omega) dX0_slopeCost_20 ?_
        refine zr_iload_n C 3 dX0_slopeCost_21 rfl rfl ?_
        refine zr_imul C dX0_slopeCost_22 ?_
        refine zr_iload_n C 2 dX0_slopeCost_23 rfl rfl ?_
        refine zr_aload_n C 1 dX0_slopeCost_24 rfl rfl ?_
        refine xg_7 C dX0_slopeCost_25 ?_
        refine zr_iload_n C 0 dX0_slopeCost_28 rfl rfl ?_
        refine xl_px C i (by omega) (by omega) dX0_slopeCost_29 ?_
        refine zr_imul C dX0_slopeCost_30 ?_
        refine zr_isub C dX0_slopeCost_31 ?_
        refine zr_nmi (fun dv hdv => ?_)
        refine zr_istore (lv' := [(4, .int (zi dv)), (3, .int (zi (i : Int))), (0, .ref ((g 0))), (1, .int (zi p)), (2, .int (zi q))]) C dX0_slopeCost_32 (by decide) rfl ?_
        refine zr_aload_n C 2 dX0_slopeCost_34 rfl rfl ?_
        refine zr_iload C 0 dX0_slopeCost_35 rfl ?_
        refine zr_iconst C dX0_slopeCost_37 ?_
        refine zr_callv C 2 (cX_insert l D g dd n i pk dn tp bt px py tb ow qo qb dv 1 (by omega) (fun j hj => ⟨(hI.2.1 j hj).2.1, by have := (hI.2.1 j hj).1; omega⟩) (by omega) (by omega)) q133 q135 qs8 q27 q136 (by decide +kernel) ⟨Nat.le_of_ble_eq_true rfl, Nat.le_of_ble_eq_true rfl⟩ ⟨rfl, rfl⟩ rfl rfl rfl rfl (Nat.le_of_ble_eq_true rfl) ⟨Nat.zero_le _, Nat.zero_le _⟩ dX0_slopeCost_38 rfl (fun u hu => ?_)
        refine zr_iinc (v := ((i + 1 : Nat) : Int)) (lv' := [(3, .int (zi ((i + 1 : Nat) : Int))), (4, .int (zi dv)), (0, .ref ((g 0))), (1, .int (zi p)), (2, .int (zi q))]) C 1 dX0_slopeCost_41 rfl (rfl) (by decide) rfl ?_
        refine zr_goto (tgt := 7) C dX0_slopeCost_44 (by decide) ?_
        refine zr_lv [0, 2, 3, 4] rfl ?_
        subst hdv
        exact ih (i + 1) u.1 u.2 (by omega) (by omega) (ld_Isl_s (Dv := fun j => py j * q - p * px j) hi1 (by show -30000 ≤ py i * q - p * px i ∧ py i * q - p * px i ≤ 30000; omega) hI hu)
  refine zr_aload_n C 0 dX0_slopeCost_0 rfl rfl ?_
  refine zr_iconst C dX0_slopeCost_1 ?_
  refine zr_eqi (y := ((0 : Nat) : Int)) (rfl) ?_
  refine xp_63 C dX0_slopeCost_2 ?_
  refine zr_iconst C dX0_slopeCost_5 ?_
  refine zr_istore_n (lv' := [(3, .int (zi ((0 : Nat) : Int))), (0, .ref ((g 0))), (1, .int (zi p)), (2, .int (zi q))]) C dX0_slopeCost_6 rfl (by decide) rfl ?_
  exact loop1 (n + 1) 0 so sb (by omega) (by omega) (ld_Isl_0 _ _ _ _)
set_option maxHeartbeats 4000000 in
set_option maxRecDepth 100000 in
theorem cX_withSlope (l : Launch) (D : va_G) (g : Nat → Nat) (dd : Nat → ClassId) (n : Nat) (pk dn tp bt sc : Int) (px py tb ow so sb : Nat → Int) (p q : Int) (hok : ld_ok n px py) (hk : ld_k pk) (hp : bI p) (hq : bI q) : ZMi l yX0_withSlope cX0_withSlope 3 (some .int) { frames := 2, cells := 0, slots := 0, locals := 49 } D (tysX dd) (wX g dd (n : Int) pk dn tp bt sc px py tb ow so sb) [.ref (g 0), .int (zi p), .int (zi q)] (S := Int × (Nat → Int) × (Nat → Int)) (fun r _ => (¬ ((-1000 ≤ p ∧ p ≤ 1000) ∧ (1 ≤ q ∧ q ≤ 40)) ∧ r = -1) ∨ (((-1000 ≤ p ∧ p ≤ 1000) ∧ (1 ≤ q ∧ q ≤ 40)) ∧ ld_wmin n px py pk p q r)) (fun u => wX g dd (n : Int) pk dn tp bt u.1 px py tb ow u.2.1 u.2.2) := by
  refine zr_meti (lv0 := [(0, .ref ((g 0))), (1, .int (zi p)), (2, .int (zi q))]) (by decide) (Nat.le_of_ble_eq_true rfl) rfl ?_
  intro pr e s m args below meth c_ A Q C hret
  have C : ZC pr s m args c_ cX0_withSlope 3 RX0 D (tysX dd) A := C
  unfold bI at hp hq
  refine zr_iload_n C 1 dX0_withSlope_0 rfl rfl ?_
  refine zr_sipush (v := (-1000)) C dX0_withSlope_1 rfl ?_
  refine zr_icmp_lt (tgt := 25) C dX0_withSlope_4 (by decide) (by unfold bI; omega) (by unfold bI; omega) (fun h1 => ?_) (fun h1 => ?_)
  · refine zr_iconst C dX0_withSlope_25 ?_
    exact hret (sc, so, sb) dX0_withSlope_26 rfl (Or.inl ⟨by omega, rfl⟩)
  · refine zr_iload_n C 1 dX0_withSlope_7 rfl rfl ?_
    refine zr_sipush (v := 1000) C dX0_withSlope_8 rfl ?_
    refine zr_icmp_gt (tgt := 25) C dX0_withSlope_11 (by decide) (by unfold bI; omega) (by unfold bI; omega) (fun h2 => ?_) (fun h2 => ?_)
    · refine zr_iconst C dX0_withSlope_25 ?_
      exact hret (sc, so, sb) dX0_withSlope_26 rfl (Or.inl ⟨by omega, rfl⟩)
    · refine zr_iload_n C 2 dX0_withSlope_14 rfl rfl ?_
      refine zr_iconst C dX0_withSlope_15 ?_
      refine zr_icmp_lt (tgt := 25) C dX0_withSlope_16 (by decide) (by unfold bI; omega) (by unfold bI; omega) (fun h3 => ?_) (fun h3 => ?_)
      · refine zr_iconst C dX0_withSlope_25 ?_
        exact hret (sc, so, sb) dX0_withSlope_26 rfl (Or.inl ⟨by omega, rfl⟩)
      · refine zr_iload_n C 2 dX0_withSlope_19 rfl rfl ?_
        refine zr_bipush C dX0_withSlope_20 (by decide) ?_
        refine zr_icmp_le (tgt := 27) C dX0_withSlope_22 (by decide) (by unfold bI; omega) (by unfold bI; omega) (fun h4 => ?_) (fun h4 => ?_)
        · refine zr_aload_n C 0 dX0_withSlope_27 rfl rfl ?_
          refine zr_iload_n C 1 dX0_withSlope_28 rfl rfl ?_
          refine zr_iload_n C 2 dX0_withSlope_29 rfl rfl ?_
          refine zr_calli C 2 (cX_slopeCost l D g dd n pk dn tp bt sc px py tb ow so sb p q hok hk (by omega) (by omega)) q129 q131 qs7 q27 q132 (by decide +kernel) ⟨Nat.le_of_ble_eq_true rfl, Nat.le_of_ble_eq_true rfl⟩ ⟨rfl, rfl⟩ rfl rfl rfl rfl (Nat.le_of_ble_eq_true rfl) ⟨Nat.zero_le _, Nat.zero_le _⟩ dX0_withSlope_30 rfl (fun r1 u1 hp1 => ?_)
          exact hret (((u1.1 : Nat) : Int), u1.2.1, u1.2.2) dX0_withSlope_33 rfl (Or.inr ⟨by omega, hp1⟩)
        · refine zr_iconst C dX0_withSlope_25 ?_
          exact hret (sc, so, sb) dX0_withSlope_26 rfl (Or.inl ⟨by omega, rfl⟩)
set_option maxHeartbeats 4000000 in
set_option maxRecDepth 100000 in
theorem cX_solveThrough (l : Launch) (D : va_G) (g : Nat → Nat) (dd : Nat → ClassId) (n : Nat) (pk dn tp bt sc : Int) (px py tb ow so sb : Nat → Int) (i : Nat) (hok : ld_ok n px py) (hk : ld_k pk) (hi : i < n) : ZMv l yX0_solveThrough cX0_solveThrough 6 none { frames := 2, cells := 0, slots := 0, locals := 47 } D (tysX dd) (wX g dd (n : Int) pk dn tp bt sc px py tb ow so sb) [.ref (g 0), .int (zi (i : Int))] (S := Int × Int × Int × (Nat → Int) × (Nat → Int)) (fun u => ∃ t b, ld_min (ld_cand n px py pk i) t b ∧ u.1 = ld_rt t b ∧ u.2.1 = ld_rb t b) (fun u => wX g dd (n : Int) pk dn u.1 u.2.1 u.2.2.1 px py tb ow u.2.2.2.1 u.2.2.2.2) := by
  refine zr_metv (lv0 := [(0, .ref ((g 0))), (1, .int (zi (i : Int)))]) (by decide) (Nat.le_of_ble_eq_true rfl) rfl ?_
  intro p e s m args below meth c_ A Q C hret
  have C : ZC p s m args c_ cX0_solveThrough 6 RX0 D (tysX dd) A := C
  have hok0 := hok
  obtain ⟨hn, hxy⟩ := hok
  have hbi := hxy i hi
  have loop1 : ∀ (N j c : Nat) (qo qb : Nat → Int), n < j + N → j ≤ n → ld_Ith px py i j c qo qb → ZW p l e { frames := 2, cells := 0, slots := 0, locals := 47 } s m args below meth c_ 0 0 Q D A 6 (wX g dd (n : Int) pk dn tp bt (c : Int) px py tb ow qo qb) 7 [(2, .int (zi (j : Int))), (0, .ref ((g 0))), (1, .int (zi (i : Int)))] [] := by
    intro N
    induction N with
    | zero => intro j c qo qb h1 h2; omega
    | succ N ih =>
      intro j c qo qb hN hj hI
      have hcj := hI.1
      refine zr_iload_n C 0 dX0_solveThrough_7 rfl rfl ?_
      refine zr_aload_n C 1 dX0_solveThrough_8 rfl rfl ?_
      refine xg_34 C dX0_solveThrough_9 ?_
      refine zr_icmp_ge (tgt := 74) C dX0_solveThrough_12 (by decide) (by unfold bI; omega) (by unfold bI; omega) (fun h1 => ?_) (fun h1 => ?_)
      · have e : n = j := by omega
        subst e
        have hb0 := ld_ct_bd hk (p := 0) (q := 1) (P := 1) (Q := 1) hn hi (fun j hj => (hxy j hj).1) (fun j hj => (hxy j hj).2) (by omega) (by omega)
        have loop2 : ∀ (N k : Nat) (fl T Bq : Int), c < k + N → ld_J n px py pk i c qo qb k fl T Bq → ZW p l e { frames := 2, cells := 0, slots := 0, locals := 47 } s m args below meth c_ 0 0 Q D A 6 (wX g dd (n : Int) pk dn T Bq (c : Int) px py tb ow qo qb) 106 [(3, .int (zi (k : Int))), (2, .int (zi fl)), (0, .ref ((g 0))), (1, .int (zi (i : Int)))] [] := by
          intro N
          induction N with
          | zero => intro k fl T Bq h1 h2; have := h2.2.2.1; omega
          | succ N ih2 =>
            intro k fl T Bq hN2 hJ
            obtain ⟨hT, hBq, hkc, hfl⟩ := id hJ
            have hfl01 : fl = 0 ∨ fl = 1 := by rcases hfl with h | h; exact Or.inr h.1; exact Or.inl h.1
            refine zr_iload_n C 0 dX0_solveThrough_106 rfl rfl ?_
            refine zr_aload_n C 2 dX0_solveThrough_107 rfl rfl ?_
            refine xg_63 C dX0_solveThrough_108 ?_
            refine zr_icmp_ge (tgt := 201) C dX0_solveThrough_111 (by decide) (by unfold bI; omega) (by unfold bI; omega) (fun h2 => ?_) (fun h2 => ?_)
            · refine zr_aload_n C 2 dX0_solveThrough_201 rfl rfl ?_
              refine zr_callv C 0 (cX_lowest l D g dd n pk dn T Bq (c : Int) px py tb ow qo qb (by omega) (by omega)) q117 q119 qs6 q27 q120 (by decide +kernel) ⟨Nat.le_of_ble_eq_true rfl, Nat.le_of_ble_eq_true rfl⟩ ⟨rfl, rfl⟩ rfl rfl rfl rfl (Nat.le_of_ble_eq_true rfl) ⟨Nat.zero_le _, Nat.zero_le _⟩ dX0_solveThrough_202 rfl (fun u hu => ?_)
              exact hret (u.1, u.2, (c : Int), qo, qb) dX0_solveThrough_205 rfl ⟨T, Bq, ld_J_exit hk hI hJ (Or.inl (by omega)), by rw [hu], by rw [hu]⟩
            · refine zr_iload_n C 1 dX0_solveThrough_114 rfl rfl ?_
              refine zr_if_eq (tgt := 201) C dX0_solveThrough_115 (by decide) (by unfold bI; omega) (fun h3 => ?_) (fun h3 => ?_)
              · refine zr_aload_n C 2 dX0_solveThrough_201 rfl rfl ?_
                refine zr_callv C 0 (cX_lowest l D g dd n pk dn T Bq (c : Int) px py tb ow qo qb (by omega) (by omega)) q117 q119 qs6 q27 q120 (by decide +kernel) ⟨Nat.le_of_ble_eq_true rfl, Nat.le_of_ble_eq_true rfl⟩ ⟨rfl, rfl⟩ rfl rfl rfl rfl (Nat.le_of_ble_eq_true rfl) ⟨Nat.zero_le _, Nat.zero_le _⟩ dX0_solveThrough_202 rfl (fun u hu => ?_)
                exact hret (u.1, u.2, (c : Int), qo, qb) dX0_solveThrough_205 rfl ⟨T, Bq, ld_J_exit hk hI hJ (Or.inr h3), by rw [hu], by rw [hu]⟩
              · have e1 : fl = 1 := by omega
                subst e1
                have hkc1 : k < c := by omega
                have hb1 := hI.2.2.1 k hkc1
                have hb2 := ld_ct_bd hk (p := qo k) (q := qb k) (P := 40) (Q := 40) hn hi (fun j hj => (hxy j hj).1) (fun j hj => (hxy j hj).2) (by omega) (by omega)
                refine zr_aload_n C 2 dX0_solveThrough_118 rfl rfl ?_
                refine zr_iload_n C 3 dX0_solveThrough_119 rfl rfl ?_
                refine zr_aload_n C 2 dX0_solveThrough_120 rfl rfl ?_
                refine xg_23 C dX0_solveThrough_121 ?_
                refine zr_iload_n C 0 dX0_solveThrough_124 rfl rfl ?_
                refine xl_so C k (by omega) (by omega) dX0_solveThrough_125 ?_
                refine zr_aload_n C 2 dX0_solveThrough_126 rfl rfl ?_
                refine xg_27 C dX0_solveThrough_127 ?_
                refine zr_iload_n C 0 dX0_solveThrough_130 rfl rfl ?_
                refine xl_sb C k (by omega) (by omega) dX0_solveThrough_131 ?_
                refine zr_calli C 3 (cX_costThrough l D g dd n pk dn T Bq (c : Int) px py tb ow qo qb i (qo k) (qb k) hok0 hi (by omega) (by omega)) q149 q151 qs10 q27 q152 (by decide +kernel) ⟨Nat.le_of_ble_eq_true rfl, Nat.le_of_ble_eq_true rfl⟩ ⟨rfl, rfl⟩ rfl rfl rfl rfl (Nat.le_of_ble_eq_true rfl) ⟨Nat.zero_le _, Nat.zero_le _⟩ dX0_solveThrough_132 rfl (fun r1 _ hp1 => ?_)
                refine zr_i2l C dX0_solveThrough_135 (by unfold bI; omega) ?_
                refine zr_lstore (lv' := [(4, .long (zl r1)), (3, .int (zi (k : Int))), (2, .int (zi 1)), (0, .ref ((g 0))), (1, .int (zi (i : Int)))]) C dX0_solveThrough_136 (by decide) rfl ?_
                refine zr_iload_n C 1 dX0_solveThrough_138 rfl rfl ?_
                refine zr_if_eq (tgt := 165) C dX0_solveThrough_139 (by decide) (by unfold bI; omega) (fun h4 => ?_) (fun h4 => ?_)
                · refine zr_iconst C dX0_solveThrough_165 ?_
                  refine zr_goto (tgt := 170) C dX0_solveThrough_166 (by decide) ?_
                  refine zr_istore_n (lv' := [(2, .int (zi 1)), (4, .long (zl r1)), (3, .int (zi (k : Int))), (0, .ref ((g 0))), (1, .int (zi (i : Int)))]) C dX0_solveThrough_170 rfl (by decide) rfl ?_
                  refine zr_iload_n C 0 dX0_solveThrough_171 rfl rfl ?_
                  refine zr_if_ne (tgt := 178) C dX0_solveThrough_172 (by decide) (by unfold bI; omega) (fun h6 => ?_) (fun h6 => ?_)
                  · refine zr_aload_n C 3 dX0_solveThrough_178 rfl rfl ?_
                    refine zr_lload C 1 dX0_solveThrough_179 rfl ?_
                    refine xp_44 C dX0_solveThrough_181 ?_
                    refine zr_aload_n C 3 dX0_solveThrough_184 rfl rfl ?_
                    refine zr_aload_n C 3 dX0_solveThrough_185 rfl rfl ?_
                    refine xg_27 C dX0_solveThrough_186 ?_
                    refine zr_iload_n C 2 dX0_solveThrough_189 rfl rfl ?_
                    refine xl_sb C k (by omega) (by omega) dX0_solveThrough_190 ?_
                    refine zr_i2l C dX0_solveThrough_191 (by unfold bI; omega) ?_
                    refine xp_48 C dX0_solveThrough_192 ?_
                    refine zr_iinc (v := ((k + 1 : Nat) : Int)) (lv' := [(3, .int (zi ((k + 1 : Nat) : Int))), (2, .int (zi 1)), (4, .long (zl r1)), (0, .ref ((g 0))), (1, .int (zi (i : Int)))]) C 2 dX0_solveThrough_195 rfl (rfl) (by decide) rfl ?_
                    refine zr_goto (tgt := 106) C dX0_solveThrough_198 (by decide) ?_
                    refine zr_lv [0, 1, 3, 4] rfl ?_
                    exact ih2 (k + 1) 1 r1 (qb k) (by omega) (ld_J_fall hI hJ hkc1 hp1 (by omega) (Or.inl (by omega)))
                  · exact absurd h6 (by omega)
                · have b1 := ld_prod 100000 40 (a := r1) (b := Bq) (by omega) (by omega)
                  have b2 := ld_prod 100000 40 (a := T) (b := qb k) (by omega) (by omega)
                  refine zr_lload C 0 dX0_solveThrough_142 rfl ?_
                  refine zr_aload_n C 3 dX0_solveThrough_144 rfl rfl ?_
                  refine xg_48 C dX0_solveThrough_145 ?_
                  refine zr_lmul C dX0_solveThrough_148 ?_
                  refine zr_aload_n C 3 dX0_solveThrough_149 rfl rfl ?_
                  refine xg_44 C dX0_solveThrough_150 ?_
                  refine zr_aload_n C 3 dX0_solveThrough_153 rfl rfl ?_
                  refine xg_27 C dX0_solveThrough_154 ?_
                  refine zr_iload_n C 1 dX0_solveThrough_157 rfl rfl ?_
                  refine xl_sb C k (by omega) (by omega) dX0_solveThrough_158 ?_
                  refine zr_i2l C dX0_solveThrough_159 (by unfold bI; omega) ?_
                  refine zr_lmul C dX0_solveThrough_160 ?_
                  refine zr_lcmp_gt (tgt := 169) C dX0_solveThrough_161 dX0_solveThrough_162 (by decide) (by unfold bL; omega) (by unfold bL; omega) (fun h5 => ?_) (fun h5 => ?_)
                  · refine zr_iconst C dX0_solveThrough_169 ?_
                    refine zr_istore_n (lv' := [(2, .int (zi 0)), (4, .long (zl r1)), (3, .int (zi (k : Int))), (0, .ref ((g 0))), (1, .int (zi (i : Int)))]) C dX0_solveThrough_170 rfl (by decide) rfl ?_
                    refine zr_iload_n C 0 dX0_solveThrough_171 rfl rfl ?_
                    refine zr_if_ne (tgt := 178) C dX0_solveThrough_172 (by decide) (by unfold bI; omega) (fun h6 => ?_) (fun h6 => ?_)
                    · exact absurd rfl h6
                    · refine zr_goto (tgt := 195) C dX0_solveThrough_175 (by decide) ?_
                      refine zr_iinc (v := ((k + 1 : Nat) : Int)) (lv' := [(3, .int (zi ((k + 1 : Nat) : Int))), (2, .int (zi 0)), (4, .long (zl r1)), (0, .ref ((g 0))), (1, .int (zi (i : Int)))]) C 2 dX0_solveThrough_195 rfl (rfl) (by decide) rfl ?_
                      refine zr_goto (tgt := 106) C dX0_solveThrough_198 (by decide) ?_
                      refine zr_lv [0, 1, 3, 4] rfl ?_
                      exact ih2 (k + 1) 0 T Bq (by omega) (ld_J_rise hk hI hJ hkc1 (by omega) hp1 h5)
                  · refine zr_iconst C dX0_solveThrough_165 ?_
                    refine zr_goto (tgt := 170) C dX0_solveThrough_166 (by decide) ?_
                    refine zr_istore_n (lv' := [(2, .int (zi 1)), (4, .long (zl r1)), (3, .int (zi (k : Int))), (0, .ref ((g 0))), (1, .int (zi (i : Int)))]) C dX0_solveThrough_170 rfl (by decide) rfl ?_
                    refine zr_iload_n C 0 dX0_solveThrough_171 rfl rfl ?_
                    refine zr_if_ne (tgt := 178) C dX0_solveThrough_172 (by decide) (by unfold bI; omega) (fun h6 => ?_) (fun h6 => ?_)
                    · refine zr_aload_n C 3 dX0_solveThrough_178 rfl rfl ?_
                      refine zr_lload C 1 dX0_solveThrough_179 rfl ?_
                      refine xp_44 C dX0_solveThrough_181 ?_
                      refine zr_aload_n C 3 dX0_solveThrough_184 rfl rfl ?_
                      refine zr_aload_n C 3 dX0_solveThrough_185 rfl rfl ?_
                      refine xg_27 C dX0_solveThrough_186 ?_
                      refine zr_iload_n C 2 dX0_solveThrough_189 rfl rfl ?_
                      refine xl_sb C k (by omega) (by omega) dX0_solveThrough_190 ?_
                      refine zr_i2l C dX0_solveThrough_191 (by unfold bI; omega) ?_
                      refine xp_48 C dX0_solveThrough_192 ?_
                      refine zr_iinc (v := ((k + 1 : Nat) : Int)) (lv' := [(3, .int (zi ((k + 1 : Nat) : Int))), (2, .int (zi 1)), (4, .long (zl r1)), (0, .ref ((g 0))), (1, .int (zi (i : Int)))]) C 2 dX0_solveThrough_195 rfl (rfl) (by decide) rfl ?_
                      refine zr_goto (tgt := 106) C dX0_solveThrough_198 (by decide) ?_
                      refine zr_lv [0, 1, 3, 4] rfl ?_
                      exact ih2 (k + 1) 1 r1 (qb k) (by omega) (ld_J_fall hI hJ hkc1 hp1 (by omega) (Or.inr h5))
                    · exact absurd h6 (by omega)
        refine zr_aload_n C 1 dX0_solveThrough_74 rfl rfl ?_
        refine zr_aload_n C 1 dX0_solveThrough_75 rfl rfl ?_
        refine zr_iload_n C 2 dX0_solveThrough_76 rfl rfl ?_
        refine zr_iconst C dX0_solveThrough_77 ?_
        refine zr_iconst C dX0_solveThrough_78 ?_
        refine zr_calli C 3 (cX_costThrough l D g dd n pk dn tp bt (c : Int) px py tb ow qo qb i 0 1 hok0 hi (by omega) (by omega)) q149 q151 qs10 q27 q152 (by decide +kernel) ⟨Nat.le_of_ble_eq_true rfl, Nat.le_of_ble_eq_true rfl⟩ ⟨rfl, rfl⟩ rfl rfl rfl rfl (Nat.le_of_ble_eq_true rfl) ⟨Nat.zero_le _, Nat.zero_le _⟩ dX0_solveThrough_79 rfl (fun r0 _ hp0 => ?_)
        have hJ0 := ld_J_0 hk hI (by omega)
        rw [← hp0] at hJ0
        refine zr_i2l C dX0_solveThrough_82 (by unfold bI; omega) ?_
        refine xp_44 C dX0_solveThrough_83 ?_
        refine zr_aload_n C 1 dX0_solveThrough_86 rfl rfl ?_
        refine zr_lconst1 C dX0_solveThrough_87 ?_
        refine xp_48 C dX0_solveThrough_88 ?_
        refine zr_aload_n C 1 dX0_solveThrough_91 rfl rfl ?_
        refine xg_63 C dX0_solveThrough_92 ?_
        refine zr_if_le (tgt := 102) C dX0_solveThrough_95 (by decide) (by unfold bI; omega) (fun h7 => ?_) (fun h7 => ?_)
        · rw [if_neg (by omega)] at hJ0
          refine zr_iconst C dX0_solveThrough_102 ?_
          refine zr_istore_n (lv' := [(2, .int (zi 0)), (0, .ref ((g 0))), (1, .int (zi (i : Int)))]) C dX0_solveThrough_103 rfl (by decide) rfl ?_
          refine zr_iconst C dX0_solveThrough_104 ?_
          refine zr_istore_n (lv' := [(3, .int (zi ((0 : Nat) : Int))), (2, .int (zi 0)), (0, .ref ((g 0))), (1, .int (zi (i : Int)))]) C dX0_solveThrough_105 rfl (by decide) rfl ?_
          refine zr_lv [0, 1, 2, 3] rfl ?_
          exact loop2 (c + 1) 0 0 r0 1 (by omega) hJ0
        · rw [if_pos (by omega)] at hJ0
          refine zr_iconst C dX0_solveThrough_98 ?_
          refine zr_goto (tgt := 103) C dX0_solveThrough_99 (by decide) ?_
          refine zr_istore_n (lv' := [(2, .int (zi 1)), (0, .ref ((g 0))), (1, .int (zi (i : Int)))]) C dX0_solveThrough_103 rfl (by decide) rfl ?_
          refine zr_iconst C dX0_solveThrough_104 ?_
          refine zr_istore_n (lv' := [(3, .int (zi ((0 : Nat) : Int))), (2, .int (zi 1)), (0, .ref ((g 0))), (1, .int (zi (i : Int)))]) C dX0_solveThrough_105 rfl (by decide) rfl ?_
          refine zr_lv [0, 1, 2, 3] rfl ?_
          exact loop2 (c + 1) 0 1 r0 1 (by omega) hJ0
      · have hj1 : j < n := by omega
        have hbj := hxy j hj1
        refine zr_aload_n C 1 dX0_solveThrough_15 rfl rfl ?_
        refine xg_7 C dX0_solveThrough_16 ?_
        refine zr_iload_n C 0 dX0_solveThrough_19 rfl rfl ?_
        refine xl_px C j (by omega) (by omega) dX0_solveThrough_20 ?_
        refine zr_aload_n C 1 dX0_solveThrough_21 rfl rfl ?_
        refine xg_7 C dX0_solveThrough_22 ?_
        refine zr_iload_n C 2 dX0_solveThrough_25 rfl rfl ?_
        refine xl_px C i (by omega) (by omega) dX0_solveThrough_26 ?_
        refine zr_isub C dX0_solveThrough_27 ?_
        refine zr_nmi (fun q hq => ?_)
        refine zr_istore_n (lv' := [(3, .int (zi q)), (2, .int (zi (j : Int))), (0, .ref ((g 0))), (1, .int (zi (i : Int)))]) C dX0_solveThrough_28 rfl (by decide) rfl ?_
        refine zr_aload_n C 2 dX0_solveThrough_29 rfl rfl ?_
        refine xg_13 C dX0_solveThrough_30 ?_
        refine zr_iload_n C 1 dX0_solveThrough_33 rfl rfl ?_
        refine xl_py C j (by omega) (by omega) dX0_solveThrough_34 ?_
        refine zr_aload_n C 2 dX0_solveThrough_35 rfl rfl ?_
        refine xg_13 C dX0_solveThrough_36 ?_
        refine zr_iload_n C 3 dX0_solveThrough_39 rfl rfl ?_
        refine xl_py C i (by omega) (by omega) dX0_solveThrough_40 ?_
        refine zr_isub C dX0_solveThrough_41 ?_
        refine zr_nmi (fun p hp => ?_)
        refine zr_istore (lv' := [(4, .int (zi p)), (3, .int (zi q)), (2, .int (zi (j : Int))), (0, .ref ((g 0))), (1, .int (zi (i : Int)))]) C dX0_solveThrough_42 (by decide) rfl ?_
        refine zr_iload_n C 1 dX0_solveThrough_44 rfl rfl ?_
        refine zr_if_le (tgt := 55) C dX0_solveThrough_45 (by decide) (by unfold bI; omega) (fun h8 => ?_) (fun h8 => ?_)
        · refine zr_iload_n C 1 dX0_solveThrough_55 rfl rfl ?_
          refine zr_if_ge (tgt := 68) C dX0_solveThrough_56 (by decide) (by unfold bI; omega) (fun h9 => ?_) (fun h9 => ?_)
          · refine zr_iinc (v := ((j + 1 : Nat) : Int)) (lv' := [(2, .int (zi ((j + 1 : Nat) : Int))), (4, .int (zi p)), (3, .int (zi q)), (0, .ref ((g 0))), (1, .int (zi (i : Int)))]) C 2 dX0_solveThrough_68 rfl (rfl) (by decide) rfl ?_
            refine zr_goto (tgt := 7) C dX0_solveThrough_71 (by decide) ?_
            refine zr_lv [0, 3, 4] rfl ?_
            exact ih (j + 1) c qo qb (by omega) (by omega) (ld_Ith_same hI (by omega))
          · refine zr_aload_n C 3 dX0_solveThrough_59 rfl rfl ?_
            refine zr_iload C 0 dX0_solveThrough_60 rfl ?_
            refine zr_ineg C dX0_solveThrough_62 ?_
            refine zr_iload_n C 1 dX0_solveThrough_63 rfl rfl ?_
            refine zr_ineg C dX0_solveThrough_64 ?_
            refine zr_callv C 2 (cX_insert l D g dd n c pk dn tp bt px py tb ow qo qb (-p) (-q) (by omega) (fun a ha => ⟨by have := (hI.2.2.1 a ha).1; omega, (hI.2.2.1 a ha).2⟩) (by omega) (by omega)) q133 q135 qs8 q27 q136 (by decide +kernel) ⟨Nat.le_of_ble_eq_true rfl, Nat.le_of_ble_eq_true rfl⟩ ⟨rfl, rfl⟩ rfl rfl rfl rfl (Nat.le_of_ble_eq_true rfl) ⟨Nat.zero_le _, Nat.zero_le _⟩ dX0_solveThrough_65 rfl (fun u hu => ?_)
            refine zr_iinc (v := ((j + 1 : Nat) : Int)) (lv' := [(2, .int (zi ((j + 1 : Nat) : Int))), (4, .int (zi p)), (3, .int (zi q)), (0, .ref ((g 0))), (1, .int (zi (i : Int)))]) C 2 dX0_solveThrough_68 rfl (rfl) (by decide) rfl ?_
            refine zr_goto (tgt := 7) C dX0_solveThrough_71 (by decide) ?_
            refine zr_lv [0, 3, 4] rfl ?_
            exact ih (j + 1) (c + 1) u.1 u.2 (by omega) (by omega) (ld_Ith_s hI (by omega) (by unfold ld_kP; rw [if_neg (by omega)]; omega) (by unfold ld_kQ; rw [if_neg (by omega)]; omega) (by omega) hu)
        · refine zr_aload_n C 3 dX0_solveThrough_48 rfl rfl ?_
          refine zr_iload C 0 dX0_solveThrough_49 rfl ?_
          refine zr_iload_n C 1 dX0_solveThrough_51 rfl rfl ?_
          refine zr_callv C 2 (cX_insert l D g dd n c pk dn tp bt px py tb ow qo qb p q (by omega) (fun a ha => ⟨by have := (hI.2.2.1 a ha).1; omega, (hI.2.2.1 a ha).2⟩) (by omega) (by omega)) q133 q135 qs8 q27 q136 (by decide +kernel) ⟨Nat.le_of_ble_eq_true rfl, Nat.le_of_ble_eq_true rfl⟩ ⟨rfl, rfl⟩ rfl rfl rfl rfl (Nat.le_of_ble_eq_true rfl) ⟨Nat.zero_le _, Nat.zero_le _⟩ dX0_solveThrough_52 rfl (fun u hu => ?_)
          refine zr_iload_n C 1 dX0_solveThrough_55 rfl rfl ?_
          refine zr_if_ge (tgt := 68) C dX0_solveThrough_56 (by decide) (by unfold bI; omega) (fun h9 => ?_) (fun h9 => ?_)
          · refine zr_iinc (v := ((j + 1 : Nat) : Int)) (lv' := [(2, .int (zi ((j + 1 : Nat) : Int))), (4, .int (zi p)), (3, .int (zi q)), (0, .ref ((g 0))), (1, .int (zi (i : Int)))]) C 2 dX0_solveThrough_68 rfl (rfl) (by decide) rfl ?_
            refine zr_goto (tgt := 7) C dX0_solveThrough_71 (by decide) ?_
            refine zr_lv [0, 3, 4] rfl ?_
            exact ih (j + 1) (c + 1) u.1 u.2 (by omega) (by omega) (ld_Ith_s hI (by omega) (by unfold ld_kP; rw [if_pos (by omega)]; omega) (by unfold ld_kQ; rw [if_pos (by omega)]; omega) (by omega) hu)
          · exact absurd h9 (by omega)
  refine zr_aload_n C 0 dX0_solveThrough_0 rfl rfl ?_
  refine zr_iconst C dX0_solveThrough_1 ?_
  refine zr_eqi (y := ((0 : Nat) : Int)) (rfl) ?_
  refine xp_63 C dX0_solveThrough_2 ?_
  refine zr_iconst C dX0_solveThrough_5 ?_
  refine zr_istore_n (lv' := [(2, .int (zi ((0 : Nat) : Int))), (0, .ref ((g 0))), (1, .int (zi (i : Int)))]) C dX0_solveThrough_6 rfl (by decide) rfl ?_
  exact loop1 (n + 1) 0 0 so sb (by omega) (by omega) (ld_Ith_0 _ _ _ _ _)
set_option maxHeartbeats 4000000 in
set_option maxRecDepth 100000 in
theorem cX_throughTop (l : Launch) (D : va_G) (g : Nat → Nat) (dd : Nat → ClassId) (n : Nat) (pk dn tp bt sc : Int) (px py tb ow so sb : Nat → Int) (i : Int) (hok : ld_ok n px py) (hk : ld_k pk) (hi : bI i) : ZMi l yX0_throughTop cX0_throughTop 2 (some .int) { frames := 3, cells := 0, slots := 0, locals := 72 } D (tysX dd) (wX g dd (n : Int) pk dn tp bt sc px py tb ow so sb) [.ref (g 0), .int (zi i)] (S := Int × Int × Int × (Nat → Int) × (Nat → Int)) (fun r _ => (¬ (0 ≤ i ∧ i < (n : Int)) ∧ r = -1) ∨ ((0 ≤ i ∧ i < (n : Int)) ∧ ∃ t b, ld_min (ld_cand n px py pk i.toNat) t b ∧ r = ld_rt t b)) (fun u => wX g dd (n : Int) pk dn u.1 u.2.1 u.2.2.1 px py tb ow u.2.2.2.1 u.2.2.2.2) := by
  refine zr_meti (lv0 := [(0, .ref ((g 0))), (1, .int (zi i))]) (by decide) (Nat.le_of_ble_eq_true rfl) rfl ?_
  intro p e s m args below meth c_ A Q C hret
  have C : ZC p s m args c_ cX0_throughTop 2 RX0 D (tysX dd) A := C
  refine zr_aload_n C 0 dX0_throughTop_0 rfl rfl ?_
  refine zr_iload_n C 1 dX0_throughTop_1 rfl rfl ?_
  refine zr_calli C 1 (cX_isPoint l D g dd n pk dn tp bt sc px py tb ow so sb i hok.1 hi) q85 q87 qs0 q27 q88 (by decide +kernel) ⟨Nat.le_of_ble_eq_true rfl, Nat.le_of_ble_eq_true rfl⟩ ⟨rfl, rfl⟩ rfl rfl rfl rfl (Nat.le_of_ble_eq_true rfl) ⟨Nat.zero_le _, Nat.zero_le _⟩ dX0_throughTop_2 rfl (fun r1 _ hp1 => ?_)
  unfold bI at hi
  refine zr_if_ne (tgt := 10) C dX0_throughTop_5 (by decide) (by unfold bI; omega) (fun h1 => ?_) (fun h1 => ?_)
  · obtain ⟨i0, hi0⟩ : ∃ i0 : Nat, i = (i0 : Int) := ⟨i.toNat, by omega⟩
    subst hi0
    refine zr_aload_n C 0 dX0_throughTop_10 rfl rfl ?_
    refine zr_iload_n C 1 dX0_throughTop_11 rfl rfl ?_
    refine zr_callv C 1 (cX_solveThrough l D g dd n pk dn tp bt sc px py tb ow so sb i0 hok hk (by omega)) q157 q159 qs11 q27 q160 (by decide +kernel) ⟨Nat.le_of_ble_eq_true rfl, Nat.le_of_ble_eq_true rfl⟩ ⟨rfl, rfl⟩ rfl rfl rfl rfl (Nat.le_of_ble_eq_true rfl) ⟨Nat.zero_le _, Nat.zero_le _⟩ dX0_throughTop_12 rfl (fun u1 hu1 => ?_)
    refine zr_aload_n C 0 dX0_throughTop_15 rfl rfl ?_
    refine xg_44 C dX0_throughTop_16 ?_
    refine zr_l2i C dX0_throughTop_19 ?_
    obtain ⟨t, b, q1, q2, q3⟩ := hu1
    exact hret u1 dX0_throughTop_20 rfl (Or.inr ⟨by omega, t, b, by rw [Int.toNat_natCast]; exact q1, q2⟩)
  · refine zr_iconst C dX0_throughTop_8 ?_
    exact hret (tp, bt, sc, so, sb) dX0_throughTop_9 rfl (Or.inl ⟨by omega, rfl⟩)
set_option maxHeartbeats 4000000 in
set_option maxRecDepth 100000 in
theorem cX_throughBottom (l : Launch) (D : va_G) (g : Nat → Nat) (dd : Nat → ClassId) (n : Nat) (pk dn tp bt sc : Int) (px py tb ow so sb : Nat → Int) (i : Int) (hok : ld_ok n px py) (hk : ld_k pk) (hi : bI i) : ZMi l yX0_throughBottom cX0_throughBottom 2 (some .int) { frames := 3, cells := 0, slots := 0, locals := 72 } D (tysX dd) (wX g dd (n : Int) pk dn tp bt sc px py tb ow so sb) [.ref (g 0), .int (zi i)] (S := Int × Int × Int × (Nat → Int) × (Nat → Int)) (fun r _ => (¬ (0 ≤ i ∧ i < (n : Int)) ∧ r = -1) ∨ ((0 ≤ i ∧ i < (n : Int)) ∧ ∃ t b, ld_min (ld_cand n px py pk i.toNat) t b ∧ r = ld_rb t b)) (fun u => wX g dd (n : Int) pk dn u.1 u.2.1 u.2.2.1 px py tb ow u.2.2.2.1 u.2.2.2.2) := by
  refine zr_meti (lv0 := [(0, .ref ((g 0))), (1, .int (zi i))]) (by decide) (Nat.le_of_ble_eq_true rfl) rfl ?_
  intro p e s m args below meth c_ A Q C hret
  have C : ZC p s m args c_ cX0_throughBottom 2 RX0 D (tysX dd) A := C
  refine zr_aload_n C 0 dX0_throughBottom_0 rfl rfl ?_
  refine zr_iload_n C 1 dX0_throughBottom_1 rfl rfl ?_
  refine zr_calli C 1 (cX_isPoint l D g dd n pk dn tp bt sc px py tb ow so sb i hok.1 hi) q85 q87 qs0 q27 q88 (by decide +kernel) ⟨Nat.le_of_ble_eq_true rfl, Nat.le_of_ble_eq_true rfl⟩ ⟨rfl, rfl⟩ rfl rfl rfl rfl (Nat.le_of_ble_eq_true rfl) ⟨Nat.zero_le _, Nat.zero_le _⟩ dX0_throughBottom_2 rfl (fun r1 _ hp1 => ?_)
  unfold bI at hi
  refine zr_if_ne (tgt := 10) C dX0_throughBottom_5 (by decide) (by unfold bI; omega) (fun h1 => ?_) (fun h1 => ?_)
  · obtain ⟨i0, hi0⟩ : ∃ i0 : Nat, i = (i0 : Int) := ⟨i.toNat, by omega⟩
    subst hi0
    refine zr_aload_n C 0 dX0_throughBottom_10 rfl rfl ?_
    refine zr_iload_n C 1 dX0_throughBottom_11 rfl rfl ?_
    refine zr_callv C 1 (cX_solveThrough l D g dd n pk dn tp bt sc px py tb ow so sb i0 hok hk (by omega)) q157 q159 qs11 q27 q160 (by decide +kernel) ⟨Nat.le_of_ble_eq_true rfl, Nat.le_of_ble_eq_true rfl⟩ ⟨rfl, rfl⟩ rfl rfl rfl rfl (Nat.le_of_ble_eq_true rfl) ⟨Nat.zero_le _, Nat.zero_le _⟩ dX0_throughBottom_12 rfl (fun u1 hu1 => ?_)
    refine zr_aload_n C 0 dX0_throughBottom_15 rfl rfl ?_
    refine xg_48 C dX0_throughBottom_16 ?_
    refine zr_l2i C dX0_throughBottom_19 ?_
    obtain ⟨t, b, q1, q2, q3⟩ := hu1
    exact hret u1 dX0_throughBottom_20 rfl (Or.inr ⟨by omega, t, b, by rw [Int.toNat_natCast]; exact q1, q3⟩)
  · refine zr_iconst C dX0_throughBottom_8 ?_
    exact hret (tp, bt, sc, so, sb) dX0_throughBottom_9 rfl (Or.inl ⟨by omega, rfl⟩)
end
section
/-! PLAIN LAW 9: bounds of the table, its beginning, the choice of the row, the step as the program makes it, the end -/
theorem ld_h_bd {n : Nat} {X Y : Nat → Int} (hok : ld_ok n X Y) {v : Nat} (hv : v < n + 2) : (-20 ≤ ld_hx X v ∧ ld_hx X v ≤ 20) ∧ (-1 ≤ ld_hy v ∧ ld_hy v ≤ 1) ∧ (-20 ≤ ld_hw Y v ∧ ld_hw Y v ≤ 20) := by
  unfold ld_hx ld_hy ld_hw
  by_cases e0 : v = 0
  · subst e0; simp
  · by_cases e1 : v = 1
    · subst e1; simp
    · have := hok.2 (v - 2) (by omega)
      rw [if_neg e0, if_neg e1, if_neg e0, if_neg e1, if_neg (by omega)]
      omega
theorem ld_hb_bd {n : Nat} {X Y : Nat → Int} (hok : ld_ok n X Y) {u v : Nat} (hu : u < n + 2) (hv : v < n + 2) : -40 ≤ ld_hb X u v ∧ ld_hb X u v ≤ 40 := by
  obtain ⟨a1, a2, -⟩ := ld_h_bd hok hu
  obtain ⟨b1, b2, -⟩ := ld_h_bd hok hv
  have c1 := ld_prod 20 1 a1 b2
  have c2 := ld_prod 1 20 a2 b1
  unfold ld_hb
  omega
theorem ld_pm_bd {s x B : Int} (hs : s = 1 ∨ s = -1) (h : -B ≤ x ∧ x ≤ B) : -B ≤ s * x ∧ s * x ≤ B := by
  rcases hs with rfl | rfl <;> omega
theorem ld_pm_mul {s t : Int} (hs : s = 1 ∨ s = -1) (ht : t = 1 ∨ t = -1) : s * t = 1 ∨ s * t = -1 := by
  rcases hs with rfl | rfl <;> rcases ht with rfl | rfl <;> simp
theorem ld_M_bd {n : Nat} {X Y : Nat → Int} (hok : ld_ok n X Y) {a b v : Nat} (w : Nat) (ha : a < n + 2) (hb : b < n + 2) (hv : v < n + 2) : -40 ≤ ld_M X a b v w ∧ ld_M X a b v w ≤ 40 := by
  have h1 := ld_hb_bd hok ha hb
  have h2 := ld_hb_bd hok hv hb
  have h3 := ld_hb_bd hok hv ha
  unfold ld_M
  split
  · exact h1
  · split
    · omega
    · split
      · exact h3
      · omega
theorem ld_N_bd {n : Nat} {X Y : Nat → Int} (hok : ld_ok n X Y) {a b v : Nat} (ha : a < n + 2) (hb : b < n + 2) (hv : v < n + 2) : -2400 ≤ ld_N X Y a b v ∧ ld_N X Y a b v ≤ 2400 := by
  have h1 := ld_prod 40 20 (ld_hb_bd hok ha hb) (ld_h_bd hok hv).2.2
  have h2 := ld_prod 40 20 (ld_hb_bd hok hv hb) (ld_h_bd hok ha).2.2
  have h3 := ld_prod 40 20 (ld_hb_bd hok hv ha) (ld_h_bd hok hb).2.2
  unfold ld_N
  omega
theorem ld_R_bd {n : Nat} {X Y : Nat → Int} (hok : ld_ok n X Y) {o : Nat → Nat} {a b : Nat} (hV : ld_V n X Y o a b) {r : Nat} (hr : r < n) (c : Nat) : -2400 ≤ ld_R X Y o a b r c ∧ ld_R X Y o a b r c ≤ 2400 := by
  obtain ⟨v1, v2, v3, v4, v5, v6, v7, v8, v9⟩ := hV
  have h3 := (v3 r hr).2.2
  have hs := ld_pm_mul (ld_sg_pm (o r)) (ld_tau_pm X a b)
  unfold ld_R
  split
  · have h := ld_M_bd hok (ld_nu c) v5 v6 h3
    have := ld_pm_bd (ld_sg_pm c) (ld_pm_bd hs h)
    omega
  · exact ld_pm_bd hs (ld_N_bd hok v5 v6 h3)
theorem ld_d_bd {n : Nat} {X Y : Nat → Int} (hok : ld_ok n X Y) {o : Nat → Nat} {a b : Nat} (hV : ld_V n X Y o a b) : 0 < ld_d X a b ∧ ld_d X a b ≤ 40 := by
  obtain ⟨v1, v2, v3, v4, v5, v6, v7, v8, v9⟩ := hV
  refine ⟨ld_d_pos v8, ?_⟩
  exact (ld_pm_bd (ld_tau_pm X a b) (ld_hb_bd hok v5 v6)).2
theorem ld_R8_bd {n : Nat} {X Y : Nat → Int} {k : Int} (hk : ld_k k) (hok : ld_ok n X Y) {o : Nat → Nat} {a b : Nat} (hV : ld_V n X Y o a b) (c : Nat) : -60000 ≤ ld_R8 n X Y k o a b c ∧ ld_R8 n X Y k o a b c ≤ 60000 := by
  have hd := ld_d_bd hok hV
  have h1 := ld_cc_bd hk n c
  have h2 := ld_prod 40 3 (a := ld_d X a b) (b := ld_cc k n c) (by omega) (by omega)
  have h3 := ld_sm_bd (f := fun s => ld_cc k n (o s) * ld_R X Y o a b s c) (n := n) (B := 7200) (fun s hs => by
    have h4 := ld_cc_bd hk n (o s)
    have h5 := ld_R_bd hok hV hs c
    have := ld_prod 3 2400 (a := ld_cc k n (o s)) (b := ld_R X Y o a b s c) (by omega) h5
    omega)
  have hn := hok.1
  have h6 : (n : Int) * 7200 ≤ 57600 := by omega
  unfold ld_R8
  omega
/-! the beginning -/
def ld_o0 (Y : Nat → Int) (r : Nat) : Nat := if Y r < 0 then 12 + r else 4 + r
def ld_s0 (Y : Nat → Int) (r : Nat) : Int := if Y r < 0 then -1 else 1
def ld_I (X Y : Nat → Int) (r c : Nat) : Int := if c = 0 then ld_s0 Y r * X r else if c = 1 then -ld_s0 Y r * X r else if c = 2 then ld_s0 Y r else if c = 3 then -ld_s0 Y r else if c = 4 + r then ld_s0 Y r else if c = 12 + r then -ld_s0 Y r else if c = 20 then ld_s0 Y r * Y r else 0
theorem ld_o0_f {Y : Nat → Int} {r : Nat} (hr : r < 8) : ld_nu (ld_o0 Y r) = r + 2 ∧ ld_sg (ld_o0 Y r) = ld_s0 Y r ∧ ld_o0 Y r < 20 := by
  unfold ld_o0 ld_s0
  split
  · exact ⟨ld_nu_12.1, ld_nu_12.2, by omega⟩
  · exact ⟨(ld_nu_4 hr).1, (ld_nu_4 hr).2, by omega⟩
theorem ld_hb01 (X : Nat → Int) : ld_hb X 0 1 = 1 := by unfold ld_hb ld_hx ld_hy; simp
theorem ld_tau01 (X : Nat → Int) : ld_tau X 0 1 = 1 := by unfold ld_tau; rw [ld_hb01, if_pos (by decide)]
theorem ld_M01 (X : Nat → Int) (r w : Nat) : ld_M X 0 1 (r + 2) w = if w = r + 2 then 1 else if w = 0 then X r else if w = 1 then 1 else 0 := by
  have h1 : ld_hb X (r + 2) 1 = -X r := by unfold ld_hb ld_hx ld_hy; simp
  have h2 : ld_hb X (r + 2) 0 = 1 := by unfold ld_hb ld_hx ld_hy; simp
  unfold ld_M
  rw [ld_hb01, h1, h2, Int.neg_neg]
theorem ld_I_R {X Y : Nat → Int} {r c : Nat} (hr : r < 8) (hc : c ≤ 20) : ld_R X Y (ld_o0 Y) 0 1 r c = ld_I X Y r c := by
  obtain ⟨e1, e2, e3⟩ := ld_o0_f (Y := Y) hr
  by_cases h20 : c = 20
  · subst h20
    rw [ld_R_20, e1, e2, ld_tau01]
    unfold ld_I
    rw [if_neg (by omega), if_neg (by omega), if_neg (by omega), if_neg (by omega), if_neg (by omega), if_neg (by omega), if_pos rfl]
    unfold ld_N
    rw [ld_hb01]
    unfold ld_hw
    rw [if_neg (by omega), if_pos (by omega), if_pos (by omega), show r + 2 - 2 = r by omega]
    grind
  · rw [ld_R_lt (by omega), e1, e2, ld_tau01, ld_M01]
    unfold ld_I
    by_cases c0 : c = 0
    · subst c0
      rw [show ld_nu 0 = 0 from rfl, show ld_sg 0 = 1 from rfl, if_neg (by omega), if_pos rfl, if_pos rfl]; grind
    · by_cases c1 : c = 1
      · subst c1
        rw [show ld_nu 1 = 0 from rfl, show ld_sg 1 = -1 from rfl, if_neg (by omega), if_pos rfl, if_neg (by omega), if_pos rfl]; grind
      · by_cases c2 : c = 2
        · subst c2
          rw [show ld_nu 2 = 1 from rfl, show ld_sg 2 = 1 from rfl, if_neg (by omega), if_neg (by omega), if_pos rfl, if_neg (by omega), if_neg (by omega), if_pos rfl]; omega
        · by_cases c3 : c = 3
          · subst c3
            rw [show ld_nu 3 = 1 from rfl, show ld_sg 3 = -1 from rfl, if_neg (by omega), if_neg (by omega), if_pos rfl, if_neg (by omega), if_neg (by omega), if_neg (by omega), if_pos rfl]; omega
          · rw [if_neg c0, if_neg c1, if_neg c2, if_neg c3]
            by_cases c12 : c < 12
            · obtain ⟨i, rfl⟩ : ∃ i, c = 4 + i := ⟨c - 4, by omega⟩
              rw [(ld_nu_4 (i := i) (by omega)).1, (ld_nu_4 (i := i) (by omega)).2]
              by_cases e : i = r
              · subst e
                rw [if_pos rfl, if_pos rfl]; omega
              · rw [if_neg (by omega), if_neg (by omega), if_neg (by omega), if_neg (by omega), if_neg (by omega), if_neg (by omega)]; omega
            · obtain ⟨i, rfl⟩ : ∃ i, c = 12 + i := ⟨c - 12, by omega⟩
              rw [ld_nu_12.1, ld_nu_12.2]
              by_cases e : i = r
              · subst e
                rw [if_pos rfl, if_neg (by omega), if_pos rfl]; omega
              · rw [if_neg (by omega), if_neg (by omega), if_neg (by omega), if_neg (by omega), if_neg (by omega), if_neg h20]; omega
theorem ld_V_0 {n : Nat} {X Y : Nat → Int} (hn : n ≤ 8) : ld_V n X Y (ld_o0 Y) 0 1 := by
  refine ⟨fun r hr => (ld_o0_f (by omega)).2.2, fun r s hr hs e => ?_, fun r hr => ?_, by omega, by omega, by omega, fun v hv => ?_, by rw [ld_hb01]; decide, fun r hr => ?_⟩
  · rw [(ld_o0_f (Y := Y) (r := r) (by omega)).1, (ld_o0_f (Y := Y) (r := s) (by omega)).1] at e
    omega
  · rw [(ld_o0_f (Y := Y) (r := r) (by omega)).1]
    omega
  · by_cases e0 : v = 0
    · exact Or.inl e0
    · by_cases e1 : v = 1
      · exact Or.inr (Or.inl e1)
      · exact Or.inr (Or.inr ⟨v - 2, by omega, by rw [(ld_o0_f (Y := Y) (r := v - 2) (by omega)).1]; omega⟩)
  · rw [ld_I_R (by omega) (by omega)]
    unfold ld_I ld_s0
    rw [if_neg (by omega), if_neg (by omega), if_neg (by omega), if_neg (by omega), if_neg (by omega), if_neg (by omega), if_pos rfl]
    split <;> omega
/-! the row that limits -/
def ld_lx (V E o : Nat → Int) (b r : Nat) : Prop := V b * E r < V r * E b ∨ (V b * E r = V r * E b ∧ o b ≤ o r)
theorem ld_lx_keep {V E o : Nat → Int} {b r : Nat} (h1 : V b * E r ≤ V r * E b) (h2 : V r * E b = V b * E r → o b ≤ o r) : ld_lx V E o b r := by
  by_cases e : V b * E r = V r * E b
  · exact Or.inr ⟨e, h2 e.symm⟩
  · exact Or.inl (by omega)
theorem ld_lx_new {V E o : Nat → Int} {b r z : Nat} (hb : 0 < E b) (hr : 0 < E r) (hz : 0 < E z) (h : V r * E b < V b * E r ∨ (V r * E b = V b * E r ∧ o r < o b)) (hbz : ld_lx V E o b z) : ld_lx V E o r z := by
  rcases h with h | ⟨h, ho⟩
  · rcases hbz with h2 | ⟨h2, h3⟩
    · exact Or.inl (ld_fracS hr hb hz h (Int.le_of_lt h2))
    · exact Or.inl (ld_fracS hr hb hz h (Int.le_of_eq h2))
  · rcases hbz with h2 | ⟨h2, h3⟩
    · left
      have e1 := ld_monoS h2 hr
      refine ld_cancS (Int.le_of_lt hb) ?_
      have e3 : V r * E z * E b = V r * E b * E z := by grind
      have e4 : V b * E z * E r = V b * E r * E z := by grind
      have e5 : V z * E b * E r = V z * E r * E b := by grind
      rw [e3, h]
      omega
    · right
      refine ⟨?_, by omega⟩
      have a1 := ld_frac hr hb hz (Int.le_of_eq h) (Int.le_of_eq h2)
      have a2 := ld_frac hz hb hr (Int.le_of_eq h2.symm) (Int.le_of_eq h.symm)
      omega
/-! the table in the program's array -/
def ld_Rep (n : Nat) (X Y : Nat → Int) (k : Int) (T OW : Nat → Int) (dn : Int) (q : (Nat → Nat) × Nat × Nat) : Prop :=
  ld_V n X Y q.1 q.2.1 q.2.2 ∧ (∀ r c, r < n → c ≤ 20 → T (21 * r + c) = ld_R X Y q.1 q.2.1 q.2.2 r c) ∧ (∀ c, c ≤ 20 → T (168 + c) = ld_R8 n X Y k q.1 q.2.1 q.2.2 c) ∧ (∀ r, r < n → OW r = (q.1 r : Int)) ∧ dn = ld_d X q.2.1 q.2.2
/-- what exchange does to the table -/
def ld_exch (n : Nat) (T : Nat → Int) (dn : Int) (row col : Nat) (T' : Nat → Int) : Prop :=
  ∀ r c, (r < n ∨ r = 8) → c ≤ 20 → T' (21 * r + c) = if r = row then T (21 * r + c) else (T (21 * r + c) * T (21 * row + col) - T (21 * r + col) * T (21 * row + c)).tdiv dn
/-- what limiting says -/
def ld_lim (n : Nat) (T OW : Nat → Int) (col row : Nat) : Prop := row < n ∧ 0 < T (21 * row + col) ∧ ∀ r, r < n → 0 < T (21 * r + col) → ld_lx (fun r => T (21 * r + 20)) (fun r => T (21 * r + col)) OW row r
def ld_cheap (T : Nat → Int) (x : Int) : Prop := (∃ c : Nat, c < 20 ∧ x = (c : Int) ∧ T (168 + c) < 0 ∧ ∀ c', c' < c → 0 ≤ T (168 + c')) ∨ (x = -1 ∧ ∀ c, c < 20 → 0 ≤ T (168 + c))
theorem ld_Rep_St {n : Nat} {X Y : Nat → Int} {k : Int} {T OW : Nat → Int} {dn : Int} {q : (Nat → Nat) × Nat × Nat} (h : ld_Rep n X Y k T OW dn q) {col row : Nat} (hc : col < 20) (hneg : T (168 + col) < 0) (hmin : ∀ c', c' < col → 0 ≤ T (168 + c')) (hl : ld_lim n T OW col row) : ld_St n X Y k q.1 q.2.1 q.2.2 row col := by
  obtain ⟨hV, h1, h2, h3, h4⟩ := h
  obtain ⟨l1, l2, l3⟩ := hl
  refine ⟨l1, hc, by rw [← h2 col (by omega)]; exact hneg, fun c hcc => by rw [← h2 c (by omega)]; exact hmin c hcc, by rw [← h1 row col l1 (by omega)]; exact l2, fun r hr hp => ?_⟩
  have h5 := l3 r hr (by rw [h1 r col hr (by omega)]; exact hp)
  unfold ld_lx at h5
  dsimp only at h5
  rw [h1 r col hr (by omega), h1 row col l1 (by omega), h1 r 20 hr (by omega), h1 row 20 l1 (by omega), h3 r hr, h3 row l1] at h5
  rcases h5 with h5 | ⟨h5, h6⟩
  · exact Or.inl h5
  · exact Or.inr ⟨h5, by omega⟩
theorem ld_Rep_next {n : Nat} {X Y : Nat → Int} {k : Int} (hk : ld_k k) (hn : n ≤ 8) {T OW T' OW' : Nat → Int} {dn dn' : Int} {q : (Nat → Nat) × Nat × Nat} (h : ld_Rep n X Y k T OW dn q) {col row : Nat} (hS : ld_St n X Y k q.1 q.2.1 q.2.2 row col) (hT : ld_exch n T dn row col T') (hO : ∀ r, r < n → OW' r = if r = row then (col : Int) else OW r) (hd : dn' = T (21 * row + col)) :
    ld_Rep n X Y k T' OW' dn' (ld_next q row col) := by
  obtain ⟨hV, h1, h2, h3, h4⟩ := h
  have hV' := ld_next_V hk hn hV hS
  obtain ⟨s1, s2, s3, s4, s5, s6⟩ := hS
  have hnet := ld_R8_net hk hn hV s2 s3
  obtain ⟨p1, p2, p3, p4⟩ := ld_pivot hV s1 s2 hnet s5
  have hd0 := ld_d_pos hV.2.2.2.2.2.2.2.1
  refine ⟨hV', fun r c hr hc => ?_, fun c hc => ?_, fun r hr => ?_, ?_⟩
  · rw [hT r c (Or.inl hr) hc]
    by_cases e : r = row
    · subst e
      rw [if_pos rfl, h1 r c hr hc]
      exact (p4 c hc).symm
    · rw [if_neg e, h1 r c hr hc, h1 row col s1 (by omega), h1 r col hr (by omega), h1 row c s1 hc, h4]
      have := p3 r c hr e hc
      rw [Int.mul_comm (ld_R X Y q.1 q.2.1 q.2.2 r c), ← this, Int.mul_tdiv_cancel_left _ (by omega)]
      rfl
  · rw [show 168 + c = 21 * 8 + c by omega, hT 8 c (Or.inr rfl) hc, if_neg (by omega)]
    rw [show 21 * 8 + c = 168 + c by omega, show 21 * 8 + col = 168 + col by omega, h2 c hc, h2 col (by omega), h1 row col s1 (by omega), h1 row c s1 hc, h4]
    have := ld_pivot8 (k := k) hV s1 s2 hnet s5 c hc
    rw [Int.mul_comm (ld_R8 n X Y k q.1 q.2.1 q.2.2 c), ← this, Int.mul_tdiv_cancel_left _ (by omega)]
    rfl
  · rw [hO r hr]
    show _ = ((ld_upn q.1 row col r : Nat) : Int)
    unfold ld_upn
    by_cases e : r = row
    · rw [if_pos e, if_pos e]
    · rw [if_neg e, if_neg e]; exact h3 r hr
  · rw [hd, h1 row col s1 (by omega)]
    exact p2.symm
theorem ld_Rep_bd {n : Nat} {X Y : Nat → Int} {k : Int} (hk : ld_k k) (hok : ld_ok n X Y) {T OW : Nat → Int} {dn : Int} {q : (Nat → Nat) × Nat × Nat} (h : ld_Rep n X Y k T OW dn q) : (∀ r c, (r < n ∨ r = 8) → c ≤ 20 → -100000 ≤ T (21 * r + c) ∧ T (21 * r + c) ≤ 100000) ∧ (0 < dn ∧ dn ≤ 40) ∧ ∀ r, r < n → 0 ≤ OW r ∧ OW r ≤ 19 := by
  obtain ⟨hV, h1, h2, h3, h4⟩ := h
  refine ⟨fun r c hr hc => ?_, by rw [h4]; exact ld_d_bd hok hV, fun r hr => ?_⟩
  · rcases hr with hr | rfl
    · rw [h1 r c hr hc]
      have := ld_R_bd hok hV hr c
      omega
    · rw [show 21 * 8 + c = 168 + c by omega, h2 c hc]
      have := ld_R8_bd hk hok hV c
      omega
  · rw [h3 r hr]
    have := hV.1 r hr
    omega
/-- the last table gives the least cost -/
theorem ld_Rep_end {n : Nat} {X Y : Nat → Int} {k : Int} (hk : ld_k k) (hok : ld_ok n X Y) {T OW : Nat → Int} {dn : Int} {q : (Nat → Nat) × Nat × Nat} (h : ld_Rep n X Y k T OW dn q) (hopt : ∀ c, c < 20 → 0 ≤ T (168 + c)) : ld_min (ld_all n X Y k) (-T 188) dn ∧ (0 ≤ -T 188 ∧ -T 188 ≤ 100000) ∧ (0 < dn ∧ dn ≤ 40) := by
  have hbd := ld_Rep_bd hk hok h
  obtain ⟨hV, h1, h2, h3, h4⟩ := h
  have hd := ld_d_bd hok hV
  have e : T 188 = ld_R8 n X Y k q.1 q.2.1 q.2.2 20 := h2 20 (by omega)
  have hopt2 : ∀ c, c < 20 → 0 ≤ ld_R8 n X Y k q.1 q.2.1 q.2.2 c := fun c hc => by rw [← h2 c (by omega)]; exact hopt c hc
  have h8 := ld_R8_bd hk hok hV 20
  have ht : 0 ≤ -ld_R8 n X Y k q.1 q.2.1 q.2.2 20 := by
    unfold ld_R8
    have c0 : ld_cc k n 20 = 0 := by have := hok.1; unfold ld_cc; rw [if_neg (by omega), if_neg (by omega)]
    have := ld_sm_nonneg (f := fun s => ld_cc k n (q.1 s) * ld_R X Y q.1 q.2.1 q.2.2 s 20) (n := n) (fun s hs => Int.mul_nonneg (ld_cc_nonneg hk n _) (hV.2.2.2.2.2.2.2.2 s hs))
    rw [c0]
    omega
  rw [e, h4]
  refine ⟨ld_best hk hd.1 ht (fun P Q Hh _ => ld_lower hok.1 hV hopt2 P Q Hh) (ld_attain hok.1 hV), by omega, hd⟩
end
section
/-! PLAIN LAW 10: filling the table -/
theorem ld_fill_row {n i : Nat} {X Y T : Nat → Int} (hi : i < 8) (h : ∀ r c, r < 8 → c ≤ 20 → T (21 * r + c) = if r < i then ld_I X Y r c else 0) (r c : Nat) (hr : r < 8) (hc : c ≤ 20) :
    ld_up (ld_up (ld_up (ld_up (ld_up (ld_up (ld_up T (21 * i) (ld_s0 Y i * X i)) (21 * i + 1) (-ld_s0 Y i * X i)) (21 * i + 2) (ld_s0 Y i)) (21 * i + 3) (-ld_s0 Y i)) (21 * i + 4 + i) (ld_s0 Y i)) (21 * i + 12 + i) (-ld_s0 Y i)) (21 * i + 20) (ld_s0 Y i * Y i) (21 * r + c) = if r < i + 1 then ld_I X Y r c else 0 := by
  unfold ld_up
  by_cases e : r = i
  · subst e
    rw [if_pos (show r < r + 1 by omega)]
    unfold ld_I
    by_cases c20 : c = 20
    · rw [if_pos (by omega), if_neg (by omega), if_neg (by omega), if_neg (by omega), if_neg (by omega), if_neg (by omega), if_neg (by omega), if_pos c20]
    rw [if_neg (show ¬ 21 * r + c = 21 * r + 20 by omega)]
    by_cases c12 : c = 12 + r
    · rw [if_pos (by omega), if_neg (by omega), if_neg (by omega), if_neg (by omega), if_neg (by omega), if_neg (by omega), if_pos c12]
    rw [if_neg (show ¬ 21 * r + c = 21 * r + 12 + r by omega)]
    by_cases c4 : c = 4 + r
    · rw [if_pos (by omega), if_neg (by omega), if_neg (by omega), if_neg (by omega), if_neg (by omega), if_pos c4]
    rw [if_neg (show ¬ 21 * r + c = 21 * r + 4 + r by omega)]
    by_cases c3 : c = 3
    · rw [if_pos (by omega), if_neg (by omega), if_neg (by omega), if_neg (by omega), if_pos c3]
    rw [if_neg (show ¬ 21 * r + c = 21 * r + 3 by omega)]
    by_cases c2 : c = 2
    · rw [if_pos (by omega), if_neg (by omega), if_neg (by omega), if_pos c2]
    rw [if_neg (show ¬ 21 * r + c = 21 * r + 2 by omega)]
    by_cases c1 : c = 1
    · rw [if_pos (by omega), if_neg (by omega), if_pos c1]
    rw [if_neg (show ¬ 21 * r + c = 21 * r + 1 by omega)]
    by_cases c0 : c = 0
    · rw [if_pos (by omega), if_pos c0]
    rw [if_neg (show ¬ 21 * r + c = 21 * r by omega), h r c hr hc, if_neg (by omega), if_neg c0, if_neg c1, if_neg c2, if_neg c3, if_neg c4, if_neg c12, if_neg c20]
  · rw [if_neg (show ¬ 21 * r + c = 21 * i + 20 by omega), if_neg (show ¬ 21 * r + c = 21 * i + 12 + i by omega), if_neg (show ¬ 21 * r + c = 21 * i + 4 + i by omega), if_neg (show ¬ 21 * r + c = 21 * i + 3 by omega), if_neg (show ¬ 21 * r + c = 21 * i + 2 by omega), if_neg (show ¬ 21 * r + c = 21 * i + 1 by omega), if_neg (show ¬ 21 * r + c = 21 * i by omega), h r c hr hc]
    by_cases e2 : r < i
    · rw [if_pos e2, if_pos (by omega)]
    · rw [if_neg e2, if_neg (by omega)]
theorem ld_fill_row8 {i : Nat} {X Y T : Nat → Int} (hi : i < 8) (c : Nat) :
    ld_up (ld_up (ld_up (ld_up (ld_up (ld_up (ld_up T (21 * i) (ld_s0 Y i * X i)) (21 * i + 1) (-ld_s0 Y i * X i)) (21 * i + 2) (ld_s0 Y i)) (21 * i + 3) (-ld_s0 Y i)) (21 * i + 4 + i) (ld_s0 Y i)) (21 * i + 12 + i) (-ld_s0 Y i)) (21 * i + 20) (ld_s0 Y i * Y i) (168 + c) = T (168 + c) := by
  unfold ld_up
  rw [if_neg (by omega), if_neg (by omega), if_neg (by omega), if_neg (by omega), if_neg (by omega), if_neg (by omega), if_neg (by omega)]
theorem ld_fill_cost {k : Int} {i : Nat} {T : Nat → Int} (hi : i < 8) (h : ∀ c, c ≤ 20 → T (168 + c) = ld_cc k i c) (c : Nat) (hc : c ≤ 20) : ld_up (ld_up T (172 + i) k) (180 + i) (4 - k) (168 + c) = ld_cc k (i + 1) c := by
  unfold ld_up
  by_cases e1 : c = 12 + i
  · rw [if_pos (by omega)]
    unfold ld_cc
    rw [if_neg (by omega), if_pos (by omega)]
  · rw [if_neg (by omega)]
    by_cases e2 : c = 4 + i
    · rw [if_pos (by omega)]
      unfold ld_cc
      rw [if_pos (by omega)]
    · rw [if_neg (by omega), h c hc]
      unfold ld_cc
      by_cases e3 : 4 ≤ c ∧ c < 4 + i
      · rw [if_pos e3, if_pos (by omega)]
      · rw [if_neg e3, if_neg (show ¬ (4 ≤ c ∧ c < 4 + (i + 1)) by omega)]
        by_cases e4 : 12 ≤ c ∧ c < 12 + i
        · rw [if_pos e4, if_pos (by omega)]
        · rw [if_neg e4, if_neg (by omega)]
theorem ld_fill_cost2 {k : Int} {i r : Nat} {T : Nat → Int} (hr : r < 8) {c : Nat} (hc : c ≤ 20) : ld_up (ld_up T (172 + i) k) (180 + i) (4 - k) (21 * r + c) = T (21 * r + c) := by
  unfold ld_up
  rw [if_neg (by omega), if_neg (by omega)]
/-- the row of the costs, the first i rows taken off -/
def ld_F (n : Nat) (X Y : Nat → Int) (k : Int) (i c : Nat) : Int := ld_cc k n c - ld_sm (fun s => ld_cc k n (ld_o0 Y s) * ld_I X Y s c) i
theorem ld_F_s (n : Nat) (X Y : Nat → Int) (k : Int) (i c : Nat) : ld_F n X Y k i c - ld_cc k n (ld_o0 Y i) * ld_I X Y i c = ld_F n X Y k (i + 1) c := by
  unfold ld_F
  rw [ld_sm_s]
  omega
theorem ld_fill_end {n : Nat} {X Y : Nat → Int} {k : Int} (hn : n ≤ 8) {T OW : Nat → Int} (h1 : ∀ r c, r < n → c ≤ 20 → T (21 * r + c) = ld_I X Y r c) (h2 : ∀ c, c ≤ 20 → T (168 + c) = ld_F n X Y k n c) (h3 : ∀ r, r < n → OW r = (ld_o0 Y r : Int)) : ld_Rep n X Y k T OW 1 (ld_o0 Y, 0, 1) := by
  refine ⟨ld_V_0 hn, fun r c hr hc => ?_, fun c hc => ?_, h3, ?_⟩
  · rw [h1 r c hr hc]
    exact (ld_I_R (by omega) hc).symm
  · rw [h2 c hc]
    show _ = ld_R8 n X Y k (ld_o0 Y) 0 1 c
    unfold ld_R8 ld_F ld_d
    rw [ld_tau01, ld_hb01]
    have : ld_sm (fun s => ld_cc k n (ld_o0 Y s) * ld_R X Y (ld_o0 Y) 0 1 s c) n = ld_sm (fun s => ld_cc k n (ld_o0 Y s) * ld_I X Y s c) n := ld_sm_congr (fun s hs => by rw [ld_I_R (by omega) hc])
    rw [this]
    omega
  · show (1 : Int) = ld_d X 0 1
    unfold ld_d
    rw [ld_tau01, ld_hb01]; rfl
theorem ld_s0_pm (Y : Nat → Int) (r : Nat) : ld_s0 Y r = 1 ∨ ld_s0 Y r = -1 := by
  unfold ld_s0
  split
  · exact Or.inr rfl
  · exact Or.inl rfl
theorem ld_price {k : Int} {n i : Nat} {Y : Nat → Int} (hi : i < n) (hn : n ≤ 8) : ld_cc k n (ld_o0 Y i) = if ld_o0 Y i < 12 then k else 4 - k := by
  unfold ld_cc ld_o0
  split <;> rename_i h
  · rw [if_neg (by omega), if_pos (by omega), if_neg (by omega)]
  · rw [if_pos (by omega), if_pos (by omega)]
/-! exchange -/
def ld_new (T : Nat → Int) (dn : Int) (row col r c : Nat) : Int := (T (21 * r + c) * T (21 * row + col) - T (21 * r + col) * T (21 * row + c)).tdiv dn
def ld_Ou (n : Nat) (T0 : Nat → Int) (dn : Int) (row col r : Nat) (T : Nat → Int) : Prop := ∀ r' c', (r' < n ∨ r' = 8) → c' ≤ 20 → T (21 * r' + c') = if r' < r ∧ r' ≠ row then ld_new T0 dn row col r' c' else T0 (21 * r' + c')
def ld_In (n : Nat) (T0 : Nat → Int) (dn : Int) (row col r c : Nat) (T : Nat → Int) : Prop := ∀ r' c', (r' < n ∨ r' = 8) → c' ≤ 20 → T (21 * r' + c') = if (r' < r ∧ r' ≠ row) ∨ (r' = r ∧ c' < c) then ld_new T0 dn row col r' c' else T0 (21 * r' + c')
theorem ld_Ou_0 {n : Nat} {T0 : Nat → Int} {dn : Int} {row col : Nat} : ld_Ou n T0 dn row col 0 T0 := fun r' c' _ _ => by rw [if_neg (by omega)]
theorem ld_Ou_skip {n : Nat} {T0 : Nat → Int} {dn : Int} {row col r : Nat} {T : Nat → Int} (h : ld_Ou n T0 dn row col r T) (hs : r = row ∨ (n ≤ r ∧ r ≠ 8)) : ld_Ou n T0 dn row col (r + 1) T := by
  intro r' c' hr hc
  rw [h r' c' hr hc]
  by_cases e : r' < r ∧ r' ≠ row
  · rw [if_pos e, if_pos (by omega)]
  · rw [if_neg e, if_neg (by omega)]
theorem ld_In_0 {n : Nat} {T0 : Nat → Int} {dn : Int} {row col r : Nat} {T : Nat → Int} (h : ld_Ou n T0 dn row col r T) : ld_In n T0 dn row col r 0 T := by
  intro r' c' hr hc
  rw [h r' c' hr hc]
  by_cases e : r' < r ∧ r' ≠ row
  · rw [if_pos e, if_pos (Or.inl e)]
  · rw [if_neg e, if_neg (by omega)]
theorem ld_In_s {n : Nat} {T0 : Nat → Int} {dn : Int} {row col r c : Nat} {T : Nat → Int} (h : ld_In n T0 dn row col r c T) (hc : c ≤ 20) : ld_In n T0 dn row col r (c + 1) (ld_up T (21 * r + c) (ld_new T0 dn row col r c)) := by
  intro r' c' hr' hc'
  by_cases e : r' = r ∧ c' = c
  · obtain ⟨rfl, rfl⟩ := e
    rw [ld_up_s, if_pos (by omega)]
  · rw [ld_up_n _ _ (by omega), h r' c' hr' hc']
    by_cases e1 : (r' < r ∧ r' ≠ row) ∨ (r' = r ∧ c' < c)
    · rw [if_pos e1, if_pos (by omega)]
    · rw [if_neg e1, if_neg (by omega)]
theorem ld_In_end {n : Nat} {T0 : Nat → Int} {dn : Int} {row col r : Nat} {T : Nat → Int} (h : ld_In n T0 dn row col r 21 T) (hr : r ≠ row) : ld_Ou n T0 dn row col (r + 1) T := by
  intro r' c' hr' hc'
  rw [h r' c' hr' hc']
  by_cases e : (r' < r ∧ r' ≠ row) ∨ (r' = r ∧ c' < 21)
  · rw [if_pos e, if_pos (by omega)]
  · rw [if_neg e, if_neg (by omega)]
theorem ld_Ou_end {n : Nat} {T0 : Nat → Int} {dn : Int} {row col : Nat} {T : Nat → Int} (hn : n ≤ 8) (h : ld_Ou n T0 dn row col 9 T) : ld_exch n T0 dn row col T := by
  intro r c hr hc
  rw [h r c hr hc]
  by_cases e : r = row
  · rw [if_neg (by omega), if_pos e]
  · rw [if_pos (by omega), if_neg e]; rfl
/-! the answers of bestSlope and bestPair -/
theorem ld_red_iff {t b V q : Int} (hb : 0 < b) (ht : 0 ≤ t) : V * ld_rb t b = ld_rt t b * q ↔ V * b = t * q := by
  obtain ⟨h1, h2, h3, -, -⟩ := ld_red_same hb ht
  constructor
  · intro h
    refine ld_cancE h1 ?_
    have e1 : V * b * ld_rb t b = V * ld_rb t b * b := by grind
    have e2 : t * q * ld_rb t b = t * ld_rb t b * q := by grind
    rw [e1, e2, h, ← h3]
    grind
  · intro h
    refine ld_cancE hb ?_
    have e1 : V * ld_rb t b * b = V * b * ld_rb t b := by grind
    have e2 : ld_rt t b * q * b = ld_rt t b * b * q := by grind
    rw [e1, e2, h, h3]
    grind
theorem ld_same_iff {t b t' b' V q : Int} (hb : 0 < b) (hb' : 0 < b') (h : t * b' = t' * b) : V * b = t * q ↔ V * b' = t' * q := by
  constructor
  · intro e
    refine ld_cancE hb ?_
    have e1 : V * b' * b = V * b * b' := by grind
    have e2 : t' * q * b = t' * b * q := by grind
    rw [e1, e2, e, ← h]
    grind
  · intro e
    refine ld_cancE hb' ?_
    have e1 : V * b * b' = V * b' * b := by grind
    have e2 : t * q * b' = t * b' * q := by grind
    rw [e1, e2, e, h]
    grind
end
section
/-! LeastDeviations: the table -/
set_option maxHeartbeats 4000000 in
set_option maxRecDepth 100000 in
theorem cX_cheaper (l : Launch) (D : va_G) (g : Nat → Nat) (dd : Nat → ClassId) (n : Nat) (pk dn tp bt sc : Int) (px py tb ow so sb : Nat → Int) (hb : ∀ c, c < 20 → -100000 ≤ tb (168 + c) ∧ tb (168 + c) ≤ 100000) : ZMi l yX0_cheaper cX0_cheaper 2 (some .int) { frames := 0, cells := 0, slots := 0, locals := 0 } D (tysX dd) (wX g dd (n : Int) pk dn tp bt sc px py tb ow so sb) [.ref (g 0)] (S := Unit) (fun r _ => ld_cheap tb r) (fun _ => wX g dd (n : Int) pk dn tp bt sc px py tb ow so sb) := by
  refine zr_meti (lv0 := [(0, .ref ((g 0)))]) (by decide) (Nat.le_of_ble_eq_true rfl) rfl ?_
  intro p e s m args below meth c_ A Q C hret
  have C : ZC p s m args c_ cX0_cheaper 2 RX0 D (tysX dd) A := C
  have loop : ∀ (N c : Nat), 20 < c + N → c ≤ 20 → (∀ c', c' < c → 0 ≤ tb (168 + c')) → ZW p l e { frames := 0, cells := 0, slots := 0, locals := 0 } s m args below meth c_ 0 0 Q D A 2 (wX g dd (n : Int) pk dn tp bt sc px py tb ow so sb) 2 [(1, .int (zi (c : Int))), (0, .ref ((g 0)))] [] := by
    intro N
    induction N with
    | zero => intro c h1 h2; omega
    | succ N ih =>
      intro c hN hc hz
      refine zr_iload_n C 0 dX0_cheaper_2 rfl rfl ?_
      refine zr_bipush C dX0_cheaper_3 (by decide) ?_
      refine zr_icmp_ge (tgt := 31) C dX0_cheaper_5 (by decide) (by unfold bI; omega) (by unfold bI; omega) (fun h1 => ?_) (fun h1 => ?_)
      · refine zr_iconst C dX0_cheaper_31 ?_
        exact hret () dX0_cheaper_32 rfl (Or.inr ⟨rfl, fun c1 h => hz c1 (by omega)⟩)
      · have hb1 := hb c (by omega)
        refine zr_aload_n C 1 dX0_cheaper_8 rfl rfl ?_
        refine xg_16 C dX0_cheaper_9 ?_
        refine zr_sipush (v := 168) C dX0_cheaper_12 rfl ?_
        refine zr_iload_n C 0 dX0_cheaper_15 rfl rfl ?_
        refine zr_iadd C dX0_cheaper_16 ?_
        refine xl_tb C (168 + c) (by omega) (by omega) dX0_cheaper_17 ?_
        refine zr_lconst0 C dX0_cheaper_18 ?_
        refine zr_lcmp_ge (tgt := 25) C dX0_cheaper_19 dX0_cheaper_20 (by decide) (by unfold bL; omega) (by unfold bL; omega) (fun h2 => ?_) (fun h2 => ?_)
        · refine zr_iinc (v := ((c + 1 : Nat) : Int)) (lv' := [(1, .int (zi ((c + 1 : Nat) : Int))), (0, .ref ((g 0)))]) C 0 dX0_cheaper_25 rfl (rfl) (by decide) rfl ?_
          refine zr_goto (tgt := 2) C dX0_cheaper_28 (by decide) ?_
          refine ih (c + 1) (by omega) (by omega) (fun c1 h => ?_)
          by_cases e : c1 = c
          · subst e; exact h2
          · exact hz c1 (by omega)
        · refine zr_iload_n C 0 dX0_cheaper_23 rfl rfl ?_
          exact hret () dX0_cheaper_24 rfl (Or.inl ⟨c, by omega, rfl, h2, hz⟩)
  refine zr_iconst C dX0_cheaper_0 ?_
  refine zr_istore_n (lv' := [(1, .int (zi ((0 : Nat) : Int))), (0, .ref ((g 0)))]) C dX0_cheaper_1 rfl (by decide) rfl ?_
  exact loop 21 0 (by omega) (by omega) (fun c h => absurd h (by omega))
set_option maxHeartbeats 4000000 in
set_option maxRecDepth 100000 in
theorem cX_limiting (l : Launch) (D : va_G) (g : Nat → Nat) (dd : Nat → ClassId) (n : Nat) (pk dn tp bt sc : Int) (px py tb ow so sb : Nat → Int) (col : Nat) (hn : n ≤ 8) (hcol : col < 20) (hb : ∀ r c, r < n → c ≤ 20 → -100000 ≤ tb (21 * r + c) ∧ tb (21 * r + c) ≤ 100000) (ho : ∀ r, r < n → 0 ≤ ow r ∧ ow r ≤ 19) : ZMi l yX0_limiting cX0_limiting 10 (some .int) { frames := 0, cells := 0, slots := 0, locals := 0 } D (tysX dd) (wX g dd (n : Int) pk dn tp bt sc px py tb ow so sb) [.ref (g 0), .int (zi (col : Int))] (S := Unit) (fun r _ => (∃ row : Nat, r = (row : Int) ∧ ld_lim n tb ow col row) ∨ (r = -1 ∧ ∀ r, r < n → tb (21 * r + col) ≤ 0)) (fun _ => wX g dd (n : Int) pk dn tp bt sc px py tb ow so sb) := by
  refine zr_meti (lv0 := [(0, .ref ((g 0))), (1, .int (zi (col : Int)))]) (by decide) (Nat.le_of_ble_eq_true rfl) rfl ?_
  intro p e s m args below meth c_ A Q C hret
  have C : ZC p s m args c_ cX0_limiting 10 RX0 D (tysX dd) A := C
  have loop : ∀ (N r : Nat) (x : Int), n < r + N → r ≤ n → ((x = -1 ∧ ∀ r', r' < r → tb (21 * r' + col) ≤ 0) ∨ ∃ b : Nat, b < r ∧ x = (b : Int) ∧ 0 < tb (21 * b + col) ∧ ∀ r', r' < r → 0 < tb (21 * r' + col) → ld_lx (fun r => tb (21 * r + 20)) (fun r => tb (21 * r + col)) ow b r') → ZW p l e { frames := 0, cells := 0, slots := 0, locals := 0 } s m args below meth c_ 0 0 Q D A 10 (wX g dd (n : Int) pk dn tp bt sc px py tb ow so sb) 4 [(3, .int (zi (r : Int))), (2, .int (zi x)), (0, .ref ((g 0))), (1, .int (zi (col : Int)))] [] := by
    intro N
    induction N with
    | zero => intro r x h1 h2; omega
    | succ N ih =>
      intro r x hN hr hinv
      have hx : -1 ≤ x ∧ x ≤ 8 := by rcases hinv with ⟨h, -⟩ | ⟨b, h1, h2, -⟩ <;> omega
      refine zr_iload_n C 0 dX0_limiting_4 rfl rfl ?_
      refine zr_aload_n C 2 dX0_limiting_5 rfl rfl ?_
      refine xg_34 C dX0_limiting_6 ?_
      refine zr_icmp_ge (tgt := 126) C dX0_limiting_9 (by decide) (by unfold bI; omega) (by unfold bI; omega) (fun h1 => ?_) (fun h1 => ?_)
      · have e : n = r := by omega
        subst e
        refine zr_iload_n C 1 dX0_limiting_126 rfl rfl ?_
        refine hret () dX0_limiting_127 rfl ?_
        rcases hinv with ⟨h, h2⟩ | ⟨b, h2, h3, h4, h5⟩
        · exact Or.inr ⟨h, h2⟩
        · exact Or.inl ⟨b, h3, h2, h4, h5⟩
      · have hr1 : r < n := by omega
        have b1 := hb r col hr1 (by omega)
        have b2 := hb r 20 hr1 (by omega)
        refine zr_aload_n C 2 dX0_limiting_12 rfl rfl ?_
        refine xg_16 C dX0_limiting_13 ?_
        refine zr_bipush C dX0_limiting_16 (by decide) ?_
        refine zr_iload_n C 0 dX0_limiting_18 rfl rfl ?_
        refine zr_imul C dX0_limiting_19 ?_
        refine zr_iload_n C 3 dX0_limiting_20 rfl rfl ?_
        refine zr_iadd C dX0_limiting_21 ?_
        refine xl_tb C (21 * r + col) (by omega) (by omega) dX0_limiting_22 ?_
        refine zr_lstore (lv' := [(4, .long (zl (tb (21 * r + col)))), (3, .int (zi (r : Int))), (2, .int (zi x)), (0, .ref ((g 0))), (1, .int (zi (col : Int)))]) C dX0_limiting_23 (by decide) rfl ?_
        refine zr_lload C 0 dX0_limiting_25 rfl ?_
        refine zr_lconst0 C dX0_limiting_27 ?_
        refine zr_lcmp_gt (tgt := 35) C dX0_limiting_28 dX0_limiting_29 (by decide) (by unfold bL; omega) (by unfold bL; omega) (fun h2 => ?_) (fun h2 => ?_)
        · rcases hinv with ⟨e1, hz⟩ | ⟨b, hbr, e1, hE, hl⟩
          · subst e1
            refine zr_iload_n C 2 dX0_limiting_35 rfl rfl ?_
            refine zr_if_ge (tgt := 44) C dX0_limiting_36 (by decide) (by unfold bI; omega) (fun h3 => ?_) (fun h3 => ?_)
            · exact absurd h3 (by omega)
            · refine zr_iload_n C 1 dX0_limiting_39 rfl rfl ?_
              refine zr_istore_n (lv' := [(2, .int (zi (r : Int))), (4, .long (zl (tb (21 * r + col)))), (3, .int (zi (r : Int))), (0, .ref ((g 0))), (1, .int (zi (col : Int)))]) C dX0_limiting_40 rfl (by decide) rfl ?_
              refine zr_goto (tgt := 120) C dX0_limiting_41 (by decide) ?_
              refine zr_iinc (v := ((r + 1 : Nat) : Int)) (lv' := [(3, .int (zi ((r + 1 : Nat) : Int))), (2, .int (zi (r : Int))), (4, .long (zl (tb (21 * r + col)))), (0, .ref ((g 0))), (1, .int (zi (col : Int)))]) C 2 dX0_limiting_120 rfl (rfl) (by decide) rfl ?_
              refine zr_goto (tgt := 4) C dX0_limiting_123 (by decide) ?_
              refine zr_lv [0, 1, 3, 4] rfl ?_
              refine ih (r + 1) (r : Int) (by omega) (by omega) (Or.inr ⟨r, by omega, rfl, h2, fun r' hr' hp => ?_⟩)
              by_cases e : r' = r
              · subst e; exact Or.inr ⟨rfl, Int.le_refl _⟩
              · exact absurd (hz r' (by omega)) (by omega)
          · subst e1
            have b3 := hb b col (by omega) (by omega)
            have b4 := hb b 20 (by omega) (by omega)
            have b5 := ld_prod 100000 100000 (a := tb (21 * r + 20)) (b := tb (21 * b + col)) b2 b3
            have b6 := ld_prod 100000 100000 (a := tb (21 * b + 20)) (b := tb (21 * r + col)) b4 b1
            have b7 := ho r hr1
            have b8 := ho b (by omega)
            refine zr_iload_n C 2 dX0_limiting_35 rfl rfl ?_
            refine zr_if_ge (tgt := 44) C dX0_limiting_36 (by decide) (by unfold bI; omega) (fun h3 => ?_) (fun h3 => ?_)
            · refine zr_aload_n C 3 dX0_limiting_44 rfl rfl ?_
              refine xg_16 C dX0_limiting_45 ?_
              refine zr_bipush C dX0_limiting_48 (by decide) ?_
              refine zr_iload_n C 1 dX0_limiting_50 rfl rfl ?_
              refine zr_imul C dX0_limiting_51 ?_
              refine zr_bipush C dX0_limiting_52 (by decide) ?_
              refine zr_iadd C dX0_limiting_54 ?_
              refine xl_tb C (21 * r + 20) (by omega) (by omega) dX0_limiting_55 ?_
              refine zr_aload_n C 3 dX0_limiting_56 rfl rfl ?_
              refine xg_16 C dX0_limiting_57 ?_
              refine zr_bipush C dX0_limiting_60 (by decide) ?_
              refine zr_iload_n C 2 dX0_limiting_62 rfl rfl ?_
              refine zr_imul C dX0_limiting_63 ?_
              refine zr_iload_n C 4 dX0_limiting_64 rfl rfl ?_
              refine zr_iadd C dX0_limiting_65 ?_
              refine xl_tb C (21 * b + col) (by omega) (by omega) dX0_limiting_66 ?_
              refine zr_lmul C dX0_limiting_67 ?_
              refine zr_lstore (lv' := [(6, .long (zl (tb (21 * r + 20) * tb (21 * b + col)))), (4, .long (zl (tb (21 * r + col)))), (3, .int (zi (r : Int))), (2, .int (zi (b : Int))), (0, .ref ((g 0))), (1, .int (zi (col : Int)))]) C dX0_limiting_68 (by decide) rfl ?_
              refine zr_aload_n C 4 dX0_limiting_70 rfl rfl ?_
              refine xg_16 C dX0_limiting_71 ?_
              refine zr_bipush C dX0_limiting_74 (by decide) ?_
              refine zr_iload_n C 3 dX0_limiting_76 rfl rfl ?_
              refine zr_imul C dX0_limiting_77 ?_
              refine zr_bipush C dX0_limiting_78 (by decide) ?_
              refine zr_iadd C dX0_limiting_80 ?_
              refine xl_tb C (21 * b + 20) (by omega) (by omega) dX0_limiting_81 ?_
              refine zr_lload C 1 dX0_limiting_82 rfl ?_
              refine zr_lmul C dX0_limiting_84 ?_
              refine zr_lstore (lv' := [(8, .long (zl (tb (21 * b + 20) * tb (21 * r + col)))), (6, .long (zl (tb (21 * r + 20) * tb (21 * b + col)))), (4, .long (zl (tb (21 * r + col)))), (3, .int (zi (r : Int))), (2, .int (zi (b : Int))), (0, .ref ((g 0))), (1, .int (zi (col : Int)))]) C dX0_limiting_85 (by decide) rfl ?_
              refine zr_lload C 1 dX0_limiting_87 rfl ?_
              refine zr_lload C 0 dX0_limiting_89 rfl ?_
              refine zr_lcmp_lt (tgt := 118) C dX0_limiting_91 dX0_limiting_92 (by decide) (by unfold bL; omega) (by unfold bL; omega) (fun h4 => ?_) (fun h4 => ?_)
              · refine zr_iload_n C 3 dX0_limiting_118 rfl rfl ?_
                refine zr_istore_n (lv' := [(2, .int (zi (r : Int))), (8, .long (zl (tb (21 * b + 20) * tb (21 * r + col)))), (6, .long (zl (tb (21 * r + 20) * tb (21 * b + col)))), (4, .long (zl (tb (21 * r + col)))), (3, .int (zi (r : Int))), (0, .ref ((g 0))), (1, .int (zi (col : Int)))]) C dX0_limiting_119 rfl (by decide) rfl ?_
                refine zr_iinc (v := ((r + 1 : Nat) : Int)) (lv' := [(3, .int (zi ((r + 1 : Nat) : Int))), (2, .int (zi (r : Int))), (8, .long (zl (tb (21 * b + 20) * tb (21 * r + col)))), (6, .long (zl (tb (21 * r + 20) * tb (21 * b + col)))), (4, .long (zl (tb (21 * r + col)))), (0, .ref ((g 0))), (1, .int (zi (col : Int)))]) C 4 dX0_limiting_120 rfl (rfl) (by decide) rfl ?_
                refine zr_goto (tgt := 4) C dX0_limiting_123 (by decide) ?_
                refine zr_lv [0, 1, 5, 6] rfl ?_
                refine ih (r + 1) (r : Int) (by omega) (by omega) (Or.inr ⟨r, by omega, rfl, h2, fun r' hr' hp => ?_⟩)
                by_cases e : r' = r
                · subst e; exact Or.inr ⟨rfl, Int.le_refl _⟩
                · exact ld_lx_new (b := b) hE h2 hp (Or.inl h4) (hl r' (by omega) hp)
              · refine zr_lload C 1 dX0_limiting_95 rfl ?_
                refine zr_lload C 0 dX0_limiting_97 rfl ?_
                refine zr_lcmp_ne (tgt := 120) C dX0_limiting_99 dX0_limiting_100 (by decide) (by unfold bL; omega) (by unfold bL; omega) (fun h5 => ?_) (fun h5 => ?_)
                · refine zr_iinc (v := ((r + 1 : Nat) : Int)) (lv' := [(3, .int (zi ((r + 1 : Nat) : Int))), (8, .long (zl (tb (21 * b + 20) * tb (21 * r + col)))), (6, .long (zl (tb (21 * r + 20) * tb (21 * b + col)))), (4, .long (zl (tb (21 * r + col)))), (2, .int (zi (b : Int))), (0, .ref ((g 0))), (1, .int (zi (col : Int)))]) C 3 dX0_limiting_120 rfl (rfl) (by decide) rfl ?_
                  refine zr_goto (tgt := 4) C dX0_limiting_123 (by decide) ?_
                  refine zr_lv [0, 4, 5, 6] rfl ?_
                  refine ih (r + 1) (b : Int) (by omega) (by omega) (Or.inr ⟨b, by omega, rfl, hE, fun r' hr' hp => ?_⟩)
                  by_cases e : r' = r
                  · subst e; exact ld_lx_keep h4 (fun h => absurd h h5)
                  · exact hl r' (by omega) hp
                · refine zr_aload_n C 5 dX0_limiting_103 rfl rfl ?_
                  refine xg_20 C dX0_limiting_104 ?_
                  refine zr_iload_n C 3 dX0_limiting_107 rfl rfl ?_
                  refine xl_ow C r (by omega) (by omega) dX0_limiting_108 ?_
                  refine zr_aload_n C 5 dX0_limiting_109 rfl rfl ?_
                  refine xg_20 C dX0_limiting_110 ?_
                  refine zr_iload_n C 4 dX0_limiting_113 rfl rfl ?_
                  refine xl_ow C b (by omega) (by omega) dX0_limiting_114 ?_
                  refine zr_icmp_ge (tgt := 120) C dX0_limiting_115 (by decide) (by unfold bI; omega) (by unfold bI; omega) (fun h6 => ?_) (fun h6 => ?_)
                  · refine zr_iinc (v := ((r + 1 : Nat) : Int)) (lv' := [(3, .int (zi ((r + 1 : Nat) : Int))), (8, .long (zl (tb (21 * b + 20) * tb (21 * r + col)))), (6, .long (zl (tb (21 * r + 20) * tb (21 * b + col)))), (4, .long (zl (tb (21 * r + col)))), (2, .int (zi (b : Int))), (0, .ref ((g 0))), (1, .int (zi (col : Int)))]) C 3 dX0_limiting_120 rfl (rfl) (by decide) rfl ?_
                    refine zr_goto (tgt := 4) C dX0_limiting_123 (by decide) ?_
                    refine zr_lv [0, 4, 5, 6] rfl ?_
                    refine ih (r + 1) (b : Int) (by omega) (by omega) (Or.inr ⟨b, by omega, rfl, hE, fun r' hr' hp => ?_⟩)
                    by_cases e : r' = r
                    · subst e; exact ld_lx_keep h4 (fun _ => h6)
                    · exact hl r' (by omega) hp
                  · refine zr_iload_n C 3 dX0_limiting_118 rfl rfl ?_
                    refine zr_istore_n (lv' := [(2, .int (zi (r : Int))), (8, .long (zl (tb (21 * b + 20) * tb (21 * r + col)))), (6, .long (zl (tb (21 * r + 20) * tb (21 * b + col)))), (4, .long (zl (tb (21 * r + col)))), (3, .int (zi (r : Int))), (0, .ref ((g 0))), (1, .int (zi (col : Int)))]) C dX0_limiting_119 rfl (by decide) rfl ?_
                    refine zr_iinc (v := ((r + 1 : Nat) : Int)) (lv' := [(3, .int (zi ((r + 1 : Nat) : Int))), (2, .int (zi (r : Int))), (8, .long (zl (tb (21 * b + 20) * tb (21 * r + col)))), (6, .long (zl (tb (21 * r + 20) * tb (21 * b + col)))), (4, .long (zl (tb (21 * r + col)))), (0, .ref ((g 0))), (1, .int (zi (col : Int)))]) C 4 dX0_limiting_120 rfl (rfl) (by decide) rfl ?_
                    refine zr_goto (tgt := 4) C dX0_limiting_123 (by decide) ?_
                    refine zr_lv [0, 1, 5, 6] rfl ?_
                    refine ih (r + 1) (r : Int) (by omega) (by omega) (Or.inr ⟨r, by omega, rfl, h2, fun r' hr' hp => ?_⟩)
                    by_cases e : r' = r
                    · subst e; exact Or.inr ⟨rfl, Int.le_refl _⟩
                    · exact ld_lx_new (b := b) hE h2 hp (Or.inr ⟨h5, h6⟩) (hl r' (by omega) hp)
            · exact absurd h3 (by omega)
        · refine zr_goto (tgt := 120) C dX0_limiting_32 (by decide) ?_
          refine zr_iinc (v := ((r + 1 : Nat) : Int)) (lv' := [(3, .int (zi ((r + 1 : Nat) : Int))), (4, .long (zl (tb (21 * r + col)))), (2, .int (zi x)), (0, .ref ((g 0))), (1, .int (zi (col : Int)))]) C 1 dX0_limiting_120 rfl (rfl) (by decide) rfl ?_
          refine zr_goto (tgt := 4) C dX0_limiting_123 (by decide) ?_
          refine zr_lv [0, 2, 3, 4] rfl ?_
          refine ih (r + 1) x (by omega) (by omega) (?_)
          rcases hinv with ⟨e1, hz⟩ | ⟨b, hbr, e1, hE, hl⟩
          · refine Or.inl ⟨e1, fun r' hr' => ?_⟩
            by_cases e : r' = r
            · subst e; exact h2
            · exact hz r' (by omega)
          · refine Or.inr ⟨b, by omega, e1, hE, fun r' hr' hp => ?_⟩
            by_cases e : r' = r
            · subst e; exact absurd hp (by omega)
            · exact hl r' (by omega) hp
  refine zr_iconst C dX0_limiting_0 ?_
  refine zr_istore_n (lv' := [(2, .int (zi (-1))), (0, .ref ((g 0))), (1, .int (zi (col : Int)))]) C dX0_limiting_1 rfl (by decide) rfl ?_
  refine zr_iconst C dX0_limiting_2 ?_
  refine zr_istore_n (lv' := [(3, .int (zi ((0 : Nat) : Int))), (2, .int (zi (-1))), (0, .ref ((g 0))), (1, .int (zi (col : Int)))]) C dX0_limiting_3 rfl (by decide) rfl ?_
  exact loop (n + 1) 0 (-1) (by omega) (by omega) (Or.inl ⟨rfl, fun r' h => absurd h (by omega)⟩)
set_option maxHeartbeats 4000000 in
set_option maxRecDepth 100000 in
theorem cX_exchange (l : Launch) (D : va_G) (g : Nat → Nat) (dd : Nat → ClassId) (n : Nat) (pk dn tp bt sc : Int) (px py tb ow so sb : Nat → Int) (row col : Nat) (hn : n ≤ 8) (hrow : row < n) (hcol : col < 20) (hb : ∀ r c, (r < n ∨ r = 8) → c ≤ 20 → -100000 ≤ tb (21 * r + c) ∧ tb (21 * r + c) ≤ 100000) (hd : 0 < dn ∧ dn ≤ 40) : ZMv l yX0_exchange cX0_exchange 9 none { frames := 0, cells := 0, slots := 0, locals := 0 } D (tysX dd) (wX g dd (n : Int) pk dn tp bt sc px py tb ow so sb) [.ref (g 0), .int (zi (row : Int)), .int (zi (col : Int))] (S := (Nat → Int) × (Nat → Int) × Int) (fun u => ld_exch n tb dn row col u.1 ∧ u.2.1 = ld_up ow row (col : Int) ∧ u.2.2 = tb (21 * row + col)) (fun u => wX g dd (n : Int) pk u.2.2 tp bt sc px py u.1 u.2.1 so sb) := by
  refine zr_metv (lv0 := [(0, .ref ((g 0))), (1, .int (zi (row : Int))), (2, .int (zi (col : Int)))]) (by decide) (Nat.le_of_ble_eq_true rfl) rfl ?_
  intro p e s m args below meth c_ A Q C hret
  have C : ZC p s m args c_ cX0_exchange 9 RX0 D (tysX dd) A := C
  have loop : ∀ (N r : Nat) (T : Nat → Int), 9 < r + N → r ≤ 9 → ld_Ou n tb dn row col r T → ZW p l e { frames := 0, cells := 0, slots := 0, locals := 0 } s m args below meth c_ 0 0 Q D A 9 (wX g dd (n : Int) pk dn tp bt sc px py T ow so sb) 15 [(5, .int (zi (r : Int))), (3, .long (zl (tb (21 * row + col)))), (0, .ref ((g 0))), (1, .int (zi (row : Int))), (2, .int (zi (col : Int)))] [] := by
    intro N
    induction N with
    | zero => intro r T h1 h2; omega
    | succ N ih =>
      intro r T hN hr hO
      refine zr_iload C 0 dX0_exchange_15 rfl ?_
      refine zr_bipush C dX0_exchange_17 (by decide) ?_
      refine zr_icmp_gt (tgt := 132) C dX0_exchange_19 (by decide) (by unfold bI; omega) (by unfold bI; omega) (fun h1 => ?_) (fun h1 => ?_)
      · have e : r = 9 := by omega
        subst e
        refine zr_aload_n C 2 dX0_exchange_132 rfl rfl ?_
        refine zr_lload_n C 1 dX0_exchange_133 rfl rfl ?_
        refine xp_77 C dX0_exchange_134 ?_
        refine zr_aload_n C 2 dX0_exchange_137 rfl rfl ?_
        refine xg_20 C dX0_exchange_138 ?_
        refine zr_iload_n C 3 dX0_exchange_141 rfl rfl ?_
        refine zr_iload_n C 4 dX0_exchange_142 rfl rfl ?_
        refine zr_i2b C dX0_exchange_143 (by omega) ?_
        refine xs_ow C row (by omega) (by omega) (by omega) dX0_exchange_144 ?_
        exact hret (T, ld_up ow row (col : Int), tb (21 * row + col)) dX0_exchange_145 rfl ⟨ld_Ou_end hn hO, rfl, rfl⟩
      · refine zr_iload C 0 dX0_exchange_22 rfl ?_
        refine zr_iload_n C 3 dX0_exchange_24 rfl rfl ?_
        refine zr_icmp_eq (tgt := 126) C dX0_exchange_25 (by decide) (by unfold bI; omega) (by unfold bI; omega) (fun h2 => ?_) (fun h2 => ?_)
        · refine zr_iinc (v := ((r + 1 : Nat) : Int)) (lv' := [(5, .int (zi ((r + 1 : Nat) : Int))), (3, .long (zl (tb (21 * row + col)))), (0, .ref ((g 0))), (1, .int (zi (row : Int))), (2, .int (zi (col : Int)))]) C 0 dX0_exchange_126 rfl (rfl) (by decide) rfl ?_
          refine zr_goto (tgt := 15) C dX0_exchange_129 (by decide) ?_
          refine zr_lv [0, 1, 2, 3, 4] rfl ?_
          exact ih (r + 1) T (by omega) (by omega) (ld_Ou_skip hO (Or.inl (by omega)))
        · have body : r < n ∨ r = 8 → ZW p l e { frames := 0, cells := 0, slots := 0, locals := 0 } s m args below meth c_ 0 0 Q D A 9 (wX g dd (n : Int) pk dn tp bt sc px py T ow so sb) 47 [(5, .int (zi (r : Int))), (3, .long (zl (tb (21 * row + col)))), (0, .ref ((g 0))), (1, .int (zi (row : Int))), (2, .int (zi (col : Int)))] [] := by
            intro hr8
            have hr9 : r ≠ row := by omega
            have er : T (21 * r + col) = tb (21 * r + col) := by rw [hO r col hr8 (by omega), if_neg (by omega)]
            have inner : ∀ (N k : Nat) (T2 : Nat → Int), 21 < k + N → k ≤ 21 → ld_In n tb dn row col r k T2 → ZW p l e { frames := 0, cells := 0, slots := 0, locals := 0 } s m args below meth c_ 0 0 Q D A 9 (wX g dd (n : Int) pk dn tp bt sc px py T2 ow so sb) 64 [(8, .int (zi (k : Int))), (6, .long (zl (tb (21 * r + col)))), (5, .int (zi (r : Int))), (3, .long (zl (tb (21 * row + col)))), (0, .ref ((g 0))), (1, .int (zi (row : Int))), (2, .int (zi (col : Int)))] [] := by
              intro N
              induction N with
              | zero => intro k T2 h1 h2; omega
              | succ N ih2 =>
                intro k T2 hN2 hk hI
                refine zr_iload C 0 dX0_exchange_64 rfl ?_
                refine zr_bipush C dX0_exchange_66 (by decide) ?_
                refine zr_icmp_ge (tgt := 126) C dX0_exchange_68 (by decide) (by unfold bI; omega) (by unfold bI; omega) (fun h3 => ?_) (fun h3 => ?_)
                · have e : k = 21 := by omega
                  subst e
                  refine zr_iinc (v := ((r + 1 : Nat) : Int)) (lv' := [(5, .int (zi ((r + 1 : Nat) : Int))), (8, .int (zi ((21 : Nat) : Int))), (6, .long (zl (tb (21 * r + col)))), (3, .long (zl (tb (21 * row + col)))), (0, .ref ((g 0))), (1, .int (zi (row : Int))), (2, .int (zi (col : Int)))]) C 2 dX0_exchange_126 rfl (rfl) (by decide) rfl ?_
                  refine zr_goto (tgt := 15) C dX0_exchange_129 (by decide) ?_
                  refine zr_lv [0, 3, 4, 5, 6] rfl ?_
                  exact ih (r + 1) T2 (by omega) (by omega) (ld_In_end hI hr9)
                · have e1 : T2 (21 * r + k) = tb (21 * r + k) := by rw [hI r k hr8 (by omega), if_neg (by omega)]
                  have e2 : T2 (21 * row + k) = tb (21 * row + k) := by rw [hI row k (Or.inl hrow) (by omega), if_neg (by omega)]
                  have b1 := hb r k hr8 (by omega)
                  have b2 := hb row k (Or.inl hrow) (by omega)
                  have b3 := hb r col hr8 (by omega)
                  have b4 := hb row col (Or.inl hrow) (by omega)
                  have b5 := ld_prod 100000 100000 b1 b4
                  have b6 := ld_prod 100000 100000 b3 b2
                  refine zr_aload_n C 4 dX0_exchange_71 rfl rfl ?_
                  refine xg_16 C dX0_exchange_72 ?_
                  refine zr_bipush C dX0_exchange_75 (by decide) ?_
                  refine zr_iload C 2 dX0_exchange_77 rfl ?_
                  refine zr_imul C dX0_exchange_79 ?_
                  refine zr_iload C 0 dX0_exchange_80 rfl ?_
                  refine zr_iadd C dX0_exchange_82 ?_
                  refine zr_aload_n C 4 dX0_exchange_83 rfl rfl ?_
                  refine xg_16 C dX0_exchange_84 ?_
                  refine zr_bipush C dX0_exchange_87 (by decide) ?_
                  refine zr_iload C 2 dX0_exchange_89 rfl ?_
                  refine zr_imul C dX0_exchange_91 ?_
                  refine zr_iload C 0 dX0_exchange_92 rfl ?_
                  refine zr_iadd C dX0_exchange_94 ?_
                  refine xl_tb C (21 * r + k) (by omega) (by omega) dX0_exchange_95 ?_
                  refine zr_lload_n C 3 dX0_exchange_96 rfl rfl ?_
                  refine zr_lmul C dX0_exchange_97 ?_
                  refine zr_lload C 1 dX0_exchange_98 rfl ?_
                  refine zr_aload_n C 4 dX0_exchange_100 rfl rfl ?_
                  refine xg_16 C dX0_exchange_101 ?_
                  refine zr_bipush C dX0_exchange_104 (by decide) ?_
                  refine zr_iload_n C 5 dX0_exchange_106 rfl rfl ?_
                  refine zr_imul C dX0_exchange_107 ?_
                  refine zr_iload C 0 dX0_exchange_108 rfl ?_
                  refine zr_iadd C dX0_exchange_110 ?_
                  refine xl_tb C (21 * row + k) (by omega) (by omega) dX0_exchange_111 ?_
                  refine zr_lmul C dX0_exchange_112 ?_
                  refine zr_lsub C dX0_exchange_113 ?_
                  refine zr_aload_n C 4 dX0_exchange_114 rfl rfl ?_
                  refine xg_77 C dX0_exchange_115 ?_
                  rw [e1, e2]
                  refine zr_ldiv C dX0_exchange_118 (by omega) (by unfold bL; omega) (by unfold bL; omega) ?_
                  refine zr_eql (y := ld_new tb dn row col r k) (rfl) ?_
                  refine xs_tb C (21 * r + k) (by omega) (by omega) dX0_exchange_119 ?_
                  refine zr_iinc (v := ((k + 1 : Nat) : Int)) (lv' := [(8, .int (zi ((k + 1 : Nat) : Int))), (6, .long (zl (tb (21 * r + col)))), (5, .int (zi (r : Int))), (3, .long (zl (tb (21 * row + col)))), (0, .ref ((g 0))), (1, .int (zi (row : Int))), (2, .int (zi (col : Int)))]) C 0 dX0_exchange_120 rfl (rfl) (by decide) rfl ?_
                  refine zr_goto (tgt := 64) C dX0_exchange_123 (by decide) ?_
                  exact ih2 (k + 1) _ (by omega) (by omega) (ld_In_s hI (by omega))
            refine zr_aload_n C 2 dX0_exchange_47 rfl rfl ?_
            refine xg_16 C dX0_exchange_48 ?_
            refine zr_bipush C dX0_exchange_51 (by decide) ?_
            refine zr_iload C 0 dX0_exchange_53 rfl ?_
            refine zr_imul C dX0_exchange_55 ?_
            refine zr_iload_n C 4 dX0_exchange_56 rfl rfl ?_
            refine zr_iadd C dX0_exchange_57 ?_
            refine xl_tb C (21 * r + col) (by omega) (by omega) dX0_exchange_58 ?_
            rw [er]
            refine zr_lstore (lv' := [(6, .long (zl (tb (21 * r + col)))), (5, .int (zi (r : Int))), (3, .long (zl (tb (21 * row + col)))), (0, .ref ((g 0))), (1, .int (zi (row : Int))), (2, .int (zi (col : Int)))]) C dX0_exchange_59 (by decide) rfl ?_
            refine zr_iconst C dX0_exchange_61 ?_
            refine zr_istore (lv' := [(8, .int (zi ((0 : Nat) : Int))), (6, .long (zl (tb (21 * r + col)))), (5, .int (zi (r : Int))), (3, .long (zl (tb (21 * row + col)))), (0, .ref ((g 0))), (1, .int (zi (row : Int))), (2, .int (zi (col : Int)))]) C dX0_exchange_62 (by decide) rfl ?_
            refine zr_lv [0, 1, 2, 3, 4, 5, 6] rfl ?_
            exact inner 22 0 T (by omega) (by omega) (ld_In_0 hO)
          refine zr_iload C 0 dX0_exchange_28 rfl ?_
          refine zr_aload_n C 2 dX0_exchange_30 rfl rfl ?_
          refine xg_34 C dX0_exchange_31 ?_
          refine zr_icmp_lt (tgt := 47) C dX0_exchange_34 (by decide) (by unfold bI; omega) (by unfold bI; omega) (fun h4 => ?_) (fun h4 => ?_)
          · exact body (Or.inl (by omega))
          · refine zr_iload C 0 dX0_exchange_37 rfl ?_
            refine zr_bipush C dX0_exchange_39 (by decide) ?_
            refine zr_icmp_ge (tgt := 47) C dX0_exchange_41 (by decide) (by unfold bI; omega) (by unfold bI; omega) (fun h5 => ?_) (fun h5 => ?_)
            · exact body (Or.inr (by omega))
            · refine zr_goto (tgt := 126) C dX0_exchange_44 (by decide) ?_
              refine zr_iinc (v := ((r + 1 : Nat) : Int)) (lv' := [(5, .int (zi ((r + 1 : Nat) : Int))), (3, .long (zl (tb (21 * row + col)))), (0, .ref ((g 0))), (1, .int (zi (row : Int))), (2, .int (zi (col : Int)))]) C 0 dX0_exchange_126 rfl (rfl) (by decide) rfl ?_
              refine zr_goto (tgt := 15) C dX0_exchange_129 (by decide) ?_
              refine zr_lv [0, 1, 2, 3, 4] rfl ?_
              exact ih (r + 1) T (by omega) (by omega) (ld_Ou_skip hO (Or.inr ⟨by omega, by omega⟩))
  refine zr_aload_n C 0 dX0_exchange_0 rfl rfl ?_
  refine xg_16 C dX0_exchange_1 ?_
  refine zr_bipush C dX0_exchange_4 (by decide) ?_
  refine zr_iload_n C 1 dX0_exchange_6 rfl rfl ?_
  refine zr_imul C dX0_exchange_7 ?_
  refine zr_iload_n C 2 dX0_exchange_8 rfl rfl ?_
  refine zr_iadd C dX0_exchange_9 ?_
  refine xl_tb C (21 * row + col) (by omega) (by omega) dX0_exchange_10 ?_
  refine zr_lstore_n (lv' := [(3, .long (zl (tb (21 * row + col)))), (0, .ref ((g 0))), (1, .int (zi (row : Int))), (2, .int (zi (col : Int)))]) C dX0_exchange_11 rfl (by decide) rfl ?_
  refine zr_iconst C dX0_exchange_12 ?_
  refine zr_istore (lv' := [(5, .int (zi ((0 : Nat) : Int))), (3, .long (zl (tb (21 * row + col)))), (0, .ref ((g 0))), (1, .int (zi (row : Int))), (2, .int (zi (col : Int)))]) C dX0_exchange_13 (by decide) rfl ?_
  exact loop 10 0 tb (by omega) (by omega) ld_Ou_0
end
section
/-! LeastDeviations: fillTable, solve and the answers that rest on it -/
set_option maxHeartbeats 4000000 in
set_option maxRecDepth 100000 in
theorem cX_fillTable (l : Launch) (D : va_G) (g : Nat → Nat) (dd : Nat → ClassId) (n : Nat) (pk dn tp bt sc : Int) (px py tb ow so sb : Nat → Int) (hok : ld_ok n px py) (hk : ld_k pk) : ZMv l yX0_fillTable cX0_fillTable 6 none { frames := 0, cells := 0, slots := 0, locals := 0 } D (tysX dd) (wX g dd (n : Int) pk dn tp bt sc px py tb ow so sb) [.ref (g 0)] (S := (Nat → Int) × (Nat → Int)) (fun u => ld_Rep n px py pk u.1 u.2 1 (ld_o0 py, 0, 1)) (fun u => wX g dd (n : Int) pk 1 tp bt sc px py u.1 u.2 so sb) := by
  refine zr_metv (lv0 := [(0, .ref ((g 0)))]) (by decide) (Nat.le_of_ble_eq_true rfl) rfl ?_
  intro p e s m args below meth c_ A Q C hret
  have C : ZC p s m args c_ cX0_fillTable 6 RX0 D (tysX dd) A := C
  obtain ⟨hn, hxy⟩ := hok
  have hk3 : 1 ≤ pk ∧ pk ≤ 3 := by rcases hk with rfl | rfl | rfl <;> omega
  have loop3 : ∀ (N i : Nat) (T OW : Nat → Int), n < i + N → i ≤ n → (∀ r c, r < n → c ≤ 20 → T (21 * r + c) = ld_I px py r c) → (∀ c, c ≤ 20 → T (168 + c) = ld_F n px py pk i c) → (∀ r, r < n → OW r = ((ld_o0 py r : Nat) : Int)) → ZW p l e { frames := 0, cells := 0, slots := 0, locals := 0 } s m args below meth c_ 0 0 Q D A 6 (wX g dd (n : Int) pk 1 tp bt sc px py T OW so sb) 229 [(2, .int (zi (i : Int))), (0, .ref ((g 0))), (1, .int (zi 168))] [] := by
    intro N
    induction N with
    | zero => intro i T OW h1 h2; omega
    | succ N ih =>
      intro i T OW hN hi hR hC hO
      refine zr_iload_n C 0 dX0_fillTable_229 rfl rfl ?_
      refine zr_aload_n C 1 dX0_fillTable_230 rfl rfl ?_
      refine xg_34 C dX0_fillTable_231 ?_
      refine zr_icmp_ge (tgt := 312) C dX0_fillTable_234 (by decide) (by unfold bI; omega) (by unfold bI; omega) (fun h1 => ?_) (fun h1 => ?_)
      · have e : n = i := by omega
        subst e
        exact hret (T, OW) dX0_fillTable_312 rfl (ld_fill_end hn hR hC hO)
      · have hi1 : i < n := by omega
        have ho1 := hO i hi1
        have ho2 := (ld_o0_f (Y := py) (r := i) (by omega)).2.2
        have body : ZW p l e { frames := 0, cells := 0, slots := 0, locals := 0 } s m args below meth c_ 0 0 Q D A 6 (wX g dd (n : Int) pk 1 tp bt sc px py T OW so sb) 263 [(2, .int (zi (i : Int))), (0, .ref ((g 0))), (1, .int (zi 168))] [.long (zl (ld_cc pk n (ld_o0 py i)))] := by
          have inner : ∀ (N k : Nat) (T : Nat → Int), 21 < k + N → k ≤ 21 → (∀ r c, r < n → c ≤ 20 → T (21 * r + c) = ld_I px py r c) → (∀ c, c ≤ 20 → T (168 + c) = if c < k then ld_F n px py pk (i + 1) c else ld_F n px py pk i c) → ZW p l e { frames := 0, cells := 0, slots := 0, locals := 0 } s m args below meth c_ 0 0 Q D A 6 (wX g dd (n : Int) pk 1 tp bt sc px py T OW so sb) 267 [(5, .int (zi (k : Int))), (3, .long (zl (ld_cc pk n (ld_o0 py i)))), (2, .int (zi (i : Int))), (0, .ref ((g 0))), (1, .int (zi 168))] [] := by
            intro N
            induction N with
            | zero => intro k T h1 h2; omega
            | succ N ih2 =>
              intro k T hN2 hk2 hR2 hC2
              refine zr_iload C 0 dX0_fillTable_267 rfl ?_
              refine zr_bipush C dX0_fillTable_269 (by decide) ?_
              refine zr_icmp_ge (tgt := 306) C dX0_fillTable_271 (by decide) (by unfold bI; omega) (by unfold bI; omega) (fun h3 => ?_) (fun h3 => ?_)
              · refine zr_iinc (v := ((i + 1 : Nat) : Int)) (lv' := [(2, .int (zi ((i + 1 : Nat) : Int))), (5, .int (zi (k : Int))), (3, .long (zl (ld_cc pk n (ld_o0 py i)))), (0, .ref ((g 0))), (1, .int (zi 168))]) C 2 dX0_fillTable_306 rfl (rfl) (by decide) rfl ?_
                refine zr_goto (tgt := 229) C dX0_fillTable_309 (by decide) ?_
                refine zr_lv [0, 3, 4] rfl ?_
                exact ih (i + 1) T OW (by omega) (by omega) hR2 (fun c hc => by rw [hC2 c hc, if_pos (by omega)]) hO
              · have e1 := hR2 i k hi1 (by omega)
                have e2 := hC2 k (by omega)
                rw [if_neg (by omega)] at e2
                refine zr_aload_n C 3 dX0_fillTable_274 rfl rfl ?_
                refine xg_16 C dX0_fillTable_275 ?_
                refine zr_iload_n C 4 dX0_fillTable_278 rfl rfl ?_
                refine zr_iload C 0 dX0_fillTable_279 rfl ?_
                refine zr_iadd C dX0_fillTable_281 ?_
                refine zr_dup2_11 C dX0_fillTable_282 rfl rfl ?_
                refine xl_tb C (168 + k) (by omega) (by omega) dX0_fillTable_283 ?_
                refine zr_lload_n C 1 dX0_fillTable_284 rfl rfl ?_
                refine zr_aload_n C 3 dX0_fillTable_285 rfl rfl ?_
                refine xg_16 C dX0_fillTable_286 ?_
                refine zr_bipush C dX0_fillTable_289 (by decide) ?_
                refine zr_iload_n C 2 dX0_fillTable_291 rfl rfl ?_
                refine zr_imul C dX0_fillTable_292 ?_
                refine zr_iload C 0 dX0_fillTable_293 rfl ?_
                refine zr_iadd C dX0_fillTable_295 ?_
                refine xl_tb C (21 * i + k) (by omega) (by omega) dX0_fillTable_296 ?_
                refine zr_lmul C dX0_fillTable_297 ?_
                refine zr_lsub C dX0_fillTable_298 ?_
                rw [e1, e2, ld_F_s]
                refine xs_tb C (168 + k) (by omega) (by omega) dX0_fillTable_299 ?_
                refine zr_iinc (v := ((k + 1 : Nat) : Int)) (lv' := [(5, .int (zi ((k + 1 : Nat) : Int))), (3, .long (zl (ld_cc pk n (ld_o0 py i)))), (2, .int (zi (i : Int))), (0, .ref ((g 0))), (1, .int (zi 168))]) C 0 dX0_fillTable_300 rfl (rfl) (by decide) rfl ?_
                refine zr_goto (tgt := 267) C dX0_fillTable_303 (by decide) ?_
                refine ih2 (k + 1) _ (by omega) (by omega) (fun r c hr hc => ?_) (fun c hc => ?_)
                · rw [ld_up_n _ _ (by omega)]; exact hR2 r c hr hc
                · by_cases e : c = k
                  · subst e; rw [ld_up_s, if_pos (by omega)]
                  · rw [ld_up_n _ _ (by omega), hC2 c hc]
                    by_cases e3 : c < k
                    · rw [if_pos e3, if_pos (by omega)]
                    · rw [if_neg e3, if_neg (by omega)]
          refine zr_lstore_n (lv' := [(3, .long (zl (ld_cc pk n (ld_o0 py i)))), (2, .int (zi (i : Int))), (0, .ref ((g 0))), (1, .int (zi 168))]) C dX0_fillTable_263 rfl (by decide) rfl ?_
          refine zr_iconst C dX0_fillTable_264 ?_
          refine zr_istore (lv' := [(5, .int (zi ((0 : Nat) : Int))), (3, .long (zl (ld_cc pk n (ld_o0 py i)))), (2, .int (zi (i : Int))), (0, .ref ((g 0))), (1, .int (zi 168))]) C dX0_fillTable_265 (by decide) rfl ?_
          refine zr_lv [0, 1, 2, 3, 4] rfl ?_
          exact inner 22 0 T (by omega) (by omega) hR (fun c hc => by rw [if_neg (by omega)]; exact hC c hc)
        refine zr_aload_n C 1 dX0_fillTable_237 rfl rfl ?_
        refine xg_20 C dX0_fillTable_238 ?_
        refine zr_iload_n C 0 dX0_fillTable_241 rfl rfl ?_
        refine xl_ow C i (by omega) (by omega) dX0_fillTable_242 ?_
        rw [ho1]
        refine zr_bipush C dX0_fillTable_243 (by decide) ?_
        refine zr_icmp_ge (tgt := 256) C dX0_fillTable_245 (by decide) (by unfold bI; omega) (by unfold bI; omega) (fun h4 => ?_) (fun h4 => ?_)
        · refine zr_iconst C dX0_fillTable_256 ?_
          refine zr_aload_n C 1 dX0_fillTable_257 rfl rfl ?_
          refine xg_30 C dX0_fillTable_258 ?_
          refine zr_isub C dX0_fillTable_261 ?_
          refine zr_i2l C dX0_fillTable_262 (by unfold bI; omega) ?_
          rw [show 4 - pk = ld_cc pk n (ld_o0 py i) by rw [ld_price hi1 hn, if_neg (by omega)]]
          exact body
        · refine zr_aload_n C 1 dX0_fillTable_248 rfl rfl ?_
          refine xg_30 C dX0_fillTable_249 ?_
          refine zr_i2l C dX0_fillTable_252 (by unfold bI; omega) ?_
          refine zr_goto (tgt := 263) C dX0_fillTable_253 (by decide) ?_
          refine zr_eql (show pk = ld_cc pk n (ld_o0 py i) by rw [ld_price hi1 hn, if_pos (by omega)]) ?_
          exact body
  have loop2 : ∀ (N i : Nat) (T OW : Nat → Int), n < i + N → i ≤ n → (∀ r c, r < 8 → c ≤ 20 → T (21 * r + c) = if r < i then ld_I px py r c else 0) → (∀ c, c ≤ 20 → T (168 + c) = ld_cc pk i c) → (∀ r, r < i → OW r = ((ld_o0 py r : Nat) : Int)) → ZW p l e { frames := 0, cells := 0, slots := 0, locals := 0 } s m args below meth c_ 0 0 Q D A 6 (wX g dd (n : Int) pk 1 tp bt sc px py T OW so sb) 33 [(2, .int (zi (i : Int))), (0, .ref ((g 0))), (1, .int (zi 168))] [] := by
    intro N
    induction N with
    | zero => intro i T OW h1 h2; omega
    | succ N ih =>
      intro i T OW hN hi hR hC hO
      refine zr_iload_n C 0 dX0_fillTable_33 rfl rfl ?_
      refine zr_aload_n C 1 dX0_fillTable_34 rfl rfl ?_
      refine xg_34 C dX0_fillTable_35 ?_
      refine zr_icmp_ge (tgt := 227) C dX0_fillTable_38 (by decide) (by unfold bI; omega) (by unfold bI; omega) (fun h1 => ?_) (fun h1 => ?_)
      · have e : n = i := by omega
        subst e
        refine zr_iconst C dX0_fillTable_227 ?_
        refine zr_istore_n (lv' := [(2, .int (zi ((0 : Nat) : Int))), (0, .ref ((g 0))), (1, .int (zi 168))]) C dX0_fillTable_228 rfl (by decide) rfl ?_
        refine zr_lv [0, 1, 2] rfl ?_
        exact loop3 (n + 1) 0 T OW (by omega) (by omega) (fun r c hr hc => by rw [hR r c (by omega) hc, if_pos hr]) (fun c hc => by rw [hC c hc]; unfold ld_F; rw [ld_sm_0]; omega) hO
      · have hi1 : i < n := by omega
        have hb := hxy i hi1
        have hs := ld_s0_pm py i
        have b1 := ld_pm_bd hs (B := 20) hb.1
        have b2 := ld_pm_bd hs (B := 20) hb.2
        have b3 : -ld_s0 py i * px i = -(ld_s0 py i * px i) := by grind
        have ho2 := (ld_o0_f (Y := py) (r := i) (by omega)).2.2
        have tail : ∀ T1 : Nat → Int, (∀ r c, r < 8 → c ≤ 20 → T1 (21 * r + c) = if r < i + 1 then ld_I px py r c else 0) → (∀ c, c ≤ 20 → T1 (168 + c) = ld_cc pk i c) → ZW p l e { frames := 0, cells := 0, slots := 0, locals := 0 } s m args below meth c_ 0 0 Q D A 6 (wX g dd (n : Int) pk 1 tp bt sc px py T1 OW so sb) 186 [(4, .int (zi (21 * (i : Int)))), (3, .int (zi (ld_s0 py i))), (2, .int (zi (i : Int))), (0, .ref ((g 0))), (1, .int (zi 168))] [.int (zi ((ld_o0 py i : Nat) : Int)), .int (zi (i : Int)), .ref (g 4)] := by
          intro T1 hR1 hC1
          refine zr_i2b C dX0_fillTable_186 (by omega) ?_
          refine xs_ow C i (by omega) (by omega) (by omega) dX0_fillTable_187 ?_
          refine zr_aload_n C 3 dX0_fillTable_188 rfl rfl ?_
          refine xg_16 C dX0_fillTable_189 ?_
          refine zr_iload_n C 4 dX0_fillTable_192 rfl rfl ?_
          refine zr_iconst C dX0_fillTable_193 ?_
          refine zr_iadd C dX0_fillTable_194 ?_
          refine zr_iload_n C 2 dX0_fillTable_195 rfl rfl ?_
          refine zr_iadd C dX0_fillTable_196 ?_
          refine zr_aload_n C 3 dX0_fillTable_197 rfl rfl ?_
          refine xg_30 C dX0_fillTable_198 ?_
          refine zr_i2l C dX0_fillTable_201 (by unfold bI; omega) ?_
          refine xs_tb C (172 + i) (by omega) (by omega) dX0_fillTable_202 ?_
          refine zr_aload_n C 3 dX0_fillTable_203 rfl rfl ?_
          refine xg_16 C dX0_fillTable_204 ?_
          refine zr_iload_n C 4 dX0_fillTable_207 rfl rfl ?_
          refine zr_bipush C dX0_fillTable_208 (by decide) ?_
          refine zr_iadd C dX0_fillTable_210 ?_
          refine zr_iload_n C 2 dX0_fillTable_211 rfl rfl ?_
          refine zr_iadd C dX0_fillTable_212 ?_
          refine zr_iconst C dX0_fillTable_213 ?_
          refine zr_aload_n C 3 dX0_fillTable_214 rfl rfl ?_
          refine xg_30 C dX0_fillTable_215 ?_
          refine zr_isub C dX0_fillTable_218 ?_
          refine zr_i2l C dX0_fillTable_219 (by unfold bI; omega) ?_
          refine xs_tb C (180 + i) (by omega) (by omega) dX0_fillTable_220 ?_
          refine zr_iinc (v := ((i + 1 : Nat) : Int)) (lv' := [(2, .int (zi ((i + 1 : Nat) : Int))), (4, .int (zi (21 * (i : Int)))), (3, .int (zi (ld_s0 py i))), (0, .ref ((g 0))), (1, .int (zi 168))]) C 2 dX0_fillTable_221 rfl (rfl) (by decide) rfl ?_
          refine zr_goto (tgt := 33) C dX0_fillTable_224 (by decide) ?_
          refine zr_lv [0, 3, 4] rfl ?_
          refine ih (i + 1) _ _ (by omega) (by omega) (fun r c hr hc => ?_) (fun c hc => ld_fill_cost (by omega) hC1 c hc) (fun r hr => ?_)
          · rw [ld_fill_cost2 hr hc]; exact hR1 r c hr hc
          · by_cases e : r = i
            · subst e; rw [ld_up_s]
            · rw [ld_up_n _ _ e]; exact hO r (by omega)
        have body : ZW p l e { frames := 0, cells := 0, slots := 0, locals := 0 } s m args below meth c_ 0 0 Q D A 6 (wX g dd (n : Int) pk 1 tp bt sc px py T OW so sb) 55 [(2, .int (zi (i : Int))), (0, .ref ((g 0))), (1, .int (zi 168))] [.int (zi (ld_s0 py i))] := by
          refine zr_istore_n (lv' := [(3, .int (zi (ld_s0 py i))), (2, .int (zi (i : Int))), (0, .ref ((g 0))), (1, .int (zi 168))]) C dX0_fillTable_55 rfl (by decide) rfl ?_
          refine zr_bipush C dX0_fillTable_56 (by decide) ?_
          refine zr_iload_n C 1 dX0_fillTable_58 rfl rfl ?_
          refine zr_imul C dX0_fillTable_59 ?_
          refine zr_istore (lv' := [(4, .int (zi (21 * (i : Int)))), (3, .int (zi (ld_s0 py i))), (2, .int (zi (i : Int))), (0, .ref ((g 0))), (1, .int (zi 168))]) C dX0_fillTable_60 (by decide) rfl ?_
          refine zr_aload_n C 3 dX0_fillTable_62 rfl rfl ?_
          refine xg_16 C dX0_fillTable_63 ?_
          refine zr_iload C 0 dX0_fillTable_66 rfl ?_
          refine zr_iload_n C 1 dX0_fillTable_68 rfl rfl ?_
          refine zr_aload_n C 3 dX0_fillTable_69 rfl rfl ?_
          refine xg_7 C dX0_fillTable_70 ?_
          refine zr_iload_n C 2 dX0_fillTable_73 rfl rfl ?_
          refine xl_px C i (by omega) (by omega) dX0_fillTable_74 ?_
          refine zr_imul C dX0_fillTable_75 ?_
          refine zr_i2l C dX0_fillTable_76 (by unfold bI; omega) ?_
          refine xs_tb C (21 * i) (by omega) (by omega) dX0_fillTable_77 ?_
          refine zr_aload_n C 3 dX0_fillTable_78 rfl rfl ?_
          refine xg_16 C dX0_fillTable_79 ?_
          refine zr_iload C 0 dX0_fillTable_82 rfl ?_
          refine zr_iconst C dX0_fillTable_84 ?_
          refine zr_iadd C dX0_fillTable_85 ?_
          refine zr_iload_n C 1 dX0_fillTable_86 rfl rfl ?_
          refine zr_ineg C dX0_fillTable_87 ?_
          refine zr_aload_n C 3 dX0_fillTable_88 rfl rfl ?_
          refine xg_7 C dX0_fillTable_89 ?_
          refine zr_iload_n C 2 dX0_fillTable_92 rfl rfl ?_
          refine xl_px C i (by omega) (by omega) dX0_fillTable_93 ?_
          refine zr_imul C dX0_fillTable_94 ?_
          refine zr_i2l C dX0_fillTable_95 (by unfold bI; omega) ?_
          refine xs_tb C (21 * i + 1) (by omega) (by omega) dX0_fillTable_96 ?_
          refine zr_aload_n C 3 dX0_fillTable_97 rfl rfl ?_
          refine xg_16 C dX0_fillTable_98 ?_
          refine zr_iload C 0 dX0_fillTable_101 rfl ?_
          refine zr_iconst C dX0_fillTable_103 ?_
          refine zr_iadd C dX0_fillTable_104 ?_
          refine zr_iload_n C 1 dX0_fillTable_105 rfl rfl ?_
          refine zr_i2l C dX0_fillTable_106 (by unfold bI; omega) ?_
          refine xs_tb C (21 * i + 2) (by omega) (by omega) dX0_fillTable_107 ?_
          refine zr_aload_n C 3 dX0_fillTable_108 rfl rfl ?_
          refine xg_16 C dX0_fillTable_109 ?_
          refine zr_iload C 0 dX0_fillTable_112 rfl ?_
          refine zr_iconst C dX0_fillTable_114 ?_
          refine zr_iadd C dX0_fillTable_115 ?_
          refine zr_iload_n C 1 dX0_fillTable_116 rfl rfl ?_
          refine zr_ineg C dX0_fillTable_117 ?_
          refine zr_i2l C dX0_fillTable_118 (by unfold bI; omega) ?_
          refine xs_tb C (21 * i + 3) (by omega) (by omega) dX0_fillTable_119 ?_
          refine zr_aload_n C 3 dX0_fillTable_120 rfl rfl ?_
          refine xg_16 C dX0_fillTable_121 ?_
          refine zr_iload C 0 dX0_fillTable_124 rfl ?_
          refine zr_iconst C dX0_fillTable_126 ?_
          refine zr_iadd C dX0_fillTable_127 ?_
          refine zr_iload_n C 2 dX0_fillTable_128 rfl rfl ?_
          refine zr_iadd C dX0_fillTable_129 ?_
          refine zr_iload_n C 1 dX0_fillTable_130 rfl rfl ?_
          refine zr_i2l C dX0_fillTable_131 (by unfold bI; omega) ?_
          refine xs_tb C (21 * i + 4 + i) (by omega) (by omega) dX0_fillTable_132 ?_
          refine zr_aload_n C 3 dX0_fillTable_133 rfl rfl ?_
          refine xg_16 C dX0_fillTable_134 ?_
          refine zr_iload C 0 dX0_fillTable_137 rfl ?_
          refine zr_bipush C dX0_fillTable_139 (by decide) ?_
          refine zr_iadd C dX0_fillTable_141 ?_
          refine zr_iload_n C 2 dX0_fillTable_142 rfl rfl ?_
          refine zr_iadd C dX0_fillTable_143 ?_
          refine zr_iload_n C 1 dX0_fillTable_144 rfl rfl ?_
          refine zr_ineg C dX0_fillTable_145 ?_
          refine zr_i2l C dX0_fillTable_146 (by unfold bI; omega) ?_
          refine xs_tb C (21 * i + 12 + i) (by omega) (by omega) dX0_fillTable_147 ?_
          refine zr_aload_n C 3 dX0_fillTable_148 rfl rfl ?_
          refine xg_16 C dX0_fillTable_149 ?_
          refine zr_iload C 0 dX0_fillTable_152 rfl ?_
          refine zr_bipush C dX0_fillTable_154 (by decide) ?_
          refine zr_iadd C dX0_fillTable_156 ?_
          refine zr_iload_n C 1 dX0_fillTable_157 rfl rfl ?_
          refine zr_aload_n C 3 dX0_fillTable_158 rfl rfl ?_
          refine xg_13 C dX0_fillTable_159 ?_
          refine zr_iload_n C 2 dX0_fillTable_162 rfl rfl ?_
          refine xl_py C i (by omega) (by omega) dX0_fillTable_163 ?_
          refine zr_imul C dX0_fillTable_164 ?_
          refine zr_i2l C dX0_fillTable_165 (by unfold bI; omega) ?_
          refine xs_tb C (21 * i + 20) (by omega) (by omega) dX0_fillTable_166 ?_
          refine zr_aload_n C 3 dX0_fillTable_167 rfl rfl ?_
          refine xg_20 C dX0_fillTable_168 ?_
          refine zr_iload_n C 2 dX0_fillTable_171 rfl rfl ?_
          refine zr_iload_n C 1 dX0_fillTable_172 rfl rfl ?_
          refine zr_if_le (tgt := 182) C dX0_fillTable_173 (by decide) (by unfold bI; omega) (fun h4 => ?_) (fun h4 => ?_)
          · refine zr_bipush C dX0_fillTable_182 (by decide) ?_
            refine zr_iload_n C 2 dX0_fillTable_184 rfl rfl ?_
            refine zr_iadd C dX0_fillTable_185 ?_
            refine zr_eqi (y := ((ld_o0 py i : Nat) : Int)) (by unfold ld_s0 at h4; unfold ld_o0; by_cases e : py i < 0; rw [if_pos e]; omega; rw [if_neg e] at h4; omega) ?_
            exact tail _ (fun r c hr hc => ld_fill_row (n := n) (by omega) hR r c hr hc) (fun c hc => by rw [ld_fill_row8 (by omega)]; exact hC c hc)
          · refine zr_iconst C dX0_fillTable_176 ?_
            refine zr_iload_n C 2 dX0_fillTable_177 rfl rfl ?_
            refine zr_iadd C dX0_fillTable_178 ?_
            refine zr_goto (tgt := 186) C dX0_fillTable_179 (by decide) ?_
            refine zr_eqi (y := ((ld_o0 py i : Nat) : Int)) (by unfold ld_s0 at h4; unfold ld_o0; by_cases e : py i < 0; rw [if_pos e] at h4; omega; rw [if_neg e]; omega) ?_
            exact tail _ (fun r c hr hc => ld_fill_row (n := n) (by omega) hR r c hr hc) (fun c hc => by rw [ld_fill_row8 (by omega)]; exact hC c hc)
        refine zr_aload_n C 1 dX0_fillTable_41 rfl rfl ?_
        refine xg_13 C dX0_fillTable_42 ?_
        refine zr_iload_n C 0 dX0_fillTable_45 rfl rfl ?_
        refine xl_py C i (by omega) (by omega) dX0_fillTable_46 ?_
        refine zr_if_ge (tgt := 54) C dX0_fillTable_47 (by decide) (by unfold bI; omega) (fun h5 => ?_) (fun h5 => ?_)
        · refine zr_iconst C dX0_fillTable_54 ?_
          refine zr_eqi (y := (ld_s0 py i)) (by unfold ld_s0; rw [if_neg (by omega)]) ?_
          exact body
        · refine zr_iconst C dX0_fillTable_50 ?_
          refine zr_goto (tgt := 55) C dX0_fillTable_51 (by decide) ?_
          refine zr_eqi (y := (ld_s0 py i)) (by unfold ld_s0; rw [if_pos (by omega)]) ?_
          exact body
  have loop1 : ∀ (N c : Nat) (T : Nat → Int), 189 < c + N → c ≤ 189 → (∀ j, j < c → T j = 0) → ZW p l e { frames := 0, cells := 0, slots := 0, locals := 0 } s m args below meth c_ 0 0 Q D A 6 (wX g dd (n : Int) pk dn tp bt sc px py T ow so sb) 2 [(1, .int (zi (c : Int))), (0, .ref ((g 0)))] [] := by
    intro N
    induction N with
    | zero => intro c T h1 h2; omega
    | succ N ih =>
      intro c T hN hc hz
      refine zr_iload_n C 0 dX0_fillTable_2 rfl rfl ?_
      refine zr_sipush (v := 189) C dX0_fillTable_3 rfl ?_
      refine zr_icmp_ge (tgt := 22) C dX0_fillTable_6 (by decide) (by unfold bI; omega) (by unfold bI; omega) (fun h1 => ?_) (fun h1 => ?_)
      · refine zr_aload_n C 1 dX0_fillTable_22 rfl rfl ?_
        refine zr_lconst1 C dX0_fillTable_23 ?_
        refine xp_77 C dX0_fillTable_24 ?_
        refine zr_sipush (v := 168) C dX0_fillTable_27 rfl ?_
        refine zr_istore_n (lv' := [(1, .int (zi 168)), (0, .ref ((g 0)))]) C dX0_fillTable_30 rfl (by decide) rfl ?_
        refine zr_iconst C dX0_fillTable_31 ?_
        refine zr_istore_n (lv' := [(2, .int (zi ((0 : Nat) : Int))), (1, .int (zi 168)), (0, .ref ((g 0)))]) C dX0_fillTable_32 rfl (by decide) rfl ?_
        refine zr_lv [0, 2, 1] rfl ?_
        exact loop2 (n + 1) 0 T ow (by omega) (by omega) (fun r c1 hr hc1 => by rw [hz _ (by omega), if_neg (by omega)]) (fun c1 hc1 => by rw [hz _ (by omega)]; unfold ld_cc; rw [if_neg (by omega), if_neg (by omega)]) (fun r h => absurd h (by omega))
      · refine zr_aload_n C 1 dX0_fillTable_9 rfl rfl ?_
        refine xg_16 C dX0_fillTable_10 ?_
        refine zr_iload_n C 0 dX0_fillTable_13 rfl rfl ?_
        refine zr_lconst0 C dX0_fillTable_14 ?_
        refine xs_tb C c (by omega) (by omega) dX0_fillTable_15 ?_
        refine zr_iinc (v := ((c + 1 : Nat) : Int)) (lv' := [(1, .int (zi ((c + 1 : Nat) : Int))), (0, .ref ((g 0)))]) C 0 dX0_fillTable_16 rfl (rfl) (by decide) rfl ?_
        refine zr_goto (tgt := 2) C dX0_fillTable_19 (by decide) ?_
        refine ih (c + 1) _ (by omega) (by omega) (fun j hj => ?_)
        by_cases e : j = c
        · subst e; exact ld_up_s _ _ _
        · rw [ld_up_n _ _ e]; exact hz j (by omega)
  refine zr_iconst C dX0_fillTable_0 ?_
  refine zr_istore_n (lv' := [(1, .int (zi ((0 : Nat) : Int))), (0, .ref ((g 0)))]) C dX0_fillTable_1 rfl (by decide) rfl ?_
  exact loop1 190 0 tb (by omega) (by omega) (fun j h => absurd h (by omega))
set_option maxHeartbeats 4000000 in
set_option maxRecDepth 100000 in
theorem cX_solve (l : Launch) (D : va_G) (g : Nat → Nat) (dd : Nat → ClassId) (n : Nat) (pk dn tp bt sc : Int) (px py tb ow so sb : Nat → Int) (hok : ld_ok n px py) (hk : ld_k pk) : ZMv l yX0_solve cX0_solve 3 none { frames := 1, cells := 0, slots := 0, locals := 29 } D (tysX dd) (wX g dd (n : Int) pk dn tp bt sc px py tb ow so sb) [.ref (g 0)] (S := (Nat → Int) × (Nat → Int) × Int × Int × Int) (fun u => ∃ t b, ld_min (ld_all n px py pk) t b ∧ (0 ≤ t ∧ t ≤ 100000) ∧ (0 < b ∧ b ≤ 40) ∧ u.2.2.2.1 = ld_rt t b ∧ u.2.2.2.2 = ld_rb t b) (fun u => wX g dd (n : Int) pk u.2.2.1 u.2.2.2.1 u.2.2.2.2 sc px py u.1 u.2.1 so sb) := by
  refine zr_metv (lv0 := [(0, .ref ((g 0)))]) (by decide) (Nat.le_of_ble_eq_true rfl) rfl ?_
  intro p e s m args below meth c_ A Q C hret
  have C : ZC p s m args c_ cX0_solve 3 RX0 D (tysX dd) A := C
  have hn := hok.1
  have loop : ∀ q : (Nat → Nat) × Nat × Nat, Acc (fun q' q => ld_Stp n px py pk q q') q → ∀ (T OW : Nat → Int) (d x : Int), ld_Rep n px py pk T OW d q → ld_cheap T x → ZW p l e { frames := 1, cells := 0, slots := 0, locals := 29 } s m args below meth c_ 0 0 Q D A 3 (wX g dd (n : Int) pk d tp bt sc px py T OW so sb) 9 [(1, .int (zi x)), (0, .ref ((g 0)))] [] := by
    intro q hq
    induction hq with
    | intro q _ ih =>
      intro T OW d x hR hx
      obtain ⟨hb1, hb2, hb3⟩ := ld_Rep_bd hk hok hR
      rcases hx with ⟨col, hcol, ex, hneg, hmin⟩ | ⟨ex, hopt⟩
      · subst ex
        refine zr_iload_n C 0 dX0_solve_9 rfl rfl ?_
        refine zr_if_lt (tgt := 33) C dX0_solve_10 (by decide) (by unfold bI; omega) (fun h1 => ?_) (fun h1 => ?_)
        · exact absurd h1 (by omega)
        · refine zr_aload_n C 1 dX0_solve_13 rfl rfl ?_
          refine zr_iload_n C 0 dX0_solve_14 rfl rfl ?_
          refine zr_calli C 1 (cX_limiting l D g dd n pk d tp bt sc px py T OW so sb col hn hcol (fun r c hr hc => hb1 r c (Or.inl hr) hc) hb3) q109 q111 qs4 q27 q112 (by decide +kernel) ⟨Nat.le_of_ble_eq_true rfl, Nat.le_of_ble_eq_true rfl⟩ ⟨rfl, rfl⟩ rfl rfl rfl rfl (Nat.le_of_ble_eq_true rfl) ⟨Nat.zero_le _, Nat.zero_le _⟩ dX0_solve_15 rfl (fun r1 _ hp1 => ?_)
          rcases hp1 with ⟨row, er, hlim⟩ | ⟨-, hnone⟩
          · subst er
            have hS := ld_Rep_St hR hcol hneg hmin hlim
            refine zr_istore_n (lv' := [(2, .int (zi (row : Int))), (1, .int (zi (col : Int))), (0, .ref ((g 0)))]) C dX0_solve_18 rfl (by decide) rfl ?_
            refine zr_aload_n C 2 dX0_solve_19 rfl rfl ?_
            refine zr_iload_n C 0 dX0_solve_20 rfl rfl ?_
            refine zr_iload_n C 1 dX0_solve_21 rfl rfl ?_
            refine zr_callv C 2 (cX_exchange l D g dd n pk d tp bt sc px py T OW so sb row col hn hlim.1 hcol hb1 hb2) q113 q115 qs5 q27 q116 (by decide +kernel) ⟨Nat.le_of_ble_eq_true rfl, Nat.le_of_ble_eq_true rfl⟩ ⟨rfl, rfl⟩ rfl rfl rfl rfl (Nat.le_of_ble_eq_true rfl) ⟨Nat.zero_le _, Nat.zero_le _⟩ dX0_solve_22 rfl (fun u hu => ?_)
            obtain ⟨hu1, hu2, hu3⟩ := hu
            have hR2 := ld_Rep_next hk hn hR hS hu1 (OW' := u.2.1) (fun r hr => by rw [hu2]; rfl) hu3
            obtain ⟨hc1, hc2, hc3⟩ := ld_Rep_bd hk hok hR2
            refine zr_aload_n C 2 dX0_solve_25 rfl rfl ?_
            refine zr_calli C 0 (cX_cheaper l D g dd n pk u.2.2 tp bt sc px py u.1 u.2.1 so sb (fun c hc => hc1 8 c (Or.inr rfl) (by omega))) q105 q107 qs3 q27 q108 (by decide +kernel) ⟨Nat.le_of_ble_eq_true rfl, Nat.le_of_ble_eq_true rfl⟩ ⟨rfl, rfl⟩ rfl rfl rfl rfl (Nat.le_of_ble_eq_true rfl) ⟨Nat.zero_le _, Nat.zero_le _⟩ dX0_solve_26 rfl (fun x2 _ hx2 => ?_)
            refine zr_istore_n (lv' := [(1, .int (zi x2)), (2, .int (zi (row : Int))), (0, .ref ((g 0)))]) C dX0_solve_29 rfl (by decide) rfl ?_
            refine zr_goto (tgt := 9) C dX0_solve_30 (by decide) ?_
            refine zr_lv [0, 2] rfl ?_
            exact ih (ld_next q row col) ⟨hR.1, row, col, hS, rfl⟩ u.1 u.2.1 u.2.2 x2 hR2 hx2
          · exfalso
            obtain ⟨r, hr, hp⟩ := ld_lim_ex hk (k := pk) (col := col) hR.1 (by rw [← hR.2.2.1 col (by omega)]; exact hneg)
            have := hnone r hr
            rw [hR.2.1 r col hr (by omega)] at this
            omega
      · subst ex
        obtain ⟨hm, ht, hd⟩ := ld_Rep_end hk hok hR hopt
        refine zr_iload_n C 0 dX0_solve_9 rfl rfl ?_
        refine zr_if_lt (tgt := 33) C dX0_solve_10 (by decide) (by unfold bI; omega) (fun h1 => ?_) (fun h1 => ?_)
        · refine zr_aload_n C 1 dX0_solve_33 rfl rfl ?_
          refine zr_aload_n C 1 dX0_solve_34 rfl rfl ?_
          refine xg_16 C dX0_solve_35 ?_
          refine zr_sipush (v := 188) C dX0_solve_38 rfl ?_
          refine xl_tb C 188 (by omega) (by omega) dX0_solve_41 ?_
          refine zr_lneg C dX0_solve_42 ?_
          refine xp_44 C dX0_solve_43 ?_
          refine zr_aload_n C 1 dX0_solve_46 rfl rfl ?_
          refine zr_aload_n C 1 dX0_solve_47 rfl rfl ?_
          refine xg_77 C dX0_solve_48 ?_
          refine xp_48 C dX0_solve_51 ?_
          refine zr_aload_n C 1 dX0_solve_54 rfl rfl ?_
          refine zr_callv C 0 (cX_lowest l D g dd n pk d (-T 188) d sc px py T OW so sb (by omega) (by omega)) q117 q119 qs6 q27 q120 (by decide +kernel) ⟨Nat.le_of_ble_eq_true rfl, Nat.le_of_ble_eq_true rfl⟩ ⟨rfl, rfl⟩ rfl rfl rfl rfl (Nat.le_of_ble_eq_true rfl) ⟨Nat.zero_le _, Nat.zero_le _⟩ dX0_solve_55 rfl (fun u hu => ?_)
          exact hret (T, OW, d, u.1, u.2) dX0_solve_58 rfl ⟨-T 188, d, hm, ht, hd, by rw [hu], by rw [hu]⟩
        · exact absurd h1 (by omega)
  refine zr_aload_n C 0 dX0_solve_0 rfl rfl ?_
  refine zr_callv C 0 (cX_fillTable l D g dd n pk dn tp bt sc px py tb ow so sb hok hk) q101 q103 qs2 q27 q104 (by decide +kernel) ⟨Nat.le_of_ble_eq_true rfl, Nat.le_of_ble_eq_true rfl⟩ ⟨rfl, rfl⟩ rfl rfl rfl rfl (Nat.le_of_ble_eq_true rfl) ⟨Nat.zero_le _, Nat.zero_le _⟩ dX0_solve_1 rfl (fun u hu => ?_)
  obtain ⟨hc1, hc2, hc3⟩ := ld_Rep_bd hk hok hu
  refine zr_aload_n C 0 dX0_solve_4 rfl rfl ?_
  refine zr_calli C 0 (cX_cheaper l D g dd n pk 1 tp bt sc px py u.1 u.2 so sb (fun c hc => hc1 8 c (Or.inr rfl) (by omega))) q105 q107 qs3 q27 q108 (by decide +kernel) ⟨Nat.le_of_ble_eq_true rfl, Nat.le_of_ble_eq_true rfl⟩ ⟨rfl, rfl⟩ rfl rfl rfl rfl (Nat.le_of_ble_eq_true rfl) ⟨Nat.zero_le _, Nat.zero_le _⟩ dX0_solve_5 rfl (fun x2 _ hx2 => ?_)
  refine zr_istore_n (lv' := [(1, .int (zi x2)), (0, .ref ((g 0)))]) C dX0_solve_8 rfl (by decide) rfl ?_
  exact loop _ (ld_acc hk hn _) u.1 u.2 1 x2 hu hx2
set_option maxHeartbeats 4000000 in
set_option maxRecDepth 100000 in
theorem cX_leastTop (l : Launch) (D : va_G) (g : Nat → Nat) (dd : Nat → ClassId) (n : Nat) (pk dn tp bt sc : Int) (px py tb ow so sb : Nat → Int) (hok : ld_ok n px py) (hk : ld_k pk) : ZMi l yX0_leastTop cX0_leastTop 1 (some .int) { frames := 2, cells := 0, slots := 0, locals := 51 } D (tysX dd) (wX g dd (n : Int) pk dn tp bt sc px py tb ow so sb) [.ref (g 0)] (S := (Nat → Int) × (Nat → Int) × Int × Int × Int) (fun r _ => ∃ t b, ld_min (ld_all n px py pk) t b ∧ r = ld_rt t b) (fun u => wX g dd (n : Int) pk u.2.2.1 u.2.2.2.1 u.2.2.2.2 sc px py u.1 u.2.1 so sb) := by
  refine zr_meti (lv0 := [(0, .ref ((g 0)))]) (by decide) (Nat.le_of_ble_eq_true rfl) rfl ?_
  intro p e s m args below meth c_ A Q C hret
  have C : ZC p s m args c_ cX0_leastTop 1 RX0 D (tysX dd) A := C
  refine zr_aload_n C 0 dX0_leastTop_0 rfl rfl ?_
  refine zr_callv C 0 (cX_solve l D g dd n pk dn tp bt sc px py tb ow so sb hok hk) q97 q99 qs1 q27 q100 (by decide +kernel) ⟨Nat.le_of_ble_eq_true rfl, Nat.le_of_ble_eq_true rfl⟩ ⟨rfl, rfl⟩ rfl rfl rfl rfl (Nat.le_of_ble_eq_true rfl) ⟨Nat.zero_le _, Nat.zero_le _⟩ dX0_leastTop_1 rfl (fun u hu => ?_)
  refine zr_aload_n C 0 dX0_leastTop_4 rfl rfl ?_
  refine xg_44 C dX0_leastTop_5 ?_
  refine zr_l2i C dX0_leastTop_8 ?_
  obtain ⟨t, b, h1, h2, h3, h4, h5⟩ := hu
  exact hret u dX0_leastTop_9 rfl (⟨t, b, h1, h4⟩)
set_option maxHeartbeats 4000000 in
set_option maxRecDepth 100000 in
theorem cX_leastBottom (l : Launch) (D : va_G) (g : Nat → Nat) (dd : Nat → ClassId) (n : Nat) (pk dn tp bt sc : Int) (px py tb ow so sb : Nat → Int) (hok : ld_ok n px py) (hk : ld_k pk) : ZMi l yX0_leastBottom cX0_leastBottom 1 (some .int) { frames := 2, cells := 0, slots := 0, locals := 51 } D (tysX dd) (wX g dd (n : Int) pk dn tp bt sc px py tb ow so sb) [.ref (g 0)] (S := (Nat → Int) × (Nat → Int) × Int × Int × Int) (fun r _ => ∃ t b, ld_min (ld_all n px py pk) t b ∧ r = ld_rb t b) (fun u => wX g dd (n : Int) pk u.2.2.1 u.2.2.2.1 u.2.2.2.2 sc px py u.1 u.2.1 so sb) := by
  refine zr_meti (lv0 := [(0, .ref ((g 0)))]) (by decide) (Nat.le_of_ble_eq_true rfl) rfl ?_
  intro p e s m args below meth c_ A Q C hret
  have C : ZC p s m args c_ cX0_leastBottom 1 RX0 D (tysX dd) A := C
  refine zr_aload_n C 0 dX0_leastBottom_0 rfl rfl ?_
  refine zr_callv C 0 (cX_solve l D g dd n pk dn tp bt sc px py tb ow so sb hok hk) q97 q99 qs1 q27 q100 (by decide +kernel) ⟨Nat.le_of_ble_eq_true rfl, Nat.le_of_ble_eq_true rfl⟩ ⟨rfl, rfl⟩ rfl rfl rfl rfl (Nat.le_of_ble_eq_true rfl) ⟨Nat.zero_le _, Nat.zero_le _⟩ dX0_leastBottom_1 rfl (fun u hu => ?_)
  refine zr_aload_n C 0 dX0_leastBottom_4 rfl rfl ?_
  refine xg_48 C dX0_leastBottom_5 ?_
  refine zr_l2i C dX0_leastBottom_8 ?_
  obtain ⟨t, b, h1, h2, h3, h4, h5⟩ := hu
  exact hret u dX0_leastBottom_9 rfl (⟨t, b, h1, h5⟩)
set_option maxHeartbeats 4000000 in
set_option maxRecDepth 100000 in
theorem cX_bestSlope (l : Launch) (D : va_G) (g : Nat → Nat) (dd : Nat → ClassId) (n : Nat) (pk dn tp bt sc : Int) (px py tb ow so sb : Nat → Int) (p q : Int) (hok : ld_ok n px py) (hk : ld_k pk) (hp : bI p) (hq : bI q) : ZMi l yX0_bestSlope cX0_bestSlope 3 (some .boolean) { frames := 2, cells := 0, slots := 0, locals := 51 } D (tysX dd) (wX g dd (n : Int) pk dn tp bt sc px py tb ow so sb) [.ref (g 0), .int (zi p), .int (zi q)] (S := (Nat → Int) × (Nat → Int) × Int × Int × Int × Int × (Nat → Int) × (Nat → Int)) (fun r _ => (¬ ((-1000 ≤ p ∧ p ≤ 1000) ∧ (1 ≤ q ∧ q ≤ 40)) ∧ r = 0) ∨ (((-1000 ≤ p ∧ p ≤ 1000) ∧ (1 ≤ q ∧ q ≤ 40)) ∧ ∃ t b x, ld_min (ld_all n px py pk) t b ∧ ld_wmin n px py pk p q x ∧ ((r = 1 ∧ x * b = t * q) ∨ (r = 0 ∧ x * b ≠ t * q)))) (fun u => wX g dd (n : Int) pk u.2.2.1 u.2.2.2.1 u.2.2.2.2.1 u.2.2.2.2.2.1 px py u.1 u.2.1 u.2.2.2.2.2.2.1 u.2.2.2.2.2.2.2) := by
  refine zr_metz (lv0 := [(0, .ref ((g 0))), (1, .int (zi p)), (2, .int (zi q))]) (by decide) (Nat.le_of_ble_eq_true rfl) rfl ?_
  intro pr e s m args below meth c_ A Q C hret
  have C : ZC pr s m args c_ cX0_bestSlope 3 RX0 D (tysX dd) A := C
  unfold bI at hp hq
  refine zr_iload_n C 1 dX0_bestSlope_0 rfl rfl ?_
  refine zr_sipush (v := (-1000)) C dX0_bestSlope_1 rfl ?_
  refine zr_icmp_lt (tgt := 25) C dX0_bestSlope_4 (by decide) (by unfold bI; omega) (by unfold bI; omega) (fun h1 => ?_) (fun h1 => ?_)
  · refine zr_iconst C dX0_bestSlope_25 ?_
    exact hret (tb, ow, dn, tp, bt, sc, so, sb) dX0_bestSlope_26 (Or.inl rfl) rfl (Or.inl ⟨by omega, rfl⟩)
  · refine zr_iload_n C 1 dX0_bestSlope_7 rfl rfl ?_
    refine zr_sipush (v := 1000) C dX0_bestSlope_8 rfl ?_
    refine zr_icmp_gt (tgt := 25) C dX0_bestSlope_11 (by decide) (by unfold bI; omega) (by unfold bI; omega) (fun h2 => ?_) (fun h2 => ?_)
    · refine zr_iconst C dX0_bestSlope_25 ?_
      exact hret (tb, ow, dn, tp, bt, sc, so, sb) dX0_bestSlope_26 (Or.inl rfl) rfl (Or.inl ⟨by omega, rfl⟩)
    · refine zr_iload_n C 2 dX0_bestSlope_14 rfl rfl ?_
      refine zr_iconst C dX0_bestSlope_15 ?_
      refine zr_icmp_lt (tgt := 25) C dX0_bestSlope_16 (by decide) (by unfold bI; omega) (by unfold bI; omega) (fun h3 => ?_) (fun h3 => ?_)
      · refine zr_iconst C dX0_bestSlope_25 ?_
        exact hret (tb, ow, dn, tp, bt, sc, so, sb) dX0_bestSlope_26 (Or.inl rfl) rfl (Or.inl ⟨by omega, rfl⟩)
      · refine zr_iload_n C 2 dX0_bestSlope_19 rfl rfl ?_
        refine zr_bipush C dX0_bestSlope_20 (by decide) ?_
        refine zr_icmp_le (tgt := 27) C dX0_bestSlope_22 (by decide) (by unfold bI; omega) (by unfold bI; omega) (fun h4 => ?_) (fun h4 => ?_)
        · refine zr_aload_n C 0 dX0_bestSlope_27 rfl rfl ?_
          refine zr_callv C 0 (cX_solve l D g dd n pk dn tp bt sc px py tb ow so sb hok hk) q97 q99 qs1 q27 q100 (by decide +kernel) ⟨Nat.le_of_ble_eq_true rfl, Nat.le_of_ble_eq_true rfl⟩ ⟨rfl, rfl⟩ rfl rfl rfl rfl (Nat.le_of_ble_eq_true rfl) ⟨Nat.zero_le _, Nat.zero_le _⟩ dX0_bestSlope_28 rfl (fun u hu => ?_)
          obtain ⟨t, b, h5, h6, h7, h8, h9⟩ := hu
          have hred := ld_red_same h7.1 h6.1
          refine zr_aload_n C 0 dX0_bestSlope_31 rfl rfl ?_
          refine zr_iload_n C 1 dX0_bestSlope_32 rfl rfl ?_
          refine zr_iload_n C 2 dX0_bestSlope_33 rfl rfl ?_
          refine zr_calli C 2 (cX_slopeCost l D g dd n pk u.2.2.1 u.2.2.2.1 u.2.2.2.2 sc px py u.1 u.2.1 so sb p q hok hk (by omega) (by omega)) q129 q131 qs7 q27 q132 (by decide +kernel) ⟨Nat.le_of_ble_eq_true rfl, Nat.le_of_ble_eq_true rfl⟩ ⟨rfl, rfl⟩ rfl rfl rfl rfl (Nat.le_of_ble_eq_true rfl) ⟨Nat.zero_le _, Nat.zero_le _⟩ dX0_bestSlope_34 rfl (fun r1 u1 hp1 => ?_)
          have hr1 : 0 ≤ r1 ∧ r1 ≤ 998400 := by
            by_cases e : n = 0
            · rw [hp1.1 e]; omega
            · obtain ⟨⟨i, hi, e2⟩, -⟩ := hp1.2 (by omega)
              have := ld_ct_bd hk (p := p) (q := q) (P := 1000) (Q := 40) hok.1 hi (fun j hj => (hok.2 j hj).1) (fun j hj => (hok.2 j hj).2) (by omega) (by omega)
              omega
          have c1 := ld_prod 998400 40 (a := r1) (b := u.2.2.2.2) (by omega) (by omega)
          have c2 := ld_prod 100000 40 (a := u.2.2.2.1) (b := q) (by omega) (by omega)
          have hiff := ld_red_iff (t := t) (b := b) (V := r1) (q := q) h7.1 h6.1
          rw [← h8, ← h9] at hiff
          refine zr_i2l C dX0_bestSlope_37 (by unfold bI; omega) ?_
          refine zr_aload_n C 0 dX0_bestSlope_38 rfl rfl ?_
          refine xg_48 C dX0_bestSlope_39 ?_
          refine zr_lmul C dX0_bestSlope_42 ?_
          refine zr_aload_n C 0 dX0_bestSlope_43 rfl rfl ?_
          refine xg_44 C dX0_bestSlope_44 ?_
          refine zr_iload_n C 2 dX0_bestSlope_47 rfl rfl ?_
          refine zr_i2l C dX0_bestSlope_48 (by unfold bI; omega) ?_
          refine zr_lmul C dX0_bestSlope_49 ?_
          refine zr_lcmp_ne (tgt := 58) C dX0_bestSlope_50 dX0_bestSlope_51 (by decide) (by unfold bL; omega) (by unfold bL; omega) (fun h10 => ?_) (fun h10 => ?_)
          · refine zr_iconst C dX0_bestSlope_58 ?_
            exact hret (u.1, u.2.1, u.2.2.1, u.2.2.2.1, u.2.2.2.2, ((u1.1 : Nat) : Int), u1.2.1, u1.2.2) dX0_bestSlope_59 (Or.inl rfl) rfl (Or.inr ⟨by omega, t, b, r1, h5, hp1, Or.inr ⟨rfl, fun e => h10 (hiff.mpr e)⟩⟩)
          · refine zr_iconst C dX0_bestSlope_54 ?_
            refine zr_goto (tgt := 59) C dX0_bestSlope_55 (by decide) ?_
            exact hret (u.1, u.2.1, u.2.2.1, u.2.2.2.1, u.2.2.2.2, ((u1.1 : Nat) : Int), u1.2.1, u1.2.2) dX0_bestSlope_59 (Or.inr rfl) rfl (Or.inr ⟨by omega, t, b, r1, h5, hp1, Or.inl ⟨rfl, hiff.mp h10⟩⟩)
        · refine zr_iconst C dX0_bestSlope_25 ?_
          exact hret (tb, ow, dn, tp, bt, sc, so, sb) dX0_bestSlope_26 (Or.inl rfl) rfl (Or.inl ⟨by omega, rfl⟩)
set_option maxHeartbeats 4000000 in
set_option maxRecDepth 100000 in
theorem cX_bestPair (l : Launch) (D : va_G) (g : Nat → Nat) (dd : Nat → ClassId) (n : Nat) (pk dn tp bt sc : Int) (px py tb ow so sb : Nat → Int) (i j : Int) (hok : ld_ok n px py) (hk : ld_k pk) (hi : bI i) (hj : bI j) : ZMi l yX0_bestPair cX0_bestPair 5 (some .boolean) { frames := 2, cells := 0, slots := 0, locals := 51 } D (tysX dd) (wX g dd (n : Int) pk dn tp bt sc px py tb ow so sb) [.ref (g 0), .int (zi i), .int (zi j)] (S := (Nat → Int) × (Nat → Int) × Int × Int × Int) (fun r _ => (¬ ((0 ≤ i ∧ i < (n : Int)) ∧ (0 ≤ j ∧ j < (n : Int)) ∧ px i.toNat ≠ px j.toNat) ∧ r = 0) ∨ (((0 ≤ i ∧ i < (n : Int)) ∧ (0 ≤ j ∧ j < (n : Int)) ∧ px i.toNat ≠ px j.toNat) ∧ ∃ t b, ld_min (ld_all n px py pk) t b ∧ ((r = 1 ∧ ld_ct n px py pk i.toNat (ld_kP (py j.toNat - py i.toNat) (px j.toNat - px i.toNat)) (ld_kQ (px j.toNat - px i.toNat)) * b = t * ld_kQ (px j.toNat - px i.toNat)) ∨ (r = 0 ∧ ld_ct n px py pk i.toNat (ld_kP (py j.toNat - py i.toNat) (px j.toNat - px i.toNat)) (ld_kQ (px j.toNat - px i.toNat)) * b ≠ t * ld_kQ (px j.toNat - px i.toNat))))) (fun u => wX g dd (n : Int) pk u.2.2.1 u.2.2.2.1 u.2.2.2.2 sc px py u.1 u.2.1 so sb) := by
  refine zr_metz (lv0 := [(0, .ref ((g 0))), (1, .int (zi i)), (2, .int (zi j))]) (by decide) (Nat.le_of_ble_eq_true rfl) rfl ?_
  intro p e s m args below meth c_ A Q C hret
  have C : ZC p s m args c_ cX0_bestPair 5 RX0 D (tysX dd) A := C
  refine zr_aload_n C 0 dX0_bestPair_0 rfl rfl ?_
  refine zr_iload_n C 1 dX0_bestPair_1 rfl rfl ?_
  refine zr_calli C 1 (cX_isPoint l D g dd n pk dn tp bt sc px py tb ow so sb i hok.1 hi) q85 q87 qs0 q27 q88 (by decide +kernel) ⟨Nat.le_of_ble_eq_true rfl, Nat.le_of_ble_eq_true rfl⟩ ⟨rfl, rfl⟩ rfl rfl rfl rfl (Nat.le_of_ble_eq_true rfl) ⟨Nat.zero_le _, Nat.zero_le _⟩ dX0_bestPair_2 rfl (fun r1 _ hp1 => ?_)
  have hn := hok.1
  have hi2 := hi
  unfold bI at hi2
  refine zr_if_eq (tgt := 31) C dX0_bestPair_5 (by decide) (by unfold bI; omega) (fun h1 => ?_) (fun h1 => ?_)
  · refine zr_iconst C dX0_bestPair_31 ?_
    exact hret (tb, ow, dn, tp, bt) dX0_bestPair_32 (Or.inl rfl) rfl (Or.inl ⟨by omega, rfl⟩)
  · refine zr_aload_n C 0 dX0_bestPair_8 rfl rfl ?_
    refine zr_iload_n C 2 dX0_bestPair_9 rfl rfl ?_
    refine zr_calli C 1 (cX_isPoint l D g dd n pk dn tp bt sc px py tb ow so sb j hok.1 hj) q85 q87 qs0 q27 q88 (by decide +kernel) ⟨Nat.le_of_ble_eq_true rfl, Nat.le_of_ble_eq_true rfl⟩ ⟨rfl, rfl⟩ rfl rfl rfl rfl (Nat.le_of_ble_eq_true rfl) ⟨Nat.zero_le _, Nat.zero_le _⟩ dX0_bestPair_10 rfl (fun r2 _ hp2 => ?_)
    have hj2 := hj
    unfold bI at hj2
    refine zr_if_eq (tgt := 31) C dX0_bestPair_13 (by decide) (by unfold bI; omega) (fun h2 => ?_) (fun h2 => ?_)
    · refine zr_iconst C dX0_bestPair_31 ?_
      exact hret (tb, ow, dn, tp, bt) dX0_bestPair_32 (Or.inl rfl) rfl (Or.inl ⟨by omega, rfl⟩)
    · obtain ⟨i0, hi0⟩ : ∃ i0 : Nat, i = (i0 : Int) := ⟨i.toNat, by omega⟩
      obtain ⟨j0, hj0⟩ : ∃ j0 : Nat, j = (j0 : Int) := ⟨j.toNat, by omega⟩
      subst hi0 hj0
      simp only [Int.toNat_natCast] at hret
      have hin : i0 < n := by omega
      have hjn : j0 < n := by omega
      have bi := hok.2 i0 hin
      have bj := hok.2 j0 hjn
      refine zr_aload_n C 0 dX0_bestPair_16 rfl rfl ?_
      refine xg_7 C dX0_bestPair_17 ?_
      refine zr_iload_n C 1 dX0_bestPair_20 rfl rfl ?_
      refine xl_px C i0 (by omega) (by omega) dX0_bestPair_21 ?_
      refine zr_aload_n C 0 dX0_bestPair_22 rfl rfl ?_
      refine xg_7 C dX0_bestPair_23 ?_
      refine zr_iload_n C 2 dX0_bestPair_26 rfl rfl ?_
      refine xl_px C j0 (by omega) (by omega) dX0_bestPair_27 ?_
      refine zr_icmp_ne (tgt := 33) C dX0_bestPair_28 (by decide) (by unfold bI; omega) (by unfold bI; omega) (fun h3 => ?_) (fun h3 => ?_)
      · have tail : ZW p l e { frames := 2, cells := 0, slots := 0, locals := 51 } s m args below meth c_ 0 0 Q D A 5 (wX g dd (n : Int) pk dn tp bt sc px py tb ow so sb) 74 [(4, .int (zi (ld_kP (py j0 - py i0) (px j0 - px i0)))), (3, .int (zi (ld_kQ (px j0 - px i0)))), (0, .ref ((g 0))), (1, .int (zi (i0 : Int))), (2, .int (zi (j0 : Int)))] [] := by
          have hkq : 1 ≤ (ld_kQ (px j0 - px i0)) ∧ (ld_kQ (px j0 - px i0)) ≤ 40 := by unfold ld_kQ; split <;> omega
          have hkp : -40 ≤ (ld_kP (py j0 - py i0) (px j0 - px i0)) ∧ (ld_kP (py j0 - py i0) (px j0 - px i0)) ≤ 40 := by unfold ld_kP; split <;> omega
          refine zr_aload_n C 2 dX0_bestPair_74 rfl rfl ?_
          refine zr_callv C 0 (cX_solve l D g dd n pk dn tp bt sc px py tb ow so sb hok hk) q97 q99 qs1 q27 q100 (by decide +kernel) ⟨Nat.le_of_ble_eq_true rfl, Nat.le_of_ble_eq_true rfl⟩ ⟨rfl, rfl⟩ rfl rfl rfl rfl (Nat.le_of_ble_eq_true rfl) ⟨Nat.zero_le _, Nat.zero_le _⟩ dX0_bestPair_75 rfl (fun u hu => ?_)
          obtain ⟨t, b, h5, h6, h7, h8, h9⟩ := hu
          have hred := ld_red_same h7.1 h6.1
          have hct := ld_ct_bd hk (p := (ld_kP (py j0 - py i0) (px j0 - px i0))) (q := (ld_kQ (px j0 - px i0))) (P := 40) (Q := 40) hok.1 hin (fun j hj => (hok.2 j hj).1) (fun j hj => (hok.2 j hj).2) (by omega) (by omega)
          refine zr_aload_n C 2 dX0_bestPair_78 rfl rfl ?_
          refine zr_iload_n C 3 dX0_bestPair_79 rfl rfl ?_
          refine zr_iload C 0 dX0_bestPair_80 rfl ?_
          refine zr_iload_n C 1 dX0_bestPair_82 rfl rfl ?_
          refine zr_calli C 3 (cX_costThrough l D g dd n pk u.2.2.1 u.2.2.2.1 u.2.2.2.2 sc px py u.1 u.2.1 so sb i0 (ld_kP (py j0 - py i0) (px j0 - px i0)) (ld_kQ (px j0 - px i0)) hok hin (by omega) (by omega)) q149 q151 qs10 q27 q152 (by decide +kernel) ⟨Nat.le_of_ble_eq_true rfl, Nat.le_of_ble_eq_true rfl⟩ ⟨rfl, rfl⟩ rfl rfl rfl rfl (Nat.le_of_ble_eq_true rfl) ⟨Nat.zero_le _, Nat.zero_le _⟩ dX0_bestPair_83 rfl (fun r3 _ hp3 => ?_)
          have c1 := ld_prod 76800 40 (a := r3) (b := u.2.2.2.2) (by omega) (by omega)
          have c2 := ld_prod 100000 40 (a := u.2.2.2.1) (b := (ld_kQ (px j0 - px i0))) (by omega) (by omega)
          have hiff := ld_red_iff (t := t) (b := b) (V := r3) (q := (ld_kQ (px j0 - px i0))) h7.1 h6.1
          rw [← h8, ← h9] at hiff
          refine zr_i2l C dX0_bestPair_86 (by unfold bI; omega) ?_
          refine zr_aload_n C 2 dX0_bestPair_87 rfl rfl ?_
          refine xg_48 C dX0_bestPair_88 ?_
          refine zr_lmul C dX0_bestPair_91 ?_
          refine zr_aload_n C 2 dX0_bestPair_92 rfl rfl ?_
          refine xg_44 C dX0_bestPair_93 ?_
          refine zr_iload_n C 1 dX0_bestPair_96 rfl rfl ?_
          refine zr_i2l C dX0_bestPair_97 (by unfold bI; omega) ?_
          refine zr_lmul C dX0_bestPair_98 ?_
          refine zr_lcmp_ne (tgt := 107) C dX0_bestPair_99 dX0_bestPair_100 (by decide) (by unfold bL; omega) (by unfold bL; omega) (fun h10 => ?_) (fun h10 => ?_)
          · refine zr_iconst C dX0_bestPair_107 ?_
            exact hret u dX0_bestPair_108 (Or.inl rfl) rfl (Or.inr ⟨⟨by omega, by omega, h3⟩, t, b, h5, Or.inr ⟨rfl, fun e => h10 (hiff.mpr (by rw [hp3]; exact e))⟩⟩)
          · refine zr_iconst C dX0_bestPair_103 ?_
            refine zr_goto (tgt := 108) C dX0_bestPair_104 (by decide) ?_
            exact hret u dX0_bestPair_108 (Or.inr rfl) rfl (Or.inr ⟨⟨by omega, by omega, h3⟩, t, b, h5, Or.inl ⟨rfl, by rw [← hp3]; exact hiff.mp h10⟩⟩)
        refine zr_aload_n C 0 dX0_bestPair_33 rfl rfl ?_
        refine xg_7 C dX0_bestPair_34 ?_
        refine zr_iload_n C 2 dX0_bestPair_37 rfl rfl ?_
        refine xl_px C j0 (by omega) (by omega) dX0_bestPair_38 ?_
        refine zr_aload_n C 0 dX0_bestPair_39 rfl rfl ?_
        refine xg_7 C dX0_bestPair_40 ?_
        refine zr_iload_n C 1 dX0_bestPair_43 rfl rfl ?_
        refine xl_px C i0 (by omega) (by omega) dX0_bestPair_44 ?_
        refine zr_isub C dX0_bestPair_45 ?_
        refine zr_istore_n (lv' := [(3, .int (zi (px j0 - px i0))), (0, .ref ((g 0))), (1, .int (zi (i0 : Int))), (2, .int (zi (j0 : Int)))]) C dX0_bestPair_46 rfl (by decide) rfl ?_
        refine zr_aload_n C 1 dX0_bestPair_47 rfl rfl ?_
        refine xg_13 C dX0_bestPair_48 ?_
        refine zr_iload_n C 3 dX0_bestPair_51 rfl rfl ?_
        refine xl_py C j0 (by omega) (by omega) dX0_bestPair_52 ?_
        refine zr_aload_n C 1 dX0_bestPair_53 rfl rfl ?_
        refine xg_13 C dX0_bestPair_54 ?_
        refine zr_iload_n C 2 dX0_bestPair_57 rfl rfl ?_
        refine xl_py C i0 (by omega) (by omega) dX0_bestPair_58 ?_
        refine zr_isub C dX0_bestPair_59 ?_
        refine zr_istore (lv' := [(4, .int (zi (py j0 - py i0))), (3, .int (zi (px j0 - px i0))), (0, .ref ((g 0))), (1, .int (zi (i0 : Int))), (2, .int (zi (j0 : Int)))]) C dX0_bestPair_60 (by decide) rfl ?_
        refine zr_iload_n C 1 dX0_bestPair_62 rfl rfl ?_
        refine zr_if_ge (tgt := 74) C dX0_bestPair_63 (by decide) (by unfold bI; omega) (fun h6 => ?_) (fun h6 => ?_)
        · have e1 : px j0 - px i0 = (ld_kQ (px j0 - px i0)) := by unfold ld_kQ; rw [if_pos (by omega)]
          have e2 : py j0 - py i0 = (ld_kP (py j0 - py i0) (px j0 - px i0)) := by unfold ld_kP; rw [if_pos (by omega)]
          clear hp1 hp2
          refine zr_lv [0, 1, 2, 3, 4] rfl ?_
          have e3 : (4, Value.int (zi (py j0 - py i0))) = (4, Value.int (zi (ld_kP (py j0 - py i0) (px j0 - px i0)))) := by rw [← e2]
          have e4 : (3, Value.int (zi (px j0 - px i0))) = (3, Value.int (zi (ld_kQ (px j0 - px i0)))) := by rw [← e1]
          rw [e3, e4]
          exact tail
        · refine zr_iload_n C 1 dX0_bestPair_66 rfl rfl ?_
          refine zr_ineg C dX0_bestPair_67 ?_
          refine zr_istore_n (lv' := [(3, .int (zi (-(px j0 - px i0)))), (4, .int (zi (py j0 - py i0))), (0, .ref ((g 0))), (1, .int (zi (i0 : Int))), (2, .int (zi (j0 : Int)))]) C dX0_bestPair_68 rfl (by decide) rfl ?_
          refine zr_iload C 1 dX0_bestPair_69 rfl ?_
          refine zr_ineg C dX0_bestPair_71 ?_
          refine zr_istore (lv' := [(4, .int (zi (-(py j0 - py i0)))), (3, .int (zi (-(px j0 - px i0)))), (0, .ref ((g 0))), (1, .int (zi (i0 : Int))), (2, .int (zi (j0 : Int)))]) C dX0_bestPair_72 (by decide) rfl ?_
          have e1 : -(px j0 - px i0) = (ld_kQ (px j0 - px i0)) := by unfold ld_kQ; rw [if_neg (by omega)]
          have e2 : -(py j0 - py i0) = (ld_kP (py j0 - py i0) (px j0 - px i0)) := by unfold ld_kP; rw [if_neg (by omega)]
          refine zr_lv [0, 1, 2, 3, 4] rfl ?_
          rw [e1, e2]
          exact tail
      · refine zr_iconst C dX0_bestPair_31 ?_
        exact hret (tb, ow, dn, tp, bt) dX0_bestPair_32 (Or.inl rfl) rfl (Or.inl ⟨fun h => h.2.2 h3, rfl⟩)
end
section
/-! PLAIN LAW 11: the model's search; a long constant's row -/
theorem zr_ldc2 {p : Program} {l : Launch} {e : Env} {R : Room} {s : State} {m : MethodId} {args : Array Value} {below : List Frame} {meth : Method} {c : Code} {cells slots : Nat} {Q : State → Prop} {D : va_G} {A : Nat → Prop} {nL : Nat} {ws : va_W} {pc : Nat} {lv : List (Nat × Value)} {st : List Value} {cc : ByteArray} {own : String} {tys : List (ClassId × FieldType)} (C : ZC p s m args c cc nL own D tys A) {index : Nat} {v : Int64} (x : Int) (hx : v = zl x) (hconst : Cond.constantLong own index v ∈ lw_all) (hdg : decode cc pc = .ok (.ldc2_w index, 3))
    (k : ZW p l e R s m args below meth c cells slots Q D A nL ws (pc + 3) lv (.long (zl x) :: st)) : ZW p l e R s m args below meth c cells slots Q D A nL ws pc lv st :=
  fun H locs ls hP hD hS hl => lv_ldc2 C.1 C.2.1 C.2.2.2.1 (C.2.2.2.2.1 _ hconst) hdg (by rw [hx]; exact k H locs ls hP hD hS hl)
/-- what has been looked at -/
def ld_lk (C : Int → Int → Prop) (tp bt fd : Int) : Prop := (fd = 0 ∧ tp = 0 ∧ bt = 1 ∧ ∀ t b, ¬ C t b) ∨ (fd = 1 ∧ C tp bt ∧ ∀ t b, C t b → tp * b ≤ t * bt)
theorem ld_lk_01 {C : Int → Int → Prop} {tp bt fd : Int} (h : ld_lk C tp bt fd) : fd = 0 ∨ fd = 1 := by
  rcases h with h | h
  · exact Or.inl h.1
  · exact Or.inr h.1
theorem ld_lk_iff {C C' : Int → Int → Prop} {tp bt fd : Int} (h : ld_lk C tp bt fd) (e : ∀ t b, C t b ↔ C' t b) : ld_lk C' tp bt fd := by
  rcases h with ⟨h1, h2, h3, h4⟩ | ⟨h1, h2, h3⟩
  · exact Or.inl ⟨h1, h2, h3, fun t b hc => h4 t b ((e t b).mpr hc)⟩
  · exact Or.inr ⟨h1, (e _ _).mp h2, fun t b hc => h3 t b ((e t b).mpr hc)⟩
theorem ld_lk_take {C : Int → Int → Prop} {tp bt fd t b : Int} (h : ld_lk C tp bt fd) (hbt : 0 < bt) (hb : 0 < b) (hC : ∀ t b, C t b → 0 < b) (hc : fd = 0 ∨ t * bt < tp * b) : ld_lk (fun t' b' => C t' b' ∨ (t' = t ∧ b' = b)) t b 1 := by
  refine Or.inr ⟨rfl, Or.inr ⟨rfl, rfl⟩, fun t' b' hh => ?_⟩
  rcases hh with hh | ⟨rfl, rfl⟩
  · rcases h with ⟨h1, h2, h3, h4⟩ | ⟨h1, h2, h3⟩
    · exact absurd hh (h4 _ _)
    · rcases hc with hc | hc
      · omega
      · exact ld_frac hb hbt (hC _ _ hh) (Int.le_of_lt hc) (h3 _ _ hh)
  · exact Int.le_refl _
theorem ld_lk_keep {C : Int → Int → Prop} {tp bt fd t b : Int} (h : ld_lk C tp bt fd) (hc : fd ≠ 0) (hle : tp * b ≤ t * bt) : ld_lk (fun t' b' => C t' b' ∨ (t' = t ∧ b' = b)) tp bt fd := by
  rcases h with ⟨h1, h2, h3, h4⟩ | ⟨h1, h2, h3⟩
  · exact absurd h1 hc
  · refine Or.inr ⟨h1, Or.inl h2, fun t' b' hh => ?_⟩
    rcases hh with hh | ⟨rfl, rfl⟩
    · exact h3 _ _ hh
    · exact hle
theorem ld_lk_min {C : Int → Int → Prop} {tp bt fd : Int} (h : ld_lk C tp bt fd) (hbt : 0 < bt) (htp : 0 ≤ tp) : ld_min C tp bt := by
  rcases h with ⟨h1, h2, h3, h4⟩ | ⟨h1, h2, h3⟩
  · exact ⟨hbt, htp, fun t b hc => absurd hc (h4 _ _), fun ⟨t, b, hc⟩ => absurd hc (h4 _ _), fun _ => h2⟩
  · exact ⟨hbt, htp, h3, fun _ => ⟨_, _, h2, rfl⟩, fun hno => absurd h2 (hno _ _)⟩
/-- the lines through i and a point ahead of j -/
def ld_cj (n : Nat) (X Y : Nat → Int) (k : Int) (i j : Nat) (t b : Int) : Prop := ∃ z, z < j ∧ X z ≠ X i ∧ b = ld_kQ (X z - X i) ∧ t = ld_ct n X Y k i (ld_kP (Y z - Y i) (X z - X i)) (ld_kQ (X z - X i))
theorem ld_cj_same {n : Nat} {X Y : Nat → Int} {k : Int} {i j : Nat} (e : X j = X i) (t b : Int) : ld_cj n X Y k i (j + 1) t b ↔ ld_cj n X Y k i j t b := by
  constructor
  · rintro ⟨z, h1, h2, h3⟩
    by_cases e2 : z = j
    · subst e2; exact absurd e h2
    · exact ⟨z, by omega, h2, h3⟩
  · rintro ⟨z, h1, h2⟩
    exact ⟨z, by omega, h2⟩
theorem ld_cj_s {n : Nat} {X Y : Nat → Int} {k : Int} {i j : Nat} (e : X j ≠ X i) (t b : Int) : ld_cj n X Y k i (j + 1) t b ↔ ld_cj n X Y k i j t b ∨ (t = ld_ct n X Y k i (ld_kP (Y j - Y i) (X j - X i)) (ld_kQ (X j - X i)) ∧ b = ld_kQ (X j - X i)) := by
  constructor
  · rintro ⟨z, h1, h2, h3, h4⟩
    by_cases e2 : z = j
    · subst e2; exact Or.inr ⟨h4, h3⟩
    · exact Or.inl ⟨z, by omega, h2, h3, h4⟩
  · rintro (⟨z, h1, h2⟩ | ⟨h1, h2⟩)
    · exact ⟨z, by omega, h2⟩
    · exact ⟨j, by omega, e, h2, h1⟩
theorem ld_cj_pos {n : Nat} {X Y : Nat → Int} {k : Int} {i j : Nat} {t b : Int} (h : ld_cj n X Y k i j t b) : 0 < b := by
  obtain ⟨z, -, h2, rfl, -⟩ := h
  exact ld_kQ_pos (by omega)
theorem ld_cj_cand {n : Nat} {X Y : Nat → Int} {k : Int} {i : Nat} (e : ∃ z, z < n ∧ X z ≠ X i) (t b : Int) : ld_cj n X Y k i n t b ↔ ld_cand n X Y k i t b := by
  constructor
  · intro h; exact Or.inl h
  · rintro (h | ⟨h, -⟩)
    · exact h
    · obtain ⟨z, h1, h2⟩ := e
      exact absurd (h z h1) h2
theorem ld_cj_alone {n : Nat} {X Y : Nat → Int} {k : Int} {i : Nat} (e : ∀ z, z < n → X z = X i) (t b : Int) : (ld_cj n X Y k i n t b ∨ (t = ld_ct n X Y k i 0 1 ∧ b = 1)) ↔ ld_cand n X Y k i t b := by
  constructor
  · rintro (⟨z, h1, h2, -⟩ | ⟨h1, h2⟩)
    · exact absurd (e z h1) h2
    · exact Or.inr ⟨e, h1, h2⟩
  · rintro (⟨z, h1, h2, -⟩ | ⟨-, h1, h2⟩)
    · exact absurd (e z h1) h2
    · exact Or.inr ⟨h1, h2⟩
end
section
/-! LeastDeviationsModel: points, costs -/
set_option maxHeartbeats 4000000 in
set_option maxRecDepth 100000 in
theorem cM_isPoint (l : Launch) (D : va_G) (g : Nat → Nat) (dd : Nat → ClassId) (n : Nat) (pk tp bt fd : Int) (px py : Nat → Int) (i : Int) (hn : n ≤ 8) (hi : bI i) : ZMi l yX1_isPoint cX1_isPoint 2 (some .boolean) { frames := 0, cells := 0, slots := 0, locals := 0 } D (tysM dd) (wM g dd (n : Int) pk tp bt fd px py) [.ref (g 0), .int (zi i)] (S := Unit) (fun r _ => (r = 1 ∧ 0 ≤ i ∧ i < (n : Int)) ∨ (r = 0 ∧ ¬ (0 ≤ i ∧ i < (n : Int)))) (fun _ => wM g dd (n : Int) pk tp bt fd px py) := by
  refine zr_metz (lv0 := [(0, .ref ((g 0))), (1, .int (zi i))]) (by decide) (Nat.le_of_ble_eq_true rfl) rfl ?_
  intro p e s m args below meth c_ A Q C hret
  have C : ZC p s m args c_ cX1_isPoint 2 RX1 D (tysM dd) A := C
  unfold bI at hi
  refine zr_iload_n C 1 dX1_isPoint_0 rfl rfl ?_
  refine zr_if_lt (tgt := 16) C dX1_isPoint_1 (by decide) (by unfold bI; omega) (fun h1 => ?_) (fun h1 => ?_)
  · refine zr_iconst C dX1_isPoint_16 ?_
    exact hret () dX1_isPoint_17 (Or.inl rfl) rfl (Or.inr ⟨rfl, by omega⟩)
  · refine zr_iload_n C 1 dX1_isPoint_4 rfl rfl ?_
    refine zr_aload_n C 0 dX1_isPoint_5 rfl rfl ?_
    refine mg_7 C dX1_isPoint_6 ?_
    refine zr_icmp_ge (tgt := 16) C dX1_isPoint_9 (by decide) (by unfold bI; omega) (by unfold bI; omega) (fun h2 => ?_) (fun h2 => ?_)
    · refine zr_iconst C dX1_isPoint_16 ?_
      exact hret () dX1_isPoint_17 (Or.inl rfl) rfl (Or.inr ⟨rfl, by omega⟩)
    · refine zr_iconst C dX1_isPoint_12 ?_
      refine zr_goto (tgt := 17) C dX1_isPoint_13 (by decide) ?_
      exact hret () dX1_isPoint_17 (Or.inr rfl) rfl (Or.inl ⟨rfl, by omega, by omega⟩)
set_option maxHeartbeats 4000000 in
set_option maxRecDepth 100000 in
theorem cM_points (l : Launch) (D : va_G) (g : Nat → Nat) (dd : Nat → ClassId) (n : Nat) (pk tp bt fd : Int) (px py : Nat → Int)  : ZMi l yX1_points cX1_points 1 (some .int) { frames := 0, cells := 0, slots := 0, locals := 0 } D (tysM dd) (wM g dd (n : Int) pk tp bt fd px py) [.ref (g 0)] (S := Unit) (fun r _ => r = (n : Int)) (fun _ => wM g dd (n : Int) pk tp bt fd px py) := by
  refine zr_meti (lv0 := [(0, .ref ((g 0)))]) (by decide) (Nat.le_of_ble_eq_true rfl) rfl ?_
  intro p e s m args below meth c_ A Q C hret
  have C : ZC p s m args c_ cX1_points 1 RX1 D (tysM dd) A := C
  refine zr_aload_n C 0 dX1_points_0 rfl rfl ?_
  refine mg_7 C dX1_points_1 ?_
  exact hret () dX1_points_4 rfl rfl
set_option maxHeartbeats 4000000 in
set_option maxRecDepth 100000 in
theorem cM_lean (l : Launch) (D : va_G) (g : Nat → Nat) (dd : Nat → ClassId) (n : Nat) (pk tp bt fd : Int) (px py : Nat → Int) (k : Int) (hk : bI k) : ZMi l yX1_lean cX1_lean 2 (some .boolean) { frames := 0, cells := 0, slots := 0, locals := 0 } D (tysM dd) (wM g dd (n : Int) pk tp bt fd px py) [.ref (g 0), .int (zi k)] (S := Int) (fun r u => (r = 1 ∧ 1 ≤ k ∧ k ≤ 3 ∧ u = k) ∨ (r = 0 ∧ ¬ (1 ≤ k ∧ k ≤ 3) ∧ u = pk)) (fun u => wM g dd (n : Int) u tp bt fd px py) := by
  refine zr_metz (lv0 := [(0, .ref ((g 0))), (1, .int (zi k))]) (by decide) (Nat.le_of_ble_eq_true rfl) rfl ?_
  intro p e s m args below meth c_ A Q C hret
  have C : ZC p s m args c_ cX1_lean 2 RX1 D (tysM dd) A := C
  unfold bI at hk
  refine zr_iload_n C 1 dX1_lean_0 rfl rfl ?_
  refine zr_iconst C dX1_lean_1 ?_
  refine zr_icmp_lt (tgt := 10) C dX1_lean_2 (by decide) (by unfold bI; omega) (by unfold bI; omega) (fun h1 => ?_) (fun h1 => ?_)
  · refine zr_iconst C dX1_lean_10 ?_
    exact hret pk dX1_lean_11 (Or.inl rfl) rfl (Or.inr ⟨rfl, by omega, rfl⟩)
  · refine zr_iload_n C 1 dX1_lean_5 rfl rfl ?_
    refine zr_iconst C dX1_lean_6 ?_
    refine zr_icmp_le (tgt := 12) C dX1_lean_7 (by decide) (by unfold bI; omega) (by unfold bI; omega) (fun h2 => ?_) (fun h2 => ?_)
    · refine zr_aload_n C 0 dX1_lean_12 rfl rfl ?_
      refine zr_iload_n C 1 dX1_lean_13 rfl rfl ?_
      refine mp_13 C dX1_lean_14 ?_
      refine zr_iconst C dX1_lean_17 ?_
      exact hret k dX1_lean_18 (Or.inr rfl) rfl (Or.inl ⟨rfl, by omega, by omega, rfl⟩)
    · refine zr_iconst C dX1_lean_10 ?_
      exact hret pk dX1_lean_11 (Or.inl rfl) rfl (Or.inr ⟨rfl, by omega, rfl⟩)
set_option maxHeartbeats 4000000 in
set_option maxRecDepth 100000 in
theorem cM_add (l : Launch) (D : va_G) (g : Nat → Nat) (dd : Nat → ClassId) (n : Nat) (pk tp bt fd : Int) (px py : Nat → Int) (x y : Int) (hn : n ≤ 8) (hx : bI x) (hy : bI y) : ZMi l yX1_add cX1_add 3 (some .int) { frames := 0, cells := 0, slots := 0, locals := 0 } D (tysM dd) (wM g dd (n : Int) pk tp bt fd px py) [.ref (g 0), .int (zi x), .int (zi y)] (S := Nat × (Nat → Int) × (Nat → Int)) (fun r u => (n = 8 ∧ r = -2 ∧ u = (n, px, py)) ∨ (n < 8 ∧ ¬ (-20 ≤ x ∧ x ≤ 20 ∧ -20 ≤ y ∧ y ≤ 20) ∧ r = -1 ∧ u = (n, px, py)) ∨ (n < 8 ∧ (-20 ≤ x ∧ x ≤ 20 ∧ -20 ≤ y ∧ y ≤ 20) ∧ r = (n : Int) + 1 ∧ u = (n + 1, ld_up px n x, ld_up py n y))) (fun u => wM g dd ((u.1 : Nat) : Int) pk tp bt fd u.2.1 u.2.2) := by
  refine zr_meti (lv0 := [(0, .ref ((g 0))), (1, .int (zi x)), (2, .int (zi y))]) (by decide) (Nat.le_of_ble_eq_true rfl) rfl ?_
  intro p e s m args below meth c_ A Q C hret
  have C : ZC p s m args c_ cX1_add 3 RX1 D (tysM dd) A := C
  unfold bI at hx hy
  refine zr_aload_n C 0 dX1_add_0 rfl rfl ?_
  refine mg_7 C dX1_add_1 ?_
  refine zr_bipush C dX1_add_4 (by decide) ?_
  refine zr_icmp_ne (tgt := 12) C dX1_add_6 (by decide) (by unfold bI; omega) (by unfold bI; omega) (fun h1 => ?_) (fun h1 => ?_)
  · refine zr_iload_n C 1 dX1_add_12 rfl rfl ?_
    refine zr_bipush C dX1_add_13 (by decide) ?_
    refine zr_icmp_lt (tgt := 36) C dX1_add_15 (by decide) (by unfold bI; omega) (by unfold bI; omega) (fun h2 => ?_) (fun h2 => ?_)
    · refine zr_iconst C dX1_add_36 ?_
      exact hret (n, px, py) dX1_add_37 rfl (Or.inr (Or.inl ⟨by omega, by omega, rfl, rfl⟩))
    · refine zr_iload_n C 1 dX1_add_18 rfl rfl ?_
      refine zr_bipush C dX1_add_19 (by decide) ?_
      refine zr_icmp_gt (tgt := 36) C dX1_add_21 (by decide) (by unfold bI; omega) (by unfold bI; omega) (fun h3 => ?_) (fun h3 => ?_)
      · refine zr_iconst C dX1_add_36 ?_
        exact hret (n, px, py) dX1_add_37 rfl (Or.inr (Or.inl ⟨by omega, by omega, rfl, rfl⟩))
      · refine zr_iload_n C 2 dX1_add_24 rfl rfl ?_
        refine zr_bipush C dX1_add_25 (by decide) ?_
        refine zr_icmp_lt (tgt := 36) C dX1_add_27 (by decide) (by unfold bI; omega) (by unfold bI; omega) (fun h4 => ?_) (fun h4 => ?_)
        · refine zr_iconst C dX1_add_36 ?_
          exact hret (n, px, py) dX1_add_37 rfl (Or.inr (Or.inl ⟨by omega, by omega, rfl, rfl⟩))
        · refine zr_iload_n C 2 dX1_add_30 rfl rfl ?_
          refine zr_bipush C dX1_add_31 (by decide) ?_
          refine zr_icmp_le (tgt := 38) C dX1_add_33 (by decide) (by unfold bI; omega) (by unfold bI; omega) (fun h5 => ?_) (fun h5 => ?_)
          · refine zr_aload_n C 0 dX1_add_38 rfl rfl ?_
            refine mg_16 C dX1_add_39 ?_
            refine zr_aload_n C 0 dX1_add_42 rfl rfl ?_
            refine mg_7 C dX1_add_43 ?_
            refine zr_iload_n C 1 dX1_add_46 rfl rfl ?_
            refine ms_px C n (by omega) (by omega) dX1_add_47 ?_
            refine zr_aload_n C 0 dX1_add_48 rfl rfl ?_
            refine mg_20 C dX1_add_49 ?_
            refine zr_aload_n C 0 dX1_add_52 rfl rfl ?_
            refine mg_7 C dX1_add_53 ?_
            refine zr_iload_n C 2 dX1_add_56 rfl rfl ?_
            refine ms_py C n (by omega) (by omega) dX1_add_57 ?_
            refine zr_aload_n C 0 dX1_add_58 rfl rfl ?_
            refine zr_dup C dX1_add_59 rfl ?_
            refine mg_7 C dX1_add_60 ?_
            refine zr_iconst C dX1_add_63 ?_
            refine zr_iadd C dX1_add_64 ?_
            refine mp_7 C dX1_add_65 ?_
            refine zr_aload_n C 0 dX1_add_68 rfl rfl ?_
            refine mg_7 C dX1_add_69 ?_
            exact hret (n + 1, ld_up px n x, ld_up py n y) dX1_add_72 rfl (Or.inr (Or.inr ⟨by omega, by omega, rfl, rfl⟩))
          · refine zr_iconst C dX1_add_36 ?_
            exact hret (n, px, py) dX1_add_37 rfl (Or.inr (Or.inl ⟨by omega, by omega, rfl, rfl⟩))
  · refine zr_bipush C dX1_add_9 (by decide) ?_
    exact hret (n, px, py) dX1_add_11 rfl (Or.inl ⟨by omega, rfl, rfl⟩)
set_option maxHeartbeats 4000000 in
set_option maxRecDepth 100000 in
theorem cM_drop (l : Launch) (D : va_G) (g : Nat → Nat) (dd : Nat → ClassId) (n : Nat) (pk tp bt fd : Int) (px py : Nat → Int) (i : Int) (hok : ld_ok n px py) (hi : bI i) : ZMi l yX1_drop cX1_drop 3 (some .int) { frames := 1, cells := 0, slots := 0, locals := 21 } D (tysM dd) (wM g dd (n : Int) pk tp bt fd px py) [.ref (g 0), .int (zi i)] (S := Nat × (Nat → Int) × (Nat → Int)) (fun r u => (¬ (0 ≤ i ∧ i < (n : Int)) ∧ r = -1 ∧ u = (n, px, py)) ∨ ((0 ≤ i ∧ i < (n : Int)) ∧ r = (n : Int) - 1 ∧ u.1 + 1 = n ∧ ∀ j, j < u.1 → u.2.1 j = (if (j : Int) < i then px j else px (j + 1)) ∧ u.2.2 j = (if (j : Int) < i then py j else py (j + 1)))) (fun u => wM g dd ((u.1 : Nat) : Int) pk tp bt fd u.2.1 u.2.2) := by
  refine zr_meti (lv0 := [(0, .ref ((g 0))), (1, .int (zi i))]) (by decide) (Nat.le_of_ble_eq_true rfl) rfl ?_
  intro p e s m args below meth c_ A Q C hret
  have C : ZC p s m args c_ cX1_drop 3 RX1 D (tysM dd) A := C
  obtain ⟨hn, hxy⟩ := hok
  refine zr_aload_n C 0 dX1_drop_0 rfl rfl ?_
  refine zr_iload_n C 1 dX1_drop_1 rfl rfl ?_
  refine zr_calli C 1 (cM_isPoint l D g dd n pk tp bt fd px py i hn hi) q205 q207 qs12 q28 q208 (by decide +kernel) ⟨Nat.le_of_ble_eq_true rfl, Nat.le_of_ble_eq_true rfl⟩ ⟨rfl, rfl⟩ rfl rfl rfl rfl (Nat.le_of_ble_eq_true rfl) ⟨Nat.zero_le _, Nat.zero_le _⟩ dX1_drop_2 rfl (fun r1 _ hp1 => ?_)
  unfold bI at hi
  refine zr_if_ne (tgt := 10) C dX1_drop_5 (by decide) (by unfold bI; omega) (fun h1 => ?_) (fun h1 => ?_)
  · have hin : 0 ≤ i ∧ i < (n : Int) := by omega
    obtain ⟨i0, hi0⟩ : ∃ i0 : Nat, i = (i0 : Int) := ⟨i.toNat, by omega⟩
    subst hi0
    obtain ⟨n1, hn1⟩ : ∃ n1 : Nat, n = n1 + 1 := ⟨n - 1, by omega⟩
    subst hn1
    have loop : ∀ (N k : Nat) (qx qy : Nat → Int), n1 < k + N → i0 ≤ k → k ≤ n1 → (∀ j, j < n1 + 1 → qx j = (if i0 ≤ j ∧ j < k then px (j + 1) else px j)) → (∀ j, j < n1 + 1 → qy j = (if i0 ≤ j ∧ j < k then py (j + 1) else py j)) → ZW p l e { frames := 1, cells := 0, slots := 0, locals := 21 } s m args below meth c_ 0 0 Q D A 3 (wM g dd ((n1 + 1 : Nat) : Int) pk tp bt fd qx qy) 12 [(2, .int (zi (k : Int))), (0, .ref ((g 0))), (1, .int (zi (i0 : Int)))] [] := by
      intro N
      induction N with
      | zero => intro k qx qy h1 h2 h3; omega
      | succ N ih =>
        intro k qx qy hN hik hk hqx hqy
        refine zr_iload_n C 0 dX1_drop_12 rfl rfl ?_
        refine zr_aload_n C 1 dX1_drop_13 rfl rfl ?_
        refine mg_7 C dX1_drop_14 ?_
        refine zr_iconst C dX1_drop_17 ?_
        refine zr_isub C dX1_drop_18 ?_
        refine zr_icmp_ge (tgt := 56) C dX1_drop_19 (by decide) (by unfold bI; omega) (by unfold bI; omega) (fun h2 => ?_) (fun h2 => ?_)
        · refine zr_aload_n C 1 dX1_drop_56 rfl rfl ?_
          refine zr_dup C dX1_drop_57 rfl ?_
          refine mg_7 C dX1_drop_58 ?_
          refine zr_iconst C dX1_drop_61 ?_
          refine zr_isub C dX1_drop_62 ?_
          refine zr_eqi (y := (n1 : Int)) (by omega) ?_
          refine mp_7 C dX1_drop_63 ?_
          refine zr_aload_n C 1 dX1_drop_66 rfl rfl ?_
          refine mg_7 C dX1_drop_67 ?_
          refine hret (n1, qx, qy) dX1_drop_70 rfl (Or.inr ⟨hin, by omega, rfl, fun j hj => ?_⟩)
          have hj : j < n1 := hj
          show qx j = _ ∧ qy j = _
          rw [hqx j (by omega), hqy j (by omega)]
          by_cases e : j < i0
          · rw [if_neg (by omega), if_pos (by omega), if_neg (by omega), if_pos (by omega)]; exact ⟨rfl, rfl⟩
          · rw [if_pos (by omega), if_neg (by omega), if_pos (by omega), if_neg (by omega)]; exact ⟨rfl, rfl⟩
        · have hk1 : k < n1 := by omega
          have e1 : qx (k + 1) = px (k + 1) := by rw [hqx (k + 1) (by omega), if_neg (by omega)]
          have e2 : qy (k + 1) = py (k + 1) := by rw [hqy (k + 1) (by omega), if_neg (by omega)]
          refine zr_aload_n C 1 dX1_drop_22 rfl rfl ?_
          refine mg_16 C dX1_drop_23 ?_
          refine zr_iload_n C 0 dX1_drop_26 rfl rfl ?_
          refine zr_aload_n C 1 dX1_drop_27 rfl rfl ?_
          refine mg_16 C dX1_drop_28 ?_
          refine zr_iload_n C 0 dX1_drop_31 rfl rfl ?_
          refine zr_iconst C dX1_drop_32 ?_
          refine zr_iadd C dX1_drop_33 ?_
          refine ml_px C (k + 1) (by omega) (by omega) dX1_drop_34 ?_
          refine ms_px C k (by omega) (by omega) dX1_drop_35 ?_
          refine zr_aload_n C 1 dX1_drop_36 rfl rfl ?_
          refine mg_20 C dX1_drop_37 ?_
          refine zr_iload_n C 0 dX1_drop_40 rfl rfl ?_
          refine zr_aload_n C 1 dX1_drop_41 rfl rfl ?_
          refine mg_20 C dX1_drop_42 ?_
          refine zr_iload_n C 0 dX1_drop_45 rfl rfl ?_
          refine zr_iconst C dX1_drop_46 ?_
          refine zr_iadd C dX1_drop_47 ?_
          refine ml_py C (k + 1) (by omega) (by omega) dX1_drop_48 ?_
          refine ms_py C k (by omega) (by omega) dX1_drop_49 ?_
          refine zr_iinc (v := ((k + 1 : Nat) : Int)) (lv' := [(2, .int (zi ((k + 1 : Nat) : Int))), (0, .ref ((g 0))), (1, .int (zi (i0 : Int)))]) C 0 dX1_drop_50 rfl (rfl) (by decide) rfl ?_
          refine zr_goto (tgt := 12) C dX1_drop_53 (by decide) ?_
          refine ih (k + 1) (ld_up qx k (qx (k + 1))) (ld_up qy k (qy (k + 1))) (by omega) (by omega) (by omega) (fun j hj => ?_) (fun j hj => ?_)
          · by_cases e : j = k
            · subst e; rw [ld_up_s, e1, if_pos (by omega)]
            · rw [ld_up_n _ _ e, hqx j hj]
              by_cases e3 : i0 ≤ j ∧ j < k
              · rw [if_pos e3, if_pos (by omega)]
              · rw [if_neg e3, if_neg (by omega)]
          · by_cases e : j = k
            · subst e; rw [ld_up_s, e2, if_pos (by omega)]
            · rw [ld_up_n _ _ e, hqy j hj]
              by_cases e3 : i0 ≤ j ∧ j < k
              · rw [if_pos e3, if_pos (by omega)]
              · rw [if_neg e3, if_neg (by omega)]
    refine zr_iload_n C 1 dX1_drop_10 rfl rfl ?_
    refine zr_istore_n (lv' := [(2, .int (zi (i0 : Int))), (0, .ref ((g 0))), (1, .int (zi (i0 : Int)))]) C dX1_drop_11 rfl (by decide) rfl ?_
    exact loop (n1 + 1) i0 px py (by omega) (by omega) (by omega) (fun j _ => by rw [if_neg (by omega)]) (fun j _ => by rw [if_neg (by omega)])
  · refine zr_iconst C dX1_drop_8 ?_
    exact hret (n, px, py) dX1_drop_9 rfl (Or.inl ⟨by omega, rfl, rfl⟩)
set_option maxHeartbeats 4000000 in
set_option maxRecDepth 100000 in
theorem cM_cost (l : Launch) (D : va_G) (g : Nat → Nat) (dd : Nat → ClassId) (n : Nat) (pk tp bt fd : Int) (px py : Nat → Int) (d : Int) (hk : ld_k pk) (hd : bL d) : ZMl l yX1_cost cX1_cost 3 (some .long) { frames := 0, cells := 0, slots := 0, locals := 0 } D (tysM dd) (wM g dd (n : Int) pk tp bt fd px py) [.ref (g 0), .long (zl d)] (S := Unit) (fun r _ => r = ld_cst pk d) (fun _ => wM g dd (n : Int) pk tp bt fd px py) := by
  refine zr_metl (lv0 := [(0, .ref ((g 0))), (1, .long (zl d))]) (by decide) (Nat.le_of_ble_eq_true rfl) rfl ?_
  intro p e s m args below meth c_ A Q C hret
  have C : ZC p s m args c_ cX1_cost 3 RX1 D (tysM dd) A := C
  unfold bL at hd
  have hk3 : 1 ≤ pk ∧ pk ≤ 3 := by rcases hk with rfl | rfl | rfl <;> omega
  refine zr_lload_n C 1 dX1_cost_0 rfl rfl ?_
  refine zr_lconst0 C dX1_cost_1 ?_
  refine zr_lcmp_le (tgt := 16) C dX1_cost_2 dX1_cost_3 (by decide) (by unfold bL; omega) (by unfold bL; omega) (fun h1 => ?_) (fun h1 => ?_)
  · refine zr_aload_n C 0 dX1_cost_16 rfl rfl ?_
    refine mg_13 C dX1_cost_17 ?_
    refine zr_iconst C dX1_cost_20 ?_
    refine zr_isub C dX1_cost_21 ?_
    refine zr_i2l C dX1_cost_22 (by unfold bI; omega) ?_
    refine zr_lload_n C 1 dX1_cost_23 rfl rfl ?_
    refine zr_lmul C dX1_cost_24 ?_
    exact hret () dX1_cost_25 rfl ((ld_cst_n h1).symm)
  · refine zr_aload_n C 0 dX1_cost_6 rfl rfl ?_
    refine mg_13 C dX1_cost_7 ?_
    refine zr_i2l C dX1_cost_10 (by unfold bI; omega) ?_
    refine zr_lload_n C 1 dX1_cost_11 rfl rfl ?_
    refine zr_lmul C dX1_cost_12 ?_
    refine zr_goto (tgt := 25) C dX1_cost_13 (by decide) ?_
    exact hret () dX1_cost_25 rfl ((ld_cst_p (Int.le_of_lt h1)).symm)
set_option maxHeartbeats 4000000 in
set_option maxRecDepth 100000 in
theorem cM_costOf (l : Launch) (D : va_G) (g : Nat → Nat) (dd : Nat → ClassId) (n : Nat) (pk tp bt fd : Int) (px py : Nat → Int) (i : Nat) (p q : Int) (hok : ld_ok n px py) (hk : ld_k pk) (hi : i < n) (hp : -1000 ≤ p ∧ p ≤ 1000) (hq : -1000 ≤ q ∧ q ≤ 1000) : ZMl l yX1_costOf cX1_costOf 7 (some .long) { frames := 1, cells := 0, slots := 0, locals := 22 } D (tysM dd) (wM g dd (n : Int) pk tp bt fd px py) [.ref (g 0), .int (zi (i : Int)), .int (zi p), .int (zi q)] (S := Unit) (fun r _ => r = ld_ct n px py pk i p q) (fun _ => wM g dd (n : Int) pk tp bt fd px py) := by
  refine zr_metl (lv0 := [(0, .ref ((g 0))), (1, .int (zi (i : Int))), (2, .int (zi p)), (3, .int (zi q))]) (by decide) (Nat.le_of_ble_eq_true rfl) rfl ?_
  intro pr e s m args below meth c_ A Q C hret
  have C : ZC pr s m args c_ cX1_costOf 7 RX1 D (tysM dd) A := C
  obtain ⟨hn, hxy⟩ := hok
  have loop : ∀ (N j : Nat), n < j + N → j ≤ n → ZW pr l e { frames := 1, cells := 0, slots := 0, locals := 22 } s m args below meth c_ 0 0 Q D A 7 (wM g dd (n : Int) pk tp bt fd px py) 6 [(6, .int (zi (j : Int))), (4, .long (zl (ld_sm (fun j => ld_cst pk (q * (py j - py i) - p * (px j - px i))) j))), (0, .ref ((g 0))), (1, .int (zi (i : Int))), (2, .int (zi p)), (3, .int (zi q))] [] := by
    intro N
    induction N with
    | zero => intro j h1 h2; omega
    | succ N ih =>
      intro j hN hj
      refine zr_iload C 0 dX1_costOf_6 rfl ?_
      refine zr_aload_n C 2 dX1_costOf_8 rfl rfl ?_
      refine mg_7 C dX1_costOf_9 ?_
      refine zr_icmp_ge (tgt := 67) C dX1_costOf_12 (by decide) (by unfold bI; omega) (by unfold bI; omega) (fun h1 => ?_) (fun h1 => ?_)
      · have e : n = j := by omega
        subst e
        refine zr_lload C 1 dX1_costOf_67 rfl ?_
        exact hret () dX1_costOf_69 rfl rfl
      · have hj1 : j < n := by omega
        have hbi := hxy i hi
        have hbj := hxy j hj1
        have b1 := ld_prod 1000 40 (a := q) (b := py j - py i) (by omega) (by omega)
        have b2 := ld_prod 1000 40 (a := p) (b := px j - px i) (by omega) (by omega)
        refine zr_lload C 1 dX1_costOf_15 rfl ?_
        refine zr_aload_n C 2 dX1_costOf_17 rfl rfl ?_
        refine zr_iload_n C 5 dX1_costOf_18 rfl rfl ?_
        refine zr_i2l C dX1_costOf_19 (by unfold bI; omega) ?_
        refine zr_aload_n C 2 dX1_costOf_20 rfl rfl ?_
        refine mg_20 C dX1_costOf_21 ?_
        refine zr_iload C 0 dX1_costOf_24 rfl ?_
        refine ml_py C j (by omega) (by omega) dX1_costOf_26 ?_
        refine zr_aload_n C 2 dX1_costOf_27 rfl rfl ?_
        refine mg_20 C dX1_costOf_28 ?_
        refine zr_iload_n C 3 dX1_costOf_31 rfl rfl ?_
        refine ml_py C i (by omega) (by omega) dX1_costOf_32 ?_
        refine zr_isub C dX1_costOf_33 ?_
        refine zr_i2l C dX1_costOf_34 (by unfold bI; omega) ?_
        refine zr_lmul C dX1_costOf_35 ?_
        refine zr_iload_n C 4 dX1_costOf_36 rfl rfl ?_
        refine zr_i2l C dX1_costOf_37 (by unfold bI; omega) ?_
        refine zr_aload_n C 2 dX1_costOf_38 rfl rfl ?_
        refine mg_16 C dX1_costOf_39 ?_
        refine zr_iload C 0 dX1_costOf_42 rfl ?_
        refine ml_px C j (by omega) (by omega) dX1_costOf_44 ?_
        refine zr_aload_n C 2 dX1_costOf_45 rfl rfl ?_
        refine mg_16 C dX1_costOf_46 ?_
        refine zr_iload_n C 3 dX1_costOf_49 rfl rfl ?_
        refine ml_px C i (by omega) (by omega) dX1_costOf_50 ?_
        refine zr_isub C dX1_costOf_51 ?_
        refine zr_i2l C dX1_costOf_52 (by unfold bI; omega) ?_
        refine zr_lmul C dX1_costOf_53 ?_
        refine zr_lsub C dX1_costOf_54 ?_
        refine zr_calll C 1 (cM_cost l D g dd n pk tp bt fd px py (q * (py j - py i) - p * (px j - px i)) hk (by unfold bL; omega)) q241 q243 qs19 q28 q244 (by decide +kernel) ⟨Nat.le_of_ble_eq_true rfl, Nat.le_of_ble_eq_true rfl⟩ ⟨rfl, rfl⟩ rfl rfl rfl rfl (Nat.le_of_ble_eq_true rfl) ⟨Nat.zero_le _, Nat.zero_le _⟩ dX1_costOf_55 rfl (fun r1 _ hp1 => ?_)
        have e1 : ld_sm (fun j => ld_cst pk (q * (py j - py i) - p * (px j - px i))) j + r1 = ld_sm (fun j => ld_cst pk (q * (py j - py i) - p * (px j - px i))) (j + 1) := by rw [ld_sm_s, hp1]
        refine zr_ladd C dX1_costOf_58 ?_
        refine zr_nml (fun sm1 hsm1 => ?_)
        refine zr_lstore (lv' := [(4, .long (zl sm1)), (6, .int (zi (j : Int))), (0, .ref ((g 0))), (1, .int (zi (i : Int))), (2, .int (zi p)), (3, .int (zi q))]) C dX1_costOf_59 (by decide) rfl ?_
        refine zr_iinc (v := ((j + 1 : Nat) : Int)) (lv' := [(6, .int (zi ((j + 1 : Nat) : Int))), (4, .long (zl sm1)), (0, .ref ((g 0))), (1, .int (zi (i : Int))), (2, .int (zi p)), (3, .int (zi q))]) C 1 dX1_costOf_61 rfl (rfl) (by decide) rfl ?_
        refine zr_goto (tgt := 6) C dX1_costOf_64 (by decide) ?_
        subst hsm1
        rw [e1]
        refine zr_lv [0, 1, 2, 3, 4, 5] rfl ?_
        exact ih (j + 1) (by omega) (by omega)
  refine zr_lconst0 C dX1_costOf_0 ?_
  refine zr_lstore (lv' := [(4, .long (zl (ld_sm (fun j => ld_cst pk (q * (py j - py i) - p * (px j - px i))) 0))), (0, .ref ((g 0))), (1, .int (zi (i : Int))), (2, .int (zi p)), (3, .int (zi q))]) C dX1_costOf_1 (by decide) rfl ?_
  refine zr_iconst C dX1_costOf_3 ?_
  refine zr_istore (lv' := [(6, .int (zi ((0 : Nat) : Int))), (4, .long (zl (ld_sm (fun j => ld_cst pk (q * (py j - py i) - p * (px j - px i))) 0))), (0, .ref ((g 0))), (1, .int (zi (i : Int))), (2, .int (zi p)), (3, .int (zi q))]) C dX1_costOf_4 (by decide) rfl ?_
  exact loop (n + 1) 0 (by omega) (by omega)
set_option maxHeartbeats 4000000 in
set_option maxRecDepth 100000 in
theorem cM_run (l : Launch) (D : va_G) (g : Nat → Nat) (dd : Nat → ClassId) (n : Nat) (pk tp bt fd : Int) (px py : Nat → Int) (i j : Nat) (hok : ld_ok n px py) (hi : i < n) (hj : j < n) : ZMi l yX1_run cX1_run 3 (some .int) { frames := 0, cells := 0, slots := 0, locals := 0 } D (tysM dd) (wM g dd (n : Int) pk tp bt fd px py) [.ref (g 0), .int (zi (i : Int)), .int (zi (j : Int))] (S := Unit) (fun r _ => r = ld_kQ (px j - px i)) (fun _ => wM g dd (n : Int) pk tp bt fd px py) := by
  refine zr_meti (lv0 := [(0, .ref ((g 0))), (1, .int (zi (i : Int))), (2, .int (zi (j : Int)))]) (by decide) (Nat.le_of_ble_eq_true rfl) rfl ?_
  intro p e s m args below meth c_ A Q C hret
  have C : ZC p s m args c_ cX1_run 3 RX1 D (tysM dd) A := C
  obtain ⟨hn, hxy⟩ := hok
  have hbi := hxy i hi
  have hbj := hxy j hj
  refine zr_aload_n C 0 dX1_run_0 rfl rfl ?_
  refine mg_16 C dX1_run_1 ?_
  refine zr_iload_n C 2 dX1_run_4 rfl rfl ?_
  refine ml_px C j (by omega) (by omega) dX1_run_5 ?_
  refine zr_aload_n C 0 dX1_run_6 rfl rfl ?_
  refine mg_16 C dX1_run_7 ?_
  refine zr_iload_n C 1 dX1_run_10 rfl rfl ?_
  refine ml_px C i (by omega) (by omega) dX1_run_11 ?_
  refine zr_icmp_le (tgt := 31) C dX1_run_12 (by decide) (by unfold bI; omega) (by unfold bI; omega) (fun h1 => ?_) (fun h1 => ?_)
  · refine zr_aload_n C 0 dX1_run_31 rfl rfl ?_
    refine mg_16 C dX1_run_32 ?_
    refine zr_iload_n C 1 dX1_run_35 rfl rfl ?_
    refine ml_px C i (by omega) (by omega) dX1_run_36 ?_
    refine zr_aload_n C 0 dX1_run_37 rfl rfl ?_
    refine mg_16 C dX1_run_38 ?_
    refine zr_iload_n C 2 dX1_run_41 rfl rfl ?_
    refine ml_px C j (by omega) (by omega) dX1_run_42 ?_
    refine zr_isub C dX1_run_43 ?_
    exact hret () dX1_run_44 rfl (by unfold ld_kQ; rw [if_neg (by omega)]; omega)
  · refine zr_aload_n C 0 dX1_run_15 rfl rfl ?_
    refine mg_16 C dX1_run_16 ?_
    refine zr_iload_n C 2 dX1_run_19 rfl rfl ?_
    refine ml_px C j (by omega) (by omega) dX1_run_20 ?_
    refine zr_aload_n C 0 dX1_run_21 rfl rfl ?_
    refine mg_16 C dX1_run_22 ?_
    refine zr_iload_n C 1 dX1_run_25 rfl rfl ?_
    refine ml_px C i (by omega) (by omega) dX1_run_26 ?_
    refine zr_isub C dX1_run_27 ?_
    refine zr_goto (tgt := 44) C dX1_run_28 (by decide) ?_
    exact hret () dX1_run_44 rfl (by unfold ld_kQ; rw [if_pos (by omega)])
set_option maxHeartbeats 4000000 in
set_option maxRecDepth 100000 in
theorem cM_rise (l : Launch) (D : va_G) (g : Nat → Nat) (dd : Nat → ClassId) (n : Nat) (pk tp bt fd : Int) (px py : Nat → Int) (i j : Nat) (hok : ld_ok n px py) (hi : i < n) (hj : j < n) : ZMi l yX1_rise cX1_rise 3 (some .int) { frames := 0, cells := 0, slots := 0, locals := 0 } D (tysM dd) (wM g dd (n : Int) pk tp bt fd px py) [.ref (g 0), .int (zi (i : Int)), .int (zi (j : Int))] (S := Unit) (fun r _ => r = ld_kP (py j - py i) (px j - px i)) (fun _ => wM g dd (n : Int) pk tp bt fd px py) := by
  refine zr_meti (lv0 := [(0, .ref ((g 0))), (1, .int (zi (i : Int))), (2, .int (zi (j : Int)))]) (by decide) (Nat.le_of_ble_eq_true rfl) rfl ?_
  intro p e s m args below meth c_ A Q C hret
  have C : ZC p s m args c_ cX1_rise 3 RX1 D (tysM dd) A := C
  obtain ⟨hn, hxy⟩ := hok
  have hbi := hxy i hi
  have hbj := hxy j hj
  refine zr_aload_n C 0 dX1_rise_0 rfl rfl ?_
  refine mg_16 C dX1_rise_1 ?_
  refine zr_iload_n C 2 dX1_rise_4 rfl rfl ?_
  refine ml_px C j (by omega) (by omega) dX1_rise_5 ?_
  refine zr_aload_n C 0 dX1_rise_6 rfl rfl ?_
  refine mg_16 C dX1_rise_7 ?_
  refine zr_iload_n C 1 dX1_rise_10 rfl rfl ?_
  refine ml_px C i (by omega) (by omega) dX1_rise_11 ?_
  refine zr_icmp_le (tgt := 31) C dX1_rise_12 (by decide) (by unfold bI; omega) (by unfold bI; omega) (fun h1 => ?_) (fun h1 => ?_)
  · refine zr_aload_n C 0 dX1_rise_31 rfl rfl ?_
    refine mg_20 C dX1_rise_32 ?_
    refine zr_iload_n C 1 dX1_rise_35 rfl rfl ?_
    refine ml_py C i (by omega) (by omega) dX1_rise_36 ?_
    refine zr_aload_n C 0 dX1_rise_37 rfl rfl ?_
    refine mg_20 C dX1_rise_38 ?_
    refine zr_iload_n C 2 dX1_rise_41 rfl rfl ?_
    refine ml_py C j (by omega) (by omega) dX1_rise_42 ?_
    refine zr_isub C dX1_rise_43 ?_
    exact hret () dX1_rise_44 rfl (by unfold ld_kP; rw [if_neg (by omega)]; omega)
  · refine zr_aload_n C 0 dX1_rise_15 rfl rfl ?_
    refine mg_20 C dX1_rise_16 ?_
    refine zr_iload_n C 2 dX1_rise_19 rfl rfl ?_
    refine ml_py C j (by omega) (by omega) dX1_rise_20 ?_
    refine zr_aload_n C 0 dX1_rise_21 rfl rfl ?_
    refine mg_20 C dX1_rise_22 ?_
    refine zr_iload_n C 1 dX1_rise_25 rfl rfl ?_
    refine ml_py C i (by omega) (by omega) dX1_rise_26 ?_
    refine zr_isub C dX1_rise_27 ?_
    refine zr_goto (tgt := 44) C dX1_rise_28 (by decide) ?_
    exact hret () dX1_rise_44 rfl (by unfold ld_kP; rw [if_pos (by omega)])
end
section
/-! LeastDeviationsModel: the search -/
set_option maxHeartbeats 4000000 in
set_option maxRecDepth 100000 in
theorem cM_begin (l : Launch) (D : va_G) (g : Nat → Nat) (dd : Nat → ClassId) (n : Nat) (pk tp bt fd : Int) (px py : Nat → Int)  : ZMv l yX1_begin cX1_begin 1 none { frames := 0, cells := 0, slots := 0, locals := 0 } D (tysM dd) (wM g dd (n : Int) pk tp bt fd px py) [.ref (g 0)] (S := Int × Int × Int) (fun u => u = (0, 1, 0)) (fun u => wM g dd (n : Int) pk u.1 u.2.1 u.2.2 px py) := by
  refine zr_metv (lv0 := [(0, .ref ((g 0)))]) (by decide) (Nat.le_of_ble_eq_true rfl) rfl ?_
  intro p e s m args below meth c_ A Q C hret
  have C : ZC p s m args c_ cX1_begin 1 RX1 D (tysM dd) A := C
  refine zr_aload_n C 0 dX1_begin_0 rfl rfl ?_
  refine zr_iconst C dX1_begin_1 ?_
  refine mp_31 C (Or.inl rfl) dX1_begin_2 ?_
  refine zr_aload_n C 0 dX1_begin_5 rfl rfl ?_
  refine zr_lconst0 C dX1_begin_6 ?_
  refine mp_39 C dX1_begin_7 ?_
  refine zr_aload_n C 0 dX1_begin_10 rfl rfl ?_
  refine zr_lconst1 C dX1_begin_11 ?_
  refine mp_35 C dX1_begin_12 ?_
  exact hret (0, 1, 0) dX1_begin_15 rfl rfl
set_option maxHeartbeats 4000000 in
set_option maxRecDepth 100000 in
theorem cM_look (l : Launch) (D : va_G) (g : Nat → Nat) (dd : Nat → ClassId) (n : Nat) (pk tp bt fd : Int) (px py : Nat → Int) (t b : Int) (hfd : fd = 0 ∨ fd = 1) (htp : 0 ≤ tp ∧ tp ≤ 100000) (hbt : 0 < bt ∧ bt ≤ 40) (ht : 0 ≤ t ∧ t ≤ 100000) (hb : 0 < b ∧ b ≤ 40) : ZMv l yX1_look cX1_look 5 none { frames := 0, cells := 0, slots := 0, locals := 0 } D (tysM dd) (wM g dd (n : Int) pk tp bt fd px py) [.ref (g 0), .long (zl t), .long (zl b)] (S := Int × Int × Int) (fun u => (u = (t, b, 1) ∧ (fd = 0 ∨ t * bt < tp * b)) ∨ (u = (tp, bt, fd) ∧ fd ≠ 0 ∧ tp * b ≤ t * bt)) (fun u => wM g dd (n : Int) pk u.1 u.2.1 u.2.2 px py) := by
  refine zr_metv (lv0 := [(0, .ref ((g 0))), (1, .long (zl t)), (3, .long (zl b))]) (by decide) (Nat.le_of_ble_eq_true rfl) rfl ?_
  intro p e s m args below meth c_ A Q C hret
  have C : ZC p s m args c_ cX1_look 5 RX1 D (tysM dd) A := C
  have b1 := ld_prod 100000 40 (a := t) (b := bt) (by omega) (by omega)
  have b2 := ld_prod 100000 40 (a := tp) (b := b) (by omega) (by omega)
  refine zr_aload_n C 0 dX1_look_0 rfl rfl ?_
  refine mg_31 C dX1_look_1 ?_
  refine zr_if_eq (tgt := 23) C dX1_look_4 (by decide) (by unfold bI; omega) (fun h1 => ?_) (fun h1 => ?_)
  · refine zr_aload_n C 0 dX1_look_23 rfl rfl ?_
    refine zr_iconst C dX1_look_24 ?_
    refine mp_31 C (Or.inr rfl) dX1_look_25 ?_
    refine zr_aload_n C 0 dX1_look_28 rfl rfl ?_
    refine zr_lload_n C 1 dX1_look_29 rfl rfl ?_
    refine mp_39 C dX1_look_30 ?_
    refine zr_aload_n C 0 dX1_look_33 rfl rfl ?_
    refine zr_lload_n C 2 dX1_look_34 rfl rfl ?_
    refine mp_35 C dX1_look_35 ?_
    exact hret (t, b, 1) dX1_look_38 rfl (Or.inl ⟨rfl, Or.inl h1⟩)
  · refine zr_lload_n C 1 dX1_look_7 rfl rfl ?_
    refine zr_aload_n C 0 dX1_look_8 rfl rfl ?_
    refine mg_35 C dX1_look_9 ?_
    refine zr_lmul C dX1_look_12 ?_
    refine zr_aload_n C 0 dX1_look_13 rfl rfl ?_
    refine mg_39 C dX1_look_14 ?_
    refine zr_lload_n C 2 dX1_look_17 rfl rfl ?_
    refine zr_lmul C dX1_look_18 ?_
    refine zr_lcmp_ge (tgt := 38) C dX1_look_19 dX1_look_20 (by decide) (by unfold bL; omega) (by unfold bL; omega) (fun h2 => ?_) (fun h2 => ?_)
    · exact hret (tp, bt, fd) dX1_look_38 rfl (Or.inr ⟨rfl, h1, h2⟩)
    · refine zr_aload_n C 0 dX1_look_23 rfl rfl ?_
      refine zr_iconst C dX1_look_24 ?_
      refine mp_31 C (Or.inr rfl) dX1_look_25 ?_
      refine zr_aload_n C 0 dX1_look_28 rfl rfl ?_
      refine zr_lload_n C 1 dX1_look_29 rfl rfl ?_
      refine mp_39 C dX1_look_30 ?_
      refine zr_aload_n C 0 dX1_look_33 rfl rfl ?_
      refine zr_lload_n C 2 dX1_look_34 rfl rfl ?_
      refine mp_35 C dX1_look_35 ?_
      exact hret (t, b, 1) dX1_look_38 rfl (Or.inl ⟨rfl, Or.inr h2⟩)
set_option maxHeartbeats 4000000 in
set_option maxRecDepth 100000 in
theorem cM_lookThrough (l : Launch) (D : va_G) (g : Nat → Nat) (dd : Nat → ClassId) (n : Nat) (pk tp bt fd : Int) (px py : Nat → Int) (i : Nat) (CC : Int → Int → Prop) (hok : ld_ok n px py) (hk : ld_k pk) (hi : i < n) (hCC : ∀ t b, CC t b → 0 < b) (hlk : ld_lk CC tp bt fd) (htp : 0 ≤ tp ∧ tp ≤ 100000) (hbt : 0 < bt ∧ bt ≤ 40) : ZMv l yX1_lookThrough cX1_lookThrough 8 none { frames := 2, cells := 0, slots := 0, locals := 48 } D (tysM dd) (wM g dd (n : Int) pk tp bt fd px py) [.ref (g 0), .int (zi (i : Int))] (S := Int × Int × Int) (fun u => ld_lk (fun t b => CC t b ∨ ld_cand n px py pk i t b) u.1 u.2.1 u.2.2 ∧ (0 ≤ u.1 ∧ u.1 ≤ 100000) ∧ (0 < u.2.1 ∧ u.2.1 ≤ 40)) (fun u => wM g dd (n : Int) pk u.1 u.2.1 u.2.2 px py) := by
  refine zr_metv (lv0 := [(0, .ref ((g 0))), (1, .int (zi (i : Int)))]) (by decide) (Nat.le_of_ble_eq_true rfl) rfl ?_
  intro p e s m args below meth c_ A Q C hret
  have C : ZC p s m args c_ cX1_lookThrough 8 RX1 D (tysM dd) A := C
  have hn := hok.1
  have hbi := hok.2 i hi
  have loop : ∀ (N j : Nat) (al T Bq f : Int), n < j + N → j ≤ n → ((al = 1 ∧ ∀ z, z < j → px z = px i) ∨ (al = 0 ∧ ∃ z, z < j ∧ px z ≠ px i)) → ld_lk (fun t b => CC t b ∨ ld_cj n px py pk i j t b) T Bq f → (0 ≤ T ∧ T ≤ 100000) → (0 < Bq ∧ Bq ≤ 40) → ZW p l e { frames := 2, cells := 0, slots := 0, locals := 48 } s m args below meth c_ 0 0 Q D A 8 (wM g dd (n : Int) pk T Bq f px py) 4 [(3, .int (zi (j : Int))), (2, .int (zi al)), (0, .ref ((g 0))), (1, .int (zi (i : Int)))] [] := by
    intro N
    induction N with
    | zero => intro j al T Bq f h1 h2; omega
    | succ N ih =>
      intro j al T Bq f hN hj hal hlk2 hT hB
      have hpos : ∀ t b, (CC t b ∨ ld_cj n px py pk i j t b) → 0 < b := fun t b h => by rcases h with h | h; exact hCC t b h; exact ld_cj_pos h
      have h01 := ld_lk_01 hlk2
      refine zr_iload_n C 0 dX1_lookThrough_4 rfl rfl ?_
      refine zr_aload_n C 2 dX1_lookThrough_5 rfl rfl ?_
      refine mg_7 C dX1_lookThrough_6 ?_
      refine zr_icmp_ge (tgt := 71) C dX1_lookThrough_9 (by decide) (by unfold bI; omega) (by unfold bI; omega) (fun h1 => ?_) (fun h1 => ?_)
      · have e : n = j := by omega
        subst e
        have hct := ld_ct_bd hk (p := 0) (q := 1) (P := 1) (Q := 1) hn hi (fun j hj => (hok.2 j hj).1) (fun j hj => (hok.2 j hj).2) (by omega) (by omega)
        refine zr_aload_n C 2 dX1_lookThrough_71 rfl rfl ?_
        refine zr_iload_n C 3 dX1_lookThrough_72 rfl rfl ?_
        refine zr_iconst C dX1_lookThrough_73 ?_
        refine zr_iconst C dX1_lookThrough_74 ?_
        refine zr_calll C 3 (cM_costOf l D g dd n pk T Bq f px py i 0 1 hok hk hi (by omega) (by omega)) q237 q239 qs18 q28 q240 (by decide +kernel) ⟨Nat.le_of_ble_eq_true rfl, Nat.le_of_ble_eq_true rfl⟩ ⟨rfl, rfl⟩ rfl rfl rfl rfl (Nat.le_of_ble_eq_true rfl) ⟨Nat.zero_le _, Nat.zero_le _⟩ dX1_lookThrough_75 rfl (fun r1 _ hp1 => ?_)
        refine zr_lstore_n (lv' := [(3, .long (zl r1)), (2, .int (zi al)), (0, .ref ((g 0))), (1, .int (zi (i : Int)))]) C dX1_lookThrough_78 rfl (by decide) rfl ?_
        rcases hal with ⟨eal, hz⟩ | ⟨eal, hz⟩
        · subst eal
          refine zr_iload_n C 1 dX1_lookThrough_79 rfl rfl ?_
          refine zr_if_eq (tgt := 89) C dX1_lookThrough_80 (by decide) (by unfold bI; omega) (fun h2 => ?_) (fun h2 => ?_)
          · exact absurd h2 (by omega)
          · refine zr_aload_n C 2 dX1_lookThrough_83 rfl rfl ?_
            refine zr_lload_n C 0 dX1_lookThrough_84 rfl rfl ?_
            refine zr_lconst1 C dX1_lookThrough_85 ?_
            refine zr_callv C 2 (cM_look l D g dd n pk T Bq f px py r1 1 h01 hT hB (by omega) (by omega)) q245 q247 qs20 q28 q248 (by decide +kernel) ⟨Nat.le_of_ble_eq_true rfl, Nat.le_of_ble_eq_true rfl⟩ ⟨rfl, rfl⟩ rfl rfl rfl rfl (Nat.le_of_ble_eq_true rfl) ⟨Nat.zero_le _, Nat.zero_le _⟩ dX1_lookThrough_86 rfl (fun u hu => ?_)
            rcases hu with ⟨rfl, hu⟩ | ⟨rfl, hu1, hu2⟩
            · exact hret (r1, 1, 1) dX1_lookThrough_89 rfl ⟨ld_lk_iff (ld_lk_take hlk2 hB.1 (show (0 : Int) < 1 by decide) hpos hu) (fun t b => by rw [hp1]; rw [or_assoc]; exact or_congr Iff.rfl (ld_cj_alone hz t b)), (by omega : 0 ≤ r1 ∧ r1 ≤ 100000), (by decide : (0 : Int) < 1 ∧ (1 : Int) ≤ 40)⟩
            · exact hret (T, Bq, f) dX1_lookThrough_89 rfl ⟨ld_lk_iff (ld_lk_keep hlk2 hu1 hu2) (fun t b => by rw [hp1]; rw [or_assoc]; exact or_congr Iff.rfl (ld_cj_alone hz t b)), hT, hB⟩
        · subst eal
          refine zr_iload_n C 1 dX1_lookThrough_79 rfl rfl ?_
          refine zr_if_eq (tgt := 89) C dX1_lookThrough_80 (by decide) (by unfold bI; omega) (fun h2 => ?_) (fun h2 => ?_)
          · exact hret (T, Bq, f) dX1_lookThrough_89 rfl ⟨ld_lk_iff hlk2 (fun t b => or_congr Iff.rfl (ld_cj_cand hz t b)), hT, hB⟩
          · exact absurd rfl h2
      · have hj1 : j < n := by omega
        have hbj := hok.2 j hj1
        refine zr_aload_n C 2 dX1_lookThrough_12 rfl rfl ?_
        refine mg_16 C dX1_lookThrough_13 ?_
        refine zr_iload_n C 0 dX1_lookThrough_16 rfl rfl ?_
        refine ml_px C j (by omega) (by omega) dX1_lookThrough_17 ?_
        refine zr_aload_n C 2 dX1_lookThrough_18 rfl rfl ?_
        refine mg_16 C dX1_lookThrough_19 ?_
        refine zr_iload_n C 3 dX1_lookThrough_22 rfl rfl ?_
        refine ml_px C i (by omega) (by omega) dX1_lookThrough_23 ?_
        refine zr_icmp_eq (tgt := 65) C dX1_lookThrough_24 (by decide) (by unfold bI; omega) (by unfold bI; omega) (fun h2 => ?_) (fun h2 => ?_)
        · refine zr_iinc (v := ((j + 1 : Nat) : Int)) (lv' := [(3, .int (zi ((j + 1 : Nat) : Int))), (2, .int (zi al)), (0, .ref ((g 0))), (1, .int (zi (i : Int)))]) C 0 dX1_lookThrough_65 rfl (rfl) (by decide) rfl ?_
          refine zr_goto (tgt := 4) C dX1_lookThrough_68 (by decide) ?_
          refine zr_lv [0, 1, 2, 3] rfl ?_
          refine ih (j + 1) al T Bq f (by omega) (by omega) ?_ (ld_lk_iff hlk2 (fun t b => or_congr Iff.rfl (ld_cj_same h2 t b).symm)) hT hB
          rcases hal with ⟨eal, hz⟩ | ⟨eal, z, hz1, hz2⟩
          · refine Or.inl ⟨eal, fun z hz3 => ?_⟩
            by_cases e : z = j
            · subst e; exact h2
            · exact hz z (by omega)
          · exact Or.inr ⟨eal, z, by omega, hz2⟩
        · have hkq : 1 ≤ (ld_kQ (px j - px i)) ∧ (ld_kQ (px j - px i)) ≤ 40 := by unfold ld_kQ; split <;> omega
          have hkp : -40 ≤ (ld_kP (py j - py i) (px j - px i)) ∧ (ld_kP (py j - py i) (px j - px i)) ≤ 40 := by unfold ld_kP; split <;> omega
          have hct := ld_ct_bd hk (p := (ld_kP (py j - py i) (px j - px i))) (q := (ld_kQ (px j - px i))) (P := 40) (Q := 40) hn hi (fun j hj => (hok.2 j hj).1) (fun j hj => (hok.2 j hj).2) (by omega) (by omega)
          refine zr_aload_n C 2 dX1_lookThrough_27 rfl rfl ?_
          refine zr_iload_n C 3 dX1_lookThrough_28 rfl rfl ?_
          refine zr_iload_n C 0 dX1_lookThrough_29 rfl rfl ?_
          refine zr_calli C 2 (cM_rise l D g dd n pk T Bq f px py i j hok hi hj1) q229 q231 qs16 q28 q232 (by decide +kernel) ⟨Nat.le_of_ble_eq_true rfl, Nat.le_of_ble_eq_true rfl⟩ ⟨rfl, rfl⟩ rfl rfl rfl rfl (Nat.le_of_ble_eq_true rfl) ⟨Nat.zero_le _, Nat.zero_le _⟩ dX1_lookThrough_30 rfl (fun r1 _ hp1 => ?_)
          subst hp1
          refine zr_istore (lv' := [(4, .int (zi (ld_kP (py j - py i) (px j - px i)))), (3, .int (zi (j : Int))), (2, .int (zi al)), (0, .ref ((g 0))), (1, .int (zi (i : Int)))]) C dX1_lookThrough_33 (by decide) rfl ?_
          refine zr_aload_n C 3 dX1_lookThrough_35 rfl rfl ?_
          refine zr_iload_n C 4 dX1_lookThrough_36 rfl rfl ?_
          refine zr_iload_n C 1 dX1_lookThrough_37 rfl rfl ?_
          refine zr_calli C 2 (cM_run l D g dd n pk T Bq f px py i j hok hi hj1) q233 q235 qs17 q28 q236 (by decide +kernel) ⟨Nat.le_of_ble_eq_true rfl, Nat.le_of_ble_eq_true rfl⟩ ⟨rfl, rfl⟩ rfl rfl rfl rfl (Nat.le_of_ble_eq_true rfl) ⟨Nat.zero_le _, Nat.zero_le _⟩ dX1_lookThrough_38 rfl (fun r2 _ hp2 => ?_)
          subst hp2
          refine zr_istore (lv' := [(5, .int (zi (ld_kQ (px j - px i)))), (4, .int (zi (ld_kP (py j - py i) (px j - px i)))), (3, .int (zi (j : Int))), (2, .int (zi al)), (0, .ref ((g 0))), (1, .int (zi (i : Int)))]) C dX1_lookThrough_41 (by decide) rfl ?_
          refine zr_aload_n C 4 dX1_lookThrough_43 rfl rfl ?_
          refine zr_iload_n C 5 dX1_lookThrough_44 rfl rfl ?_
          refine zr_iload C 1 dX1_lookThrough_45 rfl ?_
          refine zr_iload C 0 dX1_lookThrough_47 rfl ?_
          refine zr_calll C 3 (cM_costOf l D g dd n pk T Bq f px py i (ld_kP (py j - py i) (px j - px i)) (ld_kQ (px j - px i)) hok hk hi (by omega) (by omega)) q237 q239 qs18 q28 q240 (by decide +kernel) ⟨Nat.le_of_ble_eq_true rfl, Nat.le_of_ble_eq_true rfl⟩ ⟨rfl, rfl⟩ rfl rfl rfl rfl (Nat.le_of_ble_eq_true rfl) ⟨Nat.zero_le _, Nat.zero_le _⟩ dX1_lookThrough_49 rfl (fun r3 _ hp3 => ?_)
          refine zr_lstore (lv' := [(6, .long (zl r3)), (5, .int (zi (ld_kQ (px j - px i)))), (4, .int (zi (ld_kP (py j - py i) (px j - px i)))), (3, .int (zi (j : Int))), (2, .int (zi al)), (0, .ref ((g 0))), (1, .int (zi (i : Int)))]) C dX1_lookThrough_52 (by decide) rfl ?_
          refine zr_aload_n C 5 dX1_lookThrough_54 rfl rfl ?_
          refine zr_lload C 0 dX1_lookThrough_55 rfl ?_
          refine zr_iload C 1 dX1_lookThrough_57 rfl ?_
          refine zr_i2l C dX1_lookThrough_59 (by unfold bI; omega) ?_
          refine zr_callv C 2 (cM_look l D g dd n pk T Bq f px py r3 (ld_kQ (px j - px i)) h01 hT hB (by omega) (by omega)) q245 q247 qs20 q28 q248 (by decide +kernel) ⟨Nat.le_of_ble_eq_true rfl, Nat.le_of_ble_eq_true rfl⟩ ⟨rfl, rfl⟩ rfl rfl rfl rfl (Nat.le_of_ble_eq_true rfl) ⟨Nat.zero_le _, Nat.zero_le _⟩ dX1_lookThrough_60 rfl (fun u hu => ?_)
          refine zr_iconst C dX1_lookThrough_63 ?_
          refine zr_istore_n (lv' := [(2, .int (zi 0)), (6, .long (zl r3)), (5, .int (zi (ld_kQ (px j - px i)))), (4, .int (zi (ld_kP (py j - py i) (px j - px i)))), (3, .int (zi (j : Int))), (0, .ref ((g 0))), (1, .int (zi (i : Int)))]) C dX1_lookThrough_64 rfl (by decide) rfl ?_
          refine zr_iinc (v := ((j + 1 : Nat) : Int)) (lv' := [(3, .int (zi ((j + 1 : Nat) : Int))), (2, .int (zi 0)), (6, .long (zl r3)), (5, .int (zi (ld_kQ (px j - px i)))), (4, .int (zi (ld_kP (py j - py i) (px j - px i)))), (0, .ref ((g 0))), (1, .int (zi (i : Int)))]) C 4 dX1_lookThrough_65 rfl (rfl) (by decide) rfl ?_
          refine zr_goto (tgt := 4) C dX1_lookThrough_68 (by decide) ?_
          refine zr_lv [0, 1, 5, 6] rfl ?_
          have hset : ∀ t b, ((CC t b ∨ ld_cj n px py pk i j t b) ∨ (t = r3 ∧ b = ld_kQ (px j - px i))) ↔ (CC t b ∨ ld_cj n px py pk i (j + 1) t b) := fun t b => by rw [hp3, or_assoc]; exact or_congr Iff.rfl (ld_cj_s h2 t b).symm
          rcases hu with ⟨rfl, hu⟩ | ⟨rfl, hu1, hu2⟩
          · exact ih (j + 1) 0 r3 (ld_kQ (px j - px i)) 1 (by omega) (by omega) (Or.inr ⟨rfl, j, by omega, h2⟩) (ld_lk_iff (ld_lk_take hlk2 hB.1 (by omega) hpos hu) hset) (by omega) (by omega)
          · exact ih (j + 1) 0 T Bq f (by omega) (by omega) (Or.inr ⟨rfl, j, by omega, h2⟩) (ld_lk_iff (ld_lk_keep hlk2 hu1 hu2) hset) hT hB
  refine zr_iconst C dX1_lookThrough_0 ?_
  refine zr_istore_n (lv' := [(2, .int (zi 1)), (0, .ref ((g 0))), (1, .int (zi (i : Int)))]) C dX1_lookThrough_1 rfl (by decide) rfl ?_
  refine zr_iconst C dX1_lookThrough_2 ?_
  refine zr_istore_n (lv' := [(3, .int (zi ((0 : Nat) : Int))), (2, .int (zi 1)), (0, .ref ((g 0))), (1, .int (zi (i : Int)))]) C dX1_lookThrough_3 rfl (by decide) rfl ?_
  exact loop (n + 1) 0 1 tp bt fd (by omega) (by omega) (Or.inl ⟨rfl, fun z h => absurd h (by omega)⟩) (ld_lk_iff hlk (fun t b => ⟨fun h => Or.inl h, fun h => by rcases h with h | ⟨z, h1, h2⟩; exact h; omega⟩)) htp hbt
set_option maxHeartbeats 4000000 in
set_option maxRecDepth 100000 in
theorem cM_least (l : Launch) (D : va_G) (g : Nat → Nat) (dd : Nat → ClassId) (n : Nat) (pk tp bt fd : Int) (px py : Nat → Int) (hok : ld_ok n px py) (hk : ld_k pk) : ZMv l yX1_least cX1_least 2 none { frames := 3, cells := 0, slots := 0, locals := 75 } D (tysM dd) (wM g dd (n : Int) pk tp bt fd px py) [.ref (g 0)] (S := Int × Int × Int) (fun u => ld_min (ld_all n px py pk) u.1 u.2.1 ∧ (0 ≤ u.1 ∧ u.1 ≤ 100000) ∧ (0 < u.2.1 ∧ u.2.1 ≤ 40)) (fun u => wM g dd (n : Int) pk u.1 u.2.1 u.2.2 px py) := by
  refine zr_metv (lv0 := [(0, .ref ((g 0)))]) (by decide) (Nat.le_of_ble_eq_true rfl) rfl ?_
  intro p e s m args below meth c_ A Q C hret
  have C : ZC p s m args c_ cX1_least 2 RX1 D (tysM dd) A := C
  have hn := hok.1
  have loop : ∀ (N i : Nat) (T Bq f : Int), n < i + N → i ≤ n → ld_lk (fun t b => ∃ z, z < i ∧ ld_cand n px py pk z t b) T Bq f → (0 ≤ T ∧ T ≤ 100000) → (0 < Bq ∧ Bq ≤ 40) → ZW p l e { frames := 3, cells := 0, slots := 0, locals := 75 } s m args below meth c_ 0 0 Q D A 2 (wM g dd (n : Int) pk T Bq f px py) 6 [(1, .int (zi (i : Int))), (0, .ref ((g 0)))] [] := by
    intro N
    induction N with
    | zero => intro i T Bq f h1 h2; omega
    | succ N ih =>
      intro i T Bq f hN hi hlk hT hB
      refine zr_iload_n C 0 dX1_least_6 rfl rfl ?_
      refine zr_aload_n C 1 dX1_least_7 rfl rfl ?_
      refine mg_7 C dX1_least_8 ?_
      refine zr_icmp_ge (tgt := 25) C dX1_least_11 (by decide) (by unfold bI; omega) (by unfold bI; omega) (fun h1 => ?_) (fun h1 => ?_)
      · have e : n = i := by omega
        subst e
        exact hret (T, Bq, f) dX1_least_25 rfl ⟨ld_lk_min hlk hB.1 hT.1, hT, hB⟩
      · have hi1 : i < n := by omega
        refine zr_aload_n C 1 dX1_least_14 rfl rfl ?_
        refine zr_iload_n C 0 dX1_least_15 rfl rfl ?_
        refine zr_callv C 1 (cM_lookThrough l D g dd n pk T Bq f px py i (fun t b => ∃ z, z < i ∧ ld_cand n px py pk z t b) hok hk hi1 (fun t b h => by obtain ⟨z, -, h⟩ := h; exact ld_cand_pos h) hlk hT hB) q225 q227 qs15 q28 q228 (by decide +kernel) ⟨Nat.le_of_ble_eq_true rfl, Nat.le_of_ble_eq_true rfl⟩ ⟨rfl, rfl⟩ rfl rfl rfl rfl (Nat.le_of_ble_eq_true rfl) ⟨Nat.zero_le _, Nat.zero_le _⟩ dX1_least_16 rfl (fun u hu => ?_)
        obtain ⟨hu1, hu2, hu3⟩ := hu
        refine zr_iinc (v := ((i + 1 : Nat) : Int)) (lv' := [(1, .int (zi ((i + 1 : Nat) : Int))), (0, .ref ((g 0)))]) C 0 dX1_least_19 rfl (rfl) (by decide) rfl ?_
        refine zr_goto (tgt := 6) C dX1_least_22 (by decide) ?_
        refine zr_lv [0, 1] rfl ?_
        refine ih (i + 1) u.1 u.2.1 u.2.2 (by omega) (by omega) (ld_lk_iff hu1 (fun t b => ?_)) hu2 hu3
        constructor
        · rintro (⟨z, h1, h2⟩ | h)
          · exact ⟨z, by omega, h2⟩
          · exact ⟨i, by omega, h⟩
        · rintro ⟨z, h1, h2⟩
          by_cases e : z = i
          · subst e; exact Or.inr h2
          · exact Or.inl ⟨z, by omega, h2⟩
  refine zr_aload_n C 0 dX1_least_0 rfl rfl ?_
  refine zr_callv C 0 (cM_begin l D g dd n pk tp bt fd px py) q221 q223 qs14 q28 q224 (by decide +kernel) ⟨Nat.le_of_ble_eq_true rfl, Nat.le_of_ble_eq_true rfl⟩ ⟨rfl, rfl⟩ rfl rfl rfl rfl (Nat.le_of_ble_eq_true rfl) ⟨Nat.zero_le _, Nat.zero_le _⟩ dX1_least_1 rfl (fun u hu => ?_)
  subst hu
  refine zr_iconst C dX1_least_4 ?_
  refine zr_istore_n (lv' := [(1, .int (zi ((0 : Nat) : Int))), (0, .ref ((g 0)))]) C dX1_least_5 rfl (by decide) rfl ?_
  exact loop (n + 1) 0 0 1 0 (by omega) (by omega) (Or.inl ⟨rfl, rfl, rfl, fun t b h => by obtain ⟨z, h, -⟩ := h; omega⟩) (by omega) (by omega)
set_option maxHeartbeats 4000000 in
set_option maxRecDepth 100000 in
theorem cM_common (l : Launch) (D : va_G) (g : Nat → Nat) (dd : Nat → ClassId) (n : Nat) (pk tp bt fd : Int) (px py : Nat → Int) (htp : 0 ≤ tp ∧ tp ≤ 100000) (hbt : 0 < bt ∧ bt ≤ 40) : ZMl l yX1_common cX1_common 8 (some .long) { frames := 0, cells := 0, slots := 0, locals := 0 } D (tysM dd) (wM g dd (n : Int) pk tp bt fd px py) [.ref (g 0)] (S := Unit) (fun r _ => r = ((Nat.gcd tp.toNat bt.toNat : Nat) : Int)) (fun _ => wM g dd (n : Int) pk tp bt fd px py) := by
  refine zr_metl (lv0 := [(0, .ref ((g 0)))]) (by decide) (Nat.le_of_ble_eq_true rfl) rfl ?_
  intro p e s m args below meth c_ A Q C hret
  have C : ZC p s m args c_ cX1_common 8 RX1 D (tysM dd) A := C
  obtain ⟨T, hT⟩ : ∃ T : Nat, tp = (T : Int) := ⟨tp.toNat, by omega⟩
  obtain ⟨Bm, hB⟩ : ∃ Bm : Nat, bt = (Bm : Int) := ⟨bt.toNat, by omega⟩
  subst hT hB
  simp only [Int.toNat_natCast] at hret
  have loop : ∀ (N k x y : Nat), 90 < k + N → k ≤ 90 → x ≤ 100000 → y ≤ 100000 → 0 < y → ((k = 0 ∧ y ≤ 40) ∨ x = 0 ∨ x + k ≤ 41) → Nat.gcd x y = Nat.gcd T Bm → ZW p l e { frames := 0, cells := 0, slots := 0, locals := 0 } s m args below meth c_ 0 0 Q D A 8 (wM g dd (n : Int) pk (T : Int) (Bm : Int) fd px py) 13 [(5, .int (zi (k : Int))), (3, .long (zl (y : Int))), (1, .long (zl (x : Int))), (0, .ref ((g 0)))] [] := by
    intro N
    induction N with
    | zero => intro k x y h1 h2; omega
    | succ N ih =>
      intro k x y hN hk hx hy hy0 hm hg
      refine zr_iload C 0 dX1_common_13 rfl ?_
      refine zr_bipush C dX1_common_15 (by decide) ?_
      refine zr_icmp_ge (tgt := 52) C dX1_common_17 (by decide) (by unfold bI; omega) (by unfold bI; omega) (fun h1 => ?_) (fun h1 => ?_)
      · have hx0 : x = 0 := by omega
        subst hx0
        rw [Nat.gcd_zero_left] at hg
        refine zr_lload_n C 1 dX1_common_52 rfl rfl ?_
        refine zr_lconst1 C dX1_common_53 ?_
        refine zr_lcmp_ge (tgt := 62) C dX1_common_54 dX1_common_55 (by decide) (by unfold bL; omega) (by unfold bL; omega) (fun h2 => ?_) (fun h2 => ?_)
        · refine zr_lload_n C 1 dX1_common_62 rfl rfl ?_
          exact hret () dX1_common_63 rfl (by rw [hg])
        · exact absurd h2 (by omega)
      · refine zr_lload_n C 2 dX1_common_20 rfl rfl ?_
        refine zr_lconst0 C dX1_common_21 ?_
        refine zr_lcmp_eq (tgt := 46) C dX1_common_22 dX1_common_23 (by decide) (by unfold bL; omega) (by unfold bL; omega) (fun h2 => ?_) (fun h2 => ?_)
        · refine zr_iinc (v := ((k + 1 : Nat) : Int)) (lv' := [(5, .int (zi ((k + 1 : Nat) : Int))), (3, .long (zl (y : Int))), (1, .long (zl (x : Int))), (0, .ref ((g 0)))]) C 0 dX1_common_46 rfl (rfl) (by decide) rfl ?_
          refine zr_goto (tgt := 13) C dX1_common_49 (by decide) ?_
          refine zr_lv [0, 1, 2, 3] rfl ?_
          exact ih (k + 1) x y (by omega) (by omega) hx hy hy0 (by omega) hg
        · have hm1 := Nat.mod_lt y (show 0 < x by omega)
          have hm3 := Nat.mod_le y x
          have hm2 : ((y : Int)).tmod (x : Int) = ((y % x : Nat) : Int) := (Int.ofNat_tmod y x).symm
          refine zr_lload_n C 1 dX1_common_26 rfl rfl ?_
          refine zr_lload_n C 2 dX1_common_27 rfl rfl ?_
          refine zr_lconst0 C dX1_common_28 ?_
          refine zr_lcmp_ne (tgt := 37) C dX1_common_29 dX1_common_30 (by decide) (by unfold bL; omega) (by unfold bL; omega) (fun h3 => ?_) (fun h3 => ?_)
          · refine zr_lload_n C 2 dX1_common_37 rfl rfl ?_
            refine zr_lrem C dX1_common_38 (by omega) (by unfold bL; omega) (by unfold bL; omega) ?_
            rw [hm2]
            refine zr_lstore (lv' := [(6, .long (zl ((y % x : Nat) : Int))), (5, .int (zi (k : Int))), (3, .long (zl (y : Int))), (1, .long (zl (x : Int))), (0, .ref ((g 0)))]) C dX1_common_39 (by decide) rfl ?_
            refine zr_lload_n C 3 dX1_common_41 rfl rfl ?_
            refine zr_lstore_n (lv' := [(3, .long (zl (x : Int))), (6, .long (zl ((y % x : Nat) : Int))), (5, .int (zi (k : Int))), (1, .long (zl (x : Int))), (0, .ref ((g 0)))]) C dX1_common_42 rfl (by decide) rfl ?_
            refine zr_lload C 1 dX1_common_43 rfl ?_
            refine zr_lstore_n (lv' := [(1, .long (zl ((y % x : Nat) : Int))), (3, .long (zl (x : Int))), (6, .long (zl ((y % x : Nat) : Int))), (5, .int (zi (k : Int))), (0, .ref ((g 0)))]) C dX1_common_45 rfl (by decide) rfl ?_
            refine zr_iinc (v := ((k + 1 : Nat) : Int)) (lv' := [(5, .int (zi ((k + 1 : Nat) : Int))), (1, .long (zl ((y % x : Nat) : Int))), (3, .long (zl (x : Int))), (6, .long (zl ((y % x : Nat) : Int))), (0, .ref ((g 0)))]) C 3 dX1_common_46 rfl (rfl) (by decide) rfl ?_
            refine zr_goto (tgt := 13) C dX1_common_49 (by decide) ?_
            refine zr_lv [0, 2, 1, 4] rfl ?_
            exact ih (k + 1) (y % x) x (by omega) (by omega) (by omega) (by omega) (by omega) (by omega) (by rw [ld_gcd_step]; exact hg)
          · exact absurd h3 h2
  refine zr_aload_n C 0 dX1_common_0 rfl rfl ?_
  refine mg_39 C dX1_common_1 ?_
  refine zr_lstore_n (lv' := [(1, .long (zl (T : Int))), (0, .ref ((g 0)))]) C dX1_common_4 rfl (by decide) rfl ?_
  refine zr_aload_n C 1 dX1_common_5 rfl rfl ?_
  refine mg_35 C dX1_common_6 ?_
  refine zr_lstore_n (lv' := [(3, .long (zl (Bm : Int))), (1, .long (zl (T : Int))), (0, .ref ((g 0)))]) C dX1_common_9 rfl (by decide) rfl ?_
  refine zr_iconst C dX1_common_10 ?_
  refine zr_istore (lv' := [(5, .int (zi ((0 : Nat) : Int))), (3, .long (zl (Bm : Int))), (1, .long (zl (T : Int))), (0, .ref ((g 0)))]) C dX1_common_11 (by decide) rfl ?_
  exact loop 91 0 T Bm (by omega) (by omega) (by omega) (by omega) (by omega) (by omega) rfl
set_option maxHeartbeats 4000000 in
set_option maxRecDepth 100000 in
theorem cM_upper (l : Launch) (D : va_G) (g : Nat → Nat) (dd : Nat → ClassId) (n : Nat) (pk tp bt fd : Int) (px py : Nat → Int) (htp : 0 ≤ tp ∧ tp ≤ 100000) (hbt : 0 < bt ∧ bt ≤ 40) : ZMi l yX1_upper cX1_upper 3 (some .int) { frames := 1, cells := 0, slots := 0, locals := 27 } D (tysM dd) (wM g dd (n : Int) pk tp bt fd px py) [.ref (g 0)] (S := Unit) (fun r _ => r = ld_rt tp bt) (fun _ => wM g dd (n : Int) pk tp bt fd px py) := by
  refine zr_meti (lv0 := [(0, .ref ((g 0)))]) (by decide) (Nat.le_of_ble_eq_true rfl) rfl ?_
  intro p e s m args below meth c_ A Q C hret
  have C : ZC p s m args c_ cX1_upper 3 RX1 D (tysM dd) A := C
  have hg0 := Nat.gcd_pos_of_pos_right tp.toNat (n := bt.toNat) (by omega)
  have hg1 := Nat.gcd_le_right tp.toNat (n := bt.toNat) (by omega)
  refine zr_aload_n C 0 dX1_upper_0 rfl rfl ?_
  refine zr_calll C 0 (cM_common l D g dd n pk tp bt fd px py htp hbt) q253 q255 qs22 q28 q256 (by decide +kernel) ⟨Nat.le_of_ble_eq_true rfl, Nat.le_of_ble_eq_true rfl⟩ ⟨rfl, rfl⟩ rfl rfl rfl rfl (Nat.le_of_ble_eq_true rfl) ⟨Nat.zero_le _, Nat.zero_le _⟩ dX1_upper_1 rfl (fun r1 _ hp1 => ?_)
  subst hp1
  refine zr_lstore_n (lv' := [(1, .long (zl ((Nat.gcd tp.toNat bt.toNat : Nat) : Int))), (0, .ref ((g 0)))]) C dX1_upper_4 rfl (by decide) rfl ?_
  refine zr_aload_n C 1 dX1_upper_5 rfl rfl ?_
  refine mg_39 C dX1_upper_6 ?_
  refine zr_lload_n C 0 dX1_upper_9 rfl rfl ?_
  refine zr_ldiv C dX1_upper_10 (by omega) (by unfold bL; omega) (by unfold bL; omega) ?_
  refine zr_l2i C dX1_upper_11 ?_
  refine hret () dX1_upper_12 rfl ?_
  unfold ld_rt
  have e : tp = ((tp.toNat : Nat) : Int) := by omega
  exact (congrArg (fun z => Int.tdiv z ((Nat.gcd tp.toNat bt.toNat : Nat) : Int)) e).trans (Int.ofNat_tdiv tp.toNat (Nat.gcd tp.toNat bt.toNat)).symm
set_option maxHeartbeats 4000000 in
set_option maxRecDepth 100000 in
theorem cM_lower (l : Launch) (D : va_G) (g : Nat → Nat) (dd : Nat → ClassId) (n : Nat) (pk tp bt fd : Int) (px py : Nat → Int) (htp : 0 ≤ tp ∧ tp ≤ 100000) (hbt : 0 < bt ∧ bt ≤ 40) : ZMi l yX1_lower cX1_lower 3 (some .int) { frames := 1, cells := 0, slots := 0, locals := 27 } D (tysM dd) (wM g dd (n : Int) pk tp bt fd px py) [.ref (g 0)] (S := Unit) (fun r _ => r = ld_rb tp bt) (fun _ => wM g dd (n : Int) pk tp bt fd px py) := by
  refine zr_meti (lv0 := [(0, .ref ((g 0)))]) (by decide) (Nat.le_of_ble_eq_true rfl) rfl ?_
  intro p e s m args below meth c_ A Q C hret
  have C : ZC p s m args c_ cX1_lower 3 RX1 D (tysM dd) A := C
  have hg0 := Nat.gcd_pos_of_pos_right tp.toNat (n := bt.toNat) (by omega)
  have hg1 := Nat.gcd_le_right tp.toNat (n := bt.toNat) (by omega)
  refine zr_aload_n C 0 dX1_lower_0 rfl rfl ?_
  refine zr_calll C 0 (cM_common l D g dd n pk tp bt fd px py htp hbt) q253 q255 qs22 q28 q256 (by decide +kernel) ⟨Nat.le_of_ble_eq_true rfl, Nat.le_of_ble_eq_true rfl⟩ ⟨rfl, rfl⟩ rfl rfl rfl rfl (Nat.le_of_ble_eq_true rfl) ⟨Nat.zero_le _, Nat.zero_le _⟩ dX1_lower_1 rfl (fun r1 _ hp1 => ?_)
  subst hp1
  refine zr_lstore_n (lv' := [(1, .long (zl ((Nat.gcd tp.toNat bt.toNat : Nat) : Int))), (0, .ref ((g 0)))]) C dX1_lower_4 rfl (by decide) rfl ?_
  refine zr_aload_n C 1 dX1_lower_5 rfl rfl ?_
  refine mg_35 C dX1_lower_6 ?_
  refine zr_lload_n C 0 dX1_lower_9 rfl rfl ?_
  refine zr_ldiv C dX1_lower_10 (by omega) (by unfold bL; omega) (by unfold bL; omega) ?_
  refine zr_l2i C dX1_lower_11 ?_
  refine hret () dX1_lower_12 rfl ?_
  unfold ld_rb
  have e : bt = ((bt.toNat : Nat) : Int) := by omega
  exact (congrArg (fun z => Int.tdiv z ((Nat.gcd tp.toNat bt.toNat : Nat) : Int)) e).trans (Int.ofNat_tdiv bt.toNat (Nat.gcd tp.toNat bt.toNat)).symm
end
section
/-! LeastDeviationsModel: the answers -/
set_option maxHeartbeats 4000000 in
set_option maxRecDepth 100000 in
theorem cM_isSlope (l : Launch) (D : va_G) (g : Nat → Nat) (dd : Nat → ClassId) (n : Nat) (pk tp bt fd : Int) (px py : Nat → Int) (p q : Int) (hp : bI p) (hq : bI q) : ZMi l yX1_isSlope cX1_isSlope 3 (some .boolean) { frames := 0, cells := 0, slots := 0, locals := 0 } D (tysM dd) (wM g dd (n : Int) pk tp bt fd px py) [.ref (g 0), .int (zi p), .int (zi q)] (S := Unit) (fun r _ => (r = 1 ∧ ((-1000 ≤ p ∧ p ≤ 1000) ∧ (1 ≤ q ∧ q ≤ 40))) ∨ (r = 0 ∧ ¬ ((-1000 ≤ p ∧ p ≤ 1000) ∧ (1 ≤ q ∧ q ≤ 40)))) (fun _ => wM g dd (n : Int) pk tp bt fd px py) := by
  refine zr_metz (lv0 := [(0, .ref ((g 0))), (1, .int (zi p)), (2, .int (zi q))]) (by decide) (Nat.le_of_ble_eq_true rfl) rfl ?_
  intro pr e s m args below meth c_ A Q C hret
  have C : ZC pr s m args c_ cX1_isSlope 3 RX1 D (tysM dd) A := C
  unfold bI at hp hq
  refine zr_iload_n C 1 dX1_isSlope_0 rfl rfl ?_
  refine zr_sipush (v := (-1000)) C dX1_isSlope_1 rfl ?_
  refine zr_icmp_lt (tgt := 29) C dX1_isSlope_4 (by decide) (by unfold bI; omega) (by unfold bI; omega) (fun h1 => ?_) (fun h1 => ?_)
  · refine zr_iconst C dX1_isSlope_29 ?_
    exact hret () dX1_isSlope_30 (Or.inl rfl) rfl (Or.inr ⟨rfl, by omega⟩)
  · refine zr_iload_n C 1 dX1_isSlope_7 rfl rfl ?_
    refine zr_sipush (v := 1000) C dX1_isSlope_8 rfl ?_
    refine zr_icmp_gt (tgt := 29) C dX1_isSlope_11 (by decide) (by unfold bI; omega) (by unfold bI; omega) (fun h2 => ?_) (fun h2 => ?_)
    · refine zr_iconst C dX1_isSlope_29 ?_
      exact hret () dX1_isSlope_30 (Or.inl rfl) rfl (Or.inr ⟨rfl, by omega⟩)
    · refine zr_iload_n C 2 dX1_isSlope_14 rfl rfl ?_
      refine zr_iconst C dX1_isSlope_15 ?_
      refine zr_icmp_lt (tgt := 29) C dX1_isSlope_16 (by decide) (by unfold bI; omega) (by unfold bI; omega) (fun h3 => ?_) (fun h3 => ?_)
      · refine zr_iconst C dX1_isSlope_29 ?_
        exact hret () dX1_isSlope_30 (Or.inl rfl) rfl (Or.inr ⟨rfl, by omega⟩)
      · refine zr_iload_n C 2 dX1_isSlope_19 rfl rfl ?_
        refine zr_bipush C dX1_isSlope_20 (by decide) ?_
        refine zr_icmp_gt (tgt := 29) C dX1_isSlope_22 (by decide) (by unfold bI; omega) (by unfold bI; omega) (fun h4 => ?_) (fun h4 => ?_)
        · refine zr_iconst C dX1_isSlope_29 ?_
          exact hret () dX1_isSlope_30 (Or.inl rfl) rfl (Or.inr ⟨rfl, by omega⟩)
        · refine zr_iconst C dX1_isSlope_25 ?_
          refine zr_goto (tgt := 30) C dX1_isSlope_26 (by decide) ?_
          exact hret () dX1_isSlope_30 (Or.inr rfl) rfl (Or.inl ⟨rfl, by omega⟩)
set_option maxHeartbeats 4000000 in
set_option maxRecDepth 100000 in
theorem cM_with (l : Launch) (D : va_G) (g : Nat → Nat) (dd : Nat → ClassId) (n : Nat) (pk tp bt fd : Int) (px py : Nat → Int) (p q : Int) (hok : ld_ok n px py) (hk : ld_k pk) (hp : -1000 ≤ p ∧ p ≤ 1000) (hq : 1 ≤ q ∧ q ≤ 40) : ZMl l yX1_with cX1_with 8 (some .long) { frames := 2, cells := 0, slots := 0, locals := 48 } D (tysM dd) (wM g dd (n : Int) pk tp bt fd px py) [.ref (g 0), .int (zi p), .int (zi q)] (S := Unit) (fun r _ => ld_wmin n px py pk p q r ∧ (0 ≤ r ∧ r ≤ 998400)) (fun _ => wM g dd (n : Int) pk tp bt fd px py) := by
  refine zr_metl (lv0 := [(0, .ref ((g 0))), (1, .int (zi p)), (2, .int (zi q))]) (by decide) (Nat.le_of_ble_eq_true rfl) rfl ?_
  intro pr e s m args below meth c_ A Q C hret
  have C : ZC pr s m args c_ cX1_with 8 RX1 D (tysM dd) A := C
  have hn := hok.1
  have hct : ∀ i, i < n → 0 ≤ ld_ct n px py pk i p q ∧ ld_ct n px py pk i p q ≤ 998400 := fun i hi => by
    have := ld_ct_bd hk (p := p) (q := q) (P := 1000) (Q := 40) hn hi (fun j hj => (hok.2 j hj).1) (fun j hj => (hok.2 j hj).2) (by omega) (by omega)
    omega
  have loop : ∀ (N i : Nat) (b : Int), n < i + N → i ≤ n → ((i = 0 ∧ b = -1) ∨ (0 < i ∧ (∃ z, z < i ∧ b = ld_ct n px py pk z p q) ∧ ∀ z, z < i → b ≤ ld_ct n px py pk z p q)) → ZW pr l e { frames := 2, cells := 0, slots := 0, locals := 48 } s m args below meth c_ 0 0 Q D A 8 (wM g dd (n : Int) pk tp bt fd px py) 7 [(5, .int (zi (i : Int))), (3, .long (zl b)), (0, .ref ((g 0))), (1, .int (zi p)), (2, .int (zi q))] [] := by
    intro N
    induction N with
    | zero => intro i b h1 h2; omega
    | succ N ih =>
      intro i b hN hi hb
      have hbb : -1 ≤ b ∧ b ≤ 998400 := by
        rcases hb with ⟨-, h⟩ | ⟨h0, ⟨z, hz, h⟩, -⟩
        · omega
        · have := hct z (by omega); omega
      refine zr_iload C 0 dX1_with_7 rfl ?_
      refine zr_aload_n C 2 dX1_with_9 rfl rfl ?_
      refine mg_7 C dX1_with_10 ?_
      refine zr_icmp_ge (tgt := 48) C dX1_with_13 (by decide) (by unfold bI; omega) (by unfold bI; omega) (fun h1 => ?_) (fun h1 => ?_)
      · have e : n = i := by omega
        subst e
        refine zr_lload_n C 1 dX1_with_48 rfl rfl ?_
        refine zr_lconst0 C dX1_with_49 ?_
        refine zr_lcmp_ge (tgt := 58) C dX1_with_50 dX1_with_51 (by decide) (by unfold bL; omega) (by unfold bL; omega) (fun h2 => ?_) (fun h2 => ?_)
        · refine zr_lload_n C 1 dX1_with_58 rfl rfl ?_
          refine hret () dX1_with_59 rfl ⟨⟨fun h => ?_, fun h => ?_⟩, by omega⟩
          · omega
          · rcases hb with ⟨h3, -⟩ | ⟨-, h3⟩
            · omega
            · exact h3
        · refine zr_lconst0 C dX1_with_54 ?_
          refine zr_goto (tgt := 59) C dX1_with_55 (by decide) ?_
          refine hret () dX1_with_59 rfl ⟨⟨fun _ => rfl, fun h => ?_⟩, by omega⟩
          rcases hb with ⟨h3, -⟩ | ⟨-, ⟨z, h3, h4⟩, -⟩
          · omega
          · have := hct z h3; omega
      · have hi1 : i < n := by omega
        have hc := hct i hi1
        refine zr_aload_n C 2 dX1_with_16 rfl rfl ?_
        refine zr_iload C 0 dX1_with_17 rfl ?_
        refine zr_iload_n C 3 dX1_with_19 rfl rfl ?_
        refine zr_iload_n C 4 dX1_with_20 rfl rfl ?_
        refine zr_calll C 3 (cM_costOf l D g dd n pk tp bt fd px py i p q hok hk hi1 (by omega) (by omega)) q237 q239 qs18 q28 q240 (by decide +kernel) ⟨Nat.le_of_ble_eq_true rfl, Nat.le_of_ble_eq_true rfl⟩ ⟨rfl, rfl⟩ rfl rfl rfl rfl (Nat.le_of_ble_eq_true rfl) ⟨Nat.zero_le _, Nat.zero_le _⟩ dX1_with_21 rfl (fun r1 _ hp1 => ?_)
        refine zr_lstore (lv' := [(6, .long (zl r1)), (5, .int (zi (i : Int))), (3, .long (zl b)), (0, .ref ((g 0))), (1, .int (zi p)), (2, .int (zi q))]) C dX1_with_24 (by decide) rfl ?_
        refine zr_lload_n C 2 dX1_with_26 rfl rfl ?_
        refine zr_lconst0 C dX1_with_27 ?_
        refine zr_lcmp_lt (tgt := 39) C dX1_with_28 dX1_with_29 (by decide) (by unfold bL; omega) (by unfold bL; omega) (fun h2 => ?_) (fun h2 => ?_)
        · refine zr_lload C 0 dX1_with_39 rfl ?_
          refine zr_lstore_n (lv' := [(3, .long (zl r1)), (6, .long (zl r1)), (5, .int (zi (i : Int))), (0, .ref ((g 0))), (1, .int (zi p)), (2, .int (zi q))]) C dX1_with_41 rfl (by decide) rfl ?_
          refine zr_iinc (v := ((i + 1 : Nat) : Int)) (lv' := [(5, .int (zi ((i + 1 : Nat) : Int))), (3, .long (zl r1)), (6, .long (zl r1)), (0, .ref ((g 0))), (1, .int (zi p)), (2, .int (zi q))]) C 2 dX1_with_42 rfl (rfl) (by decide) rfl ?_
          refine zr_goto (tgt := 7) C dX1_with_45 (by decide) ?_
          refine zr_lv [0, 1, 3, 4, 5] rfl ?_
          refine ih (i + 1) r1 (by omega) (by omega) (Or.inr ⟨by omega, ⟨i, by omega, hp1⟩, fun z hz => ?_⟩)
          by_cases e : z = i
          · subst e; omega
          · rcases hb with ⟨h3, -⟩ | ⟨-, ⟨z1, h3, h4⟩, h5⟩
            · omega
            · have := hct z1 (by omega); omega
        · have hb2 : 0 < i ∧ (∃ z, z < i ∧ b = ld_ct n px py pk z p q) ∧ ∀ z, z < i → b ≤ ld_ct n px py pk z p q := by rcases hb with ⟨h3, h4⟩ | h; omega; exact h
          obtain ⟨h3, ⟨z1, h4, h5⟩, h6⟩ := hb2
          refine zr_lload C 0 dX1_with_32 rfl ?_
          refine zr_lload_n C 2 dX1_with_34 rfl rfl ?_
          refine zr_lcmp_ge (tgt := 42) C dX1_with_35 dX1_with_36 (by decide) (by unfold bL; omega) (by unfold bL; omega) (fun h7 => ?_) (fun h7 => ?_)
          · refine zr_iinc (v := ((i + 1 : Nat) : Int)) (lv' := [(5, .int (zi ((i + 1 : Nat) : Int))), (6, .long (zl r1)), (3, .long (zl b)), (0, .ref ((g 0))), (1, .int (zi p)), (2, .int (zi q))]) C 1 dX1_with_42 rfl (rfl) (by decide) rfl ?_
            refine zr_goto (tgt := 7) C dX1_with_45 (by decide) ?_
            refine zr_lv [0, 2, 3, 4, 5] rfl ?_
            refine ih (i + 1) b (by omega) (by omega) (Or.inr ⟨by omega, ⟨z1, by omega, h5⟩, fun z hz => ?_⟩)
            by_cases e : z = i
            · subst e; omega
            · exact h6 z (by omega)
          · refine zr_lload C 0 dX1_with_39 rfl ?_
            refine zr_lstore_n (lv' := [(3, .long (zl r1)), (6, .long (zl r1)), (5, .int (zi (i : Int))), (0, .ref ((g 0))), (1, .int (zi p)), (2, .int (zi q))]) C dX1_with_41 rfl (by decide) rfl ?_
            refine zr_iinc (v := ((i + 1 : Nat) : Int)) (lv' := [(5, .int (zi ((i + 1 : Nat) : Int))), (3, .long (zl r1)), (6, .long (zl r1)), (0, .ref ((g 0))), (1, .int (zi p)), (2, .int (zi q))]) C 2 dX1_with_42 rfl (rfl) (by decide) rfl ?_
            refine zr_goto (tgt := 7) C dX1_with_45 (by decide) ?_
            refine zr_lv [0, 1, 3, 4, 5] rfl ?_
            refine ih (i + 1) r1 (by omega) (by omega) (Or.inr ⟨by omega, ⟨i, by omega, hp1⟩, fun z hz => ?_⟩)
            by_cases e : z = i
            · subst e; omega
            · have := h6 z (by omega); omega
  refine zr_ldc2 (v := (-1 : Int64)) C (-1) (by first | rfl | decide) q277 dX1_with_0 ?_
  refine zr_lstore_n (lv' := [(3, .long (zl (-1))), (0, .ref ((g 0))), (1, .int (zi p)), (2, .int (zi q))]) C dX1_with_3 rfl (by decide) rfl ?_
  refine zr_iconst C dX1_with_4 ?_
  refine zr_istore (lv' := [(5, .int (zi ((0 : Nat) : Int))), (3, .long (zl (-1))), (0, .ref ((g 0))), (1, .int (zi p)), (2, .int (zi q))]) C dX1_with_5 (by decide) rfl ?_
  exact loop (n + 1) 0 (-1) (by omega) (by omega) (Or.inl ⟨rfl, rfl⟩)
set_option maxHeartbeats 4000000 in
set_option maxRecDepth 100000 in
theorem cM_withSlope (l : Launch) (D : va_G) (g : Nat → Nat) (dd : Nat → ClassId) (n : Nat) (pk tp bt fd : Int) (px py : Nat → Int) (p q : Int) (hok : ld_ok n px py) (hk : ld_k pk) (hp : bI p) (hq : bI q) : ZMi l yX1_withSlope cX1_withSlope 3 (some .int) { frames := 3, cells := 0, slots := 0, locals := 75 } D (tysM dd) (wM g dd (n : Int) pk tp bt fd px py) [.ref (g 0), .int (zi p), .int (zi q)] (S := Unit) (fun r _ => (¬ ((-1000 ≤ p ∧ p ≤ 1000) ∧ (1 ≤ q ∧ q ≤ 40)) ∧ r = -1) ∨ (((-1000 ≤ p ∧ p ≤ 1000) ∧ (1 ≤ q ∧ q ≤ 40)) ∧ ld_wmin n px py pk p q r)) (fun _ => wM g dd (n : Int) pk tp bt fd px py) := by
  refine zr_meti (lv0 := [(0, .ref ((g 0))), (1, .int (zi p)), (2, .int (zi q))]) (by decide) (Nat.le_of_ble_eq_true rfl) rfl ?_
  intro pr e s m args below meth c_ A Q C hret
  have C : ZC pr s m args c_ cX1_withSlope 3 RX1 D (tysM dd) A := C
  refine zr_aload_n C 0 dX1_withSlope_0 rfl rfl ?_
  refine zr_iload_n C 1 dX1_withSlope_1 rfl rfl ?_
  refine zr_iload_n C 2 dX1_withSlope_2 rfl rfl ?_
  refine zr_calli C 2 (cM_isSlope l D g dd n pk tp bt fd px py p q hp hq) q269 q271 qs24 q28 q272 (by decide +kernel) ⟨Nat.le_of_ble_eq_true rfl, Nat.le_of_ble_eq_true rfl⟩ ⟨rfl, rfl⟩ rfl rfl rfl rfl (Nat.le_of_ble_eq_true rfl) ⟨Nat.zero_le _, Nat.zero_le _⟩ dX1_withSlope_3 rfl (fun r1 _ hp1 => ?_)
  refine zr_if_eq (tgt := 19) C dX1_withSlope_6 (by decide) (by unfold bI; omega) (fun h1 => ?_) (fun h1 => ?_)
  · refine zr_iconst C dX1_withSlope_19 ?_
    exact hret () dX1_withSlope_20 rfl (Or.inl ⟨by omega, rfl⟩)
  · have hr : ((-1000 ≤ p ∧ p ≤ 1000) ∧ (1 ≤ q ∧ q ≤ 40)) := by omega
    refine zr_aload_n C 0 dX1_withSlope_9 rfl rfl ?_
    refine zr_iload_n C 1 dX1_withSlope_10 rfl rfl ?_
    refine zr_iload_n C 2 dX1_withSlope_11 rfl rfl ?_
    refine zr_calll C 2 (cM_with l D g dd n pk tp bt fd px py p q hok hk hr.1 hr.2) q273 q275 qs25 q28 q276 (by decide +kernel) ⟨Nat.le_of_ble_eq_true rfl, Nat.le_of_ble_eq_true rfl⟩ ⟨rfl, rfl⟩ rfl rfl rfl rfl (Nat.le_of_ble_eq_true rfl) ⟨Nat.zero_le _, Nat.zero_le _⟩ dX1_withSlope_12 rfl (fun r2 _ hp2 => ?_)
    refine zr_l2i C dX1_withSlope_15 ?_
    refine zr_goto (tgt := 20) C dX1_withSlope_16 (by decide) ?_
    exact hret () dX1_withSlope_20 rfl (Or.inr ⟨hr, hp2.1⟩)
set_option maxHeartbeats 4000000 in
set_option maxRecDepth 100000 in
theorem cM_leastTop (l : Launch) (D : va_G) (g : Nat → Nat) (dd : Nat → ClassId) (n : Nat) (pk tp bt fd : Int) (px py : Nat → Int) (hok : ld_ok n px py) (hk : ld_k pk) : ZMi l yX1_leastTop cX1_leastTop 1 (some .int) { frames := 4, cells := 0, slots := 0, locals := 96 } D (tysM dd) (wM g dd (n : Int) pk tp bt fd px py) [.ref (g 0)] (S := Int × Int × Int) (fun r _ => ∃ t b, ld_min (ld_all n px py pk) t b ∧ r = ld_rt t b) (fun u => wM g dd (n : Int) pk u.1 u.2.1 u.2.2 px py) := by
  refine zr_meti (lv0 := [(0, .ref ((g 0)))]) (by decide) (Nat.le_of_ble_eq_true rfl) rfl ?_
  intro p e s m args below meth c_ A Q C hret
  have C : ZC p s m args c_ cX1_leastTop 1 RX1 D (tysM dd) A := C
  refine zr_aload_n C 0 dX1_leastTop_0 rfl rfl ?_
  refine zr_callv C 0 (cM_least l D g dd n pk tp bt fd px py hok hk) q217 q219 qs13 q28 q220 (by decide +kernel) ⟨Nat.le_of_ble_eq_true rfl, Nat.le_of_ble_eq_true rfl⟩ ⟨rfl, rfl⟩ rfl rfl rfl rfl (Nat.le_of_ble_eq_true rfl) ⟨Nat.zero_le _, Nat.zero_le _⟩ dX1_leastTop_1 rfl (fun u hu => ?_)
  obtain ⟨h1, h2, h3⟩ := hu
  refine zr_aload_n C 0 dX1_leastTop_4 rfl rfl ?_
  refine zr_calli C 0 (cM_upper l D g dd n pk u.1 u.2.1 u.2.2 px py h2 h3) q249 q251 qs21 q28 q252 (by decide +kernel) ⟨Nat.le_of_ble_eq_true rfl, Nat.le_of_ble_eq_true rfl⟩ ⟨rfl, rfl⟩ rfl rfl rfl rfl (Nat.le_of_ble_eq_true rfl) ⟨Nat.zero_le _, Nat.zero_le _⟩ dX1_leastTop_5 rfl (fun r1 _ hp1 => ?_)
  exact hret u dX1_leastTop_8 rfl (⟨u.1, u.2.1, h1, hp1⟩)
set_option maxHeartbeats 4000000 in
set_option maxRecDepth 100000 in
theorem cM_leastBottom (l : Launch) (D : va_G) (g : Nat → Nat) (dd : Nat → ClassId) (n : Nat) (pk tp bt fd : Int) (px py : Nat → Int) (hok : ld_ok n px py) (hk : ld_k pk) : ZMi l yX1_leastBottom cX1_leastBottom 1 (some .int) { frames := 4, cells := 0, slots := 0, locals := 96 } D (tysM dd) (wM g dd (n : Int) pk tp bt fd px py) [.ref (g 0)] (S := Int × Int × Int) (fun r _ => ∃ t b, ld_min (ld_all n px py pk) t b ∧ r = ld_rb t b) (fun u => wM g dd (n : Int) pk u.1 u.2.1 u.2.2 px py) := by
  refine zr_meti (lv0 := [(0, .ref ((g 0)))]) (by decide) (Nat.le_of_ble_eq_true rfl) rfl ?_
  intro p e s m args below meth c_ A Q C hret
  have C : ZC p s m args c_ cX1_leastBottom 1 RX1 D (tysM dd) A := C
  refine zr_aload_n C 0 dX1_leastBottom_0 rfl rfl ?_
  refine zr_callv C 0 (cM_least l D g dd n pk tp bt fd px py hok hk) q217 q219 qs13 q28 q220 (by decide +kernel) ⟨Nat.le_of_ble_eq_true rfl, Nat.le_of_ble_eq_true rfl⟩ ⟨rfl, rfl⟩ rfl rfl rfl rfl (Nat.le_of_ble_eq_true rfl) ⟨Nat.zero_le _, Nat.zero_le _⟩ dX1_leastBottom_1 rfl (fun u hu => ?_)
  obtain ⟨h1, h2, h3⟩ := hu
  refine zr_aload_n C 0 dX1_leastBottom_4 rfl rfl ?_
  refine zr_calli C 0 (cM_lower l D g dd n pk u.1 u.2.1 u.2.2 px py h2 h3) q261 q263 qs23 q28 q264 (by decide +kernel) ⟨Nat.le_of_ble_eq_true rfl, Nat.le_of_ble_eq_true rfl⟩ ⟨rfl, rfl⟩ rfl rfl rfl rfl (Nat.le_of_ble_eq_true rfl) ⟨Nat.zero_le _, Nat.zero_le _⟩ dX1_leastBottom_5 rfl (fun r1 _ hp1 => ?_)
  exact hret u dX1_leastBottom_8 rfl (⟨u.1, u.2.1, h1, hp1⟩)
set_option maxHeartbeats 4000000 in
set_option maxRecDepth 100000 in
theorem cM_bestSlope (l : Launch) (D : va_G) (g : Nat → Nat) (dd : Nat → ClassId) (n : Nat) (pk tp bt fd : Int) (px py : Nat → Int) (p q : Int) (hok : ld_ok n px py) (hk : ld_k pk) (hp : bI p) (hq : bI q) : ZMi l yX1_bestSlope cX1_bestSlope 3 (some .boolean) { frames := 4, cells := 0, slots := 0, locals := 96 } D (tysM dd) (wM g dd (n : Int) pk tp bt fd px py) [.ref (g 0), .int (zi p), .int (zi q)] (S := Int × Int × Int) (fun r _ => (¬ ((-1000 ≤ p ∧ p ≤ 1000) ∧ (1 ≤ q ∧ q ≤ 40)) ∧ r = 0) ∨ (((-1000 ≤ p ∧ p ≤ 1000) ∧ (1 ≤ q ∧ q ≤ 40)) ∧ ∃ t b x, ld_min (ld_all n px py pk) t b ∧ ld_wmin n px py pk p q x ∧ ((r = 1 ∧ x * b = t * q) ∨ (r = 0 ∧ x * b ≠ t * q)))) (fun u => wM g dd (n : Int) pk u.1 u.2.1 u.2.2 px py) := by
  refine zr_metz (lv0 := [(0, .ref ((g 0))), (1, .int (zi p)), (2, .int (zi q))]) (by decide) (Nat.le_of_ble_eq_true rfl) rfl ?_
  intro pr e s m args below meth c_ A Q C hret
  have C : ZC pr s m args c_ cX1_bestSlope 3 RX1 D (tysM dd) A := C
  refine zr_aload_n C 0 dX1_bestSlope_0 rfl rfl ?_
  refine zr_iload_n C 1 dX1_bestSlope_1 rfl rfl ?_
  refine zr_iload_n C 2 dX1_bestSlope_2 rfl rfl ?_
  refine zr_calli C 2 (cM_isSlope l D g dd n pk tp bt fd px py p q hp hq) q269 q271 qs24 q28 q272 (by decide +kernel) ⟨Nat.le_of_ble_eq_true rfl, Nat.le_of_ble_eq_true rfl⟩ ⟨rfl, rfl⟩ rfl rfl rfl rfl (Nat.le_of_ble_eq_true rfl) ⟨Nat.zero_le _, Nat.zero_le _⟩ dX1_bestSlope_3 rfl (fun r1 _ hp1 => ?_)
  refine zr_if_ne (tgt := 11) C dX1_bestSlope_6 (by decide) (by unfold bI; omega) (fun h1 => ?_) (fun h1 => ?_)
  · have hr : ((-1000 ≤ p ∧ p ≤ 1000) ∧ (1 ≤ q ∧ q ≤ 40)) := by omega
    refine zr_aload_n C 0 dX1_bestSlope_11 rfl rfl ?_
    refine zr_callv C 0 (cM_least l D g dd n pk tp bt fd px py hok hk) q217 q219 qs13 q28 q220 (by decide +kernel) ⟨Nat.le_of_ble_eq_true rfl, Nat.le_of_ble_eq_true rfl⟩ ⟨rfl, rfl⟩ rfl rfl rfl rfl (Nat.le_of_ble_eq_true rfl) ⟨Nat.zero_le _, Nat.zero_le _⟩ dX1_bestSlope_12 rfl (fun u hu => ?_)
    obtain ⟨h2, h3, h4⟩ := hu
    refine zr_aload_n C 0 dX1_bestSlope_15 rfl rfl ?_
    refine zr_iload_n C 1 dX1_bestSlope_16 rfl rfl ?_
    refine zr_iload_n C 2 dX1_bestSlope_17 rfl rfl ?_
    refine zr_calll C 2 (cM_with l D g dd n pk u.1 u.2.1 u.2.2 px py p q hok hk hr.1 hr.2) q273 q275 qs25 q28 q276 (by decide +kernel) ⟨Nat.le_of_ble_eq_true rfl, Nat.le_of_ble_eq_true rfl⟩ ⟨rfl, rfl⟩ rfl rfl rfl rfl (Nat.le_of_ble_eq_true rfl) ⟨Nat.zero_le _, Nat.zero_le _⟩ dX1_bestSlope_18 rfl (fun r2 _ hp2 => ?_)
    obtain ⟨h5, h6⟩ := hp2
    have c1 := ld_prod 998400 40 (a := r2) (b := u.2.1) (by omega) (by omega)
    have c2 := ld_prod 100000 40 (a := u.1) (b := q) (by omega) (by omega)
    refine zr_aload_n C 0 dX1_bestSlope_21 rfl rfl ?_
    refine mg_35 C dX1_bestSlope_22 ?_
    refine zr_lmul C dX1_bestSlope_25 ?_
    refine zr_aload_n C 0 dX1_bestSlope_26 rfl rfl ?_
    refine mg_39 C dX1_bestSlope_27 ?_
    refine zr_iload_n C 2 dX1_bestSlope_30 rfl rfl ?_
    refine zr_i2l C dX1_bestSlope_31 (by unfold bI; omega) ?_
    refine zr_lmul C dX1_bestSlope_32 ?_
    refine zr_lcmp_ne (tgt := 41) C dX1_bestSlope_33 dX1_bestSlope_34 (by decide) (by unfold bL; omega) (by unfold bL; omega) (fun h7 => ?_) (fun h7 => ?_)
    · refine zr_iconst C dX1_bestSlope_41 ?_
      exact hret u dX1_bestSlope_42 (Or.inl rfl) rfl (Or.inr ⟨hr, u.1, u.2.1, r2, h2, h5, Or.inr ⟨rfl, h7⟩⟩)
    · refine zr_iconst C dX1_bestSlope_37 ?_
      refine zr_goto (tgt := 42) C dX1_bestSlope_38 (by decide) ?_
      exact hret u dX1_bestSlope_42 (Or.inr rfl) rfl (Or.inr ⟨hr, u.1, u.2.1, r2, h2, h5, Or.inl ⟨rfl, h7⟩⟩)
  · refine zr_iconst C dX1_bestSlope_9 ?_
    exact hret (tp, bt, fd) dX1_bestSlope_10 (Or.inl rfl) rfl (Or.inl ⟨by omega, rfl⟩)
set_option maxHeartbeats 4000000 in
set_option maxRecDepth 100000 in
theorem cM_bestPair (l : Launch) (D : va_G) (g : Nat → Nat) (dd : Nat → ClassId) (n : Nat) (pk tp bt fd : Int) (px py : Nat → Int) (i j : Int) (hok : ld_ok n px py) (hk : ld_k pk) (hi : bI i) (hj : bI j) : ZMi l yX1_bestPair cX1_bestPair 5 (some .boolean) { frames := 4, cells := 0, slots := 0, locals := 96 } D (tysM dd) (wM g dd (n : Int) pk tp bt fd px py) [.ref (g 0), .int (zi i), .int (zi j)] (S := Int × Int × Int) (fun r _ => (¬ ((0 ≤ i ∧ i < (n : Int)) ∧ (0 ≤ j ∧ j < (n : Int)) ∧ px i.toNat ≠ px j.toNat) ∧ r = 0) ∨ (((0 ≤ i ∧ i < (n : Int)) ∧ (0 ≤ j ∧ j < (n : Int)) ∧ px i.toNat ≠ px j.toNat) ∧ ∃ t b, ld_min (ld_all n px py pk) t b ∧ ((r = 1 ∧ ld_ct n px py pk i.toNat (ld_kP (py j.toNat - py i.toNat) (px j.toNat - px i.toNat)) (ld_kQ (px j.toNat - px i.toNat)) * b = t * ld_kQ (px j.toNat - px i.toNat)) ∨ (r = 0 ∧ ld_ct n px py pk i.toNat (ld_kP (py j.toNat - py i.toNat) (px j.toNat - px i.toNat)) (ld_kQ (px j.toNat - px i.toNat)) * b ≠ t * ld_kQ (px j.toNat - px i.toNat))))) (fun u => wM g dd (n : Int) pk u.1 u.2.1 u.2.2 px py) := by
  refine zr_metz (lv0 := [(0, .ref ((g 0))), (1, .int (zi i)), (2, .int (zi j))]) (by decide) (Nat.le_of_ble_eq_true rfl) rfl ?_
  intro p e s m args below meth c_ A Q C hret
  have C : ZC p s m args c_ cX1_bestPair 5 RX1 D (tysM dd) A := C
  refine zr_aload_n C 0 dX1_bestPair_0 rfl rfl ?_
  refine zr_iload_n C 1 dX1_bestPair_1 rfl rfl ?_
  refine zr_calli C 1 (cM_isPoint l D g dd n pk tp bt fd px py i hok.1 hi) q205 q207 qs12 q28 q208 (by decide +kernel) ⟨Nat.le_of_ble_eq_true rfl, Nat.le_of_ble_eq_true rfl⟩ ⟨rfl, rfl⟩ rfl rfl rfl rfl (Nat.le_of_ble_eq_true rfl) ⟨Nat.zero_le _, Nat.zero_le _⟩ dX1_bestPair_2 rfl (fun r1 _ hp1 => ?_)
  have hn := hok.1
  have hi2 := hi
  unfold bI at hi2
  refine zr_if_eq (tgt := 31) C dX1_bestPair_5 (by decide) (by unfold bI; omega) (fun h1 => ?_) (fun h1 => ?_)
  · refine zr_iconst C dX1_bestPair_31 ?_
    exact hret (tp, bt, fd) dX1_bestPair_32 (Or.inl rfl) rfl (Or.inl ⟨by omega, rfl⟩)
  · refine zr_aload_n C 0 dX1_bestPair_8 rfl rfl ?_
    refine zr_iload_n C 2 dX1_bestPair_9 rfl rfl ?_
    refine zr_calli C 1 (cM_isPoint l D g dd n pk tp bt fd px py j hok.1 hj) q205 q207 qs12 q28 q208 (by decide +kernel) ⟨Nat.le_of_ble_eq_true rfl, Nat.le_of_ble_eq_true rfl⟩ ⟨rfl, rfl⟩ rfl rfl rfl rfl (Nat.le_of_ble_eq_true rfl) ⟨Nat.zero_le _, Nat.zero_le _⟩ dX1_bestPair_10 rfl (fun r2 _ hp2 => ?_)
    have hj2 := hj
    unfold bI at hj2
    refine zr_if_eq (tgt := 31) C dX1_bestPair_13 (by decide) (by unfold bI; omega) (fun h2 => ?_) (fun h2 => ?_)
    · refine zr_iconst C dX1_bestPair_31 ?_
      exact hret (tp, bt, fd) dX1_bestPair_32 (Or.inl rfl) rfl (Or.inl ⟨by omega, rfl⟩)
    · obtain ⟨i0, hi0⟩ : ∃ i0 : Nat, i = (i0 : Int) := ⟨i.toNat, by omega⟩
      obtain ⟨j0, hj0⟩ : ∃ j0 : Nat, j = (j0 : Int) := ⟨j.toNat, by omega⟩
      subst hi0 hj0
      simp only [Int.toNat_natCast] at hret
      have hin : i0 < n := by omega
      have hjn : j0 < n := by omega
      have bi := hok.2 i0 hin
      have bj := hok.2 j0 hjn
      refine zr_aload_n C 0 dX1_bestPair_16 rfl rfl ?_
      refine mg_16 C dX1_bestPair_17 ?_
      refine zr_iload_n C 1 dX1_bestPair_20 rfl rfl ?_
      refine ml_px C i0 (by omega) (by omega) dX1_bestPair_21 ?_
      refine zr_aload_n C 0 dX1_bestPair_22 rfl rfl ?_
      refine mg_16 C dX1_bestPair_23 ?_
      refine zr_iload_n C 2 dX1_bestPair_26 rfl rfl ?_
      refine ml_px C j0 (by omega) (by omega) dX1_bestPair_27 ?_
      refine zr_icmp_ne (tgt := 33) C dX1_bestPair_28 (by decide) (by unfold bI; omega) (by unfold bI; omega) (fun h3 => ?_) (fun h3 => ?_)
      · have hkq : 1 ≤ (ld_kQ (px j0 - px i0)) ∧ (ld_kQ (px j0 - px i0)) ≤ 40 := by unfold ld_kQ; split <;> omega
        have hkp : -40 ≤ (ld_kP (py j0 - py i0) (px j0 - px i0)) ∧ (ld_kP (py j0 - py i0) (px j0 - px i0)) ≤ 40 := by unfold ld_kP; split <;> omega
        refine zr_aload_n C 0 dX1_bestPair_33 rfl rfl ?_
        refine zr_callv C 0 (cM_least l D g dd n pk tp bt fd px py hok hk) q217 q219 qs13 q28 q220 (by decide +kernel) ⟨Nat.le_of_ble_eq_true rfl, Nat.le_of_ble_eq_true rfl⟩ ⟨rfl, rfl⟩ rfl rfl rfl rfl (Nat.le_of_ble_eq_true rfl) ⟨Nat.zero_le _, Nat.zero_le _⟩ dX1_bestPair_34 rfl (fun u hu => ?_)
        obtain ⟨h5, h6, h7⟩ := hu
        have hct := ld_ct_bd hk (p := (ld_kP (py j0 - py i0) (px j0 - px i0))) (q := (ld_kQ (px j0 - px i0))) (P := 40) (Q := 40) hok.1 hin (fun j hj => (hok.2 j hj).1) (fun j hj => (hok.2 j hj).2) (by omega) (by omega)
        refine zr_aload_n C 0 dX1_bestPair_37 rfl rfl ?_
        refine zr_iload_n C 1 dX1_bestPair_38 rfl rfl ?_
        refine zr_iload_n C 2 dX1_bestPair_39 rfl rfl ?_
        refine zr_calli C 2 (cM_rise l D g dd n pk u.1 u.2.1 u.2.2 px py i0 j0 hok hin hjn) q229 q231 qs16 q28 q232 (by decide +kernel) ⟨Nat.le_of_ble_eq_true rfl, Nat.le_of_ble_eq_true rfl⟩ ⟨rfl, rfl⟩ rfl rfl rfl rfl (Nat.le_of_ble_eq_true rfl) ⟨Nat.zero_le _, Nat.zero_le _⟩ dX1_bestPair_40 rfl (fun r3 _ hp3 => ?_)
        subst hp3
        refine zr_istore_n (lv' := [(3, .int (zi (ld_kP (py j0 - py i0) (px j0 - px i0)))), (0, .ref ((g 0))), (1, .int (zi (i0 : Int))), (2, .int (zi (j0 : Int)))]) C dX1_bestPair_43 rfl (by decide) rfl ?_
        refine zr_aload_n C 1 dX1_bestPair_44 rfl rfl ?_
        refine zr_iload_n C 2 dX1_bestPair_45 rfl rfl ?_
        refine zr_iload_n C 3 dX1_bestPair_46 rfl rfl ?_
        refine zr_calli C 2 (cM_run l D g dd n pk u.1 u.2.1 u.2.2 px py i0 j0 hok hin hjn) q233 q235 qs17 q28 q236 (by decide +kernel) ⟨Nat.le_of_ble_eq_true rfl, Nat.le_of_ble_eq_true rfl⟩ ⟨rfl, rfl⟩ rfl rfl rfl rfl (Nat.le_of_ble_eq_true rfl) ⟨Nat.zero_le _, Nat.zero_le _⟩ dX1_bestPair_47 rfl (fun r4 _ hp4 => ?_)
        subst hp4
        refine zr_istore (lv' := [(4, .int (zi (ld_kQ (px j0 - px i0)))), (3, .int (zi (ld_kP (py j0 - py i0) (px j0 - px i0)))), (0, .ref ((g 0))), (1, .int (zi (i0 : Int))), (2, .int (zi (j0 : Int)))]) C dX1_bestPair_50 (by decide) rfl ?_
        refine zr_aload_n C 2 dX1_bestPair_52 rfl rfl ?_
        refine zr_iload_n C 3 dX1_bestPair_53 rfl rfl ?_
        refine zr_iload_n C 1 dX1_bestPair_54 rfl rfl ?_
        refine zr_iload C 0 dX1_bestPair_55 rfl ?_
        refine zr_calll C 3 (cM_costOf l D g dd n pk u.1 u.2.1 u.2.2 px py i0 (ld_kP (py j0 - py i0) (px j0 - px i0)) (ld_kQ (px j0 - px i0)) hok hk hin (by omega) (by omega)) q237 q239 qs18 q28 q240 (by decide +kernel) ⟨Nat.le_of_ble_eq_true rfl, Nat.le_of_ble_eq_true rfl⟩ ⟨rfl, rfl⟩ rfl rfl rfl rfl (Nat.le_of_ble_eq_true rfl) ⟨Nat.zero_le _, Nat.zero_le _⟩ dX1_bestPair_57 rfl (fun r5 _ hp5 => ?_)
        have c1 := ld_prod 76800 40 (a := r5) (b := u.2.1) (by omega) (by omega)
        have c2 := ld_prod 100000 40 (a := u.1) (b := (ld_kQ (px j0 - px i0))) (by omega) (by omega)
        refine zr_aload_n C 2 dX1_bestPair_60 rfl rfl ?_
        refine mg_35 C dX1_bestPair_61 ?_
        refine zr_lmul C dX1_bestPair_64 ?_
        refine zr_aload_n C 2 dX1_bestPair_65 rfl rfl ?_
        refine mg_39 C dX1_bestPair_66 ?_
        refine zr_iload C 0 dX1_bestPair_69 rfl ?_
        refine zr_i2l C dX1_bestPair_71 (by unfold bI; omega) ?_
        refine zr_lmul C dX1_bestPair_72 ?_
        refine zr_lcmp_ne (tgt := 81) C dX1_bestPair_73 dX1_bestPair_74 (by decide) (by unfold bL; omega) (by unfold bL; omega) (fun h10 => ?_) (fun h10 => ?_)
        · refine zr_iconst C dX1_bestPair_81 ?_
          exact hret u dX1_bestPair_82 (Or.inl rfl) rfl (Or.inr ⟨⟨by omega, by omega, h3⟩, u.1, u.2.1, h5, Or.inr ⟨rfl, by rw [← hp5]; exact h10⟩⟩)
        · refine zr_iconst C dX1_bestPair_77 ?_
          refine zr_goto (tgt := 82) C dX1_bestPair_78 (by decide) ?_
          exact hret u dX1_bestPair_82 (Or.inr rfl) rfl (Or.inr ⟨⟨by omega, by omega, h3⟩, u.1, u.2.1, h5, Or.inl ⟨rfl, by rw [← hp5]; exact h10⟩⟩)
      · refine zr_iconst C dX1_bestPair_31 ?_
        exact hret (tp, bt, fd) dX1_bestPair_32 (Or.inl rfl) rfl (Or.inl ⟨fun h => h.2.2 h3, rfl⟩)
set_option maxHeartbeats 4000000 in
set_option maxRecDepth 100000 in
theorem cM_throughTop (l : Launch) (D : va_G) (g : Nat → Nat) (dd : Nat → ClassId) (n : Nat) (pk tp bt fd : Int) (px py : Nat → Int) (i : Int) (hok : ld_ok n px py) (hk : ld_k pk) (hi : bI i) : ZMi l yX1_throughTop cX1_throughTop 2 (some .int) { frames := 3, cells := 0, slots := 0, locals := 75 } D (tysM dd) (wM g dd (n : Int) pk tp bt fd px py) [.ref (g 0), .int (zi i)] (S := Int × Int × Int) (fun r _ => (¬ (0 ≤ i ∧ i < (n : Int)) ∧ r = -1) ∨ ((0 ≤ i ∧ i < (n : Int)) ∧ ∃ t b, ld_min (ld_cand n px py pk i.toNat) t b ∧ r = ld_rt t b)) (fun u => wM g dd (n : Int) pk u.1 u.2.1 u.2.2 px py) := by
  refine zr_meti (lv0 := [(0, .ref ((g 0))), (1, .int (zi i))]) (by decide) (Nat.le_of_ble_eq_true rfl) rfl ?_
  intro p e s m args below meth c_ A Q C hret
  have C : ZC p s m args c_ cX1_throughTop 2 RX1 D (tysM dd) A := C
  refine zr_aload_n C 0 dX1_throughTop_0 rfl rfl ?_
  refine zr_iload_n C 1 dX1_throughTop_1 rfl rfl ?_
  refine zr_calli C 1 (cM_isPoint l D g dd n pk tp bt fd px py i hok.1 hi) q205 q207 qs12 q28 q208 (by decide +kernel) ⟨Nat.le_of_ble_eq_true rfl, Nat.le_of_ble_eq_true rfl⟩ ⟨rfl, rfl⟩ rfl rfl rfl rfl (Nat.le_of_ble_eq_true rfl) ⟨Nat.zero_le _, Nat.zero_le _⟩ dX1_throughTop_2 rfl (fun r1 _ hp1 => ?_)
  unfold bI at hi
  refine zr_if_ne (tgt := 10) C dX1_throughTop_5 (by decide) (by unfold bI; omega) (fun h1 => ?_) (fun h1 => ?_)
  · obtain ⟨i0, hi0⟩ : ∃ i0 : Nat, i = (i0 : Int) := ⟨i.toNat, by omega⟩
    subst hi0
    refine zr_aload_n C 0 dX1_throughTop_10 rfl rfl ?_
    refine zr_callv C 0 (cM_begin l D g dd n pk tp bt fd px py) q221 q223 qs14 q28 q224 (by decide +kernel) ⟨Nat.le_of_ble_eq_true rfl, Nat.le_of_ble_eq_true rfl⟩ ⟨rfl, rfl⟩ rfl rfl rfl rfl (Nat.le_of_ble_eq_true rfl) ⟨Nat.zero_le _, Nat.zero_le _⟩ dX1_throughTop_11 rfl (fun u0 hu0 => ?_)
    subst hu0
    refine zr_aload_n C 0 dX1_throughTop_14 rfl rfl ?_
    refine zr_iload_n C 1 dX1_throughTop_15 rfl rfl ?_
    refine zr_callv C 1 (cM_lookThrough l D g dd n pk 0 1 0 px py i0 (fun _ _ => False) hok hk (by omega) (fun _ _ h => h.elim) (Or.inl ⟨rfl, rfl, rfl, fun _ _ h => h⟩) (by omega) (by omega)) q225 q227 qs15 q28 q228 (by decide +kernel) ⟨Nat.le_of_ble_eq_true rfl, Nat.le_of_ble_eq_true rfl⟩ ⟨rfl, rfl⟩ rfl rfl rfl rfl (Nat.le_of_ble_eq_true rfl) ⟨Nat.zero_le _, Nat.zero_le _⟩ dX1_throughTop_16 rfl (fun u hu => ?_)
    obtain ⟨h1, h2, h3⟩ := hu
    have h4 := ld_lk_min (ld_lk_iff h1 (fun t b => by rw [false_or])) h3.1 h2.1
    refine zr_aload_n C 0 dX1_throughTop_19 rfl rfl ?_
    refine zr_calli C 0 (cM_upper l D g dd n pk u.1 u.2.1 u.2.2 px py h2 h3) q249 q251 qs21 q28 q252 (by decide +kernel) ⟨Nat.le_of_ble_eq_true rfl, Nat.le_of_ble_eq_true rfl⟩ ⟨rfl, rfl⟩ rfl rfl rfl rfl (Nat.le_of_ble_eq_true rfl) ⟨Nat.zero_le _, Nat.zero_le _⟩ dX1_throughTop_20 rfl (fun r2 _ hp2 => ?_)
    exact hret u dX1_throughTop_23 rfl (Or.inr ⟨by omega, u.1, u.2.1, by rw [Int.toNat_natCast]; exact h4, hp2⟩)
  · refine zr_iconst C dX1_throughTop_8 ?_
    exact hret (tp, bt, fd) dX1_throughTop_9 rfl (Or.inl ⟨by omega, rfl⟩)
set_option maxHeartbeats 4000000 in
set_option maxRecDepth 100000 in
theorem cM_throughBottom (l : Launch) (D : va_G) (g : Nat → Nat) (dd : Nat → ClassId) (n : Nat) (pk tp bt fd : Int) (px py : Nat → Int) (i : Int) (hok : ld_ok n px py) (hk : ld_k pk) (hi : bI i) : ZMi l yX1_throughBottom cX1_throughBottom 2 (some .int) { frames := 3, cells := 0, slots := 0, locals := 75 } D (tysM dd) (wM g dd (n : Int) pk tp bt fd px py) [.ref (g 0), .int (zi i)] (S := Int × Int × Int) (fun r _ => (¬ (0 ≤ i ∧ i < (n : Int)) ∧ r = -1) ∨ ((0 ≤ i ∧ i < (n : Int)) ∧ ∃ t b, ld_min (ld_cand n px py pk i.toNat) t b ∧ r = ld_rb t b)) (fun u => wM g dd (n : Int) pk u.1 u.2.1 u.2.2 px py) := by
  refine zr_meti (lv0 := [(0, .ref ((g 0))), (1, .int (zi i))]) (by decide) (Nat.le_of_ble_eq_true rfl) rfl ?_
  intro p e s m args below meth c_ A Q C hret
  have C : ZC p s m args c_ cX1_throughBottom 2 RX1 D (tysM dd) A := C
  refine zr_aload_n C 0 dX1_throughBottom_0 rfl rfl ?_
  refine zr_iload_n C 1 dX1_throughBottom_1 rfl rfl ?_
  refine zr_calli C 1 (cM_isPoint l D g dd n pk tp bt fd px py i hok.1 hi) q205 q207 qs12 q28 q208 (by decide +kernel) ⟨Nat.le_of_ble_eq_true rfl, Nat.le_of_ble_eq_true rfl⟩ ⟨rfl, rfl⟩ rfl rfl rfl rfl (Nat.le_of_ble_eq_true rfl) ⟨Nat.zero_le _, Nat.zero_le _⟩ dX1_throughBottom_2 rfl (fun r1 _ hp1 => ?_)
  unfold bI at hi
  refine zr_if_ne (tgt := 10) C dX1_throughBottom_5 (by decide) (by unfold bI; omega) (fun h1 => ?_) (fun h1 => ?_)
  · obtain ⟨i0, hi0⟩ : ∃ i0 : Nat, i = (i0 : Int) := ⟨i.toNat, by omega⟩
    subst hi0
    refine zr_aload_n C 0 dX1_throughBottom_10 rfl rfl ?_
    refine zr_callv C 0 (cM_begin l D g dd n pk tp bt fd px py) q221 q223 qs14 q28 q224 (by decide +kernel) ⟨Nat.le_of_ble_eq_true rfl, Nat.le_of_ble_eq_true rfl⟩ ⟨rfl, rfl⟩ rfl rfl rfl rfl (Nat.le_of_ble_eq_true rfl) ⟨Nat.zero_le _, Nat.zero_le _⟩ dX1_throughBottom_11 rfl (fun u0 hu0 => ?_)
    subst hu0
    refine zr_aload_n C 0 dX1_throughBottom_14 rfl rfl ?_
    refine zr_iload_n C 1 dX1_throughBottom_15 rfl rfl ?_
    refine zr_callv C 1 (cM_lookThrough l D g dd n pk 0 1 0 px py i0 (fun _ _ => False) hok hk (by omega) (fun _ _ h => h.elim) (Or.inl ⟨rfl, rfl, rfl, fun _ _ h => h⟩) (by omega) (by omega)) q225 q227 qs15 q28 q228 (by decide +kernel) ⟨Nat.le_of_ble_eq_true rfl, Nat.le_of_ble_eq_true rfl⟩ ⟨rfl, rfl⟩ rfl rfl rfl rfl (Nat.le_of_ble_eq_true rfl) ⟨Nat.zero_le _, Nat.zero_le _⟩ dX1_throughBottom_16 rfl (fun u hu => ?_)
    obtain ⟨h1, h2, h3⟩ := hu
    have h4 := ld_lk_min (ld_lk_iff h1 (fun t b => by rw [false_or])) h3.1 h2.1
    refine zr_aload_n C 0 dX1_throughBottom_19 rfl rfl ?_
    refine zr_calli C 0 (cM_lower l D g dd n pk u.1 u.2.1 u.2.2 px py h2 h3) q261 q263 qs23 q28 q264 (by decide +kernel) ⟨Nat.le_of_ble_eq_true rfl, Nat.le_of_ble_eq_true rfl⟩ ⟨rfl, rfl⟩ rfl rfl rfl rfl (Nat.le_of_ble_eq_true rfl) ⟨Nat.zero_le _, Nat.zero_le _⟩ dX1_throughBottom_20 rfl (fun r2 _ hp2 => ?_)
    exact hret u dX1_throughBottom_23 rfl (Or.inr ⟨by omega, u.1, u.2.1, by rw [Int.toNat_natCast]; exact h4, hp2⟩)
  · refine zr_iconst C dX1_throughBottom_8 ?_
    exact hret (tp, bt, fd) dX1_throughBottom_9 rfl (Or.inl ⟨by omega, rfl⟩)
end
section
/-! THE CONSTRUCTORS -/
section ZR4
variable {p : Program} {l : Launch} {e : Env} {R : Room} {s : State} {m : MethodId} {args : Array Value} {below : List Frame} {meth : Method} {c : Code} {cells slots : Nat} {Q : State → Prop} {D : va_G} {A : Nat → Prop} {nL : Nat} {ws : va_W} {pc : Nat} {lv : List (Nat × Value)} {st : List Value} {cc : ByteArray} {own : String} {tys : List (ClassId × FieldType)}
theorem zr_newa (C : ZC p s m args c cc nL own D tys A) {atype : ArrayType} {ty : FieldType} (harr : Cond.arrayClass (newarray.typeOf atype) ∈ lw_all) (hty : newarray.typeOf atype = ty) {N' : Nat} {x : Int} (a0 : vp_A) (ha : ∀ cA : ClassId, vp_cell cA a0 = arrV cA N' (fun _ => defaultValue ty)) (hx : x = (N' : Int)) (hN : N' < 2147483648) (hbytes : N' * componentBytes ty ≤ 536870912) (hcells : cells + 1 ≤ R.cells) (hslots : slots + N' ≤ R.slots) (hdg : decode cc pc = .ok (.newarray atype, 2))
    (k : ∀ (q : Nat) (cA : ClassId), ZC p s m args c cc nL own D (tys ++ [(cA, ty)]) A → ZW p l e R s m args below meth c (cells + 1) (slots + N') Q D A nL (ws ++ [(q, .inl (cA, a0))]) (pc + 2) lv (.ref q :: st)) : ZW p l e R s m args below meth c cells slots Q D A nL ws pc lv (.int (zi x) :: st) := by
  intro H locs ls hP hD hS hl
  obtain ⟨h1, h2, h3, h4, h5, h6, h7⟩ := C
  refine va_newa h1 h2 (h5 _ harr) hty h6 hP hD hS h7 ha ?_ (zi_cl hx hN) hbytes hcells hslots hdg (fun q cA H1 hK1 hP1 hD1 hS1 => k q cA ⟨h1, h2, h3, h4, h5, hK1, h7⟩ H1 locs ls hP1 hD1 hS1 hl)
  intro hneg
  rw [Int32.lt_iff_toInt_lt, zi_toInt (by unfold bI; omega)] at hneg
  have : (0 : Int32).toInt = 0 := rfl
  omega
theorem zr_putF (C : ZC p s m args c cc nL own D tys A) {ref C0 : String} {T : u_T} {N ci index a : Nat} {ws' : va_W} (hin : ∀ w ∈ u_ws C0 T N, w ∈ lw_all) (ty0 : Nat → FieldType) (hty : ∀ k, k < N → parseFieldDescriptor (T k).2.2.1 = some (ty0 k)) (hnm : ∀ a, a < N → ∀ b, b < N → a ≠ b → (T a).2.1 ≠ (T b).2.1) (q0 : Nat) {fs : List Value} (he : ws[q0]? = some (a, .inr (ci, fs))) (hc : vwCl[ci]? = some (C0, T, N)) (k0 : Nat) (hk : k0 < N) (hlink : Cond.fieldLink own index ref (T k0).2.1 (T k0).2.2.1 ∈ lw_all) (hsame : (T k0).1 = ref) (hfin : (T k0).2.2.2 = true) (hin2 : meth.name = "<init>") (hdecl : (T k0).1 = own) {ty : FieldType} {v : Value} (hd : parseFieldDescriptor (T k0).2.2.1 = some ty) (hn : narrow ty v = v) (hfit : fits ty v = true) (hlen : k0 < fs.length)
    (hw : ws.set q0 (a, .inr (ci, fs.set k0 v)) = ws') (hdg : decode cc pc = .ok (.putfield index, 3))
    (k : ZW p l e R s m args below meth c cells slots Q D A nL ws' (pc + 3) lv st) : ZW p l e R s m args below meth c cells slots Q D A nL ws pc lv (v :: .ref a :: st) :=
  fun H locs ls hP hD hS hl => va_putF (Ts := lw_all) C.1 C.2.1 C.2.2.2.2.1 hin ty0 hty hnm C.2.2.2.1 C.2.2.2.2.2.1 hP hD hS q0 he hc k0 hk (C.2.2.2.2.1 _ hlink) (fun x h => by rw [← hsame]; exact h) hfin hin2 hdecl hd hn hfit hlen hdg (fun H1 locs1 hP1 hD1 hS1 => k H1 locs1 ls (hw ▸ hP1) (hw ▸ hD1) hS1 hl)
theorem zr_objInit (C : ZC p s m args c cc nL own D tys A) {idx a : Nat} (hlink : Cond.methodLink own idx Lib.objectInit ∈ lw_all) (hinst : Cond.instanceMethod Lib.objectInit ∈ lw_all) (hcode : Cond.code Lib.objectInit ⟨#[0xb1]⟩ 1 none ∈ lw_all) (hd : decode cc pc = .ok (.invokespecial idx, 3)) (hf : 1 ≤ R.frames) (hlo : (st.map fun v => v.category).sum + 12 ≤ R.locals)
    (k : ZW p l e R s m args below meth c cells slots Q D A nL ws (pc + 3) lv st) : ZW p l e R s m args below meth c cells slots Q D A nL ws pc lv (.ref a :: st) := by
  intro H locs ls hP hD hS hl
  obtain ⟨h1, h2, h3, h4, h5, h6, h7⟩ := C
  refine W.objInit h1 h2 h4 (h5 _ hlink) (h5 _ hinst) (h5 _ hcode) rfl (by rw [h3]; exact hl.1) rfl hd hf (by
    have e : (F0 m pc ls (.ref a :: st)).monitorRoom = 0 := rfl
    rw [e]; omega) ?_
  exact k H locs ls hP hD hS hl
end ZR4
def ld_z0 : Nat → Int := fun _ => 0
def fsX : List Value := [.int (zi 0), .int (zi 0), .null, .null, .null, .long (zl 0), .null, .long (zl 0), .long (zl 0), .null, .null, .int (zi 0)]
def fsM : List Value := [.int (zi 0), .int (zi 0), .null, .null, .long (zl 0), .long (zl 0), .int (zi 0)]
set_option maxHeartbeats 4000000 in
set_option maxRecDepth 100000 in
theorem cX_init (l : Launch) (D : va_G) (h sz : Nat) : Met l yX0_init (ws_ yX0_init cX0_init 1 none) { frames := 1, cells := 6, slots := 229, locals := 12 } (ZPre D [] [(h, .inr (0, fsX))] sz [.ref h]) (va_Qv (fun (u : (Nat → Nat) × (Nat → ClassId)) => u.1 0 = h) (fun u t => ZB D (tysX u.2) (va_A [(h, .inr (0, fsX))] sz) (wX u.1 u.2 ((0 : Nat) : Int) 2 0 0 0 0 ld_z0 ld_z0 ld_z0 ld_z0 ld_z0 ld_z0) t) (va_A [(h, .inr (0, fsX))] sz)) 6 229 (va_A [(h, .inr (0, fsX))] sz) := by
  refine Met.ofW (cc := cX0_init) (maxL := 1) (ret := none) (by decide) rfl ?_
  intro p e s m args below meth c s₁ B hml hv
  obtain ⟨rfl, hsz, hP, hK, hD0⟩ := hv
  have hts := atoms_spec (ws := ws_ yX0_init cX0_init 1 none) B.pre
  have hts : ∀ w ∈ lw_all, w.before _ s = true := fun w h => hts w (List.mem_cons_of_mem _ h)
  have hown : s.vm.findClass RX0 = some m.cls := findClass_of_methodNamed B.named
  have hin : meth.name = "<init>" := (name_of_methodNamed B.named B.method).1
  subst hsz
  have hD := hD0.self (sz := s.heap.size)
  rw [lg_entry_eq]
  have hl := lv_entry [.ref h] (n := 1) (Nat.le_of_ble_eq_true rfl)
  generalize hAe : va_A [(h, .inr (0, fsX))] s.heap.size = A at hD ⊢
  have C : ZC p s m ([.ref h] : List Value).toArray c cX0_init 1 RX0 D [] A := ⟨B.exec, B.bytes, hml, hown, hts, hK, fun q hq => by rw [← hAe]; exact Or.inr hq⟩
  suffices hZ : ∀ Q, Q = MQ below (va_Qv (fun (u : (Nat → Nat) × (Nat → ClassId)) => u.1 0 = h) (fun u t => ZB D (tysX u.2) A (wX u.1 u.2 ((0 : Nat) : Int) 2 0 0 0 0 ld_z0 ld_z0 ld_z0 ld_z0 ld_z0 ld_z0) t) A) ([.ref h] : List Value).toArray s 6 229 A → ZW p l e { frames := 1, cells := 6, slots := 229, locals := 12 } s m ([.ref h] : List Value).toArray below meth c 0 0 Q D A 1 [(h, .inr (0, fsX))] 0 [(0, .ref h)] [] from hZ _ rfl s.heap [] _ hP hD va_S.rf hl
  intro Q hQ
  refine zr_aload_n C 0 dX0_init_0 rfl rfl ?_
  refine zr_objInit C q34 q35 q36 dX0_init_1 (Nat.le_refl 1) (Nat.le_refl 12) ?_
  refine zr_aload_n C 0 dX0_init_4 rfl rfl ?_
  refine zr_bipush C dX0_init_5 (by decide) ?_
  refine zr_newa (atype := .byte) (ty := .byte) (N' := 8) C q74 rfl (8, .inl (fun j => zi (ld_z0 j))) (fun _ => rfl) rfl (by decide) (by decide) (by decide) (by decide) dX0_init_7 (fun q1_ d1_ C => ?_)
  refine zr_putF (ws' := [(h, .inr (0, [.int (zi 0), .int (zi 0), .ref q1_, .null, .null, .long (zl 0), .null, .long (zl 0), .long (zl 0), .null, .null, .int (zi 0)])), (q1_, .inl (d1_, (8, .inl (fun j => zi (ld_z0 j)))))]) (ty := .array .byte) C in_X0 tyX0 tyX0_ok nmX0 0 rfl rfl 2 (by decide) q39 rfl rfl hin rfl (by decide +kernel) rfl rfl (Nat.le_of_ble_eq_true rfl) rfl dX0_init_9 ?_
  refine zr_aload_n C 0 dX0_init_12 rfl rfl ?_
  refine zr_bipush C dX0_init_13 (by decide) ?_
  refine zr_newa (atype := .byte) (ty := .byte) (N' := 8) C q74 rfl (8, .inl (fun j => zi (ld_z0 j))) (fun _ => rfl) rfl (by decide) (by decide) (by decide) (by decide) dX0_init_15 (fun q2_ d2_ C => ?_)
  refine zr_putF (ws' := [(h, .inr (0, [.int (zi 0), .int (zi 0), .ref q1_, .ref q2_, .null, .long (zl 0), .null, .long (zl 0), .long (zl 0), .null, .null, .int (zi 0)])), (q1_, .inl (d1_, (8, .inl (fun j => zi (ld_z0 j))))), (q2_, .inl (d2_, (8, .inl (fun j => zi (ld_z0 j)))))]) (ty := .array .byte) C in_X0 tyX0 tyX0_ok nmX0 0 rfl rfl 3 (by decide) q40 rfl rfl hin rfl (by decide +kernel) rfl rfl (Nat.le_of_ble_eq_true rfl) rfl dX0_init_17 ?_
  refine zr_aload_n C 0 dX0_init_20 rfl rfl ?_
  refine zr_sipush (v := 189) C dX0_init_21 rfl ?_
  refine zr_newa (atype := .long) (ty := .long) (N' := 189) C q75 rfl (189, .inr (.inl (fun j => zl (ld_z0 j)))) (fun _ => rfl) rfl (by decide) (by decide) (by decide) (by decide) dX0_init_24 (fun q3_ d3_ C => ?_)
  refine zr_putF (ws' := [(h, .inr (0, [.int (zi 0), .int (zi 0), .ref q1_, .ref q2_, .ref q3_, .long (zl 0), .null, .long (zl 0), .long (zl 0), .null, .null, .int (zi 0)])), (q1_, .inl (d1_, (8, .inl (fun j => zi (ld_z0 j))))), (q2_, .inl (d2_, (8, .inl (fun j => zi (ld_z0 j))))), (q3_, .inl (d3_, (189, .inr (.inl (fun j => zl (ld_z0 j))))))]) (ty := .array .long) C in_X0 tyX0 tyX0_ok nmX0 0 rfl rfl 4 (by decide) q41 rfl rfl hin rfl (by decide +kernel) rfl rfl (Nat.le_of_ble_eq_true rfl) rfl dX0_init_26 ?_
  refine zr_aload_n C 0 dX0_init_29 rfl rfl ?_
  refine zr_bipush C dX0_init_30 (by decide) ?_
  refine zr_newa (atype := .byte) (ty := .byte) (N' := 8) C q74 rfl (8, .inl (fun j => zi (ld_z0 j))) (fun _ => rfl) rfl (by decide) (by decide) (by decide) (by decide) dX0_init_32 (fun q4_ d4_ C => ?_)
  refine zr_putF (ws' := [(h, .inr (0, [.int (zi 0), .int (zi 0), .ref q1_, .ref q2_, .ref q3_, .long (zl 0), .ref q4_, .long (zl 0), .long (zl 0), .null, .null, .int (zi 0)])), (q1_, .inl (d1_, (8, .inl (fun j => zi (ld_z0 j))))), (q2_, .inl (d2_, (8, .inl (fun j => zi (ld_z0 j))))), (q3_, .inl (d3_, (189, .inr (.inl (fun j => zl (ld_z0 j)))))), (q4_, .inl (d4_, (8, .inl (fun j => zi (ld_z0 j)))))]) (ty := .array .byte) C in_X0 tyX0 tyX0_ok nmX0 0 rfl rfl 6 (by decide) q43 rfl rfl hin rfl (by decide +kernel) rfl rfl (Nat.le_of_ble_eq_true rfl) rfl dX0_init_34 ?_
  refine zr_aload_n C 0 dX0_init_37 rfl rfl ?_
  refine zr_bipush C dX0_init_38 (by decide) ?_
  refine zr_newa (atype := .int) (ty := .int) (N' := 8) C q76 rfl (8, .inl (fun j => zi (ld_z0 j))) (fun _ => rfl) rfl (by decide) (by decide) (by decide) (by decide) dX0_init_40 (fun q5_ d5_ C => ?_)
  refine zr_putF (ws' := [(h, .inr (0, [.int (zi 0), .int (zi 0), .ref q1_, .ref q2_, .ref q3_, .long (zl 0), .ref q4_, .long (zl 0), .long (zl 0), .ref q5_, .null, .int (zi 0)])), (q1_, .inl (d1_, (8, .inl (fun j => zi (ld_z0 j))))), (q2_, .inl (d2_, (8, .inl (fun j => zi (ld_z0 j))))), (q3_, .inl (d3_, (189, .inr (.inl (fun j => zl (ld_z0 j)))))), (q4_, .inl (d4_, (8, .inl (fun j => zi (ld_z0 j))))), (q5_, .inl (d5_, (8, .inl (fun j => zi (ld_z0 j)))))]) (ty := .array .int) C in_X0 tyX0 tyX0_ok nmX0 0 rfl rfl 9 (by decide) q46 rfl rfl hin rfl (by decide +kernel) rfl rfl (Nat.le_of_ble_eq_true rfl) rfl dX0_init_42 ?_
  refine zr_aload_n C 0 dX0_init_45 rfl rfl ?_
  refine zr_bipush C dX0_init_46 (by decide) ?_
  refine zr_newa (atype := .int) (ty := .int) (N' := 8) C q76 rfl (8, .inl (fun j => zi (ld_z0 j))) (fun _ => rfl) rfl (by decide) (by decide) (by decide) (by decide) dX0_init_48 (fun q6_ d6_ C => ?_)
  refine zr_putF (ws' := [(h, .inr (0, [.int (zi 0), .int (zi 0), .ref q1_, .ref q2_, .ref q3_, .long (zl 0), .ref q4_, .long (zl 0), .long (zl 0), .ref q5_, .ref q6_, .int (zi 0)])), (q1_, .inl (d1_, (8, .inl (fun j => zi (ld_z0 j))))), (q2_, .inl (d2_, (8, .inl (fun j => zi (ld_z0 j))))), (q3_, .inl (d3_, (189, .inr (.inl (fun j => zl (ld_z0 j)))))), (q4_, .inl (d4_, (8, .inl (fun j => zi (ld_z0 j))))), (q5_, .inl (d5_, (8, .inl (fun j => zi (ld_z0 j))))), (q6_, .inl (d6_, (8, .inl (fun j => zi (ld_z0 j)))))]) (ty := .array .int) C in_X0 tyX0 tyX0_ok nmX0 0 rfl rfl 10 (by decide) q47 rfl rfl hin rfl (by decide +kernel) rfl rfl (Nat.le_of_ble_eq_true rfl) rfl dX0_init_50 ?_
  refine zr_aload_n C 0 dX0_init_53 rfl rfl ?_
  refine zr_iconst C dX0_init_54 ?_
  refine zr_put (ws' := [(h, .inr (0, [.int (zi 0), .int (zi 2), .ref q1_, .ref q2_, .ref q3_, .long (zl 0), .ref q4_, .long (zl 0), .long (zl 0), .ref q5_, .ref q6_, .int (zi 0)])), (q1_, .inl (d1_, (8, .inl (fun j => zi (ld_z0 j))))), (q2_, .inl (d2_, (8, .inl (fun j => zi (ld_z0 j))))), (q3_, .inl (d3_, (189, .inr (.inl (fun j => zl (ld_z0 j)))))), (q4_, .inl (d4_, (8, .inl (fun j => zi (ld_z0 j))))), (q5_, .inl (d5_, (8, .inl (fun j => zi (ld_z0 j))))), (q6_, .inl (d6_, (8, .inl (fun j => zi (ld_z0 j)))))]) (ty := .int) C in_X0 tyX0 tyX0_ok nmX0 0 rfl rfl 1 (by decide) q38 rfl rfl (by decide +kernel) rfl rfl (Nat.le_of_ble_eq_true rfl) rfl dX0_init_55 ?_
  intro H locs ls hP hD hS hl
  subst hQ
  exact W.vret C.1 C.2.1 B.returns (fun t ht hW => ⟨⟨(fun k => match k with | 0 => h | 1 => q1_ | 2 => q2_ | 3 => q3_ | 4 => q4_ | 5 => q5_ | _ => q6_, fun k => match k with | 1 => d1_ | 2 => d2_ | 3 => d3_ | 4 => d4_ | 5 => d5_ | _ => d6_), rfl, rfl, by rw [ht]; exact hP, va_K.moved hW.alike C.2.2.2.2.2.1, hD⟩, hS.F ht⟩) hS.2.2 dX0_init_58 B.notSynchronized
set_option maxHeartbeats 4000000 in
set_option maxRecDepth 100000 in
theorem cM_init (l : Launch) (D : va_G) (h sz : Nat) : Met l yX1_init (ws_ yX1_init cX1_init 1 none) { frames := 1, cells := 2, slots := 16, locals := 12 } (ZPre D [] [(h, .inr (1, fsM))] sz [.ref h]) (va_Qv (fun (u : (Nat → Nat) × (Nat → ClassId)) => u.1 0 = h) (fun u t => ZB D (tysM u.2) (va_A [(h, .inr (1, fsM))] sz) (wM u.1 u.2 ((0 : Nat) : Int) 2 0 0 0 ld_z0 ld_z0) t) (va_A [(h, .inr (1, fsM))] sz)) 2 16 (va_A [(h, .inr (1, fsM))] sz) := by
  refine Met.ofW (cc := cX1_init) (maxL := 1) (ret := none) (by decide) rfl ?_
  intro p e s m args below meth c s₁ B hml hv
  obtain ⟨rfl, hsz, hP, hK, hD0⟩ := hv
  have hts := atoms_spec (ws := ws_ yX1_init cX1_init 1 none) B.pre
  have hts : ∀ w ∈ lw_all, w.before _ s = true := fun w h => hts w (List.mem_cons_of_mem _ h)
  have hown : s.vm.findClass RX1 = some m.cls := findClass_of_methodNamed B.named
  have hin : meth.name = "<init>" := (name_of_methodNamed B.named B.method).1
  subst hsz
  have hD := hD0.self (sz := s.heap.size)
  rw [lg_entry_eq]
  have hl := lv_entry [.ref h] (n := 1) (Nat.le_of_ble_eq_true rfl)
  generalize hAe : va_A [(h, .inr (1, fsM))] s.heap.size = A at hD ⊢
  have C : ZC p s m ([.ref h] : List Value).toArray c cX1_init 1 RX1 D [] A := ⟨B.exec, B.bytes, hml, hown, hts, hK, fun q hq => by rw [← hAe]; exact Or.inr hq⟩
  suffices hZ : ∀ Q, Q = MQ below (va_Qv (fun (u : (Nat → Nat) × (Nat → ClassId)) => u.1 0 = h) (fun u t => ZB D (tysM u.2) A (wM u.1 u.2 ((0 : Nat) : Int) 2 0 0 0 ld_z0 ld_z0) t) A) ([.ref h] : List Value).toArray s 2 16 A → ZW p l e { frames := 1, cells := 2, slots := 16, locals := 12 } s m ([.ref h] : List Value).toArray below meth c 0 0 Q D A 1 [(h, .inr (1, fsM))] 0 [(0, .ref h)] [] from hZ _ rfl s.heap [] _ hP hD va_S.rf hl
  intro Q hQ
  refine zr_aload_n C 0 dX1_init_0 rfl rfl ?_
  refine zr_objInit C q174 q35 q36 dX1_init_1 (Nat.le_refl 1) (Nat.le_refl 12) ?_
  refine zr_aload_n C 0 dX1_init_4 rfl rfl ?_
  refine zr_iconst C dX1_init_5 ?_
  refine zr_put (ws' := [(h, .inr (1, [.int (zi 0), .int (zi 0), .null, .null, .long (zl 0), .long (zl 0), .int (zi 0)]))]) (ty := .int) C in_X1 tyX1 tyX1_ok nmX1 0 rfl rfl 0 (by decide) q175 rfl rfl (by decide +kernel) rfl rfl (Nat.le_of_ble_eq_true rfl) rfl dX1_init_6 ?_
  refine zr_aload_n C 0 dX1_init_9 rfl rfl ?_
  refine zr_iconst C dX1_init_10 ?_
  refine zr_put (ws' := [(h, .inr (1, [.int (zi 0), .int (zi 2), .null, .null, .long (zl 0), .long (zl 0), .int (zi 0)]))]) (ty := .int) C in_X1 tyX1 tyX1_ok nmX1 0 rfl rfl 1 (by decide) q176 rfl rfl (by decide +kernel) rfl rfl (Nat.le_of_ble_eq_true rfl) rfl dX1_init_11 ?_
  refine zr_aload_n C 0 dX1_init_14 rfl rfl ?_
  refine zr_bipush C dX1_init_15 (by decide) ?_
  refine zr_newa (atype := .int) (ty := .int) (N' := 8) C q76 rfl (8, .inl (fun j => zi (ld_z0 j))) (fun _ => rfl) rfl (by decide) (by decide) (by decide) (by decide) dX1_init_17 (fun q1_ d1_ C => ?_)
  refine zr_put (ws' := [(h, .inr (1, [.int (zi 0), .int (zi 2), .ref q1_, .null, .long (zl 0), .long (zl 0), .int (zi 0)])), (q1_, .inl (d1_, (8, .inl (fun j => zi (ld_z0 j)))))]) (ty := .array .int) C in_X1 tyX1 tyX1_ok nmX1 0 rfl rfl 2 (by decide) q177 rfl rfl (by decide +kernel) rfl rfl (Nat.le_of_ble_eq_true rfl) rfl dX1_init_19 ?_
  refine zr_aload_n C 0 dX1_init_22 rfl rfl ?_
  refine zr_bipush C dX1_init_23 (by decide) ?_
  refine zr_newa (atype := .int) (ty := .int) (N' := 8) C q76 rfl (8, .inl (fun j => zi (ld_z0 j))) (fun _ => rfl) rfl (by decide) (by decide) (by decide) (by decide) dX1_init_25 (fun q2_ d2_ C => ?_)
  refine zr_put (ws' := [(h, .inr (1, [.int (zi 0), .int (zi 2), .ref q1_, .ref q2_, .long (zl 0), .long (zl 0), .int (zi 0)])), (q1_, .inl (d1_, (8, .inl (fun j => zi (ld_z0 j))))), (q2_, .inl (d2_, (8, .inl (fun j => zi (ld_z0 j)))))]) (ty := .array .int) C in_X1 tyX1 tyX1_ok nmX1 0 rfl rfl 3 (by decide) q178 rfl rfl (by decide +kernel) rfl rfl (Nat.le_of_ble_eq_true rfl) rfl dX1_init_27 ?_
  intro H locs ls hP hD hS hl
  subst hQ
  exact W.vret C.1 C.2.1 B.returns (fun t ht hW => ⟨⟨(fun k => match k with | 0 => h | 1 => q1_ | _ => q2_, fun k => match k with | 1 => d1_ | _ => d2_), rfl, rfl, by rw [ht]; exact hP, va_K.moved hW.alike C.2.2.2.2.2.1, hD⟩, hS.F ht⟩) hS.2.2 dX1_init_30 B.notSynchronized
end
section
/-! PLAIN LAW 12: both classes answer alike; their rows of points agree as far as there are points -/
def ld_same (n : Nat) (X Y X' Y' : Nat → Int) : Prop := ∀ j, j < n → X' j = X j ∧ Y' j = Y j
theorem ld_same_s {n : Nat} {X Y X' Y' : Nat → Int} (h : ld_same n X Y X' Y') : ld_same n X' Y' X Y := fun j hj => ⟨(h j hj).1.symm, (h j hj).2.symm⟩
theorem ld_same_ok {n : Nat} {X Y X' Y' : Nat → Int} (h : ld_same n X Y X' Y') (hok : ld_ok n X Y) : ld_ok n X' Y' :=
  ⟨hok.1, fun j hj => by rw [(h j hj).1, (h j hj).2]; exact hok.2 j hj⟩
theorem ld_ct_same {n : Nat} {X Y X' Y' : Nat → Int} (h : ld_same n X Y X' Y') (k : Int) {i : Nat} (hi : i < n) (p q : Int) : ld_ct n X' Y' k i p q = ld_ct n X Y k i p q := by
  unfold ld_ct
  refine ld_sm_congr (fun j hj => ?_)
  rw [(h j hj).1, (h j hj).2, (h i hi).1, (h i hi).2]
theorem ld_cand_of {n : Nat} {X Y X' Y' : Nat → Int} (h : ld_same n X Y X' Y') {k : Int} {i : Nat} (hi : i < n) {t b : Int} (hc : ld_cand n X' Y' k i t b) : ld_cand n X Y k i t b := by
  rcases hc with ⟨j, hj, h1, h2, h3⟩ | ⟨h1, h2, h3⟩
  · rw [(h j hj).1, (h i hi).1] at h1 h2 h3
    rw [(h j hj).2, (h i hi).2, ld_ct_same h k hi] at h3
    exact Or.inl ⟨j, hj, h1, h2, h3⟩
  · refine Or.inr ⟨fun j hj => ?_, by rw [h2, ld_ct_same h k hi], h3⟩
    have := h1 j hj
    rw [(h j hj).1, (h i hi).1] at this
    exact this
theorem ld_cand_same {n : Nat} {X Y X' Y' : Nat → Int} (h : ld_same n X Y X' Y') {k : Int} {i : Nat} (hi : i < n) (t b : Int) : ld_cand n X' Y' k i t b ↔ ld_cand n X Y k i t b := ⟨ld_cand_of h hi, ld_cand_of (ld_same_s h) hi⟩
theorem ld_all_same {n : Nat} {X Y X' Y' : Nat → Int} (h : ld_same n X Y X' Y') {k : Int} (t b : Int) : ld_all n X' Y' k t b ↔ ld_all n X Y k t b := by
  constructor
  · intro ⟨i, hi, hc⟩
    exact ⟨i, hi, ld_cand_of h hi hc⟩
  · intro ⟨i, hi, hc⟩
    exact ⟨i, hi, ld_cand_of (ld_same_s h) hi hc⟩
theorem ld_min_of {C C' : Int → Int → Prop} (e : ∀ t b, C' t b ↔ C t b) {t b : Int} (h : ld_min C' t b) : ld_min C t b := by
  have e2 : C' = C := by
    funext t b
    exact propext (e t b)
  rw [← e2]
  exact h
theorem ld_min_red {C C' : Int → Int → Prop} (e : ∀ t b, C' t b ↔ C t b) (hC : ∀ t b, C t b → 0 < b) {t b t' b' : Int} (h : ld_min C t b) (h' : ld_min C' t' b') : ld_rt t b = ld_rt t' b' ∧ ld_rb t b = ld_rb t' b' := by
  have h2 := ld_min_of e h'
  exact ld_red h.1 h2.1 h.2.1 h2.2.1 (ld_min_eq hC h h2)
theorem ld_wmin_of {n : Nat} {X Y X' Y' : Nat → Int} (h : ld_same n X Y X' Y') {k p q r : Int} (hw : ld_wmin n X' Y' k p q r) : ld_wmin n X Y k p q r := by
  refine ⟨hw.1, fun hn => ?_⟩
  obtain ⟨⟨i, hi, e⟩, hl⟩ := hw.2 hn
  refine ⟨⟨i, hi, by rw [e, ld_ct_same h k hi]⟩, fun i hi => ?_⟩
  rw [← ld_ct_same h k hi]
  exact hl i hi
theorem ld_fr_of {t b t' b' x q : Int} (hb : 0 < b) (e : t * b' = t' * b) (h : x * b = t * q) : x * b' = t' * q := by
  have h1 : x * b' * b = t' * q * b := by
    have a1 : x * b' * b = x * b * b' := by grind
    have a2 : t' * q * b = t' * b * q := by grind
    rw [a1, a2, h, ← e]
    grind
  exact Int.eq_of_mul_eq_mul_right (by omega) h1
theorem ld_fr_iff {t b t' b' x q : Int} (hb : 0 < b) (hb' : 0 < b') (e : t * b' = t' * b) : x * b = t * q ↔ x * b' = t' * q := ⟨ld_fr_of hb e, ld_fr_of hb' e.symm⟩
theorem ld_bit {r r' : Int} {P P' : Prop} (e : P ↔ P') (h : (r = 1 ∧ P) ∨ (r = 0 ∧ ¬ P)) (h' : (r' = 1 ∧ P') ∨ (r' = 0 ∧ ¬ P')) : r = r' := by
  rcases h with ⟨rfl, h⟩ | ⟨rfl, h⟩ <;> rcases h' with ⟨rfl, h'⟩ | ⟨rfl, h'⟩
  · rfl
  · exact absurd (e.mp h) h'
  · exact absurd (e.mpr h') h
  · rfl
theorem ld_an_ltop {n : Nat} {X Y X' Y' : Nat → Int} (h : ld_same n X Y X' Y') {k r r' : Int} (hx : ∃ t b, ld_min (ld_all n X Y k) t b ∧ r = ld_rt t b) (hm : ∃ t b, ld_min (ld_all n X' Y' k) t b ∧ r' = ld_rt t b) : r = r' := by
  obtain ⟨t, b, h1, rfl⟩ := hx
  obtain ⟨t', b', h2, rfl⟩ := hm
  exact (ld_min_red (ld_all_same h) (fun t b => ld_all_pos t b) h1 h2).1
theorem ld_an_lbot {n : Nat} {X Y X' Y' : Nat → Int} (h : ld_same n X Y X' Y') {k r r' : Int} (hx : ∃ t b, ld_min (ld_all n X Y k) t b ∧ r = ld_rb t b) (hm : ∃ t b, ld_min (ld_all n X' Y' k) t b ∧ r' = ld_rb t b) : r = r' := by
  obtain ⟨t, b, h1, rfl⟩ := hx
  obtain ⟨t', b', h2, rfl⟩ := hm
  exact (ld_min_red (ld_all_same h) (fun t b => ld_all_pos t b) h1 h2).2
theorem ld_an_ttop {n : Nat} {X Y X' Y' : Nat → Int} (h : ld_same n X Y X' Y') {k r r' i : Int} (hx : (¬ (0 ≤ i ∧ i < (n : Int)) ∧ r = -1) ∨ ((0 ≤ i ∧ i < (n : Int)) ∧ ∃ t b, ld_min (ld_cand n X Y k i.toNat) t b ∧ r = ld_rt t b)) (hm : (¬ (0 ≤ i ∧ i < (n : Int)) ∧ r' = -1) ∨ ((0 ≤ i ∧ i < (n : Int)) ∧ ∃ t b, ld_min (ld_cand n X' Y' k i.toNat) t b ∧ r' = ld_rt t b)) : r = r' := by
  rcases hx with ⟨h1, h2⟩ | ⟨h1, t, b, h2, h3⟩
  · rcases hm with ⟨h4, h5⟩ | ⟨h4, -⟩
    · omega
    · exact absurd h4 h1
  · rcases hm with ⟨h4, h5⟩ | ⟨h4, t', b', h5, h6⟩
    · exact absurd h1 h4
    · rw [h3, h6]
      exact (ld_min_red (ld_cand_same h (by omega)) (fun t b => ld_cand_pos) h2 h5).1
theorem ld_an_tbot {n : Nat} {X Y X' Y' : Nat → Int} (h : ld_same n X Y X' Y') {k r r' i : Int} (hx : (¬ (0 ≤ i ∧ i < (n : Int)) ∧ r = -1) ∨ ((0 ≤ i ∧ i < (n : Int)) ∧ ∃ t b, ld_min (ld_cand n X Y k i.toNat) t b ∧ r = ld_rb t b)) (hm : (¬ (0 ≤ i ∧ i < (n : Int)) ∧ r' = -1) ∨ ((0 ≤ i ∧ i < (n : Int)) ∧ ∃ t b, ld_min (ld_cand n X' Y' k i.toNat) t b ∧ r' = ld_rb t b)) : r = r' := by
  rcases hx with ⟨h1, h2⟩ | ⟨h1, t, b, h2, h3⟩
  · rcases hm with ⟨h4, h5⟩ | ⟨h4, -⟩
    · omega
    · exact absurd h4 h1
  · rcases hm with ⟨h4, h5⟩ | ⟨h4, t', b', h5, h6⟩
    · exact absurd h1 h4
    · rw [h3, h6]
      exact (ld_min_red (ld_cand_same h (by omega)) (fun t b => ld_cand_pos) h2 h5).2
theorem ld_an_with {n : Nat} {X Y X' Y' : Nat → Int} (h : ld_same n X Y X' Y') {k r r' p q : Int} {G : Prop} (hx : (¬ G ∧ r = -1) ∨ (G ∧ ld_wmin n X Y k p q r)) (hm : (¬ G ∧ r' = -1) ∨ (G ∧ ld_wmin n X' Y' k p q r')) : r = r' := by
  rcases hx with ⟨h1, h2⟩ | ⟨h1, h2⟩
  · rcases hm with ⟨h4, h5⟩ | ⟨h4, -⟩
    · omega
    · exact absurd h4 h1
  · rcases hm with ⟨h4, h5⟩ | ⟨h4, h5⟩
    · exact absurd h1 h4
    · exact ld_wmin_eq h2 (ld_wmin_of h h5)
theorem ld_an_slope {n : Nat} {X Y X' Y' : Nat → Int} (h : ld_same n X Y X' Y') {k r r' p q : Int} {G : Prop} (hx : (¬ G ∧ r = 0) ∨ (G ∧ ∃ t b x, ld_min (ld_all n X Y k) t b ∧ ld_wmin n X Y k p q x ∧ ((r = 1 ∧ x * b = t * q) ∨ (r = 0 ∧ x * b ≠ t * q)))) (hm : (¬ G ∧ r' = 0) ∨ (G ∧ ∃ t b x, ld_min (ld_all n X' Y' k) t b ∧ ld_wmin n X' Y' k p q x ∧ ((r' = 1 ∧ x * b = t * q) ∨ (r' = 0 ∧ x * b ≠ t * q)))) : r = r' := by
  rcases hx with ⟨h1, h2⟩ | ⟨h1, t, b, x, h2, h3, hr⟩
  · rcases hm with ⟨h4, h5⟩ | ⟨h4, -⟩
    · omega
    · exact absurd h4 h1
  · rcases hm with ⟨h4, h5⟩ | ⟨h4, t', b', x', h5, h6, hr'⟩
    · exact absurd h1 h4
    · have ex : x = x' := ld_wmin_eq h3 (ld_wmin_of h h6)
      subst ex
      have h7 := ld_min_of (ld_all_same h) h5
      exact ld_bit (ld_fr_iff h2.1 h7.1 (ld_min_eq (fun t b => ld_all_pos t b) h2 h7)) hr hr'
theorem ld_an_pair {n : Nat} {X Y X' Y' : Nat → Int} (h : ld_same n X Y X' Y') {k r r' i j : Int} (hx : (¬ ((0 ≤ i ∧ i < (n : Int)) ∧ (0 ≤ j ∧ j < (n : Int)) ∧ X i.toNat ≠ X j.toNat) ∧ r = 0) ∨ (((0 ≤ i ∧ i < (n : Int)) ∧ (0 ≤ j ∧ j < (n : Int)) ∧ X i.toNat ≠ X j.toNat) ∧ ∃ t b, ld_min (ld_all n X Y k) t b ∧ ((r = 1 ∧ ld_ct n X Y k i.toNat (ld_kP (Y j.toNat - Y i.toNat) (X j.toNat - X i.toNat)) (ld_kQ (X j.toNat - X i.toNat)) * b = t * ld_kQ (X j.toNat - X i.toNat)) ∨ (r = 0 ∧ ld_ct n X Y k i.toNat (ld_kP (Y j.toNat - Y i.toNat) (X j.toNat - X i.toNat)) (ld_kQ (X j.toNat - X i.toNat)) * b ≠ t * ld_kQ (X j.toNat - X i.toNat)))))
    (hm : (¬ ((0 ≤ i ∧ i < (n : Int)) ∧ (0 ≤ j ∧ j < (n : Int)) ∧ X' i.toNat ≠ X' j.toNat) ∧ r' = 0) ∨ (((0 ≤ i ∧ i < (n : Int)) ∧ (0 ≤ j ∧ j < (n : Int)) ∧ X' i.toNat ≠ X' j.toNat) ∧ ∃ t b, ld_min (ld_all n X' Y' k) t b ∧ ((r' = 1 ∧ ld_ct n X' Y' k i.toNat (ld_kP (Y' j.toNat - Y' i.toNat) (X' j.toNat - X' i.toNat)) (ld_kQ (X' j.toNat - X' i.toNat)) * b = t * ld_kQ (X' j.toNat - X' i.toNat)) ∨ (r' = 0 ∧ ld_ct n X' Y' k i.toNat (ld_kP (Y' j.toNat - Y' i.toNat) (X' j.toNat - X' i.toNat)) (ld_kQ (X' j.toNat - X' i.toNat)) * b ≠ t * ld_kQ (X' j.toNat - X' i.toNat))))) : r = r' := by
  by_cases hij : (0 ≤ i ∧ i < (n : Int)) ∧ (0 ≤ j ∧ j < (n : Int))
  · have hi : i.toNat < n := by omega
    have hj : j.toNat < n := by omega
    rw [(h _ hi).1, (h _ hi).2, (h _ hj).1, (h _ hj).2] at hm
    rcases hx with ⟨h1, h2⟩ | ⟨h1, t, b, h2, hr⟩
    · rcases hm with ⟨h4, h5⟩ | ⟨h4, -⟩
      · omega
      · exact absurd h4 h1
    · rcases hm with ⟨h4, h5⟩ | ⟨h4, t', b', h5, hr'⟩
      · exact absurd h1 h4
      · have h7 := ld_min_of (ld_all_same h) h5
        rw [ld_ct_same h k hi] at hr'
        exact ld_bit (ld_fr_iff h2.1 h7.1 (ld_min_eq (fun t b => ld_all_pos t b) h2 h7)) hr hr'
  · rcases hx with ⟨h1, h2⟩ | ⟨h1, -⟩
    · rcases hm with ⟨h4, h5⟩ | ⟨h4, -⟩
      · omega
      · exact absurd ⟨h4.1, h4.2.1⟩ hij
    · exact absurd ⟨h1.1, h1.2.1⟩ hij
/-- what holds between the two objects at the loop's head -/
def ld_inv (n : Nat) (k : Int) (X Y X' Y' : Nat → Int) : Prop := ld_ok n X Y ∧ ld_k k ∧ ld_same n X Y X' Y'
theorem ld_an_add {n : Nat} {k : Int} {X Y X' Y' : Nat → Int} (h : ld_inv n k X Y X' Y') {x y r r' : Int} {u u' : Nat × (Nat → Int) × (Nat → Int)} (hx : (n = 8 ∧ r = -2 ∧ u = (n, X, Y)) ∨ (n < 8 ∧ ¬ (-20 ≤ x ∧ x ≤ 20 ∧ -20 ≤ y ∧ y ≤ 20) ∧ r = -1 ∧ u = (n, X, Y)) ∨ (n < 8 ∧ (-20 ≤ x ∧ x ≤ 20 ∧ -20 ≤ y ∧ y ≤ 20) ∧ r = (n : Int) + 1 ∧ u = (n + 1, ld_up X n x, ld_up Y n y)))
    (hm : (n = 8 ∧ r' = -2 ∧ u' = (n, X', Y')) ∨ (n < 8 ∧ ¬ (-20 ≤ x ∧ x ≤ 20 ∧ -20 ≤ y ∧ y ≤ 20) ∧ r' = -1 ∧ u' = (n, X', Y')) ∨ (n < 8 ∧ (-20 ≤ x ∧ x ≤ 20 ∧ -20 ≤ y ∧ y ≤ 20) ∧ r' = (n : Int) + 1 ∧ u' = (n + 1, ld_up X' n x, ld_up Y' n y))) : r = r' ∧ u'.1 = u.1 ∧ ld_inv u.1 k u.2.1 u.2.2 u'.2.1 u'.2.2 := by
  rcases hx with ⟨h1, h2, rfl⟩ | ⟨h1, h2, h3, rfl⟩ | ⟨h1, h2, h3, rfl⟩
  · rcases hm with ⟨h4, h5, rfl⟩ | ⟨h4, -⟩ | ⟨h4, -⟩
    · exact ⟨by omega, rfl, h⟩
    · omega
    · omega
  · rcases hm with ⟨h4, -⟩ | ⟨h4, h5, h6, rfl⟩ | ⟨h4, h5, -⟩
    · omega
    · exact ⟨by omega, rfl, h⟩
    · exact absurd h5 h2
  · rcases hm with ⟨h4, -⟩ | ⟨h4, h5, -⟩ | ⟨h4, h5, h6, rfl⟩
    · omega
    · exact absurd h2 h5
    · obtain ⟨hok, hk, hs⟩ := h
      refine ⟨by omega, rfl, ⟨show n + 1 ≤ 8 by omega, fun j hj => ?_⟩, hk, fun j hj => ?_⟩
      · have hj : j < n + 1 := hj
        show (-20 ≤ ld_up X n x j ∧ ld_up X n x j ≤ 20) ∧ (-20 ≤ ld_up Y n y j ∧ ld_up Y n y j ≤ 20)
        by_cases e : j = n
        · subst e
          rw [ld_up_s, ld_up_s]
          omega
        · rw [ld_up_n _ _ e, ld_up_n _ _ e]
          exact hok.2 j (by omega)
      · have hj : j < n + 1 := hj
        show ld_up X' n x j = ld_up X n x j ∧ ld_up Y' n y j = ld_up Y n y j
        by_cases e : j = n
        · subst e
          rw [ld_up_s, ld_up_s, ld_up_s, ld_up_s]
          exact ⟨rfl, rfl⟩
        · rw [ld_up_n _ _ e, ld_up_n _ _ e, ld_up_n _ _ e, ld_up_n _ _ e]
          exact hs j (by omega)
theorem ld_an_drop {n : Nat} {k : Int} {X Y X' Y' : Nat → Int} (h : ld_inv n k X Y X' Y') {i r r' : Int} {u u' : Nat × (Nat → Int) × (Nat → Int)} (hx : (¬ (0 ≤ i ∧ i < (n : Int)) ∧ r = -1 ∧ u = (n, X, Y)) ∨ ((0 ≤ i ∧ i < (n : Int)) ∧ r = (n : Int) - 1 ∧ u.1 + 1 = n ∧ ∀ j, j < u.1 → u.2.1 j = (if (j : Int) < i then X j else X (j + 1)) ∧ u.2.2 j = (if (j : Int) < i then Y j else Y (j + 1))))
    (hm : (¬ (0 ≤ i ∧ i < (n : Int)) ∧ r' = -1 ∧ u' = (n, X', Y')) ∨ ((0 ≤ i ∧ i < (n : Int)) ∧ r' = (n : Int) - 1 ∧ u'.1 + 1 = n ∧ ∀ j, j < u'.1 → u'.2.1 j = (if (j : Int) < i then X' j else X' (j + 1)) ∧ u'.2.2 j = (if (j : Int) < i then Y' j else Y' (j + 1)))) : r = r' ∧ u'.1 = u.1 ∧ ld_inv u.1 k u.2.1 u.2.2 u'.2.1 u'.2.2 := by
  rcases hx with ⟨h1, h2, rfl⟩ | ⟨h1, h2, h3, hu⟩
  · rcases hm with ⟨h4, h5, rfl⟩ | ⟨h4, -⟩
    · exact ⟨by omega, rfl, h⟩
    · exact absurd h4 h1
  · rcases hm with ⟨h4, -⟩ | ⟨h4, h5, h6, hu'⟩
    · exact absurd h1 h4
    · obtain ⟨hok, hk, hs⟩ := h
      have hn := hok.1
      refine ⟨by omega, by omega, ⟨by omega, fun j hj => ?_⟩, hk, fun j hj => ?_⟩
      · rw [(hu j hj).1, (hu j hj).2]
        by_cases e : (j : Int) < i
        · rw [if_pos e, if_pos e]
          exact hok.2 j (by omega)
        · rw [if_neg e, if_neg e]
          exact hok.2 (j + 1) (by omega)
      · have hj' : j < u'.1 := by omega
        rw [(hu j hj).1, (hu j hj).2, (hu' j hj').1, (hu' j hj').2]
        by_cases e : (j : Int) < i
        · rw [if_pos e, if_pos e, if_pos e, if_pos e]
          exact hs j (by omega)
        · rw [if_neg e, if_neg e, if_neg e, if_neg e]
          exact hs (j + 1) (by omega)
theorem ld_an_lean {n : Nat} {k : Int} {X Y X' Y' : Nat → Int} (h : ld_inv n k X Y X' Y') {z r r' u u' : Int} (hx : (r = 1 ∧ 1 ≤ z ∧ z ≤ 3 ∧ u = z) ∨ (r = 0 ∧ ¬ (1 ≤ z ∧ z ≤ 3) ∧ u = k)) (hm : (r' = 1 ∧ 1 ≤ z ∧ z ≤ 3 ∧ u' = z) ∨ (r' = 0 ∧ ¬ (1 ≤ z ∧ z ≤ 3) ∧ u' = k)) : r = r' ∧ u' = u ∧ ld_inv n u X Y X' Y' := by
  obtain ⟨hok, hk, hs⟩ := h
  refine ⟨by omega, by omega, hok, ?_, hs⟩
  unfold ld_k at hk ⊢
  omega
end
section
/-! ROWS OF THE LAW: the script, the switch, calls of one object beside the other -/
theorem zi_of (x : Int32) : zi x.toInt = x := Int32.ofInt_toInt x
theorem bI_of (x : Int32) : bI x.toInt := by
  have h1 := Int32.le_toInt x
  have h2 := Int32.toInt_lt x
  unfold bI
  omega
section LZ
variable {p : Program} {l : Launch} {e : Env} {R : Room} {s : State} {m : MethodId} {args : Array Value} {below : List Frame} {meth : Method} {c : Code} {cells slots : Nat} {Q : State → Prop} {D : va_G} {A : Nat → Prop} {nL : Nat} {ws : va_W} {pc : Nat} {lv : List (Nat × Value)} {st st0 : List Value} {cc : ByteArray} {own : String} {tys : List (ClassId × FieldType)} {S : Type} {P : Int → S → Prop} {wn : S → va_W}
theorem lz_slen (C : ZC p s m args c cc nL own D tys A) {b L : Nat} {xs : Nat → Int32} (hX : va_X b L xs s s.heap) (hbl : b < s.heap.size) (hbA : ¬ A b) (hdg : decode cc pc = .ok (.arraylength, 1))
    (k : ZW p l e R s m args below meth c cells slots Q D A nL ws (pc + 1) lv (.int (zi (L : Int)) :: st)) : ZW p l e R s m args below meth c cells slots Q D A nL ws pc lv (.ref b :: st) :=
  fun H locs ls hP hD hS hl => va_slen C.1 C.2.1 hX hbl hbA hS hdg (by
    rw [show Int32.ofNat L = zi (L : Int) from Int32.ofInt_eq_ofNat.symm]
    exact k H locs ls hP hD hS hl)
theorem lz_sld (C : ZC p s m args c cc nL own D tys A) {b L : Nat} {xs : Nat → Int32} (hX : va_X b L xs s s.heap) (hbl : b < s.heap.size) (hbA : ¬ A b) (hL : L ≤ 192) {i : Int} (i0 : Nat) (hi : i = (i0 : Int)) (hlt : i0 < L) (hdg : decode cc pc = .ok (.iaload, 1))
    (k : ZW p l e R s m args below meth c cells slots Q D A nL ws (pc + 1) lv (.int (zi (xs i0).toInt) :: st)) : ZW p l e R s m args below meth c cells slots Q D A nL ws pc lv (.int (zi i) :: .ref b :: st) :=
  fun H locs ls hP hD hS hl => va_sld C.1 C.2.1 hX hbl hbA hS (zi_in hi hlt (by omega)) hdg (by
    rw [zi_cl hi (by omega), ← zi_of (xs i0)]
    exact k H locs ls hP hD hS hl)
theorem lz_and15 (C : ZC p s m args c cc nL own D tys A) {x : Int} (hdg : decode cc pc = .ok (.iand, 1))
    (k : ∀ j : Nat, j < 16 → ZW p l e R s m args below meth c cells slots Q D A nL ws (pc + 1) lv (.int (zi (j : Int)) :: st)) : ZW p l e R s m args below meth c cells slots Q D A nL ws pc lv (.int (zi 15) :: .int (zi x) :: st) := by
  intro H locs ls hP hD hS hl
  refine lv_iand C.1 C.2.1 hdg ?_
  obtain ⟨j, hj, e⟩ := pk_andE (zi x) (m := zi 15) 4 (by rfl)
  rw [e, show nI j = zi (j : Int) from Int32.ofInt_eq_ofNat.symm]
  exact k j hj H locs ls hP hD hS hl
theorem lz_tabIn (C : ZC p s m args c cc nL own D tys A) {dflt lo hi : Int} {offs : Array Int} {len : Nat} {x : Int} {off : Int} {tgt : Nat} (hdg : decode cc pc = .ok (.tableswitch dflt lo hi offs, len)) (hx : bI x) (h1 : lo ≤ x) (h2 : x ≤ hi) (ho : offs[(x - lo).toNat]? = some off) (ht : (pc : Int) + off = (tgt : Int))
    (k : ZW p l e R s m args below meth c cells slots Q D A nL ws tgt lv st) : ZW p l e R s m args below meth c cells slots Q D A nL ws pc lv (.int (zi x) :: st) :=
  fun H locs ls hP hD hS hl => lv_tableIn C.1 C.2.1 hdg (by rw [zi_toInt hx]; omega) (by rw [zi_toInt hx]; omega) (by rw [zi_toInt hx]; exact ho) ht (k H locs ls hP hD hS hl)
theorem lz_tabOut (C : ZC p s m args c cc nL own D tys A) {dflt lo hi : Int} {offs : Array Int} {len : Nat} {x : Int} {tgt : Nat} (hdg : decode cc pc = .ok (.tableswitch dflt lo hi offs, len)) (hx : bI x) (h : x < lo ∨ hi < x) (ht : (pc : Int) + dflt = (tgt : Int))
    (k : ZW p l e R s m args below meth c cells slots Q D A nL ws tgt lv st) : ZW p l e R s m args below meth c cells slots Q D A nL ws pc lv (.int (zi x) :: st) :=
  fun H locs ls hP hD hS hl => lv_tableOut C.1 C.2.1 hdg (by rw [zi_toInt hx]; exact h) ht (k H locs ls hP hD hS hl)
theorem lz_alike (C : ZC p s m args c cc nL own D tys A) {x y : Int} {off : Int} {tgt : Nat} (hxy : x = y) (hdg : decode cc pc = .ok (.if_icmp .eq off, 3)) (ht : (pc : Int) + off = (tgt : Int))
    (k : ZW p l e R s m args below meth c cells slots Q D A nL ws tgt lv st) : ZW p l e R s m args below meth c cells slots Q D A nL ws pc lv (.int (zi y) :: .int (zi x) :: st) :=
  fun H locs ls hP hD hS hl => lv_icmp_eq C.1 C.2.1 hdg ht (fun _ => k H locs ls hP hD hS hl) (fun h => absurd (by rw [hxy]) h)
/-- a call whose world is a part of the world: what came back stands behind the rest -/
theorem lz_calli (C : ZC p s m args c cc nL own D tys A) {y : MethodName} {cc' : ByteArray} {L' : Nat} {ret : Option FieldType} {rm' : Room} {b index ci : Nat} {As : List Value} {C0 : String} {q : vw_C} {fs : List Value} {tys' : List (ClassId × FieldType)} {wc wr : va_W} (n : Nat) (isC isR isT : List Nat) (hM : ZMi l y cc' L' ret rm' D tys' wc (.ref b :: As) P wn)
    (hT : isT.filterMap (fun i => tys[i]?) = tys') (hCf : isC.filterMap (fun i => ws[i]?) = wc) (hC : isC.map (fun i => ws[i]?) = wc.map some) (hRr : isR.map (fun i => ws[i]?) = wr.map some) (hnC : va_nd isC = true) (hnR : va_nd isR = true) (hdis : ∀ i ∈ isR, i ∉ isC)
    (h1 : Cond.methodLink own index y ∈ lw_all) (h2 : Cond.instanceMethod y ∈ lw_all) (h3 : Cond.selects C0 y y ∈ lw_all) (h4 : Cond.initialized C0 ∈ lw_all) (h5 : Cond.code y cc' L' ret ∈ lw_all)
    (hd : y.cls = C0 ∧ y.cls ≠ "java/lang/invoke/MethodHandle" ∧ y.cls ≠ "java/lang/invoke/VarHandle" ∧ (parseMethodDescriptor y.desc).map (fun d => d.parameters.length) = some n) (hR : rm'.frames + 1 ≤ R.frames ∧ 8 + (L' + 11) + rm'.locals ≤ R.locals) (hcs : rm'.cells = 0 ∧ rm'.slots = 0)
    (hn : As.length = n) (he : wc[0]? = some (b, .inr (ci, fs))) (hc : vwCl[ci]? = some q) (hq : q.1 = C0) (hroom : (st.map fun v => v.category).sum ≤ 8) (hcr : cells ≤ R.cells ∧ slots ≤ R.slots) (hdg : decode cc pc = .ok (.invokevirtual index, 3)) (hst : As.reverse ++ .ref b :: st = st0)
    (kk : ∀ (x : Int) (u : S), P x u → ZW p l e R s m args below meth c cells slots Q D A nL (wr ++ wn u) (pc + 3) lv (.int (zi x) :: st)) : ZW p l e R s m args below meth c cells slots Q D A nL ws pc lv st0 := by
  intro H locs ls hP hD hS hl
  obtain ⟨hx, hb, hml, hown, hts, hK, hA⟩ := C
  subst hst
  have hPc := hP.sub (ws' := wc) isC hCf
  have hDc := hD.sub (ws' := wc) isC hnC hC
  have hKc := hK.sub (tys' := tys') isT hT
  have hFc := va_free (wc := wc) hD hS hA isC hC
  refine va_calli (va_runV (C := C0) (As := As) (rest := st) ⟨hx, hb, hml, hown, hts⟩ (hM H.size) (cwV n hts (lw_V h1 h2 h3 h4 h5) rfl hcs.1 hcs.2 hd hR) ⟨fun a U g mk q => by obtain ⟨q0, q1, qP, qK, qD⟩ := q; exact ⟨q0, q1, qP, va_K.moved (u := U) (U := U.calling g mk a) (Vm.Alike.refl U.vm) qK, qD⟩, hq ▸ va_recv hKc hPc hc he, fun U hU hW => ⟨rfl, by rw [hU], by rw [hU]; exact hPc, va_K.moved hW.alike hKc, hDc.weaken (fun _ _ _ _ => trivial)⟩⟩ rfl hn hl.1 rfl (lv_room hroom) hdg hcr) hS (fun q _ h => hFc q h) hFc (fun r u t H1 locs1 ht hvm hw1 hB hz1 hk1 hS1 => ?_)
  obtain ⟨hP1, hK1, hD1⟩ := hB
  rw [ht] at hP1
  obtain ⟨hr1, hp1⟩ := hw1
  subst hr1
  obtain ⟨hP2, hD2⟩ := va_join (wr := wr) (w1 := wn u.2) hP hD isC isR hC hRr hnR hdis hk1 hFc hP1 hD1
  exact kk u.1 u.2 hp1 H1 locs1 ls hP2 hD2 hS1 hl
theorem lz_new (C : ZC p s m args c cc nL own D tys A) {C0 : String} {T : u_T} {N ci index : Nat} (hin : ∀ w ∈ u_ws C0 T N, w ∈ lw_all) (ty : Nat → FieldType) (hty : ∀ k, k < N → parseFieldDescriptor (T k).2.2.1 = some (ty k)) (hcl : Cond.classLink own index C0 ∈ lw_all) (hinst : Cond.instantiable C0 N ∈ lw_all) (hini : Cond.initialized C0 ∈ lw_all) (hc : vwCl[ci]? = some (C0, T, N)) (fs : List Value) (hfs : ∀ j, j < N → defaultValue (ty j) = vp_V fs j) (hcells : cells + 1 ≤ R.cells) (hslots : slots + N ≤ R.slots) (hdg : decode cc pc = .ok (.new index, 3))
    (k : ∀ q : Nat, ZW p l e R s m args below meth c (cells + 1) (slots + N) Q D A nL (ws ++ [(q, .inr (ci, fs))]) (pc + 3) lv (.ref q :: st)) : ZW p l e R s m args below meth c cells slots Q D A nL ws pc lv st :=
  fun H locs ls hP hD hS hl => va_new (Ts := lw_all) C.1 C.2.1 C.2.2.2.2.1 hin ty hty C.2.2.2.1 (C.2.2.2.2.1 _ hcl) (C.2.2.2.2.1 _ hinst) (C.2.2.2.2.1 _ hini) C.2.2.2.2.2.1 hP hD hS C.2.2.2.2.2.2 hc hfs hcells hslots hdg (fun q H1 hP1 hD1 hS1 => k q H1 locs ls hP1 hD1 hS1 hl)
/-- a constructor's call on the cell at place k0: what it makes stands behind the rest -/
theorem lz_callI (C : ZC p s m args c cc nL own D tys A) {y : MethodName} {cc' : ByteArray} {L' : Nat} {rm' : Room} {mc ms b index ci : Nat} {fs : List Value} {wr : va_W} {ty : (Nat → ClassId) → List (ClassId × FieldType)} {wi : (Nat → Nat) × (Nat → ClassId) → va_W} (k0 : Nat) (isR : List Nat)
    (hM : ∀ sz : Nat, Met l y (ws_ y cc' L' none) rm' (ZPre D [] [(b, .inr (ci, fs))] sz [.ref b]) (va_Qv (fun (u : (Nat → Nat) × (Nat → ClassId)) => u.1 0 = b) (fun u t => ZB D (ty u.2) (va_A [(b, .inr (ci, fs))] sz) (wi u) t) (va_A [(b, .inr (ci, fs))] sz)) mc ms (va_A [(b, .inr (ci, fs))] sz))
    (he : ws[k0]? = some (b, .inr (ci, fs))) (hRr : isR.map (fun i => ws[i]?) = wr.map some) (hnR : va_nd isR = true) (hdis : ∀ i ∈ isR, i ∉ [k0])
    (h1 : Cond.methodLink own index y ∈ lw_all) (h2 : Cond.instanceMethod y ∈ lw_all) (h4 : Cond.initialized y.cls ∈ lw_all) (h5 : Cond.code y cc' L' none ∈ lw_all) (hnm : y.name = "<init>")
    (hd : y.cls ≠ "java/lang/invoke/MethodHandle" ∧ y.cls ≠ "java/lang/invoke/VarHandle" ∧ (parseMethodDescriptor y.desc).map (fun d => d.parameters.length) = some 0) (hR : rm'.frames + 1 ≤ R.frames ∧ 8 + (L' + 11) + rm'.locals ≤ R.locals) (hcs : rm'.cells = mc ∧ rm'.slots = ms)
    (hroom : (st.map fun v => v.category).sum ≤ 8) (hcr : cells + mc ≤ R.cells ∧ slots + ms ≤ R.slots) (hdg : decode cc pc = .ok (.invokespecial index, 3))
    (kk : ∀ u : (Nat → Nat) × (Nat → ClassId), u.1 0 = b → ZC p s m args c cc nL own D (tys ++ ty u.2) A → ZW p l e R s m args below meth c (cells + mc) (slots + ms) Q D A nL (wr ++ wi u) (pc + 3) lv st) : ZW p l e R s m args below meth c cells slots Q D A nL ws pc lv (.ref b :: st) := by
  intro H locs ls hP hD hS hl
  obtain ⟨hx, hb, hml, hown, hts, hK, hA⟩ := C
  have hC : [k0].map (fun i => ws[i]?) = [(b, (.inr (ci, fs) : va_E))].map some := by
    show [ws[k0]?] = [some (b, .inr (ci, fs))]
    rw [he]
  have hCf : [k0].filterMap (fun i => ws[i]?) = [(b, (.inr (ci, fs) : va_E))] := by
    rw [List.filterMap_cons]
    rw [he]
    rfl
  have hPc := hP.sub (ws' := [(b, .inr (ci, fs))]) [k0] hCf
  have hDc := hD.sub (ws' := [(b, .inr (ci, fs))]) [k0] rfl hC
  have hKc := hK.sub (tys' := []) [] rfl
  have hFc := va_free (wc := [(b, .inr (ci, fs))]) hD hS hA [k0] hC
  refine va_callv (va_runI (As := []) (rest := st) ⟨hx, hb, hml, hown, hts⟩ (hM H.size) (cwI 0 hts (lw_meth h5) rfl hcs.1 hcs.2 (hts _ h4) (hts _ h1) (hts _ h2) hnm hd hR) ⟨fun a U g mk q => by obtain ⟨q0, q1, qP, qK, qD⟩ := q; exact ⟨q0, q1, qP, va_K.moved (u := U) (U := U.calling g mk a) (Vm.Alike.refl U.vm) qK, qD⟩, fun U hU hW => ⟨rfl, by rw [hU], by rw [hU]; exact hPc, va_K.moved hW.alike hKc, hDc.weaken (fun _ _ _ _ => trivial)⟩⟩ rfl rfl hl.1 rfl (lv_room hroom) hdg hcr) hS (fun q _ h => hFc q h) hFc (fun u t H1 locs1 ht hvm hw1 hB hz1 hk1 hS1 => ?_)
  obtain ⟨hP1, hK1, hD1⟩ := hB
  rw [ht] at hP1
  have hK1 := va_K.moved hvm.symm hK1
  obtain ⟨hP2, hD2⟩ := va_join (wr := wr) (w1 := wi u) hP hD [k0] isR hC hRr hnR hdis hk1 hFc hP1 hD1
  exact kk u hw1 ⟨hx, hb, hml, hown, hts, hK.app hK1, hA⟩ H1 locs1 ls hP2 hD2 hS1 hl
end LZ
section LZ2
variable {p : Program} {l : Launch} {e : Env} {R : Room} {s : State} {m : MethodId} {args : Array Value} {below : List Frame} {meth : Method} {c : Code} {cells slots : Nat} {Q : State → Prop} {D : va_G} {A : Nat → Prop} {nL : Nat} {pc : Nat} {lv : List (Nat × Value)} {st st0 : List Value} {cc : ByteArray} {own : String} {S : Type} {P : Int → S → Prop} {wn : S → va_W} {g g' : Nat → Nat} {dd dd' : Nat → ClassId} {pn pk dn tp bt sc pn' pk' tp' bt' fd : Int} {px py tb ow so sb qx qy : Nat → Int}
theorem lz_callX (C : ZC p s m args c cc nL own D (tysX dd ++ tysM dd') A) {y : MethodName} {cc' : ByteArray} {L' : Nat} {ret : Option FieldType} {rm' : Room} {index : Nat} {As : List Value} (n : Nat) (hM : ZMi l y cc' L' ret rm' D (tysX dd) (wX g dd pn pk dn tp bt sc px py tb ow so sb) (.ref (g 0) :: As) P wn)
    (h1 : Cond.methodLink own index y ∈ lw_all) (h2 : Cond.instanceMethod y ∈ lw_all) (h3 : Cond.selects RX0 y y ∈ lw_all) (h4 : Cond.initialized RX0 ∈ lw_all) (h5 : Cond.code y cc' L' ret ∈ lw_all)
    (hd : y.cls = RX0 ∧ y.cls ≠ "java/lang/invoke/MethodHandle" ∧ y.cls ≠ "java/lang/invoke/VarHandle" ∧ (parseMethodDescriptor y.desc).map (fun d => d.parameters.length) = some n) (hR : rm'.frames + 1 ≤ R.frames ∧ 8 + (L' + 11) + rm'.locals ≤ R.locals) (hcs : rm'.cells = 0 ∧ rm'.slots = 0)
    (hn : As.length = n) (hroom : (st.map fun v => v.category).sum ≤ 8) (hcr : cells ≤ R.cells ∧ slots ≤ R.slots) (hdg : decode cc pc = .ok (.invokevirtual index, 3)) (hst : As.reverse ++ .ref (g 0) :: st = st0)
    (kk : ∀ (x : Int) (u : S), P x u → ZW p l e R s m args below meth c cells slots Q D A nL (wM g' dd' pn' pk' tp' bt' fd qx qy ++ wn u) (pc + 3) lv (.int (zi x) :: st)) : ZW p l e R s m args below meth c cells slots Q D A nL (wX g dd pn pk dn tp bt sc px py tb ow so sb ++ wM g' dd' pn' pk' tp' bt' fd qx qy) pc lv st0 :=
  lz_calli (wr := wM g' dd' pn' pk' tp' bt' fd qx qy) (ci := 0) C n [0, 1, 2, 3, 4, 5, 6] [7, 8, 9] [0, 1, 2, 3, 4, 5] hM rfl rfl rfl rfl (by decide) (by decide) (by decide) h1 h2 h3 h4 h5 hd hR hcs hn rfl rfl rfl hroom hcr hdg hst kk
theorem lz_callM (C : ZC p s m args c cc nL own D (tysX dd ++ tysM dd') A) {y : MethodName} {cc' : ByteArray} {L' : Nat} {ret : Option FieldType} {rm' : Room} {index : Nat} {As : List Value} (n : Nat) (hM : ZMi l y cc' L' ret rm' D (tysM dd') (wM g' dd' pn' pk' tp' bt' fd qx qy) (.ref (g' 0) :: As) P wn)
    (h1 : Cond.methodLink own index y ∈ lw_all) (h2 : Cond.instanceMethod y ∈ lw_all) (h3 : Cond.selects RX1 y y ∈ lw_all) (h4 : Cond.initialized RX1 ∈ lw_all) (h5 : Cond.code y cc' L' ret ∈ lw_all)
    (hd : y.cls = RX1 ∧ y.cls ≠ "java/lang/invoke/MethodHandle" ∧ y.cls ≠ "java/lang/invoke/VarHandle" ∧ (parseMethodDescriptor y.desc).map (fun d => d.parameters.length) = some n) (hR : rm'.frames + 1 ≤ R.frames ∧ 8 + (L' + 11) + rm'.locals ≤ R.locals) (hcs : rm'.cells = 0 ∧ rm'.slots = 0)
    (hn : As.length = n) (hroom : (st.map fun v => v.category).sum ≤ 8) (hcr : cells ≤ R.cells ∧ slots ≤ R.slots) (hdg : decode cc pc = .ok (.invokevirtual index, 3)) (hst : As.reverse ++ .ref (g' 0) :: st = st0)
    (kk : ∀ (x : Int) (u : S), P x u → ZW p l e R s m args below meth c cells slots Q D A nL (wX g dd pn pk dn tp bt sc px py tb ow so sb ++ wn u) (pc + 3) lv (.int (zi x) :: st)) : ZW p l e R s m args below meth c cells slots Q D A nL (wM g' dd' pn' pk' tp' bt' fd qx qy ++ wX g dd pn pk dn tp bt sc px py tb ow so sb) pc lv st0 :=
  lz_calli (wr := wX g dd pn pk dn tp bt sc px py tb ow so sb) (ci := 1) C n [0, 1, 2] [3, 4, 5, 6, 7, 8, 9] [6, 7] hM rfl rfl rfl rfl (by decide) (by decide) (by decide) h1 h2 h3 h4 h5 hd hR hcs hn rfl rfl rfl hroom hcr hdg hst kk
end LZ2
end
section
/-! THE CLAIM OUT OF ONE WALK OF THE LAW'S BODY. Your part is whole_start (and what it stands on); all else here is the same for every law, but numbers. -/
def R_law : String := "LeastDeviationsLaw"
def lw_P (b : Addr) (xs : List Int32) (args : Array Value) (s : State) : Prop := args = #[.ref b] ∧ s.IntsAt b xs ∧ xs.length ≤ 192 ∧ (Jvm.Cond.and given_1 narrow_1).before args s = true
def lw_Q (_ : Array Value) (s : State) (o : Outcome) (t : State) : Prop := o = .returned (some (.int 1)) ∧ Framed s o t [] 600000 7290000
def lw_Z (below : List Frame) (a : Array Value) (s : State) : State → Prop := fun t => ∃ o, t.status = .running ∧ Ended t below o ∧ lw_Q a s o t
/-- the law's own end, with 1 on the stack, nothing written that was there before, its room as the claim has it -/
theorem lw_ret {p : Program} {l : Launch} {e : Env} {s : State} {m : MethodId} {below : List Frame} {meth : Method} {c : Code} {b : Nat} (hx : p.tables.exec = Jvm.exec) (hb : c.code = code) (hr : meth.sig.returnType = ret) (hlocks : meth.locks = false) {pc : Nat} {H : Heap} {ls : Array Slot} (hdg : decode code pc = .ok (.ireturn, 1)) : W p l e room_1 s m #[Value.ref b] below meth c H [] 600000 7290000 (lw_Z below #[Value.ref b] s) (F0 m pc ls [.int 1]) := by
  intro T hT X
  obtain ⟨fs, hret, hrun, hended, hW, hframe⟩ := X.leave (v := some (.int 1)) (hlocks := hlocks) (fun h => by rw [hr] at h; cases h)
  have hmeth' : T.vm.method? m = some meth := X.method'
  refine ⟨T.setFrames fs, ?_, .returned (some (.int 1)), hrun, hended, rfl, ⟨_, rfl⟩, hW, hframe⟩
  jvm_step X.here [X.here.top, hx, hb, hdg, hmeth', hr, ret, narrow_b1]
  (try refine ⟨rfl, ?_⟩); (try refine ⟨rfl, ?_⟩)
  first | (intro acts; rw [hret _ acts rfl rfl rfl]) | rw [hret _ _ rfl rfl rfl]
  exact Steps.refl _
/-- what holds at the law's entry: the machine, the code, the tables' words (any of lw_tbl by 'hts w (by decide +kernel)'), the script of L ints xs at the cell b, what the Statement gives of the start (any of its parts by flat_of_before) -/
def lw_At (p : Program) (s : State) (m : MethodId) (meth : Method) (c : Code) (b L : Nat) (xs : Nat → Int32) : Prop :=
  p.tables.exec = Jvm.exec ∧ c.code = code ∧ meth.sig.returnType = ret ∧ c.maxLocals = 4 ∧ s.vm.findClass R_law = some m.cls ∧ (∀ w ∈ lw_tbl, w.before #[Value.ref b] s = true) ∧ va_X b L xs s s.heap ∧ b < s.heap.size ∧ meth.locks = false ∧ (Jvm.Cond.and given_1 narrow_1).before #[Value.ref b] s = true
end
section
/-! THE LAW, case by case -/
def LC (p : Program) (s : State) (m : MethodId) (c : Code) (D : va_G) (A : Nat → Prop) (b L : Nat) (xs : Nat → Int32) (dd dd' : Nat → ClassId) : Prop := ZC p s m #[Value.ref b] c code 4 R_law D (tysX dd ++ tysM dd') A ∧ va_X b L xs s s.heap ∧ b < s.heap.size ∧ ¬ A b ∧ L ≤ 192
/-- at pc of the law, with i ints read: whatever the two objects hold that agrees, the law comes to Q -/
def LH (p : Program) (l : Launch) (e : Env) (s : State) (m : MethodId) (below : List Frame) (meth : Method) (c : Code) (cells slots : Nat) (Q : State → Prop) (D : va_G) (A : Nat → Prop) (b : Nat) (g g' : Nat → Nat) (dd dd' : Nat → ClassId) (i : Nat) (pc : Nat) : Prop := ∀ (n : Nat) (pk dn tp bt sc : Int) (px py tb ow so sb : Nat → Int) (tp' bt' fd : Int) (qx qy : Nat → Int), ld_inv n pk px py qx qy → ZW p l e room_1 s m #[Value.ref b] below meth c cells slots Q D A 4 (wX g dd (n : Int) pk dn tp bt sc px py tb ow so sb ++ wM g' dd' (n : Int) pk tp' bt' fd qx qy) pc [(0, .ref b), (1, .ref (g 0)), (2, .ref (g' 0)), (3, .int (zi (i : Int)))] []
section LWC
variable {p : Program} {l : Launch} {e : Env} {s : State} {m : MethodId} {below : List Frame} {meth : Method} {c : Code} {cells slots : Nat} {Q : State → Prop} {D : va_G} {A : Nat → Prop} {b L : Nat} {xs : Nat → Int32} {g g' : Nat → Nat} {dd dd' : Nat → ClassId}
set_option maxHeartbeats 4000000 in
set_option maxRecDepth 100000 in
theorem lc_add (K : LC p s m c D A b L xs dd dd') (hcr : cells ≤ room_1.cells ∧ slots ≤ room_1.slots) (i : Nat) (hi : i + 2 < L) (k355 : LH p l e s m below meth c cells slots Q D A b g g' dd dd' i 355) : LH p l e s m below meth c cells slots Q D A b g g' dd dd' i 92 := by
  intro n pk dn tp bt sc px py tb ow so sb tp' bt' fd qx qy hv
  obtain ⟨C, hX, hbl, hbA, hL⟩ := K
  obtain ⟨hok, hk, hs⟩ := id hv
  have hok' := ld_same_ok hs hok
  refine zr_aload_n C 1 dL_law_92 rfl rfl ?_
  refine zr_aload_n C 0 dL_law_93 rfl rfl ?_
  refine zr_iload_n C 3 dL_law_94 rfl rfl ?_
  refine zr_iconst C dL_law_95 ?_
  refine zr_iadd C dL_law_96 ?_
  refine lz_sld C hX hbl hbA hL (i + 1) (by omega) (by omega) dL_law_97 ?_
  refine zr_aload_n C 0 dL_law_98 rfl rfl ?_
  refine zr_iload_n C 3 dL_law_99 rfl rfl ?_
  refine zr_iconst C dL_law_100 ?_
  refine zr_iadd C dL_law_101 ?_
  refine lz_sld C hX hbl hbA hL (i + 2) (by omega) (by omega) dL_law_102 ?_
  refine lz_callX C 2 (cX_add l D g dd n pk dn tp bt sc px py tb ow so sb (xs (i + 1)).toInt (xs (i + 2)).toInt hok.1 (bI_of _) (bI_of _)) q77 q78 q79 q27 q80 (by decide +kernel) ⟨Nat.le_of_ble_eq_true rfl, Nat.le_of_ble_eq_true rfl⟩ ⟨rfl, rfl⟩ rfl (Nat.le_of_ble_eq_true rfl) hcr dL_law_103 rfl (fun r u hp => ?_)
  refine zr_aload_n C 2 dL_law_106 rfl rfl ?_
  refine zr_aload_n C 0 dL_law_107 rfl rfl ?_
  refine zr_iload_n C 3 dL_law_108 rfl rfl ?_
  refine zr_iconst C dL_law_109 ?_
  refine zr_iadd C dL_law_110 ?_
  refine lz_sld C hX hbl hbA hL (i + 1) (by omega) (by omega) dL_law_111 ?_
  refine zr_aload_n C 0 dL_law_112 rfl rfl ?_
  refine zr_iload_n C 3 dL_law_113 rfl rfl ?_
  refine zr_iconst C dL_law_114 ?_
  refine zr_iadd C dL_law_115 ?_
  refine lz_sld C hX hbl hbA hL (i + 2) (by omega) (by omega) dL_law_116 ?_
  refine lz_callM C 2 (cM_add l D g' dd' n pk tp' bt' fd qx qy (xs (i + 1)).toInt (xs (i + 2)).toInt hok'.1 (bI_of _) (bI_of _)) q197 q198 q199 q28 q200 (by decide +kernel) ⟨Nat.le_of_ble_eq_true rfl, Nat.le_of_ble_eq_true rfl⟩ ⟨rfl, rfl⟩ rfl (Nat.le_of_ble_eq_true rfl) hcr dL_law_117 rfl (fun r' u' hp' => ?_)
  obtain ⟨un, ux, uy⟩ := u
  obtain ⟨vn, vx, vy⟩ := u'
  obtain ⟨hr, e, hv'⟩ := ld_an_add hv hp hp'
  have e : vn = un := e
  subst e
  refine lz_alike (tgt := 355) C hr dL_law_120 (by decide) ?_
  exact k355 _ _ _ _ _ _ _ _ _ _ _ _ _ _ _ _ _ hv'
set_option maxHeartbeats 4000000 in
set_option maxRecDepth 100000 in
theorem lc_drop (K : LC p s m c D A b L xs dd dd') (hcr : cells ≤ room_1.cells ∧ slots ≤ room_1.slots) (i : Nat) (hi : i + 2 < L) (k355 : LH p l e s m below meth c cells slots Q D A b g g' dd dd' i 355) : LH p l e s m below meth c cells slots Q D A b g g' dd dd' i 125 := by
  intro n pk dn tp bt sc px py tb ow so sb tp' bt' fd qx qy hv
  obtain ⟨C, hX, hbl, hbA, hL⟩ := K
  obtain ⟨hok, hk, hs⟩ := id hv
  have hok' := ld_same_ok hs hok
  refine zr_aload_n C 1 dL_law_125 rfl rfl ?_
  refine zr_aload_n C 0 dL_law_126 rfl rfl ?_
  refine zr_iload_n C 3 dL_law_127 rfl rfl ?_
  refine zr_iconst C dL_law_128 ?_
  refine zr_iadd C dL_law_129 ?_
  refine lz_sld C hX hbl hbA hL (i + 1) (by omega) (by omega) dL_law_130 ?_
  refine lz_callX C 1 (cX_drop l D g dd n pk dn tp bt sc px py tb ow so sb (xs (i + 1)).toInt hok (bI_of _)) q81 q82 q83 q27 q84 (by decide +kernel) ⟨Nat.le_of_ble_eq_true rfl, Nat.le_of_ble_eq_true rfl⟩ ⟨rfl, rfl⟩ rfl (Nat.le_of_ble_eq_true rfl) hcr dL_law_131 rfl (fun r u hp => ?_)
  refine zr_aload_n C 2 dL_law_134 rfl rfl ?_
  refine zr_aload_n C 0 dL_law_135 rfl rfl ?_
  refine zr_iload_n C 3 dL_law_136 rfl rfl ?_
  refine zr_iconst C dL_law_137 ?_
  refine zr_iadd C dL_law_138 ?_
  refine lz_sld C hX hbl hbA hL (i + 1) (by omega) (by omega) dL_law_139 ?_
  refine lz_callM C 1 (cM_drop l D g' dd' n pk tp' bt' fd qx qy (xs (i + 1)).toInt hok' (bI_of _)) q201 q202 q203 q28 q204 (by decide +kernel) ⟨Nat.le_of_ble_eq_true rfl, Nat.le_of_ble_eq_true rfl⟩ ⟨rfl, rfl⟩ rfl (Nat.le_of_ble_eq_true rfl) hcr dL_law_140 rfl (fun r' u' hp' => ?_)
  obtain ⟨un, ux, uy⟩ := u
  obtain ⟨vn, vx, vy⟩ := u'
  obtain ⟨hr, e, hv'⟩ := ld_an_drop hv hp hp'
  have e : vn = un := e
  subst e
  refine lz_alike (tgt := 355) C hr dL_law_143 (by decide) ?_
  exact k355 _ _ _ _ _ _ _ _ _ _ _ _ _ _ _ _ _ hv'
set_option maxHeartbeats 4000000 in
set_option maxRecDepth 100000 in
theorem lc_lean (K : LC p s m c D A b L xs dd dd') (hcr : cells ≤ room_1.cells ∧ slots ≤ room_1.slots) (i : Nat) (hi : i + 2 < L) (k355 : LH p l e s m below meth c cells slots Q D A b g g' dd dd' i 355) : LH p l e s m below meth c cells slots Q D A b g g' dd dd' i 148 := by
  intro n pk dn tp bt sc px py tb ow so sb tp' bt' fd qx qy hv
  obtain ⟨C, hX, hbl, hbA, hL⟩ := K
  obtain ⟨hok, hk, hs⟩ := id hv
  have hok' := ld_same_ok hs hok
  refine zr_aload_n C 1 dL_law_148 rfl rfl ?_
  refine zr_aload_n C 0 dL_law_149 rfl rfl ?_
  refine zr_iload_n C 3 dL_law_150 rfl rfl ?_
  refine zr_iconst C dL_law_151 ?_
  refine zr_iadd C dL_law_152 ?_
  refine lz_sld C hX hbl hbA hL (i + 1) (by omega) (by omega) dL_law_153 ?_
  refine lz_callX C 1 (cX_lean l D g dd n pk dn tp bt sc px py tb ow so sb (xs (i + 1)).toInt (bI_of _)) q89 q90 q91 q27 q92 (by decide +kernel) ⟨Nat.le_of_ble_eq_true rfl, Nat.le_of_ble_eq_true rfl⟩ ⟨rfl, rfl⟩ rfl (Nat.le_of_ble_eq_true rfl) hcr dL_law_154 rfl (fun r u hp => ?_)
  refine zr_aload_n C 2 dL_law_157 rfl rfl ?_
  refine zr_aload_n C 0 dL_law_158 rfl rfl ?_
  refine zr_iload_n C 3 dL_law_159 rfl rfl ?_
  refine zr_iconst C dL_law_160 ?_
  refine zr_iadd C dL_law_161 ?_
  refine lz_sld C hX hbl hbA hL (i + 1) (by omega) (by omega) dL_law_162 ?_
  refine lz_callM C 1 (cM_lean l D g' dd' n pk tp' bt' fd qx qy (xs (i + 1)).toInt (bI_of _)) q209 q210 q211 q28 q212 (by decide +kernel) ⟨Nat.le_of_ble_eq_true rfl, Nat.le_of_ble_eq_true rfl⟩ ⟨rfl, rfl⟩ rfl (Nat.le_of_ble_eq_true rfl) hcr dL_law_163 rfl (fun r' u' hp' => ?_)
  obtain ⟨hr, e, hv'⟩ := ld_an_lean hv hp hp'
  subst e
  refine lz_alike (tgt := 355) C hr dL_law_166 (by decide) ?_
  exact k355 _ _ _ _ _ _ _ _ _ _ _ _ _ _ _ _ _ hv'
set_option maxHeartbeats 4000000 in
set_option maxRecDepth 100000 in
theorem lc_leastTop (K : LC p s m c D A b L xs dd dd') (hcr : cells ≤ room_1.cells ∧ slots ≤ room_1.slots) (i : Nat) (hi : i + 2 < L) (k355 : LH p l e s m below meth c cells slots Q D A b g g' dd dd' i 355) : LH p l e s m below meth c cells slots Q D A b g g' dd dd' i 171 := by
  intro n pk dn tp bt sc px py tb ow so sb tp' bt' fd qx qy hv
  obtain ⟨C, hX, hbl, hbA, hL⟩ := K
  obtain ⟨hok, hk, hs⟩ := id hv
  have hok' := ld_same_ok hs hok
  refine zr_aload_n C 1 dL_law_171 rfl rfl ?_
  refine lz_callX C 0 (cX_leastTop l D g dd n pk dn tp bt sc px py tb ow so sb  hok hk) q93 q94 q95 q27 q96 (by decide +kernel) ⟨Nat.le_of_ble_eq_true rfl, Nat.le_of_ble_eq_true rfl⟩ ⟨rfl, rfl⟩ rfl (Nat.le_of_ble_eq_true rfl) hcr dL_law_172 rfl (fun r u hp => ?_)
  refine zr_aload_n C 2 dL_law_175 rfl rfl ?_
  refine lz_callM C 0 (cM_leastTop l D g' dd' n pk tp' bt' fd qx qy  hok' hk) q213 q214 q215 q28 q216 (by decide +kernel) ⟨Nat.le_of_ble_eq_true rfl, Nat.le_of_ble_eq_true rfl⟩ ⟨rfl, rfl⟩ rfl (Nat.le_of_ble_eq_true rfl) hcr dL_law_176 rfl (fun r' u' hp' => ?_)
  have hr : r = r' := ld_an_ltop hs hp hp'
  refine lz_alike (tgt := 355) C hr dL_law_179 (by decide) ?_
  exact k355 _ _ _ _ _ _ _ _ _ _ _ _ _ _ _ _ _ hv
set_option maxHeartbeats 4000000 in
set_option maxRecDepth 100000 in
theorem lc_leastBottom (K : LC p s m c D A b L xs dd dd') (hcr : cells ≤ room_1.cells ∧ slots ≤ room_1.slots) (i : Nat) (hi : i + 2 < L) (k355 : LH p l e s m below meth c cells slots Q D A b g g' dd dd' i 355) : LH p l e s m below meth c cells slots Q D A b g g' dd dd' i 184 := by
  intro n pk dn tp bt sc px py tb ow so sb tp' bt' fd qx qy hv
  obtain ⟨C, hX, hbl, hbA, hL⟩ := K
  obtain ⟨hok, hk, hs⟩ := id hv
  have hok' := ld_same_ok hs hok
  refine zr_aload_n C 1 dL_law_184 rfl rfl ?_
  refine lz_callX C 0 (cX_leastBottom l D g dd n pk dn tp bt sc px py tb ow so sb  hok hk) q121 q122 q123 q27 q124 (by decide +kernel) ⟨Nat.le_of_ble_eq_true rfl, Nat.le_of_ble_eq_true rfl⟩ ⟨rfl, rfl⟩ rfl (Nat.le_of_ble_eq_true rfl) hcr dL_law_185 rfl (fun r u hp => ?_)
  refine zr_aload_n C 2 dL_law_188 rfl rfl ?_
  refine lz_callM C 0 (cM_leastBottom l D g' dd' n pk tp' bt' fd qx qy  hok' hk) q257 q258 q259 q28 q260 (by decide +kernel) ⟨Nat.le_of_ble_eq_true rfl, Nat.le_of_ble_eq_true rfl⟩ ⟨rfl, rfl⟩ rfl (Nat.le_of_ble_eq_true rfl) hcr dL_law_189 rfl (fun r' u' hp' => ?_)
  have hr : r = r' := ld_an_lbot hs hp hp'
  refine lz_alike (tgt := 355) C hr dL_law_192 (by decide) ?_
  exact k355 _ _ _ _ _ _ _ _ _ _ _ _ _ _ _ _ _ hv
set_option maxHeartbeats 4000000 in
set_option maxRecDepth 100000 in
theorem lc_withSlope (K : LC p s m c D A b L xs dd dd') (hcr : cells ≤ room_1.cells ∧ slots ≤ room_1.slots) (i : Nat) (hi : i + 2 < L) (k355 : LH p l e s m below meth c cells slots Q D A b g g' dd dd' i 355) : LH p l e s m below meth c cells slots Q D A b g g' dd dd' i 197 := by
  intro n pk dn tp bt sc px py tb ow so sb tp' bt' fd qx qy hv
  obtain ⟨C, hX, hbl, hbA, hL⟩ := K
  obtain ⟨hok, hk, hs⟩ := id hv
  have hok' := ld_same_ok hs hok
  refine zr_aload_n C 1 dL_law_197 rfl rfl ?_
  refine zr_aload_n C 0 dL_law_198 rfl rfl ?_
  refine zr_iload_n C 3 dL_law_199 rfl rfl ?_
  refine zr_iconst C dL_law_200 ?_
  refine zr_iadd C dL_law_201 ?_
  refine lz_sld C hX hbl hbA hL (i + 1) (by omega) (by omega) dL_law_202 ?_
  refine zr_aload_n C 0 dL_law_203 rfl rfl ?_
  refine zr_iload_n C 3 dL_law_204 rfl rfl ?_
  refine zr_iconst C dL_law_205 ?_
  refine zr_iadd C dL_law_206 ?_
  refine lz_sld C hX hbl hbA hL (i + 2) (by omega) (by omega) dL_law_207 ?_
  refine lz_callX C 2 (cX_withSlope l D g dd n pk dn tp bt sc px py tb ow so sb (xs (i + 1)).toInt (xs (i + 2)).toInt hok hk (bI_of _) (bI_of _)) q125 q126 q127 q27 q128 (by decide +kernel) ⟨Nat.le_of_ble_eq_true rfl, Nat.le_of_ble_eq_true rfl⟩ ⟨rfl, rfl⟩ rfl (Nat.le_of_ble_eq_true rfl) hcr dL_law_208 rfl (fun r u hp => ?_)
  refine zr_aload_n C 2 dL_law_211 rfl rfl ?_
  refine zr_aload_n C 0 dL_law_212 rfl rfl ?_
  refine zr_iload_n C 3 dL_law_213 rfl rfl ?_
  refine zr_iconst C dL_law_214 ?_
  refine zr_iadd C dL_law_215 ?_
  refine lz_sld C hX hbl hbA hL (i + 1) (by omega) (by omega) dL_law_216 ?_
  refine zr_aload_n C 0 dL_law_217 rfl rfl ?_
  refine zr_iload_n C 3 dL_law_218 rfl rfl ?_
  refine zr_iconst C dL_law_219 ?_
  refine zr_iadd C dL_law_220 ?_
  refine lz_sld C hX hbl hbA hL (i + 2) (by omega) (by omega) dL_law_221 ?_
  refine lz_callM C 2 (cM_withSlope l D g' dd' n pk tp' bt' fd qx qy (xs (i + 1)).toInt (xs (i + 2)).toInt hok' hk (bI_of _) (bI_of _)) q265 q266 q267 q28 q268 (by decide +kernel) ⟨Nat.le_of_ble_eq_true rfl, Nat.le_of_ble_eq_true rfl⟩ ⟨rfl, rfl⟩ rfl (Nat.le_of_ble_eq_true rfl) hcr dL_law_222 rfl (fun r' u' hp' => ?_)
  have hr : r = r' := ld_an_with hs hp hp'
  refine lz_alike (tgt := 355) C hr dL_law_225 (by decide) ?_
  exact k355 _ _ _ _ _ _ _ _ _ _ _ _ _ _ _ _ _ hv
set_option maxHeartbeats 4000000 in
set_option maxRecDepth 100000 in
theorem lc_bestSlope (K : LC p s m c D A b L xs dd dd') (hcr : cells ≤ room_1.cells ∧ slots ≤ room_1.slots) (i : Nat) (hi : i + 2 < L) (k355 : LH p l e s m below meth c cells slots Q D A b g g' dd dd' i 355) : LH p l e s m below meth c cells slots Q D A b g g' dd dd' i 230 := by
  intro n pk dn tp bt sc px py tb ow so sb tp' bt' fd qx qy hv
  obtain ⟨C, hX, hbl, hbA, hL⟩ := K
  obtain ⟨hok, hk, hs⟩ := id hv
  have hok' := ld_same_ok hs hok
  refine zr_aload_n C 1 dL_law_230 rfl rfl ?_
  refine zr_aload_n C 0 dL_law_231 rfl rfl ?_
  refine zr_iload_n C 3 dL_law_232 rfl rfl ?_
  refine zr_iconst C dL_law_233 ?_
  refine zr_iadd C dL_law_234 ?_
  refine lz_sld C hX hbl hbA hL (i + 1) (by omega) (by omega) dL_law_235 ?_
  refine zr_aload_n C 0 dL_law_236 rfl rfl ?_
  refine zr_iload_n C 3 dL_law_237 rfl rfl ?_
  refine zr_iconst C dL_law_238 ?_
  refine zr_iadd C dL_law_239 ?_
  refine lz_sld C hX hbl hbA hL (i + 2) (by omega) (by omega) dL_law_240 ?_
  refine lz_callX C 2 (cX_bestSlope l D g dd n pk dn tp bt sc px py tb ow so sb (xs (i + 1)).toInt (xs (i + 2)).toInt hok hk (bI_of _) (bI_of _)) q141 q142 q143 q27 q144 (by decide +kernel) ⟨Nat.le_of_ble_eq_true rfl, Nat.le_of_ble_eq_true rfl⟩ ⟨rfl, rfl⟩ rfl (Nat.le_of_ble_eq_true rfl) hcr dL_law_241 rfl (fun r u hp => ?_)
  refine zr_aload_n C 2 dL_law_244 rfl rfl ?_
  refine zr_aload_n C 0 dL_law_245 rfl rfl ?_
  refine zr_iload_n C 3 dL_law_246 rfl rfl ?_
  refine zr_iconst C dL_law_247 ?_
  refine zr_iadd C dL_law_248 ?_
  refine lz_sld C hX hbl hbA hL (i + 1) (by omega) (by omega) dL_law_249 ?_
  refine zr_aload_n C 0 dL_law_250 rfl rfl ?_
  refine zr_iload_n C 3 dL_law_251 rfl rfl ?_
  refine zr_iconst C dL_law_252 ?_
  refine zr_iadd C dL_law_253 ?_
  refine lz_sld C hX hbl hbA hL (i + 2) (by omega) (by omega) dL_law_254 ?_
  refine lz_callM C 2 (cM_bestSlope l D g' dd' n pk tp' bt' fd qx qy (xs (i + 1)).toInt (xs (i + 2)).toInt hok' hk (bI_of _) (bI_of _)) q278 q279 q280 q28 q281 (by decide +kernel) ⟨Nat.le_of_ble_eq_true rfl, Nat.le_of_ble_eq_true rfl⟩ ⟨rfl, rfl⟩ rfl (Nat.le_of_ble_eq_true rfl) hcr dL_law_255 rfl (fun r' u' hp' => ?_)
  have hr : r = r' := ld_an_slope hs hp hp'
  refine lz_alike (tgt := 355) C hr dL_law_258 (by decide) ?_
  exact k355 _ _ _ _ _ _ _ _ _ _ _ _ _ _ _ _ _ hv
set_option maxHeartbeats 4000000 in
set_option maxRecDepth 100000 in
theorem lc_bestPair (K : LC p s m c D A b L xs dd dd') (hcr : cells ≤ room_1.cells ∧ slots ≤ room_1.slots) (i : Nat) (hi : i + 2 < L) (k355 : LH p l e s m below meth c cells slots Q D A b g g' dd dd' i 355) : LH p l e s m below meth c cells slots Q D A b g g' dd dd' i 263 := by
  intro n pk dn tp bt sc px py tb ow so sb tp' bt' fd qx qy hv
  obtain ⟨C, hX, hbl, hbA, hL⟩ := K
  obtain ⟨hok, hk, hs⟩ := id hv
  have hok' := ld_same_ok hs hok
  refine zr_aload_n C 1 dL_law_263 rfl rfl ?_
  refine zr_aload_n C 0 dL_law_264 rfl rfl ?_
  refine zr_iload_n C 3 dL_law_265 rfl rfl ?_
  refine zr_iconst C dL_law_266 ?_
  refine zr_iadd C dL_law_267 ?_
  refine lz_sld C hX hbl hbA hL (i + 1) (by omega) (by omega) dL_law_268 ?_
  refine zr_aload_n C 0 dL_law_269 rfl rfl ?_
  refine zr_iload_n C 3 dL_law_270 rfl rfl ?_
  refine zr_iconst C dL_law_271 ?_
  refine zr_iadd C dL_law_272 ?_
  refine lz_sld C hX hbl hbA hL (i + 2) (by omega) (by omega) dL_law_273 ?_
  refine lz_callX C 2 (cX_bestPair l D g dd n pk dn tp bt sc px py tb ow so sb (xs (i + 1)).toInt (xs (i + 2)).toInt hok hk (bI_of _) (bI_of _)) q145 q146 q147 q27 q148 (by decide +kernel) ⟨Nat.le_of_ble_eq_true rfl, Nat.le_of_ble_eq_true rfl⟩ ⟨rfl, rfl⟩ rfl (Nat.le_of_ble_eq_true rfl) hcr dL_law_274 rfl (fun r u hp => ?_)
  refine zr_aload_n C 2 dL_law_277 rfl rfl ?_
  refine zr_aload_n C 0 dL_law_278 rfl rfl ?_
  refine zr_iload_n C 3 dL_law_279 rfl rfl ?_
  refine zr_iconst C dL_law_280 ?_
  refine zr_iadd C dL_law_281 ?_
  refine lz_sld C hX hbl hbA hL (i + 1) (by omega) (by omega) dL_law_282 ?_
  refine zr_aload_n C 0 dL_law_283 rfl rfl ?_
  refine zr_iload_n C 3 dL_law_284 rfl rfl ?_
  refine zr_iconst C dL_law_285 ?_
  refine zr_iadd C dL_law_286 ?_
  refine lz_sld C hX hbl hbA hL (i + 2) (by omega) (by omega) dL_law_287 ?_
  refine lz_callM C 2 (cM_bestPair l D g' dd' n pk tp' bt' fd qx qy (xs (i + 1)).toInt (xs (i + 2)).toInt hok' hk (bI_of _) (bI_of _)) q282 q283 q284 q28 q285 (by decide +kernel) ⟨Nat.le_of_ble_eq_true rfl, Nat.le_of_ble_eq_true rfl⟩ ⟨rfl, rfl⟩ rfl (Nat.le_of_ble_eq_true rfl) hcr dL_law_288 rfl (fun r' u' hp' => ?_)
  have hr : r = r' := ld_an_pair hs hp hp'
  refine lz_alike (tgt := 355) C hr dL_law_291 (by decide) ?_
  exact k355 _ _ _ _ _ _ _ _ _ _ _ _ _ _ _ _ _ hv
set_option maxHeartbeats 4000000 in
set_option maxRecDepth 100000 in
theorem lc_throughTop (K : LC p s m c D A b L xs dd dd') (hcr : cells ≤ room_1.cells ∧ slots ≤ room_1.slots) (i : Nat) (hi : i + 2 < L) (k355 : LH p l e s m below meth c cells slots Q D A b g g' dd dd' i 355) : LH p l e s m below meth c cells slots Q D A b g g' dd dd' i 296 := by
  intro n pk dn tp bt sc px py tb ow so sb tp' bt' fd qx qy hv
  obtain ⟨C, hX, hbl, hbA, hL⟩ := K
  obtain ⟨hok, hk, hs⟩ := id hv
  have hok' := ld_same_ok hs hok
  refine zr_aload_n C 1 dL_law_296 rfl rfl ?_
  refine zr_aload_n C 0 dL_law_297 rfl rfl ?_
  refine zr_iload_n C 3 dL_law_298 rfl rfl ?_
  refine zr_iconst C dL_law_299 ?_
  refine zr_iadd C dL_law_300 ?_
  refine lz_sld C hX hbl hbA hL (i + 1) (by omega) (by omega) dL_law_301 ?_
  refine lz_callX C 1 (cX_throughTop l D g dd n pk dn tp bt sc px py tb ow so sb (xs (i + 1)).toInt hok hk (bI_of _)) q153 q154 q155 q27 q156 (by decide +kernel) ⟨Nat.le_of_ble_eq_true rfl, Nat.le_of_ble_eq_true rfl⟩ ⟨rfl, rfl⟩ rfl (Nat.le_of_ble_eq_true rfl) hcr dL_law_302 rfl (fun r u hp => ?_)
  refine zr_aload_n C 2 dL_law_305 rfl rfl ?_
  refine zr_aload_n C 0 dL_law_306 rfl rfl ?_
  refine zr_iload_n C 3 dL_law_307 rfl rfl ?_
  refine zr_iconst C dL_law_308 ?_
  refine zr_iadd C dL_law_309 ?_
  refine lz_sld C hX hbl hbA hL (i + 1) (by omega) (by omega) dL_law_310 ?_
  refine lz_callM C 1 (cM_throughTop l D g' dd' n pk tp' bt' fd qx qy (xs (i + 1)).toInt hok' hk (bI_of _)) q286 q287 q288 q28 q289 (by decide +kernel) ⟨Nat.le_of_ble_eq_true rfl, Nat.le_of_ble_eq_true rfl⟩ ⟨rfl, rfl⟩ rfl (Nat.le_of_ble_eq_true rfl) hcr dL_law_311 rfl (fun r' u' hp' => ?_)
  have hr : r = r' := ld_an_ttop hs hp hp'
  refine lz_alike (tgt := 355) C hr dL_law_314 (by decide) ?_
  exact k355 _ _ _ _ _ _ _ _ _ _ _ _ _ _ _ _ _ hv
set_option maxHeartbeats 4000000 in
set_option maxRecDepth 100000 in
theorem lc_throughBottom (K : LC p s m c D A b L xs dd dd') (hcr : cells ≤ room_1.cells ∧ slots ≤ room_1.slots) (i : Nat) (hi : i + 2 < L) (k355 : LH p l e s m below meth c cells slots Q D A b g g' dd dd' i 355) : LH p l e s m below meth c cells slots Q D A b g g' dd dd' i 319 := by
  intro n pk dn tp bt sc px py tb ow so sb tp' bt' fd qx qy hv
  obtain ⟨C, hX, hbl, hbA, hL⟩ := K
  obtain ⟨hok, hk, hs⟩ := id hv
  have hok' := ld_same_ok hs hok
  refine zr_aload_n C 1 dL_law_319 rfl rfl ?_
  refine zr_aload_n C 0 dL_law_320 rfl rfl ?_
  refine zr_iload_n C 3 dL_law_321 rfl rfl ?_
  refine zr_iconst C dL_law_322 ?_
  refine zr_iadd C dL_law_323 ?_
  refine lz_sld C hX hbl hbA hL (i + 1) (by omega) (by omega) dL_law_324 ?_
  refine lz_callX C 1 (cX_throughBottom l D g dd n pk dn tp bt sc px py tb ow so sb (xs (i + 1)).toInt hok hk (bI_of _)) q161 q162 q163 q27 q164 (by decide +kernel) ⟨Nat.le_of_ble_eq_true rfl, Nat.le_of_ble_eq_true rfl⟩ ⟨rfl, rfl⟩ rfl (Nat.le_of_ble_eq_true rfl) hcr dL_law_325 rfl (fun r u hp => ?_)
  refine zr_aload_n C 2 dL_law_328 rfl rfl ?_
  refine zr_aload_n C 0 dL_law_329 rfl rfl ?_
  refine zr_iload_n C 3 dL_law_330 rfl rfl ?_
  refine zr_iconst C dL_law_331 ?_
  refine zr_iadd C dL_law_332 ?_
  refine lz_sld C hX hbl hbA hL (i + 1) (by omega) (by omega) dL_law_333 ?_
  refine lz_callM C 1 (cM_throughBottom l D g' dd' n pk tp' bt' fd qx qy (xs (i + 1)).toInt hok' hk (bI_of _)) q290 q291 q292 q28 q293 (by decide +kernel) ⟨Nat.le_of_ble_eq_true rfl, Nat.le_of_ble_eq_true rfl⟩ ⟨rfl, rfl⟩ rfl (Nat.le_of_ble_eq_true rfl) hcr dL_law_334 rfl (fun r' u' hp' => ?_)
  have hr : r = r' := ld_an_tbot hs hp hp'
  refine lz_alike (tgt := 355) C hr dL_law_337 (by decide) ?_
  exact k355 _ _ _ _ _ _ _ _ _ _ _ _ _ _ _ _ _ hv
set_option maxHeartbeats 4000000 in
set_option maxRecDepth 100000 in
theorem lc_points (K : LC p s m c D A b L xs dd dd') (hcr : cells ≤ room_1.cells ∧ slots ≤ room_1.slots) (i : Nat) (hi : i + 2 < L) (k355 : LH p l e s m below meth c cells slots Q D A b g g' dd dd' i 355) : LH p l e s m below meth c cells slots Q D A b g g' dd dd' i 342 := by
  intro n pk dn tp bt sc px py tb ow so sb tp' bt' fd qx qy hv
  obtain ⟨C, hX, hbl, hbA, hL⟩ := K
  obtain ⟨hok, hk, hs⟩ := id hv
  have hok' := ld_same_ok hs hok
  refine zr_aload_n C 1 dL_law_342 rfl rfl ?_
  refine lz_callX C 0 (cX_points l D g dd n pk dn tp bt sc px py tb ow so sb  ) q165 q166 q167 q27 q168 (by decide +kernel) ⟨Nat.le_of_ble_eq_true rfl, Nat.le_of_ble_eq_true rfl⟩ ⟨rfl, rfl⟩ rfl (Nat.le_of_ble_eq_true rfl) hcr dL_law_343 rfl (fun r u hp => ?_)
  refine zr_aload_n C 2 dL_law_346 rfl rfl ?_
  refine lz_callM C 0 (cM_points l D g' dd' n pk tp' bt' fd qx qy  ) q294 q295 q296 q28 q297 (by decide +kernel) ⟨Nat.le_of_ble_eq_true rfl, Nat.le_of_ble_eq_true rfl⟩ ⟨rfl, rfl⟩ rfl (Nat.le_of_ble_eq_true rfl) hcr dL_law_347 rfl (fun r' u' hp' => ?_)
  have hr : r = r' := (show r = r' by rw [hp, hp'])
  refine lz_alike (tgt := 355) C hr dL_law_350 (by decide) ?_
  exact k355 _ _ _ _ _ _ _ _ _ _ _ _ _ _ _ _ _ hv
end LWC
end
section
/-! THE LAW'S LOOP AND ITS START -/
section LWL
variable {p : Program} {l : Launch} {e : Env} {s : State} {m : MethodId} {below : List Frame} {meth : Method} {c : Code} {cells slots : Nat} {D : va_G} {b L : Nat} {xs : Nat → Int32} {g g' : Nat → Nat} {dd dd' : Nat → ClassId}
set_option maxHeartbeats 4000000 in
set_option maxRecDepth 100000 in
/-- the loop's head: it ends, or goes on with three more ints -/
theorem lw_head (K : LC p s m c D (fun q : Nat => s.heap.size ≤ q) b L xs dd dd') (hcr : cells ≤ 600000 ∧ slots ≤ 7290000) (hr : meth.sig.returnType = ret) (hlocks : meth.locks = false) (i : Nat) (hiL : i ≤ L + 3) (n : Nat) (pk dn tp bt sc : Int) (px py tb ow so sb : Nat → Int) (tp' bt' fd : Int) (qx qy : Nat → Int) (kk : i + 2 < L → ZW p l e room_1 s m #[Value.ref b] below meth c cells slots (lw_Z below #[Value.ref b] s) D (fun q : Nat => s.heap.size ≤ q) 4 (wX g dd (n : Int) pk dn tp bt sc px py tb ow so sb ++ wM g' dd' (n : Int) pk tp' bt' fd qx qy) 26 [(0, .ref b), (1, .ref (g 0)), (2, .ref (g' 0)), (3, .int (zi (i : Int)))] []) : ZW p l e room_1 s m #[Value.ref b] below meth c cells slots (lw_Z below #[Value.ref b] s) D (fun q : Nat => s.heap.size ≤ q) 4 (wX g dd (n : Int) pk dn tp bt sc px py tb ow so sb ++ wM g' dd' (n : Int) pk tp' bt' fd qx qy) 18 [(0, .ref b), (1, .ref (g 0)), (2, .ref (g' 0)), (3, .int (zi (i : Int)))] [] := by
  obtain ⟨C, hX, hbl, hbA, hL⟩ := K
  refine zr_iload_n C 3 dL_law_18 rfl rfl ?_
  refine zr_aload_n C 0 dL_law_19 rfl rfl ?_
  refine lz_slen C hX hbl hbA dL_law_20 ?_
  refine zr_iconst C dL_law_21 ?_
  refine zr_isub C dL_law_22 ?_
  refine zr_icmp_gt (tgt := 361) C dL_law_23 (by decide) (by unfold bI; omega) (by unfold bI; omega) (fun h => ?_) (fun h => ?_)
  · refine zr_iconst C dL_law_361 ?_
    intro H locs ls hP hD hS hl
    refine va_forget (fun q hq => hS.2.2 q hq) ?_
    refine W.widen (k := 600000) (n := 7290000) hcr.1 hcr.2 ?_
    exact lw_ret C.1 C.2.1 hr hlocks dL_law_362
  · exact kk (by omega)
set_option maxHeartbeats 4000000 in
set_option maxRecDepth 100000 in
/-- one turn of the loop -/
theorem lw_body (K : LC p s m c D (fun q : Nat => s.heap.size ≤ q) b L xs dd dd') (hcr : cells ≤ room_1.cells ∧ slots ≤ room_1.slots) (i : Nat) (hi : i + 2 < L) (k355 : LH p l e s m below meth c cells slots (lw_Z below #[Value.ref b] s) D (fun q : Nat => s.heap.size ≤ q) b g g' dd dd' i 355) : LH p l e s m below meth c cells slots (lw_Z below #[Value.ref b] s) D (fun q : Nat => s.heap.size ≤ q) b g g' dd dd' i 26 := by
  intro n pk dn tp bt sc px py tb ow so sb tp' bt' fd qx qy hv
  obtain ⟨C, hX, hbl, hbA, hL⟩ := id K
  refine zr_aload_n C 0 dL_law_26 rfl rfl ?_
  refine zr_iload_n C 3 dL_law_27 rfl rfl ?_
  refine lz_sld C hX hbl hbA hL i rfl (by omega) dL_law_28 ?_
  refine zr_bipush C dL_law_29 (by decide) ?_
  refine lz_and15 C dL_law_31 (fun j hj => ?_)
  rcases (show j = 0 ∨ j = 1 ∨ j = 2 ∨ j = 3 ∨ j = 4 ∨ j = 5 ∨ j = 6 ∨ j = 7 ∨ j = 8 ∨ j = 9 ∨ j = 10 ∨ 11 ≤ j by omega) with rfl | rfl | rfl | rfl | rfl | rfl | rfl | rfl | rfl | rfl | rfl | hj
  · exact lz_tabIn (off := 60) (tgt := 92) C dL_law_32 (by unfold bI; omega) (by decide) (by decide) (by rfl) (by decide) (lc_add K hcr i hi k355 n pk dn tp bt sc px py tb ow so sb tp' bt' fd qx qy hv)
  · exact lz_tabIn (off := 93) (tgt := 125) C dL_law_32 (by unfold bI; omega) (by decide) (by decide) (by rfl) (by decide) (lc_drop K hcr i hi k355 n pk dn tp bt sc px py tb ow so sb tp' bt' fd qx qy hv)
  · exact lz_tabIn (off := 116) (tgt := 148) C dL_law_32 (by unfold bI; omega) (by decide) (by decide) (by rfl) (by decide) (lc_lean K hcr i hi k355 n pk dn tp bt sc px py tb ow so sb tp' bt' fd qx qy hv)
  · exact lz_tabIn (off := 139) (tgt := 171) C dL_law_32 (by unfold bI; omega) (by decide) (by decide) (by rfl) (by decide) (lc_leastTop K hcr i hi k355 n pk dn tp bt sc px py tb ow so sb tp' bt' fd qx qy hv)
  · exact lz_tabIn (off := 152) (tgt := 184) C dL_law_32 (by unfold bI; omega) (by decide) (by decide) (by rfl) (by decide) (lc_leastBottom K hcr i hi k355 n pk dn tp bt sc px py tb ow so sb tp' bt' fd qx qy hv)
  · exact lz_tabIn (off := 165) (tgt := 197) C dL_law_32 (by unfold bI; omega) (by decide) (by decide) (by rfl) (by decide) (lc_withSlope K hcr i hi k355 n pk dn tp bt sc px py tb ow so sb tp' bt' fd qx qy hv)
  · exact lz_tabIn (off := 198) (tgt := 230) C dL_law_32 (by unfold bI; omega) (by decide) (by decide) (by rfl) (by decide) (lc_bestSlope K hcr i hi k355 n pk dn tp bt sc px py tb ow so sb tp' bt' fd qx qy hv)
  · exact lz_tabIn (off := 231) (tgt := 263) C dL_law_32 (by unfold bI; omega) (by decide) (by decide) (by rfl) (by decide) (lc_bestPair K hcr i hi k355 n pk dn tp bt sc px py tb ow so sb tp' bt' fd qx qy hv)
  · exact lz_tabIn (off := 264) (tgt := 296) C dL_law_32 (by unfold bI; omega) (by decide) (by decide) (by rfl) (by decide) (lc_throughTop K hcr i hi k355 n pk dn tp bt sc px py tb ow so sb tp' bt' fd qx qy hv)
  · exact lz_tabIn (off := 287) (tgt := 319) C dL_law_32 (by unfold bI; omega) (by decide) (by decide) (by rfl) (by decide) (lc_throughBottom K hcr i hi k355 n pk dn tp bt sc px py tb ow so sb tp' bt' fd qx qy hv)
  · exact lz_tabIn (off := 310) (tgt := 342) C dL_law_32 (by unfold bI; omega) (by decide) (by decide) (by rfl) (by decide) (lc_points K hcr i hi k355 n pk dn tp bt sc px py tb ow so sb tp' bt' fd qx qy hv)
  · exact lz_tabOut (tgt := 355) C dL_law_32 (by unfold bI; omega) (Or.inr (by omega)) (by decide) (k355 n pk dn tp bt sc px py tb ow so sb tp' bt' fd qx qy hv)
set_option maxHeartbeats 4000000 in
set_option maxRecDepth 100000 in
theorem lw_loop (K : LC p s m c D (fun q : Nat => s.heap.size ≤ q) b L xs dd dd') (hcr : cells ≤ 600000 ∧ slots ≤ 7290000) (hr : meth.sig.returnType = ret) (hlocks : meth.locks = false) : ∀ (f i : Nat), L + 3 ≤ i + 3 * f → i ≤ L + 3 → LH p l e s m below meth c cells slots (lw_Z below #[Value.ref b] s) D (fun q : Nat => s.heap.size ≤ q) b g g' dd dd' i 18 := by
  intro f
  induction f with
  | zero =>
    intro i hif hiL n pk dn tp bt sc px py tb ow so sb tp' bt' fd qx qy hv
    exact lw_head K hcr hr hlocks i hiL n pk dn tp bt sc px py tb ow so sb tp' bt' fd qx qy (fun h => absurd h (by omega))
  | succ f ih =>
    intro i hif hiL n pk dn tp bt sc px py tb ow so sb tp' bt' fd qx qy hv
    refine lw_head K hcr hr hlocks i hiL n pk dn tp bt sc px py tb ow so sb tp' bt' fd qx qy (fun hi => ?_)
    have k355 : LH p l e s m below meth c cells slots (lw_Z below #[Value.ref b] s) D (fun q : Nat => s.heap.size ≤ q) b g g' dd dd' i 355 := by
      intro n pk dn tp bt sc px py tb ow so sb tp' bt' fd qx qy hv
      refine zr_iinc (v := ((i + 3 : Nat) : Int)) (lv' := [(3, .int (zi ((i + 3 : Nat) : Int))), (0, .ref b), (1, .ref (g 0)), (2, .ref (g' 0))]) K.1 3 dL_law_355 rfl (by omega) (by decide) rfl ?_
      refine zr_goto (tgt := 18) K.1 dL_law_358 (by decide) ?_
      refine zr_lv [1, 2, 3, 0] rfl ?_
      exact ih (i + 3) (by omega) (by omega) n pk dn tp bt sc px py tb ow so sb tp' bt' fd qx qy hv
    have hcr' : cells ≤ room_1.cells ∧ slots ≤ room_1.slots := hcr
    exact lw_body K hcr' i hi k355 n pk dn tp bt sc px py tb ow so sb tp' bt' fd qx qy hv
end LWL
end
section
set_option maxHeartbeats 4000000 in
set_option maxRecDepth 100000 in
/-- THE LAW, from its entry -/
theorem whole_start {p : Program} {e : Env} {s : State} {m : MethodId} {below : List Frame} {meth : Method} {c : Code} (l : Launch) {b L : Nat} {xs : Nat → Int32} (hL : L ≤ 192) (C0 : lw_At p s m meth c b L xs) : W p l e room_1 s m #[Value.ref b] below meth c s.heap [] 0 0 (lw_Z below #[Value.ref b] s) (entryFrame m ([Value.ref b] : List Value).toArray 4) := by
  obtain ⟨hx, hb, hr, hml, hown, hts0, hX, hbl, hlocks, hgv⟩ := id C0
  have hts : ∀ w ∈ lw_all, w.before #[Value.ref b] s = true := fun w h => hts0 w (lw_all_tbl h)
  have hbA : ¬ (fun q : Nat => s.heap.size ≤ q) b := Nat.not_le.mpr hbl
  obtain ⟨c0, iS0, hKn0⟩ := u_known (C := RX0) (T := TX0) (N := 12) (n := 12) hts in_X0 (hts _ q30)
  obtain ⟨c1, iS1, hKn1⟩ := u_known (C := RX1) (T := TX1) (N := 7) (n := 7) hts in_X1 (hts _ q170)
  obtain ⟨D, hKc⟩ : ∃ D : va_G, ∀ (k : Nat) (q : vw_C), vwCl[k]? = some q → u_Kn s q.1 q.2.1 q.2.2 (D.1 k) (D.2 k) := by
    refine ⟨(fun k => if k = 0 then c0 else c1, fun k => if k = 0 then iS0 else iS1), ?_⟩
    intro k q hq
    match k, hq with
    | 0, hq => cases hq; exact hKn0
    | 1, hq => cases hq; exact hKn1
    | k + 2, hq => simp [vwCl] at hq
  have hK : va_K D vwCl [] s := ⟨hKc, fun k q h => by simp at h⟩
  have hP : va_P D vwCl [] s.heap := fun k q h => by simp at h
  have hD : va_D (fun q : Nat => s.heap.size ≤ q) [] := ⟨fun i j p q h => by simp at h, fun k q h => by simp at h⟩
  have hl := lv_entry ([.ref b]) (n := 4) (Nat.le_of_ble_eq_true rfl)
  rw [lg_entry_eq]
  generalize (lg_sl ([.ref b]) ++ List.replicate (4 - (lg_sl ([.ref b])).length) Slot.unset).toArray = ls at hl ⊢
  have hl : lv_has ls 4 [(0, .ref b)] := hl
  have C : ZC p s m #[Value.ref b] c code 4 R_law D [] (fun q : Nat => s.heap.size ≤ q) := ⟨hx, hb, hml, hown, hts, hK, fun _ h => h⟩
  suffices hZ : ZW p l e room_1 s m #[Value.ref b] below meth c 0 0 (lw_Z below #[Value.ref b] s) D (fun q : Nat => s.heap.size ≤ q) 4 [] 0 [(0, .ref b)] [] from hZ s.heap [] ls hP hD va_S.rf hl
  refine lz_new C (ci := 0) in_X0 tyX0 tyX0_ok q29 q30 q27 rfl fsX (fun j hj => ?_) (Nat.le_of_ble_eq_true rfl) (Nat.le_of_ble_eq_true rfl) dL_law_0 (fun q => ?_)
  · rcases (show j = 0 ∨ j = 1 ∨ j = 2 ∨ j = 3 ∨ j = 4 ∨ j = 5 ∨ j = 6 ∨ j = 7 ∨ j = 8 ∨ j = 9 ∨ j = 10 ∨ j = 11 by omega) with rfl | rfl | rfl | rfl | rfl | rfl | rfl | rfl | rfl | rfl | rfl | rfl <;> rfl
  refine zr_dup C dL_law_3 rfl ?_
  refine lz_callI (wr := []) C 0 [] (cX_init l D q) rfl rfl (by decide) (by decide) q31 q32 q27 q33 rfl (by decide +kernel) ⟨Nat.le_of_ble_eq_true rfl, Nat.le_of_ble_eq_true rfl⟩ ⟨rfl, rfl⟩ (Nat.le_of_ble_eq_true rfl) ⟨Nat.le_of_ble_eq_true rfl, Nat.le_of_ble_eq_true rfl⟩ dL_law_4 (fun u hu C => ?_)
  obtain ⟨g, dd⟩ := u
  have hu : g 0 = q := hu
  subst hu
  have C : ZC p s m #[Value.ref b] c code 4 R_law D (tysX dd) (fun q : Nat => s.heap.size ≤ q) := C
  refine zr_astore_n (lv' := [(1, .ref (g 0)), (0, .ref b)]) C dL_law_7 rfl (by decide) rfl ?_
  refine lz_new C (ci := 1) in_X1 tyX1 tyX1_ok q169 q170 q28 rfl fsM (fun j hj => ?_) (Nat.le_of_ble_eq_true rfl) (Nat.le_of_ble_eq_true rfl) dL_law_8 (fun q => ?_)
  · rcases (show j = 0 ∨ j = 1 ∨ j = 2 ∨ j = 3 ∨ j = 4 ∨ j = 5 ∨ j = 6 by omega) with rfl | rfl | rfl | rfl | rfl | rfl | rfl <;> rfl
  refine zr_dup C dL_law_11 rfl ?_
  refine lz_callI (wr := wX g dd ((0 : Nat) : Int) 2 0 0 0 0 ld_z0 ld_z0 ld_z0 ld_z0 ld_z0 ld_z0) C 7 [0, 1, 2, 3, 4, 5, 6] (cM_init l D q) rfl rfl (by decide) (by decide) q171 q172 q28 q173 rfl (by decide +kernel) ⟨Nat.le_of_ble_eq_true rfl, Nat.le_of_ble_eq_true rfl⟩ ⟨rfl, rfl⟩ (Nat.le_of_ble_eq_true rfl) ⟨Nat.le_of_ble_eq_true rfl, Nat.le_of_ble_eq_true rfl⟩ dL_law_12 (fun u hu C => ?_)
  obtain ⟨g', dd'⟩ := u
  have hu : g' 0 = q := hu
  subst hu
  have C : ZC p s m #[Value.ref b] c code 4 R_law D (tysX dd ++ tysM dd') (fun q : Nat => s.heap.size ≤ q) := C
  refine zr_astore_n (lv' := [(2, .ref (g' 0)), (1, .ref (g 0)), (0, .ref b)]) C dL_law_15 rfl (by decide) rfl ?_
  refine zr_iconst C dL_law_16 ?_
  refine zr_istore_n (lv' := [(3, .int (zi 0)), (2, .ref (g' 0)), (1, .ref (g 0)), (0, .ref b)]) C dL_law_17 rfl (by decide) rfl ?_
  refine zr_lv [3, 2, 1, 0] rfl ?_
  exact lw_loop ⟨C, hX, hbl, hbA, hL⟩ ⟨Nat.le_of_ble_eq_true rfl, Nat.le_of_ble_eq_true rfl⟩ hr hlocks (L + 3) 0 (by omega) (by omega) 0 2 0 0 0 0 ld_z0 ld_z0 ld_z0 ld_z0 ld_z0 ld_z0 0 0 0 ld_z0 ld_z0 ⟨⟨by omega, fun j hj => by omega⟩, Or.inr (Or.inl rfl), fun j hj => by omega⟩
end
section
set_option maxHeartbeats 4000000 in
theorem lw_walk (l : Launch) (b : Addr) (xs : List Int32) : MetFree l x (headSpec (Jvm.Cond.code x code maxLocals ret :: tables_1) room_1) (lw_P b xs) (fun _ _ _ _ _ => True) lw_Q := by
  refine MetFree.of_bodyS (code := code) (maxLocals := maxLocals) (ret := ret) (by decide) ?_ ?_
  · intro args s m h hn
    obtain ⟨meth, c, h1, h2, h3, h4, h5, h6, -, -⟩ := Cond.code_spec hn (atoms_spec (ws := Jvm.Cond.code x code maxLocals ret :: tables_1) h _ List.mem_cons_self)
    exact ⟨meth, c, h1, h2, h3, h4, h5, h6⟩
  · intro p e s m args below meth c s₁ B hml0 hP _
    obtain ⟨rfl, hx, hbd, hgv⟩ := hP
    obtain ⟨scr, harrAt, hlist, hof, hsmall⟩ := hx
    obtain ⟨hcb, hkn, -, -⟩ := State.arrayAt?_spec harrAt
    have hown : s.vm.findClass R_law = some m.cls := findClass_of_methodNamed B.named
    have hts0 : ∀ c ∈ (Jvm.Cond.code x code maxLocals ret :: tables_1), c.before #[Value.ref b] s = true := atoms_spec (ws := Jvm.Cond.code x code maxLocals ret :: tables_1) B.pre
    have hts : ∀ w ∈ lw_tbl, w.before #[Value.ref b] s = true := k2_hts_sels lw_privs (fun w hw => hts0 w (List.mem_cons_of_mem _ hw)) lw_privs_ok
    have hml : c.maxLocals = 4 := B.maxLocals_eq (hts0 _ List.mem_cons_self)
    have X₀ : Stand p l e room_1 s m #[Value.ref b] below meth c s₁ [] 0 0 := Stand.of_body B
    have hh0 : s₁.heap = s.heap := by rw [B.state]; rfl
    have hsz : scr.slots.size = xs.length := by rw [← Array.length_toList, hlist, List.length_map]
    have hval : ∀ j : Nat, j < xs.length → scr.slots[j]? = some (.int (xs.getD j 0)) := fun j hj => by
      rw [← Array.getElem?_toList, hlist]
      simp [hj]
    have hbl : b < s.heap.size := (Array.getElem?_eq_some_iff.mp hcb).1
    have hX : va_X b xs.length (fun j => xs.getD j 0) s s.heap := ⟨scr, hcb, hof, hkn, hsz, hval⟩
    have K : W p l e room_1 s m #[Value.ref b] below meth c s₁.heap [] 0 0 (lw_Z below #[Value.ref b] s) (entryFrame m ([Value.ref b] : List Value).toArray 4) := by
      rw [hh0]
      exact whole_start l hbd ⟨B.exec, B.bytes, B.returns, hml, hown, hts, hX, hbl, B.notSynchronized, hgv⟩
    obtain ⟨t, a1, o, b1, b2, b3⟩ := K s₁ rfl X₀
    exact ⟨t, o, a1, b1, b2, b3⟩
theorem lw_pre_spec {args : Array Value} {s : State} (h : (Jvm.Cond.and given_1 narrow_1).before args s = true) (hr : rest_1_c.before args s = true) : ∃ (b : Addr) (xs : List Int32), lw_P b xs args s := by
  have hs := flat_of_before _ h
  have hq := flat_of_before _ hr
  have hc : (Cond.count 1).before args s = true := hs _ (by decide +kernel)
  have harr : (Cond.arrayOf (.arg 0) .int).before args s = true := hs _ (by decide +kernel)
  have hle : (Cond.le (.length (.arg 0)) (.int 192)).before args s = true := hs _ (by decide +kernel)
  have hlen : (Cond.isInt (.length (.arg 0))).before args s = true := hq _ (by decide +kernel)
  have hall : (Cond.all (.arg 0) (.isInt (.elem (.arg 0) (.index 0)))).before args s = true := hq _ (by decide +kernel)
  obtain ⟨b, xs, hb, hx⟩ := State.ints_of_pre rfl harr hlen hall
  have hsm : xs.length < 2 ^ 31 := hx.choose_spec.2.2.2
  have hev : (Term.length (.arg 0)).eval args s none [] s = some (.int xs.length.toInt32) := hx.length_eval hb
  have hv := Cond.le_ints hev (show (Term.int 192).eval args s none [] s = some (.int 192) from rfl)
  have hd : xs.length.toInt32 ≤ 192 := by
    simpa [Cond.before, Cond.holds, hv] using hle
  have hN : xs.length ≤ 192 := (Int32.ofNat_le_ofNat hsm (by decide)).mp (show Int32.ofNat xs.length ≤ Int32.ofNat 192 from hd)
  exact ⟨b, xs, Cond.one_arg hc (show args[0]? = some (.ref b) from hb), hx, hN, h⟩
theorem lw_comes (l : Launch) : Comes l x (Jvm.Cond.code x code maxLocals ret :: tables_1) room_1 (fun tb e args s => Calls_1 tb e args s ∧ rest_1 tb e args s ∧ Pre_1 tb e args s)
    (fun _ _ args s o t => lw_Q args s o t) := by
  intro p e ha hc hk s m args below hf hfit hheap happ hpre
  obtain ⟨b, xs, hP⟩ := lw_pre_spec hpre.2.2 hpre.2.1
  obtain ⟨k, o, h1, h2, h3, hQ⟩ := lw_walk l b xs p e ha hc hk s m args below hf ((Spec.applies_iff_loose hf).mp happ).1 hP trivial
  exact ⟨k, o, h1, h2, h3, hQ⟩
theorem lw_frame {s t : State} {o : Outcome} {args : Array Value} (h : Framed s o t [] 600000 7290000) :
    Framed s o t (fieldLocs frame_1_writes args s ++ arrayLocs frame_1_arrays args s ++ staticLocs frame_1_statics s) 600000 7290000 := h
theorem lw_limb (L : Cond) (hL : ∀ (args : Array Value) (s t : State), L.after args s (.returned (some (.int 1))) t = true) :
    ArmFor flags0 classFile x code maxLocals ret World_1 tables_1 room_1 Calls_1 rest_1 Pre_1
      (fun tb e a s o t => postC L tb e a s o t ∧ Framed s o t (fieldLocs frame_1_writes a s ++ arrayLocs frame_1_arrays a s ++ staticLocs frame_1_statics s) 600000 7290000) := by
  intro l _ _ _ p e ha hc hk s m args below hf hfit hheap happ hpre
  obtain ⟨k, o, h1, h2, h3, rfl, hF⟩ := lw_comes l p e ha hc hk s m args below hf hfit hheap happ hpre
  exact ⟨k, _, h1, h2, h3, hL args s _, lw_frame hF⟩
theorem i_vc : Claimed_1_1 ∧ Claimed_1_2 := ⟨lw_limb limb_1_1 (fun args s t => by simp [limb_1_1, Cond.after, Cond.holds, Cond.value]), lw_limb limb_1_2 (fun args s t => Cond.after_iff.mpr (by
  first | (rw [show limb_1_2 = Cond.eq .result (.int 1) from rfl, Cond.eq_ints (x := 1) (y := 1) rfl rfl]; simp; done) | (simp [limb_1_2, Cond.value, Term.eval]; done)))⟩
end
