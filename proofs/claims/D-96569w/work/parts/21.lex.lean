/-! THE LEXER's PLAIN LAWS; what the reference's cells say of a text at hand -/
set_option maxRecDepth 100000
section LX
variable {b : Nat → Int32} {z : Nat}
theorem bA_lt {i : Nat} (h : 0 ≤ bA b z i) : i < z := by
  rcases Nat.lt_or_ge i z with g | g
  · exact g
  · rw [bA, if_neg (by omega)] at h
    exact absurd h (by decide)
theorem skp_fuel : ∀ (n m k : Nat), z - k < n → z - k < m → skp b z n k = skp b z m k := by
  intro n
  induction n with
  | zero => intro m k h; omega
  | succ n ih =>
    intro m k h1 h2
    cases m with
    | zero => omega
    | succ m =>
      simp only [skp]
      by_cases c : bA b z k = 32 ∨ bA b z k = 10
      · rw [if_pos c, if_pos c]
        have hk : k < z := bA_lt (b := b) (by rcases c with c | c <;> rw [c] <;> decide)
        exact ih m (k + 1) (by omega) (by omega)
      · rw [if_neg c, if_neg c]
theorem tA_step {k : Nat} (c : bA b z k = 32 ∨ bA b z k = 10) : tA b z k = tA b z (k + 1) ∧ k < z := by
  have hk : k < z := bA_lt (b := b) (by rcases c with c | c <;> rw [c] <;> decide)
  refine ⟨?_, hk⟩
  rw [tA, skp, if_pos c]
  exact skp_fuel _ _ _ (by omega) (by omega)
theorem tA_stop {k : Nat} (c : ¬ (bA b z k = 32 ∨ bA b z k = 10)) : tA b z k = k := by
  rw [tA, skp, if_neg c]
theorem skp_le : ∀ (n k : Nat), k ≤ z → k ≤ skp b z n k ∧ skp b z n k ≤ z := by
  intro n
  induction n with
  | zero => intro k h; exact ⟨Nat.le_refl _, h⟩
  | succ n ih =>
    intro k h
    simp only [skp]
    by_cases c : bA b z k = 32 ∨ bA b z k = 10
    · rw [if_pos c]
      have hk : k < z := bA_lt (b := b) (by rcases c with c | c <;> rw [c] <;> decide)
      have := ih (k + 1) (by omega)
      omega
    · rw [if_neg c]; omega
theorem tA_le {k : Nat} (h : k ≤ z) : k ≤ tA b z k ∧ tA b z k ≤ z := skp_le _ _ h
theorem run_fuel {lo hi : Int32} (hlo : 0 ≤ lo) : ∀ (n m k : Nat), z - k < n → z - k < m → run b z lo hi n k = run b z lo hi m k := by
  intro n
  induction n with
  | zero => intro m k h; omega
  | succ n ih =>
    intro m k h1 h2
    cases m with
    | zero => omega
    | succ m =>
      simp only [run]
      by_cases c : lo ≤ bA b z k ∧ bA b z k ≤ hi
      · rw [if_pos c, if_pos c]
        have hk : k < z := bA_lt (b := b) (by have := c.1; grind)
        exact ih m (k + 1) (by omega) (by omega)
      · rw [if_neg c, if_neg c]
theorem run_step {lo hi : Int32} (hlo : 0 ≤ lo) {k : Nat} (c : lo ≤ bA b z k ∧ bA b z k ≤ hi) : run b z lo hi (z + 1) k = run b z lo hi (z + 1) (k + 1) ∧ k < z := by
  have hk : k < z := bA_lt (b := b) (by have := c.1; grind)
  refine ⟨?_, hk⟩
  rw [run, if_pos c]
  exact run_fuel hlo _ _ _ (by omega) (by omega)
theorem run_stop {lo hi : Int32} {k : Nat} (c : ¬ (lo ≤ bA b z k ∧ bA b z k ≤ hi)) : run b z lo hi (z + 1) k = k := by
  rw [run, if_neg c]
theorem run_le {lo hi : Int32} (hlo : 0 ≤ lo) : ∀ (n k : Nat), k ≤ z → k ≤ run b z lo hi n k ∧ run b z lo hi n k ≤ z := by
  intro n
  induction n with
  | zero => intro k h; exact ⟨Nat.le_refl _, h⟩
  | succ n ih =>
    intro k h
    simp only [run]
    by_cases c : lo ≤ bA b z k ∧ bA b z k ≤ hi
    · rw [if_pos c]
      have hk : k < z := bA_lt (b := b) (by have := c.1; grind)
      have := ih (k + 1) (by omega)
      omega
    · rw [if_neg c]; omega
theorem dgt_fuel : ∀ (n m j k : Nat) (w : Int32), z - k < n → z - k < m → dgt b z n j k w = dgt b z m j k w := by
  intro n
  induction n with
  | zero => intro m j k w h; omega
  | succ n ih =>
    intro m j k w h1 h2
    cases m with
    | zero => omega
    | succ m =>
      simp only [dgt]
      by_cases c : 48 ≤ bA b z k ∧ bA b z k ≤ 57
      · rw [if_pos c, if_pos c]
        have hk : k < z := bA_lt (b := b) (by have := c.1; grind)
        exact ih m (j + 1) (k + 1) _ (by omega) (by omega)
      · rw [if_neg c, if_neg c]
theorem dgt_step {j k : Nat} {w : Int32} (c : 48 ≤ bA b z k ∧ bA b z k ≤ 57) : dgt b z (z + 1) j k w = dgt b z (z + 1) (j + 1) (k + 1) (if j < 4 then 10 * w + bA b z k - 48 else w) := by
  have hk : k < z := bA_lt (b := b) (by have := c.1; grind)
  rw [dgt, if_pos c]
  exact dgt_fuel _ _ _ _ _ (by omega) (by omega)
theorem dgt_stop {j k : Nat} {w : Int32} (c : ¬ (48 ≤ bA b z k ∧ bA b z k ≤ 57)) : dgt b z (z + 1) j k w = w := by
  rw [dgt, if_neg c]
theorem tN_le {k : Nat} (h : k ≤ z) : tA b z k ≤ tN b z k ∧ tN b z k ≤ z := by
  have h1 := tA_le (b := b) h
  unfold tN
  by_cases c0 : tC b z k < 0
  · rw [if_pos c0]; omega
  · rw [if_neg c0]
    have c1 : tA b z k < z := bA_lt (b := b) (by have : ¬ tC b z k < 0 := c0; unfold tC at this; grind)
    by_cases c2 : 97 ≤ tC b z k ∧ tC b z k ≤ 122
    · rw [if_pos c2]; exact run_le (by decide) _ _ h1.2
    · rw [if_neg c2]
      by_cases c3 : 48 ≤ tC b z k ∧ tC b z k ≤ 57
      · rw [if_pos c3]; exact run_le (by decide) _ _ h1.2
      · rw [if_neg c3]
        split <;> omega
/-- a token that is no end and not wrong goes on -/
theorem tN_lt {k : Nat} (h : k ≤ z) (h0 : ¬ tK b z k = 0) (h4 : ¬ tK b z k = 4) : k < tN b z k := by
  have h1 := tA_le (b := b) h
  unfold tK at h0 h4
  unfold tN
  by_cases c0 : tC b z k < 0
  · rw [if_pos c0] at h0; exact absurd rfl h0
  · rw [if_neg c0] at h0 h4 ⊢
    have c1 : tA b z k < z := bA_lt (b := b) (by have : ¬ tC b z k < 0 := c0; unfold tC at this; grind)
    by_cases c2 : 97 ≤ tC b z k ∧ tC b z k ≤ 122
    · rw [if_pos c2, (run_step (by decide) c2).1]
      have := run_le (b := b) (z := z) (lo := 97) (hi := 122) (by decide) (z + 1) (tA b z k + 1) (by omega)
      omega
    · rw [if_neg c2] at h0 h4 ⊢
      by_cases c3 : 48 ≤ tC b z k ∧ tC b z k ≤ 57
      · rw [if_pos c3]
        unfold tE
        rw [(run_step (by decide) c3).1]
        have := run_le (b := b) (z := z) (lo := 48) (hi := 57) (by decide) (z + 1) (tA b z k + 1) (by omega)
        omega
      · rw [if_neg c3] at h0 h4 ⊢
        by_cases c4 : (tC b z k = 40 ∨ tC b z k = 41 ∨ tC b z k = 59 ∨ tC b z k = 43 ∨ tC b z k = 45 ∨ tC b z k = 42 ∨ tC b z k = 60 ∨ tC b z k = 61)
        · rw [if_pos c4]; omega
        · rw [if_neg c4] at h4; exact absurd rfl h4
end LX
/-- the text at hand: in row t of the texts, z bytes b -/
def pTx (b : Nat → Int32) (z t : Nat) (σ : mS) : Prop := t < 6 ∧ z ≤ 160 ∧ σ 0 20 = nI (160 * t) ∧ σ 0 21 = nI z ∧ ∀ i, i < z → σ 1 (160 * t + i) = b i ∧ 0 ≤ b i
/-- the token at hand is the one that is read from i on -/
def pAt (b : Nat → Int32) (z : Nat) (σ : mS) (i : Nat) : Prop := σ 0 23 = tK b z i ∧ σ 0 24 = nI (tA b z i) ∧ σ 0 22 = nI (tN b z i) ∧ ((tK b z i = 2 ∨ tK b z i = 3) → σ 0 25 = tW b z i)
/-- the same but for the token; but for the token and what is open, bad, at fault -/
def nEq (σ u : mS) : Prop := ∀ k j, ¬ (k = 0 ∧ 22 ≤ j ∧ j ≤ 25) → u k j = σ k j
def pEq (σ u : mS) : Prop := ∀ k j, ¬ (k = 0 ∧ 22 ≤ j ∧ j ≤ 28) → u k j = σ k j
theorem nEq.rf {σ : mS} : nEq σ σ := fun _ _ _ => rfl
theorem pEq.rf {σ : mS} : pEq σ σ := fun _ _ _ => rfl
theorem nEq.u {σ u : mS} (h : nEq σ u) {j : Nat} (h1 : 22 ≤ j ∧ j ≤ 25) (x : Int32) : nEq σ (up u 0 j x) := by
  intro k i hk
  unfold up
  by_cases c : k = 0
  · rw [if_pos c]
    by_cases c2 : i = j
    · omega
    · rw [if_neg c2]; exact h k i hk
  · rw [if_neg c]; exact h k i hk
theorem pEq.u {σ u : mS} (h : pEq σ u) {j : Nat} (h1 : 22 ≤ j ∧ j ≤ 28) (x : Int32) : pEq σ (up u 0 j x) := by
  intro k i hk
  unfold up
  by_cases c : k = 0
  · rw [if_pos c]
    by_cases c2 : i = j
    · omega
    · rw [if_neg c2]; exact h k i hk
  · rw [if_neg c]; exact h k i hk
theorem nEq.p {σ u : mS} (h : nEq σ u) : pEq σ u := fun k j hk => h k j (by omega)
theorem nEq.trans {σ u w : mS} (h : nEq σ u) (g : nEq u w) : nEq σ w := fun k j hk => (g k j hk).trans (h k j hk)
theorem pEq.trans {σ u w : mS} (h : pEq σ u) (g : pEq u w) : pEq σ w := fun k j hk => (g k j hk).trans (h k j hk)
theorem pTx.eq {b : Nat → Int32} {z t : Nat} {σ u : mS} (h : pTx b z t σ) (e : pEq σ u) : pTx b z t u := by
  obtain ⟨h1, h2, h3, h4, h5⟩ := h
  refine ⟨h1, h2, by rw [e 0 20 (by omega)]; exact h3, by rw [e 0 21 (by omega)]; exact h4, fun i hi => ?_⟩
  rw [e 1 _ (by omega)]; exact h5 i hi
theorem pAt.u {b : Nat → Int32} {z i j : Nat} {σ : mS} {x : Int32} (h : pAt b z σ i) (hj : 26 ≤ j) : pAt b z (up σ 0 j x) i := by
  obtain ⟨h1, h2, h3, h4⟩ := h
  have e : ∀ c, c < 26 → up σ 0 j x 0 c = σ 0 c := fun c hc => by unfold up; rw [if_pos rfl, if_neg (by omega)]
  exact ⟨by rw [e 23 (by omega)]; exact h1, by rw [e 24 (by omega)]; exact h2, by rw [e 22 (by omega)]; exact h3, by rw [e 25 (by omega)]; exact h4⟩
/-- a digit more, as a long and as an int -/
theorem dg64 {m : Nat} (hm : m ≤ 999) {x : Int32} (hx : 48 ≤ x ∧ x ≤ 57) : Int32.toInt64 10 * Int32.toInt64 (nI m) + Int32.toInt64 x - Int32.toInt64 48 = Int32.toInt64 (10 * nI m + x - 48) ∧ ∃ m', 10 * nI m + x - 48 = nI m' ∧ m' ≤ 10 * m + 9 := by
  have h48 : ¬ x < 0 := by grind
  obtain ⟨y, hy, rfl⟩ := nI_of2 (M := 57) (n := 57) (by decide) h48 hx.2
  have hy2 : 48 ≤ y := by
    have := (nI_leI (a := 48) (b := y) (by decide) (by omega)).mp hx.1
    exact this
  have e : 10 * nI m + nI y - 48 = nI (10 * m + (y - 48)) := by
    have e1 : (10 : Int32) * nI m = nI (10 * m) := pk_mul 10 m
    rw [e1, nI_add]
    have : nI (10 * m + y) - nI 48 = nI (10 * m + y - 48) := pk_sub (by omega)
    rw [show (48 : Int32) = nI 48 from rfl, this]
    congr 1; omega
  refine ⟨?_, _, e, by omega⟩
  rw [e, nI_l (by omega), nI_l (by omega), nI_l (by omega), show (Int32.toInt64 10) = lN 10 from by decide, show (Int32.toInt64 48) = lN 48 from by decide, lN_mul, lN_add, lN_sub (by omega)]
  congr 1; omega
section TOK
variable {b : Nat → Int32} {z i k : Nat}
theorem tok_end (hk : tA b z i = k) (hby : ∀ j, j < z → 0 ≤ b j) (hkz : k ≤ z) (h : ¬ 0 ≤ bA b z k) : tK b z i = 0 ∧ k = z ∧ tN b z i = k := by
  have hc : tC b z i < 0 := by unfold tC; rw [hk]; grind
  refine ⟨by unfold tK; rw [if_pos hc], ?_, by unfold tN; rw [if_pos hc, hk]⟩
  rcases Nat.lt_or_ge k z with g | g
  · exact absurd (by rw [bA, if_pos g]; exact hby k g) h
  · omega
theorem tok_word (hk : tA b z i = k) (h : 97 ≤ bA b z k ∧ bA b z k ≤ 122) : tK b z i = 1 ∧ tN b z i = run b z 97 122 (z + 1) k := by
  have e : tC b z i = bA b z k := by unfold tC; rw [hk]
  have h0 : ¬ tC b z i < 0 := by rw [e]; grind
  constructor
  · unfold tK; rw [if_neg h0, e, if_pos h]
  · unfold tN; rw [if_neg h0, e, if_pos h, hk]
theorem tok_num (hk : tA b z i = k) (h1 : ¬ (97 ≤ bA b z k ∧ bA b z k ≤ 122)) (h : 48 ≤ bA b z k ∧ bA b z k ≤ 57) : tK b z i = (if 4 < run b z 48 57 (z + 1) k - k then 4 else 2) ∧ tN b z i = run b z 48 57 (z + 1) k ∧ tW b z i = dgt b z (z + 1) 0 k 0 := by
  have e : tC b z i = bA b z k := by unfold tC; rw [hk]
  have h0 : ¬ tC b z i < 0 := by rw [e]; grind
  refine ⟨?_, ?_, ?_⟩
  · unfold tK tE; rw [if_neg h0, e, if_neg h1, if_pos h, hk]
  · unfold tN tE; rw [if_neg h0, e, if_neg h1, if_pos h, hk]
  · unfold tW; rw [e, if_pos h, hk]
theorem tok_sign (hk : tA b z i = k) (h0 : 0 ≤ bA b z k) (h1 : ¬ (97 ≤ bA b z k ∧ bA b z k ≤ 122)) (h2 : ¬ (48 ≤ bA b z k ∧ bA b z k ≤ 57)) (h : bA b z k = 40 ∨ bA b z k = 41 ∨ bA b z k = 59 ∨ bA b z k = 43 ∨ bA b z k = 45 ∨ bA b z k = 42 ∨ bA b z k = 60 ∨ bA b z k = 61) : tK b z i = 3 ∧ tN b z i = k + 1 ∧ tW b z i = bA b z k := by
  have e : tC b z i = bA b z k := by unfold tC; rw [hk]
  have h0 : ¬ tC b z i < 0 := by rw [e]; grind
  refine ⟨?_, ?_, ?_⟩
  · unfold tK; rw [if_neg h0, e, if_neg h1, if_neg h2, if_pos h]
  · unfold tN; rw [if_neg h0, e, if_neg h1, if_neg h2, if_pos h, hk]
  · unfold tW; rw [e, if_neg h2]
theorem tok_wrong (hk : tA b z i = k) (h0 : 0 ≤ bA b z k) (h1 : ¬ (97 ≤ bA b z k ∧ bA b z k ≤ 122)) (h2 : ¬ (48 ≤ bA b z k ∧ bA b z k ≤ 57)) (h : ¬ (bA b z k = 40 ∨ bA b z k = 41 ∨ bA b z k = 59 ∨ bA b z k = 43 ∨ bA b z k = 45 ∨ bA b z k = 42 ∨ bA b z k = 60 ∨ bA b z k = 61)) : tK b z i = 4 ∧ tN b z i = k := by
  have e : tC b z i = bA b z k := by unfold tC; rw [hk]
  have h0 : ¬ tC b z i < 0 := by rw [e]; grind
  constructor
  · unfold tK; rw [if_neg h0, e, if_neg h1, if_neg h2, if_neg h]
  · unfold tN; rw [if_neg h0, e, if_neg h1, if_neg h2, if_neg h, hk]
theorem ten4 {c y : Nat} (hc : c < 4) (hy : y < 10 ^ c) : y ≤ 999 := by
  have : 10 ^ c ≤ 10 ^ 3 := Nat.pow_le_pow_right (by decide) (by omega)
  omega
theorem ten5 {c y m : Nat} (hc : c < 4) (hy : y < 10 ^ c) (hm : m ≤ 10 * y + 9) : m < 10 ^ (c + 1) := by
  rw [Nat.pow_succ]; omega
end TOK
