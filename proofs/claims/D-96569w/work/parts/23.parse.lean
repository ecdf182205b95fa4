/-! THE PARSER's PLAIN LAWS, case by case -/
set_option maxRecDepth 100000
def rho (σ : mS) : Nat → Int32 := fun k => if k < 6 then σ 0 (14 + k) else 0
theorem rho_eq {σ s : mS} (h : pEq σ s) : rho s = rho σ := by
  funext k
  unfold rho
  by_cases c : k < 6
  · rw [if_pos c, if_pos c, h 0 (14 + k) (by omega)]
  · rw [if_neg c, if_neg c]
def pRes (b : Nat → Int32) (z d : Nat) (σ u : mS) (r : Int32) (x : PR) : Prop := match x with
  | .inl e => u 0 27 = 1 ∧ u 0 28 = nI e
  | .inr (f, j) => r = f (rho σ) ∧ pAt b z u j ∧ u 0 27 = 0 ∧ u 0 26 = nI d
theorem pRes.e {b : Nat → Int32} {z d : Nat} {σ u : mS} {r : Int32} {x : PR} {e : Nat} (h : x = .inl e) (h1 : u 0 27 = 1) (h2 : u 0 28 = nI e) : pRes b z d σ u r x := by rw [h]; exact ⟨h1, h2⟩
theorem pRes.o {b : Nat → Int32} {z d : Nat} {σ u : mS} {r : Int32} {x : PR} {f : (Nat → Int32) → Int32} {j : Nat} (h : x = .inr (f, j)) (h1 : r = f (rho σ)) (h2 : pAt b z u j) (h3 : u 0 27 = 0) (h4 : u 0 26 = nI d) : pRes b z d σ u r x := by rw [h]; exact ⟨h1, h2, h3, h4⟩
section PL
variable {b : Nat → Int32} {z : Nat} {pa pe pn pd p : Nat → PR} {i j k e : Nat} {f g : (Nat → Int32) → Int32} {ts : Nat → Bool} {cb : Nat → Int32 → Int32 → Int32} {n : Nat}
theorem atG_dn {dp : Bool} (hd : dp = true) (h : sg b z i 45) : atG b z dp pa pe i = .inl (tA b z i) := by rw [atG, if_pos h, if_pos hd]
theorem atG_dp {dp : Bool} (hd : dp = true) (h0 : ¬ sg b z i 45) (h : sg b z i 40) : atG b z dp pa pe i = .inl (tA b z i) := by rw [atG, if_neg h0, if_pos h, if_pos hd]
theorem atG_ne (h : sg b z i 45) (hp : pa (tN b z i) = .inl e) : atG b z false pa pe i = .inl e := by rw [atG, if_pos h, if_neg (by decide), hp]
theorem atG_no (h : sg b z i 45) (hp : pa (tN b z i) = .inr (f, j)) : atG b z false pa pe i = .inr (fun ρ => -(f ρ), j) := by rw [atG, if_pos h, if_neg (by decide), hp]
theorem atG_pe (h0 : ¬ sg b z i 45) (h : sg b z i 40) (hp : pe (tN b z i) = .inl e) : atG b z false pa pe i = .inl e := by rw [atG, if_neg h0, if_pos h, if_neg (by decide), hp]
theorem atG_po (h0 : ¬ sg b z i 45) (h : sg b z i 40) (hp : pe (tN b z i) = .inr (f, j)) (h2 : sg b z j 41) : atG b z false pa pe i = .inr (f, tN b z j) := by rw [atG, if_neg h0, if_pos h, if_neg (by decide), hp]; exact if_pos h2
theorem atG_pb (h0 : ¬ sg b z i 45) (h : sg b z i 40) (hp : pe (tN b z i) = .inr (f, j)) (h2 : ¬ sg b z j 41) : atG b z false pa pe i = .inl (tA b z j) := by rw [atG, if_neg h0, if_pos h, if_neg (by decide), hp]; exact if_neg h2
theorem atG_num {dp : Bool} (h0 : ¬ sg b z i 45) (h1 : ¬ sg b z i 40) (h : tK b z i = 2) : atG b z dp pa pe i = .inr (fun _ => tW b z i, tN b z i) := by rw [atG, if_neg h0, if_neg h1, if_pos h]
theorem atG_nm {dp : Bool} (h0 : ¬ sg b z i 45) (h1 : ¬ sg b z i 40) (h2 : ¬ tK b z i = 2) (h : tK b z i = 1) (hn : nmK b z i = some k) : atG b z dp pa pe i = .inr (fun ρ => ρ k, tN b z i) := by rw [atG, if_neg h0, if_neg h1, if_neg h2, if_pos h, hn]
theorem atG_nn {dp : Bool} (h0 : ¬ sg b z i 45) (h1 : ¬ sg b z i 40) (h2 : ¬ tK b z i = 2) (h : tK b z i = 1) (hn : nmK b z i = none) : atG b z dp pa pe i = .inl (tA b z i) := by rw [atG, if_neg h0, if_neg h1, if_neg h2, if_pos h, hn]
theorem atG_el {dp : Bool} (h0 : ¬ sg b z i 45) (h1 : ¬ sg b z i 40) (h2 : ¬ tK b z i = 2) (h : ¬ tK b z i = 1) : atG b z dp pa pe i = .inl (tA b z i) := by rw [atG, if_neg h0, if_neg h1, if_neg h2, if_neg h]
theorem loG_go (ht : ts i = true) (hp : p (tN b z i) = .inr (g, j)) : loG b z ts p cb (n + 1) f i = loG b z ts p cb n (fun ρ => cb i (f ρ) (g ρ)) j := by rw [loG, if_pos ht, hp]
theorem loG_er (ht : ts i = true) (hp : p (tN b z i) = .inl e) : loG b z ts p cb (n + 1) f i = .inl e := by rw [loG, if_pos ht, hp]
theorem loG_ou (ht : ¬ ts i = true) : loG b z ts p cb (n + 1) f i = .inr (f, i) := by rw [loG, if_neg ht]
theorem chG_er (hp : p i = .inl e) : chG b z ts p cb i = .inl e := by rw [chG, hp]
theorem chG_go (hp : p i = .inr (f, j)) : chG b z ts p cb i = loG b z ts p cb (z + 1) f j := by rw [chG, hp]
theorem noG_d {dp : Bool} (hd : dp = true) (h : kNot b z i) : noG b z dp pn pd i = .inl (tA b z i) := by rw [noG, if_pos h, if_pos hd]
theorem noG_ne (h : kNot b z i) (hp : pn (tN b z i) = .inl e) : noG b z false pn pd i = .inl e := by rw [noG, if_pos h, if_neg (by decide), hp]
theorem noG_no (h : kNot b z i) (hp : pn (tN b z i) = .inr (f, j)) : noG b z false pn pd i = .inr (fun ρ => if f ρ = 0 then 1 else 0, j) := by rw [noG, if_pos h, if_neg (by decide), hp]
theorem noG_e1 {dp : Bool} (h : ¬ kNot b z i) (hp : pd i = .inl e) : noG b z dp pn pd i = .inl e := by rw [noG, if_neg h, hp]
theorem noG_pl {dp : Bool} (h : ¬ kNot b z i) (hp : pd i = .inr (f, j)) (h2 : ¬ (sg b z j 60 ∨ sg b z j 61)) : noG b z dp pn pd i = .inr (f, j) := by rw [noG, if_neg h, hp]; exact if_neg h2
theorem noG_e2 {dp : Bool} (h : ¬ kNot b z i) (hp : pd i = .inr (f, j)) (h2 : sg b z j 60 ∨ sg b z j 61) (hq : pd (tN b z j) = .inl e) : noG b z dp pn pd i = .inl e := by
  rw [noG, if_neg h, hp]
  show (if sg b z j 60 ∨ sg b z j 61 then _ else _) = _
  rw [if_pos h2, hq]
theorem noG_cm {dp : Bool} (h : ¬ kNot b z i) (hp : pd i = .inr (f, j)) (h2 : sg b z j 60 ∨ sg b z j 61) (hq : pd (tN b z j) = .inr (g, k)) : noG b z dp pn pd i = .inr (fun ρ => if (if tW b z j = 60 then f ρ < g ρ else f ρ = g ρ) then 1 else 0, k) := by
  rw [noG, if_neg h, hp]
  show (if sg b z j 60 ∨ sg b z j 61 then _ else _) = _
  rw [if_pos h2, hq]
def goodP (z : Nat) (p : Nat → PR) : Prop := ∀ i f j, i ≤ z → p i = .inr (f, j) → i < j ∧ j ≤ z
theorem sg_lt {c : Int32} (hi : i ≤ z) (h : sg b z i c) : i < tN b z i ∧ tN b z i ≤ z := ⟨tN_lt hi (by rw [h.1]; decide) (by rw [h.1]; decide), (tN_le hi).2⟩
theorem tk2_lt (hi : i ≤ z) (h : tK b z i = 2) : i < tN b z i ∧ tN b z i ≤ z := ⟨tN_lt hi (by rw [h]; decide) (by rw [h]; decide), (tN_le hi).2⟩
theorem tk1_lt (hi : i ≤ z) (h : tK b z i = 1) : i < tN b z i ∧ tN b z i ≤ z := ⟨tN_lt hi (by rw [h]; decide) (by rw [h]; decide), (tN_le hi).2⟩
theorem atG_good {dp : Bool} (ha : goodP z pa) (he : goodP z pe) : goodP z (atG b z dp pa pe) := by
  intro i f j hi h
  by_cases h0 : sg b z i 45
  · have hl := sg_lt hi h0
    cases dp with
    | true => rw [atG_dn rfl h0] at h; cases h
    | false =>
      rcases hp : pa (tN b z i) with e | ⟨g, k⟩
      · rw [atG_ne h0 hp] at h; cases h
      · rw [atG_no h0 hp] at h; cases h
        have := ha _ _ _ hl.2 hp
        omega
  · by_cases h1 : sg b z i 40
    · have hl := sg_lt hi h1
      cases dp with
      | true => rw [atG_dp rfl h0 h1] at h; cases h
      | false =>
        rcases hp : pe (tN b z i) with e | ⟨g, k⟩
        · rw [atG_pe h0 h1 hp] at h; cases h
        · have g2 := he _ _ _ hl.2 hp
          by_cases h2 : sg b z k 41
          · rw [atG_po h0 h1 hp h2] at h; cases h
            have := sg_lt g2.2 h2
            omega
          · rw [atG_pb h0 h1 hp h2] at h; cases h
    · by_cases h2 : tK b z i = 2
      · rw [atG_num h0 h1 h2] at h; cases h
        exact tk2_lt hi h2
      · by_cases h3 : tK b z i = 1
        · rcases hn : nmK b z i with _ | k
          · rw [atG_nn h0 h1 h2 h3 hn] at h; cases h
          · rw [atG_nm h0 h1 h2 h3 hn] at h; cases h
            exact tk1_lt hi h3
        · rw [atG_el h0 h1 h2 h3] at h; cases h
theorem loG_good (hts : ∀ i, ts i = true → ¬ tK b z i = 0 ∧ ¬ tK b z i = 4) (hp : goodP z p) : ∀ n f i g j, i ≤ z → loG b z ts p cb n f i = .inr (g, j) → i ≤ j ∧ j ≤ z := by
  intro n
  induction n with
  | zero => intro f i g j hi h; rw [loG] at h; cases h; omega
  | succ n ih =>
    intro f i g j hi h
    by_cases ht : ts i = true
    · rcases hq : p (tN b z i) with e | ⟨g2, k⟩
      · rw [loG_er ht hq] at h; cases h
      · rw [loG_go ht hq] at h
        have h1 := tN_lt hi (hts i ht).1 (hts i ht).2
        have h2 := hp _ _ _ (tN_le hi).2 hq
        have := ih _ _ _ _ h2.2 h
        omega
    · rw [loG_ou ht] at h; cases h; omega
theorem chG_good (hts : ∀ i, ts i = true → ¬ tK b z i = 0 ∧ ¬ tK b z i = 4) (hp : goodP z p) : goodP z (chG b z ts p cb) := by
  intro i f j hi h
  rcases hq : p i with e | ⟨g, k⟩
  · rw [chG_er hq] at h; cases h
  · rw [chG_go hq] at h
    have h1 := hp _ _ _ hi hq
    have := loG_good hts hp _ _ _ _ _ h1.2 h
    omega
theorem ts_s {c : Int32} : ∀ i, decide (sg b z i c) = true → ¬ tK b z i = 0 ∧ ¬ tK b z i = 4 := fun i h => by
  have := (of_decide_eq_true h).1
  rw [this]; decide
theorem ts_s2 {c c2 : Int32} : ∀ i, decide (sg b z i c ∨ sg b z i c2) = true → ¬ tK b z i = 0 ∧ ¬ tK b z i = 4 := fun i h => by
  have : tK b z i = 3 := (of_decide_eq_true h).elim (fun x => x.1) (fun x => x.1)
  rw [this]; decide
theorem ts_w {q : Nat → Prop} [DecidablePred q] (hq : ∀ i, q i → tK b z i = 1) : ∀ i, decide (q i) = true → ¬ tK b z i = 0 ∧ ¬ tK b z i = 4 := fun i h => by
  have := hq i (of_decide_eq_true h)
  rw [this]; decide
theorem teG_good (h : goodP z pa) : goodP z (teG b z pa) := chG_good ts_s h
theorem adG_good (h : goodP z pa) : goodP z (adG b z pa) := chG_good ts_s2 (teG_good h)
theorem boG_good (h : goodP z pn) : goodP z (boG b z pn) := chG_good (ts_w fun _ h => h.1) h
theorem eiG_good (h : goodP z pn) : goodP z (eiG b z pn) := chG_good (ts_w fun _ h => h.1) (boG_good h)
theorem noG_good {dp : Bool} (hn : goodP z pn) (hd : goodP z pd) : goodP z (noG b z dp pn pd) := by
  intro i f j hi h
  by_cases h0 : kNot b z i
  · have hl := tk1_lt hi h0.1
    cases dp with
    | true => rw [noG_d rfl h0] at h; cases h
    | false =>
      rcases hp : pn (tN b z i) with e | ⟨g, k⟩
      · rw [noG_ne h0 hp] at h; cases h
      · rw [noG_no h0 hp] at h; cases h
        have := hn _ _ _ hl.2 hp
        omega
  · rcases hp : pd i with e | ⟨g, k⟩
    · rw [noG_e1 h0 hp] at h; cases h
    · have g1 := hd _ _ _ hi hp
      by_cases h2 : sg b z k 60 ∨ sg b z k 61
      · rcases hq : pd (tN b z k) with e | ⟨g2, k2⟩
        · rw [noG_e2 h0 hp h2 hq] at h; cases h
        · rw [noG_cm h0 hp h2 hq] at h; cases h
          have hl : k < tN b z k ∧ tN b z k ≤ z := h2.elim (sg_lt g1.2) (sg_lt g1.2)
          have := hd _ _ _ hl.2 hq
          omega
      · rw [noG_pl h0 hp h2] at h; cases h
        exact g1
theorem goodP_e : goodP z (fun _ => (.inl 0 : PR)) := fun _ _ _ _ h => by cases h
theorem PX_good : ∀ r, goodP z (PX b z r).1 ∧ goodP z (PX b z r).2 := by
  intro r
  induction r with
  | zero => exact ⟨atG_good goodP_e goodP_e, noG_good goodP_e (adG_good (atG_good goodP_e goodP_e))⟩
  | succ r ih => exact ⟨atG_good ih.1 (eiG_good ih.2), noG_good ih.2 (adG_good (atG_good ih.1 (eiG_good ih.2)))⟩
end PL
theorem PXa0 {b : Nat → Int32} {z i : Nat} : (PX b z 0).1 i = atG b z true (fun _ => .inl 0) (fun _ => .inl 0) i := rfl
theorem PXn0 {b : Nat → Int32} {z i : Nat} : (PX b z 0).2 i = noG b z true (fun _ => .inl 0) (adG b z (PX b z 0).1) i := rfl
theorem PXa (r : Nat) {b : Nat → Int32} {z i : Nat} : (PX b z (r + 1)).1 i = atG b z false (PX b z r).1 (eiG b z (PX b z r).2) i := rfl
theorem PXn (r : Nat) {b : Nat → Int32} {z i : Nat} : (PX b z (r + 1)).2 i = noG b z false (PX b z r).2 (adG b z (PX b z (r + 1)).1) i := rfl
