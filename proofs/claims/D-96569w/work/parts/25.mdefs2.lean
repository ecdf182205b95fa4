/-! THE PLAIN MEANING of plantings and years, over a state α of the reference without its token (ab) -/
set_option maxRecDepth 100000
section PT
variable {b : Nat → Int32} {z i j e : Nat} {f : (Nat → Int32) → Int32}
theorem ptP_k {p : Prop} [Decidable p] (h : ¬ p) : ptP b z p i = .inl (tA b z i) := by rw [ptP, if_neg h]
theorem ptP_e {p : Prop} [Decidable p] (h : p) (hp : eiG b z (PX b z 5).2 (tN b z i) = .inl e) : ptP b z p i = .inl e := by rw [ptP, if_pos h, hp]
theorem ptP_o {p : Prop} [Decidable p] (h : p) (hp : eiG b z (PX b z 5).2 (tN b z i) = .inr (f, j)) (h2 : sg b z j 59) : ptP b z p i = .inr (f, tN b z j) := by rw [ptP, if_pos h, hp]; exact if_pos h2
theorem ptP_b {p : Prop} [Decidable p] (h : p) (hp : eiG b z (PX b z 5).2 (tN b z i) = .inr (f, j)) (h2 : ¬ sg b z j 59) : ptP b z p i = .inl (tA b z j) := by rw [ptP, if_pos h, hp]; exact if_neg h2
theorem ptP_le {p : Prop} [Decidable p] : ∀ i f j, i ≤ z → ptP b z p i = .inr (f, j) → i ≤ z ∧ j ≤ z := by
  intro i f j hi h
  by_cases hp : p
  · rcases hq : eiG b z (PX b z 5).2 (tN b z i) with e | ⟨g, k⟩
    · rw [ptP_e hp hq] at h; cases h
    · have g1 := eiG_good (PX_good 5).2 _ _ _ (tN_le hi).2 hq
      by_cases h2 : sg b z k 59
      · rw [ptP_o hp hq h2] at h; cases h
        exact ⟨hi, (tN_le g1.2).2⟩
      · rw [ptP_b hp hq h2] at h; cases h
  · rw [ptP_k hp] at h; cases h
end PT
/-- the token's own fields -/
def scr (k j : Nat) : Bool := decide (k = 0) && (decide (14 ≤ j) && decide (j ≤ 28))
def ab (σ : mS) : mS := fun k j => if scr k j = true then 0 else σ k j
theorem ab_rd {σ : mS} (k j : Nat) (h : scr k j = false) : ab σ k j = σ k j := by unfold ab; rw [h]; rfl
theorem ab_eq {σ u : mS} (h : ab u = ab σ) (k j : Nat) (hs : scr k j = false) : u k j = σ k j := by
  rw [← ab_rd (σ := u) k j hs, h, ab_rd k j hs]
theorem ab_us {σ : mS} {k j : Nat} {x : Int32} (hs : scr k j = true) : ab (up σ k j x) = ab σ := by
  funext a c
  unfold ab up
  by_cases h : scr a c = true
  · rw [if_pos h, if_pos h]
  · rw [if_neg h, if_neg h]
    by_cases h1 : a = k
    · by_cases h2 : c = j
      · subst h1; subst h2; exact absurd hs h
      · rw [if_pos h1, if_neg h2]
    · rw [if_neg h1]
theorem ab_u {σ : mS} {k j : Nat} {x : Int32} (hs : scr k j = false) : ab (up σ k j x) = up (ab σ) k j x := by
  funext a c
  unfold ab up
  by_cases h1 : a = k
  · by_cases h2 : c = j
    · subst h1; subst h2; rw [hs]; simp
    · simp [h1, h2]
  · simp [h1]
theorem ab_p {σ u : mS} (h : pEq σ u) : ab u = ab σ := by
  funext k j
  unfold ab
  by_cases c : scr k j = true
  · rw [if_pos c, if_pos c]
  · rw [if_neg c, if_neg c]
    refine h k j (fun g => c ?_)
    unfold scr
    simp only [Bool.and_eq_true, decide_eq_true_eq]; omega
def gN (α : mS) (p : Nat) : Nat := tn (α 12 (3 * p + 1))
def envV (α : mS) (p : Nat) : Nat → Int32 := fun k => if k = 0 then α 10 (gN α p) else if k = 1 then α 0 7 else if k = 2 then α 12 (3 * p) else if k = 3 then α 12 (3 * p + 2) else if k = 4 then α 12 (3 * p + 1) else if k = 5 then α 0 8 else 0
def rd3 (w : Int32) (x : ((Nat → Int32) → Int32) × ((Nat → Int32) → Int32) × ((Nat → Int32) → Int32)) (ρ : Nat → Int32) : Int32 := if w = 0 then x.1 ρ else if w = 1 then x.2.1 ρ else x.2.2 ρ
/-- what part w of text t says -/
def txV (α : mS) (t : Nat) (w : Int32) (ρ : Nat → Int32) : Int32 := match rdG (fun i => α 1 (160 * t + i)) (tn (α 2 t)) with
  | .inl _ => 0
  | .inr x => rd3 w x ρ
def sayV (α : mS) (w : Int32) (p : Nat) : Int32 := cl (txV α (tn (α 0 4)) w (envV α p)) 0 (if w = 1 then 99 else 100)
def rotF (k v s : Int32) : Int32 := cl (if k = 1 ∨ k = 3 then v + 10 else if k = 2 then v / 2 else if k = 4 then v / 2 + s else if k = 5 ∧ v < 50 then 50 else v) 0 100
def rotV (α : mS) (p : Nat) : Int32 := rotF (α 11 p) (sayV α 0 p) (α 10 (gN α p))
def groF (k n s m y : Int32) : Int32 := if k = 5 ∨ (k = 4 ∧ y - y / 2 * 2 = 1) then cl n 0 9999 else if k = 2 ∨ k = 4 then cl (n + n / 2) 0 9999 else
  cl (if k = 0 then (if 3 < s then 2 * n else n) else if k = 1 then (if 0 < n then (if 3 < s then 2 * n else n) + m else (if 3 < s then 2 * n else n)) else (if 0 < n then (if 3 < s then 2 * n else n) + m else (if 3 < s then 2 * n else n)) + n) 0 9999
def groV (α : mS) (p : Nat) (n : Int32) : Int32 := groF (α 11 p) n (α 10 (gN α p)) (α 12 (3 * p)) (α 0 7)
def floF (k n m : Int32) : Int32 := cl (if k = 1 then 2 * n else if k = 2 then n / 3 else if k = 3 then (if 0 < n then 2 * n + m else 0) else if k = 4 then 0 else n) 0 99999
def floV (α : mS) (p : Nat) (n : Int32) : Int32 := floF (α 11 p) n (α 12 (3 * p))
def worV (α : mS) (p : Nat) : Int32 := sayV α 1 p * floV α p (α 12 (3 * p + 2))
def liv1 (α : mS) (p : Nat) : mS := up α 12 (3 * p + 2) (groV α p (α 12 (3 * p + 2) - α 12 (3 * p + 2) * rotV α p / 100))
def livN (α : mS) : Nat → mS
  | 0 => α
  | k + 1 => liv1 (livN α k) k
/-- a year -/
def livS (α : mS) : mS := up (livN α (tn (α 0 13))) 0 7 (livN α (tn (α 0 13)) 0 7 + 1)
def yrs (α : mS) : Nat → mS
  | 0 => α
  | n + 1 => livS (yrs α n)
def sumN (f : Nat → Int32) : Nat → Int32
  | 0 => 0
  | n + 1 => sumN f n + f n
def allV (α : mS) : Int32 := sumN (fun p => α 12 (3 * p + 2)) (tn (α 0 13))
def bloV (α : mS) : Int32 := sumN (fun p => floV α p (α 12 (3 * p + 2))) (tn (α 0 13))
def wrtV (α : mS) : Int32 := sumN (worV α) (tn (α 0 13))
def heiN (α : mS) : Nat → Int32
  | 0 => -1
  | k + 1 => if heiN α k = -1 ∨ α 12 (3 * tn (heiN α k) + 2) < α 12 (3 * k + 2) then nI k else heiN α k
def asd (α : mS) : mS := fun k j => if k = 29 then (if j < 24 then α 12 j else α 29 j) else if k = 0 ∧ j = 30 then α 0 7 else α k j
def bck (α : mS) : mS := fun k j => if k = 12 then (if j < 24 then α 29 j else α 12 j) else if k = 0 ∧ j = 7 then α 0 30 else α k j
/-- what always holds of the reference's numbers -/
def okN (x : Int32) (n : Nat) : Prop := x = nI (tn x) ∧ tn x ≤ n
def wfM (α : mS) : Prop := okN (α 0 13) 8 ∧ okN (α 0 3) 6 ∧ (α 0 4 = nI (tn (α 0 4)) ∧ tn (α 0 4) < tn (α 0 3))
def wfP (α : mS) : Prop := ∀ p, p < tn (α 0 13) → (okN (α 12 (3 * p + 1)) 7) ∧ (0 ≤ α 12 (3 * p + 2) ∧ α 12 (3 * p + 2) ≤ 9999)
def wfT (α : mS) : Prop := ∀ t, t < tn (α 0 3) → okN (α 2 t) 160 ∧ (∀ i, i < tn (α 2 t) → 0 ≤ α 1 (160 * t + i)) ∧ ∃ x, rdG (fun i => α 1 (160 * t + i)) (tn (α 2 t)) = .inr x
def Wf (α : mS) : Prop := wfM α ∧ wfP α ∧ wfT α
theorem okN_of {n N : Nat} (h : n ≤ N) (hN : N < 2 ^ 31) : okN (nI n) N := by
  unfold okN; rw [tn_nI (by omega)]; exact ⟨rfl, h⟩
section RD
variable {b : Nat → Int32} {z i j k e : Nat} {f g h : (Nat → Int32) → Int32}
theorem rdG_1 (h1 : ptP b z (kRots b z 0) 0 = .inl e) : rdG b z = .inl e := by unfold rdG; rw [h1]
theorem rdG_2 (h1 : ptP b z (kRots b z 0) 0 = .inr (f, i)) (h2 : ptP b z (kPays b z i) i = .inl e) : rdG b z = .inl e := by unfold rdG; rw [h1]; dsimp only; rw [h2]
theorem rdG_3 (h1 : ptP b z (kRots b z 0) 0 = .inr (f, i)) (h2 : ptP b z (kPays b z i) i = .inr (g, j)) (h3 : ptP b z (kFinds b z j) j = .inl e) : rdG b z = .inl e := by unfold rdG; rw [h1]; dsimp only; rw [h2]; dsimp only; rw [h3]
theorem rdG_4 (h1 : ptP b z (kRots b z 0) 0 = .inr (f, i)) (h2 : ptP b z (kPays b z i) i = .inr (g, j)) (h3 : ptP b z (kFinds b z j) j = .inr (h, k)) (h4 : ¬ tK b z k = 0) : rdG b z = .inl (tA b z k) := by unfold rdG; rw [h1]; dsimp only; rw [h2]; dsimp only; rw [h3]; exact if_neg h4
theorem rdG_o (h1 : ptP b z (kRots b z 0) 0 = .inr (f, i)) (h2 : ptP b z (kPays b z i) i = .inr (g, j)) (h3 : ptP b z (kFinds b z j) j = .inr (h, k)) (h4 : tK b z k = 0) : rdG b z = .inr (f, g, h) := by unfold rdG; rw [h1]; dsimp only; rw [h2]; dsimp only; rw [h3]; exact if_pos h4
end RD
/-- how a reading ends -/
def rRes (σ u : mS) (r w : Int32) (x : Nat ⊕ (((Nat → Int32) → Int32) × ((Nat → Int32) → Int32) × ((Nat → Int32) → Int32))) : Prop := match x with
  | .inl e => u 0 27 = 1 ∧ u 0 28 = nI e
  | .inr y => u 0 27 = 0 ∧ r = rd3 w y (rho σ)
theorem rRes.e {σ u : mS} {r w : Int32} {x : Nat ⊕ (((Nat → Int32) → Int32) × ((Nat → Int32) → Int32) × ((Nat → Int32) → Int32))} {e : Nat} (h : x = .inl e) (h1 : u 0 27 = 1) (h2 : u 0 28 = nI e) : rRes σ u r w x := by rw [h]; exact ⟨h1, h2⟩
theorem rRes.o {σ u : mS} {r w : Int32} {x : Nat ⊕ (((Nat → Int32) → Int32) × ((Nat → Int32) → Int32) × ((Nat → Int32) → Int32))} {y : ((Nat → Int32) → Int32) × ((Nat → Int32) → Int32) × ((Nat → Int32) → Int32)} (h : x = .inr y) (h1 : u 0 27 = 0) (h2 : r = rd3 w y (rho σ)) : rRes σ u r w x := by rw [h]; exact ⟨h1, h2⟩
theorem rho_u {σ : mS} {j : Nat} {x : Int32} (hj : 20 ≤ j) : rho (up σ 0 j x) = rho σ := by
  funext k
  unfold rho up
  by_cases c : k < 6
  · rw [if_pos c, if_pos c, if_pos rfl, if_neg (by omega)]
  · rw [if_neg c, if_neg c]
theorem rho_env {σ : mS} {p : Nat} {e : Int32} (he : e = σ 12 (3 * p + 1)) : rho (up (up (up (up (up (up σ 0 14 (σ 10 (tn (σ 12 (3 * p + 1))))) 0 15 (σ 0 7)) 0 16 (σ 12 (3 * p))) 0 17 (σ 12 (3 * p + 2))) 0 18 e) 0 19 (σ 0 8)) = envV (ab σ) p := by
  subst he
  funext k
  match k with
  | 0 => rfl
  | 1 => rfl
  | 2 => rfl
  | 3 => rfl
  | 4 => rfl
  | 5 => rfl
  | k + 6 => simp [rho, envV]; omega
theorem say_eq {α : mS} {w : Int32} {p : Nat} {x : ((Nat → Int32) → Int32) × ((Nat → Int32) → Int32) × ((Nat → Int32) → Int32)} (hx : rdG (fun i => α 1 (160 * tn (α 0 4) + i)) (tn (α 2 (tn (α 0 4)))) = .inr x) : sayV α w p = cl (rd3 w x (envV α p)) 0 (if w = 1 then 99 else 100) := by unfold sayV txV; rw [hx]
/-- years leave all but the counts and the year -/
def onlyR (α β : mS) : Prop := ∀ k j, ¬ (k = 12 ∧ ∃ p, p < tn (α 0 13) ∧ j = 3 * p + 2) → ¬ (k = 0 ∧ j = 7) → β k j = α k j
theorem up_ne {σ : mS} {k j a c : Nat} {x : Int32} (h : ¬ (a = k ∧ c = j)) : up σ k j x a c = σ a c := by
  unfold up
  by_cases h1 : a = k
  · rw [if_pos h1, if_neg (fun h2 => h ⟨h1, h2⟩)]
  · rw [if_neg h1]
theorem up_eq {σ : mS} {k j : Nat} {x : Int32} : up σ k j x k j = x := by unfold up; rw [if_pos rfl, if_pos rfl]
theorem livN_r {α : mS} : ∀ n, n ≤ tn (α 0 13) → (∀ k j, ¬ (k = 12 ∧ ∃ p, p < n ∧ j = 3 * p + 2) → livN α n k j = α k j) := by
  intro n
  induction n with
  | zero => intro _ k j _; rfl
  | succ n ih =>
    intro hn k j h
    show liv1 (livN α n) n k j = _
    unfold liv1
    rw [up_ne (fun g => h ⟨g.1, n, by omega, g.2⟩)]
    exact ih (by omega) k j (fun ⟨g1, p, g2, g3⟩ => h ⟨g1, p, by omega, g3⟩)
theorem livS_r (α : mS) : onlyR α (livS α) := by
  intro k j h1 h2
  unfold livS
  rw [up_ne (fun g => h2 ⟨g.1, g.2⟩)]
  exact livN_r _ (Nat.le_refl _) k j h1
theorem onlyR.M {α β : mS} (h : onlyR α β) : β 0 13 = α 0 13 := h 0 13 (by omega) (by omega)
theorem onlyR.trans {α β γ : mS} (h : onlyR α β) (g : onlyR β γ) : onlyR α γ := fun k j h1 h2 => (g k j (by rw [h.M]; exact h1) h2).trans (h k j h1 h2)
theorem yrs_r (α : mS) : ∀ n, onlyR α (yrs α n) := by
  intro n
  induction n with
  | zero => intro k j _ _; rfl
  | succ n ih => exact ih.trans (livS_r _)
theorem cl_in (x : Int32) : 0 ≤ cl x 0 9999 ∧ cl x 0 9999 ≤ 9999 := by unfold cl; grind
theorem groF_in (k n s m y : Int32) : 0 ≤ groF k n s m y ∧ groF k n s m y ≤ 9999 := by
  unfold groF
  split
  · exact cl_in _
  · split
    · exact cl_in _
    · exact cl_in _
theorem wf_cnt {α : mS} (h : Wf α) {p : Nat} {x : Int32} (hx : 0 ≤ x ∧ x ≤ 9999) : Wf (up α 12 (3 * p + 2) x) := by
  obtain ⟨h1, h2, h3⟩ := h
  have e : ∀ k j, ¬ (k = 12 ∧ j = 3 * p + 2) → up α 12 (3 * p + 2) x k j = α k j := fun k j hk => up_ne hk
  refine ⟨?_, ?_, ?_⟩
  · unfold wfM
    rw [e 0 13 (by omega), e 0 3 (by omega), e 0 4 (by omega)]; exact h1
  · intro q hq
    rw [e 0 13 (by omega)] at hq
    rw [e 12 (3 * q + 1) (by omega)]
    refine ⟨(h2 q hq).1, ?_⟩
    by_cases c : q = p
    · subst c; rw [up_eq]; exact hx
    · rw [e 12 (3 * q + 2) (by omega)]; exact (h2 q hq).2
  · intro t ht
    rw [e 0 3 (by omega)] at ht
    have e1 : (fun i => up α 12 (3 * p + 2) x 1 (160 * t + i)) = fun i => α 1 (160 * t + i) := by funext i; exact e 1 _ (by omega)
    rw [e 2 t (by omega), e1]
    obtain ⟨g1, g2, g3⟩ := h3 t ht
    exact ⟨g1, fun i hi => by rw [e 1 _ (by omega)]; exact g2 i hi, g3⟩
theorem wf_yr {α : mS} (h : Wf α) {x : Int32} : Wf (up α 0 7 x) := by
  obtain ⟨h1, h2, h3⟩ := h
  exact ⟨h1, h2, h3⟩
theorem wf_livN {α : mS} (h : Wf α) : ∀ n, Wf (livN α n) := by
  intro n
  induction n with
  | zero => exact h
  | succ n ih => exact wf_cnt ih (groF_in _ _ _ _ _)
theorem wf_livS {α : mS} (h : Wf α) : Wf (livS α) := wf_yr (wf_livN h _)
theorem wf_yrs {α : mS} (h : Wf α) : ∀ n, Wf (yrs α n) := by
  intro n
  induction n with
  | zero => exact h
  | succ n ih => exact wf_livS ih
theorem wf_asd {α : mS} (h : Wf α) : Wf (asd α) := by
  obtain ⟨h1, h2, h3⟩ := h
  exact ⟨h1, h2, h3⟩
theorem bck_yrs {α : mS} (h : Wf α) (n : Nat) : bck (yrs (asd α) n) = asd α := by
  have hr := yrs_r (asd α) n
  have hM : tn (asd α 0 13) ≤ 8 := h.1.1.2
  funext k j
  unfold bck
  by_cases c : k = 12
  · subst c
    rw [if_pos rfl]
    by_cases d : j < 24
    · rw [if_pos d, hr 29 j (by omega) (by omega)]
      unfold asd; rw [if_pos rfl, if_pos d]; rfl
    · rw [if_neg d]
      exact hr 12 j (fun ⟨_, p, hp, hj⟩ => by omega) (by omega)
  · rw [if_neg c]
    by_cases d : k = 0 ∧ j = 7
    · rw [if_pos d, hr 0 30 (by omega) (by omega)]
      obtain ⟨rfl, rfl⟩ := d
      rfl
    · rw [if_neg d]
      exact hr k j (fun g => c g.1) d
