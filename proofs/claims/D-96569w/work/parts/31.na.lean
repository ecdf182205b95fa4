/-! What was laid aside doesn't count: na, nb -/
set_option maxRecDepth 100000
def asi (k j : Nat) : Bool := decide (k = 29) || (decide (k = 0) && decide (j = 30))
def na (α : mS) : mS := fun k j => if asi k j = true then 0 else α k j
def nb (σ : mS) : mS := na (ab σ)
theorem na_rd {α : mS} (k j : Nat) (h : asi k j = false) : na α k j = α k j := by unfold na; rw [h]; rfl
theorem na_eq {α β : mS} (h : na α = na β) (k j : Nat) (hs : asi k j = false) : α k j = β k j := by rw [← na_rd (α := α) k j hs, h, na_rd k j hs]
theorem na_up {α : mS} {k j : Nat} {x : Int32} (h : asi k j = false) : na (up α k j x) = up (na α) k j x := by
  funext a c
  unfold na up
  by_cases h1 : a = k
  · by_cases h2 : c = j
    · subst h1; subst h2; rw [h]; simp
    · simp [h1, h2]
  · simp [h1]
theorem na_asd {α : mS} : na (asd α) = na α := by
  funext k j
  unfold na asd
  by_cases h : asi k j = true
  · rw [if_pos h, if_pos h]
  · rw [if_neg h, if_neg h]
    have h1 : ¬ k = 29 := fun e => h (by unfold asi; simp [e])
    have h2 : ¬ (k = 0 ∧ j = 30) := fun e => h (by unfold asi; simp [e.1, e.2])
    rw [if_neg h1, if_neg h2]
theorem nb_rd {σ u : mS} (h : nb u = nb σ) (k j : Nat) (h1 : asi k j = false) (h2 : scr k j = false) : u k j = σ k j := by
  have e := congrFun (congrFun h k) j
  unfold nb at e
  rw [na_rd k j h1, na_rd k j h1, ab_rd k j h2, ab_rd k j h2] at e
  exact e
theorem nb_of {σ u : mS} (h : ab u = ab σ) : nb u = nb σ := by unfold nb; rw [h]
theorem nb_u {σ u : mS} (h : nb u = nb σ) {k j : Nat} {x : Int32} (h1 : asi k j = false) (h2 : scr k j = false) : nb (up u k j x) = nb (up σ k j x) := by
  unfold nb at h ⊢
  rw [ab_u h2, ab_u h2, na_up h1, na_up h1, h]
theorem say_na {α : mS} {w : Int32} {p : Nat} : sayV (na α) w p = sayV α w p := rfl
theorem rot_na {α : mS} {p : Nat} : rotV (na α) p = rotV α p := rfl
theorem gro_na {α : mS} {p : Nat} {n : Int32} : groV (na α) p n = groV α p n := rfl
theorem flo_na {α : mS} {p : Nat} {n : Int32} : floV (na α) p n = floV α p n := rfl
theorem wor_na {α : mS} {p : Nat} : worV (na α) p = worV α p := rfl
theorem liv1_na {α : mS} {p : Nat} : na (liv1 α p) = liv1 (na α) p := by unfold liv1; rw [na_up rfl]; rfl
theorem livN_na {α : mS} : ∀ n, na (livN α n) = livN (na α) n := by
  intro n
  induction n with
  | zero => rfl
  | succ n ih => show na (liv1 (livN α n) n) = liv1 (livN (na α) n) n; rw [liv1_na, ih]
theorem livS_na {α : mS} : na (livS α) = livS (na α) := by
  unfold livS
  rw [na_up rfl, livN_na]
  show up (livN (na α) (tn (α 0 13))) 0 7 (na (livN α (tn (α 0 13))) 0 7 + 1) = _
  rw [livN_na]; rfl
theorem yrs_na {α : mS} : ∀ n, na (yrs α n) = yrs (na α) n := by
  intro n
  induction n with
  | zero => rfl
  | succ n ih => show na (livS (yrs α n)) = livS (yrs (na α) n); rw [livS_na, ih]
theorem wf_na {α : mS} : Wf (na α) ↔ Wf α := Iff.rfl
/-- two states that agree but for what was laid aside, some years later -/
theorem yrs_eq {α β : mS} (h : na α = na β) (n : Nat) : na (yrs α n) = na (yrs β n) := by rw [yrs_na, yrs_na, h]
theorem yrs_rd {α β : mS} (h : na α = na β) (n k j : Nat) (hs : asi k j = false) : yrs α n k j = yrs β n k j := by
  exact na_eq (yrs_eq h n) k j hs
theorem say_eq2 {α β : mS} (h : na α = na β) (w : Int32) (p : Nat) : sayV α w p = sayV β w p := by rw [← say_na (α := α), h, say_na]
theorem wor_eq2 {α β : mS} (h : na α = na β) (p : Nat) : worV α p = worV β p := by rw [← wor_na (α := α), h, wor_na]
theorem all_na {α : mS} : allV (na α) = allV α := rfl
theorem blo_na {α : mS} : bloV (na α) = bloV α := rfl
theorem wrt_na {α : mS} : wrtV (na α) = wrtV α := rfl
theorem lef_na {α : mS} : ∀ n, lefN (na α) n = lefN α n := by
  intro n
  induction n with
  | zero => rfl
  | succ n ih => show lefN (na α) n + _ = lefN α n + _; rw [ih]; rfl
theorem hei_na {α : mS} : ∀ n, heiN (na α) n = heiN α n := by
  intro n
  induction n with
  | zero => rfl
  | succ n ih =>
    show (if heiN (na α) n = -1 ∨ α 12 (3 * tn (heiN (na α) n) + 2) < α 12 (3 * n + 2) then nI n else heiN (na α) n) = (if heiN α n = -1 ∨ α 12 (3 * tn (heiN α n) + 2) < α 12 (3 * n + 2) then nI n else heiN α n)
    rw [ih]
theorem tel_na {α : mS} {k : Nat} : telV (na α) k = telV α k := by
  show (if k < 4 then (if k = 0 then allV α else if k = 1 then bloV α else if k = 2 then lefN (na α) (tn (α 0 13)) else heiN (na α) (tn (α 0 13))) else _) = _
  rw [lef_na, hei_na]; rfl
theorem tel_eq2 {α β : mS} (h : na α = na β) (k : Nat) : telV α k = telV β k := by rw [← tel_na (α := α), h, tel_na]
theorem all_eq2 {α β : mS} (h : na α = na β) : allV α = allV β := by rw [← all_na (α := α), h, all_na]
theorem blo_eq2 {α β : mS} (h : na α = na β) : bloV α = bloV β := by rw [← blo_na (α := α), h, blo_na]
theorem wrt_eq2 {α β : mS} (h : na α = na β) : wrtV α = wrtV β := by rw [← wrt_na (α := α), h, wrt_na]
theorem fir_eq2 {α β : mS} (h : na α = na β) (k : Int32) : ∀ n, firN α k n = firN β k n := by
  intro n
  induction n with
  | zero => rfl
  | succ n ih =>
    show (if firN α k n = -1 then (if bloV (yrs α (n + 1)) < k then -1 else nI n) else firN α k n) = (if firN β k n = -1 then (if bloV (yrs β (n + 1)) < k then -1 else nI n) else firN β k n)
    rw [ih, blo_eq2 (yrs_eq h (n + 1))]
theorem hid_eq2 {α β : mS} (h : na α = na β) (p : Nat) : ∀ n, hidV α p n = hidV β p n := by
  intro n
  induction n with
  | zero => rfl
  | succ n ih =>
    show hidV α p n * _ = hidV β p n * _
    rw [ih, say_eq2 (yrs_eq h n)]
theorem mb_eq2 {α β : mS} (h : na α = na β) (p n : Nat) : mbV α p n = mbV β p n := yrs_rd h n 12 _ rfl
/-- behind the years all is laid back -/
theorem nb_back {σ u s : mS} {n : Nat} (hw : Wf (ab σ)) (hs : ab s = yrs (asd (ab σ)) n) (hu : ab u = bck (ab s)) : nb u = nb σ := by
  unfold nb
  rw [hu, hs, bck_yrs hw, na_asd]
theorem nas {σ : mS} : na (asd (ab σ)) = na (ab σ) := na_asd
/-- answers -/
def soiN (α : mS) (p n : Nat) : Nat → Int32 × Int32
  | 0 => (-1, -1)
  | g + 1 => if (soiN α p n g).2 < mbV (up α 12 (3 * p + 1) (nI g)) p n then (nI g, mbV (up α 12 (3 * p + 1) (nI g)) p n) else soiN α p n g
abbrev soiOK (α : mS) (o n k : Int32) : Prop := (0 ≤ o ∧ o ≤ α 0 13 - 1) ∧ (0 ≤ n ∧ n ≤ 30) ∧ (0 ≤ k ∧ k ≤ 1)
def soiR (α : mS) (o n k : Int32) : Int32 := if soiOK α o n k then (if k = 0 then (soiN α (tn o) (tn n) 8).1 else (soiN α (tn o) (tn n) 8).2) else -2
/-- a planting more, as it is tried -/
def sowA (α : mS) (k : Nat) (g : Nat) : mS := comS α (nI (k / 10)) (nI (k % 10)) (nI g) 1
def sowN (α : mS) (k n : Nat) : Nat → Int32
  | 0 => 0
  | g + 1 => sowN α k n g ||| ((if mbV (sowA α k g) (tn (α 0 13)) n ≤ 0 then 0 else 1) <<< (nI g &&& 31))
def sowR (α : mS) (k n : Int32) : Int32 := if ¬ ((0 ≤ k ∧ k ≤ 59) ∧ (0 ≤ n ∧ n ≤ 30)) then -2 else if α 0 13 = 8 then -4 else sowN α (tn k) (tn n) 8
def sowS (α : mS) (k n : Int32) : mS := if ¬ ((0 ≤ k ∧ k ≤ 59) ∧ (0 ≤ n ∧ n ≤ 30)) then α else if α 0 13 = 8 then α else up (sowA α (tn k) 7) 0 13 (α 0 13)
def safN (α : mS) (n : Nat) : Nat → Int32 × Int64
  | 0 => (-1, -1)
  | p + 1 => if (safN α n p).2 < hidV α p n then (nI p, hidV α p n) else safN α n p
def safR (α : mS) (n : Int32) : Int32 := if 0 ≤ n ∧ n ≤ 8 then (safN α (tn n) (tn (α 0 13))).1 else -2
def wheN (α : mS) : Nat → Int32 × Int32
  | 0 => (0, wrtV α)
  | t + 1 => if (wheN α t).2 < wrtV (yrs α (t + 1)) then (nI (t + 1), wrtV (yrs α (t + 1))) else wheN α t
def wheR (α : mS) (n k : Int32) : Int32 := if (0 ≤ n ∧ n ≤ 30) ∧ (0 ≤ k ∧ k ≤ 1) then (if k = 0 then (wheN α (tn n)).1 else (wheN α (tn n)).2) else -2
/-- the least of 1 .. m that is enough -/
def enoN (α : mS) (p n : Nat) (k : Int32) : Nat → Int32
  | 0 => -1
  | m + 1 => if enoN α p n k m = -1 then (if mbV (up α 12 (3 * p + 2) (nI (m + 1))) p n < k then -1 else nI (m + 1)) else enoN α p n k m
abbrev enoOK (α : mS) (o n k : Int32) : Prop := (0 ≤ o ∧ o ≤ α 0 13 - 1) ∧ (0 ≤ n ∧ n ≤ 30) ∧ (1 ≤ k ∧ k ≤ 9999)
def enoR (α : mS) (o n k : Int32) : Int32 := if enoOK α o n k then enoN α (tn o) (tn n) k 99 else -2
/-- the first year of so many whose count isn't the one told -/
def othN (α : mS) (s p : Nat) : Nat → Int32
  | 0 => -1
  | t + 1 => if othN α s p t = -1 then (if yrs α (t + 1) 12 (3 * p + 2) = α 41 (40 * s + t) then -1 else nI t) else othN α s p t
def othV (α : mS) (s p : Nat) : Int32 := othN α s p (tn (α 40 s))
theorem oth_eq2 {α β : mS} (h : na α = na β) (s p : Nat) : ∀ n, othN α s p n = othN β s p n := by
  intro n
  induction n with
  | zero => rfl
  | succ n ih =>
    show (if othN α s p n = -1 then (if yrs α (n + 1) 12 (3 * p + 2) = α 41 (40 * s + n) then -1 else nI n) else othN α s p n) = (if othN β s p n = -1 then (if yrs β (n + 1) 12 (3 * p + 2) = β 41 (40 * s + n) then -1 else nI n) else othN β s p n)
    have e : α 41 (40 * s + n) = β 41 (40 * s + n) := na_eq h 41 _ rfl
    rw [ih, yrs_rd h (n + 1) 12 _ rfl, e]
theorem othV_eq2 {α β : mS} (h : na α = na β) (s p : Nat) : othV α s p = othV β s p := by
  have e : α 40 s = β 40 s := na_eq h 40 s rfl
  unfold othV; rw [e, oth_eq2 h]
-- M8
theorem mb_end {σ s : mS} {p n j : Nat} (hs : ab s = yrs (asd (ab σ)) j) (h1 : n ≤ j) (h2 : j ≤ n) : s 12 (3 * p + 2) = mbV (ab σ) p n := by
  have e : j = n := by omega
  subst e
  rw [← ab_rd (σ := s) 12 (3 * p + 2) rfl, hs]
  exact yrs_rd nas j 12 _ rfl
theorem in_of2 {o : Int32} (h : 10 ≤ o ∧ o ≤ 29) : ∃ k, (10 ≤ k ∧ k ≤ 29) ∧ o = nI k := by
  obtain ⟨k, hk, e⟩ := in_of (M := 29) (n := 29) (by decide) ⟨by have := h.1; grind, h.2⟩
  refine ⟨k, ⟨?_, hk⟩, e⟩
  have h1 := h.1
  rw [e] at h1
  exact (nI_leI (a := 10) (b := k) (by decide) (by omega)).mp h1
theorem run_k {x w : Int32} {k m : Nat} (hM : x = nI m) (hm : m ≤ 8) (hw : w = nI k) (hk : 10 ≤ k ∧ k ≤ 29) (h : 0 ≤ w - w / 10 * 10 ∧ w - w / 10 * 10 ≤ x - 1) : k % 10 < m := by
  rw [hw, rem_nI hk.2] at h
  obtain ⟨p, hp, e⟩ := pl_of hM hm h
  have := (nI_eq (a := k % 10) (b := p) (by omega) (by omega)).mp e
  omega
theorem run_end {σ s : mS} {n w : Int32} {m k j : Nat} (hs : ab s = yrs (asd (ab σ)) j) (h1 : m ≤ j) (h2 : j ≤ m) (hn : tn n = m) (hw : tn w = k) (ok : runOK (ab σ) n w) : telV (ab s) k = runR (ab σ) n w := by
  have e : j = m := by omega
  subst e
  unfold runR
  rw [if_pos ok, hn, hw, hs]
  exact tel_eq2 (yrs_eq nas j) k
theorem soi_wf {σ s : mS} {p g : Nat} {x : Int32} (h : nb (up s 12 (3 * p + 1) x) = nb (up σ 12 (3 * p + 1) x)) (hw : Wf (ab σ)) (hp : p < tn (σ 0 13)) (hx : x = nI g) (hg : g < 8) : Wf (ab (up s 12 (3 * p + 1) x)) := by
  refine wf_na.mp ?_
  show Wf (nb (up s 12 (3 * p + 1) x))
  rw [h]
  show Wf (na (ab (up σ 12 (3 * p + 1) x)))
  refine wf_na.mpr ?_
  rw [ab_u rfl]
  obtain ⟨h1, h2, h3⟩ := hw
  have e : ∀ k j, ¬ (k = 12 ∧ j = 3 * p + 1) → up (ab σ) 12 (3 * p + 1) x k j = ab σ k j := fun k j hk => up_ne hk
  refine ⟨?_, ?_, ?_⟩
  · unfold wfM
    rw [e 0 13 (by omega), e 0 3 (by omega), e 0 4 (by omega)]; exact h1
  · intro q hq
    rw [e 0 13 (by omega)] at hq
    rw [e 12 (3 * q + 2) (by omega)]
    refine ⟨?_, (h2 q hq).2⟩
    by_cases c : q = p
    · subst c; rw [up_eq, hx]; exact okN_of (by omega) (by decide)
    · rw [e 12 (3 * q + 1) (by omega)]; exact (h2 q hq).1
  · intro t ht
    rw [e 0 3 (by omega)] at ht
    have e1 : (fun i => up (ab σ) 12 (3 * p + 1) x 1 (160 * t + i)) = fun i => ab σ 1 (160 * t + i) := by funext i; exact e 1 _ (by omega)
    rw [e 2 t (by omega), e1]
    obtain ⟨g1, g2, g3⟩ := h3 t ht
    exact ⟨g1, fun i hi => by rw [e 1 _ (by omega)]; exact g2 i hi, g3⟩
theorem up_up {σ : mS} {k j : Nat} {x y : Int32} : up (up σ k j x) k j y = up σ k j y := by
  funext a c
  unfold up
  by_cases h1 : a = k
  · by_cases h2 : c = j
    · simp [h1, h2]
    · simp [h1, h2]
  · simp [h1]
theorem up_self {σ : mS} {k j : Nat} {x : Int32} (h : σ k j = x) : up σ k j x = σ := by
  funext a c
  unfold up
  by_cases h1 : a = k
  · by_cases h2 : c = j
    · subst h1; subst h2; simp [h]
    · simp [h1, h2]
  · simp [h1]
