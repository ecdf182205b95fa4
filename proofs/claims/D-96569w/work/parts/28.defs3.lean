/-! THE PLAIN MEANING of what is asked of the reference: answers (..R) and new states (..S) -/
set_option maxRecDepth 100000
theorem pl_of {o x : Int32} {m : Nat} (hx : x = nI m) (hm : m ≤ 8) (h : 0 ≤ o ∧ o ≤ x - 1) : ∃ p, p < m ∧ o = nI p := by
  cases m with
  | zero => subst hx; exact absurd (show (0 : Int32) ≤ nI 0 - 1 by have := h.1; have := h.2; grind) (by decide)
  | succ m =>
    rw [hx, nI_pred] at h
    obtain ⟨p, hp, e⟩ := nI_of2 (M := nI m) (n := m) (nI_toInt (by omega)) (by have := h.1; grind) h.2
    exact ⟨p, by omega, e⟩
theorem in_of {o M : Int32} {n : Nat} (hM : M.toInt = n) (h : 0 ≤ o ∧ o ≤ M) : ∃ p, p ≤ n ∧ o = nI p := by
  obtain ⟨p, hp, e⟩ := nI_of2 (M := M) (n := n) hM (by have := h.1; grind) h.2
  exact ⟨p, hp, e⟩
theorem pl_iff {o x : Int32} {m p : Nat} (hx : x = nI m) (hm : m ≤ 8) (ho : o = nI p) (hp : p < m) : 0 ≤ o ∧ o ≤ x - 1 := by
  cases m with
  | zero => omega
  | succ m =>
    rw [hx, nI_pred, ho]
    exact ⟨nI_pos' (by omega), nI_le (by omega) (by omega)⟩
def layS (α : mS) (k p : Nat) (v : Int32) : mS := if k = 0 then up α 0 7 v else if k = 1 then up α 0 8 v else if k = 2 then up α 10 p v else if k < 6 then up α 12 (3 * p + k - 3) v else if k = 6 then up α 11 p v else up α 0 4 v
def comS (α : mS) (k n g c : Int32) : mS := up (up (up (up (up α 11 (tn (α 0 13)) k) 12 (3 * tn (α 0 13)) n) 12 (3 * tn (α 0 13) + 1) g) 12 (3 * tn (α 0 13) + 2) c) 0 13 (nI (tn (α 0 13) + 1))
abbrev isOfP (α : mS) (w o : Int32) : Prop := w < 2 ∨ (if w = 2 then (0 ≤ o ∧ o ≤ 7) else (0 ≤ o ∧ o ≤ α 0 13 - 1))
def tolV (α : mS) (o w : Int32) : Int32 := if ¬ (0 ≤ w ∧ w ≤ 10) ∨ ¬ isOfP α w o then -2 else if w = 0 then α 0 7 else if w = 1 then α 0 8 else if w = 2 then α 10 (tn o) else if w = 3 then α 12 (3 * tn o) else if w = 4 then α 12 (3 * tn o + 1) else if w = 5 then α 12 (3 * tn o + 2)
  else if w = 6 then α 11 (tn o) else if w = 7 then rotV α (tn o) else if w = 8 then groV α (tn o) (α 12 (3 * tn o + 2)) else if w = 9 then floV α (tn o) (α 12 (3 * tn o + 2)) else sayV α 2 (tn o)
abbrev setOK (α : mS) (w o v : Int32) : Prop := (0 ≤ w ∧ w ≤ 5) ∧ isOfP α w o ∧ (0 ≤ v ∧ v ≤ mostV w)
def setR (α : mS) (w o v : Int32) : Int32 := if setOK α w o v then tolV α o w else -2
def setS (α : mS) (w o v : Int32) : mS := if setOK α w o v then layS α (tn w) (tn o) v else α
abbrev plOK (k n g : Int32) : Prop := (0 ≤ k ∧ k ≤ 5) ∧ (0 ≤ n ∧ n ≤ 9) ∧ (0 ≤ g ∧ g ≤ 7)
def plaR (α : mS) (k n g : Int32) : Int32 := if ¬ plOK k n g then -2 else if α 0 13 = 8 then -4 else α 0 13
def plaS (α : mS) (k n g : Int32) : mS := if ¬ plOK k n g then α else if α 0 13 = 8 then α else comS α k n g 1
def feeR (α : mS) (x : Int32) : Int32 := if ¬ (0 ≤ x ∧ x ≤ 255) then -2 else if α 0 6 = 160 then -4 else α 0 6 + 1
def feeS (α : mS) (x : Int32) : mS := if ¬ (0 ≤ x ∧ x ≤ 255) then α else if α 0 6 = 160 then α else up (up α 5 (tn (α 0 6)) x) 0 6 (nI (tn (α 0 6) + 1))
def forR (α : mS) (x : Int32) : Int32 := if 0 ≤ x ∧ x ≤ α 0 3 - 1 then α 0 4 else -2
def forS (α : mS) (x : Int32) : mS := if 0 ≤ x ∧ x ≤ α 0 3 - 1 then up α 0 4 x else α
abbrev digOK (α : mS) (p g n : Int32) : Prop := (0 ≤ p ∧ p ≤ α 0 13 - 1) ∧ (0 ≤ g ∧ g ≤ 7) ∧ (1 ≤ n ∧ n ≤ 9999)
def digR (α : mS) (p g n : Int32) : Int32 := if ¬ digOK α p g n then -2 else if α 12 (3 * tn p + 2) < n then -3 else if α 0 13 = 8 then -4 else α 0 13
def digS (α : mS) (p g n : Int32) : mS := if ¬ digOK α p g n then α else if α 12 (3 * tn p + 2) < n then α else if α 0 13 = 8 then α else comS (up α 12 (3 * tn p + 2) (α 12 (3 * tn p + 2) - n)) (α 11 (tn p)) (α 12 (3 * tn p)) g n
def selR (α : mS) (p : Int32) : Int32 := if 0 ≤ p ∧ p ≤ α 0 13 - 1 then worV α (tn p) else -2
def selS (α : mS) (p : Int32) : mS := if 0 ≤ p ∧ p ≤ α 0 13 - 1 then up α 0 9 (cl (α 0 9 + worV α (tn p)) 0 999999999) else α
def yeaR (α : mS) : Int32 := if α 0 7 = 99 then -3 else allV (livS α)
def yeaS (α : mS) : mS := if α 0 7 = 99 then α else livS α
def lefN (α : mS) : Nat → Int32
  | 0 => 0
  | k + 1 => lefN α k + (if α 12 (3 * k + 2) ≤ 0 then 0 else 1)
def telV (α : mS) (k : Nat) : Int32 := if k < 4 then (if k = 0 then allV α else if k = 1 then bloV α else if k = 2 then lefN α (tn (α 0 13)) else heiN α (tn (α 0 13))) else if k < 20 then α 12 (3 * (k % 10) + 2) else floV α (k % 10) (α 12 (3 * (k % 10) + 2))
abbrev runOK (α : mS) (n w : Int32) : Prop := (0 ≤ n ∧ n ≤ 30) ∧ ((0 ≤ w ∧ w ≤ 3) ∨ ((10 ≤ w ∧ w ≤ 29) ∧ (0 ≤ w - w / 10 * 10 ∧ w - w / 10 * 10 ≤ α 0 13 - 1)))
def runR (α : mS) (n w : Int32) : Int32 := if runOK α n w then telV (yrs α (tn n)) (tn w) else -2
/-- the first year of so many behind which there are k blooms -/
def firN (α : mS) (k : Int32) : Nat → Int32
  | 0 => -1
  | t + 1 => if firN α k t = -1 then (if bloV (yrs α (t + 1)) < k then -1 else nI t) else firN α k t
def firR (α : mS) (n k : Int32) : Int32 := if (0 ≤ n ∧ n ≤ 30) ∧ (0 ≤ k ∧ k ≤ 99999) then firN α k (tn n) else -2
def hidN (α : mS) (p : Nat) : Nat → Nat
  | 0 => 1
  | n + 1 => hidN α p n * tn (100 - sayV (yrs α n) 2 p)
def hidV (α : mS) (p : Nat) : Nat → Int64
  | 0 => 1
  | n + 1 => hidV α p n * (100 - sayV (yrs α n) 2 p).toInt64
abbrev fouOK (α : mS) (p n k : Int32) : Prop := (0 ≤ p ∧ p ≤ α 0 13 - 1) ∧ (0 ≤ n ∧ n ≤ 8) ∧ (0 ≤ k ∧ k ≤ 1)
def low (a c : Nat) (k : Int32) : Int64 := lN ((if k = 0 then a else c) / Nat.gcd a c)
def fouR (α : mS) (p n k : Int32) : Int64 := if fouOK α p n k then low (hidN α (tn p) (tn n)) (100 ^ tn n) k else -4611686018427387904
def mbV (α : mS) (p n : Nat) : Int32 := yrs α n 12 (3 * p + 2)
theorem plt8 {x : Int32} {m : Nat} (hx : x = nI m) (hm : m ≤ 8) (h : ¬ x = 8) : m < 8 := by
  rcases Nat.lt_or_ge m 8 with g | g
  · exact g
  · exact absurd (by rw [hx, show m = 8 by omega]; rfl) h
theorem com_ab {σ : mS} {k n g c : Int32} : ab (comS σ k n g c) = comS (ab σ) k n g c := by
  unfold comS
  rw [ab_u rfl, ab_u rfl, ab_u rfl, ab_u rfl, ab_u rfl]
  rfl
theorem lay_ab {σ : mS} {k p : Nat} {x : Int32} : ab (layS σ k p x) = layS (ab σ) k p x := by
  unfold layS
  repeat' split
  all_goals exact ab_u rfl
theorem tol_2 {α : mS} {w o : Int32} (h : isOfP α w o) (h0 : ¬ w = 0) (h1 : ¬ w = 1) (h3 : ¬ 3 ≤ w) (hi : 0 ≤ w ∧ w ≤ 10) : 0 ≤ o ∧ o ≤ 7 := by
  have hw : w = 2 := by grind
  subst hw
  rcases h with h | h
  · exact absurd h (by decide)
  · simpa using h
theorem tol_3 {α : mS} {w o : Int32} (h : isOfP α w o) (h3 : 3 ≤ w) : 0 ≤ o ∧ o ≤ α 0 13 - 1 := by
  rcases h with h | h
  · exact absurd h (by grind)
  · rw [if_neg (by grind)] at h; exact h
theorem tol_k {w : Int32} (h : 3 ≤ w) (h6 : ¬ 6 ≤ w) : ∃ k, (3 ≤ k ∧ k ≤ 5) ∧ w = nI k := by
  rcases (show w = 3 ∨ w = 4 ∨ w = 5 by grind) with rfl | rfl | rfl
  · exact ⟨3, by omega, rfl⟩
  · exact ⟨4, by omega, rfl⟩
  · exact ⟨5, by omega, rfl⟩
-- TOL
theorem tolV_b1 {α : mS} {o w : Int32} (h : ¬ (0 ≤ w ∧ w ≤ 10)) : tolV α o w = -2 := by unfold tolV; rw [if_pos (Or.inl h)]
theorem tolV_b2 {α : mS} {o w : Int32} (h : ¬ isOfP α w o) : tolV α o w = -2 := by unfold tolV; rw [if_pos (Or.inr h)]
theorem tolV_0 {α : mS} {o w : Int32} (hw : w = 0) (h : isOfP α w o) : tolV α o w = α 0 7 := by subst hw; unfold tolV; rw [if_neg (fun g => g.elim (fun g => g (by decide)) (fun g => g h)), if_pos rfl]
theorem tolV_1 {α : mS} {o w : Int32} (hw : w = 1) (h : isOfP α w o) : tolV α o w = α 0 8 := by subst hw; unfold tolV; rw [if_neg (fun g => g.elim (fun g => g (by decide)) (fun g => g h)), if_neg (by decide), if_pos rfl]
theorem tolV_2 {α : mS} {o w : Int32} (hw : w = 2) (h : isOfP α w o) : tolV α o w = α 10 (tn o) := by subst hw; unfold tolV; rw [if_neg (fun g => g.elim (fun g => g (by decide)) (fun g => g h)), if_neg (by decide), if_neg (by decide), if_pos rfl]
theorem tolV_3 {α : mS} {o w : Int32} (hw : w = 3) (h : isOfP α w o) : tolV α o w = α 12 (3 * tn o) := by subst hw; unfold tolV; rw [if_neg (fun g => g.elim (fun g => g (by decide)) (fun g => g h)), if_neg (by decide), if_neg (by decide), if_neg (by decide), if_pos rfl]
theorem tolV_4 {α : mS} {o w : Int32} (hw : w = 4) (h : isOfP α w o) : tolV α o w = α 12 (3 * tn o + 1) := by subst hw; unfold tolV; rw [if_neg (fun g => g.elim (fun g => g (by decide)) (fun g => g h)), if_neg (by decide), if_neg (by decide), if_neg (by decide), if_neg (by decide), if_pos rfl]
theorem tolV_5 {α : mS} {o w : Int32} (hw : w = 5) (h : isOfP α w o) : tolV α o w = α 12 (3 * tn o + 2) := by subst hw; unfold tolV; rw [if_neg (fun g => g.elim (fun g => g (by decide)) (fun g => g h)), if_neg (by decide), if_neg (by decide), if_neg (by decide), if_neg (by decide), if_neg (by decide), if_pos rfl]
theorem tolV_6 {α : mS} {o w : Int32} (hw : w = 6) (h : isOfP α w o) : tolV α o w = α 11 (tn o) := by subst hw; unfold tolV; rw [if_neg (fun g => g.elim (fun g => g (by decide)) (fun g => g h)), if_neg (by decide), if_neg (by decide), if_neg (by decide), if_neg (by decide), if_neg (by decide), if_neg (by decide), if_pos rfl]
theorem tolV_7 {α : mS} {o w : Int32} (hw : w = 7) (h : isOfP α w o) : tolV α o w = rotV α (tn o) := by subst hw; unfold tolV; rw [if_neg (fun g => g.elim (fun g => g (by decide)) (fun g => g h)), if_neg (by decide), if_neg (by decide), if_neg (by decide), if_neg (by decide), if_neg (by decide), if_neg (by decide), if_neg (by decide), if_pos rfl]
theorem tolV_8 {α : mS} {o w : Int32} (hw : w = 8) (h : isOfP α w o) : tolV α o w = groV α (tn o) (α 12 (3 * tn o + 2)) := by subst hw; unfold tolV; rw [if_neg (fun g => g.elim (fun g => g (by decide)) (fun g => g h)), if_neg (by decide), if_neg (by decide), if_neg (by decide), if_neg (by decide), if_neg (by decide), if_neg (by decide), if_neg (by decide), if_neg (by decide), if_pos rfl]
theorem tolV_9 {α : mS} {o w : Int32} (hw : w = 9) (h : isOfP α w o) : tolV α o w = floV α (tn o) (α 12 (3 * tn o + 2)) := by subst hw; unfold tolV; rw [if_neg (fun g => g.elim (fun g => g (by decide)) (fun g => g h)), if_neg (by decide), if_neg (by decide), if_neg (by decide), if_neg (by decide), if_neg (by decide), if_neg (by decide), if_neg (by decide), if_neg (by decide), if_neg (by decide), if_pos rfl]
theorem tolV_10 {α : mS} {o w : Int32} (hw : w = 10) (h : isOfP α w o) : tolV α o w = sayV α 2 (tn o) := by subst hw; unfold tolV; rw [if_neg (fun g => g.elim (fun g => g (by decide)) (fun g => g h)), if_neg (by decide), if_neg (by decide), if_neg (by decide), if_neg (by decide), if_neg (by decide), if_neg (by decide), if_neg (by decide), if_neg (by decide), if_neg (by decide), if_neg (by decide)]
theorem tolV_k {α : mS} {o w : Int32} {k p : Nat} (hk : 3 ≤ k ∧ k ≤ 5) (hw : w = nI k) (ho : tn o = p) (h : isOfP α w o) : tolV α o w = α 12 (3 * p + k - 3) := by
  rcases (show k = 3 ∨ k = 4 ∨ k = 5 by omega) with rfl | rfl | rfl
  · rw [tolV_3 hw h, ho]; rfl
  · rw [tolV_4 hw h, ho]; rfl
  · rw [tolV_5 hw h, ho]; rfl
-- M7
theorem of_p {σ : mS} {w o : Int32} {k : Nat} (hM : σ 0 13 = nI (tn (σ 0 13))) (hM8 : tn (σ 0 13) ≤ 8) (h : isOfP (ab σ) w o) (hw : w = nI k) (hk : k ≤ 5) : 2 ≤ k → k < 7 → o = nI (tn o) ∧ tn o < 8 := by
  intro h2 _
  have key : ∃ p, p < 8 ∧ o = nI p := by
    rcases h with h | h
    · rw [hw] at h
      have := (nI_ltI (a := k) (b := 2) (by omega) (by decide)).mp h
      omega
    · by_cases c : w = 2
      · rw [if_pos c] at h
        obtain ⟨p, hp, e⟩ := in_of (M := 7) (n := 7) (by decide) h
        exact ⟨p, by omega, e⟩
      · rw [if_neg c] at h
        obtain ⟨p, hp, e⟩ := pl_of hM hM8 h
        exact ⟨p, by omega, e⟩
  obtain ⟨p, hp, e⟩ := key
  have : tn o = p := by rw [e, tn_nI (by omega)]
  rw [this]; exact ⟨e, hp⟩
theorem yrs_13 {α : mS} {n : Nat} : yrs α n 0 13 = α 0 13 := (yrs_r α n).M
theorem s13 {σ s : mS} {n : Nat} (hs : ab s = yrs (asd (ab σ)) n) : s 0 13 = σ 0 13 := by
  rw [← ab_rd (σ := s) 0 13 rfl, hs, yrs_13]; rfl
theorem firN_m {α : mS} {k : Int32} {j : Nat} (h : ¬ firN α k j = -1) : ∀ n, firN α k (j + n) = firN α k j := by
  intro n
  induction n with
  | zero => rfl
  | succ n ih =>
    have e : firN α k (j + (n + 1)) = (if firN α k (j + n) = -1 then (if bloV (yrs α (j + n + 1)) < k then -1 else nI (j + n)) else firN α k (j + n)) := rfl
    rw [e, ih, if_neg h]
theorem firN_s {α : mS} {k x : Int32} {j : Nat} (hx : x = firN α k j) (h : x = -1) (c : bloV (yrs α (j + 1)) < k) : -1 = firN α k (j + 1) := by
  show _ = (if firN α k j = -1 then (if _ then _ else _) else _)
  rw [← hx, if_pos h, if_pos c]
theorem firN_f {α : mS} {k x : Int32} {j : Nat} (hx : x = firN α k j) (h : x = -1) (c : ¬ bloV (yrs α (j + 1)) < k) : nI j = firN α k (j + 1) := by
  show _ = (if firN α k j = -1 then (if _ then _ else _) else _)
  rw [← hx, if_pos h, if_neg c]
theorem firN_e {α : mS} {k x : Int32} {j m : Nat} (hx : x = firN α k j) (hj : j ≤ m) (h : m ≤ j ∨ ¬ x = -1) : x = firN α k m := by
  rcases h with h | h
  · rw [show m = j by omega]; exact hx
  · have := firN_m (hx ▸ h) (m - j)
    rw [show j + (m - j) = m by omega] at this
    rw [this]; exact hx
theorem rem_nI {k : Nat} (h : k ≤ 29) : nI k - nI k / 10 * 10 = nI (k % 10) := pk_rem (d := 10) (by omega) (by decide) (by decide)
theorem setS_ok {α : mS} {w o v : Int32} (h : setOK α w o v) : setS α w o v = layS α (tn w) (tn o) v := if_pos h
theorem setS_no {α : mS} {w o v : Int32} (h : ¬ setOK α w o v) : setS α w o v = α := if_neg h
theorem setR_ok {α : mS} {w o v : Int32} (h : setOK α w o v) : setR α w o v = tolV α o w := if_pos h
theorem setR_no {α : mS} {w o v : Int32} (h : ¬ setOK α w o v) : setR α w o v = -2 := if_neg h
theorem e160 {x : Int32} (h : x = nI (tn x)) (c : tn x = 160) : x = 160 := by rw [h, c]; rfl
theorem n160 {x : Int32} (c : ¬ tn x = 160) : ¬ x = 160 := fun e => c (by rw [e]; decide)
