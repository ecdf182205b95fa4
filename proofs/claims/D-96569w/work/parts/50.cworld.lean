/-! THE COMPONENT's WORLD (see NOTES.md: numbers n, addresses δ, nodes ν) -/
set_option maxRecDepth 100000
abbrev Mg : Type := (Nat → Int32) → Int32
abbrev cS : Type := mS × (Nat → Nat) × (Nat → Option (Mg × Nat))
abbrev rfs (f : Nat → Option Nat) : (Nat → Int32) ⊕ (Nat → Int64) ⊕ (Nat → UInt32) ⊕ (Nat → UInt64) ⊕ (Nat → Option Nat) := .inr (.inr (.inr (.inr f)))
abbrev kT (K : Nat → ClassId) : List (ClassId × FieldType) := [(K 0, .int), (K 1, .boolean), (K 2, .byte), (K 3, .short), (K 4, .object RX9), (K 5, .object RX3), (K 6, .array (.object RX3)), (K 7, .object "java/lang/String"), (K 8, .array .int), (K 9, .object RX2)]
def rb (N : Nat) (f : Nat → Nat) : Nat → Option Nat := fun i => if i < N then some (f i) else none
theorem rb_at {N i : Nat} {f : Nat → Nat} (h : i < N) : rb N f i = some (f i) := if_pos h
def cF (n : mS) (δ : Nat → Nat) : List Value := [.ref (δ 1), .int (n 0 13), .int (n 0 7), .int (n 0 8), .int (n 0 9), .ref (δ 5), .ref (δ 6), .int (n 0 50), .ref (δ 8), .int (n 0 3), .ref (δ 10), .ref (δ 11), .ref (δ 12), .int (n 0 6), .int (n 0 51), .int (n 0 52), .int (n 0 53), .int (n 0 54), .int (n 0 55), .int (n 0 56), .int (n 0 4), .ref (δ 21), .ref (δ 22), .ref (δ 23), .ref (δ 24), .ref (δ 25), .int (n 0 57), .ref (δ 27), .ref (δ 28), .ref (δ 29), .ref (δ 30)]
def shK (K : Nat → ClassId) (s : Int32) : ClassId := if s = 0 then K 2 else if s = 1 then K 3 else K 0
/-- the cells by their codes: those that always are -/
def cE0 (K : Nat → ClassId) (fv : List Value × (Nat → Nat)) (n : mS) (δ : Nat → Nat) (k : Nat) : Option va_E :=
  if k = 0 then some (.inr (0, cF n δ)) else if k = 1 then some (.inl (K 4, 8, rfs (fun p => if p < 8 ∧ n 56 p ≠ 0 then some (δ (200 + p)) else none)))
  else if k = 5 then some (.inl (K 0, 8, .inl (n 10))) else if k = 6 then some (.inr (13, fv.1)) else if k = 8 then some (.inl (K 6, 6, rfs (fun t => if t < 6 ∧ t < tn (n 0 3) + tn (n 0 61) then some (δ (220 + t)) else none)))
  else if k = 10 then some (.inl (K 7, 6, rfs (fun i => some (fv.2 i)))) else if k = 11 then some (.inl (K 7, 6, rfs (fun i => some (fv.2 (6 + i))))) else if k = 12 then some (.inl (K 2, 160, .inl (fun j => (n 5 j).toInt8.toInt32)))
  else if k = 21 then some (.inl (K 0, 8, .inl (n 50))) else if k = 22 then some (.inl (K 8, 31, rfs (rb 31 (fun t => δ (100 + t))))) else if k = 23 then some (.inl (K 0, 31, .inl (n 51))) else if k = 24 then some (.inl (K 0, 31, .inl (n 52)))
  else if k = 25 then some (.inl (K 0, 8, .inl (n 53))) else if k = 27 then some (.inl (K 0, 8, .inl (n 31))) else if k = 28 then some (.inl (K 8, 3, rfs (rb 3 (fun w => δ (140 + w))))) else if k = 29 then some (.inl (K 0, 5, .inl (n 63)))
  else if k = 30 then some (.inl (K 9, 4, rfs (rb 4 (fun q => δ (150 + q))))) else none
/-- rows, sheets, bulbs -/
def cE1 (K : Nat → ClassId) (n : mS) (δ : Nat → Nat) (k : Nat) : Option va_E :=
  if 100 ≤ k ∧ k < 131 then some (.inl (K 0, 8, .inl (n (k - 30)))) else if 140 ≤ k ∧ k < 143 then some (.inl (K 0, 8, .inl (fun p => n 32 (3 * p + (k - 140)))))
  else if 150 ≤ k ∧ k < 154 then some (.inr (1, [if n 38 (k - 150) = 0 then .null else .ref (δ (k + 80))]))
  else if 200 ≤ k ∧ k < 208 then (if n 56 (k - 200) = 0 then none else some (.inr (7 + tn (n 11 (k - 200)), [.int (n 12 (3 * (k - 200))), .int (n 12 (3 * (k - 200) + 1)), .int (n 12 (3 * (k - 200) + 2))])))
  else if 208 ≤ k ∧ k < 210 then (if n 56 (k - 200) = 0 then none else some (.inr (7 + tn (n 67 (k - 200)), [.int (n 68 (3 * (k - 200))), .int (n 68 (3 * (k - 200) + 1)), .int (n 68 (3 * (k - 200) + 2))])))
  else if 220 ≤ k ∧ k < 226 then (if k - 220 < tn (n 0 3) + tn (n 0 61) then some (.inl (K 5, 3, rfs (rb 3 (fun w => δ (250 + 3 * (k - 220) + w))))) else none)
  else if 230 ≤ k ∧ k < 234 then (if n 38 (k - 230) = 0 then none else some (.inl (shK K (n 39 (k - 230)), tn (n 40 (k - 230)), .inl (fun i => if i < 40 then n 41 (40 * (k - 230) + i) else 0))))
  else if k = 226 then (if n 66 0 = 0 then none else some (.inl (K 5, 3, rfs (fun w => if w < 3 ∧ w < tn (n 66 1) then some (δ (268 + w)) else none))))
  else if k = 240 then (if n 64 0 = 0 then none else some (.inl (shK K (n 64 1), tn (n 64 2), .inl (fun _ => 0)))) else none
def cE (K : Nat → ClassId) (fv : List Value × (Nat → Nat)) (n : mS) (δ : Nat → Nat) (k : Nat) : Option va_E := if k < 50 then cE0 K fv n δ k else cE1 K n δ k
def twoF (s p q : Int32) : Int32 := if s = 43 then p + q else if s = 45 then p - q else if s = 42 then p * q else if s = 60 then (if p < q then 1 else 0) else if s = 61 then (if p = q then 1 else 0) else if s = 38 then (if p ≠ 0 ∧ q ≠ 0 then 1 else 0) else (if p ≠ 0 ∨ q ≠ 0 then 1 else 0)
/-- a tree of nodes that are N's, less than d deep, at b; it means g -/
def ndE (f : Nat → va_E) (N : Nat → Prop) (t : Nat) : Nat → Nat → Mg → Prop
  | 0, _, _ => False
  | d + 1, b, g => N b ∧ ((∃ v : Int32, f b = .inr (3, [.int v]) ∧ g = fun _ => v) ∨ (∃ k : Nat, k < 6 ∧ f b = .inr (4, [.int (nI k), .ref t]) ∧ g = fun ρ => ρ k)
      ∨ (∃ (a : Nat) (g1 : Mg) (z : Int32), f b = .inr (2, [.ref a, .int z]) ∧ ndE f N t d a g1 ∧ ((z = 1 ∧ g = fun ρ => -(g1 ρ)) ∨ (z = 0 ∧ g = fun ρ => if g1 ρ = 0 then 1 else 0)))
      ∨ (∃ (s : Int32) (a c : Nat) (g1 g2 : Mg), f b = .inr (5, [.int s, .ref a, .ref c]) ∧ ndE f N t d a g1 ∧ ndE f N t d c g2 ∧ g = fun ρ => twoF s (g1 ρ) (g2 ρ)))
theorem ndE_mono {f f2 : Nat → va_E} {N N2 : Nat → Prop} {t : Nat} (h1 : ∀ b, N b → N2 b) (h2 : ∀ b c fs, N b → f b = .inr (c, fs) → 2 ≤ c ∧ c ≤ 5 → f2 b = .inr (c, fs)) : ∀ (d b : Nat) (g : Mg), ndE f N t d b g → ndE f2 N2 t d b g := by
  intro d
  induction d with
  | zero => intro b g h; exact h
  | succ d ih =>
    intro b g h
    obtain ⟨hb, h⟩ := h
    refine ⟨h1 b hb, ?_⟩
    rcases h with ⟨v, e1, e2⟩ | ⟨k, e0, e1, e2⟩ | ⟨c, g1, z, e1, e2, e3⟩ | ⟨s, c, c2, g1, g2, e1, e2, e3, e4⟩
    · exact Or.inl ⟨v, h2 _ _ _ hb e1 (by decide), e2⟩
    · exact Or.inr (Or.inl ⟨k, e0, h2 _ _ _ hb e1 (by decide), e2⟩)
    · exact Or.inr (Or.inr (Or.inl ⟨c, g1, z, h2 _ _ _ hb e1 (by decide), ih _ _ e2, e3⟩))
    · exact Or.inr (Or.inr (Or.inr ⟨s, c, c2, g1, g2, h2 _ _ _ hb e1 (by decide), ih _ _ e2, ih _ _ e3, e4⟩))
def noNd (e : va_E) : Prop := ∀ c fs, e = .inr (c, fs) → c < 2 ∨ 5 < c
theorem ndE_up {f : Nat → va_E} {N : Nat → Prop} {t a : Nat} {e' : va_E} (hn : noNd (f a)) : ∀ (d b : Nat) (g : Mg), ndE f N t d b g → ndE (va_up f a e') N t d b g :=
  ndE_mono (fun _ h => h) fun b c fs _ h1 h2 => by
    by_cases hba : b = a
    · subst hba
      have := hn c fs h1
      omega
    · rw [va_up_ne _ _ hba]; exact h1
/-- made, but not filled yet -/
def pnd (ν : Nat → Option (Mg × Nat)) (b : Nat) : Prop := ∃ x, ν b = some x ∧ 1000 ≤ x.2
def dfl (c : Nat) : List Value := if c = 2 then [.null, .int 0] else if c = 3 then [.int 0] else if c = 4 then [.int 0, .null] else [.int 0, .null, .null]
/-- ν's nodes: trees, and nodes that are not filled yet -/
def ndV (f : Nat → va_E) (L : List Nat) (t : Nat) (ν : Nat → Option (Mg × Nat)) : Prop := ∀ b x, ν b = some x → (x.2 < 1000 → ndE f (fun b => b ∈ L ∧ ¬ pnd ν b) t x.2 b x.1) ∧ (1000 ≤ x.2 → x.2 < 1006 ∧ 1002 ≤ x.2 ∧ b ∈ L ∧ f b = .inr (x.2 - 1000, dfl (x.2 - 1000)))
theorem ndV_up {f : Nat → va_E} {L : List Nat} {t a : Nat} {ν : Nat → Option (Mg × Nat)} {e' : va_E} (hn : noNd (f a)) (h : ndV f L t ν) : ndV (va_up f a e') L t ν := by
  intro b x hb
  obtain ⟨h1, h2⟩ := h b x hb
  refine ⟨fun hx => ndE_up hn _ _ _ (h1 hx), fun hx => ?_⟩
  obtain ⟨g1, g2, g3, g4⟩ := h2 hx
  refine ⟨g1, g2, g3, ?_⟩
  by_cases hba : b = a
  · subst hba
    have := hn _ _ g4
    omega
  · rw [va_up_ne _ _ hba]; exact g4
/-- the raw cells -/
def cRp (K : Nat → ClassId) (fv : List Value × (Nat → Nat)) (n : mS) (δ : Nat → Nat) (ν : Nat → Option (Mg × Nat)) (L : List Nat) (f : Nat → va_E) : Prop :=
  (∀ k e, cE K fv n δ k = some e → δ k ∈ L ∧ f (δ k) = e) ∧ (∀ j k, (cE K fv n δ j).isSome = true → (cE K fv n δ k).isSome = true → δ j = δ k → j = k) ∧ ndV f L (δ 0) ν
theorem cRp.set {K : Nat → ClassId} {fv : List Value × (Nat → Nat)} {n n2 : mS} {δ : Nat → Nat} {ν : Nat → Option (Mg × Nat)} {L : List Nat} {f : Nat → va_E} {k : Nat} {e e' : va_E} (h : cRp K fv n δ ν L f) (he : cE K fv n δ k = some e) (he' : cE K fv n2 δ k = some e') (ho : ∀ j, j ≠ k → cE K fv n2 δ j = cE K fv n δ j) (hn : noNd e) : cRp K fv n2 δ ν L (va_up f (δ k) e') := by
  obtain ⟨h1, h2, h3⟩ := h
  have hs : ∀ j, (cE K fv n2 δ j).isSome = true → (cE K fv n δ j).isSome = true := by
    intro j hj
    by_cases hjk : j = k
    · subst hjk; rw [he]; rfl
    · rw [ho j hjk] at hj; exact hj
  refine ⟨fun j e1 hj => ?_, fun i j hi hj hij => h2 i j (hs i hi) (hs j hj) hij, ndV_up (by rw [(h1 k e he).2]; exact hn) h3⟩
  · by_cases hjk : j = k
    · subst hjk
      rw [he'] at hj; cases hj
      exact ⟨(h1 j e he).1, va_up_self _ _ _⟩
    · rw [ho j hjk] at hj
      have hne : δ j ≠ δ k := fun q => hjk (h2 j k (by rw [hj]; rfl) (by rw [he]; rfl) q)
      rw [va_up_ne _ _ hne]
      exact h1 j e1 hj
/-- what counts of the numbers -/
def crel (n : mS) (k j : Nat) : Prop := (k = 11 → j < tn (n 0 13) + tn (n 0 60) ∨ 8 ≤ j) ∧ (k = 12 → j < 3 * (tn (n 0 13) + tn (n 0 60)) ∨ 24 ≤ j) ∧ (k = 5 → j < tn (n 0 6) ∨ j < tn (n 0 58)) ∧ (k = 32 → (n 0 57 = 1 ∧ j < 3 * tn (n 0 33)) ∨ j < tn (n 0 59)) ∧ (k = 41 → j % 40 < tn (n 40 (j / 40))) ∧ (k = 56 → 8 ≤ j)
def cAg (n n' : mS) : Prop := (∀ k j, crel n k j → n' k j = n k j) ∧ ∀ p, p < 8 → p < tn (n 0 13) + tn (n 0 60) → n' 56 p = 1
/-- the texts mean what their letters say -/
def cTx (n : mS) (δ : Nat → Nat) (ν : Nat → Option (Mg × Nat)) : Prop := ∀ t, t < tn (n 0 3) + tn (n 0 61) → ∃ x, rdG (fun i => n 1 (160 * t + i)) (tn (n 2 t)) = .inr x ∧ ∀ w : Nat, w < 3 → ∃ d, d ≤ 161 ∧ ν (δ (250 + 3 * t + w)) = some (fun ρ => rd3 (nI w) x ρ, d)
def cIm (τ : cS) : Prop := (τ.1 0 57 = 0 ∧ τ.1 0 33 = -1) ∨ (τ.1 0 57 = 1 ∧ okN (τ.1 0 33) 8 ∧ ∀ j, j < 5 → τ.1 63 j = τ.1 0 (33 + j))
def cWdP (Pn : cS → Prop) (D : va_G) (K : Nat → ClassId) (fv : List Value × (Nat → Nat)) (A : Nat → Prop) (τ : cS) (H : Heap) : Prop :=
  ∃ (n' : mS) (L : List Nat) (f : Nat → va_E), cAg τ.1 n' ∧ cRp K fv n' τ.2.1 τ.2.2 L f ∧ cTx τ.1 τ.2.1 τ.2.2 ∧ Pn τ ∧ lWd D A (va_pl L f) H
abbrev cWd (D : va_G) (K : Nat → ClassId) (fv : List Value × (Nat → Nat)) (A : Nat → Prop) : cS → Heap → Prop := cWdP cIm D K fv A
/-- a write there touches no relation -/
def frc (k j : Nat) : Prop := ¬ (k = 0 ∧ (j = 3 ∨ j = 6 ∨ j = 13 ∨ (33 ≤ j ∧ j ≤ 37) ∨ (57 ≤ j ∧ j ≤ 61))) ∧ k ≠ 1 ∧ k ≠ 2 ∧ k ≠ 40 ∧ k ≠ 63 ∧ (k = 56 → 8 ≤ j)
/-- the texts that the program names: their lengths, their letters -/
def txL : List Nat := [4, 4, 5, 2, 3, 3, 4, 4, 6, 5, 6, 6, 8, 33]
def txB : List (List Int32) := [[114, 111, 116, 115], [112, 97, 121, 115], [102, 105, 110, 100, 115], [111, 114], [97, 110, 100], [110, 111, 116], [115, 111, 105, 108], [121, 101, 97, 114], [110, 117, 109, 98, 101, 114], [98, 117, 108, 98, 115], [103, 97, 114, 100, 101, 110], [103, 117, 97, 114, 100, 115], [40, 41, 59, 43, 45, 42, 60, 61], [114, 111, 116, 115, 32, 50, 48, 32, 59, 32, 112, 97, 121, 115, 32, 57, 32, 59, 32, 102, 105, 110, 100, 115, 32, 103, 117, 97, 114, 100, 115, 32, 59]]
/-- what is known of the machine's state beside the tables' words -/
def cKx (A : Nat → Prop) (sK : Nat → Nat) (U : State) : Prop := (∀ w ∈ lw_tbl, nestW w = true → va_Nw w U) ∧ (∃ sV : Nat → Nat, vk_S 14 txL txB sK sV A U U.heap) ∧ vk_R RX0 162 "();+-*<=" (sK 12) U ∧ va_Z "java/lang/String" "COMPACT_STRINGS" "Z" (.int 1) A U U.heap ∧ (∃ w : Value, va_Z "jdk/internal/util/Preconditions" "SIOOBE_FORMATTER" "Ljava/util/function/BiFunction;" w A U U.heap) ∧ (∃ w : Value, va_Z "java/lang/Throwable" "UNASSIGNED_STACK" "[Ljava/lang/StackTraceElement;" w A U U.heap) ∧ ∃ w : Value, va_Z "java/lang/Throwable" "SUPPRESSED_SENTINEL" "Ljava/util/List;" w A U U.heap
def cSt (Pn : cS → Prop) : Prop := (∀ (n : mS) (δ δ2 : Nat → Nat) (ν ν2 : Nat → Option (Mg × Nat)), Pn (n, δ, ν) → Pn (n, δ2, ν2)) ∧ ∀ (n : mS) (δ : Nat → Nat) (ν : Nat → Option (Mg × Nat)) (k j : Nat) (x : Int32), frc k j → Pn (n, δ, ν) → Pn (up n k j x, δ, ν)
def cG (A : Nat → Prop) (fv : List Value × (Nat → Nat)) (Pn : cS → Prop) (Kf : State → Prop) (D : va_G) (K : Nat → ClassId) : Prop := kM A Kf ∧ (∀ U, Kf U → va_K D vwCl (kT K) U) ∧ cSt Pn ∧ ∀ U, Kf U → cKx A fv.2 U
theorem cG.N {A : Nat → Prop} {fv : List Value × (Nat → Nat)} {Pn : cS → Prop} {Kf : State → Prop} {D : va_G} {K : Nat → ClassId} (G : cG A fv Pn Kf D K) : kN Kf := fun U h => (G.2.2.2 U h).1
theorem cF_eq {n n' : mS} {δ : Nat → Nat} (h : ∀ j, n' 0 j = n 0 j) : cF n' δ = cF n δ := by
  unfold cF
  simp only [h]
theorem cAg.z {n n' : mS} (h : cAg n n') (j : Nat) : n' 0 j = n 0 j := h.1 0 j ⟨fun e => (by cases e), fun e => (by cases e), fun e => (by cases e), fun e => (by cases e), fun e => (by cases e), fun e => (by cases e)⟩
section CW
variable {v : vv_T cS} {l : Launch} {cc : ByteArray} {nL : Nat} {own nm : String} {ret : Option FieldType} {hh : List (Nat × Nat × Nat × Nat)} {R : Room} {Kf : State → Prop} {D : va_G} {K : Nat → ClassId} {fv : List Value × (Nat → Nat)} {A : Nat → Prop} {Pn : cS → Prop} {post : vv_O cS}
variable {n : mS} {δ : Nat → Nat} {ν : Nat → Option (Mg × Nat)} {bc bs pc q : Nat} {ls : List (Nat × Value)} {st : List Value}
/-- the component itself is read -/
theorem c_get (F : vv_F v l cc nL RX0 nm ret hh R Kf (cWdP Pn D K fv A) A post) (G : cG A fv Pn Kf D K) (k : Nat) {w : Value} {idx : Nat} (hk : k < 31) (hl : Cond.fieldLink RX0 idx (TX0 k).1 (TX0 k).2.1 (TX0 k).2.2.1 ∈ lw_all) (hv : (cF n δ)[k]? = some w) (d : decode cc pc = .ok (.getfield idx, 3)) (hq : pc + 3 = q) (kk : v (n, δ, ν) bc bs q ls (w :: st)) : v (n, δ, ν) bc bs pc ls (.ref (δ 0) :: st) := by
  obtain ⟨p, e, s, m, args, below, meth, c, ⟨hx, hb, hml, hown, hts⟩, -, ⟨hKf, hA⟩, rfl⟩ := F
  subst hq
  intro H locs cells slots arr hW hS h1 h2 hl2
  obtain ⟨n', L, f, hag, hrp, htx, hpn, hP, hD⟩ := id hW
  obtain ⟨g1, g2⟩ := hrp.1 0 (.inr (0, cF n δ)) (by show some (Sum.inr (0, cF n' δ)) = _; rw [cF_eq hag.z])
  obtain ⟨q0, hq0⟩ := va_pl_get (X := []) (f := f) g1
  rw [g2] at hq0
  exact va_get (D := D) (ci := 0) (C := RX0) (T := TX0) (N := 31) hx hb hts in_X0 hown (G.2.1 s hKf) hP q0 hq0 rfl k hk (hts _ hl) (fun _ h9 => h9) hv d (kk H locs cells slots arr hW hS h1 h2 hl2)
end CW
