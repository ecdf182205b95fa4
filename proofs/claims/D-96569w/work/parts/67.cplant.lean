/-! THE COMPONENT's WORLD: new cells, plantings that come and go, the number of plantings; references as answers -/
set_option maxRecDepth 100000
/-- answers a reference -/
def vv_r {S : Type} (P : Nat → S → Prop) : vv_O S := vv_R fun r u => ∃ a, r = some (.ref a) ∧ P a u
section AR
variable {S : Type} {v : vv_T S} {l : Launch} {cc : ByteArray} {nL : Nat} {own nm : String} {ret : Option FieldType} {hh : List (Nat × Nat × Nat × Nat)} {R : Room} {Kf : State → Prop} {Wd : S → Heap → Prop} {A : Nat → Prop} {post : vv_O S}
variable {σ : S} {bc bs pc q : Nat} {ls : List (Nat × Value)} {st : List Value}
theorem v_aret (F : vv_F v l cc nL own nm ret hh R Kf Wd A post) {w : Value} {rt : FieldType} (d : decode cc pc = .ok (.areturn, 1)) (hr : ret = some rt) (hrt : (∃ n, rt = .object n) ∨ ∃ t, rt = .array t) (hv : w = .null ∨ ∃ a, w = .ref a) (hp : ∀ k n, k + bc ≤ R.cells → n + bs ≤ R.slots → post (.returned (some w)) σ k n) : v σ bc bs pc ls [w] := by
  obtain ⟨p, e, s, m, args, below, meth, c, ⟨hx, hb, hml, hown, hts⟩, ⟨hr0, hlk, -, -⟩, -, rfl⟩ := F
  intro H locs cells slots arr hW hS h1 h2 hl
  refine vv_mono (vv_MQ.of (k := cells) (n := slots) (by omega) (by omega)) ?_
  exact W.aret (v := w) hx hb (hr0.trans hr) hrt hv (fun t ht _ => ⟨⟨σ, hp _ _ h1 h2, by rw [ht]; exact hW⟩, hS.F ht⟩) hS.2.2 d (hlocks := hlk)
theorem v_retr {P : Nat → S → Prop} (F : vv_F v l cc nL own nm ret hh R Kf Wd A (vv_r P)) {a : Nat} {nme : String} (d : decode cc pc = .ok (.areturn, 1)) (hr : ret = some (.object nme)) (hp : P a σ) : v σ bc bs pc ls [.ref a] :=
  v_aret F d hr (Or.inl ⟨_, rfl⟩) (Or.inr ⟨_, rfl⟩) (fun _ _ _ _ => ⟨a, rfl, hp⟩)
end AR
section CA2
variable {S : Type} {v : vv_T S} {l : Launch} {cc : ByteArray} {nL : Nat} {own nm : String} {ret : Option FieldType} {hh : List (Nat × Nat × Nat × Nat)} {R : Room} {Kf : State → Prop} {Wd : S → Heap → Prop} {A : Nat → Prop} {post : vv_O S}
variable {σ : S} {bc bs pc q : Nat} {ls : List (Nat × Value)} {st stk : List Value} {y : MethodName} {ws : List Cond} {maxL idx f' c' s' lo' bc' bs' : Nat} {As : List Value}
theorem s_callA {p' : Option Value → S → Prop} (F : vv_F v l cc nL own nm ret hh R Kf Wd A post) (hKm : kM A Kf) (hM : vv_Ct l y ws (rmc f' c' s' lo') Kf Wd A As σ (vv_R p')) (hok : vv_oc y maxL As.length ws)
    (hl : Cond.methodLink own idx y ∈ lw_all) (hs : Cond.static y ∈ lw_all) (hroom : (Nat.ble (f' + 1) R.frames && Nat.ble (8 + (maxL + 11) + lo') R.locals) = true) (hst : Nat.ble (st.map fun v => v.category).sum 8 = true)
    (d : decode cc pc = .ok (.invokestatic idx, 3)) (hq : pc + 3 = q) (hstk : stk = As.reverse ++ st) (hb1 : c' + bc' = bc) (hb2 : s' + bs' = bs) (k : ∀ r u, p' r u → v u bc' bs' q ls (r.toList ++ st)) : v σ bc bs pc ls stk := by
  rw [Bool.and_eq_true] at hroom
  exact v_callS F hKm hM hok hl hs ⟨Nat.le_of_ble_eq_true hroom.1, Nat.le_of_ble_eq_true hroom.2⟩ (Nat.le_of_ble_eq_true hst) d hq hstk hb1 hb2 k
end CA2
section CA3
variable {v : vv_T cS} {l : Launch} {cc : ByteArray} {nL : Nat} {own nm : String} {ret : Option FieldType} {hh : List (Nat × Nat × Nat × Nat)} {R : Room} {Kf : State → Prop} {D : va_G} {K : Nat → ClassId} {fv : List Value × (Nat → Nat)} {A : Nat → Prop} {Pn : cS → Prop} {post : vv_O cS}
variable {n : mS} {δ : Nat → Nat} {ν : Nat → Option (Mg × Nat)} {bc bs pc q : Nat} {ls : List (Nat × Value)} {st stk : List Value} {y : MethodName} {ws : List Cond} {maxL idx f' c' s' lo' bc' bs' : Nat} {As : List Value}
theorem c_callA {p' : Option Value → cS → Prop} (F : vv_F v l cc nL own nm ret hh R Kf (cWdP Pn D K fv A) A post) (G : cG A fv Pn Kf D K) (hM : vv_Ct l y ws (rmc f' c' s' lo') Kf (cWdP Pn D K fv A) A (.ref (δ 0) :: As) (n, δ, ν) (vv_R p')) (hok : vv_oc y maxL As.length ws)
    (hl : Cond.methodLink own idx y ∈ lw_all) (hi : Cond.instanceMethod y ∈ lw_all ∧ Cond.selects RX0 y y ∈ lw_all) (hroom : (Nat.ble (f' + 1) R.frames && Nat.ble (8 + (maxL + 11) + lo') R.locals) = true) (hst : Nat.ble (st.map fun v => v.category).sum 8 = true)
    (d : decode cc pc = .ok (.invokevirtual idx, 3)) (hq : pc + 3 = q) (hstk : stk = As.reverse ++ .ref (δ 0) :: st) (hb1 : c' + bc' = bc) (hb2 : s' + bs' = bs) (k : ∀ r u, p' r u → v u bc' bs' q ls (r.toList ++ st)) : v (n, δ, ν) bc bs pc ls stk := by
  rw [Bool.and_eq_true] at hroom
  exact v_callV F G.1 hM hok hl hi.1 hi.2 (c_recv G) ⟨Nat.le_of_ble_eq_true hroom.1, Nat.le_of_ble_eq_true hroom.2⟩ (Nat.le_of_ble_eq_true hst) d hq hstk hb1 hb2 k
/-- <init> of the bulb at hand -/
theorem c_hinit {P : cS → Prop} (F : vv_F v l cc nL own nm ret hh R Kf (cWdP Pn D K fv A) A post) (G : cG A fv Pn Kf D K) {bytes : ByteArray} {maxL' b : Nat} (hM : vv_Ct l y ws (rm f' lo') Kf (cWdP Pn D K fv A) A (.ref b :: As) (n, δ, ν) (vv_n P)) (hok : vv_oc y maxL As.length ws)
    (hl : Cond.methodLink own idx y ∈ lw_all) (hw2 : Cond.instanceMethod y ∈ lw_all) (hw3 : Cond.code y bytes maxL' none ∈ lw_all) (hy : y.name = "<init>") (hroom : (Nat.ble (f' + 1) R.frames && Nat.ble (8 + (maxL + 11) + lo') R.locals) = true) (hst : Nat.ble (st.map fun v => v.category).sum 8 = true)
    (d : decode cc pc = .ok (.invokespecial idx, 3)) (hq : pc + 3 = q) (hstk : stk = As.reverse ++ .ref b :: st) (k : ∀ u, P u → v u bc bs q ls st) : v (n, δ, ν) bc bs pc ls stk := by
  rw [Bool.and_eq_true] at hroom
  refine v_call F G.1 hM hok (vv_LI hok hl hw2 hw3 hy d hstk) ⟨Nat.le_of_ble_eq_true hroom.1, Nat.le_of_ble_eq_true hroom.2⟩ (Nat.le_of_ble_eq_true hst) hq (bc' := bc) (bs' := bs) (Nat.zero_add _) (Nat.zero_add _) ?_
  rintro _ u ⟨rfl, h⟩
  exact k u h
end CA3
/-- the cell of code c speaks of the address of code x -/
def dlO (c x : Nat) : Prop := (c = 0 ∧ x < 50) ∨ (c = 1 ∧ 200 ≤ x ∧ x < 208) ∨ (c = 8 ∧ 220 ≤ x ∧ x < 226) ∨ (c = 22 ∧ 100 ≤ x ∧ x < 131) ∨ (c = 28 ∧ 140 ≤ x ∧ x < 143) ∨ (c = 30 ∧ 150 ≤ x ∧ x < 154) ∨ (150 ≤ c ∧ c < 154 ∧ x = c + 80) ∨ (220 ≤ c ∧ c < 226 ∧ 250 + 3 * (c - 220) ≤ x ∧ x < 253 + 3 * (c - 220)) ∨ (c = 226 ∧ 268 ≤ x ∧ x < 271)
theorem rb_congr {N : Nat} {f g : Nat → Nat} (h : ∀ i, i < N → f i = g i) : rb N f = rb N g := by
  funext i
  unfold rb
  by_cases hi : i < N
  · rw [if_pos hi, if_pos hi, h i hi]
  · rw [if_neg hi, if_neg hi]
theorem cF_dl {n : mS} {δ δ2 : Nat → Nat} (h : ∀ x, x < 50 → δ2 x = δ x) : cF n δ2 = cF n δ := by
  unfold cF
  rw [h 1 (by decide), h 5 (by decide), h 6 (by decide), h 8 (by decide), h 10 (by decide), h 11 (by decide), h 12 (by decide), h 21 (by decide), h 22 (by decide), h 23 (by decide), h 24 (by decide), h 25 (by decide), h 27 (by decide), h 28 (by decide), h 29 (by decide), h 30 (by decide)]
theorem cE_dl {K : Nat → ClassId} {fv : List Value × (Nat → Nat)} {n : mS} {δ δ2 : Nat → Nat} {c : Nat} (h : ∀ x, dlO c x → δ2 x = δ x) : cE K fv n δ2 c = cE K fv n δ c := by
  unfold dlO at h
  unfold cE
  by_cases h50 : c < 50
  · rw [if_pos h50, if_pos h50]
    unfold cE0
    by_cases c0 : c = 0
    · rw [if_pos c0, if_pos c0, cF_dl (fun x hx => h x (Or.inl ⟨c0, hx⟩))]
    rw [if_neg c0, if_neg c0]
    by_cases c1 : c = 1
    · rw [if_pos c1, if_pos c1, show (fun p => if p < 8 ∧ n 56 p ≠ 0 then some (δ2 (200 + p)) else none) = (fun p => if p < 8 ∧ n 56 p ≠ 0 then some (δ (200 + p)) else none) from funext fun p => by
        by_cases hp : p < 8 ∧ n 56 p ≠ 0
        · rw [if_pos hp, if_pos hp, h (200 + p) (by omega)]
        · rw [if_neg hp, if_neg hp]]
    rw [if_neg c1, if_neg c1]
    by_cases c5 : c = 5
    · rw [if_pos c5, if_pos c5]
    rw [if_neg c5, if_neg c5]
    by_cases c6 : c = 6
    · rw [if_pos c6, if_pos c6]
    rw [if_neg c6, if_neg c6]
    by_cases c8 : c = 8
    · rw [if_pos c8, if_pos c8, show (fun t => if t < 6 ∧ t < tn (n 0 3) + tn (n 0 61) then some (δ2 (220 + t)) else none) = (fun t => if t < 6 ∧ t < tn (n 0 3) + tn (n 0 61) then some (δ (220 + t)) else none) from funext fun p => by
        by_cases hp : p < 6 ∧ p < tn (n 0 3) + tn (n 0 61)
        · rw [if_pos hp, if_pos hp, h (220 + p) (by omega)]
        · rw [if_neg hp, if_neg hp]]
    rw [if_neg c8, if_neg c8]
    by_cases c10 : c = 10
    · rw [if_pos c10, if_pos c10]
    rw [if_neg c10, if_neg c10]
    by_cases c11 : c = 11
    · rw [if_pos c11, if_pos c11]
    rw [if_neg c11, if_neg c11]
    by_cases c12 : c = 12
    · rw [if_pos c12, if_pos c12]
    rw [if_neg c12, if_neg c12]
    by_cases c21 : c = 21
    · rw [if_pos c21, if_pos c21]
    rw [if_neg c21, if_neg c21]
    by_cases c22 : c = 22
    · rw [if_pos c22, if_pos c22, rb_congr (fun i hi => h (100 + i) (by omega))]
    rw [if_neg c22, if_neg c22]
    by_cases c23 : c = 23
    · rw [if_pos c23, if_pos c23]
    rw [if_neg c23, if_neg c23]
    by_cases c24 : c = 24
    · rw [if_pos c24, if_pos c24]
    rw [if_neg c24, if_neg c24]
    by_cases c25 : c = 25
    · rw [if_pos c25, if_pos c25]
    rw [if_neg c25, if_neg c25]
    by_cases c27 : c = 27
    · rw [if_pos c27, if_pos c27]
    rw [if_neg c27, if_neg c27]
    by_cases c28 : c = 28
    · rw [if_pos c28, if_pos c28, rb_congr (fun i hi => h (140 + i) (by omega))]
    rw [if_neg c28, if_neg c28]
    by_cases c29 : c = 29
    · rw [if_pos c29, if_pos c29]
    rw [if_neg c29, if_neg c29]
    by_cases c30 : c = 30
    · rw [if_pos c30, if_pos c30, rb_congr (fun i hi => h (150 + i) (by omega))]
    rw [if_neg c30, if_neg c30]
  · rw [if_neg h50, if_neg h50]
    unfold cE1
    by_cases a1 : 100 ≤ c ∧ c < 131
    · rw [if_pos a1, if_pos a1]
    rw [if_neg a1, if_neg a1]
    by_cases a2 : 140 ≤ c ∧ c < 143
    · rw [if_pos a2, if_pos a2]
    rw [if_neg a2, if_neg a2]
    by_cases a3 : 150 ≤ c ∧ c < 154
    · rw [if_pos a3, if_pos a3, h (c + 80) (by omega)]
    rw [if_neg a3, if_neg a3]
    by_cases a4 : 200 ≤ c ∧ c < 208
    · rw [if_pos a4, if_pos a4]
    rw [if_neg a4, if_neg a4]
    by_cases a4b : 208 ≤ c ∧ c < 210
    · rw [if_pos a4b, if_pos a4b]
    rw [if_neg a4b, if_neg a4b]
    by_cases a5 : 220 ≤ c ∧ c < 226
    · rw [if_pos a5, if_pos a5, rb_congr (fun i hi => h (250 + 3 * (c - 220) + i) (by omega))]
    rw [if_neg a5, if_neg a5]
    by_cases a6 : 230 ≤ c ∧ c < 234
    · rw [if_pos a6, if_pos a6]
    rw [if_neg a6, if_neg a6]
    by_cases a7 : c = 226
    · rw [if_pos a7, if_pos a7, show (fun w => if w < 3 ∧ w < tn (n 66 1) then some (δ2 (268 + w)) else none) = (fun w => if w < 3 ∧ w < tn (n 66 1) then some (δ (268 + w)) else none) from funext fun p => by
        by_cases hp : p < 3 ∧ p < tn (n 66 1)
        · rw [if_pos hp, if_pos hp, h (268 + p) (by omega)]
        · rw [if_neg hp, if_neg hp]]
    rw [if_neg a7, if_neg a7]
/-- as they were but for code c -/
def oth (c : Nat) (δ δ2 : Nat → Nat) : Prop := ∀ x, x ≠ c → δ2 x = δ x
theorem ndV_push {f : Nat → va_E} {L : List Nat} {t a : Nat} {ν : Nat → Option (Mg × Nat)} {e : va_E} (ha : a ∉ L) (h : ndV f L t ν) : ndV (va_up f a e) (L ++ [a]) t ν := by
  have hne : ∀ b, b ∈ L → b ≠ a := fun b hb e => ha (e ▸ hb)
  intro b x hb
  obtain ⟨h1, h2⟩ := h b x hb
  refine ⟨fun hx => ndE_mono (fun b hb => ⟨List.mem_append_left _ hb.1, hb.2⟩) (fun b c fs hb e1 _ => by rw [va_up_ne _ _ (hne b hb.1)]; exact e1) _ _ _ (h1 hx), fun hx => ?_⟩
  obtain ⟨g1, g2, g3, g4⟩ := h2 hx
  exact ⟨g1, g2, List.mem_append_left _ g3, by rw [va_up_ne _ _ (hne b g3)]; exact g4⟩
theorem cRp.new {K : Nat → ClassId} {fv : List Value × (Nat → Nat)} {n n2 : mS} {δ δ2 : Nat → Nat} {ν : Nat → Option (Mg × Nat)} {L : List Nat} {f : Nat → va_E} {a c0 : Nat} {e : va_E} (h : cRp K fv n δ ν L f) (ha : a ∉ L) (hc0 : c0 ≠ 0) (hd : δ2 c0 = a) (hd2 : oth c0 δ δ2) (he : cE K fv n2 δ2 c0 = some e) (ho : ∀ c, c ≠ c0 → cE K fv n2 δ2 c = cE K fv n δ c) : cRp K fv n2 δ2 ν (L ++ [a]) (va_up f a e) := by
  obtain ⟨h1, h2, h3⟩ := h
  have hL : ∀ k, k ≠ c0 → (cE K fv n2 δ2 k).isSome = true → δ2 k ∈ L ∧ δ2 k = δ k := by
    intro k hk hs
    rw [ho k hk] at hs
    obtain ⟨e1, he1⟩ := Option.isSome_iff_exists.mp hs
    rw [hd2 k hk]
    exact ⟨(h1 k e1 he1).1, rfl⟩
  refine ⟨fun k e1 hk => ?_, fun i j hi hj hij => ?_, ?_⟩
  · by_cases c : k = c0
    · subst c
      rw [he] at hk; cases hk
      rw [hd]
      exact ⟨List.mem_append_right _ List.mem_cons_self, va_up_self _ _ _⟩
    · have hm := (hL k c (by rw [hk]; rfl)).1
      rw [ho k c] at hk
      rw [va_up_ne _ _ (show δ2 k ≠ a from fun e9 => ha (by rw [← e9]; exact hm))]
      rw [hd2 k c] at hm ⊢
      exact ⟨List.mem_append_left _ hm, (h1 k e1 hk).2⟩
  · by_cases ci : i = c0
    · by_cases cj : j = c0
      · rw [ci, cj]
      · exact absurd ((hL j cj hj).1) (by rw [← hij, ci, hd]; exact ha)
    · by_cases cj : j = c0
      · exact absurd ((hL i ci hi).1) (by rw [hij, cj, hd]; exact ha)
      · rw [hd2 i ci, hd2 j cj] at hij
        exact h2 i j (by rw [← ho i ci]; exact hi) (by rw [← ho j cj]; exact hj) hij
  · rw [hd2 0 (fun e => hc0 e.symm)]
    exact ndV_push ha h3
/-- a bulb at hand -/
def hb8 (n : mS) (k : Nat) (x y z : Int32) : mS := up (up (up (up (up n 56 8 1) 67 8 (nI k)) 68 24 x) 68 25 y) 68 26 z
theorem hb8_ne {n : mS} {k : Nat} {x y z : Int32} {a b : Nat} (h : ¬ (a = 56 ∧ b = 8)) (h2 : ¬ (a = 67 ∧ b = 8)) (h3 : ¬ (a = 68 ∧ 24 ≤ b ∧ b ≤ 26)) : hb8 n k x y z a b = n a b := by
  unfold hb8
  rw [up_ne (by omega), up_ne (by omega), up_ne (by omega), up_ne (by omega), up_ne (by omega)]
theorem hb8_cab {n : mS} {k : Nat} {x y z : Int32} : cab (hb8 n k x y z) = cab n := by
  unfold hb8
  rw [cab_us rfl, cab_us rfl, cab_us rfl, cab_us rfl, cab_us rfl]
section CP
variable {v : vv_T cS} {l : Launch} {cc : ByteArray} {nL : Nat} {own nm : String} {ret : Option FieldType} {hh : List (Nat × Nat × Nat × Nat)} {R : Room} {Kf : State → Prop} {D : va_G} {K : Nat → ClassId} {fv : List Value × (Nat → Nat)} {A : Nat → Prop} {Pn : cS → Prop} {post : vv_O cS}
variable {n n' : mS} {δ : Nat → Nat} {ν : Nat → Option (Mg × Nat)} {bc bs pc q : Nat} {ls : List (Nat × Value)} {st : List Value} {L : List Nat} {f : Nat → va_E} {H H1 : Heap}
theorem rdO_209 {c : Nat} (hc : c ≠ 208) {k j : Nat} (h : rdO c k j) : ¬ (k = 56 ∧ j = 8 ∧ c ≠ 1) ∧ ¬ (k = 67 ∧ j = 8) ∧ ¬ (k = 68 ∧ 24 ≤ j ∧ j ≤ 26) := by
  by_cases h56 : k = 56
  · refine ⟨?_, by omega, by omega⟩
    rintro ⟨rfl, rfl, h1⟩
    unfold rdO at h
    by_cases a : c < 50
    · rw [if_pos a] at h
      by_cases c0 : c = 0
      · rw [if_pos c0] at h; omega
      rw [if_neg c0] at h
      by_cases c8 : c = 8
      · rw [if_pos c8] at h; omega
      rw [if_neg c8] at h
      unfold rdR at h
      rw [if_neg h1] at h
      repeat' split at h
      all_goals omega
    · rw [if_neg a] at h
      repeat' split at h
      all_goals omega
  · refine ⟨fun e => h56 e.1, ?_, ?_⟩
    · rintro ⟨rfl, rfl⟩
      exact hc (rdO_inv h (by decide) (by decide) (by decide) (by decide))
    · rintro ⟨rfl, h1, h2⟩
      have := rdO_inv h (by decide) (by decide) (by decide) (by decide)
      have e : rdI 68 j = 200 + j / 3 := rfl
      omega
theorem cE_hb8 {k : Nat} {x y z : Int32} {δ2 : Nat → Nat} (hd : oth 208 δ δ2) {c : Nat} (hc : c ≠ 208) : cE K fv (hb8 n k x y z) δ2 c = cE K fv n δ c := by
  rw [cE_dl (δ := δ) (fun w hw => hd w (by unfold dlO at hw; omega))]
  by_cases c1 : c = 1
  · subst c1
    show some (Sum.inl (K 4, 8, rfs (fun p => if p < 8 ∧ hb8 n k x y z 56 p ≠ 0 then some (δ (200 + p)) else none))) = some (Sum.inl (K 4, 8, rfs (fun p => if p < 8 ∧ n 56 p ≠ 0 then some (δ (200 + p)) else none)))
    rw [show (fun p => if p < 8 ∧ hb8 n k x y z 56 p ≠ 0 then some (δ (200 + p)) else none) = (fun p => if p < 8 ∧ n 56 p ≠ 0 then some (δ (200 + p)) else none) from funext fun p => by
      by_cases hp : p < 8
      · rw [hb8_ne (by omega) (by omega) (by omega)]
      · rw [if_neg (fun e => hp e.1), if_neg (fun e => hp e.1)]]
  · refine cE_congr (fun a b hab => hb8_ne ?_ ?_ ?_)
    · exact fun e => (rdO_209 hc hab).1 ⟨e.1, e.2, c1⟩
    · exact (rdO_209 hc hab).2.1
    · exact (rdO_209 hc hab).2.2
theorem frc_56 {j : Nat} (h : 8 ≤ j) : frc 56 j := by unfold frc; omega
theorem frc_67 {j : Nat} : frc 67 j := by unfold frc; omega
theorem frc_68 {j : Nat} : frc 68 j := by unfold frc; omega
theorem cW_hb8 {k : Nat} {x y z : Int32} (hG : cSt Pn) (hag : cAg n n') (htx : cTx n δ ν) (hpn : Pn (n, δ, ν)) {δ2 : Nat → Nat} (hd : oth 208 δ δ2) : cAg (hb8 n k x y z) (hb8 n' k x y z) ∧ cTx (hb8 n k x y z) δ2 ν ∧ Pn (hb8 n k x y z, δ2, ν) := by
  refine ⟨?_, ?_, ?_⟩
  · exact cAg_up frc_68 (cAg_up frc_68 (cAg_up frc_68 (cAg_up frc_67 (cAg_up (frc_56 (by decide)) hag))))
  · have h := cTx_up (x := z) (k := 68) (j := 26) frc_68 (cTx_up (x := y) (k := 68) (j := 25) frc_68 (cTx_up (x := x) (k := 68) (j := 24) frc_68 (cTx_up (x := nI k) (k := 67) (j := 8) frc_67 (cTx_up (x := 1) (k := 56) (j := 8) (frc_56 (by decide)) htx))))
    intro t ht
    obtain ⟨g, h1, h2⟩ := h t ht
    exact ⟨g, h1, fun w hw => by rw [hd _ (by omega)]; exact h2 w hw⟩
  · exact hG.1 _ δ δ2 ν ν (hG.2 _ _ _ _ _ _ frc_68 (hG.2 _ _ _ _ _ _ frc_68 (hG.2 _ _ _ _ _ _ frc_68 (hG.2 _ _ _ _ _ _ frc_67 (hG.2 _ _ _ _ _ _ (frc_56 (by decide)) hpn)))))
/-- a new bulb of kind k comes to hand -/
theorem c_newb (F : vv_F v l cc nL own nm ret hh R Kf (cWdP Pn D K fv A) A post) (G : cG A fv Pn Kf D K) (k : Nat) (hk : k ≤ 5) {idx bc' bs' : Nat} (hw1 : Cond.classLink own idx (bN k) ∈ lw_all) (hw2 : Cond.instantiable (bN k) 3 ∈ lw_all) (hw3 : Cond.initialized (bN k) ∈ lw_all) (d : decode cc pc = .ok (.new idx, 3)) (hq : pc + 3 = q) (hb1 : bc' + 1 = bc) (hb2 : bs' + 3 = bs)
    (kk : ∀ δ2, oth 208 δ δ2 → v (hb8 n k 0 0 0, δ2, ν) bc' bs' q ls (.ref (δ2 (200 + 8)) :: st)) : v (n, δ, ν) bc bs pc ls st := by
  obtain ⟨p, e, s, m, args, below, meth, c, ⟨hx, hb, hml, hown, hts⟩, -, ⟨hKf, hA⟩, rfl⟩ := F
  subst hq
  intro H locs cells slots arr hW hS h1 h2 hl2
  obtain ⟨n', L, f, hag, hrp, htx, hpn, hP, hD⟩ := hW
  have hty : ∀ k, k ≤ 5 → (∀ w ∈ u_ws (bN k) (bT k) 3, w ∈ lw_all) ∧ ∀ j, j < 3 → parseFieldDescriptor (bT k j).2.2.1 = some .int := six ⟨in_X9, by decide +kernel⟩ ⟨in_X10, by decide +kernel⟩ ⟨in_X11, by decide +kernel⟩ ⟨in_X12, by decide +kernel⟩ ⟨in_X13, by decide +kernel⟩ ⟨in_X14, by decide +kernel⟩
  refine va_new (D := D) (ci := 7 + k) (C := bN k) (T := bT k) (N := 3) (fs := [.int 0, .int 0, .int 0]) hx hb hts (hty k hk).1 (fun _ => .int) (hty k hk).2 hown (hts _ hw1) (hts _ hw2) (hts _ hw3) (G.2.1 s hKf) hP hD hS hA (bcl k hk) (fun j hj => by rcases (show j = 0 ∨ j = 1 ∨ j = 2 by omega) with rfl | rfl | rfl <;> rfl) (by omega) (by omega) d (fun a H1 hP1 hD1 hS1 => ?_)
  have ha : a ∉ L := va_pl_fresh2 (X := []) hD1
  have e1 := va_pl_push (f := f) (e := (.inr (7 + k, [.int 0, .int 0, .int 0]) : va_E)) ha
  rw [e1] at hP1 hD1
  have hd : oth 208 δ (fun x => if x = 208 then a else δ x) := fun x hx => if_neg hx
  have hda : (fun x => if x = 208 then a else δ x) 208 = a := if_pos rfl
  obtain ⟨g1, g2, g3⟩ := cW_hb8 (k := k) (x := 0) (y := 0) (z := 0) G.2.2.1 hag htx hpn hd
  have := kk (fun x => if x = 208 then a else δ x) hd H1 locs (cells + 1) (slots + 3) arr ⟨hb8 n' k 0 0 0, L ++ [a], va_up f a (.inr (7 + k, [.int 0, .int 0, .int 0])), g1, hrp.new (c0 := 208) ha (by decide) hda hd ?_ (fun c hc => cE_hb8 hd hc), g2, g3, hP1, hD1⟩ hS1 (by omega) (by omega) hl2
  · have e9 : (if 200 + 8 = 208 then a else δ (200 + 8)) = a := if_pos rfl
    rw [e9] at this
    exact this
  · rw [show (208 : Nat) = 200 + 8 from rfl, cE_h (by decide) (by unfold hb8; rw [up_ne (by omega), up_ne (by omega), up_ne (by omega), up_ne (by omega), up_eq])]
    have e11 : hb8 n' k 0 0 0 67 8 = nI k := by unfold hb8; rw [up_ne (by omega), up_ne (by omega), up_ne (by omega), up_eq]
    rw [e11, tn_nI (by omega)]
    rfl
end CP
