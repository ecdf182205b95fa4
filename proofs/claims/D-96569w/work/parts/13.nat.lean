/-! RULES WHERE INTS ARE NATURALS; bI: a truth as an int; rooms -/
set_option maxRecDepth 100000
def bI (p : Prop) [Decidable p] : Int32 := if p then 1 else 0
theorem bI_t {p : Prop} [Decidable p] (h : p) : bI p = 1 := if_pos h
theorem bI_f {p : Prop} [Decidable p] (h : ¬ p) : bI p = 0 := if_neg h
theorem bI_0 {p : Prop} [Decidable p] : bI p = 0 ↔ ¬ p := by
  by_cases h : p
  · rw [bI_t h]; exact ⟨fun e => absurd e (by decide), fun e => absurd h e⟩
  · rw [bI_f h]; exact ⟨fun _ => h, fun _ => rfl⟩
theorem bI_n0 {p : Prop} [Decidable p] : ¬ bI p = 0 ↔ p := by rw [bI_0]; exact Decidable.not_not
theorem bI_nar {p : Prop} [Decidable p] : narrow .boolean (.int (bI p)) = .int (bI p) := by
  by_cases h : p
  · rw [bI_t h]; rfl
  · rw [bI_f h]; rfl
theorem bI_01 {p : Prop} [Decidable p] : bI p = 0 ∨ bI p = 1 := by
  by_cases h : p
  · exact Or.inr (bI_t h)
  · exact Or.inl (bI_f h)
theorem bI_e {p : Prop} [Decidable p] {x : Int32} (h : (p ∧ x = 1) ∨ (¬ p ∧ x = 0)) : x = bI p := by
  rcases h with ⟨a, b⟩ | ⟨a, b⟩
  · rw [b, bI_t a]
  · rw [b, bI_f a]
theorem bI_c {p q : Prop} [Decidable p] [Decidable q] (h : p ↔ q) : bI p = bI q := by
  by_cases a : p
  · rw [bI_t a, bI_t (h.mp a)]
  · rw [bI_f a, bI_f (fun b => a (h.mpr b))]
def tn (x : Int32) : Nat := x.toNatClampNeg
theorem tn_nI {n : Nat} (h : n < 2 ^ 31) : tn (nI n) = n := nI_clamp h
theorem i64_inj {x y : Int32} : x.toInt64 = y.toInt64 ↔ x = y := by
  rw [← Int64.toInt_inj, Int32.toInt_toInt64, Int32.toInt_toInt64, Int32.toInt_inj]
theorem i64_le {x y : Int32} : x.toInt64 ≤ y.toInt64 ↔ x ≤ y := by
  rw [Int64.le_iff_toInt_le, Int32.toInt_toInt64, Int32.toInt_toInt64, Int32.le_iff_toInt_le]
theorem i64_lt {x y : Int32} : x.toInt64 < y.toInt64 ↔ x < y := by
  rw [Int64.lt_iff_toInt_lt, Int32.toInt_toInt64, Int32.toInt_toInt64, Int32.lt_iff_toInt_lt]
abbrev rm (f l : Nat) : Room := { frames := f, cells := 0, slots := 0, locals := l }
abbrev rmc (f c s l : Nat) : Room := { frames := f, cells := c, slots := s, locals := l }
section VN
variable {S : Type} {v : vv_T S} {l : Launch} {cc : ByteArray} {nL : Nat} {own nm : String} {ret : Option FieldType} {hh : List (Nat × Nat × Nat × Nat)} {R : Room} {Kf : State → Prop} {Wd : S → Heap → Prop} {A : Nat → Prop} {post : vv_O S}
variable {σ : S} {bc bs pc q a b : Nat} {ls ls' : List (Nat × Value)} {st : List Value}
theorem v_lng (F : vv_F v l cc nL own nm ret hh R Kf Wd A post) {x y : Int64} (h : x = y) (k : v σ bc bs pc ls (.long y :: st)) : v σ bc bs pc ls (.long x :: st) := by subst h; exact k
theorem v_iaddN (F : vv_F v l cc nL own nm ret hh R Kf Wd A post) (d : decode cc pc = .ok (.iadd, 1)) (hq : pc + 1 = q)  (k : v σ bc bs q ls (.int (nI (a + b)) :: st)) : v σ bc bs pc ls (.int (nI b) :: .int (nI a) :: st) := v_iadd F d hq (v_int F (nI_add a b) k)
theorem v_imulN (F : vv_F v l cc nL own nm ret hh R Kf Wd A post) (d : decode cc pc = .ok (.imul, 1)) (hq : pc + 1 = q)  (k : v σ bc bs q ls (.int (nI (a * b)) :: st)) : v σ bc bs pc ls (.int (nI b) :: .int (nI a) :: st) := v_imul F d hq (v_int F (pk_mul a b) k)
theorem v_isubN (F : vv_F v l cc nL own nm ret hh R Kf Wd A post) (d : decode cc pc = .ok (.isub, 1)) (hq : pc + 1 = q) (h : b ≤ a) (k : v σ bc bs q ls (.int (nI (a - b)) :: st)) : v σ bc bs pc ls (.int (nI b) :: .int (nI a) :: st) := v_isub F d hq (v_int F (pk_sub h) k)
theorem v_idivN (F : vv_F v l cc nL own nm ret hh R Kf Wd A post) (d : decode cc pc = .ok (.idiv, 1)) (hq : pc + 1 = q) (ha : a < 2 ^ 31) (h0 : 0 < b) (hb : b < 2 ^ 31) (k : v σ bc bs q ls (.int (nI (a / b)) :: st)) : v σ bc bs pc ls (.int (nI b) :: .int (nI a) :: st) := v_idiv F d hq (nI_ne0 h0 hb) (v_int F (pk_div ha h0 hb) k)
theorem v_iremN (F : vv_F v l cc nL own nm ret hh R Kf Wd A post) (d : decode cc pc = .ok (.irem, 1)) (hq : pc + 1 = q) (ha : a < 2 ^ 31) (h0 : 0 < b) (hb : b < 2 ^ 31) (k : v σ bc bs q ls (.int (nI (a % b)) :: st)) : v σ bc bs pc ls (.int (nI b) :: .int (nI a) :: st) := v_irem F d hq (nI_ne0 h0 hb) (v_int F (pk_rem ha h0 hb) k)
theorem v_iincN (F : vv_F v l cc nL own nm ret hh R Kf Wd A post) {i : Nat} (j : Nat) (d : decode cc pc = .ok (.iinc i 1, 3)) (hq : pc + 3 = q) (hj : ls[j]? = some (i, .int (nI a))) (hn : i < nL) (hf : (i, Value.int (nI (a + 1))) :: ls.filter (fun q => !(q.1 == i) && !(q.1 + 1 == i && q.2.category == 2)) = ls') (k : v σ bc bs q ls' st) : v σ bc bs pc ls st := v_iinc F j d hq hj (nI_1 a) hn hf k
theorem v_icmp_eqN (F : vv_F v l cc nL own nm ret hh R Kf Wd A post) {off : Int} {tgt : Nat} (d : decode cc pc = .ok (.if_icmp .eq off, 3)) (ht : (pc : Int) + off = (tgt : Int)) (hq : pc + 3 = q) (ha : a < 2 ^ 31) (hb : b < 2 ^ 31) (kt : a = b → v σ bc bs tgt ls st) (kf : ¬ a = b → v σ bc bs q ls st) : v σ bc bs pc ls (.int (nI b) :: .int (nI a) :: st) := v_icmp_eq F d ht hq (fun h => kt ((nI_eq ha hb).mp h)) (fun h => kf (fun x => h ((nI_eq ha hb).mpr x)))
theorem v_icmp_neN (F : vv_F v l cc nL own nm ret hh R Kf Wd A post) {off : Int} {tgt : Nat} (d : decode cc pc = .ok (.if_icmp .ne off, 3)) (ht : (pc : Int) + off = (tgt : Int)) (hq : pc + 3 = q) (ha : a < 2 ^ 31) (hb : b < 2 ^ 31) (kt : ¬ a = b → v σ bc bs tgt ls st) (kf : a = b → v σ bc bs q ls st) : v σ bc bs pc ls (.int (nI b) :: .int (nI a) :: st) := v_icmp_ne F d ht hq (fun h => kt (fun x => h ((nI_eq ha hb).mpr x))) (fun h => kf ((nI_eq ha hb).mp h))
theorem v_icmp_ltN (F : vv_F v l cc nL own nm ret hh R Kf Wd A post) {off : Int} {tgt : Nat} (d : decode cc pc = .ok (.if_icmp .lt off, 3)) (ht : (pc : Int) + off = (tgt : Int)) (hq : pc + 3 = q) (ha : a < 2 ^ 31) (hb : b < 2 ^ 31) (kt : a < b → v σ bc bs tgt ls st) (kf : b ≤ a → v σ bc bs q ls st) : v σ bc bs pc ls (.int (nI b) :: .int (nI a) :: st) := v_icmp_lt F d ht hq (fun h => kt ((nI_ltI ha hb).mp h)) (fun h => kf (Nat.le_of_not_lt (fun x => h ((nI_ltI ha hb).mpr x))))
theorem v_icmp_geN (F : vv_F v l cc nL own nm ret hh R Kf Wd A post) {off : Int} {tgt : Nat} (d : decode cc pc = .ok (.if_icmp .ge off, 3)) (ht : (pc : Int) + off = (tgt : Int)) (hq : pc + 3 = q) (ha : a < 2 ^ 31) (hb : b < 2 ^ 31) (kt : b ≤ a → v σ bc bs tgt ls st) (kf : a < b → v σ bc bs q ls st) : v σ bc bs pc ls (.int (nI b) :: .int (nI a) :: st) := v_icmp_ge F d ht hq (fun h => kt ((nI_leI hb ha).mp h)) (fun h => kf (Nat.lt_of_not_le (fun x => h ((nI_leI hb ha).mpr x))))
theorem v_icmp_gtN (F : vv_F v l cc nL own nm ret hh R Kf Wd A post) {off : Int} {tgt : Nat} (d : decode cc pc = .ok (.if_icmp .gt off, 3)) (ht : (pc : Int) + off = (tgt : Int)) (hq : pc + 3 = q) (ha : a < 2 ^ 31) (hb : b < 2 ^ 31) (kt : b < a → v σ bc bs tgt ls st) (kf : a ≤ b → v σ bc bs q ls st) : v σ bc bs pc ls (.int (nI b) :: .int (nI a) :: st) := v_icmp_gt F d ht hq (fun h => kt ((nI_ltI hb ha).mp h)) (fun h => kf (Nat.le_of_not_lt (fun x => h ((nI_ltI hb ha).mpr x))))
theorem v_icmp_leN (F : vv_F v l cc nL own nm ret hh R Kf Wd A post) {off : Int} {tgt : Nat} (d : decode cc pc = .ok (.if_icmp .le off, 3)) (ht : (pc : Int) + off = (tgt : Int)) (hq : pc + 3 = q) (ha : a < 2 ^ 31) (hb : b < 2 ^ 31) (kt : a ≤ b → v σ bc bs tgt ls st) (kf : b < a → v σ bc bs q ls st) : v σ bc bs pc ls (.int (nI b) :: .int (nI a) :: st) := v_icmp_le F d ht hq (fun h => kt ((nI_leI ha hb).mp h)) (fun h => kf (Nat.lt_of_not_le (fun x => h ((nI_leI ha hb).mpr x))))
theorem v_if_eqB (F : vv_F v l cc nL own nm ret hh R Kf Wd A post) {p : Prop} [Decidable p] {off : Int} {tgt : Nat} (d : decode cc pc = .ok (.ifCond .eq off, 3)) (ht : (pc : Int) + off = (tgt : Int)) (hq : pc + 3 = q) (kt : ¬ p → v σ bc bs tgt ls st) (kf : p → v σ bc bs q ls st) : v σ bc bs pc ls (.int (bI p) :: st) := v_if_eq F d ht hq (fun h => kt (bI_0.mp h)) (fun h => kf (bI_n0.mp h))
theorem v_if_neB (F : vv_F v l cc nL own nm ret hh R Kf Wd A post) {p : Prop} [Decidable p] {off : Int} {tgt : Nat} (d : decode cc pc = .ok (.ifCond .ne off, 3)) (ht : (pc : Int) + off = (tgt : Int)) (hq : pc + 3 = q) (kt : p → v σ bc bs tgt ls st) (kf : ¬ p → v σ bc bs q ls st) : v σ bc bs pc ls (.int (bI p) :: st) := v_if_ne F d ht hq (fun h => kt (bI_n0.mp h)) (fun h => kf (bI_0.mp h))
theorem v_if_ltL (F : vv_F v l cc nL own nm ret hh R Kf Wd A post) {x y : Int64} {off : Int} {tgt : Nat} (d : decode cc pc = .ok (.ifCond .lt off, 3)) (ht : (pc : Int) + off = (tgt : Int)) (hq : pc + 3 = q) (kt : x < y → v σ bc bs tgt ls st) (kf : ¬ x < y → v σ bc bs q ls st) : v σ bc bs pc ls (.int (lg_cmp x y) :: st) := v_if_lt F d ht hq (fun h => kt ((lg_cmp_lt x y).mp h)) (fun h => kf (fun g => h ((lg_cmp_lt x y).mpr g)))
theorem v_if_ltLI (F : vv_F v l cc nL own nm ret hh R Kf Wd A post) {x y : Int32} {off : Int} {tgt : Nat} (d : decode cc pc = .ok (.ifCond .lt off, 3)) (ht : (pc : Int) + off = (tgt : Int)) (hq : pc + 3 = q) (kt : x < y → v σ bc bs tgt ls st) (kf : ¬ x < y → v σ bc bs q ls st) : v σ bc bs pc ls (.int (lg_cmp x.toInt64 y.toInt64) :: st) := v_if_ltL F d ht hq (fun h => kt (i64_lt.mp h)) (fun h => kf (fun z => h (i64_lt.mpr z)))
theorem v_if_geL (F : vv_F v l cc nL own nm ret hh R Kf Wd A post) {x y : Int64} {off : Int} {tgt : Nat} (d : decode cc pc = .ok (.ifCond .ge off, 3)) (ht : (pc : Int) + off = (tgt : Int)) (hq : pc + 3 = q) (kt : y ≤ x → v σ bc bs tgt ls st) (kf : ¬ y ≤ x → v σ bc bs q ls st) : v σ bc bs pc ls (.int (lg_cmp x y) :: st) := v_if_ge F d ht hq (fun h => kt ((lg_cmp_ge x y).mp h)) (fun h => kf (fun g => h ((lg_cmp_ge x y).mpr g)))
theorem v_if_geLI (F : vv_F v l cc nL own nm ret hh R Kf Wd A post) {x y : Int32} {off : Int} {tgt : Nat} (d : decode cc pc = .ok (.ifCond .ge off, 3)) (ht : (pc : Int) + off = (tgt : Int)) (hq : pc + 3 = q) (kt : y ≤ x → v σ bc bs tgt ls st) (kf : ¬ y ≤ x → v σ bc bs q ls st) : v σ bc bs pc ls (.int (lg_cmp x.toInt64 y.toInt64) :: st) := v_if_geL F d ht hq (fun h => kt (i64_le.mp h)) (fun h => kf (fun z => h (i64_le.mpr z)))
theorem v_if_gtL (F : vv_F v l cc nL own nm ret hh R Kf Wd A post) {x y : Int64} {off : Int} {tgt : Nat} (d : decode cc pc = .ok (.ifCond .gt off, 3)) (ht : (pc : Int) + off = (tgt : Int)) (hq : pc + 3 = q) (kt : y < x → v σ bc bs tgt ls st) (kf : ¬ y < x → v σ bc bs q ls st) : v σ bc bs pc ls (.int (lg_cmp x y) :: st) := v_if_gt F d ht hq (fun h => kt ((lg_cmp_gt x y).mp h)) (fun h => kf (fun g => h ((lg_cmp_gt x y).mpr g)))
theorem v_if_gtLI (F : vv_F v l cc nL own nm ret hh R Kf Wd A post) {x y : Int32} {off : Int} {tgt : Nat} (d : decode cc pc = .ok (.ifCond .gt off, 3)) (ht : (pc : Int) + off = (tgt : Int)) (hq : pc + 3 = q) (kt : y < x → v σ bc bs tgt ls st) (kf : ¬ y < x → v σ bc bs q ls st) : v σ bc bs pc ls (.int (lg_cmp x.toInt64 y.toInt64) :: st) := v_if_gtL F d ht hq (fun h => kt (i64_lt.mp h)) (fun h => kf (fun z => h (i64_lt.mpr z)))
theorem v_if_leL (F : vv_F v l cc nL own nm ret hh R Kf Wd A post) {x y : Int64} {off : Int} {tgt : Nat} (d : decode cc pc = .ok (.ifCond .le off, 3)) (ht : (pc : Int) + off = (tgt : Int)) (hq : pc + 3 = q) (kt : x ≤ y → v σ bc bs tgt ls st) (kf : ¬ x ≤ y → v σ bc bs q ls st) : v σ bc bs pc ls (.int (lg_cmp x y) :: st) := v_if_le F d ht hq (fun h => kt ((lg_cmp_le x y).mp h)) (fun h => kf (fun g => h ((lg_cmp_le x y).mpr g)))
theorem v_if_leLI (F : vv_F v l cc nL own nm ret hh R Kf Wd A post) {x y : Int32} {off : Int} {tgt : Nat} (d : decode cc pc = .ok (.ifCond .le off, 3)) (ht : (pc : Int) + off = (tgt : Int)) (hq : pc + 3 = q) (kt : x ≤ y → v σ bc bs tgt ls st) (kf : ¬ x ≤ y → v σ bc bs q ls st) : v σ bc bs pc ls (.int (lg_cmp x.toInt64 y.toInt64) :: st) := v_if_leL F d ht hq (fun h => kt (i64_le.mp h)) (fun h => kf (fun z => h (i64_le.mpr z)))
theorem v_if_eqL (F : vv_F v l cc nL own nm ret hh R Kf Wd A post) {x y : Int64} {off : Int} {tgt : Nat} (d : decode cc pc = .ok (.ifCond .eq off, 3)) (ht : (pc : Int) + off = (tgt : Int)) (hq : pc + 3 = q) (kt : x = y → v σ bc bs tgt ls st) (kf : ¬ x = y → v σ bc bs q ls st) : v σ bc bs pc ls (.int (lg_cmp x y) :: st) := v_if_eq F d ht hq (fun h => kt ((lg_cmp_eq x y).mp h)) (fun h => kf (fun g => h ((lg_cmp_eq x y).mpr g)))
theorem v_if_eqLI (F : vv_F v l cc nL own nm ret hh R Kf Wd A post) {x y : Int32} {off : Int} {tgt : Nat} (d : decode cc pc = .ok (.ifCond .eq off, 3)) (ht : (pc : Int) + off = (tgt : Int)) (hq : pc + 3 = q) (kt : x = y → v σ bc bs tgt ls st) (kf : ¬ x = y → v σ bc bs q ls st) : v σ bc bs pc ls (.int (lg_cmp x.toInt64 y.toInt64) :: st) := v_if_eqL F d ht hq (fun h => kt (i64_inj.mp h)) (fun h => kf (fun z => h (i64_inj.mpr z)))
theorem v_if_neL (F : vv_F v l cc nL own nm ret hh R Kf Wd A post) {x y : Int64} {off : Int} {tgt : Nat} (d : decode cc pc = .ok (.ifCond .ne off, 3)) (ht : (pc : Int) + off = (tgt : Int)) (hq : pc + 3 = q) (kt : ¬ x = y → v σ bc bs tgt ls st) (kf : x = y → v σ bc bs q ls st) : v σ bc bs pc ls (.int (lg_cmp x y) :: st) := v_if_ne F d ht hq (fun h => kt (fun g => h ((lg_cmp_eq x y).mpr g))) (fun h => kf ((lg_cmp_eq x y).mp h))
theorem v_if_neLI (F : vv_F v l cc nL own nm ret hh R Kf Wd A post) {x y : Int32} {off : Int} {tgt : Nat} (d : decode cc pc = .ok (.ifCond .ne off, 3)) (ht : (pc : Int) + off = (tgt : Int)) (hq : pc + 3 = q) (kt : ¬ x = y → v σ bc bs tgt ls st) (kf : x = y → v σ bc bs q ls st) : v σ bc bs pc ls (.int (lg_cmp x.toInt64 y.toInt64) :: st) := v_if_neL F d ht hq (fun h => kt (fun z => h (i64_inj.mpr z))) (fun h => kf (i64_inj.mp h))
end VN
