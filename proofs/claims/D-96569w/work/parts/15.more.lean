/-! FURTHER RULES -/
set_option maxRecDepth 100000
section VM1
variable {S : Type} {v : vv_T S} {l : Launch} {cc : ByteArray} {nL : Nat} {own nm : String} {ret : Option FieldType} {hh : List (Nat × Nat × Nat × Nat)} {R : Room} {Kf : State → Prop} {Wd : S → Heap → Prop} {A : Nat → Prop} {post : vv_O S}
variable {σ : S} {bc bs pc q : Nat} {ls ls' : List (Nat × Value)} {st : List Value}
theorem v_ldcw (F : vv_F v l cc nL own nm ret hh R Kf Wd A post) {idx : Nat} {x : Int32} (hw : Jvm.Cond.constant own idx x ∈ lw_all) (d : decode cc pc = .ok (.ldc_w idx, 3)) (hq : pc + 3 = q) (k : v σ bc bs q ls (.int x :: st)) : v σ bc bs pc ls st := by
  obtain ⟨p, e, s, m, args, below, meth, c, ⟨hx, hb, hml, hown, hts⟩, -, -, rfl⟩ := F
  subst hq
  intro H locs cells slots arr hW hS h1 h2 hl
  exact lv_ldcw hx hb hown (hts _ hw) d (k H locs cells slots arr hW hS h1 h2 hl)
theorem v_topi (F : vv_F v l cc nL own nm ret hh R Kf Wd A post) {x : Int32} (k : ∀ y : Int32, y = x → v σ bc bs pc ls (.int y :: st)) : v σ bc bs pc ls (.int x :: st) := k x rfl
theorem v_if_eqN (F : vv_F v l cc nL own nm ret hh R Kf Wd A post) {a : Nat} {off : Int} {tgt : Nat} (d : decode cc pc = .ok (.ifCond .eq off, 3)) (ht : (pc : Int) + off = (tgt : Int)) (hq : pc + 3 = q) (ha : a < 2 ^ 31) (kt : a = 0 → v σ bc bs tgt ls st) (kf : 0 < a → v σ bc bs q ls st) : v σ bc bs pc ls (.int (nI a) :: st) := v_if_eq F d ht hq (fun h => kt ((nI_eq (b := 0) ha (by decide)).mp h)) (fun h => kf (Nat.pos_of_ne_zero (fun e => h (by rw [e]; rfl))))
theorem v_if_neN (F : vv_F v l cc nL own nm ret hh R Kf Wd A post) {a : Nat} {off : Int} {tgt : Nat} (d : decode cc pc = .ok (.ifCond .ne off, 3)) (ht : (pc : Int) + off = (tgt : Int)) (hq : pc + 3 = q) (ha : a < 2 ^ 31) (kt : 0 < a → v σ bc bs tgt ls st) (kf : a = 0 → v σ bc bs q ls st) : v σ bc bs pc ls (.int (nI a) :: st) := v_if_ne F d ht hq (fun h => kt (Nat.pos_of_ne_zero (fun e => h (by rw [e]; rfl)))) (fun h => kf ((nI_eq (b := 0) ha (by decide)).mp h))
theorem v_if_leN (F : vv_F v l cc nL own nm ret hh R Kf Wd A post) {a : Nat} {off : Int} {tgt : Nat} (d : decode cc pc = .ok (.ifCond .le off, 3)) (ht : (pc : Int) + off = (tgt : Int)) (hq : pc + 3 = q) (ha : a < 2 ^ 31) (kt : a = 0 → v σ bc bs tgt ls st) (kf : 0 < a → v σ bc bs q ls st) : v σ bc bs pc ls (.int (nI a) :: st) := v_if_le F d ht hq (fun h => kt (by have := (nI_leI (b := 0) ha (by decide)).mp h; omega)) (fun h => kf (Nat.pos_of_ne_zero (fun e => h (by rw [e]; decide))))
theorem v_if_gtN (F : vv_F v l cc nL own nm ret hh R Kf Wd A post) {a : Nat} {off : Int} {tgt : Nat} (d : decode cc pc = .ok (.ifCond .gt off, 3)) (ht : (pc : Int) + off = (tgt : Int)) (hq : pc + 3 = q) (ha : a < 2 ^ 31) (kt : 0 < a → v σ bc bs tgt ls st) (kf : a = 0 → v σ bc bs q ls st) : v σ bc bs pc ls (.int (nI a) :: st) := v_if_gt F d ht hq (fun h => kt ((nI_ltI (a := 0) (by decide) ha).mp h)) (fun h => kf (Nat.eq_zero_of_not_pos (fun e => h ((nI_ltI (a := 0) (by decide) ha).mpr e))))
end VM1
