/-! THE PLAIN MEANING: numbers, texts (a lexer and a parser over bytes b of length z), plantings, years. No program in sight. -/
set_option maxRecDepth 100000
def cl (x lo hi : Int32) : Int32 := if x < lo then lo else if hi < x then hi else x
def mostV (w : Int32) : Int32 := if w = 0 then 99 else if w = 4 then 7 else if w = 5 then 9999 else 9
/-- byte i of the text, or -1 -/
def bA (b : Nat → Int32) (z i : Nat) : Int32 := if i < z then b i else -1
/-- behind the blanks from i on -/
def skp (b : Nat → Int32) (z : Nat) : Nat → Nat → Nat
  | 0, i => i
  | n + 1, i => if bA b z i = 32 ∨ bA b z i = 10 then skp b z n (i + 1) else i
/-- behind the letters (digits) lo..hi from i on -/
def run (b : Nat → Int32) (z : Nat) (lo hi : Int32) : Nat → Nat → Nat
  | 0, i => i
  | n + 1, i => if lo ≤ bA b z i ∧ bA b z i ≤ hi then run b z lo hi n (i + 1) else i
/-- a number's worth: its first four digits -/
def dgt (b : Nat → Int32) (z : Nat) : Nat → Nat → Nat → Int32 → Int32
  | 0, _, _, w => w
  | n + 1, k, i, w => if 48 ≤ bA b z i ∧ bA b z i ≤ 57 then dgt b z n (k + 1) (i + 1) (if k < 4 then 10 * w + bA b z i - 48 else w) else w
def isSg (c : Int32) : Prop := c = 40 ∨ c = 41 ∨ c = 59 ∨ c = 43 ∨ c = 45 ∨ c = 42 ∨ c = 60 ∨ c = 61
/-- the token that is read from i on: where it begins, its first byte, its kind (0 end, 1 word, 2 number, 3 sign, 4 wrong), what is behind it, its worth -/
def tA (b : Nat → Int32) (z i : Nat) : Nat := skp b z (z + 1) i
def tC (b : Nat → Int32) (z i : Nat) : Int32 := bA b z (tA b z i)
def tE (b : Nat → Int32) (z i : Nat) : Nat := run b z 48 57 (z + 1) (tA b z i)
def tK (b : Nat → Int32) (z i : Nat) : Int32 := if tC b z i < 0 then 0 else if 97 ≤ tC b z i ∧ tC b z i ≤ 122 then 1 else if 48 ≤ tC b z i ∧ tC b z i ≤ 57 then (if 4 < tE b z i - tA b z i then 4 else 2)
  else if (tC b z i = 40 ∨ tC b z i = 41 ∨ tC b z i = 59 ∨ tC b z i = 43 ∨ tC b z i = 45 ∨ tC b z i = 42 ∨ tC b z i = 60 ∨ tC b z i = 61) then 3 else 4
def tN (b : Nat → Int32) (z i : Nat) : Nat := if tC b z i < 0 then tA b z i else if 97 ≤ tC b z i ∧ tC b z i ≤ 122 then run b z 97 122 (z + 1) (tA b z i) else if 48 ≤ tC b z i ∧ tC b z i ≤ 57 then tE b z i
  else if (tC b z i = 40 ∨ tC b z i = 41 ∨ tC b z i = 59 ∨ tC b z i = 43 ∨ tC b z i = 45 ∨ tC b z i = 42 ∨ tC b z i = 60 ∨ tC b z i = 61) then tA b z i + 1 else tA b z i
def tW (b : Nat → Int32) (z i : Nat) : Int32 := if 48 ≤ tC b z i ∧ tC b z i ≤ 57 then dgt b z (z + 1) 0 (tA b z i) 0 else tC b z i
/-- the sign c stands at i; the word of eight letters L (0: none) -/
abbrev sg (b : Nat → Int32) (z i : Nat) (c : Int32) : Prop := tK b z i = 3 ∧ tW b z i = c
def w8 (a b c d e f g h : Int32) : Nat → Int32 := fun k => match k with
  | 0 => a | 1 => b | 2 => c | 3 => d | 4 => e | 5 => f | 6 => g | _ => h
abbrev lt8 (b : Nat → Int32) (z i : Nat) (k : Nat) (c : Int32) : Prop := if tA b z i + k < tN b z i then bA b z (tA b z i + k) = c else c = 0
abbrev wd (b : Nat → Int32) (z i : Nat) (c0 c1 c2 c3 c4 c5 c6 c7 : Int32) : Prop := tK b z i = 1 ∧ tN b z i ≤ tA b z i + 8 ∧ lt8 b z i 0 c0 ∧ lt8 b z i 1 c1 ∧ lt8 b z i 2 c2 ∧ lt8 b z i 3 c3 ∧ lt8 b z i 4 c4 ∧ lt8 b z i 5 c5 ∧ lt8 b z i 6 c6 ∧ lt8 b z i 7 c7
abbrev kNot (b : Nat → Int32) (z i : Nat) : Prop := wd b z i 110 111 116 0 0 0 0 0
abbrev kAnd (b : Nat → Int32) (z i : Nat) : Prop := wd b z i 97 110 100 0 0 0 0 0
abbrev kOr (b : Nat → Int32) (z i : Nat) : Prop := wd b z i 111 114 0 0 0 0 0 0
abbrev kRots (b : Nat → Int32) (z i : Nat) : Prop := wd b z i 114 111 116 115 0 0 0 0
abbrev kPays (b : Nat → Int32) (z i : Nat) : Prop := wd b z i 112 97 121 115 0 0 0 0
abbrev kFinds (b : Nat → Int32) (z i : Nat) : Prop := wd b z i 102 105 110 100 115 0 0 0
def nmK (b : Nat → Int32) (z i : Nat) : Option Nat := if wd b z i 115 111 105 108 0 0 0 0 then some 0 else if wd b z i 121 101 97 114 0 0 0 0 then some 1 else if wd b z i 110 117 109 98 101 114 0 0 then some 2
  else if wd b z i 98 117 108 98 115 0 0 0 then some 3 else if wd b z i 103 97 114 100 101 110 0 0 then some 4 else if wd b z i 103 117 97 114 100 115 0 0 then some 5 else none
/-- an end of reading: an error's place, or a meaning (of the names' worths) and the place behind -/
abbrev PR : Type := Nat ⊕ (((Nat → Int32) → Int32) × Nat)
def atG (b : Nat → Int32) (z : Nat) (deep : Bool) (pa pe : Nat → PR) (i : Nat) : PR :=
  if sg b z i 45 then (if deep = true then .inl (tA b z i) else match pa (tN b z i) with | .inl e => .inl e | .inr (f, j) => .inr (fun ρ => -(f ρ), j))
  else if sg b z i 40 then (if deep = true then .inl (tA b z i) else match pe (tN b z i) with | .inl e => .inl e | .inr (f, j) => if sg b z j 41 then .inr (f, tN b z j) else .inl (tA b z j))
  else if tK b z i = 2 then .inr (fun _ => tW b z i, tN b z i)
  else if tK b z i = 1 then (match nmK b z i with | some k => .inr (fun ρ => ρ k, tN b z i) | none => .inl (tA b z i))
  else .inl (tA b z i)
def loG (b : Nat → Int32) (z : Nat) (ts : Nat → Bool) (p : Nat → PR) (cb : Nat → Int32 → Int32 → Int32) : Nat → ((Nat → Int32) → Int32) → Nat → PR
  | 0, f, i => .inr (f, i)
  | n + 1, f, i => if ts i = true then (match p (tN b z i) with | .inl e => .inl e | .inr (g, j) => loG b z ts p cb n (fun ρ => cb i (f ρ) (g ρ)) j) else .inr (f, i)
def chG (b : Nat → Int32) (z : Nat) (ts : Nat → Bool) (p : Nat → PR) (cb : Nat → Int32 → Int32 → Int32) (i : Nat) : PR := match p i with | .inl e => .inl e | .inr (f, j) => loG b z ts p cb (z + 1) f j
def teG (b : Nat → Int32) (z : Nat) (pa : Nat → PR) : Nat → PR := chG b z (fun i => decide (sg b z i 42)) pa (fun _ x y => x * y)
def adG (b : Nat → Int32) (z : Nat) (pa : Nat → PR) : Nat → PR := chG b z (fun i => decide (sg b z i 43 ∨ sg b z i 45)) (teG b z pa) (fun i x y => if tW b z i = 43 then x + y else x - y)
def boG (b : Nat → Int32) (z : Nat) (pn : Nat → PR) : Nat → PR := chG b z (fun i => decide (kAnd b z i)) pn (fun _ x y => if x ≠ 0 ∧ y ≠ 0 then 1 else 0)
def eiG (b : Nat → Int32) (z : Nat) (pn : Nat → PR) : Nat → PR := chG b z (fun i => decide (kOr b z i)) (boG b z pn) (fun _ x y => if x ≠ 0 ∨ y ≠ 0 then 1 else 0)
def noG (b : Nat → Int32) (z : Nat) (deep : Bool) (pn pd : Nat → PR) (i : Nat) : PR :=
  if kNot b z i then (if deep = true then .inl (tA b z i) else match pn (tN b z i) with | .inl e => .inl e | .inr (f, j) => .inr (fun ρ => if f ρ = 0 then 1 else 0, j))
  else match pd i with
    | .inl e => .inl e
    | .inr (f, j) => if sg b z j 60 ∨ sg b z j 61 then (match pd (tN b z j) with | .inl e => .inl e | .inr (g, k) => .inr (fun ρ => if (if tW b z j = 60 then f ρ < g ρ else f ρ = g ρ) then 1 else 0, k)) else .inr (f, j)
/-- atoms and nots where so many more may be opened -/
def PX (b : Nat → Int32) (z : Nat) : Nat → (Nat → PR) × (Nat → PR)
  | 0 => (atG b z true (fun _ => .inl 0) (fun _ => .inl 0), noG b z true (fun _ => .inl 0) (adG b z (atG b z true (fun _ => .inl 0) (fun _ => .inl 0))))
  | r + 1 => (atG b z false (PX b z r).1 (eiG b z (PX b z r).2), noG b z false (PX b z r).2 (adG b z (atG b z false (PX b z r).1 (eiG b z (PX b z r).2))))
def ptP (b : Nat → Int32) (z : Nat) (p : Prop) [Decidable p] (i : Nat) : PR :=
  if p then (match eiG b z (PX b z 5).2 (tN b z i) with | .inl e => .inl e | .inr (f, j) => if sg b z j 59 then .inr (f, tN b z j) else .inl (tA b z j)) else .inl (tA b z i)
/-- a whole text: an error's place, or its three meanings -/
def rdG (b : Nat → Int32) (z : Nat) : Nat ⊕ (((Nat → Int32) → Int32) × ((Nat → Int32) → Int32) × ((Nat → Int32) → Int32)) :=
  match ptP b z (kRots b z 0) 0 with
  | .inl e => .inl e
  | .inr (f, i) => match ptP b z (kPays b z i) i with
    | .inl e => .inl e
    | .inr (g, j) => match ptP b z (kFinds b z j) j with
      | .inl e => .inl e
      | .inr (h, k) => if tK b z k = 0 then .inr (f, g, h) else .inl (tA b z k)
