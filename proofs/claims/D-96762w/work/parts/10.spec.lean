/-! THE GAME, as numbers: a state g holds 4 ints a player (number, strong, won, has), the hall at 24, the round at 25 -/
section SPEC
def bI (b : Bool) : Int32 := if b then 1 else 0
theorem bI_t : bI true = 1 := rfl
theorem bI_f : bI false = 0 := rfl
theorem bI_01 (b : Bool) : bI b = 0 ∨ bI b = 1 := by cases b <;> simp [bI]
theorem bI_0 {b : Bool} : bI b = 0 ↔ b = false := by cases b <;> simp [bI]
/-- bits of a number below 256 -/
def bcN (n : Nat) : Nat := n % 2 + n / 2 % 2 + n / 4 % 2 + n / 8 % 2 + n / 16 % 2 + n / 32 % 2 + n / 64 % 2 + n / 128 % 2
def bc (x : Int32) : Int32 := nI (bcN x.toBitVec.toNat)
def wi (v lo hi : Int32) : Int32 := if v < lo then lo else if hi < v then hi else v
/-- a player's number given as an int -/
def isP (mn : Nat) (a : Int32) : Bool := decide (0 ≤ a.toInt ∧ a.toInt < mn)
theorem isP_of {mn : Nat} {a : Int32} (hm : mn ≤ 6) (h : isP mn a = true) : ∃ p : Nat, p < mn ∧ a = nI p := by
  have h := of_decide_eq_true h
  refine ⟨a.toInt.toNat, by omega, Int32.toInt_inj.mp ?_⟩
  rw [nI_toInt (by omega)]
  omega
theorem isP_nI {mn p : Nat} (hp : p < 2 ^ 31) : isP mn (nI p) = decide (p < mn) := by
  unfold isP
  rw [nI_toInt hp]
  congr 1
  apply propext
  omega
abbrev gG : Type := Nat → Int32
def en (g : gG) (p q : Nat) : Nat → Int32 := fun k => match k with
  | 0 => g (4 * p + 1)
  | 1 => bc (g (4 * p + 3))
  | 2 => g (4 * p)
  | 3 => g (4 * q + 1)
  | 4 => g 25
  | _ => bc (g 24) + bc (g (4 * q + 3))
abbrev gSm : Type := Nat → (Nat → Int32) → Int32
/-- whether p throws his game with q -/
def tw (kd : Nat → Nat) (sm : gSm) (g : gG) (p q : Nat) : Bool := match kd p with
  | 1 => decide (sm 1 (en g p q) ≠ 0) && decide (¬ 4 ≤ bc (g (4 * p + 3)))
  | 2 => false
  | 3 => (decide (sm 1 (en g p q) ≠ 0) && decide (¬ 4 ≤ bc (g (4 * p + 3)))) || decide (g (4 * q + 3) ≠ 0)
  | 4 => false
  | _ => decide (sm 1 (en g p q) ≠ 0)
def pl0 (k : Nat) (v : Int32) (g : gG) (p : Nat) : Int32 := match k with
  | 1 => 2 * v
  | 2 => v / 2
  | 3 => 2 * v + (if g (4 * p + 3) = 0 then g (4 * p) else 0)
  | 4 => v / 2 + (if g 25 - g 25 / 10 * 10 = g (4 * p) then 50 else 0)
  | 5 => 0
  | _ => v
def pl (kd : Nat → Nat) (sm : gSm) (g : gG) (p q : Nat) : Int32 := wi (pl0 (kd p) (wi (sm 0 (en g p q)) 0 99) g p) 0 999
def pw (kd : Nat → Nat) (sm : gSm) (g : gG) (p q : Nat) : Int32 := if tw kd sm g p q then -1 else pl kd sm g p q
def ti0 (k : Nat) (v : Int32) (won : Bool) : Int32 := match k with
  | 1 => if won then 0 else v
  | 2 => -v
  | 3 => (if won then 0 else v) + 1
  | 4 => -v - 3
  | 5 => 0
  | _ => v
def ti (kd : Nat → Nat) (sm : gSm) (g : gG) (p q : Nat) (won : Bool) : Int32 := wi (ti0 (kd p) (wi (sm 2 (en g p q)) (-9) 9) won) (-99) 99
/-- who wins: the first (0), the other (1), none (2) -/
def wn (kd : Nat → Nat) (sm : gSm) (g : gG) (a b : Nat) : Nat := if pw kd sm g b a < pw kd sm g a b then 0 else if pw kd sm g a b < pw kd sm g b a then 1 else 2
def wnI (w a b : Nat) : Int32 := match w with
  | 0 => nI a
  | 1 => nI b
  | _ => -1
def sg (g : gG) (a b : Nat) : Int32 := g (4 * a + 3) ||| g (4 * b + 3) ||| g 24
/-- one game -/
def gme (kd : Nat → Nat) (sm : gSm) (g : gG) (a b : Nat) : gG := fun j =>
  let w := wn kd sm g a b
  if j = 25 then g 25 + 1
  else if j = 24 then (if w = 2 then sg g a b else 0)
  else if j = 4 * a + 3 then (if w = 1 then sg g a b else 0)
  else if j = 4 * b + 3 then (if w = 0 then sg g a b else 0)
  else if j = 4 * a + 2 then (if w = 0 then wi (g j + 1) 0 999 else g j)
  else if j = 4 * b + 2 then (if w = 1 then wi (g j + 1) 0 999 else g j)
  else if j = 4 * a + 1 then wi (g j - ti kd sm g a b (decide (w = 0))) 0 99
  else if j = 4 * b + 1 then wi (g j - ti kd sm g b a (decide (w = 1))) 0 99
  else g j
/-- a loop: f at lo, lo + 1 .., n times -/
def lp {α : Type} (f : Nat → α → α) (lo : Nat) : Nat → α → α
  | 0, x => x
  | n + 1, x => f (lo + n) (lp f lo n x)
theorem lp_0 {α : Type} (f : Nat → α → α) (lo : Nat) (x : α) : lp f lo 0 x = x := rfl
theorem lp_s {α : Type} (f : Nat → α → α) (lo n : Nat) (x : α) : lp f lo (n + 1) x = f (lo + n) (lp f lo n x) := rfl
/-- the first place from i on, of n, with a property -/
def fo (P : Nat → Bool) : Nat → Nat → Int32
  | _, 0 => -1
  | i, n + 1 => if P i then nI i else fo P (i + 1) n
/-- ints that a game keeps within: has, hall are bits of 0 .. 255 -/
def gB (mn : Nat) (g : gG) : Prop := (∀ p, p < mn → ∃ n, n < 256 ∧ g (4 * p + 3) = nI n) ∧ ∃ n, n < 256 ∧ g 24 = nI n
end SPEC
