/-! what the questions answer -/
section SPEC2
/-- f at 0, 1 .., n times -/
def lpz {α : Type} (f : Nat → α → α) : Nat → α → α
  | 0, x => x
  | n + 1, x => f n (lpz f n x)
theorem isP_ofN {n : Nat} {a : Int32} (hn : n < 2 ^ 31) (h : isP n a = true) : ∃ p : Nat, p < n ∧ a = nI p := by
  have h := of_decide_eq_true h
  refine ⟨a.toInt.toNat, by omega, Int32.toInt_inj.mp ?_⟩
  rw [nI_toInt (by omega)]
  omega
theorem isP_lit {k : Int64} {n : Nat} {a : Int32} (h : k.toInt = n) : decide ((0 : Int64) ≤ a.toInt64 ∧ a.toInt64 ≤ k) = isP (n + 1) a := by
  unfold isP
  congr 1
  apply propext
  rw [Int64.le_iff_toInt_le, Int64.le_iff_toInt_le, Int32.toInt_toInt64, h]
  have : (0 : Int64).toInt = 0 := by decide
  omega
section
variable (kd : Nat → Nat) (s : gSm) (mn : Nat)
/-- what a has behind a game with b -/
def hbV (g : gG) (a b : Nat) : Int32 := bc (gme kd s g a b (4 * a + 3))
/-- a game as two digits -/
def gmOk (v : Int32) : Bool := isP 56 v && (decide (v.toInt.toNat / 10 < mn) && decide (v.toInt.toNat % 10 < mn) && decide (v.toInt.toNat / 10 ≠ v.toInt.toNat % 10))
def evOk (it : Nat → Int32) : Nat → Bool
  | 0 => true
  | n + 1 => evOk it n && gmOk mn (it n)
def iA (v : Int32) : Nat := v.toInt.toNat / 10
def iB (v : Int32) : Nat := v.toInt.toNat % 10
/-- the games of a sheet, and how many were draws -/
def gos (it : Nat → Int32) (n : Nat) (g : gG) : gG × Nat := lpz (fun k x => (gme kd s x.1 (iA (it k)) (iB (it k)), x.2 + (if wn kd s x.1 (iA (it k)) (iB (it k)) = 2 then 1 else 0))) n (g, 0)
/-- who has most, and how much -/
def rch (g : gG) (n : Nat) : Int32 × Int32 := lpz (fun p x => if x.2 < bc (g (4 * p + 3)) then (nI p, bc (g (4 * p + 3))) else x) n (-1, 0)
/-- each with each once, but two -/
def rbs (but : Int32) (g : gG) : gG := lpz (fun a g => lpz (fun d g => if nI (10 * a + (a + 1 + d)) = but then g else gme kd s g a (a + 1 + d)) (mn - (a + 1)) g) mn g
def hbH (g : gG) (but : Int32) : Int32 := bc (rbs kd s mn but g 24)
def apt (g : gG) : Int32 × Int32 := lpz (fun a x => lpz (fun d x => if hbH kd s mn g (nI (10 * a + (a + 1 + d))) < x.2 then (nI (10 * a + (a + 1 + d)), hbH kd s mn g (nI (10 * a + (a + 1 + d)))) else x) (mn - (a + 1)) x) mn (-1, hbH kd s mn g (-1))
/-- whether a, b, c beat one another in a ring -/
def rgB (g : gG) (a b c : Nat) : Bool := (decide (wn kd s g a b = 0) && decide (wn kd s g b c = 0) && decide (wn kd s g a c = 1)) || (decide (wn kd s g a b = 1) && decide (wn kd s g b c = 1) && decide (wn kd s g a c = 0))
def rgs (g : gG) : Nat := lpz (fun a x => lpz (fun d x => lpz (fun e x => x + (if rgB kd s g a (a + 1 + d) (a + 1 + d + 1 + e) then 1 else 0)) (mn - (a + 1 + d + 1)) x) (mn - (a + 1)) x) mn 0
def bst (g : gG) (one : Nat) : Int32 × Int32 := lpz (fun q x => if x.2 < (if q = one then -1 else hbV kd s g one q) then (nI q, if q = one then -1 else hbV kd s g one q) else x) mn (-1, -1)
/-- orders of games of one with all that are left: the best so far (its digits, how much; none yet: false) -/
def ors (one : Nat) : Nat → (Nat → Bool) → Int32 → gG → Bool × Int32 × Int32 → Bool × Int32 × Int32
  | 0, _, dg, g, x => if x.1 = false ∨ x.2.2 < bc (g (4 * one + 3)) then (true, dg, bc (g (4 * one + 3))) else x
  | f + 1, l, dg, g, x => lpz (fun q x => if l q then ors one f (fun z => l z && decide (z ≠ q)) (10 * dg + nI q + 1) (gme kd s g one q) x else x) mn x
/-- whom all things came to -/
def alA (g : gG) (n : Nat) (x : Int32) : Int32 := lpz (fun p x => x ||| ((if g (4 * p + 3) = 255 then 1 else 0) <<< (nI p &&& 31))) n x
def als : Nat → gG → Int32 → Int32
  | 0, g, x => alA g mn x
  | f + 1, g, x => lpz (fun a x => lpz (fun d x => als f (gme kd s g a (a + 1 + d)) x) (mn - (a + 1)) x) mn (alA g mn x)
def sno (a b : Nat) (g : gG) : Nat → gG
  | 0 => g
  | n + 1 => gme kd s (sno a b g n) a b
/-- after how many games a has nothing -/
def soV (a b : Nat) (g : gG) : Int32 := fo (fun n => decide (sno kd s a b g n (4 * a + 3) = 0)) 0 21
/-- the first of whom it isn't told right -/
def fot (g : gG) (it : Nat → Int32) (p : Nat) : Int32 := fo (fun q => decide ((if q = p then 0 else pw kd s g p q) ≠ it q)) 0 mn
def lks (g : gG) (it : Nat → Int32) : Int32 := lpz (fun p x => x ||| ((if fot kd s mn g it p = -1 then 1 else 0) <<< (nI p &&& 31))) mn 0
/-- numbers drawn -/
def zN (z : Int32) : Int32 := z * 1103515245 + 12345
def zsh (z : Int32) (k : Nat) : Nat := z.toUInt32.toNat / 2 ^ k
def drA (z : Int32) : Nat := zsh z 9 % mn
def drB (z : Int32) : Nat := (drA mn z + 1 + zsh z 17 % (mn - 1)) % mn
def drw (seed : Int32) (n : Nat) (g : gG) : Int32 × gG := lpz (fun _ x => if 1 < mn then (zN x.1, gme kd s x.2 (drA mn (zN x.1)) (drB mn (zN x.1))) else x) n (seed, g)
end
end SPEC2
