/-! WHAT A TEXT SAYS: letters b 0 .. b (n - 1), read by tokens; a state is (kind, value, begin, at, opens); kinds: 0 end, 1 key, 2 name, 3 number, 4 sign, 5 wrong -/
section PARSE
def bt (b : Nat → Nat) (n i : Nat) : Nat := if i < n then b i else 256
def isL (c : Nat) : Bool := decide (97 ≤ c ∧ c ≤ 122)
def isD (c : Nat) : Bool := decide (48 ≤ c ∧ c ≤ 57)
def isW (c : Nat) : Bool := decide (c = 32 ∨ c = 10)
/-- on from i while the letters are of a sort -/
def whl (p : Nat → Bool) (b : Nat → Nat) (n : Nat) : Nat → Nat → Nat
  | 0, i => i
  | f + 1, i => if p (bt b n i) then whl p b n f (i + 1) else i
def skp (p : Nat → Bool) (b : Nat → Nat) (n i : Nat) : Nat := whl p b n (n - i) i
/-- the first four digits from s on, as a number -/
def numv (b : Nat → Nat) (s : Nat) : Nat → Nat
  | 0 => 0
  | k + 1 => if k < 4 then 10 * numv b s k + (b (s + k) - 48) else numv b s k
def wis (b : Nat → Nat) (s e : Nat) (w : List Nat) : Bool := decide (e - s = w.length) && (List.range w.length).all (fun k => b (s + k) == w.getD k 0)
def kyw : List (List Nat) := [[112, 108, 97, 121, 115], [116, 104, 114, 111, 119, 115], [116, 105, 114, 101, 115], [111, 114], [97, 110, 100], [110, 111, 116]]
def nmw : List (List Nat) := [[115, 116, 114, 111, 110, 103], [104, 97, 115], [110, 117, 109, 98, 101, 114], [116, 104, 101, 105, 114, 115], [114, 111, 117, 110, 100], [115, 116, 97, 107, 101]]
/-- the place of a word in a list -/
def wpl (b : Nat → Nat) (s e : Nat) : List (List Nat) → Nat → Option Nat
  | [], _ => none
  | w :: l, k => if wis b s e w then some k else wpl b s e l (k + 1)
def sgn (c : Nat) : Bool := decide (c = 40 ∨ c = 41 ∨ c = 59 ∨ c = 43 ∨ c = 45 ∨ c = 42 ∨ c = 60 ∨ c = 61)
/-- the token from i on: kind, value, begin, at -/
def tok (b : Nat → Nat) (n i : Nat) : Nat × Nat × Nat × Nat :=
  let s := skp isW b n i
  let c := bt b n s
  if c = 256 then (0, 0, s, s)
  else if isL c then
    let e := skp isL b n s
    match wpl b s e kyw 0 with
    | some k => (1, k, s, e)
    | none => match wpl b s e nmw 0 with
      | some k => (2, k, s, e)
      | none => (5, 0, s, e)
  else if isD c then
    let e := skp isD b n s
    if e - s ≤ 4 then (3, numv b s (e - s), s, e) else (5, 0, s, e)
  else if sgn c then (4, c, s, s + 1) else (5, 0, s, s + 1)
abbrev pS : Type := Nat × Nat × Nat × Nat × Nat
abbrev pF : Type := (Nat → Int32) → Int32
/-- how many things were made; where it is wrong, or the state behind and the meaning -/
abbrev pR : Type := Nat × (Nat ⊕ (pS × pF))
def sK (s : pS) : Nat := s.1
def sV (s : pS) : Nat := s.2.1
def sB (s : pS) : Nat := s.2.2.1
def sA (s : pS) : Nat := s.2.2.2.1
def sO (s : pS) : Nat := s.2.2.2.2
def nxt (b : Nat → Nat) (n : Nat) (i op : Nat) : Nat ⊕ pS :=
  let t := tok b n i
  if t.1 = 5 then .inl t.2.2.1 else .inr (t.1, t.2.1, t.2.2.1, t.2.2.2, op)
def opn (b : Nat → Nat) (n : Nat) (s : pS) : Nat ⊕ pS := if sO s < 5 then nxt b n (sA s) (sO s + 1) else .inl (sB s)
def isK (s : pS) (k : Nat) : Bool := decide (sK s = 1 ∧ sV s = k)
def isG (s : pS) (c : Nat) : Bool := decide (sK s = 4 ∧ sV s = c)
def sOp (s : pS) (o : Nat) : pS := (s.1, s.2.1, s.2.2.1, s.2.2.2.1, o)
def fNum (v : Nat) : pF := fun _ => nI v
def fNam (k : Nat) : pF := fun e => e k
def fNeg (f : pF) : pF := fun e => -(f e)
def fNot (f : pF) : pF := fun e => if f e = 0 then 1 else 0
def fTwo (c : Nat) (f h : pF) : pF := fun e => match c with
  | 43 => f e + h e
  | 45 => f e - h e
  | 42 => f e * h e
  | 60 => if f e < h e then 1 else 0
  | 61 => if f e = h e then 1 else 0
  | 38 => if f e ≠ 0 ∧ h e ≠ 0 then 1 else 0
  | _ => if f e ≠ 0 ∨ h e ≠ 0 then 1 else 0
/-- k things more, then on -/
def pB (x : pR) (g : pS → pF → pR) : pR := match x.2 with
  | .inl e => (x.1, .inl e)
  | .inr (s, f) => (x.1 + (g s f).1, (g s f).2)
def pN (x : Nat ⊕ pS) (g : pS → pR) : pR := match x with
  | .inl e => (0, .inl e)
  | .inr s => g s
def pO (k : Nat) (s : pS) (f : pF) : pR := (k, .inr (s, f))
def pE (e : Nat) : pR := (0, .inl e)
def pP (k : Nat) (x : pR) : pR := (k + x.1, x.2)
/-- 0 either, 1 both, 2 not, 3 plus, 4 times, 5 one; 6 .. 9 the loops of 0, 1, 3, 4 -/
def pr (b : Nat → Nat) (n : Nat) : Nat → Nat → pF → pS → pR
  | 0, _, _, _ => (0, .inl 0)
  | f + 1, m, a, s => match m with
    | 0 => pB (pr b n f 1 a s) (fun s x => pr b n f 6 x s)
    | 1 => pB (pr b n f 2 a s) (fun s x => pr b n f 7 x s)
    | 2 => if isK s 5 then pN (opn b n s) (fun s => pB (pr b n f 2 a s) (fun s x => pO 1 (sOp s (sO s - 1)) (fNot x)))
      else pB (pr b n f 3 a s) (fun s x => if isG s 60 || isG s 61 then pN (nxt b n (sA s) (sO s)) (fun t => pB (pr b n f 3 a t) (fun t y => pO 1 t (fTwo (sV s) x y))) else pO 0 s x)
    | 3 => pB (pr b n f 4 a s) (fun s x => pr b n f 8 x s)
    | 4 => pB (pr b n f 5 a s) (fun s x => pr b n f 9 x s)
    | 5 => if sK s = 3 then pN (nxt b n (sA s) (sO s)) (fun t => pO 1 t (fNum (sV s)))
      else if sK s = 2 then pN (nxt b n (sA s) (sO s)) (fun t => pO 1 t (fNam (sV s)))
      else if isG s 45 then pN (opn b n s) (fun s => pB (pr b n f 5 a s) (fun s x => pO 1 (sOp s (sO s - 1)) (fNeg x)))
      else if isG s 40 then pN (opn b n s) (fun s => pB (pr b n f 0 a s) (fun s x => if isG s 41 then pN (nxt b n (sA s) (sO s - 1)) (fun t => pO 0 t x) else pE (sB s)))
      else pE (sB s)
    | 6 => if isK s 3 then pN (nxt b n (sA s) (sO s)) (fun t => pB (pr b n f 1 a t) (fun t y => pP 1 (pr b n f 6 (fTwo 124 a y) t))) else pO 0 s a
    | 7 => if isK s 4 then pN (nxt b n (sA s) (sO s)) (fun t => pB (pr b n f 2 a t) (fun t y => pP 1 (pr b n f 7 (fTwo 38 a y) t))) else pO 0 s a
    | 8 => if isG s 43 || isG s 45 then pN (nxt b n (sA s) (sO s)) (fun t => pB (pr b n f 4 a t) (fun t y => pP 1 (pr b n f 8 (fTwo (sV s) a y) t))) else pO 0 s a
    | _ => if isG s 42 then pN (nxt b n (sA s) (sO s)) (fun t => pB (pr b n f 5 a t) (fun t y => pP 1 (pr b n f 9 (fTwo 42 a y) t))) else pO 0 s a
/-- what of the text is left, the token at hand counted -/
def rmn (n : Nat) (s : pS) : Nat := if sK s = 0 then 0 else n - sA s + 1
def ned (n m : Nat) (s : pS) : Nat := 12 * rmn n s + (if m < 6 then 6 - m else 1)
def fu0 : Nat := 12 * 400
/-- one part: key p, its meaning, a semicolon -/
def prt (b : Nat → Nat) (n p : Nat) (s : pS) : pR :=
  if isK s p then pN (nxt b n (sA s) (sO s)) (fun t => pB (pr b n fu0 0 (fNum 0) t) (fun t x => if isG t 59 then pN (nxt b n (sA t) (sO t)) (fun u => pO 0 u x) else pE (sB t)))
  else pE (sB s)
/-- a text: how many things, where it is wrong or its three meanings -/
def txt (b : Nat → Nat) (n : Nat) : Nat × (Nat ⊕ (Nat → pF)) :=
  let x := pN (nxt b n 0 0) (fun s => prt b n 0 s)
  match x.2 with
  | .inl e => (x.1, .inl e)
  | .inr (s, f) => let y := prt b n 1 s
    match y.2 with
    | .inl e => (x.1 + y.1, .inl e)
    | .inr (t, g) => let z := prt b n 2 t
      match z.2 with
      | .inl e => (x.1 + y.1 + z.1, .inl e)
      | .inr (u, h) => (x.1 + y.1 + z.1, if sK u = 0 then .inr (fun k => match k with
        | 0 => f
        | 1 => g
        | _ => h) else .inl (sB u))
end PARSE
