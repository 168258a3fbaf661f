section GB4
theorem g_eqL {E : gE} {K : gM} {Z : gS} {I : gI} {ck sk pc : Nat} {L L' : List (Nat × Value)} {st : List Value} (h : L = L') (k : G E K Z I ck sk L' pc st) : G E K Z I ck sk L pc st := h ▸ k
end GB4
