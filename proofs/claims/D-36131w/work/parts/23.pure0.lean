set_option maxRecDepth 100000
section PURE0
/-! what the pure level speaks of: the starting heap, embeddings, a turn -/
def mm_vv (ρ : Nat → Nat) : Value → Value
  | .ref a => .ref (ρ a)
  | v => v
def mm_clV (n : Nat) : Value → Prop
  | .ref a => a < n
  | _ => True
/-- the starting heap: the script's ints and the statics -/
def mm_st (xs : List Value) : Nat → Option mm_E
  | 0 => some (100, false, xs)
  | 1 => some (104, false, [])
  | 2 => some (100, false, [.int 785, .int 270, .int 896, .int 850])
  | 3 => some (60, false, [.int 1])
  | 4 => some (60, false, [.int 0])
  | 5 => some (18, false, [.ref 6, .int 0])
  | 6 => some (104, false, [])
  | 7 => some (61, false, [])
  | 8 => some (106, false, (List.range 256).map (fun k => .ref (16 + k)))
  | a => if 16 ≤ a ∧ a < 272 then some (11, false, [.int (vb_c (a - 16))]) else none
def mm_h0 (xs : List Value) : mm_H := (([], mm_st xs), 272, 0, 0)
/-- hc stands in h, its addresses renamed -/
def mm_Emb (σ : Nat → Nat) (hc h : mm_H) : Prop :=
  (∀ a, a < mm_ns → σ a = a) ∧ mm_ns ≤ hc.2.1 ∧ (∀ a, a < hc.2.1 → σ a < h.2.1) ∧
  (∀ (a : Nat) (e : mm_E), mm_get hc a = some e → a < hc.2.1 ∧ (∀ v ∈ e.2.2, mm_clV hc.2.1 v) ∧ mm_get h (σ a) = some (e.1, e.2.1, e.2.2.map (mm_vv σ))) ∧
  (∀ (a b : Nat) (e e' : mm_E), mm_get hc a = some e → mm_get hc b = some e' → e.2.1 = true → σ a = σ b → a = b)
/-- the locals lc, renamed, are among ls -/
def mm_EmbL (σ : Nat → Nat) (n : Nat) (lc ls : List Value) : Prop := lc.length = ls.length ∧ ∀ (j : Nat) (v : Value), lc[j]? = some v → v ≠ .retAddr 0 → mm_clV n v ∧ ls[j]? = some (mm_vv σ v)
/-- one turn of the loop, from the heap hc with the locals lc to one that P tells, renamed -/
def mm_Turn (d pc : Nat) (hc : mm_H) (lc : List Value) (ck cs : Nat) (P : mm_H → List Value → Prop) : Prop :=
  mm_Go mm_prog mm_hnd mm_nl d 0 pc lc [] hc (fun _ _ => False) (fun pc' ls st h' => pc' = 28 ∧ st = [] ∧ h'.2.2.1 ≤ hc.2.2.1 + ck ∧ h'.2.2.2 ≤ hc.2.2.2 + cs ∧ ∃ (σ : Nat → Nat) (hc' : mm_H) (lc' : List Value), mm_Emb σ hc' h' ∧ mm_EmbL σ hc'.2.1 lc' ls ∧ P hc' lc')
/-- the end of the loop -/
def mm_Last (d : Nat) (hc : mm_H) (lc : List Value) : Prop :=
  mm_Go mm_prog mm_hnd mm_nl d 0 28 lc [] hc (fun _ _ => False) (fun pc' _ st h' => pc' = 3575 ∧ st = [.int 1] ∧ h' = hc)
/-- WHAT THE PURE LEVEL OWES -/
def mm_Pure : Prop := ∀ (L : Nat) (xs : Nat → Int32), L ≤ 24 → ∃ (d : Nat) (Inv : Nat → mm_H → List Value → Prop), d ≤ 1000 ∧
  mm_Turn d 0 (mm_h0 ((List.range L).map (fun j => .int (xs j)))) (mm_in 9 [.ref 0]) 224 1218 (Inv 0) ∧
  ∀ (k : Nat) (hc : mm_H) (lc : List Value), Inv k hc lc → ∃ (σ : Nat → Nat) (hv : mm_H) (lv : List Value), mm_Emb σ hv hc ∧ mm_EmbL σ hv.2.1 lv lc ∧ ((k < 4 ∧ mm_Turn d 28 hv lv 299950 1375000 (Inv (k + 1))) ∨ mm_Last d hv lv)
end PURE0
