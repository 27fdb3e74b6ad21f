/-! THE SMALL MACHINE: entries (kind, dynamic?, slots) at small addresses; a heap: entries, next address, cells made, slots made; what an instruction does (mm_R): go on, call, return, throw, stuck -/
abbrev mm_E : Type := Nat × Bool × List Value
abbrev mm_F : Type := List (Nat × mm_E) × (Nat → Option mm_E)
abbrev mm_H : Type := mm_F × Nat × Nat × Nat
abbrev mm_R : Type := (Nat × List Value × List Value × mm_H) ⊕ ((Nat × List Value × Nat × List Value × List Value × mm_H) ⊕ ((Option Value × mm_H) ⊕ ((Nat × mm_H) ⊕ Unit)))
abbrev mm_A : Type := List Value → List Value → mm_H → mm_R
abbrev mm_O : Type := (Option Value ⊕ Nat) × mm_H
abbrev mm_nx (pc : Nat) (ls st : List Value) (h : mm_H) : mm_R := .inl (pc, ls, st, h)
abbrev mm_cl (m : Nat) (as : List Value) (pc : Nat) (ls st : List Value) (h : mm_H) : mm_R := .inr (.inl (m, as, pc, ls, st, h))
abbrev mm_rt (v : Option Value) (h : mm_H) : mm_R := .inr (.inr (.inl (v, h)))
abbrev mm_th (k : Nat) (h : mm_H) : mm_R := .inr (.inr (.inr (.inl (k, h))))
abbrev mm_sk : mm_R := .inr (.inr (.inr (.inr ())))
/-- the cells laid down in a run, over a heap -/
def mm_lk : List (Nat × mm_E) → (Nat → Option mm_E) → Nat → Option mm_E
  | [], r, a => r a
  | (b, e) :: l, r, a => match Nat.beq a b with
    | true => some e
    | false => mm_lk l r a
def mm_sv {α : Type} : List (Nat × mm_E) → Nat → mm_E → (List (Nat × mm_E) → α) → α
  | [], a, e, k => k [(a, e)]
  | (b, e0) :: l, a, e, k => match Nat.beq a b with
    | true => k ((b, e) :: l)
    | false => mm_sv l a e (fun l' => k ((b, e0) :: l'))
def mm_get (h : mm_H) (a : Nat) : Option mm_E := mm_lk h.1.1 h.1.2 a
def mm_putK {α : Type} (h : mm_H) (a : Nat) (e : mm_E) (k : mm_H → α) : α := match h with
  | ((l, r), c) => mm_sv l a e (fun l' => k ((l', r), c))
def mm_put (h : mm_H) (a : Nat) (e : mm_E) : mm_H := mm_putK h a e (fun h' => h')
def mm_newK {α : Type} (h : mm_H) (e : mm_E) (k : Nat → mm_H → α) : α := match h with
  | ((l, r), n, kc, ks) => k n (((n, e) :: l, r), n + 1, kc + 1, ks + e.2.2.length)
def mm_new (h : mm_H) (e : mm_E) : mm_H := mm_newK h e (fun _ h' => h')
/-- the address of a caught exception: nothing is known of it -/
def mm_gh (h : mm_H) : mm_H := (h.1, h.2.1 + 1, h.2.2.1, h.2.2.2)
/-- what an exception's making costs -/
def mm_pay (h : mm_H) : mm_H := (h.1, h.2.1, h.2.2.1 + 1, h.2.2.2 + 6)
theorem mm_sv_k {α : Type} : ∀ (l : List (Nat × mm_E)) (a : Nat) (e : mm_E) (k : List (Nat × mm_E) → α), mm_sv l a e k = k (mm_sv l a e id)
  | [], a, e, k => rfl
  | (b, e0) :: l, a, e, k => by
    simp only [mm_sv]
    split
    · rfl
    · rw [mm_sv_k l a e (fun l' => k ((b, e0) :: l')), mm_sv_k l a e (fun l' => id ((b, e0) :: l'))]
      rfl
theorem mm_lk_sv : ∀ (l : List (Nat × mm_E)) (r : Nat → Option mm_E) (a : Nat) (e : mm_E) (b : Nat), mm_lk (mm_sv l a e id) r b = if b = a then some e else mm_lk l r b
  | [], r, a, e, b => by
    simp only [mm_sv, mm_lk, id]
    cases hb : Nat.beq b a with
    | true => simp [Nat.eq_of_beq_eq_true hb]
    | false => simp [Nat.ne_of_beq_eq_false hb]
  | (c, e0) :: l, r, a, e, b => by
    simp only [mm_sv]
    cases hac : Nat.beq a c with
    | true =>
      have h1 := Nat.eq_of_beq_eq_true hac
      subst h1
      simp only [mm_lk, id]
      cases hb : Nat.beq b a with
      | true => simp [Nat.eq_of_beq_eq_true hb]
      | false => simp [Nat.ne_of_beq_eq_false hb]
    | false =>
      have h1 := Nat.ne_of_beq_eq_false hac
      show mm_lk (mm_sv l a e (fun l' => (c, e0) :: l')) r b = _
      rw [mm_sv_k l a e (fun l' => (c, e0) :: l')]
      simp only [mm_lk]
      cases hb : Nat.beq b c with
      | true =>
        have h2 := Nat.eq_of_beq_eq_true hb
        subst h2
        rw [if_neg (Ne.symm h1)]
      | false => exact mm_lk_sv l r a e b
theorem mm_putK_eq {α : Type} (h : mm_H) (a : Nat) (e : mm_E) (k : mm_H → α) : mm_putK h a e k = k (mm_put h a e) := by
  obtain ⟨⟨l, r⟩, c⟩ := h
  simp only [mm_putK, mm_put]
  rw [mm_sv_k, mm_sv_k l a e (fun l' => ((l', r), c))]
theorem mm_get_put (h : mm_H) (a : Nat) (e : mm_E) (b : Nat) : mm_get (mm_put h a e) b = if b = a then some e else mm_get h b := by
  obtain ⟨⟨l, r⟩, c⟩ := h
  simp only [mm_get, mm_put, mm_putK]
  rw [mm_sv_k]
  exact mm_lk_sv l r a e b
theorem mm_put_2 (h : mm_H) (a : Nat) (e : mm_E) : (mm_put h a e).2 = h.2 := by
  obtain ⟨⟨l, r⟩, c⟩ := h
  simp only [mm_put, mm_putK]
  rw [mm_sv_k]
theorem mm_newK_eq {α : Type} (h : mm_H) (e : mm_E) (k : Nat → mm_H → α) : mm_newK h e k = k h.2.1 (mm_new h e) := by
  obtain ⟨⟨l, r⟩, n, kc, ks⟩ := h
  rfl
theorem mm_get_new (h : mm_H) (e : mm_E) (b : Nat) : mm_get (mm_new h e) b = if b = h.2.1 then some e else mm_get h b := by
  obtain ⟨⟨l, r⟩, n, kc, ks⟩ := h
  simp only [mm_get, mm_new, mm_newK, mm_lk]
  cases hb : Nat.beq b n with
  | true => simp [Nat.eq_of_beq_eq_true hb]
  | false => simp [Nat.ne_of_beq_eq_false hb]
theorem mm_new_2 (h : mm_H) (e : mm_E) : (mm_new h e).2 = (h.2.1 + 1, h.2.2.1 + 1, h.2.2.2 + e.2.2.length) := by
  obtain ⟨⟨l, r⟩, n, kc, ks⟩ := h
  rfl
theorem mm_get_gh (h : mm_H) (b : Nat) : mm_get (mm_gh h) b = mm_get h b := rfl
theorem mm_get_pay (h : mm_H) (b : Nat) : mm_get (mm_pay h) b = mm_get h b := rfl
def mm_c2 : Value → Bool
  | .long _ => true
  | .double _ => true
  | _ => false
def mm_at : List Value → Nat → Value
  | [], _ => .retAddr 0
  | a :: _, 0 => a
  | _ :: l, n + 1 => mm_at l n
/-- storing a value of one slot; a long ahead of it is lost -/
def mm_s1 : Nat → List Value → Value → List Value
  | _, [], _ => []
  | 0, _ :: l, v => v :: l
  | 1, a :: l, v => (match a with
      | .long _ => .retAddr 0
      | .double _ => .retAddr 0
      | b => b) :: mm_s1 0 l v
  | n + 2, a :: l, v => a :: mm_s1 (n + 1) l v
def mm_s2 : Nat → List Value → Value → List Value
  | _, [], _ => []
  | 0, _ :: [], v => [v]
  | 0, _ :: _ :: l, v => v :: .retAddr 0 :: l
  | 1, a :: l, v => (match a with
      | .long _ => .retAddr 0
      | .double _ => .retAddr 0
      | b => b) :: mm_s2 0 l v
  | n + 2, a :: l, v => a :: mm_s2 (n + 1) l v
/-- the same, with what follows -/
def mm_t1 {α : Type} (sk : α) : Nat → List Value → Value → (List Value → α) → α
  | _, [], _, _ => sk
  | 0, _ :: l, v, k => k (v :: l)
  | 1, a :: l, v, k => (match a with
      | .long _ => mm_t1 sk 0 l v (fun l' => k (.retAddr 0 :: l'))
      | .double _ => mm_t1 sk 0 l v (fun l' => k (.retAddr 0 :: l'))
      | b => mm_t1 sk 0 l v (fun l' => k (b :: l')))
  | n + 2, a :: l, v, k => mm_t1 sk (n + 1) l v (fun l' => k (a :: l'))
def mm_t2 {α : Type} (sk : α) : Nat → List Value → Value → (List Value → α) → α
  | _, [], _, _ => sk
  | 0, _ :: [], _, _ => sk
  | 0, _ :: _ :: l, v, k => k (v :: .retAddr 0 :: l)
  | 1, a :: l, v, k => (match a with
      | .long _ => mm_t2 sk 0 l v (fun l' => k (.retAddr 0 :: l'))
      | .double _ => mm_t2 sk 0 l v (fun l' => k (.retAddr 0 :: l'))
      | b => mm_t2 sk 0 l v (fun l' => k (b :: l')))
  | n + 2, a :: l, v, k => mm_t2 sk (n + 1) l v (fun l' => k (a :: l'))
theorem mm_t1_eq {α : Type} (sk : α) : ∀ (i : Nat) (l : List Value) (v : Value) (k : List Value → α), mm_t1 sk i l v k = if i < l.length then k (mm_s1 i l v) else sk
  | 0, [], v, k => by simp [mm_t1]
  | n + 1, [], v, k => by cases n <;> simp [mm_t1]
  | 0, a :: l, v, k => by simp [mm_t1, mm_s1]
  | 1, a :: l, v, k => by
    have ih := mm_t1_eq sk 0 l v
    cases a <;> simp only [mm_t1, mm_s1, ih, List.length_cons] <;> (by_cases h : 0 < l.length <;> simp [h] <;> omega)
  | n + 2, a :: l, v, k => by
    have ih := mm_t1_eq sk (n + 1) l v
    simp only [mm_t1, mm_s1, ih, List.length_cons, show (n + 2 < l.length + 1) ↔ (n + 1 < l.length) from by omega]
theorem mm_t2_eq {α : Type} (sk : α) : ∀ (i : Nat) (l : List Value) (v : Value) (k : List Value → α), mm_t2 sk i l v k = if i + 1 < l.length then k (mm_s2 i l v) else sk
  | 0, [], v, k => by simp [mm_t2]
  | n + 1, [], v, k => by cases n <;> simp [mm_t2]
  | 0, a :: [], v, k => by simp [mm_t2]
  | 0, a :: b :: l, v, k => by simp [mm_t2, mm_s2]
  | 1, a :: l, v, k => by
    have ih := mm_t2_eq sk 0 l v
    cases a <;> simp only [mm_t2, mm_s2, ih, List.length_cons] <;> (by_cases h : 0 + 1 < l.length <;> simp [h] <;> omega)
  | n + 2, a :: l, v, k => by
    have ih := mm_t2_eq sk (n + 1) l v
    simp only [mm_t2, mm_s2, ih, List.length_cons, show (n + 2 + 1 < l.length + 1) ↔ (n + 1 + 1 < l.length) from by omega]
/-- the topmost n values, in the order in which they were laid, and the rest -/
def mm_pop {α : Type} (sk : α) : Nat → List Value → List Value → (List Value → List Value → α) → α
  | 0, st, acc, k => k acc st
  | _ + 1, [], _, _ => sk
  | n + 1, v :: st, acc, k => mm_pop sk n st (v :: acc) k
theorem mm_pop_eq {α : Type} (sk : α) : ∀ (n : Nat) (st acc : List Value) (k : List Value → List Value → α), mm_pop sk n st acc k = if n ≤ st.length then k ((st.take n).reverse ++ acc) (st.drop n) else sk
  | 0, st, acc, k => by simp [mm_pop]
  | n + 1, [], acc, k => by simp [mm_pop]
  | n + 1, v :: st, acc, k => by
    simp only [mm_pop, mm_pop_eq sk n st (v :: acc) k, List.length_cons]
    by_cases h : n ≤ st.length <;> simp [h]
/-- the locals at a method's entry: a long takes two; laid over nL unset ones -/
def mm_lay {α : Type} (sk : α) : Nat → List Value → (List Value → α) → α
  | 0, [], k => k []
  | n + 1, [], k => mm_lay sk n [] (fun l => k (.retAddr 0 :: l))
  | 0, _ :: _, _ => sk
  | 1, v :: vs, k => (match v with
      | .long _ => sk
      | .double _ => sk
      | b => mm_lay sk 0 vs (fun l => k (b :: l)))
  | n + 2, v :: vs, k => (match v with
      | .long x => mm_lay sk n vs (fun l => k (.long x :: .retAddr 0 :: l))
      | .double x => mm_lay sk n vs (fun l => k (.double x :: .retAddr 0 :: l))
      | b => mm_lay sk (n + 1) vs (fun l => k (b :: l)))
def mm_in : Nat → List Value → List Value
  | 0, [] => []
  | n + 1, [] => .retAddr 0 :: mm_in n []
  | 0, _ :: _ => []
  | 1, v :: vs => v :: mm_in 0 vs
  | n + 2, v :: vs => if mm_c2 v = true then v :: .retAddr 0 :: mm_in n vs else v :: mm_in (n + 1) vs
/-- is there room for the arguments -/
def mm_fit : Nat → List Value → Bool
  | _, [] => true
  | 0, _ :: _ => false
  | 1, v :: vs => !mm_c2 v && mm_fit 0 vs
  | n + 2, v :: vs => if mm_c2 v = true then mm_fit n vs else mm_fit (n + 1) vs
theorem mm_lay_eq {α : Type} (sk : α) : ∀ (n : Nat) (vs : List Value) (k : List Value → α), mm_lay sk n vs k = if mm_fit n vs = true then k (mm_in n vs) else sk
  | 0, [], k => by simp [mm_lay, mm_fit, mm_in]
  | n + 1, [], k => by simp [mm_lay, mm_in, mm_lay_eq sk n [], mm_fit]
  | 0, v :: vs, k => by simp [mm_lay, mm_fit]
  | 1, v :: vs, k => by cases v <;> simp [mm_lay, mm_lay_eq sk 0 vs, mm_fit, mm_in, mm_c2]
  | n + 2, v :: vs, k => by cases v <;> simp [mm_lay, mm_lay_eq sk n vs, mm_lay_eq sk (n + 1) vs, mm_fit, mm_in, mm_c2]
abbrev mm_X : Type := (Nat × List Value × List Value × mm_H) ⊕ mm_O
section RUN
variable (P : Nat → Nat → mm_A) (hd : Nat → Nat → Nat → Option Nat) (nl : Nat → Nat)
/-- n steps of a method's body, or fewer if it ends -/
def mm_sx (cf : Nat → List Value → mm_H → Option mm_O) (m : Nat) : Nat → Nat → List Value → List Value → mm_H → Option mm_X
  | 0, pc, ls, st, h => some (.inl (pc, ls, st, h))
  | n + 1, pc, ls, st, h => match P m pc ls st h with
    | .inl (pc', ls', st', h') => mm_sx cf m n pc' ls' st' h'
    | .inr (.inl (m', as, pc', ls', st', h')) => (match cf m' as h' with
      | some (.inl none, h2) => mm_sx cf m n pc' ls' st' h2
      | some (.inl (some v), h2) => mm_sx cf m n pc' ls' (v :: st') h2
      | some (.inr k, h2) => (match hd m pc k with
        | some pc2 => mm_sx cf m n pc2 ls' [.ref h2.2.1] (mm_gh h2)
        | none => some (.inr (.inr k, h2)))
      | none => none)
    | .inr (.inr (.inl (v, h'))) => some (.inr (.inl v, h'))
    | .inr (.inr (.inr (.inl (k, h')))) => (match hd m pc k with
        | some _ => none
        | none => some (.inr (.inr k, h')))
    | .inr (.inr (.inr (.inr _))) => none
def mm_run (N : Nat) : Nat → Nat → List Value → mm_H → Option mm_O
  | 0 => fun _ _ _ => none
  | d + 1 => fun m as h => if mm_fit (nl m) as = true then (match mm_sx P hd (mm_run N d) m N 0 (mm_in (nl m) as) [] h with
    | some (.inr o) => some o
    | _ => none) else none
theorem mm_sx_mono {cf cf' : Nat → List Value → mm_H → Option mm_O} (hc : ∀ m as h o, cf m as h = some o → cf' m as h = some o) (m : Nat) : ∀ (n n' : Nat) (pc : Nat) (ls st : List Value) (h : mm_H) (r : mm_X), (n ≤ n' ∧ r.isRight = true ∨ n' = n) → mm_sx P hd cf m n pc ls st h = some r → mm_sx P hd cf' m n' pc ls st h = some r := by
  intro n
  induction n with
  | zero =>
    intro n' pc ls st h r hn he
    simp only [mm_sx, Option.some.injEq] at he
    subst he
    rcases hn with ⟨_, hr⟩ | rfl
    · cases hr
    · rfl
  | succ n ih =>
    intro n' pc ls st h r hn he
    obtain ⟨n', rfl⟩ : ∃ k, n' = k + 1 := ⟨n' - 1, by omega⟩
    have hn : (n ≤ n' ∧ r.isRight = true ∨ n' = n) := by
      rcases hn with ⟨h1, h2⟩ | h1
      · exact Or.inl ⟨by omega, h2⟩
      · exact Or.inr (by omega)
    simp only [mm_sx] at he ⊢
    generalize P m pc ls st h = q at he ⊢
    match q, he with
    | .inl (pc', ls', st', h'), he => exact ih n' _ _ _ _ _ hn he
    | .inr (.inl (m', as, pc', ls', st', h')), he =>
      dsimp only at he ⊢
      cases hq : cf m' as h' with
      | none => rw [hq] at he; cases he
      | some q =>
        rw [hq] at he
        rw [hc _ _ _ _ hq]
        match q, he with
        | (.inl none, h2), he => exact ih n' _ _ _ _ _ hn he
        | (.inl (some v), h2), he => exact ih n' _ _ _ _ _ hn he
        | (.inr k, h2), he =>
          dsimp only at he ⊢
          cases hz : hd m pc k with
          | none => rw [hz] at he; exact he
          | some pc2 => rw [hz] at he; exact ih n' _ _ _ _ _ hn he
    | .inr (.inr (.inl (v, h'))), he => exact he
    | .inr (.inr (.inr (.inl (k, h')))), he => exact he
    | .inr (.inr (.inr (.inr u))), he => exact he
theorem mm_run_mono {N N' : Nat} (hN : N ≤ N') : ∀ (d : Nat) (m : Nat) (as : List Value) (h : mm_H) (o : mm_O), mm_run P hd nl N d m as h = some o → mm_run P hd nl N' d m as h = some o := by
  intro d
  induction d with
  | zero => intro m as h o he; simp [mm_run] at he
  | succ d ih =>
    intro m as h o he
    simp only [mm_run] at he ⊢
    split at he
    · rename_i hf
      rw [if_pos hf]
      split at he
      · rename_i o' ho
        cases he
        rw [mm_sx_mono P hd (fun m as h o q => ih m as h o q) m N N' _ _ _ _ _ (Or.inl ⟨hN, rfl⟩) ho]
      · cases he
    · cases he
def mm_Go (d m pc : Nat) (ls st : List Value) (h : mm_H) (Q : Option Value ⊕ Nat → mm_H → Prop) (K : Nat → List Value → List Value → mm_H → Prop) : Prop :=
  ∃ (n N : Nat) (r : mm_X), mm_sx P hd (mm_run P hd nl N d) m n pc ls st h = some r ∧ match r with
    | .inl (pc', ls', st', h') => K pc' ls' st' h'
    | .inr (o, h') => Q o h'
def mm_GoM (d m : Nat) (as : List Value) (h : mm_H) (Q : Option Value ⊕ Nat → mm_H → Prop) : Prop := ∃ (N : Nat) (o : mm_O), mm_run P hd nl N d m as h = some o ∧ Q o.1 o.2
end RUN
section GORULES
variable {P : Nat → Nat → mm_A} {hd : Nat → Nat → Nat → Option Nat} {nl : Nat → Nat} {d m pc pc' : Nat} {ls st ls' st' : List Value} {h h' : mm_H} {Q : Option Value ⊕ Nat → mm_H → Prop} {K : Nat → List Value → List Value → mm_H → Prop}
theorem go_stop (k : K pc ls st h) : mm_Go P hd nl d m pc ls st h Q K := ⟨0, 0, _, rfl, k⟩
theorem go_nx (e : P m pc ls st h = mm_nx pc' ls' st' h') (k : mm_Go P hd nl d m pc' ls' st' h' Q K) : mm_Go P hd nl d m pc ls st h Q K := by
  obtain ⟨n, N, o, k1, k2⟩ := k
  refine ⟨n + 1, N, o, ?_, k2⟩
  simp only [mm_sx, e]
  exact k1
theorem go_rt {v : Option Value} (e : P m pc ls st h = mm_rt v h') (k : Q (.inl v) h') : mm_Go P hd nl d m pc ls st h Q K := by
  refine ⟨1, 0, .inr (.inl v, h'), ?_, k⟩
  simp only [mm_sx, e]
theorem go_th {k : Nat} (e : P m pc ls st h = mm_th k h') (hz : hd m pc k = none) (q : Q (.inr k) h') : mm_Go P hd nl d m pc ls st h Q K := by
  refine ⟨1, 0, .inr (.inr k, h'), ?_, q⟩
  simp only [mm_sx, e, hz]
/-- what follows a call -/
def mm_aft (P : Nat → Nat → mm_A) (hd : Nat → Nat → Nat → Option Nat) (nl : Nat → Nat) (d m pc pc' : Nat) (ls' st' : List Value) (Q : Option Value ⊕ Nat → mm_H → Prop) (K : Nat → List Value → List Value → mm_H → Prop) (o : Option Value ⊕ Nat) (h2 : mm_H) : Prop := match o with
  | .inl none => mm_Go P hd nl d m pc' ls' st' h2 Q K
  | .inl (some v) => mm_Go P hd nl d m pc' ls' (v :: st') h2 Q K
  | .inr k => match hd m pc k with
    | some pc2 => mm_Go P hd nl d m pc2 ls' [.ref h2.2.1] (mm_gh h2) Q K
    | none => Q (.inr k) h2
theorem go_cl {m' : Nat} {as : List Value} (e : P m pc ls st h = mm_cl m' as pc' ls' st' h') (k : mm_GoM P hd nl d m' as h' (mm_aft P hd nl d m pc pc' ls' st' Q K)) : mm_Go P hd nl d m pc ls st h Q K := by
  obtain ⟨N1, o1, k1, k2⟩ := k
  have up : ∀ {n2 N2 : Nat} {pc2 : Nat} {l2 s2 : List Value} {hh : mm_H} {r : mm_X}, mm_sx P hd (mm_run P hd nl N2 d) m n2 pc2 l2 s2 hh = some r → mm_sx P hd (mm_run P hd nl (max N1 N2) d) m n2 pc2 l2 s2 hh = some r := by
    intro n2 N2 pc2 l2 s2 hh r q
    exact mm_sx_mono P hd (fun m as h o q => mm_run_mono P hd nl (Nat.le_max_right N1 N2) d m as h o q) m n2 n2 _ _ _ _ _ (Or.inr rfl) q
  have up1 : ∀ N2, mm_run P hd nl (max N1 N2) d m' as h' = some o1 := fun N2 => mm_run_mono P hd nl (Nat.le_max_left N1 N2) d _ _ _ _ k1
  match o1, k2, up1 with
  | (.inl none, h2), k2, up1 =>
    obtain ⟨n2, N2, o, q1, q2⟩ := k2
    refine ⟨n2 + 1, max N1 N2, o, ?_, q2⟩
    simp only [mm_sx, e, up1 N2]
    exact up q1
  | (.inl (some v), h2), k2, up1 =>
    obtain ⟨n2, N2, o, q1, q2⟩ := k2
    refine ⟨n2 + 1, max N1 N2, o, ?_, q2⟩
    simp only [mm_sx, e, up1 N2]
    exact up q1
  | (.inr k, h2), k2, up1 =>
    dsimp only [mm_aft] at k2
    cases hz : hd m pc k with
    | none =>
      rw [hz] at k2
      refine ⟨1, max N1 0, .inr (.inr k, h2), ?_, k2⟩
      simp only [mm_sx, e, up1 0, hz]
    | some pc2 =>
      rw [hz] at k2
      obtain ⟨n2, N2, o, q1, q2⟩ := k2
      refine ⟨n2 + 1, max N1 N2, o, ?_, q2⟩
      simp only [mm_sx, e, up1 N2, hz]
      exact up q1
theorem goM_in {as : List Value} (e : mm_lay none (nl m) as some = some ls) (k : mm_Go P hd nl d m 0 ls [] h Q (fun _ _ _ _ => False)) : mm_GoM P hd nl (d + 1) m as h Q := by
  rw [mm_lay_eq] at e
  split at e
  · rename_i hf
    cases e
    obtain ⟨n, N, o, k1, k2⟩ := k
    match o, k1, k2 with
    | .inl (pc', ls', st', h'), k1, k2 => exact k2.elim
    | .inr o, k1, k2 =>
      refine ⟨max n N, o, ?_, k2⟩
      simp only [mm_run]
      rw [if_pos hf, mm_sx_mono P hd (fun m as h o q => mm_run_mono P hd nl (Nat.le_max_right n N) d m as h o q) m n (max n N) _ _ _ _ _ (Or.inl ⟨Nat.le_max_left n N, rfl⟩) k1]
  · cases e
theorem goM_mono {as : List Value} {Q' : Option Value ⊕ Nat → mm_H → Prop} (k : mm_GoM P hd nl d m as h Q) (q : ∀ o h', Q o h' → Q' o h') : mm_GoM P hd nl d m as h Q' := by
  obtain ⟨N, o, k1, k2⟩ := k
  exact ⟨N, o, k1, q _ _ k2⟩
theorem go_ite {c : Prop} {dc : Decidable c} {p1 p2 : Nat} {l1 l2 s1 s2 : List Value} {h1 h2 : mm_H} (e : P m pc ls st h = @ite mm_R c dc (mm_nx p1 l1 s1 h1) (mm_nx p2 l2 s2 h2)) (k1 : c → mm_Go P hd nl d m p1 l1 s1 h1 Q K) (k2 : ¬ c → mm_Go P hd nl d m p2 l2 s2 h2 Q K) : mm_Go P hd nl d m pc ls st h Q K := by
  by_cases hc : c
  · exact go_nx (by rw [e, if_pos hc]) (k1 hc)
  · exact go_nx (by rw [e, if_neg hc]) (k2 hc)
theorem go_t {c : Prop} {dc : Decidable c} {p1 p2 : Nat} {l1 l2 s1 s2 : List Value} {h1 h2 : mm_H} (e : P m pc ls st h = @ite mm_R c dc (mm_nx p1 l1 s1 h1) (mm_nx p2 l2 s2 h2)) (hc : c) (k1 : mm_Go P hd nl d m p1 l1 s1 h1 Q K) : mm_Go P hd nl d m pc ls st h Q K := go_nx (by rw [e, if_pos hc]) k1
theorem go_f {c : Prop} {dc : Decidable c} {p1 p2 : Nat} {l1 l2 s1 s2 : List Value} {h1 h2 : mm_H} (e : P m pc ls st h = @ite mm_R c dc (mm_nx p1 l1 s1 h1) (mm_nx p2 l2 s2 h2)) (hc : ¬ c) (k1 : mm_Go P hd nl d m p2 l2 s2 h2 Q K) : mm_Go P hd nl d m pc ls st h Q K := go_nx (by rw [e, if_neg hc]) k1
/-- returning into a caller -/
theorem go_rta {d0 m0 pc0 pc1 : Nat} {l0 s0 : List Value} {v : Value} {Q0 : Option Value ⊕ Nat → mm_H → Prop} {K0 : Nat → List Value → List Value → mm_H → Prop} (e : P m pc ls st h = mm_rt (some v) h') (k : mm_Go P hd nl d0 m0 pc1 l0 (v :: s0) h' Q0 K0) : mm_Go P hd nl d m pc ls st h (mm_aft P hd nl d0 m0 pc0 pc1 l0 s0 Q0 K0) K := go_rt e k
theorem go_rtv {d0 m0 pc0 pc1 : Nat} {l0 s0 : List Value} {Q0 : Option Value ⊕ Nat → mm_H → Prop} {K0 : Nat → List Value → List Value → mm_H → Prop} (e : P m pc ls st h = mm_rt none h') (k : mm_Go P hd nl d0 m0 pc1 l0 s0 h' Q0 K0) : mm_Go P hd nl d m pc ls st h (mm_aft P hd nl d0 m0 pc0 pc1 l0 s0 Q0 K0) K := go_rt e k
/-- an exception at a call: on to the caller, or into the handler -/
theorem ex_up {d0 m0 pc0 pc1 : Nat} {l0 s0 : List Value} {k : Nat} {Q0 : Option Value ⊕ Nat → mm_H → Prop} {K0 : Nat → List Value → List Value → mm_H → Prop} (hz : hd m0 pc0 k = none) (q : Q0 (.inr k) h) : mm_aft P hd nl d0 m0 pc0 pc1 l0 s0 Q0 K0 (.inr k) h := by
  dsimp only [mm_aft]
  rw [hz]
  exact q
theorem ex_in {d0 m0 pc0 pc1 pc2 : Nat} {l0 s0 : List Value} {k : Nat} {Q0 : Option Value ⊕ Nat → mm_H → Prop} {K0 : Nat → List Value → List Value → mm_H → Prop} (hz : hd m0 pc0 k = some pc2) (q : mm_Go P hd nl d0 m0 pc2 l0 [.ref h.2.1] (mm_gh h) Q0 K0) : mm_aft P hd nl d0 m0 pc0 pc1 l0 s0 Q0 K0 (.inr k) h := by
  dsimp only [mm_aft]
  rw [hz]
  exact q
end GORULES
