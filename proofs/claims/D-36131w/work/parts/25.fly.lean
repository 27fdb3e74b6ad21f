set_option maxRecDepth 100000
section FLY
/-! running the small machine many steps at once: a stack of callers, stops at places named ahead -/
abbrev fl_Fr : Type := Nat × Nat × Nat × Nat × List Value × List Value
abbrev fl_KT : Type := Nat → List Value → List Value → mm_H → Prop
abbrev fl_QT : Type := Option Value ⊕ Nat → mm_H → Prop
abbrev fl_S : Type := Option (List fl_Fr × Nat × Nat × Nat × List Value × List Value × mm_H)
def fl_K (K : fl_KT) : List fl_Fr → fl_KT
  | [] => K
  | _ :: _ => fun _ _ _ _ => False
def fl_Q (Q : fl_QT) (K : fl_KT) : List fl_Fr → fl_QT
  | [] => Q
  | (d, m, pc, pc1, ls, st) :: fs => mm_aft mm_prog mm_hnd mm_nl d m pc pc1 ls st (fl_Q Q K fs) (fl_K K fs)
def fl_G (Q : fl_QT) (K : fl_KT) (fs : List fl_Fr) (d m pc : Nat) (ls st : List Value) (h : mm_H) : Prop := mm_Go mm_prog mm_hnd mm_nl d m pc ls st h (fl_Q Q K fs) (fl_K K fs)
def fl_GS (Q : fl_QT) (K : fl_KT) (s : fl_S) : Prop := match s with
  | some (fs, d, m, pc, ls, st, h) => fl_G Q K fs d m pc ls st h
  | none => False
abbrev fl_k2 : Type := mm_A → fl_cd → List fl_cd → List fl_Fr → Nat → Nat → Nat → List Value → List Value → mm_H → fl_S
/-- where the code goes on -/
def fl_fd (m pc : Nat) (sk : fl_S) (k : mm_A → fl_cd → fl_S) : fl_S := match fl_lk m pc with
  | [] => sk
  | (q, a) :: t => bif Nat.beq q pc then k a t else sk
def fl_at (m pc : Nat) (c : fl_cd) (sk : fl_S) (k : mm_A → fl_cd → fl_S) : fl_S := match c with
  | [] => fl_fd m pc sk k
  | (q, a) :: t => bif Nat.beq q pc then k a t else fl_fd m pc sk k
def fl_up (sk : fl_S) (j : Nat) (h : mm_H) (k : fl_k2) : List fl_Fr → fl_S
  | [] => sk
  | (d, m, pc, _, ls, _) :: fs => match mm_hnd m pc j with
    | some pc2 => fl_fd m pc2 sk (fun a t => k a t [] fs d m pc2 ls [.ref h.2.1] (mm_gh h))
    | none => fl_up sk j h k fs
def fl_do (t : fl_cd) (cs : List fl_cd) (fs : List fl_Fr) (d m pc : Nat) (ls st : List Value) (h : mm_H) (k : fl_k2) (z : mm_R) : fl_S := match z with
  | .inl (pc', ls', st', h') => fl_at m pc' t none (fun a t' => k a t' cs fs d m pc' ls' st' h')
  | .inr (.inl (m', as, pc', ls', st', h')) => (match d with
    | 0 => some (fs, 0, m, pc, ls, st, h)
    | d' + 1 => bif Nat.blt m' 379 then (match fl_en m' with
      | (nl, c') => mm_lay (some (fs, d' + 1, m, pc, ls, st, h)) nl as (fun l => fl_at m' 0 c' none (fun a t' => k a t' (t :: cs) ((d' + 1, m, pc, pc', ls', st') :: fs) d' m' 0 l [] h'))) else some (fs, d' + 1, m, pc, ls, st, h))
  | .inr (.inr (.inl (v, h'))) => (match fs with
    | [] => some ([], d, m, pc, ls, st, h)
    | (d0, m0, pc0, pc1, l0, s0) :: fs' => (match cs with
      | [] => (match v with
        | none => fl_fd m0 pc1 none (fun a t' => k a t' [] fs' d0 m0 pc1 l0 s0 h')
        | some w => fl_fd m0 pc1 none (fun a t' => k a t' [] fs' d0 m0 pc1 l0 (w :: s0) h'))
      | c0 :: cs' => (match v with
        | none => fl_at m0 pc1 c0 none (fun a t' => k a t' cs' fs' d0 m0 pc1 l0 s0 h')
        | some w => fl_at m0 pc1 c0 none (fun a t' => k a t' cs' fs' d0 m0 pc1 l0 (w :: s0) h'))))
  | .inr (.inr (.inr (.inl (j, h')))) => (match mm_hnd m pc j with
    | none => fl_up (some (fs, d, m, pc, ls, st, h)) j h' k fs
    | some _ => some (fs, d, m, pc, ls, st, h))
  | .inr (.inr (.inr (.inr _))) => some (fs, d, m, pc, ls, st, h)
def fl_mem : Nat → List Nat → Bool
  | _, [] => false
  | a, b :: l => bif Nat.beq a b then true else fl_mem a l
def fl_sp (m pc : Nat) : List (Nat × Nat) → Bool
  | [] => false
  | (m', pc') :: l => bif Nat.beq pc pc' then (bif Nat.beq m m' then true else fl_sp m pc l) else fl_sp m pc l
noncomputable def fl_run (sp : List (Nat × Nat)) (n : Nat) : fl_k2 := Nat.rec (motive := fun _ => fl_k2) (fun _ _ _ fs d m pc ls st h => some (fs, d, m, pc, ls, st, h)) (fun _ ih a t cs fs d m pc ls st h => fl_do t cs fs d m pc ls st h (fun a t cs fs d m pc ls st h => bif fl_sp m pc sp then some (fs, d, m, pc, ls, st, h) else ih a t cs fs d m pc ls st h) (a ls st h)) n
noncomputable def fl_goo (sp : List (Nat × Nat)) (n : Nat) (fs : List fl_Fr) (d m pc : Nat) (ls st : List Value) (h : mm_H) : fl_S := fl_fd m pc none (fun a t => fl_run sp n a t [] fs d m pc ls st h)
def OKS : List fl_cd → List fl_Fr → Prop
  | [], _ => True
  | _ :: _, [] => True
  | c :: cs, (_, m, _) :: fs => OKc m c ∧ OKS cs fs
theorem oks_nil {fs : List fl_Fr} : OKS [] fs := by cases fs <;> trivial
/-- what the run goes on with is sound -/
def fl_KK (Q : fl_QT) (K : fl_KT) (k : fl_k2) : Prop := ∀ a t cs fs d m pc ls st h, mm_prog m pc = a → OKc m t → OKS cs fs → fl_GS Q K (k a t cs fs d m pc ls st h) → fl_G Q K fs d m pc ls st h
theorem fl_fd_ok {Q : fl_QT} {K : fl_KT} {k : mm_A → fl_cd → fl_S} {C : Prop} {m pc : Nat} {sk : fl_S} (hs : fl_GS Q K sk → C) (hk : ∀ a t, mm_prog m pc = a → OKc m t → fl_GS Q K (k a t) → C) (g : fl_GS Q K (fl_fd m pc sk k)) : C := by
  unfold fl_fd at g
  have hl := okl m pc
  generalize fl_lk m pc = c at g hl
  match c, hl, g with
  | [], _, g => exact hs g
  | (q, a) :: t, hl, g =>
    dsimp only at g
    cases hb : Nat.beq q pc with
    | true =>
      rw [hb] at g
      have := hl (q, a) List.mem_cons_self
      rw [Nat.eq_of_beq_eq_true hb] at this
      exact hk _ _ this (fun x hx => hl x (List.mem_cons_of_mem _ hx)) g
    | false => rw [hb] at g; exact hs g
theorem fl_at_ok {Q : fl_QT} {K : fl_KT} {k : mm_A → fl_cd → fl_S} {C : Prop} {m pc : Nat} {sk : fl_S} {c : fl_cd} (hl : OKc m c) (hs : fl_GS Q K sk → C) (hk : ∀ a t, mm_prog m pc = a → OKc m t → fl_GS Q K (k a t) → C) (g : fl_GS Q K (fl_at m pc c sk k)) : C := by
  unfold fl_at at g
  match c, hl, g with
  | [], _, g => exact fl_fd_ok hs hk g
  | (q, a) :: t, hl, g =>
    dsimp only at g
    cases hb : Nat.beq q pc with
    | true =>
      rw [hb] at g
      have := hl (q, a) List.mem_cons_self
      rw [Nat.eq_of_beq_eq_true hb] at this
      exact hk _ _ this (fun x hx => hl x (List.mem_cons_of_mem _ hx)) g
    | false => rw [hb] at g; exact fl_fd_ok hs hk g
theorem fl_up_ok {Q : fl_QT} {K : fl_KT} {k : fl_k2} {C : Prop} {sk : fl_S} {j : Nat} {h : mm_H} (hk : fl_KK Q K k) (hs : fl_GS Q K sk → C) : ∀ (fs : List fl_Fr), (fl_Q Q K fs (.inr j) h → C) → fl_GS Q K (fl_up sk j h k fs) → C
  | [], _, g => hs g
  | (d, m, pc, pc1, ls, st) :: fs, hq, g => by
    simp only [fl_up] at g
    cases hz : mm_hnd m pc j with
    | some pc2 =>
      rw [hz] at g
      exact fl_fd_ok hs (fun a t h1 h2 g => hq (ex_in hz (hk _ _ _ _ _ _ _ _ _ _ h1 h2 oks_nil g))) g
    | none =>
      rw [hz] at g
      exact fl_up_ok hk hs fs (fun q => hq (ex_up hz q)) g
theorem fl_fd_ok0 {Q : fl_QT} {K : fl_KT} {k : mm_A → fl_cd → fl_S} {C : Prop} {m pc : Nat} (hk : ∀ a t, mm_prog m pc = a → OKc m t → fl_GS Q K (k a t) → C) (g : fl_GS Q K (fl_fd m pc none k)) : C := fl_fd_ok (Q := Q) (K := K) (sk := none) (fun g => False.elim g) hk g
theorem fl_at_ok0 {Q : fl_QT} {K : fl_KT} {k : mm_A → fl_cd → fl_S} {C : Prop} {m pc : Nat} {c : fl_cd} (hl : OKc m c) (hk : ∀ a t, mm_prog m pc = a → OKc m t → fl_GS Q K (k a t) → C) (g : fl_GS Q K (fl_at m pc c none k)) : C := fl_at_ok (Q := Q) (K := K) (sk := none) hl (fun g => False.elim g) hk g
theorem fl_do_ok {Q : fl_QT} {K : fl_KT} {k : fl_k2} (hk : fl_KK Q K k) (t : fl_cd) (cs : List fl_cd) (fs : List fl_Fr) (d m q : Nat) (ls st : List Value) (h : mm_H) (ht : OKc m t) (hcs : OKS cs fs) (g : fl_GS Q K (fl_do t cs fs d m q ls st h k (mm_prog m q ls st h))) : fl_G Q K fs d m q ls st h := by
  generalize hq : mm_prog m q ls st h = z at g
  unfold fl_do at g
  match z, hq, g with
  | .inl (pc', ls', st', h'), hq, g => exact go_nx hq (fl_at_ok0 ht (fun a t' h1 h2 g => hk _ _ _ _ _ _ _ _ _ _ h1 h2 hcs g) g)
  | .inr (.inl (m', as, pc', ls', st', h')), hq, g =>
    match d, g with
    | 0, g => exact g
    | d' + 1, g =>
      dsimp only at g
      cases hm : Nat.blt m' 379 with
      | false => rw [hm] at g; exact g
      | true =>
        rw [hm] at g
        have hn := okn m' (Nat.blt_eq.mp hm)
        have he := oke m'
        generalize fl_en m' = z at g hn he
        obtain ⟨nl, c'⟩ := z
        have hn : nl = mm_nl m' := hn
        have he : OKc m' c' := he
        subst hn
        have g : fl_GS Q K (mm_lay (some (fs, d' + 1, m, q, ls, st, h)) (mm_nl m') as (fun l => fl_at m' 0 c' none (fun a t' => k a t' (t :: cs) ((d' + 1, m, q, pc', ls', st') :: fs) d' m' 0 l [] h'))) := g
        rw [mm_lay_eq] at g
        split at g
        · rename_i hf
          exact fl_at_ok0 he (fun a t' h1 h2 g => go_cl hq (goM_in (by rw [mm_lay_eq, if_pos hf]) (hk _ _ _ _ _ _ _ _ _ _ h1 h2 (show OKS (t :: cs) ((d' + 1, m, q, pc', ls', st') :: fs) from ⟨ht, hcs⟩) g))) g
        · exact g
  | .inr (.inr (.inl (v, h'))), hq, g =>
    match fs, cs, v, hcs, g with
    | [], _, _, _, g => exact g
    | (d0, m0, pc0, pc1, l0, s0) :: fs', [], none, _, g => exact fl_fd_ok0 (fun a t' h1 h2 g => go_rtv hq (hk _ _ _ _ _ _ _ _ _ _ h1 h2 oks_nil g)) g
    | (d0, m0, pc0, pc1, l0, s0) :: fs', [], some w, _, g => exact fl_fd_ok0 (fun a t' h1 h2 g => go_rta hq (hk _ _ _ _ _ _ _ _ _ _ h1 h2 oks_nil g)) g
    | (d0, m0, pc0, pc1, l0, s0) :: fs', c0 :: cs', none, hcs, g => exact fl_at_ok0 hcs.1 (fun a t' h1 h2 g => go_rtv hq (hk _ _ _ _ _ _ _ _ _ _ h1 h2 hcs.2 g)) g
    | (d0, m0, pc0, pc1, l0, s0) :: fs', c0 :: cs', some w, hcs, g => exact fl_at_ok0 hcs.1 (fun a t' h1 h2 g => go_rta hq (hk _ _ _ _ _ _ _ _ _ _ h1 h2 hcs.2 g)) g
  | .inr (.inr (.inr (.inl (j, h')))), hq, g =>
    dsimp only at g
    cases hz : mm_hnd m q j with
    | none =>
      rw [hz] at g
      exact fl_up_ok (sk := some (fs, d, m, q, ls, st, h)) hk (fun g => g) fs (fun z => go_th hq hz z) g
    | some _ =>
      rw [hz] at g
      exact g
  | .inr (.inr (.inr (.inr _))), _, g => exact g
theorem fl_run_ok {Q : fl_QT} {K : fl_KT} (sp : List (Nat × Nat)) : ∀ (n : Nat), fl_KK Q K (fl_run sp n) := by
  intro n
  induction n with
  | zero => intro a t cs fs d m pc ls st h _ _ _ g; exact g
  | succ n ih =>
    intro a t cs fs d m pc ls st h ha ht hcs g
    subst ha
    refine fl_do_ok (k := fun a t cs fs d m pc ls st h => bif fl_sp m pc sp then some (fs, d, m, pc, ls, st, h) else fl_run sp n a t cs fs d m pc ls st h) (fun a t cs fs d m pc ls st h ha ht hcs g => ?_) t cs fs d m pc ls st h ht hcs g
    have g : fl_GS Q K (bif fl_sp m pc sp then some (fs, d, m, pc, ls, st, h) else fl_run sp n a t cs fs d m pc ls st h) := g
    cases hb : fl_sp m pc sp with
    | true => rw [hb] at g; exact g
    | false => rw [hb] at g; exact ih _ _ _ _ _ _ _ _ _ _ ha ht hcs g
theorem fl_goo_ok {Q : fl_QT} {K : fl_KT} {sp : List (Nat × Nat)} {n : Nat} {fs : List fl_Fr} {d m pc : Nat} {ls st : List Value} {h : mm_H} (g : fl_GS Q K (fl_goo sp n fs d m pc ls st h)) : fl_G Q K fs d m pc ls st h :=
  fl_fd_ok0 (Q := Q) (K := K) (C := fl_G Q K fs d m pc ls st h) (fun a t h1 h2 g => fl_run_ok sp n _ _ _ _ _ _ _ _ _ _ h1 h2 oks_nil g) g
section FLYR
variable {Q : fl_QT} {K : fl_KT} {fs fs' : List fl_Fr} {d m pc d' m' pc' : Nat} {ls st ls' st' : List Value} {h h' : mm_H}
/-- up to 4000 steps, or to the first stop -/
theorem gl_fly (sp : List (Nat × Nat)) (e : fl_goo sp 4000 fs d m pc ls st h = some (fs', d', m', pc', ls', st', h')) (k : fl_G Q K fs' d' m' pc' ls' st' h') : fl_G Q K fs d m pc ls st h := fl_goo_ok (by rw [e]; exact k)
/-- just n steps -/
theorem gl_n (n : Nat) (e : fl_goo [] n fs d m pc ls st h = some (fs', d', m', pc', ls', st', h')) (k : fl_G Q K fs' d' m' pc' ls' st' h') : fl_G Q K fs d m pc ls st h := fl_goo_ok (by rw [e]; exact k)
theorem gl_reta {d0 m0 pc0 pc1 : Nat} {l0 s0 : List Value} {v : Value} (e : mm_prog m pc ls st h = mm_rt (some v) h') (k : fl_G Q K fs d0 m0 pc1 l0 (v :: s0) h') : fl_G Q K ((d0, m0, pc0, pc1, l0, s0) :: fs) d m pc ls st h := go_rta e k
theorem gl_retw {d0 m0 pc0 pc1 : Nat} {l0 s0 : List Value} (e : mm_prog m pc ls st h = mm_rt none h') (k : fl_G Q K fs d0 m0 pc1 l0 s0 h') : fl_G Q K ((d0, m0, pc0, pc1, l0, s0) :: fs) d m pc ls st h := go_rtv e k
theorem gl_ret {d0 m0 pc0 pc1 : Nat} {l0 s0 : List Value} {v : Value} (k : fl_G Q K fs d0 m0 pc1 l0 (v :: s0) h) : fl_Q Q K ((d0, m0, pc0, pc1, l0, s0) :: fs) (.inl (some v)) h := k
theorem gl_retv {d0 m0 pc0 pc1 : Nat} {l0 s0 : List Value} (k : fl_G Q K fs d0 m0 pc1 l0 s0 h) : fl_Q Q K ((d0, m0, pc0, pc1, l0, s0) :: fs) (.inl none) h := k
theorem gl_up {d0 m0 pc0 pc1 j : Nat} {l0 s0 : List Value} (hz : mm_hnd m0 pc0 j = none) (k : fl_Q Q K fs (.inr j) h) : fl_Q Q K ((d0, m0, pc0, pc1, l0, s0) :: fs) (.inr j) h := ex_up hz k
theorem gl_in {d0 m0 pc0 pc1 pc2 j : Nat} {l0 s0 : List Value} (hz : mm_hnd m0 pc0 j = some pc2) (k : fl_G Q K fs d0 m0 pc2 l0 [.ref h.2.1] (mm_gh h)) : fl_Q Q K ((d0, m0, pc0, pc1, l0, s0) :: fs) (.inr j) h := ex_in hz k
theorem gl_ite {c : Prop} {dc : Decidable c} {p1 p2 : Nat} {l1 l2 s1 s2 : List Value} {h1 h2 : mm_H} (e : mm_prog m pc ls st h = @ite mm_R c dc (mm_nx p1 l1 s1 h1) (mm_nx p2 l2 s2 h2)) (k1 : c → fl_G Q K fs d m p1 l1 s1 h1) (k2 : ¬ c → fl_G Q K fs d m p2 l2 s2 h2) : fl_G Q K fs d m pc ls st h := go_ite e k1 k2
theorem gl_t {c : Prop} {dc : Decidable c} {p1 p2 : Nat} {l1 l2 s1 s2 : List Value} {h1 h2 : mm_H} (e : mm_prog m pc ls st h = @ite mm_R c dc (mm_nx p1 l1 s1 h1) (mm_nx p2 l2 s2 h2)) (hc : c) (k1 : fl_G Q K fs d m p1 l1 s1 h1) : fl_G Q K fs d m pc ls st h := go_t e hc k1
theorem gl_f {c : Prop} {dc : Decidable c} {p1 p2 : Nat} {l1 l2 s1 s2 : List Value} {h1 h2 : mm_H} (e : mm_prog m pc ls st h = @ite mm_R c dc (mm_nx p1 l1 s1 h1) (mm_nx p2 l2 s2 h2)) (hc : ¬ c) (k1 : fl_G Q K fs d m p2 l2 s2 h2) : fl_G Q K fs d m pc ls st h := go_f e hc k1
theorem gl_end (k : K pc ls st h) : fl_G Q K [] d m pc ls st h := ⟨0, 0, _, rfl, k⟩
/-- the answer of a method, where no caller is on the stack -/
theorem gl_rt {v : Option Value} (e : mm_prog m pc ls st h = mm_rt v h') (k : Q (.inl v) h') : fl_G Q K [] d m pc ls st h := go_rt e k
end FLYR
end FLY
