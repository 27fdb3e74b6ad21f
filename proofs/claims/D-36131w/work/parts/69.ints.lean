set_option maxRecDepth 100000
section INTS
/-! small Integers whose number isn't written out -/
def IA (R : Nat → Option mm_E) : Prop := ∀ k : Nat, k < 128 → R (144 + k) = some (11, false, [.int (Int32.ofNat k)])
theorem st_hi (sc : List Value) : ∀ a : Nat, 16 ≤ a → a < 272 → mm_st sc a = some (11, false, [.int (vb_c (a - 16))])
  | 0, h, _ => absurd h (by omega)
  | 1, h, _ => absurd h (by omega)
  | 2, h, _ => absurd h (by omega)
  | 3, h, _ => absurd h (by omega)
  | 4, h, _ => absurd h (by omega)
  | 5, h, _ => absurd h (by omega)
  | 6, h, _ => absurd h (by omega)
  | 7, h, _ => absurd h (by omega)
  | 8, h, _ => absurd h (by omega)
  | n + 9, h, h2 => by
    show (if 16 ≤ n + 9 ∧ n + 9 < 272 then some ((11, false, [Value.int (vb_c (n + 9 - 16))]) : mm_E) else none) = _
    rw [if_pos ⟨h, h2⟩]
theorem ia_can {sc : List Value} {M : Nat → cn_L} : IA (cn_R sc M) := fun k hk => by
  unfold cn_R
  rw [show ow (144 + k) = 0 from ow_0.mpr (by omega)]
  show mm_st sc (144 + k) = _
  rw [st_hi sc (144 + k) (by omega) (by omega)]
  have e : vb_c (144 + k - 16) = Int32.ofNat k := by
    rw [show 144 + k - 16 = k + 128 by omega]
    unfold vb_c
    rw [Int32.ofNat_add]
    exact Int32.add_sub_cancel _ _
  rw [e]
theorem int_at {L : cn_L} {R : Nat → Option mm_E} {n kc ks k : Nat} (hI : IA R) (hk : k < 128) (hL : L.all (fun p => Nat.ble 272 p.1 || Nat.blt p.1 144) = true) : mm_get ((L, R), n, kc, ks) (144 + k) = some (11, false, [.int (Int32.ofNat k)]) := by
  show mm_lk L R (144 + k) = _
  rw [lk_mem, hI k hk]
  intro p hp e
  have := List.all_eq_true.mp hL p hp
  simp only [Bool.or_eq_true] at this
  rcases this with h | h
  · have := Nat.le_of_ble_eq_true h
    omega
  · have := Nat.blt_eq.mp h
    omega
section IR
variable {Q : fl_QT} {K : fl_KT} {fs : List fl_Fr} {d d0 m0 pc0 pc1 : Nat} {l0 s0 : List Value} {L : cn_L} {R : Nat → Option mm_E} {n kc ks m pc k : Nat} {ls st : List Value} {h : mm_H}
theorem c_vOfS (hk : k < 128) (hg : mm_get h 8 = some (106, false, (List.range 256).map (fun k => .ref (16 + k)))) (kk : fl_G Q K fs d0 m0 pc1 l0 (.ref (144 + k) :: s0) h) : fl_G Q K ((d0, m0, pc0, pc1, l0, s0) :: fs) d 141 0 [.int (Int32.ofNat k)] [] h := c_vOf k (Nat.blt_eq.mpr hk) rfl hg kk
theorem gl_aastI {i : Int32} {a : Nat} {l l' : List Value} {h' : mm_H} (hI : IA R) (hk : k < 128) (hL : L.all (fun p => Nat.ble 272 p.1 || Nat.blt p.1 144) = true) (e : mm_prog m pc = ac_aast (pc + 1)) (ha : mm_get ((L, R), n, kc, ks) a = some (104, true, l)) (h0 : decide (i < 0) = false)
    (hl : mm_lst none l i.toNatClampNeg (.ref (144 + k)) some = some l') (hp : mm_put ((L, R), n, kc, ks) a (104, true, l') = h') (kk : fl_G Q K fs d m (pc + 1) ls st h') : fl_G Q K fs d m pc ls (.ref (144 + k) :: .int i :: .ref a :: st) ((L, R), n, kc, ks) := by
  refine go_nx (pc' := pc + 1) (ls' := ls) (st' := st) (h' := h') ?_ kk
  rw [e]
  show (match mm_get ((L, R), n, kc, ks) a, mm_get ((L, R), n, kc, ks) (144 + k) with
    | some (104, true, l), some (c, _, _) => if c ∈ mm_toO then (if i < 0 then mm_sk else mm_lst mm_sk l i.toNatClampNeg (.ref (144 + k)) (fun l' => mm_putK ((L, R), n, kc, ks) a (104, true, l') (fun h' => mm_nx (pc + 1) ls st h'))) else mm_sk
    | _, _ => mm_sk) = _
  rw [ha, int_at hI hk hL]
  show (if (11 : Nat) ∈ mm_toO then (if i < 0 then mm_sk else mm_lst mm_sk l i.toNatClampNeg (.ref (144 + k)) (fun l' => mm_putK ((L, R), n, kc, ks) a (104, true, l') (fun h' => mm_nx (pc + 1) ls st h'))) else mm_sk) = _
  rw [if_pos (show (11 : Nat) ∈ mm_toO by decide), if_neg (of_decide_eq_false h0), mm_lst_eq]
  rw [mm_lst_eq] at hl
  split at hl
  · rename_i hlt
    cases hl
    rw [if_pos hlt, mm_putK_eq, hp]
  · cases hl
theorem gl_unboxI (hI : IA R) (hk : k < 128) (hL : L.all (fun p => Nat.ble 272 p.1 || Nat.blt p.1 144) = true) (e1 : mm_prog m pc = ac_cc [11] (pc + 3)) (e2 : mm_prog m (pc + 3) = ac_cv [(11, 189)] 0 (pc + 6)) (hs : decide (st.length ≤ 4) = true)
    (kk : fl_G Q K fs (d + 1) m (pc + 6) ls (.int (Int32.ofNat k) :: st) ((L, R), n, kc, ks)) : fl_G Q K fs (d + 1) m pc ls (.ref (144 + k) :: st) ((L, R), n, kc, ks) := by
  have hg := int_at (L := L) (R := R) (n := n) (kc := kc) (ks := ks) hI hk hL
  refine go_nx (pc' := pc + 3) (ls' := ls) (st' := .ref (144 + k) :: st) (h' := ((L, R), n, kc, ks)) ?_ ?_
  · rw [e1]
    show (match mm_get ((L, R), n, kc, ks) (144 + k) with
      | some (c, d, _) => if c ∈ [11] ∧ (c < 100 ∨ d = true) then mm_nx (pc + 3) ls (.ref (144 + k) :: st) ((L, R), n, kc, ks) else mm_sk
      | none => mm_sk) = _
    rw [hg]
    dsimp only
    rw [if_pos (by decide)]
  · refine go_cl (m' := 189) (as := [.ref (144 + k)]) (pc' := pc + 6) (ls' := ls) (st' := st) (h' := ((L, R), n, kc, ks)) ?_ (goM_in (ls := [.ref (144 + k)]) rfl ?_)
    · rw [e2]
      show (match mm_get ((L, R), n, kc, ks) (144 + k) with
        | some (c, _, _) => (match [(11, 189)].lookup c with
          | some m => if st.length ≤ 4 then mm_cl m [.ref (144 + k)] (pc + 6) ls st ((L, R), n, kc, ks) else mm_sk
          | none => mm_sk)
        | none => mm_sk) = _
      rw [hg]
      show (if st.length ≤ 4 then mm_cl 189 [.ref (144 + k)] (pc + 6) ls st ((L, R), n, kc, ks) else mm_sk) = _
      rw [if_pos (of_decide_eq_true hs)]
    · refine go_nx rfl ?_
      refine go_nx (pc' := 4) (ls' := [.ref (144 + k)]) (st' := [.int (Int32.ofNat k)]) (h' := ((L, R), n, kc, ks)) ?_ ?_
      · show (match mm_get ((L, R), n, kc, ks) (144 + k) with
          | some (c', _, fs) => if c' = 11 then mm_nth mm_sk fs 0 (fun v => mm_nx 4 [.ref (144 + k)] (v :: []) ((L, R), n, kc, ks)) else mm_sk
          | none => mm_sk) = _
        rw [hg]
        rfl
      · exact go_rta rfl kk
end IR
theorem sg_sm {t : List (Nat × Nat)} (ht : t.all (fun p => Nat.ble 272 p.1) = true) {a : Nat} (ha : a < 272) : sg t a = a := by
  rcases sg_cases t a with ⟨h, -⟩ | h
  · exact h
  · have := Nat.le_of_ble_eq_true (List.all_eq_true.mp ht _ h)
    have : 272 ≤ a := this
    omega
/-- values that are null or small Integers -/
def IV (vs : List Value) : Prop := ∀ v ∈ vs, v = .null ∨ ∃ k : Nat, k < 128 ∧ v = .ref (144 + k)
theorem iv_nil : IV [] := fun v h => by cases h
theorem iv_null {l : List Value} (h : IV l) : IV (.null :: l) := fun v hv => by
  rcases List.mem_cons.mp hv with rfl | hv
  · exact Or.inl rfl
  · exact h v hv
theorem iv_k {k : Nat} {l : List Value} (hk : k < 128) (h : IV l) : IV (.ref (144 + k) :: l) := fun v hv => by
  rcases List.mem_cons.mp hv with rfl | hv
  · exact Or.inr ⟨k, hk, rfl⟩
  · exact h v hv
theorem ck_ints {L : cn_L} {R : Nat → Option mm_E} {t : List (Nat × Nat)} {a : Nat} {vs : List Value} {l : cn_L} (ht : t.all (fun p => Nat.ble 272 p.1) = true) (h : mm_lk L R (sg t a) = some (104, true, vs)) (hv : IV vs) (k : ckK L R t l) : ckK L R t ((a, 104, true, vs) :: l) := by
  refine ⟨?_, k⟩
  rw [map_id (σ := sg t) (fun v hm b hb => ?_)]
  · exact h
  · rcases hv v hm with e | ⟨k, hk, e⟩
    · rw [e] at hb; cases hb
    · rw [e] at hb
      cases hb
      exact sg_sm ht (by omega)
theorem iv_okB {X : Nat} {vs : List Value} (h : IV vs) : vs.all (okB X) = true := List.all_eq_true.mpr (fun v hv => by
  rcases h v hv with rfl | ⟨k, hk, rfl⟩
  · rfl
  · simp only [okB, Bool.or_eq_true]
    exact Or.inr (Nat.blt_eq.mpr (by omega)))
end INTS
