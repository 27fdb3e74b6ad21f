set_option maxRecDepth 100000
section PBASE
/-! the main cells, the leaves of a turn, contracts of the small checks -/
def lcs (i : Int32) : List Value := [.ref 0, .ref 272, .ref 287, .ref 298, .ref 299, .int i, .retAddr 0, .retAddr 0, .retAddr 0]
def xfl (vp : Value) (f mi cn : Int32) : List Value := [.ref 273, .ref 274, .ref 275, .ref 276, .ref 279, .ref 282, .ref 283, .ref 284, .ref 285, .ref 286, vp, .null, .int f, .int mi, .int cn, .int 0, .int 45]
def mfl (nb f mi th bg : Int32) : List Value := [.ref 288, .ref 289, .ref 290, .ref 291, .ref 292, .ref 293, .ref 294, .ref 295, .ref 296, .ref 297, .int nb, .int f, .int (-1), .int mi, .int 0, .int 0, .int 0, .int th, .int bg, .long 0, .int 45]
def mainL (b0 b1 b2 b3 : Int64) (p0 p1 p2 p3 t0 t1 t2 t3 t4 t5 t6 d0 d1 d2 d3 d4 d5 : Int32) (vp : Value) (f mi cn th nb bg : Int32) (o : Int64) : cn_L :=
  [(272, 0, true, [.ref 273, .ref 274, .ref 275, .ref 276, .ref 279, .ref 282, .ref 283, .ref 284, .ref 285, .ref 286, vp, .null, .int f, .int mi, .int cn, .int 0, .int 45]),
   (287, 21, true, [.ref 288, .ref 289, .ref 290, .ref 291, .ref 292, .ref 293, .ref 294, .ref 295, .ref 296, .ref 297, .int nb, .int f, .int (-1), .int mi, .int 0, .int 0, .int 0, .int th, .int bg, .long 0, .int 45]),
   (298, 101, true, [.long o]), (299, 103, true, [.double 0]),
   (282, 101, true, [.long b0, .long b1, .long b2, .long b3]), (283, 101, true, [.long 0, .long 0, .long 0, .long 0]), (284, 101, true, [.long 0, .long 0, .long 0, .long 0]), (285, 101, true, [.long 0, .long 0, .long 0, .long 0]),
   (286, 100, true, [.int p0, .int p1, .int p2, .int p3]), (293, 100, true, [.int 785, .int 270, .int 896, .int 850]), (294, 100, true, [.int p0, .int p1, .int p2, .int p3]), (295, 101, true, [.long 0, .long 0, .long 0, .long 0]),
   (296, 100, true, [.int t0, .int t1, .int t2, .int t3, .int t4, .int t5, .int t6]), (297, 100, true, [.int d0, .int d1, .int d2, .int d3, .int d4, .int d5])]
theorem cloM_main {b0 b1 b2 b3 : Int64} {p0 p1 p2 p3 t0 t1 t2 t3 t4 t5 t6 d0 d1 d2 d3 d4 d5 : Int32} {vp : Value} {f mi cn th nb bg : Int32} {o : Int64} (h : clB vp = true) : cloM (mainL b0 b1 b2 b3 p0 p1 p2 p3 t0 t1 t2 t3 t4 t5 t6 d0 d1 d2 d3 d4 d5 vp f mi cn th nb bg o) = true := by
  have e : cloM (mainL b0 b1 b2 b3 p0 p1 p2 p3 t0 t1 t2 t3 t4 t5 t6 d0 d1 d2 d3 d4 d5 vp f mi cn th nb bg o) = ((clB vp && true) && true) := rfl
  rw [e, h]
  rfl
theorem main_ok {b0 b1 b2 b3 : Int64} {p0 p1 p2 p3 t0 t1 t2 t3 t4 t5 t6 d0 d1 d2 d3 d4 d5 : Int32} {vp : Value} {f mi cn th nb bg : Int32} {o : Int64} {qr : List Nat} {LC LP LF LQ : cn_L} (h : clB vp = true) (h2 : cloB 2 LC = true) (h3 : cloB 3 LP = true) (h4 : cloB 4 LF = true) (h5 : cloQ qr LQ = true) : cn_ok qr (cn_M (mainL b0 b1 b2 b3 p0 p1 p2 p3 t0 t1 t2 t3 t4 t5 t6 d0 d1 d2 d3 d4 d5 vp f mi cn th nb bg o) LC LP LF LQ) := ⟨cloM_main h, h2, h3, h4, h5⟩
def can (sc : List Value) (M : Nat → cn_L) : mm_H := (([], cn_R sc M), 9000, 0, 0)
/-- what a turn owes at its end -/
def tk (ck cs : Nat) (P : mm_H → List Value → Prop) : fl_KT := fun pc' ls st h' => pc' = 28 ∧ st = [] ∧ h'.2.2.1 ≤ 0 + ck ∧ h'.2.2.2 ≤ 0 + cs ∧ ∃ (σ : Nat → Nat) (hc' : mm_H) (lc' : List Value), mm_Emb σ hc' h' ∧ mm_EmbL σ hc'.2.1 lc' ls ∧ P hc' lc'
theorem tk_turn {d pc ck cs : Nat} {F : mm_F} {n : Nat} {lc : List Value} {P : mm_H → List Value → Prop} (h : fl_G (fun _ _ => False) (tk ck cs P) [] d 0 pc lc [] (F, n, 0, 0)) : mm_Turn d pc (F, n, 0, 0) lc ck cs P := h
theorem ow_mains {σ : Nat → Nat} (h : ∀ a, ow a = 1 ∨ ow a = 0 → σ a = a) {i : Int32} {x6 x7 x8 : Value} : mm_EmbL σ 9000 (lcs i) [.ref 0, .ref 272, .ref 287, .ref 298, .ref 299, .int i, x6, x7, x8] := by
  refine ⟨rfl, fun j v hj hn => ?_⟩
  match j, hj with
  | 0, hj => cases hj; exact ⟨Nat.blt_eq.mp rfl, congrArg (fun a => some (Value.ref a)) (h 0 (Or.inr rfl)).symm⟩
  | 1, hj => cases hj; exact ⟨Nat.blt_eq.mp rfl, congrArg (fun a => some (Value.ref a)) (h 272 (Or.inl rfl)).symm⟩
  | 2, hj => cases hj; exact ⟨Nat.blt_eq.mp rfl, congrArg (fun a => some (Value.ref a)) (h 287 (Or.inl rfl)).symm⟩
  | 3, hj => cases hj; exact ⟨Nat.blt_eq.mp rfl, congrArg (fun a => some (Value.ref a)) (h 298 (Or.inl rfl)).symm⟩
  | 4, hj => cases hj; exact ⟨Nat.blt_eq.mp rfl, congrArg (fun a => some (Value.ref a)) (h 299 (Or.inl rfl)).symm⟩
  | 5, hj => cases hj; exact ⟨trivial, rfl⟩
  | 6, hj => cases hj; exact absurd rfl hn
  | 7, hj => cases hj; exact absurd rfl hn
  | 8, hj => cases hj; exact absurd rfl hn
  | n + 9, hj => cases hj
theorem cn_hj {LM LM' LC LC' LP LP' LF LF' LQ LQ' : cn_L} {ch : Nat → Bool} (h2 : ch 2 = true ∨ LC' = LC) (h3 : ch 3 = true ∨ LP' = LP) (h4 : ch 4 = true ∨ LF' = LF) (h5 : ch 5 = true ∨ LQ' = LQ) : ∀ j, 2 ≤ j → j ≤ 5 → ch j = false → cn_M LM' LC' LP' LF' LQ' j = cn_M LM LC LP LF LQ j := by
  intro j q1 q2 q3
  have no : ∀ {b : Bool} {p : Prop}, b = false → (b = true ∨ p) → p := fun e h => h.resolve_left (fun z => by rw [e] at z; cases z)
  match j, q1, q2, q3 with
  | 2, _, _, q3 => exact no q3 h2
  | 3, _, _, q3 => exact no q3 h3
  | 4, _, _, q3 => exact no q3 h4
  | 5, _, _, q3 => exact no q3 h5
/-- a leaf: the modules of ch may have changed, new pieces by the table t -/
theorem tk_leafc {sc : List Value} {qr : List Nat} {M M' : Nat → cn_L} {L : cn_L} {n k s ck cs : Nat} {i : Int32} {x6 x7 x8 : Value} {P : mm_H → List Value → Prop} (ro : cn_L) (t : List (Nat × Nat)) (ch : Nat → Bool) (h0 : ch 0 = false) (hs : ∀ v ∈ sc, ∀ b, v ≠ .ref b) (hM' : cn_ok qr M')
    (hP : P (can sc M') (lcs i)) (hj : ∀ j, 2 ≤ j → j ≤ 5 → ch j = false → M' j = M j) (hL : L.all (fun p => keyB ch (ro.map (fun p => p.1)) p.1) = true) (hro : roK (cn_R sc M) L ro)
    (hT : t.all (tabK ch n) = true) (hT2 : tabB t = true) (hq : qr.all (fun b => Nat.beq (sg t b) b) = true) (h1 : ckK L (cn_R sc M) t (M' 1)) (hXc : ∀ j, 2 ≤ j → j ≤ 5 → ch j = true → ckK L (cn_R sc M) t (M' j)) (hn : Nat.ble 9000 n = true) (hk : Nat.ble k (0 + ck) = true) (hk2 : Nat.ble s (0 + cs) = true) :
    tk ck cs P 28 [.ref 0, .ref 272, .ref 287, .ref 298, .ref 299, .int i, x6, x7, x8] [] ((L, cn_R sc M), n, k, s) := by
  refine ⟨rfl, rfl, Nat.le_of_ble_eq_true hk, Nat.le_of_ble_eq_true hk2, sg t, _, _, cn_emb hs h0 hM' hj hL hro hT hT2 hq h1 hXc hn, ow_mains (fun a ha => ?_), hP⟩
  rcases sg_cases t a with ⟨h1, -⟩ | h1
  · exact h1
  · have := List.all_eq_true.mp hT _ h1
    simp only [tabK, Bool.and_eq_true] at this
    have := Nat.le_of_ble_eq_true this.1.1.1
    omega
theorem tk_leaf {sc : List Value} {qr : List Nat} {M M' : Nat → cn_L} {L : cn_L} {n k s ck cs : Nat} {i : Int32} {x6 x7 x8 : Value} {P : mm_H → List Value → Prop} (ro : cn_L) (t : List (Nat × Nat)) (X : Nat) (hs : ∀ v ∈ sc, ∀ b, v ≠ .ref b) (h0 : Nat.beq 0 X = false) (hM' : cn_ok qr M')
    (hP : P (can sc M') (lcs i)) (hj : ∀ j, 2 ≤ j → j ≤ 5 → Nat.beq j X = false → M' j = M j) (hL : L.all (fun p => keyB (fun j => Nat.beq j X) (ro.map (fun p => p.1)) p.1) = true) (hro : roK (cn_R sc M) L ro)
    (hT : t.all (tabK (fun j => Nat.beq j X) n) = true) (hT2 : tabB t = true) (hq : qr.all (fun b => Nat.beq (sg t b) b) = true) (h1 : ckK L (cn_R sc M) t (M' 1)) (hXc : ckK L (cn_R sc M) t (M' X)) (hn : Nat.ble 9000 n = true) (hk : Nat.ble k (0 + ck) = true) (hk2 : Nat.ble s (0 + cs) = true) :
    tk ck cs P 28 [.ref 0, .ref 272, .ref 287, .ref 298, .ref 299, .int i, x6, x7, x8] [] ((L, cn_R sc M), n, k, s) :=
  tk_leafc ro t (fun j => Nat.beq j X) h0 hs hM' hP hj hL hro hT hT2 hq h1 (fun j _ _ hj => by rw [Nat.eq_of_beq_eq_true hj]; exact hXc) hn hk hk2
/-- only main cells have changed -/
theorem tk_leaf1 {sc : List Value} {qr : List Nat} {LM LM' LC LP LF LQ : cn_L} {L : cn_L} {n k s ck cs : Nat} {i : Int32} {x6 x7 x8 : Value} {P : mm_H → List Value → Prop} (ro : cn_L) (hs : ∀ v ∈ sc, ∀ b, v ≠ .ref b) (hP : P (can sc (cn_M LM' LC LP LF LQ)) (lcs i)) (hM' : cn_ok qr (cn_M LM' LC LP LF LQ))
    (hL : L.all (fun p => keyB (fun j => Nat.beq j 1) (ro.map (fun p => p.1)) p.1) = true) (hro : roK (cn_R sc (cn_M LM LC LP LF LQ)) L ro)
    (h1 : ckK L (cn_R sc (cn_M LM LC LP LF LQ)) [] LM') (hn : Nat.ble 9000 n = true) (hk : Nat.ble k (0 + ck) = true) (hk2 : Nat.ble s (0 + cs) = true) :
    tk ck cs P 28 [.ref 0, .ref 272, .ref 287, .ref 298, .ref 299, .int i, x6, x7, x8] [] ((L, cn_R sc (cn_M LM LC LP LF LQ)), n, k, s) :=
  tk_leaf ro [] 1 hs rfl hM' hP (cn_hj (Or.inr rfl) (Or.inr rfl) (Or.inr rfl) (Or.inr rfl)) hL hro rfl rfl (List.all_eq_true.mpr (fun b _ => Nat.beq_refl b)) h1 h1 hn hk hk2
/-- only the script is wanted behind the last call -/
theorem tk_any {sc : List Value} {R : Nat → Option mm_E} {L : cn_L} {n k s ck cs : Nat} {i : Int32} {x6 x7 x8 : Value} {P : mm_H → List Value → Prop} (hs : ∀ v ∈ sc, ∀ b, v ≠ .ref b) (hP : P (([], fun a => bif Nat.beq a 0 then some (100, false, sc) else none), 9000, 0, 0) (lcs i))
    (h0 : mm_lk L R 0 = some (100, false, sc)) (hn : Nat.ble 9000 n = true) (hk : Nat.ble k (0 + ck) = true) (hk2 : Nat.ble s (0 + cs) = true) :
    tk ck cs P 28 [.ref 0, .ref 272, .ref 287, .ref 298, .ref 299, .int i, x6, x7, x8] [] ((L, R), n, k, s) := by
  have hn := Nat.le_of_ble_eq_true hn
  refine ⟨rfl, rfl, Nat.le_of_ble_eq_true hk, Nat.le_of_ble_eq_true hk2, fun a => a, _, _, ⟨fun a _ => rfl, Nat.le_of_ble_eq_true rfl, fun a ha => Nat.lt_of_lt_of_le ha hn, fun a e he => ?_, fun a b e e' _ _ _ h => h⟩, ow_mains (fun a _ => rfl), hP⟩
  have he : (bif Nat.beq a 0 then some (100, false, sc) else none) = some e := he
  cases hb : Nat.beq a 0 with
  | false => rw [hb] at he; cases he
  | true =>
    rw [hb] at he
    cases he
    have := Nat.eq_of_beq_eq_true hb
    subst this
    refine ⟨Nat.blt_eq.mp rfl, fun v hv => ?_, ?_⟩
    · cases v with
      | ref b => exact absurd rfl (hs _ hv b)
      | _ => trivial
    · rw [map_id (fun v _ b _ => rfl)]
      exact h0
section PCON
variable {Q : fl_QT} {K : fl_KT} {fs : List fl_Fr} {d d0 m0 pc0 pc1 : Nat} {l0 s0 : List Value} {h : mm_H}
/-- is v from lo to hi -/
def rg (lo hi v : Int32) : Bool := decide (lo ≤ v) && decide (v ≤ hi)
def rgT (lo hi v : Int32) : Prop := rg lo hi v = true
def rgF (lo hi v : Int32) : Prop := rg lo hi v = false
theorem rgc (lo hi v : Int32) : rgF lo hi v ∨ rgT lo hi v := by
  unfold rgF rgT
  cases rg lo hi v
  · exact Or.inl rfl
  · exact Or.inr rfl
theorem rg_f1 {lo hi v : Int32} (h : v < lo) : rg lo hi v = false := by
  simp [rg, Int32.not_le.mpr h]
theorem rg_f2 {lo hi v : Int32} (h : hi < v) : rg lo hi v = false := by
  simp [rg, Int32.not_le.mpr h]
theorem rg_t {lo hi v : Int32} (h : ¬ v < lo) (h2 : ¬ hi < v) : rg lo hi v = true := by
  simp [rg, Int32.not_lt.mp h, Int32.not_lt.mp h2]
theorem c_in {lo hi v : Int32} {b : Bool} (hb : rg lo hi v = b) (k : fl_G Q K fs d0 m0 pc1 l0 (.int (bif b then 1 else 0) :: s0) h) : fl_G Q K ((d0, m0, pc0, pc1, l0, s0) :: fs) d 108 0 [.int v, .int lo, .int hi] [] h := by
  subst hb
  refine gl_n 2 rfl ?_
  refine gl_ite rfl (fun h1 => ?_) (fun h1 => ?_)
  · rw [rg_f1 h1] at k
    exact gl_n 1 rfl (gl_reta rfl k)
  · refine gl_n 2 rfl ?_
    refine gl_ite rfl (fun h2 => ?_) (fun h2 => ?_)
    · rw [rg_f2 h2] at k
      exact gl_n 1 rfl (gl_reta rfl k)
    · rw [rg_t h1 h2] at k
      exact gl_n 2 rfl (gl_reta rfl k)
theorem t64_lt {a b : Int32} : a.toInt64 < b.toInt64 ↔ a < b := by
  rw [Int64.lt_iff_toInt_lt, Int32.lt_iff_toInt_lt, Int32.toInt_toInt64, Int32.toInt_toInt64]
theorem c_isIn0 {lo hi v : Int32} {b : Bool} (hb : rg lo hi v = b) (k : fl_G Q K fs d0 m0 pc1 l0 (.int (bif b then 1 else 0) :: s0) h) : fl_G Q K ((d0, m0, pc0, pc1, l0, s0) :: fs) d 208 0 [.long v.toInt64, .retAddr 0, .long lo.toInt64, .retAddr 0, .long hi.toInt64, .retAddr 0] [] h := by
  subst hb
  refine gl_n 3 rfl ?_
  refine gl_ite rfl (fun h1 => ?_) (fun h1 => ?_)
  · rw [rg_f1 (t64_lt.mp ((lg_cmp_lt _ _).mp h1))] at k
    exact gl_n 1 rfl (gl_reta rfl k)
  · refine gl_n 3 rfl ?_
    refine gl_ite rfl (fun h2 => ?_) (fun h2 => ?_)
    · rw [rg_f2 (t64_lt.mp ((lg_cmp_gt _ _).mp h2))] at k
      exact gl_n 1 rfl (gl_reta rfl k)
    · rw [rg_t (fun z => h1 ((lg_cmp_lt _ _).mpr (t64_lt.mpr z))) (fun z => h2 ((lg_cmp_gt _ _).mpr (t64_lt.mpr z)))] at k
      exact gl_n 2 rfl (gl_reta rfl k)
/-- a read of the script -/
def scr (sc : List Value) (i j s : Int32) : Prop := ¬ i + j < 0 ∧ sc[(i + j).toNatClampNeg]? = some (.int s)
theorem gl_sc {i j s : Int32} {sc : List Value} {pc : Nat} {ls st : List Value} (e : mm_prog 0 pc = ac_ald 0 (pc + 1)) (hg : mm_get h 0 = some (100, false, sc)) (hs : scr sc i j s) (k : fl_G Q K fs d 0 (pc + 1) ls (.int s :: st) h) : fl_G Q K fs d 0 pc ls (.int (i + j) :: .ref 0 :: st) h := by
  refine go_nx (pc' := pc + 1) (ls' := ls) (st' := .int s :: st) (h' := h) ?_ k
  rw [e]
  show (match mm_get h 0 with
    | some (c, _, l) => if mm_ak 0 c = true then (if i + j < 0 then mm_sk else (match l[(i + j).toNatClampNeg]? with
      | some v => mm_nx (pc + 1) ls (v :: st) h
      | none => mm_sk)) else mm_sk
    | none => mm_sk) = _
  rw [hg]
  dsimp only
  rw [if_pos (show mm_ak 0 100 = true from rfl), if_neg hs.1, hs.2]
theorem gl_lcmp {x y : Int64} {pc m : Nat} {ls st : List Value} (e : mm_prog m pc = ac_lcmp (pc + 1)) (hs : x = y) (k : fl_G Q K fs d m (pc + 1) ls (.int 0 :: st) h) : fl_G Q K fs d m pc ls (.long y :: .long x :: st) h := by
  refine go_nx (pc' := pc + 1) (ls' := ls) (st' := .int 0 :: st) (h' := h) ?_ k
  rw [e, hs]
  show mm_nx (pc + 1) ls (.int (lg_cmp y y) :: st) h = _
  rw [(lg_cmp_eq _ _).mpr rfl]
/-- into the case of the call's number -/
theorem gl_case {sc : List Value} {OV : cn_L} {v1 v2 v3 v4 : Value} {i s0 : Int32} {R : Nat → Option mm_E} {n kc ks t : Nat} (hz : Int32.ofNat sc.length - 6 < i → False) (hv : scr sc i 0 s0)
    (ht : mm_tsw 3568 (s0 &&& 63) 0 [260, 352, 420, 476, 531, 599, 703, 787, 871, 955, 1023, 1079, 1163, 1219, 1287, 1355, 1451, 1519, 1587, 1671, 1763, 1843, 1930, 1986, 2054, 2110, 2166, 2222, 2309, 2377, 2445, 2501, 2557, 2613, 2681, 2737, 2805, 2818, 2874, 2942, 3022, 3078, 3134, 3190, 3246, 3301, 3369, 3424, 3490, 3555] = t)
    (k : fl_G Q K [] d 0 t [.ref 0, v1, v2, v3, v4, .int i, .retAddr 0, .retAddr 0, .retAddr 0] [] (((0, 100, false, sc) :: OV, R), n, kc, ks)) : fl_G Q K [] d 0 28 [.ref 0, v1, v2, v3, v4, .int i, .retAddr 0, .retAddr 0, .retAddr 0] [] (((0, 100, false, sc) :: OV, R), n, kc, ks) := by
  have hv0 : ¬ i < 0 ∧ sc[i.toNatClampNeg]? = some (.int s0) := by
    have := hv
    unfold scr at this
    rw [Int32.add_zero] at this
    exact this
  refine gl_n 5 rfl ?_
  refine gl_f rfl hz ?_
  refine gl_n 2 rfl ?_
  refine go_nx (pc' := 42) (ls' := [.ref 0, v1, v2, v3, v4, .int i, .retAddr 0, .retAddr 0, .retAddr 0]) (st' := [.int s0]) (h' := (((0, 100, false, sc) :: OV, R), n, kc, ks)) ?_ ?_
  · show (if mm_ak 0 100 = true then (if i < 0 then mm_sk else (match sc[i.toNatClampNeg]? with
      | some v => mm_nx 42 _ (v :: []) _
      | none => mm_sk)) else mm_sk) = _
    rw [if_pos (show mm_ak 0 100 = true from rfl), if_neg hv0.1, hv0.2]
  · refine go_nx rfl (go_nx rfl ?_)
    refine go_nx (pc' := t) (ls' := [.ref 0, v1, v2, v3, v4, .int i, .retAddr 0, .retAddr 0, .retAddr 0]) (st' := []) (h' := (((0, 100, false, sc) :: OV, R), n, kc, ks)) ?_ k
    rw [← ht]
    rfl
/-- an index out of bounds -/
theorem c_rqx {i n : Int32} (hn : decide ((0 : Int32) ≤ n) = true) (hb : rgF 0 (n - 1) i) (k : fl_G Q K fs d 248 9 [.int i, .int n] [] h) : fl_G Q K fs d 248 0 [.int i, .int n] [] h := by
  refine gl_n 1 rfl ?_
  refine gl_ite rfl (fun _ => k) (fun h1 => ?_)
  refine gl_n 2 rfl ?_
  refine gl_ite rfl (fun h2 => absurd h2 ?_) (fun _ => k)
  intro h2
  have hn := of_decide_eq_true hn
  have : rg 0 (n - 1) i = true := rg_t h1 (fun h3 => ?_)
  · exact absurd (this.symm.trans hb) (by decide)
  · rw [Int32.lt_iff_toInt_lt] at h2 h3
    rw [Int32.le_iff_toInt_le] at hn
    have e : (n - 1).toInt = n.toInt - 1 := by
      rw [Int32.toInt_sub]
      have := n.toInt_lt
      have e0 : (0 : Int32).toInt = 0 := rfl
      have e1 : (1 : Int32).toInt = 1 := rfl
      rw [e0] at hn
      rw [e1, Int.bmod_eq_of_le] <;> omega
    omega
theorem gl_end28 {ls st : List Value} (k : K 28 ls st h) : fl_G Q K [] d 0 28 ls st h := gl_end k
theorem c_inT {lo hi v : Int32} (hb : rgT lo hi v) (k : fl_G Q K fs d0 m0 pc1 l0 (.int 1 :: s0) h) : fl_G Q K ((d0, m0, pc0, pc1, l0, s0) :: fs) d 108 0 [.int v, .int lo, .int hi] [] h := c_in hb k
theorem c_inF {lo hi v : Int32} (hb : rgF lo hi v) (k : fl_G Q K fs d0 m0 pc1 l0 (.int 0 :: s0) h) : fl_G Q K ((d0, m0, pc0, pc1, l0, s0) :: fs) d 108 0 [.int v, .int lo, .int hi] [] h := c_in hb k
theorem c_isInT {v lo hi : Int32} {lo6 hi6 : Int64} (hb : rgT lo hi v) (e1 : lo.toInt64 = lo6) (e2 : hi.toInt64 = hi6) (k : fl_G Q K fs d0 m0 pc1 l0 (.int 1 :: s0) h) : fl_G Q K ((d0, m0, pc0, pc1, l0, s0) :: fs) d 208 0 [.long v.toInt64, .retAddr 0, .long lo6, .retAddr 0, .long hi6, .retAddr 0] [] h := by
  subst e1; subst e2
  exact c_isIn0 hb k
theorem c_isInF {v lo hi : Int32} {lo6 hi6 : Int64} (hb : rgF lo hi v) (e1 : lo.toInt64 = lo6) (e2 : hi.toInt64 = hi6) (k : fl_G Q K fs d0 m0 pc1 l0 (.int 0 :: s0) h) : fl_G Q K ((d0, m0, pc0, pc1, l0, s0) :: fs) d 208 0 [.long v.toInt64, .retAddr 0, .long lo6, .retAddr 0, .long hi6, .retAddr 0] [] h := by
  subst e1; subst e2
  exact c_isIn0 hb k
theorem gl_dv {c : Prop} {dc : Decidable c} {m pc p2 : Nat} {ls st l2 s2 : List Value} {h2 : mm_H} (e : mm_prog m pc ls st h = @ite mm_R c dc mm_sk (mm_nx p2 l2 s2 h2)) (hc : ¬ c) (k : fl_G Q K fs d m p2 l2 s2 h2) : fl_G Q K fs d m pc ls st h := go_nx (by rw [e, if_neg hc]) k
theorem dv_ne {x : Int32} (h : (30 : Int32) < x) : ¬ x = 0 := by
  intro e
  rw [e] at h
  exact absurd h (by decide)
theorem rg_e (s : Int32) : rgF 0 (0 - 1) s := by
  unfold rgF
  cases h : rg 0 (0 - 1) s with
  | false => rfl
  | true =>
    simp only [rg, Bool.and_eq_true, decide_eq_true_eq, Int32.le_iff_toInt_le] at h
    have e0 : (0 : Int32).toInt = 0 := rfl
    have e1 : ((0 : Int32) - 1).toInt = -1 := rfl
    rw [e0, e1] at h
    omega
theorem rg_int {lo hi s : Int32} (h : rgT lo hi s) : lo.toInt ≤ s.toInt ∧ s.toInt ≤ hi.toInt := by
  simp only [rgT, rg, Bool.and_eq_true, decide_eq_true_eq, Int32.le_iff_toInt_le] at h
  exact h
theorem rg_no {lo hi s : Int32} (h : rgF lo hi s) : s.toInt < lo.toInt ∨ hi.toInt < s.toInt := by
  simp only [rgF, rg, Bool.and_eq_false_iff, decide_eq_false_iff_not, Int32.le_iff_toInt_le] at h
  omega
theorem ix_of {s : Int32} (j : Int32) (h : s.toInt = j.toInt) : s = j := Int32.toInt_inj.mp h
theorem ix_1 (s : Int32) : rg 0 (1 - 1) s = false ∨ s = 0 := by
  cases h : rg 0 (1 - 1) s with
  | false => exact Or.inl rfl
  | true =>
    have h := rg_int h
    rw [show (0 : Int32).toInt = 0 from rfl, show ((1 : Int32) - 1).toInt = 0 from rfl] at h
    exact Or.inr (ix_of 0 (by rw [show (0 : Int32).toInt = 0 from rfl]; omega))
theorem ix_2 (s : Int32) : rg 0 (2 - 1) s = false ∨ s = 0 ∨ s = 1 := by
  cases h : rg 0 (2 - 1) s with
  | false => exact Or.inl rfl
  | true =>
    have h := rg_int h
    rw [show (0 : Int32).toInt = 0 from rfl, show ((2 : Int32) - 1).toInt = 1 from rfl] at h
    have h2 : s.toInt = 0 ∨ s.toInt = 1 := by omega
    rcases h2 with h2 | h2
    · exact Or.inr (Or.inl (ix_of 0 h2))
    · exact Or.inr (Or.inr (ix_of 1 h2))
theorem ix_3 (s : Int32) : rg 0 (3 - 1) s = false ∨ s = 0 ∨ s = 1 ∨ s = 2 := by
  cases h : rg 0 (3 - 1) s with
  | false => exact Or.inl rfl
  | true =>
    have h := rg_int h
    rw [show (0 : Int32).toInt = 0 from rfl, show ((3 : Int32) - 1).toInt = 2 from rfl] at h
    have h2 : s.toInt = 0 ∨ s.toInt = 1 ∨ s.toInt = 2 := by omega
    rcases h2 with h2 | h2 | h2
    · exact Or.inr (Or.inl (ix_of 0 h2))
    · exact Or.inr (Or.inr (Or.inl (ix_of 1 h2)))
    · exact Or.inr (Or.inr (Or.inr (ix_of 2 h2)))
theorem ix_4 (s : Int32) : rg 0 3 s = false ∨ s = 0 ∨ s = 1 ∨ s = 2 ∨ s = 3 := by
  cases h : rg 0 3 s with
  | false => exact Or.inl rfl
  | true =>
    have h := rg_int h
    rw [show (0 : Int32).toInt = 0 from rfl, show (3 : Int32).toInt = 3 from rfl] at h
    have h2 : s.toInt = 0 ∨ s.toInt = 1 ∨ s.toInt = 2 ∨ s.toInt = 3 := by omega
    rcases h2 with h2 | h2 | h2 | h2
    · exact Or.inr (Or.inl (ix_of 0 h2))
    · exact Or.inr (Or.inr (Or.inl (ix_of 1 h2)))
    · exact Or.inr (Or.inr (Or.inr (Or.inl (ix_of 2 h2))))
    · exact Or.inr (Or.inr (Or.inr (Or.inr (ix_of 3 h2))))
theorem vp_cl {vp : Value} (h : vp = .null ∨ vp = .ref 4000) : clB vp = true := by
  rcases h with rfl | rfl <;> rfl
theorem l_pos {l : Int32} (h : rgT 1 100000 l) : ¬ 0 + l ≤ 0 := by
  have h := rg_int h
  rw [show (1 : Int32).toInt = 1 from rfl, show (100000 : Int32).toInt = 100000 from rfl] at h
  rw [Int32.zero_add, Int32.le_iff_toInt_le, show (0 : Int32).toInt = 0 from rfl]
  omega
theorem l_pos2 {l k : Int32} (h : rgT 1 100000 l) (h2 : rgT 1 100000 k) : ¬ 0 + l + k ≤ 0 := by
  have h := rg_int h
  have h2 := rg_int h2
  rw [show (1 : Int32).toInt = 1 from rfl, show (100000 : Int32).toInt = 100000 from rfl] at h h2
  rw [Int32.zero_add, Int32.le_iff_toInt_le, show (0 : Int32).toInt = 0 from rfl, Int32.toInt_add, Int.bmod_eq_of_le] <;> omega
theorem iy_1 (s : Int32) : rgF 0 (1 - 1) s ∨ (s = 0 ∧ rgT 0 (1 - 1) 0) := by
  rcases ix_1 s with h | h
  · exact Or.inl h
  · exact Or.inr (⟨h, rfl⟩)
theorem iy_2 (s : Int32) : rgF 0 (2 - 1) s ∨ (s = 0 ∧ rgT 0 (2 - 1) 0) ∨ (s = 1 ∧ rgT 0 (2 - 1) 1) := by
  rcases ix_2 s with h | h | h
  · exact Or.inl h
  · exact Or.inr (Or.inl ⟨h, rfl⟩)
  · exact Or.inr (Or.inr (⟨h, rfl⟩))
theorem iy_3 (s : Int32) : rgF 0 (3 - 1) s ∨ (s = 0 ∧ rgT 0 (3 - 1) 0) ∨ (s = 1 ∧ rgT 0 (3 - 1) 1) ∨ (s = 2 ∧ rgT 0 (3 - 1) 2) := by
  rcases ix_3 s with h | h | h | h
  · exact Or.inl h
  · exact Or.inr (Or.inl ⟨h, rfl⟩)
  · exact Or.inr (Or.inr (Or.inl ⟨h, rfl⟩))
  · exact Or.inr (Or.inr (Or.inr (⟨h, rfl⟩)))
theorem iy_4 (s : Int32) : rgF 0 3 s ∨ (s = 0 ∧ rgT 0 3 0) ∨ (s = 1 ∧ rgT 0 3 1) ∨ (s = 2 ∧ rgT 0 3 2) ∨ (s = 3 ∧ rgT 0 3 3) := by
  rcases ix_4 s with h | h | h | h | h
  · exact Or.inl h
  · exact Or.inr (Or.inl ⟨h, rfl⟩)
  · exact Or.inr (Or.inr (Or.inl ⟨h, rfl⟩))
  · exact Or.inr (Or.inr (Or.inr (Or.inl ⟨h, rfl⟩)))
  · exact Or.inr (Or.inr (Or.inr (Or.inr (⟨h, rfl⟩))))
theorem or2 {a0 b0 a1 b1 : Prop} (h0 : a0 ∨ b0) (h1 : a1 ∨ b1) : (a0) ∨ (b0 ∧ a1) ∨ (b0 ∧ b1) := by
  rcases h0 with h0 | h0
  · exact Or.inl h0
  rcases h1 with h1 | h1
  · exact Or.inr (Or.inl ⟨h0, h1⟩)
  exact Or.inr (Or.inr ⟨h0, h1⟩)
theorem or3 {a0 b0 a1 b1 a2 b2 : Prop} (h0 : a0 ∨ b0) (h1 : a1 ∨ b1) (h2 : a2 ∨ b2) : (a0) ∨ (b0 ∧ a1) ∨ (b0 ∧ b1 ∧ a2) ∨ (b0 ∧ b1 ∧ b2) := by
  rcases h0 with h0 | h0
  · exact Or.inl h0
  rcases h1 with h1 | h1
  · exact Or.inr (Or.inl ⟨h0, h1⟩)
  rcases h2 with h2 | h2
  · exact Or.inr (Or.inr (Or.inl ⟨h0, h1, h2⟩))
  exact Or.inr (Or.inr (Or.inr ⟨h0, h1, h2⟩))
theorem or4 {a0 b0 a1 b1 a2 b2 a3 b3 : Prop} (h0 : a0 ∨ b0) (h1 : a1 ∨ b1) (h2 : a2 ∨ b2) (h3 : a3 ∨ b3) : (a0) ∨ (b0 ∧ a1) ∨ (b0 ∧ b1 ∧ a2) ∨ (b0 ∧ b1 ∧ b2 ∧ a3) ∨ (b0 ∧ b1 ∧ b2 ∧ b3) := by
  rcases h0 with h0 | h0
  · exact Or.inl h0
  rcases h1 with h1 | h1
  · exact Or.inr (Or.inl ⟨h0, h1⟩)
  rcases h2 with h2 | h2
  · exact Or.inr (Or.inr (Or.inl ⟨h0, h1, h2⟩))
  rcases h3 with h3 | h3
  · exact Or.inr (Or.inr (Or.inr (Or.inl ⟨h0, h1, h2, h3⟩)))
  exact Or.inr (Or.inr (Or.inr (Or.inr ⟨h0, h1, h2, h3⟩)))
theorem or5 {a0 b0 a1 b1 a2 b2 a3 b3 a4 b4 : Prop} (h0 : a0 ∨ b0) (h1 : a1 ∨ b1) (h2 : a2 ∨ b2) (h3 : a3 ∨ b3) (h4 : a4 ∨ b4) : (a0) ∨ (b0 ∧ a1) ∨ (b0 ∧ b1 ∧ a2) ∨ (b0 ∧ b1 ∧ b2 ∧ a3) ∨ (b0 ∧ b1 ∧ b2 ∧ b3 ∧ a4) ∨ (b0 ∧ b1 ∧ b2 ∧ b3 ∧ b4) := by
  rcases h0 with h0 | h0
  · exact Or.inl h0
  rcases h1 with h1 | h1
  · exact Or.inr (Or.inl ⟨h0, h1⟩)
  rcases h2 with h2 | h2
  · exact Or.inr (Or.inr (Or.inl ⟨h0, h1, h2⟩))
  rcases h3 with h3 | h3
  · exact Or.inr (Or.inr (Or.inr (Or.inl ⟨h0, h1, h2, h3⟩)))
  rcases h4 with h4 | h4
  · exact Or.inr (Or.inr (Or.inr (Or.inr (Or.inl ⟨h0, h1, h2, h3, h4⟩))))
  exact Or.inr (Or.inr (Or.inr (Or.inr (Or.inr ⟨h0, h1, h2, h3, h4⟩))))
/-- Integer.valueOf of a small number: the cache's -/
theorem c_vOf (k : Nat) (hk : Nat.blt k 128 = true) {v : Int32} (hv : v = Int32.ofNat k) (hg : mm_get h 8 = some (106, false, (List.range 256).map (fun k => .ref (16 + k)))) (kk : fl_G Q K fs d0 m0 pc1 l0 (.ref (144 + k) :: s0) h) : fl_G Q K ((d0, m0, pc0, pc1, l0, s0) :: fs) d 141 0 [.int v] [] h := by
  have hk := Nat.blt_eq.mp hk
  have hi : v.toInt = k := by
    rw [hv]
    exact Int32.toInt_ofNat_of_lt (by omega)
  have hi2 : (v + 128).toInt = k + 128 := by
    rw [Int32.toInt_add, hi, show (128 : Int32).toInt = 128 from rfl, Int.bmod_eq_of_le] <;> omega
  refine gl_n 2 rfl ?_
  refine gl_f rfl ?_ ?_
  · rw [Int32.lt_iff_toInt_lt, hi, show (-128 : Int32).toInt = -128 from rfl]
    omega
  refine gl_n 2 rfl ?_
  refine gl_f rfl ?_ ?_
  · rw [Int32.lt_iff_toInt_lt, hi, show (127 : Int32).toInt = 127 from rfl]
    omega
  refine gl_n 4 rfl ?_
  refine go_nx (pc' := 22) (ls' := [.int v]) (st' := [.ref (144 + k)]) (h' := h) ?_ (gl_reta (m := 141) (pc := 22) rfl kk)
  show (match mm_get h 8 with
    | some (c, _, l) => if mm_ak 4 c = true then (if v + 128 < 0 then mm_sk else (match l[(v + 128).toNatClampNeg]? with
      | some w => mm_nx 22 [.int v] (w :: []) h
      | none => mm_sk)) else mm_sk
    | none => mm_sk) = _
  have hc : (v + 128).toNatClampNeg = k + 128 := by
    unfold Int32.toNatClampNeg
    rw [hi2]
    omega
  rw [hg]
  dsimp only
  rw [if_pos (show mm_ak 4 106 = true from rfl), if_neg (by rw [Int32.lt_iff_toInt_lt, hi2, show (0 : Int32).toInt = 0 from rfl]; omega), hc, List.getElem?_map, List.getElem?_range (by omega)]
  show mm_nx 22 [.int v] (.ref (16 + (k + 128)) :: []) h = _
  rw [show 16 + (k + 128) = 144 + k by omega]
theorem ck_nil {L : cn_L} {R : Nat → Option mm_E} {t : List (Nat × Nat)} : ckK L R t [] := True.intro
theorem ck_cons {L : cn_L} {R : Nat → Option mm_E} {t : List (Nat × Nat)} {a : Nat} {e : mm_E} {l : cn_L} (h : mm_lk L R (sg t a) = some (e.1, e.2.1, e.2.2.map (mm_vv (sg t)))) (k : ckK L R t l) : ckK L R t ((a, e) :: l) := ⟨h, k⟩
theorem ck_cons0 {L : cn_L} {R : Nat → Option mm_E} {a : Nat} {e : mm_E} {l : cn_L} (h : mm_lk L R a = some e) (k : ckK L R [] l) : ckK L R [] ((a, e) :: l) := by
  refine ⟨?_, k⟩
  rw [map_id (σ := sg []) (fun v _ b _ => rfl)]
  exact h
theorem ro_nil {L : cn_L} {R : Nat → Option mm_E} : roK R L [] := True.intro
theorem ro_cons {L : cn_L} {R : Nat → Option mm_E} {a : Nat} {e : mm_E} {l : cn_L} (h1 : R a = some e) (h2 : mm_lk L R a = some e) (k : roK R L l) : roK R L ((a, e) :: l) := ⟨h1, h2, k⟩
theorem ov_nil {R : Nat → Option mm_E} : ovK R [] := True.intro
theorem ov_cons {R : Nat → Option mm_E} {a : Nat} {e : mm_E} {l : cn_L} (h1 : R a = some e) (k : ovK R l) : ovK R ((a, e) :: l) := ⟨h1, k⟩
end PCON
end PBASE
