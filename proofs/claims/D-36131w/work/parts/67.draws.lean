set_option maxRecDepth 100000
section DRAWS
def shd (dr z : Int32) : Int32 := if dr = 0 then 55 else if dr = 1 then (if z = 0 then 78 else 70) else 78
def fdm (h n : Int32) : Int32 := if (h * n + 100 - 1) / 100 < n - 1 then (h * n + 100 - 1) / 100 else n - 1
def mxi (d n : Int32) : Int32 := if d < n then n else d
def cdx (d z : Int32) : Nat → Int32 → Int32 → Int32
  | 0, _, dr => dr
  | N + 1, n, dr => if n ≤ d then dr else cdx d z N (mxi d (fdm (shd dr z) n)) (dr + 1)
def cdm (d z : Int32) : Nat → Int32 → Int32 → Int32
  | 0, _, dr => dr
  | N + 1, n, dr => if n ≤ d then dr else cdm d z N (fdm (shd dr z) n) (dr + 1)
theorem cdx_cdm {d z : Int32} : ∀ (N : Nat) (m dr : Int32), cdx d z N (mxi d m) dr = cdm d z N m dr
  | 0, _, _ => rfl
  | N + 1, m, dr => by
    unfold cdx cdm
    by_cases h : d < m
    · have e : mxi d m = m := if_pos h
      rw [e, if_neg (by rw [Int32.not_le]; exact h), if_neg (by rw [Int32.not_le]; exact h)]
      exact cdx_cdm N _ _
    · have e : mxi d m = d := if_neg h
      rw [e, if_pos (Int32.le_refl d), if_pos (Int32.not_lt.mp h)]
theorem cdx_cdm0 {d z : Int32} (N : Nat) (m dr : Int32) : cdx d z N m dr = cdm d z N m dr := by
  cases N with
  | zero => rfl
  | succ N =>
    unfold cdx cdm
    split
    · rfl
    · exact cdx_cdm N _ _
theorem fdm_lt {d h n : Int32} {N : Nat} (hd : 0 ≤ d.toInt) (hn : d < n) (hN : n.toInt ≤ d.toInt + (N + 1)) : (fdm h n).toInt ≤ d.toInt + N := by
  have e : (n - 1).toInt = n.toInt - 1 := by
    rw [Int32.lt_iff_toInt_lt] at hn
    have := n.toInt_lt
    rw [Int32.toInt_sub, show (1 : Int32).toInt = 1 from rfl, Int.bmod_eq_of_le] <;> omega
  unfold fdm
  split
  · rename_i h1
    rw [Int32.lt_iff_toInt_lt] at h1
    omega
  · omega
theorem mxi_le {d m : Int32} {N : Nat} (h : m.toInt ≤ d.toInt + N) : (mxi d m).toInt ≤ d.toInt + N := by
  unfold mxi
  split
  · exact h
  · omega
theorem up_eq (h n : Int32) : n * h + 99 = h * n + 100 - 1 := by
  rw [Int32.mul_comm, Int32.sub_eq_add_neg, Int32.add_assoc]
  rfl
theorem lst2_le {s r : Nat} (h : lst2 s r) : r ≤ 2300 := h.1
section LP3
variable {Q : fl_QT} {K : fl_KT} {fs : List fl_Fr} {d : Nat} {h : mm_H}
theorem draws_x {a b z : Int32} {th : Value} (ha : 0 ≤ a.toInt) : ∀ (N : Nat) (n dr : Int32) (w : Value), n.toInt ≤ a.toInt + N → (w = .retAddr 0 ∨ ∃ z, w = .int z) →
    (∀ (n' : Int32) (w : Value), fl_G Q K fs d 150 83 [th, .int a, .int b, .int z, .int n', .int (cdx a z N n dr), w] [] h) →
    fl_G Q K fs d 150 18 [th, .int a, .int b, .int z, .int n, .int dr, w] [] h := by
  intro N
  induction N with
  | zero =>
    intro n dr w hn hw kk
    refine gl_n 2 rfl ?_
    refine gl_t rfl ?_ (kk n w)
    rw [Int32.le_iff_toInt_le]
    omega
  | succ N ih =>
    intro n dr w hn hw kk
    refine gl_n 2 rfl ?_
    by_cases hc : n ≤ a
    · refine gl_t rfl hc ?_
      have := kk n w
      unfold cdx at this
      rw [if_pos hc] at this
      exact this
    · refine gl_f rfl hc ?_
      have hlt : a < n := Int32.not_le.mp hc
      have go : fl_G Q K fs d 150 51 [th, .int a, .int b, .int z, .int n, .int dr, w] [.int (shd dr z)] h := by
        have go2 : fl_G Q K fs d 150 77 [th, .int a, .int b, .int z, .int (mxi a (fdm (shd dr z) n)), .int dr, .int (shd dr z)] [] h := by
          refine gl_n 2 rfl ?_
          refine ih _ _ _ (mxi_le (fdm_lt ha hlt hn)) (Or.inr ⟨_, rfl⟩) (fun n' w => ?_)
          have := kk n' w
          unfold cdx at this
          rw [if_neg hc] at this
          exact this
        have e : Value.int (mxi a (fdm (shd dr z) n)) = Value.int (if a < (if (n * shd dr z + 99) / 100 < n - 1 then (n * shd dr z + 99) / 100 else n - 1) then (if (n * shd dr z + 99) / 100 < n - 1 then (n * shd dr z + 99) / 100 else n - 1) else a) := by
          rw [up_eq]
          rfl
        rw [e] at go2
        rcases hw with rfl | ⟨y, rfl⟩
        · exact gl_n 15 rfl go2
        · exact gl_n 15 rfl go2
      refine gl_n 1 rfl ?_
      by_cases h0 : dr = 0
      · refine gl_f rfl (fun q => q h0) ?_
        have e : shd dr z = 55 := if_pos h0
        rw [e] at go
        exact gl_n 2 rfl go
      · refine gl_t rfl h0 ?_
        refine gl_n 2 rfl ?_
        by_cases h1 : dr = 1
        · refine gl_f rfl (fun q => q h1) ?_
          refine gl_n 1 rfl ?_
          by_cases h2 : z = 0
          · refine gl_t rfl h2 ?_
            have e : shd dr z = 78 := by unfold shd; rw [if_neg h0, if_pos h1, if_pos h2]
            rw [e] at go
            exact gl_n 1 rfl go
          · refine gl_f rfl h2 ?_
            have e : shd dr z = 70 := by unfold shd; rw [if_neg h0, if_pos h1, if_neg h2]
            rw [e] at go
            exact gl_n 2 rfl go
        · refine gl_t rfl h1 ?_
          have e : shd dr z = 78 := by unfold shd; rw [if_neg h0, if_neg h1]
          rw [e] at go
          exact gl_n 1 rfl go
theorem draws_m {a b z : Int32} {th : Value} (ha : 0 ≤ a.toInt) : ∀ (N : Nat) (n dr : Int32) (w : Value), n.toInt ≤ a.toInt + N → (w = .retAddr 0 ∨ ∃ z, w = .int z) →
    (∀ (n' : Int32) (w : Value), fl_G Q K fs (d + 1) 35 81 [th, .int a, .int b, .int z, .int n', .int (cdm a z N n dr), w] [] h) →
    fl_G Q K fs (d + 1) 35 21 [th, .int a, .int b, .int z, .int n, .int dr, w] [] h := by
  intro N
  induction N with
  | zero =>
    intro n dr w hn hw kk
    refine gl_n 2 rfl ?_
    refine gl_t rfl ?_ (kk n w)
    rw [Int32.le_iff_toInt_le]
    omega
  | succ N ih =>
    intro n dr w hn hw kk
    refine gl_n 2 rfl ?_
    by_cases hc : n ≤ a
    · refine gl_t rfl hc ?_
      have := kk n w
      unfold cdm at this
      rw [if_pos hc] at this
      exact this
    · refine gl_f rfl hc ?_
      have hlt : a < n := Int32.not_le.mp hc
      have go : fl_G Q K fs (d + 1) 35 54 [th, .int a, .int b, .int z, .int n, .int dr, w] [.int (shd dr z)] h := by
        have go2 : fl_G Q K fs (d + 1) 35 75 [th, .int a, .int b, .int z, .int (fdm (shd dr z) n), .int dr, .int (shd dr z)] [] h := by
          refine gl_n 2 rfl ?_
          refine ih _ _ _ (fdm_lt ha hlt hn) (Or.inr ⟨_, rfl⟩) (fun n' w => ?_)
          have := kk n' w
          unfold cdm at this
          rw [if_neg hc] at this
          exact this
        rcases hw with rfl | ⟨y, rfl⟩
        · exact gl_n 19 rfl go2
        · exact gl_n 19 rfl go2
      refine gl_n 1 rfl ?_
      by_cases h0 : dr = 0
      · refine gl_f rfl (fun q => q h0) ?_
        have e : shd dr z = 55 := if_pos h0
        rw [e] at go
        exact gl_n 2 rfl go
      · refine gl_t rfl h0 ?_
        refine gl_n 2 rfl ?_
        by_cases h1 : dr = 1
        · refine gl_f rfl (fun q => q h1) ?_
          refine gl_n 1 rfl ?_
          by_cases h2 : z = 0
          · refine gl_t rfl h2 ?_
            have e : shd dr z = 78 := by unfold shd; rw [if_neg h0, if_pos h1, if_pos h2]
            rw [e] at go
            exact gl_n 1 rfl go
          · refine gl_f rfl h2 ?_
            have e : shd dr z = 70 := by unfold shd; rw [if_neg h0, if_pos h1, if_neg h2]
            rw [e] at go
            exact gl_n 2 rfl go
        · refine gl_t rfl h1 ?_
          have e : shd dr z = 78 := by unfold shd; rw [if_neg h0, if_neg h1]
          rw [e] at go
          exact gl_n 1 rfl go
theorem draws_x0 {D r : Nat} {b z : Int32} {th : Value} (hD : D ≤ 999) (hr : r ≤ 2300) (kk : ∀ (n' : Int32) (w : Value), fl_G Q K fs d 150 83 [th, .int (Int32.ofNat D), .int b, .int z, .int n', .int (cdm (Int32.ofNat D) z 2300 (Int32.ofNat r) 0), w] [] h) :
    fl_G Q K fs d 150 18 [th, .int (Int32.ofNat D), .int b, .int z, .int (Int32.ofNat r), .int 0, .retAddr 0] [] h := by
  refine draws_x (by rw [ti (by omega)]; omega) 2300 _ _ _ (by rw [ti (by omega), ti (by omega)]; omega) (Or.inl rfl) (fun n' w => ?_)
  rw [cdx_cdm0]
  exact kk n' w
theorem draws_m0 {D r : Nat} {b z : Int32} {th : Value} (hD : D ≤ 999) (hr : r ≤ 2300) (kk : ∀ (n' : Int32) (w : Value), fl_G Q K fs (d + 1) 35 81 [th, .int (Int32.ofNat D), .int b, .int z, .int n', .int (cdm (Int32.ofNat D) z 2300 (Int32.ofNat r) 0), w] [] h) :
    fl_G Q K fs (d + 1) 35 21 [th, .int (Int32.ofNat D), .int b, .int z, .int (Int32.ofNat r), .int 0, .retAddr 0] [] h :=
  draws_m (by rw [ti (by omega)]; omega) 2300 _ _ _ (by rw [ti (by omega), ti (by omega)]; omega) (Or.inl rfl) kk
end LP3
end DRAWS
