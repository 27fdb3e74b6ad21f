set_option maxRecDepth 100000
section LOOPS
/-! loops over numbers: disc, draws, tried, tries -/
theorem ti {k : Nat} (h : k < 2147483648) : (Int32.ofNat k).toInt = k := Int32.toInt_ofNat_of_lt h
theorem ti_le {a b : Nat} (ha : a < 2147483648) (hb : b < 2147483648) : Int32.ofNat a ≤ Int32.ofNat b ↔ a ≤ b := by
  rw [Int32.le_iff_toInt_le, ti ha, ti hb]
  omega
theorem ti_lt {a b : Nat} (ha : a < 2147483648) (hb : b < 2147483648) : Int32.ofNat a < Int32.ofNat b ↔ a < b := by
  rw [Int32.lt_iff_toInt_lt, ti ha, ti hb]
  omega
theorem ti_inj {a b : Nat} (ha : a < 2147483648) (hb : b < 2147483648) (h : Int32.ofNat a = Int32.ofNat b) : a = b := by
  have := congrArg Int32.toInt h
  rw [ti ha, ti hb] at this
  omega
theorem rg_nat {lo hi : Nat} {v l' h' : Int32} (e1 : l' = Int32.ofNat lo) (e2 : h' = Int32.ofNat hi) (h1 : lo < 2147483648) (h2 : hi < 2147483648) (h : rgT l' h' v) : ∃ k : Nat, v = Int32.ofNat k ∧ lo ≤ k ∧ k ≤ hi := by
  have h := rg_int h
  rw [e1, e2, ti h1, ti h2] at h
  refine ⟨v.toInt.toNat, Int32.toInt_inj.mp ?_, by omega, by omega⟩
  rw [ti (by omega)]
  omega
theorem sq_le {a b : Nat} (h : a ≤ b) : a * a ≤ b * b := Nat.mul_le_mul h h
section LP1
variable {Q : fl_QT} {K : fl_KT} {fs : List fl_Fr} {d d0 m0 pc0 pc1 : Nat} {l0 s0 : List Value} {h : mm_H}
theorem sq_i (D H : Nat) : Int32.ofNat D * Int32.ofNat D + 4 * Int32.ofNat D * Int32.ofNat H = Int32.ofNat (D * D + 4 * D * H) := by
  rw [Int32.ofNat_add, Int32.ofNat_mul, Int32.ofNat_mul, Int32.ofNat_mul]
  rfl
theorem dsc_x {D H : Nat} (hs : D * D + 4 * D * H ≤ 2300 * 2300) (kk : ∀ r, r ≤ 2300 → D ≤ r → D * D + 4 * D * H ≤ r * r → (∀ j, D ≤ j → j < r → j * j < D * D + 4 * D * H) → fl_G Q K fs d0 m0 pc1 l0 (.int (Int32.ofNat r) :: s0) h) :
    ∀ n k, k + n = 2300 → D ≤ k → (∀ j, D ≤ j → j < k → j * j < D * D + 4 * D * H) → fl_G Q K ((d0, m0, pc0, pc1, l0, s0) :: fs) d 253 2 [.int (Int32.ofNat D), .int (Int32.ofNat H), .int (Int32.ofNat k)] [] h := by
  intro n
  induction n with
  | zero =>
    intro k hk hD hj
    have hk : k = 2300 := by omega
    subst hk
    refine gl_n 12 rfl ?_
    refine gl_t rfl ?_ ?_
    · rw [sq_i, ← Int32.ofNat_mul, ti_le (by omega) (by omega)]
      exact hs
    · refine gl_n 1 rfl (gl_reta rfl (kk _ (Nat.le_refl _) hD hs hj))
  | succ n ih =>
    intro k hk hD hj
    have hq : k * k ≤ 2300 * 2300 := sq_le (by omega)
    refine gl_n 12 rfl ?_
    by_cases hc : D * D + 4 * D * H ≤ k * k
    · refine gl_t rfl ?_ ?_
      · rw [sq_i, ← Int32.ofNat_mul, ti_le (by omega) (by omega)]
        exact hc
      · refine gl_n 1 rfl (gl_reta rfl (kk _ (by omega) hD hc hj))
    · refine gl_f rfl ?_ ?_
      · rw [sq_i, ← Int32.ofNat_mul, ti_le (by omega) (by omega)]
        exact hc
      · refine gl_n 2 rfl ?_
        rw [show Int32.ofNat k + 1 = Int32.ofNat (k + 1) from (Int32.ofNat_add k 1).symm]
        refine ih (k + 1) (by omega) (by omega) (fun j h1 h2 => ?_)
        by_cases e : j = k
        · subst e; omega
        · exact hj j h1 (by omega)
theorem dsc_m {D H : Nat} (hs : D * D + 4 * D * H ≤ 2300 * 2300) (kk : ∀ r, r ≤ 2300 → D * D + 4 * D * H ≤ r * r → (∀ j, j < r → j * j < D * D + 4 * D * H) → fl_G Q K fs d0 m0 pc1 l0 (.int (Int32.ofNat r) :: s0) h) :
    ∀ n k, k + n = 2300 → (∀ j, j < k → j * j < D * D + 4 * D * H) → fl_G Q K ((d0, m0, pc0, pc1, l0, s0) :: fs) d 149 12 [.int (Int32.ofNat D), .int (Int32.ofNat H), .int (Int32.ofNat (D * D + 4 * D * H)), .int (Int32.ofNat k)] [] h := by
  intro n
  induction n with
  | zero =>
    intro k hk hj
    have hk : k = 2300 := by omega
    subst hk
    refine gl_n 4 rfl ?_
    refine gl_t rfl ?_ ?_
    · rw [← Int32.ofNat_mul, ti_le (by omega) (by omega)]
      exact hs
    · refine gl_n 1 rfl (gl_reta rfl (kk _ (Nat.le_refl _) hs hj))
  | succ n ih =>
    intro k hk hj
    have hq : k * k ≤ 2300 * 2300 := sq_le (by omega)
    refine gl_n 4 rfl ?_
    by_cases hc : D * D + 4 * D * H ≤ k * k
    · refine gl_t rfl ?_ ?_
      · rw [← Int32.ofNat_mul, ti_le (by omega) (by omega)]
        exact hc
      · refine gl_n 1 rfl (gl_reta rfl (kk _ (by omega) hc hj))
    · refine gl_f rfl ?_ ?_
      · rw [← Int32.ofNat_mul, ti_le (by omega) (by omega)]
        exact hc
      · refine gl_n 2 rfl ?_
        rw [show Int32.ofNat k + 1 = Int32.ofNat (k + 1) from (Int32.ofNat_add k 1).symm]
        refine ih (k + 1) (by omega) (fun j h2 => ?_)
        by_cases e : j = k
        · subst e; omega
        · exact hj j (by omega)
/-- the least number whose square reaches s -/
def lst2 (s r : Nat) : Prop := r ≤ 2300 ∧ s ≤ r * r ∧ ∀ j, j < r → j * j < s
theorem lst2_un {s a b : Nat} (h1 : lst2 s a) (h2 : lst2 s b) : a = b := by
  have q1 := h1.2.2 b
  have q2 := h2.2.2 a
  have := h1.2.1
  have := h2.2.1
  omega
theorem dsc_s {D H : Nat} (hD : D ≤ 999) (hH : H ≤ 999) : D * D + 4 * D * H ≤ 2300 * 2300 := by
  have h1 : D * D ≤ 999 * 999 := Nat.mul_le_mul hD hD
  have h2 : 4 * D * H ≤ 3996 * 999 := Nat.mul_le_mul (by omega) hH
  omega
theorem c_disc_x {D H : Nat} (hD : D ≤ 999) (hH : H ≤ 999) (kk : ∀ r, lst2 (D * D + 4 * D * H) r → fl_G Q K fs d0 m0 pc1 l0 (.int (Int32.ofNat r) :: s0) h) :
    fl_G Q K ((d0, m0, pc0, pc1, l0, s0) :: fs) d 253 0 [.int (Int32.ofNat D), .int (Int32.ofNat H), .retAddr 0] [] h := by
  refine gl_n 2 rfl ?_
  refine dsc_x (dsc_s hD hH) (fun r h1 h2 h3 h4 => kk r ⟨h1, h3, fun j hj => ?_⟩) (2300 - D) D (by omega) (Nat.le_refl _) (fun j h1 h2 => by omega)
  by_cases e : D ≤ j
  · exact h4 j e hj
  · have h5 : j * j < D * D := Nat.mul_lt_mul'' (by omega) (by omega)
    omega
theorem c_disc_m {D H : Nat} (hD : D ≤ 999) (hH : H ≤ 999) (kk : ∀ r, lst2 (D * D + 4 * D * H) r → fl_G Q K fs d0 m0 pc1 l0 (.int (Int32.ofNat r) :: s0) h) :
    fl_G Q K ((d0, m0, pc0, pc1, l0, s0) :: fs) d 149 0 [.int (Int32.ofNat D), .int (Int32.ofNat H), .retAddr 0, .retAddr 0] [] h := by
  refine gl_n 12 rfl ?_
  rw [sq_i]
  exact dsc_m (dsc_s hD hH) (fun r h1 h3 h4 => kk r ⟨h1, h3, h4⟩) 2300 0 rfl (fun j h2 => by omega)
end LP1
end LOOPS
