set_option maxRecDepth 100000
section LOOPS2
/-- trying a tool out: n tries left, the tool's angle, tries made -/
def tro (a s : Int32) : Nat → Int32 → Int32 → Int32 × Int32
  | 0, t, k => (t, k)
  | n + 1, t, k => if a - (t - t * s / 1000) = 0 then (t + (a - (t - t * s / 1000)), k + 1) else tro a s n (t + (a - (t - t * s / 1000))) (k + 1)
section LP2
variable {Q : fl_QT} {K : fl_KT} {fs : List fl_Fr} {d : Nat} {h : mm_H}
theorem tro_x {a s : Int32} : ∀ (n k : Nat) (t : Int32) (w : Value), n + k = 20 → (w = .retAddr 0 ∨ ∃ z, w = .int z) →
    (∀ (z : Int32) (w : Value), fl_G Q K fs d 255 54 [.int a, .int s, .int (tro a s n t (Int32.ofNat k)).1, .int (tro a s n t (Int32.ofNat k)).2, .int z, w] [] h) →
    fl_G Q K fs d 255 7 [.int a, .int s, .int t, .int (Int32.ofNat k), .int 0, w] [] h := by
  intro n
  induction n with
  | zero =>
    intro k t w hk hw kk
    have : k = 20 := by omega
    subst this
    rcases hw with rfl | ⟨z, rfl⟩
    · exact gl_n 5 rfl (kk 0 _)
    · exact gl_n 5 rfl (kk 0 _)
  | succ n ih =>
    intro k t w hk hw kk
    have hkk : (Int32.ofNat k + 1) = Int32.ofNat (k + 1) := (Int32.ofNat_add k 1).symm
    have step : fl_G Q K fs d 255 36 [.int a, .int s, .int t, .int (Int32.ofNat k + 1), .int 0, .int (a - (t - t * s / 1000))] [.int (a - (t - t * s / 1000))] h := by
      by_cases hc : a - (t - t * s / 1000) = 0
      · refine gl_f rfl (fun z => z hc) ?_
        refine gl_n 8 rfl ?_
        have := kk 1 (.int (a - (t - t * s / 1000)))
        unfold tro at this
        rw [if_pos hc] at this
        exact gl_n 2 rfl this
      · refine gl_t rfl hc ?_
        refine gl_n 7 rfl ?_
        rw [hkk]
        refine ih (k + 1) _ _ (by omega) (Or.inr ⟨_, rfl⟩) ?_
        intro z w
        have := kk z w
        unfold tro at this
        rw [if_neg hc, hkk] at this
        exact this
    refine gl_n 4 rfl ?_
    refine gl_f rfl ?_ ?_
    · rw [show (20 : Int32) = Int32.ofNat 20 from rfl, ti_le (by omega) (by omega)]
      omega
    rcases hw with rfl | ⟨z, rfl⟩
    · exact gl_n 12 rfl step
    · exact gl_n 12 rfl step
theorem tro_m {a s b : Int32} : ∀ (n k : Nat) (t : Int32) (w : Value), n + k = 20 → (w = .retAddr 0 ∨ ∃ z, w = .int z) →
    (∀ (z : Int32) (w : Value), fl_G Q K fs d 154 56 [.int a, .int s, .int b, .int (tro a s n t (Int32.ofNat k)).1, .int (tro a s n t (Int32.ofNat k)).2, .int z, w] [] h) →
    fl_G Q K fs d 154 8 [.int a, .int s, .int b, .int t, .int (Int32.ofNat k), .int 0, w] [] h := by
  intro n
  induction n with
  | zero =>
    intro k t w hk hw kk
    have : k = 20 := by omega
    subst this
    rcases hw with rfl | ⟨z, rfl⟩
    · exact gl_n 5 rfl (kk 0 _)
    · exact gl_n 5 rfl (kk 0 _)
  | succ n ih =>
    intro k t w hk hw kk
    have hkk : (Int32.ofNat k + 1) = Int32.ofNat (k + 1) := (Int32.ofNat_add k 1).symm
    have step : fl_G Q K fs d 154 43 [.int a, .int s, .int b, .int (t + (a - (t - t * s / 1000))), .int (Int32.ofNat k + 1), .int 0, .int (a - (t - t * s / 1000))] [.int (a - (t - t * s / 1000))] h := by
      by_cases hc : a - (t - t * s / 1000) = 0
      · refine gl_f rfl (fun z => z hc) ?_
        refine gl_n 4 rfl ?_
        have := kk 1 (.int (a - (t - t * s / 1000)))
        unfold tro at this
        rw [if_pos hc] at this
        exact gl_n 2 rfl this
      · refine gl_t rfl hc ?_
        refine gl_n 3 rfl ?_
        rw [hkk]
        refine ih (k + 1) _ _ (by omega) (Or.inr ⟨_, rfl⟩) ?_
        intro z w
        have := kk z w
        unfold tro at this
        rw [if_neg hc, hkk] at this
        exact this
    refine gl_n 4 rfl ?_
    refine gl_f rfl ?_ ?_
    · rw [show (20 : Int32) = Int32.ofNat 20 from rfl, ti_le (by omega) (by omega)]
      omega
    rcases hw with rfl | ⟨z, rfl⟩
    · exact gl_n 16 rfl step
    · exact gl_n 16 rfl step
theorem tro_x0 {a s t : Int32} (kk : ∀ (z : Int32) (w : Value), fl_G Q K fs d 255 54 [.int a, .int s, .int (tro a s 20 t 0).1, .int (tro a s 20 t 0).2, .int z, w] [] h) : fl_G Q K fs d 255 7 [.int a, .int s, .int t, .int 0, .int 0, .retAddr 0] [] h := tro_x 20 0 t _ rfl (Or.inl rfl) kk
theorem tro_m0 {a s b t : Int32} (kk : ∀ (z : Int32) (w : Value), fl_G Q K fs d 154 56 [.int a, .int s, .int b, .int (tro a s 20 t 0).1, .int (tro a s 20 t 0).2, .int z, w] [] h) : fl_G Q K fs d 154 8 [.int a, .int s, .int b, .int t, .int 0, .int 0, .retAddr 0] [] h := tro_m 20 0 t _ rfl (Or.inl rfl) kk
end LP2
end LOOPS2
