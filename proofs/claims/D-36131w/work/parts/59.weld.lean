set_option maxRecDepth 100000
section COILS_weld
set_option maxHeartbeats 20000000 in
theorem tl_weld_LC0 {sc : List Value} {i s1 s2  : Int32} {b0 b1 b2 b3 : Int64} {p0 p1 p2 p3 t0 t1 t2 t3 t4 t5 t6 d0 d1 d2 d3 d4 d5 : Int32} {vp : Value} {f mi cn th nb bg : Int32} {o : Int64} {LP LF LQ : cn_L} {P : mm_H → List Value → Prop} (hs : ∀ v ∈ sc, ∀ b, v ≠ .ref b) (hvp : vp = .null ∨ vp = .ref 4000) (h3 : cloB 3 LP = true) (h4 : cloB 4 LF = true) (h5 : cloQ [3100, 3140] LQ = true) (a1_ : scr sc i 1 s1) (a2_ : scr sc i 2 s2)  (hP : ∀ th o, P (can sc (cn_M (mainL b0 b1 b2 b3 p0 p1 p2 p3 t0 t1 t2 t3 t4 t5 t6 d0 d1 d2 d3 d4 d5 vp f mi cn th nb bg o) LC0 LP LF LQ)) (lcs (i + 6))) :
  fl_G (fun _ _ => False) (tk 299950 1375000 P) [] 60 0 352 [.ref 0, .ref 272, .ref 287, .ref 298, .ref 299, .int i, .retAddr 0, .retAddr 0, .retAddr 0] [] (([(0, 100, false, sc), (272, 0, true, [.ref 273, .ref 274, .ref 275, .ref 276, .ref 279, .ref 282, .ref 283, .ref 284, .ref 285, .ref 286, vp, .null, .int f, .int mi, .int cn, .int 0, .int 45]), (287, 21, true, [.ref 288, .ref 289, .ref 290, .ref 291, .ref 292, .ref 293, .ref 294, .ref 295, .ref 296, .ref 297, .int nb, .int f, .int (-1), .int mi, .int 0, .int 0, .int 0, .int th, .int bg, .long 0, .int 45]), (298, 101, true, [.long o]), (273, 1, true, [.int 0, .ref 1, .int 0]), (288, 1, true, [.int 0, .ref 1, .int 0])], cn_R sc (cn_M (mainL b0 b1 b2 b3 p0 p1 p2 p3 t0 t1 t2 t3 t4 t5 t6 d0 d1 d2 d3 d4 d5 vp f mi cn th nb bg o) LC0 LP LF LQ)), 9000, 0, 0) := by
  obtain ⟨R, hR⟩ : ∃ R, R = cn_R sc (cn_M (mainL b0 b1 b2 b3 p0 p1 p2 p3 t0 t1 t2 t3 t4 t5 t6 d0 d1 d2 d3 d4 d5 vp f mi cn th nb bg o) LC0 LP LF LQ) := ⟨_, rfl⟩
  rw [← hR]
  have e0s1 : rgF 0 (0 - 1) s1 := rg_e s1
  repeat' (first
    | with_reducible refine gl_end28 ?_
    | ((with_reducible refine c_inT ?_ ?_); (with_reducible assumption))
    | ((with_reducible refine c_inF ?_ ?_); (with_reducible assumption))
    | ((with_reducible apply c_isInT); (with_reducible assumption); rfl; rfl)
    | ((with_reducible apply c_isInF); (with_reducible assumption); rfl; rfl)
    | ((with_reducible refine c_rqx ?_ ?_ ?_); rfl; (with_reducible assumption))
    | ((with_reducible apply gl_sc); rfl; rfl; (with_reducible assumption))
    | ((with_reducible refine gl_lcmp ?_ ?_ ?_); rfl; rfl)
    | refine gl_t rfl (by first | with_reducible assumption | exact fun z => z (by with_reducible assumption)) ?_
    | refine gl_f rfl (by first | with_reducible assumption | exact fun z => z (by with_reducible assumption)) ?_
    | refine gl_fly [(0, 28), (208, 0), (108, 0), (0, 358), (0, 364), (0, 377), (0, 383), (0, 411), (248, 0), (113, 23), (113, 31), (113, 43), (113, 55), (113, 67), (113, 84), (115, 27), (115, 39), (115, 51), (115, 61), (115, 72), (115, 119)] rfl ?_
    | (refine gl_ite rfl ?_ ?_ <;> intro hc <;> (try simp only [Decidable.not_not] at hc)))
  all_goals (subst hR; first
    | exact tk_leaf [(0, 100, false, sc)] [] 2 hs rfl (main_ok (vp_cl hvp) rfl h3 h4 h5) (hP _ _) (cn_hj (Or.inl rfl) (Or.inr rfl) (Or.inr rfl) (Or.inr rfl)) rfl (ro_cons rfl rfl ro_nil) rfl rfl rfl (ck_cons0 rfl (ck_cons0 rfl (ck_cons0 rfl (ck_cons0 rfl (ck_cons0 rfl (ck_cons0 rfl (ck_cons0 rfl (ck_cons0 rfl (ck_cons0 rfl (ck_cons0 rfl (ck_cons0 rfl (ck_cons0 rfl (ck_cons0 rfl (ck_cons0 rfl ck_nil)))))))))))))) (ck_cons0 rfl (ck_cons0 rfl ck_nil)) rfl rfl rfl)
set_option maxHeartbeats 20000000 in
theorem tl_weld_LC1 {sc : List Value} {i s1 s2 a0 w0 l0 u0 : Int32} {b0 b1 b2 b3 : Int64} {p0 p1 p2 p3 t0 t1 t2 t3 t4 t5 t6 d0 d1 d2 d3 d4 d5 : Int32} {vp : Value} {f mi cn th nb bg : Int32} {o : Int64} {LP LF LQ : cn_L} {P : mm_H → List Value → Prop} (hs : ∀ v ∈ sc, ∀ b, v ≠ .ref b) (hvp : vp = .null ∨ vp = .ref 4000) (h3 : cloB 3 LP = true) (h4 : cloB 4 LF = true) (h5 : cloQ [3100, 3140] LQ = true) (a1_ : scr sc i 1 s1) (a2_ : scr sc i 2 s2) (hl0 : rgT 1 100000 l0) (hP : ∀ th o, P (can sc (cn_M (mainL b0 b1 b2 b3 p0 p1 p2 p3 t0 t1 t2 t3 t4 t5 t6 d0 d1 d2 d3 d4 d5 vp f mi cn th nb bg o) (LC1 a0 w0 l0 u0) LP LF LQ)) (lcs (i + 6))) :
  fl_G (fun _ _ => False) (tk 299950 1375000 P) [] 60 0 352 [.ref 0, .ref 272, .ref 287, .ref 298, .ref 299, .int i, .retAddr 0, .retAddr 0, .retAddr 0] [] (([(0, 100, false, sc), (272, 0, true, [.ref 273, .ref 274, .ref 275, .ref 276, .ref 279, .ref 282, .ref 283, .ref 284, .ref 285, .ref 286, vp, .null, .int f, .int mi, .int cn, .int 0, .int 45]), (287, 21, true, [.ref 288, .ref 289, .ref 290, .ref 291, .ref 292, .ref 293, .ref 294, .ref 295, .ref 296, .ref 297, .int nb, .int f, .int (-1), .int mi, .int 0, .int 0, .int 0, .int th, .int bg, .long 0, .int 45]), (298, 101, true, [.long o]), (273, 1, true, [.int 1, .ref 2000, .int 1]), (2000, 104, true, [.ref 2010, .null, .null, .null, .null, .null, .null, .null, .null, .null]), (2010, 6, true, [.int a0, .int w0, .ref 2011]), (2011, 1, true, [.int 1, .ref 2012, .int 1]), (2012, 104, true, [.ref 2013, .null, .null, .null, .null, .null, .null, .null, .null, .null]), (2013, 8, true, [.int l0, .int u0]), (288, 1, true, [.int 1, .ref 2100, .int 1]), (2100, 104, true, [.ref 2110, .null, .null, .null, .null, .null, .null, .null, .null, .null]), (2110, 22, true, [.int a0, .int w0, .ref 2111]), (2111, 1, true, [.int 1, .ref 2112, .int 1]), (2112, 104, true, [.ref 2113, .null, .null, .null, .null, .null, .null, .null, .null, .null]), (2113, 23, true, [.int l0, .int u0])], cn_R sc (cn_M (mainL b0 b1 b2 b3 p0 p1 p2 p3 t0 t1 t2 t3 t4 t5 t6 d0 d1 d2 d3 d4 d5 vp f mi cn th nb bg o) (LC1 a0 w0 l0 u0) LP LF LQ)), 9000, 0, 0) := by
  obtain ⟨R, hR⟩ : ∃ R, R = cn_R sc (cn_M (mainL b0 b1 b2 b3 p0 p1 p2 p3 t0 t1 t2 t3 t4 t5 t6 d0 d1 d2 d3 d4 d5 vp f mi cn th nb bg o) (LC1 a0 w0 l0 u0) LP LF LQ) := ⟨_, rfl⟩
  rw [← hR]
  have q0 : ¬ 0 + l0 ≤ 0 := l_pos hl0
  rcases iy_1 s1 with e1 | ⟨e1, _⟩
  all_goals (try subst e1)
  all_goals (rcases iy_1 s2 with e3 | ⟨e3, _⟩ <;> (try subst e3))
  repeat' (first
    | with_reducible refine gl_end28 ?_
    | ((with_reducible refine c_inT ?_ ?_); (with_reducible assumption))
    | ((with_reducible refine c_inF ?_ ?_); (with_reducible assumption))
    | ((with_reducible apply c_isInT); (with_reducible assumption); rfl; rfl)
    | ((with_reducible apply c_isInF); (with_reducible assumption); rfl; rfl)
    | ((with_reducible refine c_rqx ?_ ?_ ?_); rfl; (with_reducible assumption))
    | ((with_reducible apply gl_sc); rfl; rfl; (with_reducible assumption))
    | ((with_reducible refine gl_lcmp ?_ ?_ ?_); rfl; rfl)
    | refine gl_t rfl (by first | with_reducible assumption | exact fun z => z (by with_reducible assumption)) ?_
    | refine gl_f rfl (by first | with_reducible assumption | exact fun z => z (by with_reducible assumption)) ?_
    | refine gl_fly [(0, 28), (208, 0), (108, 0), (0, 358), (0, 364), (0, 377), (0, 383), (0, 411), (248, 0), (113, 23), (113, 31), (113, 43), (113, 55), (113, 67), (113, 84), (115, 27), (115, 39), (115, 51), (115, 61), (115, 72), (115, 119)] rfl ?_
    | (refine gl_ite rfl ?_ ?_ <;> intro hc <;> (try simp only [Decidable.not_not] at hc)))
  all_goals (subst hR; first
    | exact tk_leaf [(0, 100, false, sc)] [] 2 hs rfl (main_ok (vp_cl hvp) rfl h3 h4 h5) (hP _ _) (cn_hj (Or.inl rfl) (Or.inr rfl) (Or.inr rfl) (Or.inr rfl)) rfl (ro_cons rfl rfl ro_nil) rfl rfl rfl (ck_cons0 rfl (ck_cons0 rfl (ck_cons0 rfl (ck_cons0 rfl (ck_cons0 rfl (ck_cons0 rfl (ck_cons0 rfl (ck_cons0 rfl (ck_cons0 rfl (ck_cons0 rfl (ck_cons0 rfl (ck_cons0 rfl (ck_cons0 rfl (ck_cons0 rfl ck_nil)))))))))))))) (ck_cons0 rfl (ck_cons0 rfl (ck_cons0 rfl (ck_cons0 rfl (ck_cons0 rfl (ck_cons0 rfl (ck_cons0 rfl (ck_cons0 rfl (ck_cons0 rfl (ck_cons0 rfl (ck_cons0 rfl (ck_cons0 rfl ck_nil)))))))))))) rfl rfl rfl)
set_option maxHeartbeats 20000000 in
theorem tl_weld_LC2 {sc : List Value} {i s1 s2 a0 w0 l0 u0 a1 w1 l1 u1 : Int32} {b0 b1 b2 b3 : Int64} {p0 p1 p2 p3 t0 t1 t2 t3 t4 t5 t6 d0 d1 d2 d3 d4 d5 : Int32} {vp : Value} {f mi cn th nb bg : Int32} {o : Int64} {LP LF LQ : cn_L} {P : mm_H → List Value → Prop} (hs : ∀ v ∈ sc, ∀ b, v ≠ .ref b) (hvp : vp = .null ∨ vp = .ref 4000) (h3 : cloB 3 LP = true) (h4 : cloB 4 LF = true) (h5 : cloQ [3100, 3140] LQ = true) (a1_ : scr sc i 1 s1) (a2_ : scr sc i 2 s2) (hl0 : rgT 1 100000 l0) (hl1 : rgT 1 100000 l1) (hP : ∀ th o, P (can sc (cn_M (mainL b0 b1 b2 b3 p0 p1 p2 p3 t0 t1 t2 t3 t4 t5 t6 d0 d1 d2 d3 d4 d5 vp f mi cn th nb bg o) (LC2 a0 w0 l0 u0 a1 w1 l1 u1) LP LF LQ)) (lcs (i + 6))) (hP2 : a0 = a1 → w0 = w1 → ∀ th o, P (can sc (cn_M (mainL b0 b1 b2 b3 p0 p1 p2 p3 t0 t1 t2 t3 t4 t5 t6 d0 d1 d2 d3 d4 d5 vp f mi cn th nb bg o) (LW0 a0 w0 l0 u0 l1 u1) LP LF LQ)) (lcs (i + 6))) (hP3 : a0 = a1 → w0 = w1 → ∀ th o, P (can sc (cn_M (mainL b0 b1 b2 b3 p0 p1 p2 p3 t0 t1 t2 t3 t4 t5 t6 d0 d1 d2 d3 d4 d5 vp f mi cn th nb bg o) (LW1 a0 w0 l0 u0 l1 u1) LP LF LQ)) (lcs (i + 6))) :
  fl_G (fun _ _ => False) (tk 299950 1375000 P) [] 60 0 352 [.ref 0, .ref 272, .ref 287, .ref 298, .ref 299, .int i, .retAddr 0, .retAddr 0, .retAddr 0] [] (([(0, 100, false, sc), (272, 0, true, [.ref 273, .ref 274, .ref 275, .ref 276, .ref 279, .ref 282, .ref 283, .ref 284, .ref 285, .ref 286, vp, .null, .int f, .int mi, .int cn, .int 0, .int 45]), (287, 21, true, [.ref 288, .ref 289, .ref 290, .ref 291, .ref 292, .ref 293, .ref 294, .ref 295, .ref 296, .ref 297, .int nb, .int f, .int (-1), .int mi, .int 0, .int 0, .int 0, .int th, .int bg, .long 0, .int 45]), (298, 101, true, [.long o]), (273, 1, true, [.int 2, .ref 2000, .int 2]), (2000, 104, true, [.ref 2010, .ref 2014, .null, .null, .null, .null, .null, .null, .null, .null]), (2010, 6, true, [.int a0, .int w0, .ref 2011]), (2011, 1, true, [.int 1, .ref 2012, .int 1]), (2012, 104, true, [.ref 2013, .null, .null, .null, .null, .null, .null, .null, .null, .null]), (2013, 8, true, [.int l0, .int u0]), (2014, 6, true, [.int a1, .int w1, .ref 2015]), (2015, 1, true, [.int 1, .ref 2016, .int 1]), (2016, 104, true, [.ref 2017, .null, .null, .null, .null, .null, .null, .null, .null, .null]), (2017, 8, true, [.int l1, .int u1]), (288, 1, true, [.int 2, .ref 2100, .int 2]), (2100, 104, true, [.ref 2110, .ref 2114, .null, .null, .null, .null, .null, .null, .null, .null]), (2110, 22, true, [.int a0, .int w0, .ref 2111]), (2111, 1, true, [.int 1, .ref 2112, .int 1]), (2112, 104, true, [.ref 2113, .null, .null, .null, .null, .null, .null, .null, .null, .null]), (2113, 23, true, [.int l0, .int u0]), (2114, 22, true, [.int a1, .int w1, .ref 2115]), (2115, 1, true, [.int 1, .ref 2116, .int 1]), (2116, 104, true, [.ref 2117, .null, .null, .null, .null, .null, .null, .null, .null, .null]), (2117, 23, true, [.int l1, .int u1])], cn_R sc (cn_M (mainL b0 b1 b2 b3 p0 p1 p2 p3 t0 t1 t2 t3 t4 t5 t6 d0 d1 d2 d3 d4 d5 vp f mi cn th nb bg o) (LC2 a0 w0 l0 u0 a1 w1 l1 u1) LP LF LQ)), 9000, 0, 0) := by
  obtain ⟨R, hR⟩ : ∃ R, R = cn_R sc (cn_M (mainL b0 b1 b2 b3 p0 p1 p2 p3 t0 t1 t2 t3 t4 t5 t6 d0 d1 d2 d3 d4 d5 vp f mi cn th nb bg o) (LC2 a0 w0 l0 u0 a1 w1 l1 u1) LP LF LQ) := ⟨_, rfl⟩
  rw [← hR]
  have q0 : ¬ 0 + l0 ≤ 0 := l_pos hl0
  have q1 : ¬ 0 + l1 ≤ 0 := l_pos hl1
  rcases iy_2 s1 with e1 | ⟨e1, _⟩ | ⟨e1, _⟩
  all_goals (try subst e1)
  all_goals (rcases iy_2 s2 with e3 | ⟨e3, _⟩ | ⟨e3, _⟩ <;> (try subst e3))
  repeat' (first
    | with_reducible refine gl_end28 ?_
    | ((with_reducible refine c_inT ?_ ?_); (with_reducible assumption))
    | ((with_reducible refine c_inF ?_ ?_); (with_reducible assumption))
    | ((with_reducible apply c_isInT); (with_reducible assumption); rfl; rfl)
    | ((with_reducible apply c_isInF); (with_reducible assumption); rfl; rfl)
    | ((with_reducible refine c_rqx ?_ ?_ ?_); rfl; (with_reducible assumption))
    | ((with_reducible apply gl_sc); rfl; rfl; (with_reducible assumption))
    | ((with_reducible refine gl_lcmp ?_ ?_ ?_); rfl; rfl)
    | refine gl_t rfl (by first | with_reducible assumption | exact fun z => z (by with_reducible assumption)) ?_
    | refine gl_f rfl (by first | with_reducible assumption | exact fun z => z (by with_reducible assumption)) ?_
    | refine gl_fly [(0, 28), (208, 0), (108, 0), (0, 358), (0, 364), (0, 377), (0, 383), (0, 411), (248, 0), (113, 23), (113, 31), (113, 43), (113, 55), (113, 67), (113, 84), (115, 27), (115, 39), (115, 51), (115, 61), (115, 72), (115, 119)] rfl ?_
    | (refine gl_ite rfl ?_ ?_ <;> intro hc <;> (try simp only [Decidable.not_not] at hc)))
  all_goals (subst hR; first
    | exact tk_leaf [(0, 100, false, sc)] [] 2 hs rfl (main_ok (vp_cl hvp) rfl h3 h4 h5) (hP _ _) (cn_hj (Or.inl rfl) (Or.inr rfl) (Or.inr rfl) (Or.inr rfl)) rfl (ro_cons rfl rfl ro_nil) rfl rfl rfl (ck_cons0 rfl (ck_cons0 rfl (ck_cons0 rfl (ck_cons0 rfl (ck_cons0 rfl (ck_cons0 rfl (ck_cons0 rfl (ck_cons0 rfl (ck_cons0 rfl (ck_cons0 rfl (ck_cons0 rfl (ck_cons0 rfl (ck_cons0 rfl (ck_cons0 rfl ck_nil)))))))))))))) (ck_cons0 rfl (ck_cons0 rfl (ck_cons0 rfl (ck_cons0 rfl (ck_cons0 rfl (ck_cons0 rfl (ck_cons0 rfl (ck_cons0 rfl (ck_cons0 rfl (ck_cons0 rfl (ck_cons0 rfl (ck_cons0 rfl (ck_cons0 rfl (ck_cons0 rfl (ck_cons0 rfl (ck_cons0 rfl (ck_cons0 rfl (ck_cons0 rfl (ck_cons0 rfl (ck_cons0 rfl ck_nil)))))))))))))))))))) rfl rfl rfl
    | (subst_vars; exact tk_leaf [(0, 100, false, sc)] [] 2 hs rfl (main_ok (vp_cl hvp) rfl h3 h4 h5) (hP2 rfl rfl _ _) (cn_hj (Or.inl rfl) (Or.inr rfl) (Or.inr rfl) (Or.inr rfl)) rfl (ro_cons rfl rfl ro_nil) rfl rfl rfl (ck_cons0 rfl (ck_cons0 rfl (ck_cons0 rfl (ck_cons0 rfl (ck_cons0 rfl (ck_cons0 rfl (ck_cons0 rfl (ck_cons0 rfl (ck_cons0 rfl (ck_cons0 rfl (ck_cons0 rfl (ck_cons0 rfl (ck_cons0 rfl (ck_cons0 rfl ck_nil)))))))))))))) (ck_cons0 rfl (ck_cons0 rfl (ck_cons0 rfl (ck_cons0 rfl (ck_cons0 rfl (ck_cons0 rfl (ck_cons0 rfl (ck_cons0 rfl (ck_cons0 rfl (ck_cons0 rfl (ck_cons0 rfl (ck_cons0 rfl (ck_cons0 rfl (ck_cons0 rfl (ck_cons0 rfl (ck_cons0 rfl (ck_cons0 rfl (ck_cons0 rfl (ck_cons0 rfl (ck_cons0 rfl ck_nil)))))))))))))))))))) rfl rfl rfl)
    | (subst_vars; exact tk_leaf [(0, 100, false, sc)] [] 2 hs rfl (main_ok (vp_cl hvp) rfl h3 h4 h5) (hP3 rfl rfl _ _) (cn_hj (Or.inl rfl) (Or.inr rfl) (Or.inr rfl) (Or.inr rfl)) rfl (ro_cons rfl rfl ro_nil) rfl rfl rfl (ck_cons0 rfl (ck_cons0 rfl (ck_cons0 rfl (ck_cons0 rfl (ck_cons0 rfl (ck_cons0 rfl (ck_cons0 rfl (ck_cons0 rfl (ck_cons0 rfl (ck_cons0 rfl (ck_cons0 rfl (ck_cons0 rfl (ck_cons0 rfl (ck_cons0 rfl ck_nil)))))))))))))) (ck_cons0 rfl (ck_cons0 rfl (ck_cons0 rfl (ck_cons0 rfl (ck_cons0 rfl (ck_cons0 rfl (ck_cons0 rfl (ck_cons0 rfl (ck_cons0 rfl (ck_cons0 rfl (ck_cons0 rfl (ck_cons0 rfl (ck_cons0 rfl (ck_cons0 rfl (ck_cons0 rfl (ck_cons0 rfl (ck_cons0 rfl (ck_cons0 rfl (ck_cons0 rfl (ck_cons0 rfl ck_nil)))))))))))))))))))) rfl rfl rfl))
set_option maxHeartbeats 20000000 in
theorem tl_weld_LC3 {sc : List Value} {i s1 s2 a0 w0 l0 u0 a1 w1 l1 u1 a2 w2 l2 u2 : Int32} {b0 b1 b2 b3 : Int64} {p0 p1 p2 p3 t0 t1 t2 t3 t4 t5 t6 d0 d1 d2 d3 d4 d5 : Int32} {vp : Value} {f mi cn th nb bg : Int32} {o : Int64} {LP LF LQ : cn_L} {P : mm_H → List Value → Prop} (hs : ∀ v ∈ sc, ∀ b, v ≠ .ref b) (hvp : vp = .null ∨ vp = .ref 4000) (h3 : cloB 3 LP = true) (h4 : cloB 4 LF = true) (h5 : cloQ [3100, 3140] LQ = true) (a1_ : scr sc i 1 s1) (a2_ : scr sc i 2 s2) (hl0 : rgT 1 100000 l0) (hl1 : rgT 1 100000 l1) (hl2 : rgT 1 100000 l2) (hP : ∀ th o, P (can sc (cn_M (mainL b0 b1 b2 b3 p0 p1 p2 p3 t0 t1 t2 t3 t4 t5 t6 d0 d1 d2 d3 d4 d5 vp f mi cn th nb bg o) (LC3 a0 w0 l0 u0 a1 w1 l1 u1 a2 w2 l2 u2) LP LF LQ)) (lcs (i + 6))) (hPa : P (([], fun a => bif Nat.beq a 0 then some (100, false, sc) else none), 9000, 0, 0) (lcs (i + 6))) :
  fl_G (fun _ _ => False) (tk 299950 1375000 P) [] 60 0 352 [.ref 0, .ref 272, .ref 287, .ref 298, .ref 299, .int i, .retAddr 0, .retAddr 0, .retAddr 0] [] (([(0, 100, false, sc), (272, 0, true, [.ref 273, .ref 274, .ref 275, .ref 276, .ref 279, .ref 282, .ref 283, .ref 284, .ref 285, .ref 286, vp, .null, .int f, .int mi, .int cn, .int 0, .int 45]), (287, 21, true, [.ref 288, .ref 289, .ref 290, .ref 291, .ref 292, .ref 293, .ref 294, .ref 295, .ref 296, .ref 297, .int nb, .int f, .int (-1), .int mi, .int 0, .int 0, .int 0, .int th, .int bg, .long 0, .int 45]), (298, 101, true, [.long o]), (273, 1, true, [.int 3, .ref 2000, .int 3]), (2000, 104, true, [.ref 2010, .ref 2014, .ref 2018, .null, .null, .null, .null, .null, .null, .null]), (2010, 6, true, [.int a0, .int w0, .ref 2011]), (2011, 1, true, [.int 1, .ref 2012, .int 1]), (2012, 104, true, [.ref 2013, .null, .null, .null, .null, .null, .null, .null, .null, .null]), (2013, 8, true, [.int l0, .int u0]), (2014, 6, true, [.int a1, .int w1, .ref 2015]), (2015, 1, true, [.int 1, .ref 2016, .int 1]), (2016, 104, true, [.ref 2017, .null, .null, .null, .null, .null, .null, .null, .null, .null]), (2017, 8, true, [.int l1, .int u1]), (2018, 6, true, [.int a2, .int w2, .ref 2019]), (2019, 1, true, [.int 1, .ref 2020, .int 1]), (2020, 104, true, [.ref 2021, .null, .null, .null, .null, .null, .null, .null, .null, .null]), (2021, 8, true, [.int l2, .int u2]), (288, 1, true, [.int 3, .ref 2100, .int 3]), (2100, 104, true, [.ref 2110, .ref 2114, .ref 2118, .null, .null, .null, .null, .null, .null, .null]), (2110, 22, true, [.int a0, .int w0, .ref 2111]), (2111, 1, true, [.int 1, .ref 2112, .int 1]), (2112, 104, true, [.ref 2113, .null, .null, .null, .null, .null, .null, .null, .null, .null]), (2113, 23, true, [.int l0, .int u0]), (2114, 22, true, [.int a1, .int w1, .ref 2115]), (2115, 1, true, [.int 1, .ref 2116, .int 1]), (2116, 104, true, [.ref 2117, .null, .null, .null, .null, .null, .null, .null, .null, .null]), (2117, 23, true, [.int l1, .int u1]), (2118, 22, true, [.int a2, .int w2, .ref 2119]), (2119, 1, true, [.int 1, .ref 2120, .int 1]), (2120, 104, true, [.ref 2121, .null, .null, .null, .null, .null, .null, .null, .null, .null]), (2121, 23, true, [.int l2, .int u2])], cn_R sc (cn_M (mainL b0 b1 b2 b3 p0 p1 p2 p3 t0 t1 t2 t3 t4 t5 t6 d0 d1 d2 d3 d4 d5 vp f mi cn th nb bg o) (LC3 a0 w0 l0 u0 a1 w1 l1 u1 a2 w2 l2 u2) LP LF LQ)), 9000, 0, 0) := by
  obtain ⟨R, hR⟩ : ∃ R, R = cn_R sc (cn_M (mainL b0 b1 b2 b3 p0 p1 p2 p3 t0 t1 t2 t3 t4 t5 t6 d0 d1 d2 d3 d4 d5 vp f mi cn th nb bg o) (LC3 a0 w0 l0 u0 a1 w1 l1 u1 a2 w2 l2 u2) LP LF LQ) := ⟨_, rfl⟩
  rw [← hR]
  have q0 : ¬ 0 + l0 ≤ 0 := l_pos hl0
  have q1 : ¬ 0 + l1 ≤ 0 := l_pos hl1
  have q2 : ¬ 0 + l2 ≤ 0 := l_pos hl2
  rcases iy_3 s1 with e1 | ⟨e1, _⟩ | ⟨e1, _⟩ | ⟨e1, _⟩
  all_goals (try subst e1)
  all_goals (rcases iy_3 s2 with e3 | ⟨e3, _⟩ | ⟨e3, _⟩ | ⟨e3, _⟩ <;> (try subst e3))
  repeat' (first
    | with_reducible refine gl_end28 ?_
    | ((with_reducible refine c_inT ?_ ?_); (with_reducible assumption))
    | ((with_reducible refine c_inF ?_ ?_); (with_reducible assumption))
    | ((with_reducible apply c_isInT); (with_reducible assumption); rfl; rfl)
    | ((with_reducible apply c_isInF); (with_reducible assumption); rfl; rfl)
    | ((with_reducible refine c_rqx ?_ ?_ ?_); rfl; (with_reducible assumption))
    | ((with_reducible apply gl_sc); rfl; rfl; (with_reducible assumption))
    | ((with_reducible refine gl_lcmp ?_ ?_ ?_); rfl; rfl)
    | refine gl_t rfl (by first | with_reducible assumption | exact fun z => z (by with_reducible assumption)) ?_
    | refine gl_f rfl (by first | with_reducible assumption | exact fun z => z (by with_reducible assumption)) ?_
    | refine gl_fly [(0, 28), (208, 0), (108, 0), (0, 358), (0, 364), (0, 377), (0, 383), (0, 411), (248, 0), (113, 23), (113, 31), (113, 43), (113, 55), (113, 67), (113, 84), (115, 27), (115, 39), (115, 51), (115, 61), (115, 72), (115, 119)] rfl ?_
    | (refine gl_ite rfl ?_ ?_ <;> intro hc <;> (try simp only [Decidable.not_not] at hc)))
  all_goals (subst hR; first
    | exact tk_leaf [(0, 100, false, sc)] [] 2 hs rfl (main_ok (vp_cl hvp) rfl h3 h4 h5) (hP _ _) (cn_hj (Or.inl rfl) (Or.inr rfl) (Or.inr rfl) (Or.inr rfl)) rfl (ro_cons rfl rfl ro_nil) rfl rfl rfl (ck_cons0 rfl (ck_cons0 rfl (ck_cons0 rfl (ck_cons0 rfl (ck_cons0 rfl (ck_cons0 rfl (ck_cons0 rfl (ck_cons0 rfl (ck_cons0 rfl (ck_cons0 rfl (ck_cons0 rfl (ck_cons0 rfl (ck_cons0 rfl (ck_cons0 rfl ck_nil)))))))))))))) (ck_cons0 rfl (ck_cons0 rfl (ck_cons0 rfl (ck_cons0 rfl (ck_cons0 rfl (ck_cons0 rfl (ck_cons0 rfl (ck_cons0 rfl (ck_cons0 rfl (ck_cons0 rfl (ck_cons0 rfl (ck_cons0 rfl (ck_cons0 rfl (ck_cons0 rfl (ck_cons0 rfl (ck_cons0 rfl (ck_cons0 rfl (ck_cons0 rfl (ck_cons0 rfl (ck_cons0 rfl (ck_cons0 rfl (ck_cons0 rfl (ck_cons0 rfl (ck_cons0 rfl (ck_cons0 rfl (ck_cons0 rfl (ck_cons0 rfl (ck_cons0 rfl ck_nil)))))))))))))))))))))))))))) rfl rfl rfl
    | exact tk_any hs hPa rfl rfl rfl rfl)
set_option maxHeartbeats 20000000 in
theorem tl_weld_LW0 {sc : List Value} {i s1 s2 a0 w0 l0 u0 l1 u1 : Int32} {b0 b1 b2 b3 : Int64} {p0 p1 p2 p3 t0 t1 t2 t3 t4 t5 t6 d0 d1 d2 d3 d4 d5 : Int32} {vp : Value} {f mi cn th nb bg : Int32} {o : Int64} {LP LF LQ : cn_L} {P : mm_H → List Value → Prop} (hs : ∀ v ∈ sc, ∀ b, v ≠ .ref b) (hvp : vp = .null ∨ vp = .ref 4000) (h3 : cloB 3 LP = true) (h4 : cloB 4 LF = true) (h5 : cloQ [3100, 3140] LQ = true) (a1_ : scr sc i 1 s1) (a2_ : scr sc i 2 s2) (hl0 : rgT 1 100000 l0) (hl1 : rgT 1 100000 l1) (hP : ∀ th o, P (can sc (cn_M (mainL b0 b1 b2 b3 p0 p1 p2 p3 t0 t1 t2 t3 t4 t5 t6 d0 d1 d2 d3 d4 d5 vp f mi cn th nb bg o) (LW0 a0 w0 l0 u0 l1 u1) LP LF LQ)) (lcs (i + 6))) :
  fl_G (fun _ _ => False) (tk 299950 1375000 P) [] 60 0 352 [.ref 0, .ref 272, .ref 287, .ref 298, .ref 299, .int i, .retAddr 0, .retAddr 0, .retAddr 0] [] (([(0, 100, false, sc), (272, 0, true, [.ref 273, .ref 274, .ref 275, .ref 276, .ref 279, .ref 282, .ref 283, .ref 284, .ref 285, .ref 286, vp, .null, .int f, .int mi, .int cn, .int 0, .int 45]), (287, 21, true, [.ref 288, .ref 289, .ref 290, .ref 291, .ref 292, .ref 293, .ref 294, .ref 295, .ref 296, .ref 297, .int nb, .int f, .int (-1), .int mi, .int 0, .int 0, .int 0, .int th, .int bg, .long 0, .int 45]), (298, 101, true, [.long o]), (273, 1, true, [.int 2, .ref 2000, .int 2]), (2000, 104, true, [.ref 2010, .ref 2014, .null, .null, .null, .null, .null, .null, .null, .null]), (2010, 6, true, [.int a0, .int w0, .ref 2011]), (2011, 1, true, [.int 2, .ref 2012, .int 2]), (2012, 104, true, [.ref 2013, .ref 2017, .null, .null, .null, .null, .null, .null, .null, .null]), (2013, 8, true, [.int l0, .int u0]), (2014, 6, true, [.int a0, .int w0, .ref 2015]), (2015, 1, true, [.int 2, .ref 2016, .int 0]), (2016, 104, true, [.null, .null, .null, .null, .null, .null, .null, .null, .null, .null]), (2017, 8, true, [.int l1, .int u1]), (288, 1, true, [.int 2, .ref 2100, .int 2]), (2100, 104, true, [.ref 2110, .ref 2114, .null, .null, .null, .null, .null, .null, .null, .null]), (2110, 22, true, [.int a0, .int w0, .ref 2111]), (2111, 1, true, [.int 2, .ref 2112, .int 2]), (2112, 104, true, [.ref 2113, .ref 2117, .null, .null, .null, .null, .null, .null, .null, .null]), (2113, 23, true, [.int l0, .int u0]), (2114, 22, true, [.int a0, .int w0, .ref 2115]), (2115, 1, true, [.int 2, .ref 2116, .int 0]), (2116, 104, true, [.null, .null, .null, .null, .null, .null, .null, .null, .null, .null]), (2117, 23, true, [.int l1, .int u1])], cn_R sc (cn_M (mainL b0 b1 b2 b3 p0 p1 p2 p3 t0 t1 t2 t3 t4 t5 t6 d0 d1 d2 d3 d4 d5 vp f mi cn th nb bg o) (LW0 a0 w0 l0 u0 l1 u1) LP LF LQ)), 9000, 0, 0) := by
  obtain ⟨R, hR⟩ : ∃ R, R = cn_R sc (cn_M (mainL b0 b1 b2 b3 p0 p1 p2 p3 t0 t1 t2 t3 t4 t5 t6 d0 d1 d2 d3 d4 d5 vp f mi cn th nb bg o) (LW0 a0 w0 l0 u0 l1 u1) LP LF LQ) := ⟨_, rfl⟩
  rw [← hR]
  have q0 : ¬ 0 + l0 ≤ 0 := l_pos hl0
  have q1 : ¬ 0 + l1 ≤ 0 := l_pos hl1
  have q9 : ¬ 0 + l0 + l1 ≤ 0 := l_pos2 hl0 hl1
  have q8 : ¬ 0 + l1 + l0 ≤ 0 := l_pos2 hl1 hl0
  rcases iy_2 s1 with e1 | ⟨e1, _⟩ | ⟨e1, _⟩
  all_goals (try subst e1)
  all_goals (rcases iy_2 s2 with e3 | ⟨e3, _⟩ | ⟨e3, _⟩ <;> (try subst e3))
  repeat' (first
    | with_reducible refine gl_end28 ?_
    | ((with_reducible refine c_inT ?_ ?_); (with_reducible assumption))
    | ((with_reducible refine c_inF ?_ ?_); (with_reducible assumption))
    | ((with_reducible apply c_isInT); (with_reducible assumption); rfl; rfl)
    | ((with_reducible apply c_isInF); (with_reducible assumption); rfl; rfl)
    | ((with_reducible refine c_rqx ?_ ?_ ?_); rfl; (with_reducible assumption))
    | ((with_reducible apply gl_sc); rfl; rfl; (with_reducible assumption))
    | ((with_reducible refine gl_lcmp ?_ ?_ ?_); rfl; rfl)
    | refine gl_t rfl (by first | with_reducible assumption | exact fun z => z (by with_reducible assumption)) ?_
    | refine gl_f rfl (by first | with_reducible assumption | exact fun z => z (by with_reducible assumption)) ?_
    | refine gl_fly [(0, 28), (208, 0), (108, 0), (0, 358), (0, 364), (0, 377), (0, 383), (0, 411), (248, 0), (113, 23), (113, 31), (113, 43), (113, 55), (113, 67), (113, 84), (115, 27), (115, 39), (115, 51), (115, 61), (115, 72), (115, 119)] rfl ?_
    | (refine gl_ite rfl ?_ ?_ <;> intro hc <;> (try simp only [Decidable.not_not] at hc)))
  all_goals (subst hR; first
    | exact tk_leaf [(0, 100, false, sc)] [] 2 hs rfl (main_ok (vp_cl hvp) rfl h3 h4 h5) (hP _ _) (cn_hj (Or.inl rfl) (Or.inr rfl) (Or.inr rfl) (Or.inr rfl)) rfl (ro_cons rfl rfl ro_nil) rfl rfl rfl (ck_cons0 rfl (ck_cons0 rfl (ck_cons0 rfl (ck_cons0 rfl (ck_cons0 rfl (ck_cons0 rfl (ck_cons0 rfl (ck_cons0 rfl (ck_cons0 rfl (ck_cons0 rfl (ck_cons0 rfl (ck_cons0 rfl (ck_cons0 rfl (ck_cons0 rfl ck_nil)))))))))))))) (ck_cons0 rfl (ck_cons0 rfl (ck_cons0 rfl (ck_cons0 rfl (ck_cons0 rfl (ck_cons0 rfl (ck_cons0 rfl (ck_cons0 rfl (ck_cons0 rfl (ck_cons0 rfl (ck_cons0 rfl (ck_cons0 rfl (ck_cons0 rfl (ck_cons0 rfl (ck_cons0 rfl (ck_cons0 rfl (ck_cons0 rfl (ck_cons0 rfl (ck_cons0 rfl (ck_cons0 rfl ck_nil)))))))))))))))))))) rfl rfl rfl)
set_option maxHeartbeats 20000000 in
theorem tl_weld_LW1 {sc : List Value} {i s1 s2 a0 w0 l0 u0 l1 u1 : Int32} {b0 b1 b2 b3 : Int64} {p0 p1 p2 p3 t0 t1 t2 t3 t4 t5 t6 d0 d1 d2 d3 d4 d5 : Int32} {vp : Value} {f mi cn th nb bg : Int32} {o : Int64} {LP LF LQ : cn_L} {P : mm_H → List Value → Prop} (hs : ∀ v ∈ sc, ∀ b, v ≠ .ref b) (hvp : vp = .null ∨ vp = .ref 4000) (h3 : cloB 3 LP = true) (h4 : cloB 4 LF = true) (h5 : cloQ [3100, 3140] LQ = true) (a1_ : scr sc i 1 s1) (a2_ : scr sc i 2 s2) (hl0 : rgT 1 100000 l0) (hl1 : rgT 1 100000 l1) (hP : ∀ th o, P (can sc (cn_M (mainL b0 b1 b2 b3 p0 p1 p2 p3 t0 t1 t2 t3 t4 t5 t6 d0 d1 d2 d3 d4 d5 vp f mi cn th nb bg o) (LW1 a0 w0 l0 u0 l1 u1) LP LF LQ)) (lcs (i + 6))) :
  fl_G (fun _ _ => False) (tk 299950 1375000 P) [] 60 0 352 [.ref 0, .ref 272, .ref 287, .ref 298, .ref 299, .int i, .retAddr 0, .retAddr 0, .retAddr 0] [] (([(0, 100, false, sc), (272, 0, true, [.ref 273, .ref 274, .ref 275, .ref 276, .ref 279, .ref 282, .ref 283, .ref 284, .ref 285, .ref 286, vp, .null, .int f, .int mi, .int cn, .int 0, .int 45]), (287, 21, true, [.ref 288, .ref 289, .ref 290, .ref 291, .ref 292, .ref 293, .ref 294, .ref 295, .ref 296, .ref 297, .int nb, .int f, .int (-1), .int mi, .int 0, .int 0, .int 0, .int th, .int bg, .long 0, .int 45]), (298, 101, true, [.long o]), (273, 1, true, [.int 2, .ref 2000, .int 2]), (2000, 104, true, [.ref 2010, .ref 2014, .null, .null, .null, .null, .null, .null, .null, .null]), (2010, 6, true, [.int a0, .int w0, .ref 2011]), (2011, 1, true, [.int 2, .ref 2012, .int 0]), (2012, 104, true, [.null, .null, .null, .null, .null, .null, .null, .null, .null, .null]), (2014, 6, true, [.int a0, .int w0, .ref 2015]), (2015, 1, true, [.int 2, .ref 2016, .int 2]), (2016, 104, true, [.ref 2017, .ref 2013, .null, .null, .null, .null, .null, .null, .null, .null]), (2017, 8, true, [.int l1, .int u1]), (2013, 8, true, [.int l0, .int u0]), (288, 1, true, [.int 2, .ref 2100, .int 2]), (2100, 104, true, [.ref 2110, .ref 2114, .null, .null, .null, .null, .null, .null, .null, .null]), (2110, 22, true, [.int a0, .int w0, .ref 2111]), (2111, 1, true, [.int 2, .ref 2112, .int 0]), (2112, 104, true, [.null, .null, .null, .null, .null, .null, .null, .null, .null, .null]), (2114, 22, true, [.int a0, .int w0, .ref 2115]), (2115, 1, true, [.int 2, .ref 2116, .int 2]), (2116, 104, true, [.ref 2117, .ref 2113, .null, .null, .null, .null, .null, .null, .null, .null]), (2117, 23, true, [.int l1, .int u1]), (2113, 23, true, [.int l0, .int u0])], cn_R sc (cn_M (mainL b0 b1 b2 b3 p0 p1 p2 p3 t0 t1 t2 t3 t4 t5 t6 d0 d1 d2 d3 d4 d5 vp f mi cn th nb bg o) (LW1 a0 w0 l0 u0 l1 u1) LP LF LQ)), 9000, 0, 0) := by
  obtain ⟨R, hR⟩ : ∃ R, R = cn_R sc (cn_M (mainL b0 b1 b2 b3 p0 p1 p2 p3 t0 t1 t2 t3 t4 t5 t6 d0 d1 d2 d3 d4 d5 vp f mi cn th nb bg o) (LW1 a0 w0 l0 u0 l1 u1) LP LF LQ) := ⟨_, rfl⟩
  rw [← hR]
  have q0 : ¬ 0 + l0 ≤ 0 := l_pos hl0
  have q1 : ¬ 0 + l1 ≤ 0 := l_pos hl1
  have q9 : ¬ 0 + l0 + l1 ≤ 0 := l_pos2 hl0 hl1
  have q8 : ¬ 0 + l1 + l0 ≤ 0 := l_pos2 hl1 hl0
  rcases iy_2 s1 with e1 | ⟨e1, _⟩ | ⟨e1, _⟩
  all_goals (try subst e1)
  all_goals (rcases iy_2 s2 with e3 | ⟨e3, _⟩ | ⟨e3, _⟩ <;> (try subst e3))
  repeat' (first
    | with_reducible refine gl_end28 ?_
    | ((with_reducible refine c_inT ?_ ?_); (with_reducible assumption))
    | ((with_reducible refine c_inF ?_ ?_); (with_reducible assumption))
    | ((with_reducible apply c_isInT); (with_reducible assumption); rfl; rfl)
    | ((with_reducible apply c_isInF); (with_reducible assumption); rfl; rfl)
    | ((with_reducible refine c_rqx ?_ ?_ ?_); rfl; (with_reducible assumption))
    | ((with_reducible apply gl_sc); rfl; rfl; (with_reducible assumption))
    | ((with_reducible refine gl_lcmp ?_ ?_ ?_); rfl; rfl)
    | refine gl_t rfl (by first | with_reducible assumption | exact fun z => z (by with_reducible assumption)) ?_
    | refine gl_f rfl (by first | with_reducible assumption | exact fun z => z (by with_reducible assumption)) ?_
    | refine gl_fly [(0, 28), (208, 0), (108, 0), (0, 358), (0, 364), (0, 377), (0, 383), (0, 411), (248, 0), (113, 23), (113, 31), (113, 43), (113, 55), (113, 67), (113, 84), (115, 27), (115, 39), (115, 51), (115, 61), (115, 72), (115, 119)] rfl ?_
    | (refine gl_ite rfl ?_ ?_ <;> intro hc <;> (try simp only [Decidable.not_not] at hc)))
  all_goals (subst hR; first
    | exact tk_leaf [(0, 100, false, sc)] [] 2 hs rfl (main_ok (vp_cl hvp) rfl h3 h4 h5) (hP _ _) (cn_hj (Or.inl rfl) (Or.inr rfl) (Or.inr rfl) (Or.inr rfl)) rfl (ro_cons rfl rfl ro_nil) rfl rfl rfl (ck_cons0 rfl (ck_cons0 rfl (ck_cons0 rfl (ck_cons0 rfl (ck_cons0 rfl (ck_cons0 rfl (ck_cons0 rfl (ck_cons0 rfl (ck_cons0 rfl (ck_cons0 rfl (ck_cons0 rfl (ck_cons0 rfl (ck_cons0 rfl (ck_cons0 rfl ck_nil)))))))))))))) (ck_cons0 rfl (ck_cons0 rfl (ck_cons0 rfl (ck_cons0 rfl (ck_cons0 rfl (ck_cons0 rfl (ck_cons0 rfl (ck_cons0 rfl (ck_cons0 rfl (ck_cons0 rfl (ck_cons0 rfl (ck_cons0 rfl (ck_cons0 rfl (ck_cons0 rfl (ck_cons0 rfl (ck_cons0 rfl (ck_cons0 rfl (ck_cons0 rfl (ck_cons0 rfl (ck_cons0 rfl ck_nil)))))))))))))))))))) rfl rfl rfl)
end COILS_weld
