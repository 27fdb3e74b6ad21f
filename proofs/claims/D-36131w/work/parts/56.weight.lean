set_option maxRecDepth 100000
section COILS_weight
set_option maxHeartbeats 20000000 in
theorem tl_weight_LC0 {sc : List Value} {i s1  : Int32} {b0 b1 b2 b3 : Int64} {p0 p1 p2 p3 t0 t1 t2 t3 t4 t5 t6 d0 d1 d2 d3 d4 d5 : Int32} {vp : Value} {f mi cn th nb bg : Int32} {o : Int64} {LP LF LQ : cn_L} {P : mm_H → List Value → Prop} (hs : ∀ v ∈ sc, ∀ b, v ≠ .ref b) (hvp : vp = .null ∨ vp = .ref 4000) (h3 : cloB 3 LP = true) (h4 : cloB 4 LF = true) (h5 : cloQ [3100, 3140] LQ = true) (a1_ : scr sc i 1 s1)  (hP : ∀ th o, P (can sc (cn_M (mainL b0 b1 b2 b3 p0 p1 p2 p3 t0 t1 t2 t3 t4 t5 t6 d0 d1 d2 d3 d4 d5 vp f mi cn th nb bg o) LC0 LP LF LQ)) (lcs (i + 6))) :
  fl_G (fun _ _ => False) (tk 299950 1375000 P) [] 60 0 476 [.ref 0, .ref 272, .ref 287, .ref 298, .ref 299, .int i, .retAddr 0, .retAddr 0, .retAddr 0] [] (([(0, 100, false, sc), (2, 100, false, [.int 785, .int 270, .int 896, .int 850]), (272, 0, true, [.ref 273, .ref 274, .ref 275, .ref 276, .ref 279, .ref 282, .ref 283, .ref 284, .ref 285, .ref 286, vp, .null, .int f, .int mi, .int cn, .int 0, .int 45]), (287, 21, true, [.ref 288, .ref 289, .ref 290, .ref 291, .ref 292, .ref 293, .ref 294, .ref 295, .ref 296, .ref 297, .int nb, .int f, .int (-1), .int mi, .int 0, .int 0, .int 0, .int th, .int bg, .long 0, .int 45]), (298, 101, true, [.long o]), (293, 100, true, [.int 785, .int 270, .int 896, .int 850]), (273, 1, true, [.int 0, .ref 1, .int 0]), (288, 1, true, [.int 0, .ref 1, .int 0])], cn_R sc (cn_M (mainL b0 b1 b2 b3 p0 p1 p2 p3 t0 t1 t2 t3 t4 t5 t6 d0 d1 d2 d3 d4 d5 vp f mi cn th nb bg o) LC0 LP LF LQ)), 9000, 0, 0) := by
  obtain ⟨R, hR⟩ : ∃ R, R = cn_R sc (cn_M (mainL b0 b1 b2 b3 p0 p1 p2 p3 t0 t1 t2 t3 t4 t5 t6 d0 d1 d2 d3 d4 d5 vp f mi cn th nb bg o) LC0 LP LF LQ) := ⟨_, rfl⟩
  rw [← hR]
  have e0s1 : rgF 0 (0 - 1) s1 := rg_e s1
  repeat' (first
    | with_reducible refine gl_end28 ?_
    | ((with_reducible refine c_inT ?_ ?_); (with_reducible assumption))
    | ((with_reducible refine c_inF ?_ ?_); (with_reducible assumption))
    | ((with_reducible apply c_isInT); (with_reducible assumption); rfl; rfl)
    | ((with_reducible apply c_isInF); (with_reducible assumption); rfl; rfl)
    | ((with_reducible refine c_rqx ?_ ?_ ?_); rfl; (with_reducible assumption))
    | ((with_reducible apply gl_sc); rfl; rfl; (with_reducible assumption))
    | ((with_reducible refine gl_lcmp ?_ ?_ ?_); rfl; rfl)
    | refine gl_fly [(0, 28), (208, 0), (108, 0), (0, 482), (0, 495), (0, 522), (248, 0)] rfl ?_)
  all_goals (subst hR; first
    | exact tk_leaf [(0, 100, false, sc), (2, 100, false, [.int 785, .int 270, .int 896, .int 850])] [] 2 hs rfl (main_ok (vp_cl hvp) rfl h3 h4 h5) (hP _ _) (cn_hj (Or.inl rfl) (Or.inr rfl) (Or.inr rfl) (Or.inr rfl)) rfl (ro_cons rfl rfl (ro_cons rfl rfl ro_nil)) rfl rfl rfl (ck_cons0 rfl (ck_cons0 rfl (ck_cons0 rfl (ck_cons0 rfl (ck_cons0 rfl (ck_cons0 rfl (ck_cons0 rfl (ck_cons0 rfl (ck_cons0 rfl (ck_cons0 rfl (ck_cons0 rfl (ck_cons0 rfl (ck_cons0 rfl (ck_cons0 rfl ck_nil)))))))))))))) (ck_cons0 rfl (ck_cons0 rfl ck_nil)) rfl rfl rfl)
set_option maxHeartbeats 20000000 in
theorem tl_weight_LC1 {sc : List Value} {i s1 a0 w0 l0 u0 : Int32} {b0 b1 b2 b3 : Int64} {p0 p1 p2 p3 t0 t1 t2 t3 t4 t5 t6 d0 d1 d2 d3 d4 d5 : Int32} {vp : Value} {f mi cn th nb bg : Int32} {o : Int64} {LP LF LQ : cn_L} {P : mm_H → List Value → Prop} (hs : ∀ v ∈ sc, ∀ b, v ≠ .ref b) (hvp : vp = .null ∨ vp = .ref 4000) (h3 : cloB 3 LP = true) (h4 : cloB 4 LF = true) (h5 : cloQ [3100, 3140] LQ = true) (a1_ : scr sc i 1 s1) (hr0 : rgT 0 3 a0) (hP : ∀ th o, P (can sc (cn_M (mainL b0 b1 b2 b3 p0 p1 p2 p3 t0 t1 t2 t3 t4 t5 t6 d0 d1 d2 d3 d4 d5 vp f mi cn th nb bg o) (LC1 a0 w0 l0 u0) LP LF LQ)) (lcs (i + 6))) :
  fl_G (fun _ _ => False) (tk 299950 1375000 P) [] 60 0 476 [.ref 0, .ref 272, .ref 287, .ref 298, .ref 299, .int i, .retAddr 0, .retAddr 0, .retAddr 0] [] (([(0, 100, false, sc), (2, 100, false, [.int 785, .int 270, .int 896, .int 850]), (272, 0, true, [.ref 273, .ref 274, .ref 275, .ref 276, .ref 279, .ref 282, .ref 283, .ref 284, .ref 285, .ref 286, vp, .null, .int f, .int mi, .int cn, .int 0, .int 45]), (287, 21, true, [.ref 288, .ref 289, .ref 290, .ref 291, .ref 292, .ref 293, .ref 294, .ref 295, .ref 296, .ref 297, .int nb, .int f, .int (-1), .int mi, .int 0, .int 0, .int 0, .int th, .int bg, .long 0, .int 45]), (298, 101, true, [.long o]), (293, 100, true, [.int 785, .int 270, .int 896, .int 850]), (273, 1, true, [.int 1, .ref 2000, .int 1]), (2000, 104, true, [.ref 2010, .null, .null, .null, .null, .null, .null, .null, .null, .null]), (2010, 6, true, [.int a0, .int w0, .ref 2011]), (2011, 1, true, [.int 1, .ref 2012, .int 1]), (2012, 104, true, [.ref 2013, .null, .null, .null, .null, .null, .null, .null, .null, .null]), (2013, 8, true, [.int l0, .int u0]), (288, 1, true, [.int 1, .ref 2100, .int 1]), (2100, 104, true, [.ref 2110, .null, .null, .null, .null, .null, .null, .null, .null, .null]), (2110, 22, true, [.int a0, .int w0, .ref 2111]), (2111, 1, true, [.int 1, .ref 2112, .int 1]), (2112, 104, true, [.ref 2113, .null, .null, .null, .null, .null, .null, .null, .null, .null]), (2113, 23, true, [.int l0, .int u0])], cn_R sc (cn_M (mainL b0 b1 b2 b3 p0 p1 p2 p3 t0 t1 t2 t3 t4 t5 t6 d0 d1 d2 d3 d4 d5 vp f mi cn th nb bg o) (LC1 a0 w0 l0 u0) LP LF LQ)), 9000, 0, 0) := by
  obtain ⟨R, hR⟩ : ∃ R, R = cn_R sc (cn_M (mainL b0 b1 b2 b3 p0 p1 p2 p3 t0 t1 t2 t3 t4 t5 t6 d0 d1 d2 d3 d4 d5 vp f mi cn th nb bg o) (LC1 a0 w0 l0 u0) LP LF LQ) := ⟨_, rfl⟩
  rw [← hR]
  rcases iy_1 s1 with e1 | ⟨e1, _⟩
  rotate_left
  (subst e1; (rcases ix_4 a0 with e2 | e2 | e2 | e2 | e2 <;> first | exact absurd (hr0.symm.trans e2) (by decide) | subst e2))
  rotate_left 4
  repeat' (first
    | with_reducible refine gl_end28 ?_
    | ((with_reducible refine c_inT ?_ ?_); (with_reducible assumption))
    | ((with_reducible refine c_inF ?_ ?_); (with_reducible assumption))
    | ((with_reducible apply c_isInT); (with_reducible assumption); rfl; rfl)
    | ((with_reducible apply c_isInF); (with_reducible assumption); rfl; rfl)
    | ((with_reducible refine c_rqx ?_ ?_ ?_); rfl; (with_reducible assumption))
    | ((with_reducible apply gl_sc); rfl; rfl; (with_reducible assumption))
    | ((with_reducible refine gl_lcmp ?_ ?_ ?_); rfl; rfl)
    | refine gl_fly [(0, 28), (208, 0), (108, 0), (0, 482), (0, 495), (0, 522), (248, 0)] rfl ?_)
  all_goals (subst hR; first
    | exact tk_leaf [(0, 100, false, sc), (2, 100, false, [.int 785, .int 270, .int 896, .int 850])] [] 2 hs rfl (main_ok (vp_cl hvp) rfl h3 h4 h5) (hP _ _) (cn_hj (Or.inl rfl) (Or.inr rfl) (Or.inr rfl) (Or.inr rfl)) rfl (ro_cons rfl rfl (ro_cons rfl rfl ro_nil)) rfl rfl rfl (ck_cons0 rfl (ck_cons0 rfl (ck_cons0 rfl (ck_cons0 rfl (ck_cons0 rfl (ck_cons0 rfl (ck_cons0 rfl (ck_cons0 rfl (ck_cons0 rfl (ck_cons0 rfl (ck_cons0 rfl (ck_cons0 rfl (ck_cons0 rfl (ck_cons0 rfl ck_nil)))))))))))))) (ck_cons0 rfl (ck_cons0 rfl (ck_cons0 rfl (ck_cons0 rfl (ck_cons0 rfl (ck_cons0 rfl (ck_cons0 rfl (ck_cons0 rfl (ck_cons0 rfl (ck_cons0 rfl (ck_cons0 rfl (ck_cons0 rfl ck_nil)))))))))))) rfl rfl rfl)
set_option maxHeartbeats 20000000 in
theorem tl_weight_LC2 {sc : List Value} {i s1 a0 w0 l0 u0 a1 w1 l1 u1 : Int32} {b0 b1 b2 b3 : Int64} {p0 p1 p2 p3 t0 t1 t2 t3 t4 t5 t6 d0 d1 d2 d3 d4 d5 : Int32} {vp : Value} {f mi cn th nb bg : Int32} {o : Int64} {LP LF LQ : cn_L} {P : mm_H → List Value → Prop} (hs : ∀ v ∈ sc, ∀ b, v ≠ .ref b) (hvp : vp = .null ∨ vp = .ref 4000) (h3 : cloB 3 LP = true) (h4 : cloB 4 LF = true) (h5 : cloQ [3100, 3140] LQ = true) (a1_ : scr sc i 1 s1) (hr0 : rgT 0 3 a0) (hr1 : rgT 0 3 a1) (hP : ∀ th o, P (can sc (cn_M (mainL b0 b1 b2 b3 p0 p1 p2 p3 t0 t1 t2 t3 t4 t5 t6 d0 d1 d2 d3 d4 d5 vp f mi cn th nb bg o) (LC2 a0 w0 l0 u0 a1 w1 l1 u1) LP LF LQ)) (lcs (i + 6))) :
  fl_G (fun _ _ => False) (tk 299950 1375000 P) [] 60 0 476 [.ref 0, .ref 272, .ref 287, .ref 298, .ref 299, .int i, .retAddr 0, .retAddr 0, .retAddr 0] [] (([(0, 100, false, sc), (2, 100, false, [.int 785, .int 270, .int 896, .int 850]), (272, 0, true, [.ref 273, .ref 274, .ref 275, .ref 276, .ref 279, .ref 282, .ref 283, .ref 284, .ref 285, .ref 286, vp, .null, .int f, .int mi, .int cn, .int 0, .int 45]), (287, 21, true, [.ref 288, .ref 289, .ref 290, .ref 291, .ref 292, .ref 293, .ref 294, .ref 295, .ref 296, .ref 297, .int nb, .int f, .int (-1), .int mi, .int 0, .int 0, .int 0, .int th, .int bg, .long 0, .int 45]), (298, 101, true, [.long o]), (293, 100, true, [.int 785, .int 270, .int 896, .int 850]), (273, 1, true, [.int 2, .ref 2000, .int 2]), (2000, 104, true, [.ref 2010, .ref 2014, .null, .null, .null, .null, .null, .null, .null, .null]), (2010, 6, true, [.int a0, .int w0, .ref 2011]), (2011, 1, true, [.int 1, .ref 2012, .int 1]), (2012, 104, true, [.ref 2013, .null, .null, .null, .null, .null, .null, .null, .null, .null]), (2013, 8, true, [.int l0, .int u0]), (2014, 6, true, [.int a1, .int w1, .ref 2015]), (2015, 1, true, [.int 1, .ref 2016, .int 1]), (2016, 104, true, [.ref 2017, .null, .null, .null, .null, .null, .null, .null, .null, .null]), (2017, 8, true, [.int l1, .int u1]), (288, 1, true, [.int 2, .ref 2100, .int 2]), (2100, 104, true, [.ref 2110, .ref 2114, .null, .null, .null, .null, .null, .null, .null, .null]), (2110, 22, true, [.int a0, .int w0, .ref 2111]), (2111, 1, true, [.int 1, .ref 2112, .int 1]), (2112, 104, true, [.ref 2113, .null, .null, .null, .null, .null, .null, .null, .null, .null]), (2113, 23, true, [.int l0, .int u0]), (2114, 22, true, [.int a1, .int w1, .ref 2115]), (2115, 1, true, [.int 1, .ref 2116, .int 1]), (2116, 104, true, [.ref 2117, .null, .null, .null, .null, .null, .null, .null, .null, .null]), (2117, 23, true, [.int l1, .int u1])], cn_R sc (cn_M (mainL b0 b1 b2 b3 p0 p1 p2 p3 t0 t1 t2 t3 t4 t5 t6 d0 d1 d2 d3 d4 d5 vp f mi cn th nb bg o) (LC2 a0 w0 l0 u0 a1 w1 l1 u1) LP LF LQ)), 9000, 0, 0) := by
  obtain ⟨R, hR⟩ : ∃ R, R = cn_R sc (cn_M (mainL b0 b1 b2 b3 p0 p1 p2 p3 t0 t1 t2 t3 t4 t5 t6 d0 d1 d2 d3 d4 d5 vp f mi cn th nb bg o) (LC2 a0 w0 l0 u0 a1 w1 l1 u1) LP LF LQ) := ⟨_, rfl⟩
  rw [← hR]
  rcases iy_2 s1 with e1 | ⟨e1, _⟩ | ⟨e1, _⟩
  rotate_left
  (subst e1; (rcases ix_4 a0 with e2 | e2 | e2 | e2 | e2 <;> first | exact absurd (hr0.symm.trans e2) (by decide) | subst e2))
  rotate_left 4
  (subst e1; (rcases ix_4 a1 with e2 | e2 | e2 | e2 | e2 <;> first | exact absurd (hr1.symm.trans e2) (by decide) | subst e2))
  rotate_left 4
  repeat' (first
    | with_reducible refine gl_end28 ?_
    | ((with_reducible refine c_inT ?_ ?_); (with_reducible assumption))
    | ((with_reducible refine c_inF ?_ ?_); (with_reducible assumption))
    | ((with_reducible apply c_isInT); (with_reducible assumption); rfl; rfl)
    | ((with_reducible apply c_isInF); (with_reducible assumption); rfl; rfl)
    | ((with_reducible refine c_rqx ?_ ?_ ?_); rfl; (with_reducible assumption))
    | ((with_reducible apply gl_sc); rfl; rfl; (with_reducible assumption))
    | ((with_reducible refine gl_lcmp ?_ ?_ ?_); rfl; rfl)
    | refine gl_fly [(0, 28), (208, 0), (108, 0), (0, 482), (0, 495), (0, 522), (248, 0)] rfl ?_)
  all_goals (subst hR; first
    | exact tk_leaf [(0, 100, false, sc), (2, 100, false, [.int 785, .int 270, .int 896, .int 850])] [] 2 hs rfl (main_ok (vp_cl hvp) rfl h3 h4 h5) (hP _ _) (cn_hj (Or.inl rfl) (Or.inr rfl) (Or.inr rfl) (Or.inr rfl)) rfl (ro_cons rfl rfl (ro_cons rfl rfl ro_nil)) rfl rfl rfl (ck_cons0 rfl (ck_cons0 rfl (ck_cons0 rfl (ck_cons0 rfl (ck_cons0 rfl (ck_cons0 rfl (ck_cons0 rfl (ck_cons0 rfl (ck_cons0 rfl (ck_cons0 rfl (ck_cons0 rfl (ck_cons0 rfl (ck_cons0 rfl (ck_cons0 rfl ck_nil)))))))))))))) (ck_cons0 rfl (ck_cons0 rfl (ck_cons0 rfl (ck_cons0 rfl (ck_cons0 rfl (ck_cons0 rfl (ck_cons0 rfl (ck_cons0 rfl (ck_cons0 rfl (ck_cons0 rfl (ck_cons0 rfl (ck_cons0 rfl (ck_cons0 rfl (ck_cons0 rfl (ck_cons0 rfl (ck_cons0 rfl (ck_cons0 rfl (ck_cons0 rfl (ck_cons0 rfl (ck_cons0 rfl ck_nil)))))))))))))))))))) rfl rfl rfl)
set_option maxHeartbeats 20000000 in
theorem tl_weight_LC3 {sc : List Value} {i s1 a0 w0 l0 u0 a1 w1 l1 u1 a2 w2 l2 u2 : Int32} {b0 b1 b2 b3 : Int64} {p0 p1 p2 p3 t0 t1 t2 t3 t4 t5 t6 d0 d1 d2 d3 d4 d5 : Int32} {vp : Value} {f mi cn th nb bg : Int32} {o : Int64} {LP LF LQ : cn_L} {P : mm_H → List Value → Prop} (hs : ∀ v ∈ sc, ∀ b, v ≠ .ref b) (hvp : vp = .null ∨ vp = .ref 4000) (h3 : cloB 3 LP = true) (h4 : cloB 4 LF = true) (h5 : cloQ [3100, 3140] LQ = true) (a1_ : scr sc i 1 s1) (hr0 : rgT 0 3 a0) (hr1 : rgT 0 3 a1) (hr2 : rgT 0 3 a2) (hP : ∀ th o, P (can sc (cn_M (mainL b0 b1 b2 b3 p0 p1 p2 p3 t0 t1 t2 t3 t4 t5 t6 d0 d1 d2 d3 d4 d5 vp f mi cn th nb bg o) (LC3 a0 w0 l0 u0 a1 w1 l1 u1 a2 w2 l2 u2) LP LF LQ)) (lcs (i + 6))) :
  fl_G (fun _ _ => False) (tk 299950 1375000 P) [] 60 0 476 [.ref 0, .ref 272, .ref 287, .ref 298, .ref 299, .int i, .retAddr 0, .retAddr 0, .retAddr 0] [] (([(0, 100, false, sc), (2, 100, false, [.int 785, .int 270, .int 896, .int 850]), (272, 0, true, [.ref 273, .ref 274, .ref 275, .ref 276, .ref 279, .ref 282, .ref 283, .ref 284, .ref 285, .ref 286, vp, .null, .int f, .int mi, .int cn, .int 0, .int 45]), (287, 21, true, [.ref 288, .ref 289, .ref 290, .ref 291, .ref 292, .ref 293, .ref 294, .ref 295, .ref 296, .ref 297, .int nb, .int f, .int (-1), .int mi, .int 0, .int 0, .int 0, .int th, .int bg, .long 0, .int 45]), (298, 101, true, [.long o]), (293, 100, true, [.int 785, .int 270, .int 896, .int 850]), (273, 1, true, [.int 3, .ref 2000, .int 3]), (2000, 104, true, [.ref 2010, .ref 2014, .ref 2018, .null, .null, .null, .null, .null, .null, .null]), (2010, 6, true, [.int a0, .int w0, .ref 2011]), (2011, 1, true, [.int 1, .ref 2012, .int 1]), (2012, 104, true, [.ref 2013, .null, .null, .null, .null, .null, .null, .null, .null, .null]), (2013, 8, true, [.int l0, .int u0]), (2014, 6, true, [.int a1, .int w1, .ref 2015]), (2015, 1, true, [.int 1, .ref 2016, .int 1]), (2016, 104, true, [.ref 2017, .null, .null, .null, .null, .null, .null, .null, .null, .null]), (2017, 8, true, [.int l1, .int u1]), (2018, 6, true, [.int a2, .int w2, .ref 2019]), (2019, 1, true, [.int 1, .ref 2020, .int 1]), (2020, 104, true, [.ref 2021, .null, .null, .null, .null, .null, .null, .null, .null, .null]), (2021, 8, true, [.int l2, .int u2]), (288, 1, true, [.int 3, .ref 2100, .int 3]), (2100, 104, true, [.ref 2110, .ref 2114, .ref 2118, .null, .null, .null, .null, .null, .null, .null]), (2110, 22, true, [.int a0, .int w0, .ref 2111]), (2111, 1, true, [.int 1, .ref 2112, .int 1]), (2112, 104, true, [.ref 2113, .null, .null, .null, .null, .null, .null, .null, .null, .null]), (2113, 23, true, [.int l0, .int u0]), (2114, 22, true, [.int a1, .int w1, .ref 2115]), (2115, 1, true, [.int 1, .ref 2116, .int 1]), (2116, 104, true, [.ref 2117, .null, .null, .null, .null, .null, .null, .null, .null, .null]), (2117, 23, true, [.int l1, .int u1]), (2118, 22, true, [.int a2, .int w2, .ref 2119]), (2119, 1, true, [.int 1, .ref 2120, .int 1]), (2120, 104, true, [.ref 2121, .null, .null, .null, .null, .null, .null, .null, .null, .null]), (2121, 23, true, [.int l2, .int u2])], cn_R sc (cn_M (mainL b0 b1 b2 b3 p0 p1 p2 p3 t0 t1 t2 t3 t4 t5 t6 d0 d1 d2 d3 d4 d5 vp f mi cn th nb bg o) (LC3 a0 w0 l0 u0 a1 w1 l1 u1 a2 w2 l2 u2) LP LF LQ)), 9000, 0, 0) := by
  obtain ⟨R, hR⟩ : ∃ R, R = cn_R sc (cn_M (mainL b0 b1 b2 b3 p0 p1 p2 p3 t0 t1 t2 t3 t4 t5 t6 d0 d1 d2 d3 d4 d5 vp f mi cn th nb bg o) (LC3 a0 w0 l0 u0 a1 w1 l1 u1 a2 w2 l2 u2) LP LF LQ) := ⟨_, rfl⟩
  rw [← hR]
  rcases iy_3 s1 with e1 | ⟨e1, _⟩ | ⟨e1, _⟩ | ⟨e1, _⟩
  rotate_left
  (subst e1; (rcases ix_4 a0 with e2 | e2 | e2 | e2 | e2 <;> first | exact absurd (hr0.symm.trans e2) (by decide) | subst e2))
  rotate_left 4
  (subst e1; (rcases ix_4 a1 with e2 | e2 | e2 | e2 | e2 <;> first | exact absurd (hr1.symm.trans e2) (by decide) | subst e2))
  rotate_left 4
  (subst e1; (rcases ix_4 a2 with e2 | e2 | e2 | e2 | e2 <;> first | exact absurd (hr2.symm.trans e2) (by decide) | subst e2))
  rotate_left 4
  repeat' (first
    | with_reducible refine gl_end28 ?_
    | ((with_reducible refine c_inT ?_ ?_); (with_reducible assumption))
    | ((with_reducible refine c_inF ?_ ?_); (with_reducible assumption))
    | ((with_reducible apply c_isInT); (with_reducible assumption); rfl; rfl)
    | ((with_reducible apply c_isInF); (with_reducible assumption); rfl; rfl)
    | ((with_reducible refine c_rqx ?_ ?_ ?_); rfl; (with_reducible assumption))
    | ((with_reducible apply gl_sc); rfl; rfl; (with_reducible assumption))
    | ((with_reducible refine gl_lcmp ?_ ?_ ?_); rfl; rfl)
    | refine gl_fly [(0, 28), (208, 0), (108, 0), (0, 482), (0, 495), (0, 522), (248, 0)] rfl ?_)
  all_goals (subst hR; first
    | exact tk_leaf [(0, 100, false, sc), (2, 100, false, [.int 785, .int 270, .int 896, .int 850])] [] 2 hs rfl (main_ok (vp_cl hvp) rfl h3 h4 h5) (hP _ _) (cn_hj (Or.inl rfl) (Or.inr rfl) (Or.inr rfl) (Or.inr rfl)) rfl (ro_cons rfl rfl (ro_cons rfl rfl ro_nil)) rfl rfl rfl (ck_cons0 rfl (ck_cons0 rfl (ck_cons0 rfl (ck_cons0 rfl (ck_cons0 rfl (ck_cons0 rfl (ck_cons0 rfl (ck_cons0 rfl (ck_cons0 rfl (ck_cons0 rfl (ck_cons0 rfl (ck_cons0 rfl (ck_cons0 rfl (ck_cons0 rfl ck_nil)))))))))))))) (ck_cons0 rfl (ck_cons0 rfl (ck_cons0 rfl (ck_cons0 rfl (ck_cons0 rfl (ck_cons0 rfl (ck_cons0 rfl (ck_cons0 rfl (ck_cons0 rfl (ck_cons0 rfl (ck_cons0 rfl (ck_cons0 rfl (ck_cons0 rfl (ck_cons0 rfl (ck_cons0 rfl (ck_cons0 rfl (ck_cons0 rfl (ck_cons0 rfl (ck_cons0 rfl (ck_cons0 rfl (ck_cons0 rfl (ck_cons0 rfl (ck_cons0 rfl (ck_cons0 rfl (ck_cons0 rfl (ck_cons0 rfl (ck_cons0 rfl (ck_cons0 rfl ck_nil)))))))))))))))))))))))))))) rfl rfl rfl)
set_option maxHeartbeats 20000000 in
theorem tl_weight_LW0 {sc : List Value} {i s1 a0 w0 l0 u0 l1 u1 : Int32} {b0 b1 b2 b3 : Int64} {p0 p1 p2 p3 t0 t1 t2 t3 t4 t5 t6 d0 d1 d2 d3 d4 d5 : Int32} {vp : Value} {f mi cn th nb bg : Int32} {o : Int64} {LP LF LQ : cn_L} {P : mm_H → List Value → Prop} (hs : ∀ v ∈ sc, ∀ b, v ≠ .ref b) (hvp : vp = .null ∨ vp = .ref 4000) (h3 : cloB 3 LP = true) (h4 : cloB 4 LF = true) (h5 : cloQ [3100, 3140] LQ = true) (a1_ : scr sc i 1 s1) (hr0 : rgT 0 3 a0) (hP : ∀ th o, P (can sc (cn_M (mainL b0 b1 b2 b3 p0 p1 p2 p3 t0 t1 t2 t3 t4 t5 t6 d0 d1 d2 d3 d4 d5 vp f mi cn th nb bg o) (LW0 a0 w0 l0 u0 l1 u1) LP LF LQ)) (lcs (i + 6))) :
  fl_G (fun _ _ => False) (tk 299950 1375000 P) [] 60 0 476 [.ref 0, .ref 272, .ref 287, .ref 298, .ref 299, .int i, .retAddr 0, .retAddr 0, .retAddr 0] [] (([(0, 100, false, sc), (2, 100, false, [.int 785, .int 270, .int 896, .int 850]), (272, 0, true, [.ref 273, .ref 274, .ref 275, .ref 276, .ref 279, .ref 282, .ref 283, .ref 284, .ref 285, .ref 286, vp, .null, .int f, .int mi, .int cn, .int 0, .int 45]), (287, 21, true, [.ref 288, .ref 289, .ref 290, .ref 291, .ref 292, .ref 293, .ref 294, .ref 295, .ref 296, .ref 297, .int nb, .int f, .int (-1), .int mi, .int 0, .int 0, .int 0, .int th, .int bg, .long 0, .int 45]), (298, 101, true, [.long o]), (293, 100, true, [.int 785, .int 270, .int 896, .int 850]), (273, 1, true, [.int 2, .ref 2000, .int 2]), (2000, 104, true, [.ref 2010, .ref 2014, .null, .null, .null, .null, .null, .null, .null, .null]), (2010, 6, true, [.int a0, .int w0, .ref 2011]), (2011, 1, true, [.int 2, .ref 2012, .int 2]), (2012, 104, true, [.ref 2013, .ref 2017, .null, .null, .null, .null, .null, .null, .null, .null]), (2013, 8, true, [.int l0, .int u0]), (2014, 6, true, [.int a0, .int w0, .ref 2015]), (2015, 1, true, [.int 2, .ref 2016, .int 0]), (2016, 104, true, [.null, .null, .null, .null, .null, .null, .null, .null, .null, .null]), (2017, 8, true, [.int l1, .int u1]), (288, 1, true, [.int 2, .ref 2100, .int 2]), (2100, 104, true, [.ref 2110, .ref 2114, .null, .null, .null, .null, .null, .null, .null, .null]), (2110, 22, true, [.int a0, .int w0, .ref 2111]), (2111, 1, true, [.int 2, .ref 2112, .int 2]), (2112, 104, true, [.ref 2113, .ref 2117, .null, .null, .null, .null, .null, .null, .null, .null]), (2113, 23, true, [.int l0, .int u0]), (2114, 22, true, [.int a0, .int w0, .ref 2115]), (2115, 1, true, [.int 2, .ref 2116, .int 0]), (2116, 104, true, [.null, .null, .null, .null, .null, .null, .null, .null, .null, .null]), (2117, 23, true, [.int l1, .int u1])], cn_R sc (cn_M (mainL b0 b1 b2 b3 p0 p1 p2 p3 t0 t1 t2 t3 t4 t5 t6 d0 d1 d2 d3 d4 d5 vp f mi cn th nb bg o) (LW0 a0 w0 l0 u0 l1 u1) LP LF LQ)), 9000, 0, 0) := by
  obtain ⟨R, hR⟩ : ∃ R, R = cn_R sc (cn_M (mainL b0 b1 b2 b3 p0 p1 p2 p3 t0 t1 t2 t3 t4 t5 t6 d0 d1 d2 d3 d4 d5 vp f mi cn th nb bg o) (LW0 a0 w0 l0 u0 l1 u1) LP LF LQ) := ⟨_, rfl⟩
  rw [← hR]
  rcases iy_2 s1 with e1 | ⟨e1, _⟩ | ⟨e1, _⟩
  rotate_left
  (subst e1; (rcases ix_4 a0 with e2 | e2 | e2 | e2 | e2 <;> first | exact absurd (hr0.symm.trans e2) (by decide) | subst e2))
  rotate_left 4
  (subst e1; (rcases ix_4 a0 with e2 | e2 | e2 | e2 | e2 <;> first | exact absurd (hr0.symm.trans e2) (by decide) | subst e2))
  rotate_left 4
  repeat' (first
    | with_reducible refine gl_end28 ?_
    | ((with_reducible refine c_inT ?_ ?_); (with_reducible assumption))
    | ((with_reducible refine c_inF ?_ ?_); (with_reducible assumption))
    | ((with_reducible apply c_isInT); (with_reducible assumption); rfl; rfl)
    | ((with_reducible apply c_isInF); (with_reducible assumption); rfl; rfl)
    | ((with_reducible refine c_rqx ?_ ?_ ?_); rfl; (with_reducible assumption))
    | ((with_reducible apply gl_sc); rfl; rfl; (with_reducible assumption))
    | ((with_reducible refine gl_lcmp ?_ ?_ ?_); rfl; rfl)
    | refine gl_fly [(0, 28), (208, 0), (108, 0), (0, 482), (0, 495), (0, 522), (248, 0)] rfl ?_)
  all_goals (subst hR; first
    | exact tk_leaf [(0, 100, false, sc), (2, 100, false, [.int 785, .int 270, .int 896, .int 850])] [] 2 hs rfl (main_ok (vp_cl hvp) rfl h3 h4 h5) (hP _ _) (cn_hj (Or.inl rfl) (Or.inr rfl) (Or.inr rfl) (Or.inr rfl)) rfl (ro_cons rfl rfl (ro_cons rfl rfl ro_nil)) rfl rfl rfl (ck_cons0 rfl (ck_cons0 rfl (ck_cons0 rfl (ck_cons0 rfl (ck_cons0 rfl (ck_cons0 rfl (ck_cons0 rfl (ck_cons0 rfl (ck_cons0 rfl (ck_cons0 rfl (ck_cons0 rfl (ck_cons0 rfl (ck_cons0 rfl (ck_cons0 rfl ck_nil)))))))))))))) (ck_cons0 rfl (ck_cons0 rfl (ck_cons0 rfl (ck_cons0 rfl (ck_cons0 rfl (ck_cons0 rfl (ck_cons0 rfl (ck_cons0 rfl (ck_cons0 rfl (ck_cons0 rfl (ck_cons0 rfl (ck_cons0 rfl (ck_cons0 rfl (ck_cons0 rfl (ck_cons0 rfl (ck_cons0 rfl (ck_cons0 rfl (ck_cons0 rfl (ck_cons0 rfl (ck_cons0 rfl ck_nil)))))))))))))))))))) rfl rfl rfl)
set_option maxHeartbeats 20000000 in
theorem tl_weight_LW1 {sc : List Value} {i s1 a0 w0 l0 u0 l1 u1 : Int32} {b0 b1 b2 b3 : Int64} {p0 p1 p2 p3 t0 t1 t2 t3 t4 t5 t6 d0 d1 d2 d3 d4 d5 : Int32} {vp : Value} {f mi cn th nb bg : Int32} {o : Int64} {LP LF LQ : cn_L} {P : mm_H → List Value → Prop} (hs : ∀ v ∈ sc, ∀ b, v ≠ .ref b) (hvp : vp = .null ∨ vp = .ref 4000) (h3 : cloB 3 LP = true) (h4 : cloB 4 LF = true) (h5 : cloQ [3100, 3140] LQ = true) (a1_ : scr sc i 1 s1) (hr0 : rgT 0 3 a0) (hP : ∀ th o, P (can sc (cn_M (mainL b0 b1 b2 b3 p0 p1 p2 p3 t0 t1 t2 t3 t4 t5 t6 d0 d1 d2 d3 d4 d5 vp f mi cn th nb bg o) (LW1 a0 w0 l0 u0 l1 u1) LP LF LQ)) (lcs (i + 6))) :
  fl_G (fun _ _ => False) (tk 299950 1375000 P) [] 60 0 476 [.ref 0, .ref 272, .ref 287, .ref 298, .ref 299, .int i, .retAddr 0, .retAddr 0, .retAddr 0] [] (([(0, 100, false, sc), (2, 100, false, [.int 785, .int 270, .int 896, .int 850]), (272, 0, true, [.ref 273, .ref 274, .ref 275, .ref 276, .ref 279, .ref 282, .ref 283, .ref 284, .ref 285, .ref 286, vp, .null, .int f, .int mi, .int cn, .int 0, .int 45]), (287, 21, true, [.ref 288, .ref 289, .ref 290, .ref 291, .ref 292, .ref 293, .ref 294, .ref 295, .ref 296, .ref 297, .int nb, .int f, .int (-1), .int mi, .int 0, .int 0, .int 0, .int th, .int bg, .long 0, .int 45]), (298, 101, true, [.long o]), (293, 100, true, [.int 785, .int 270, .int 896, .int 850]), (273, 1, true, [.int 2, .ref 2000, .int 2]), (2000, 104, true, [.ref 2010, .ref 2014, .null, .null, .null, .null, .null, .null, .null, .null]), (2010, 6, true, [.int a0, .int w0, .ref 2011]), (2011, 1, true, [.int 2, .ref 2012, .int 0]), (2012, 104, true, [.null, .null, .null, .null, .null, .null, .null, .null, .null, .null]), (2014, 6, true, [.int a0, .int w0, .ref 2015]), (2015, 1, true, [.int 2, .ref 2016, .int 2]), (2016, 104, true, [.ref 2017, .ref 2013, .null, .null, .null, .null, .null, .null, .null, .null]), (2017, 8, true, [.int l1, .int u1]), (2013, 8, true, [.int l0, .int u0]), (288, 1, true, [.int 2, .ref 2100, .int 2]), (2100, 104, true, [.ref 2110, .ref 2114, .null, .null, .null, .null, .null, .null, .null, .null]), (2110, 22, true, [.int a0, .int w0, .ref 2111]), (2111, 1, true, [.int 2, .ref 2112, .int 0]), (2112, 104, true, [.null, .null, .null, .null, .null, .null, .null, .null, .null, .null]), (2114, 22, true, [.int a0, .int w0, .ref 2115]), (2115, 1, true, [.int 2, .ref 2116, .int 2]), (2116, 104, true, [.ref 2117, .ref 2113, .null, .null, .null, .null, .null, .null, .null, .null]), (2117, 23, true, [.int l1, .int u1]), (2113, 23, true, [.int l0, .int u0])], cn_R sc (cn_M (mainL b0 b1 b2 b3 p0 p1 p2 p3 t0 t1 t2 t3 t4 t5 t6 d0 d1 d2 d3 d4 d5 vp f mi cn th nb bg o) (LW1 a0 w0 l0 u0 l1 u1) LP LF LQ)), 9000, 0, 0) := by
  obtain ⟨R, hR⟩ : ∃ R, R = cn_R sc (cn_M (mainL b0 b1 b2 b3 p0 p1 p2 p3 t0 t1 t2 t3 t4 t5 t6 d0 d1 d2 d3 d4 d5 vp f mi cn th nb bg o) (LW1 a0 w0 l0 u0 l1 u1) LP LF LQ) := ⟨_, rfl⟩
  rw [← hR]
  rcases iy_2 s1 with e1 | ⟨e1, _⟩ | ⟨e1, _⟩
  rotate_left
  (subst e1; (rcases ix_4 a0 with e2 | e2 | e2 | e2 | e2 <;> first | exact absurd (hr0.symm.trans e2) (by decide) | subst e2))
  rotate_left 4
  (subst e1; (rcases ix_4 a0 with e2 | e2 | e2 | e2 | e2 <;> first | exact absurd (hr0.symm.trans e2) (by decide) | subst e2))
  rotate_left 4
  repeat' (first
    | with_reducible refine gl_end28 ?_
    | ((with_reducible refine c_inT ?_ ?_); (with_reducible assumption))
    | ((with_reducible refine c_inF ?_ ?_); (with_reducible assumption))
    | ((with_reducible apply c_isInT); (with_reducible assumption); rfl; rfl)
    | ((with_reducible apply c_isInF); (with_reducible assumption); rfl; rfl)
    | ((with_reducible refine c_rqx ?_ ?_ ?_); rfl; (with_reducible assumption))
    | ((with_reducible apply gl_sc); rfl; rfl; (with_reducible assumption))
    | ((with_reducible refine gl_lcmp ?_ ?_ ?_); rfl; rfl)
    | refine gl_fly [(0, 28), (208, 0), (108, 0), (0, 482), (0, 495), (0, 522), (248, 0)] rfl ?_)
  all_goals (subst hR; first
    | exact tk_leaf [(0, 100, false, sc), (2, 100, false, [.int 785, .int 270, .int 896, .int 850])] [] 2 hs rfl (main_ok (vp_cl hvp) rfl h3 h4 h5) (hP _ _) (cn_hj (Or.inl rfl) (Or.inr rfl) (Or.inr rfl) (Or.inr rfl)) rfl (ro_cons rfl rfl (ro_cons rfl rfl ro_nil)) rfl rfl rfl (ck_cons0 rfl (ck_cons0 rfl (ck_cons0 rfl (ck_cons0 rfl (ck_cons0 rfl (ck_cons0 rfl (ck_cons0 rfl (ck_cons0 rfl (ck_cons0 rfl (ck_cons0 rfl (ck_cons0 rfl (ck_cons0 rfl (ck_cons0 rfl (ck_cons0 rfl ck_nil)))))))))))))) (ck_cons0 rfl (ck_cons0 rfl (ck_cons0 rfl (ck_cons0 rfl (ck_cons0 rfl (ck_cons0 rfl (ck_cons0 rfl (ck_cons0 rfl (ck_cons0 rfl (ck_cons0 rfl (ck_cons0 rfl (ck_cons0 rfl (ck_cons0 rfl (ck_cons0 rfl (ck_cons0 rfl (ck_cons0 rfl (ck_cons0 rfl (ck_cons0 rfl (ck_cons0 rfl (ck_cons0 rfl ck_nil)))))))))))))))))))) rfl rfl rfl)
end COILS_weight
