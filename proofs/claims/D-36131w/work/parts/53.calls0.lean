set_option maxRecDepth 100000
section CALLS0
theorem tn_press {sc : List Value} {i s1 : Int32} {b0 b1 b2 b3 : Int64} {p0 p1 p2 p3 t0 t1 t2 t3 t4 t5 t6 d0 d1 d2 d3 d4 d5 : Int32} {vp : Value} {f mi cn th nb bg : Int32} {o : Int64} {LC LP LF LQ : cn_L} {P : mm_H → List Value → Prop} (hs : ∀ v ∈ sc, ∀ b, v ≠ .ref b) (hv : clB vp = true) (h2 : cloB 2 LC = true) (h3 : cloB 3 LP = true) (h4 : cloB 4 LF = true) (h5 : cloQ [3100, 3140] LQ = true) (a1 : scr sc i 1 s1)  (hP : ∀ f th o, P (can sc (cn_M (mainL b0 b1 b2 b3 p0 p1 p2 p3 t0 t1 t2 t3 t4 t5 t6 d0 d1 d2 d3 d4 d5 vp f mi cn th nb bg o) LC LP LF LQ)) (lcs (i + 6))) :
  fl_G (fun _ _ => False) (tk 299950 1375000 P) [] 60 0 2054 [.ref 0, .ref 272, .ref 287, .ref 298, .ref 299, .int i, .retAddr 0, .retAddr 0, .retAddr 0] [] (([(0, 100, false, sc), (272, 0, true, [.ref 273, .ref 274, .ref 275, .ref 276, .ref 279, .ref 282, .ref 283, .ref 284, .ref 285, .ref 286, vp, .null, .int f, .int mi, .int cn, .int 0, .int 45]), (287, 21, true, [.ref 288, .ref 289, .ref 290, .ref 291, .ref 292, .ref 293, .ref 294, .ref 295, .ref 296, .ref 297, .int nb, .int f, .int (-1), .int mi, .int 0, .int 0, .int 0, .int th, .int bg, .long 0, .int 45]), (298, 101, true, [.long o])], cn_R sc (cn_M (mainL b0 b1 b2 b3 p0 p1 p2 p3 t0 t1 t2 t3 t4 t5 t6 d0 d1 d2 d3 d4 d5 vp f mi cn th nb bg o) LC LP LF LQ)), 9000, 0, 0) := by
  obtain ⟨R, hR⟩ : ∃ R, R = cn_R sc (cn_M (mainL b0 b1 b2 b3 p0 p1 p2 p3 t0 t1 t2 t3 t4 t5 t6 d0 d1 d2 d3 d4 d5 vp f mi cn th nb bg o) LC LP LF LQ) := ⟨_, rfl⟩
  rw [← hR]
  rcases rgc 10 2000 s1 with hs1 | hs1
  repeat' (first
    | with_reducible refine gl_end28 ?_
    | ((with_reducible refine c_inT ?_ ?_); (with_reducible assumption))
    | ((with_reducible refine c_inF ?_ ?_); (with_reducible assumption))
    | ((with_reducible apply c_isInT); (with_reducible assumption); rfl; rfl)
    | ((with_reducible apply c_isInF); (with_reducible assumption); rfl; rfl)
    | ((with_reducible refine c_rqx ?_ ?_ ?_); rfl; (with_reducible assumption))
    | ((with_reducible apply gl_sc); rfl; rfl; (with_reducible assumption))
    | ((with_reducible refine gl_lcmp ?_ ?_ ?_); rfl; rfl)
    | refine gl_fly [(0, 28), (208, 0), (108, 0), (0, 2060), (0, 2073), (0, 2101)] rfl ?_)
  all_goals (subst hR; exact tk_leaf1 [(0, 100, false, sc)] hs (hP _ _ _) (main_ok hv h2 h3 h4 h5) rfl (ro_cons rfl rfl ro_nil) (ck_cons0 rfl (ck_cons0 rfl (ck_cons0 rfl (ck_cons0 rfl (ck_cons0 rfl (ck_cons0 rfl (ck_cons0 rfl (ck_cons0 rfl (ck_cons0 rfl (ck_cons0 rfl (ck_cons0 rfl (ck_cons0 rfl (ck_cons0 rfl (ck_cons0 rfl ck_nil)))))))))))))) rfl rfl rfl)
theorem tn_bears {sc : List Value} {i s1 : Int32} {b0 b1 b2 b3 : Int64} {p0 p1 p2 p3 t0 t1 t2 t3 t4 t5 t6 d0 d1 d2 d3 d4 d5 : Int32} {vp : Value} {f mi cn th nb bg : Int32} {o : Int64} {LC LP LF LQ : cn_L} {P : mm_H → List Value → Prop} (hs : ∀ v ∈ sc, ∀ b, v ≠ .ref b) (hv : clB vp = true) (h2 : cloB 2 LC = true) (h3 : cloB 3 LP = true) (h4 : cloB 4 LF = true) (h5 : cloQ [3100, 3140] LQ = true) (a1 : scr sc i 1 s1)  (hP : ∀ th o, P (can sc (cn_M (mainL b0 b1 b2 b3 p0 p1 p2 p3 t0 t1 t2 t3 t4 t5 t6 d0 d1 d2 d3 d4 d5 vp f mi cn th nb bg o) LC LP LF LQ)) (lcs (i + 6))) :
  fl_G (fun _ _ => False) (tk 299950 1375000 P) [] 60 0 2110 [.ref 0, .ref 272, .ref 287, .ref 298, .ref 299, .int i, .retAddr 0, .retAddr 0, .retAddr 0] [] (([(0, 100, false, sc), (272, 0, true, [.ref 273, .ref 274, .ref 275, .ref 276, .ref 279, .ref 282, .ref 283, .ref 284, .ref 285, .ref 286, vp, .null, .int f, .int mi, .int cn, .int 0, .int 45]), (287, 21, true, [.ref 288, .ref 289, .ref 290, .ref 291, .ref 292, .ref 293, .ref 294, .ref 295, .ref 296, .ref 297, .int nb, .int f, .int (-1), .int mi, .int 0, .int 0, .int 0, .int th, .int bg, .long 0, .int 45]), (298, 101, true, [.long o])], cn_R sc (cn_M (mainL b0 b1 b2 b3 p0 p1 p2 p3 t0 t1 t2 t3 t4 t5 t6 d0 d1 d2 d3 d4 d5 vp f mi cn th nb bg o) LC LP LF LQ)), 9000, 0, 0) := by
  obtain ⟨R, hR⟩ : ∃ R, R = cn_R sc (cn_M (mainL b0 b1 b2 b3 p0 p1 p2 p3 t0 t1 t2 t3 t4 t5 t6 d0 d1 d2 d3 d4 d5 vp f mi cn th nb bg o) LC LP LF LQ) := ⟨_, rfl⟩
  rw [← hR]
  rcases rgc 0 359 s1 with hs1 | hs1
  repeat' (first
    | with_reducible refine gl_end28 ?_
    | ((with_reducible refine c_inT ?_ ?_); (with_reducible assumption))
    | ((with_reducible refine c_inF ?_ ?_); (with_reducible assumption))
    | ((with_reducible apply c_isInT); (with_reducible assumption); rfl; rfl)
    | ((with_reducible apply c_isInF); (with_reducible assumption); rfl; rfl)
    | ((with_reducible refine c_rqx ?_ ?_ ?_); rfl; (with_reducible assumption))
    | ((with_reducible apply gl_sc); rfl; rfl; (with_reducible assumption))
    | ((with_reducible refine gl_lcmp ?_ ?_ ?_); rfl; rfl)
    | refine gl_t rfl (by with_reducible assumption) ?_
    | refine gl_f rfl (by with_reducible assumption) ?_
    | refine gl_fly [(0, 28), (208, 0), (108, 0), (0, 2116), (0, 2129), (0, 2157), (265, 12), (265, 24), (171, 6), (171, 27)] rfl ?_
    | (refine gl_ite rfl ?_ ?_ <;> intro _)
    | refine gl_dv rfl (dv_ne (by assumption)) ?_)
  all_goals (subst hR; exact tk_leaf1 [(0, 100, false, sc)] hs (hP _ _) (main_ok hv h2 h3 h4 h5) rfl (ro_cons rfl rfl ro_nil) (ck_cons0 rfl (ck_cons0 rfl (ck_cons0 rfl (ck_cons0 rfl (ck_cons0 rfl (ck_cons0 rfl (ck_cons0 rfl (ck_cons0 rfl (ck_cons0 rfl (ck_cons0 rfl (ck_cons0 rfl (ck_cons0 rfl (ck_cons0 rfl (ck_cons0 rfl ck_nil)))))))))))))) rfl rfl rfl)
theorem tn_ended {sc : List Value} {i  : Int32} {b0 b1 b2 b3 : Int64} {p0 p1 p2 p3 t0 t1 t2 t3 t4 t5 t6 d0 d1 d2 d3 d4 d5 : Int32} {vp : Value} {f mi cn th nb bg : Int32} {o : Int64} {LC LP LF LQ : cn_L} {P : mm_H → List Value → Prop} (hs : ∀ v ∈ sc, ∀ b, v ≠ .ref b) (hv : clB vp = true) (h2 : cloB 2 LC = true) (h3 : cloB 3 LP = true) (h4 : cloB 4 LF = true) (h5 : cloQ [3100, 3140] LQ = true)   (hP : ∀ th, P (can sc (cn_M (mainL b0 b1 b2 b3 p0 p1 p2 p3 t0 t1 t2 t3 t4 t5 t6 d0 d1 d2 d3 d4 d5 vp f mi cn th nb bg o) LC LP LF LQ)) (lcs (i + 6))) :
  fl_G (fun _ _ => False) (tk 299950 1375000 P) [] 60 0 2805 [.ref 0, .ref 272, .ref 287, .ref 298, .ref 299, .int i, .retAddr 0, .retAddr 0, .retAddr 0] [] (([(0, 100, false, sc), (272, 0, true, [.ref 273, .ref 274, .ref 275, .ref 276, .ref 279, .ref 282, .ref 283, .ref 284, .ref 285, .ref 286, vp, .null, .int f, .int mi, .int cn, .int 0, .int 45]), (287, 21, true, [.ref 288, .ref 289, .ref 290, .ref 291, .ref 292, .ref 293, .ref 294, .ref 295, .ref 296, .ref 297, .int nb, .int f, .int (-1), .int mi, .int 0, .int 0, .int 0, .int th, .int bg, .long 0, .int 45]), (298, 101, true, [.long o])], cn_R sc (cn_M (mainL b0 b1 b2 b3 p0 p1 p2 p3 t0 t1 t2 t3 t4 t5 t6 d0 d1 d2 d3 d4 d5 vp f mi cn th nb bg o) LC LP LF LQ)), 9000, 0, 0) := by
  obtain ⟨R, hR⟩ : ∃ R, R = cn_R sc (cn_M (mainL b0 b1 b2 b3 p0 p1 p2 p3 t0 t1 t2 t3 t4 t5 t6 d0 d1 d2 d3 d4 d5 vp f mi cn th nb bg o) LC LP LF LQ) := ⟨_, rfl⟩
  rw [← hR]
  repeat' (first
    | with_reducible refine gl_end28 ?_
    | ((with_reducible refine c_inT ?_ ?_); (with_reducible assumption))
    | ((with_reducible refine c_inF ?_ ?_); (with_reducible assumption))
    | ((with_reducible apply c_isInT); (with_reducible assumption); rfl; rfl)
    | ((with_reducible apply c_isInF); (with_reducible assumption); rfl; rfl)
    | ((with_reducible refine c_rqx ?_ ?_ ?_); rfl; (with_reducible assumption))
    | ((with_reducible apply gl_sc); rfl; rfl; (with_reducible assumption))
    | ((with_reducible refine gl_lcmp ?_ ?_ ?_); rfl; rfl)
    | refine gl_fly [(0, 28), (208, 0), (108, 0)] rfl ?_)
  all_goals (subst hR; exact tk_leaf1 [(0, 100, false, sc)] hs (hP _) (main_ok hv h2 h3 h4 h5) rfl (ro_cons rfl rfl ro_nil) (ck_cons0 rfl (ck_cons0 rfl (ck_cons0 rfl (ck_cons0 rfl (ck_cons0 rfl (ck_cons0 rfl (ck_cons0 rfl (ck_cons0 rfl (ck_cons0 rfl (ck_cons0 rfl (ck_cons0 rfl (ck_cons0 rfl (ck_cons0 rfl (ck_cons0 rfl ck_nil)))))))))))))) rfl rfl rfl)
theorem tn_scrap {sc : List Value} {i s1 : Int32} {b0 b1 b2 b3 : Int64} {p0 p1 p2 p3 t0 t1 t2 t3 t4 t5 t6 d0 d1 d2 d3 d4 d5 : Int32} {vp : Value} {f mi cn th nb bg : Int32} {o : Int64} {LC LP LF LQ : cn_L} {P : mm_H → List Value → Prop} (hs : ∀ v ∈ sc, ∀ b, v ≠ .ref b) (hv : clB vp = true) (h2 : cloB 2 LC = true) (h3 : cloB 3 LP = true) (h4 : cloB 4 LF = true) (h5 : cloQ [3100, 3140] LQ = true) (a1 : scr sc i 1 s1)  (hP : ∀ th o, P (can sc (cn_M (mainL b0 b1 b2 b3 p0 p1 p2 p3 t0 t1 t2 t3 t4 t5 t6 d0 d1 d2 d3 d4 d5 vp f mi cn th nb bg o) LC LP LF LQ)) (lcs (i + 6))) :
  fl_G (fun _ _ => False) (tk 299950 1375000 P) [] 60 0 3246 [.ref 0, .ref 272, .ref 287, .ref 298, .ref 299, .int i, .retAddr 0, .retAddr 0, .retAddr 0] [] (([(0, 100, false, sc), (272, 0, true, [.ref 273, .ref 274, .ref 275, .ref 276, .ref 279, .ref 282, .ref 283, .ref 284, .ref 285, .ref 286, vp, .null, .int f, .int mi, .int cn, .int 0, .int 45]), (287, 21, true, [.ref 288, .ref 289, .ref 290, .ref 291, .ref 292, .ref 293, .ref 294, .ref 295, .ref 296, .ref 297, .int nb, .int f, .int (-1), .int mi, .int 0, .int 0, .int 0, .int th, .int bg, .long 0, .int 45]), (298, 101, true, [.long o]), (284, 101, true, [.long 0, .long 0, .long 0, .long 0]), (295, 101, true, [.long 0, .long 0, .long 0, .long 0])], cn_R sc (cn_M (mainL b0 b1 b2 b3 p0 p1 p2 p3 t0 t1 t2 t3 t4 t5 t6 d0 d1 d2 d3 d4 d5 vp f mi cn th nb bg o) LC LP LF LQ)), 9000, 0, 0) := by
  obtain ⟨R, hR⟩ : ∃ R, R = cn_R sc (cn_M (mainL b0 b1 b2 b3 p0 p1 p2 p3 t0 t1 t2 t3 t4 t5 t6 d0 d1 d2 d3 d4 d5 vp f mi cn th nb bg o) LC LP LF LQ) := ⟨_, rfl⟩
  rw [← hR]
  rcases iy_4 s1 with e1 | ⟨e1, _⟩ | ⟨e1, _⟩ | ⟨e1, _⟩ | ⟨e1, _⟩
  all_goals (try subst e1)
  repeat' (first
    | with_reducible refine gl_end28 ?_
    | ((with_reducible refine c_inT ?_ ?_); (with_reducible assumption))
    | ((with_reducible refine c_inF ?_ ?_); (with_reducible assumption))
    | ((with_reducible apply c_isInT); (with_reducible assumption); rfl; rfl)
    | ((with_reducible apply c_isInF); (with_reducible assumption); rfl; rfl)
    | ((with_reducible refine c_rqx ?_ ?_ ?_); rfl; (with_reducible assumption))
    | ((with_reducible apply gl_sc); rfl; rfl; (with_reducible assumption))
    | ((with_reducible refine gl_lcmp ?_ ?_ ?_); rfl; rfl)
    | refine gl_fly [(0, 28), (208, 0), (108, 0), (0, 3252), (0, 3265), (0, 3292)] rfl ?_)
  all_goals (subst hR; exact tk_leaf1 [(0, 100, false, sc)] hs (hP _ _) (main_ok hv h2 h3 h4 h5) rfl (ro_cons rfl rfl ro_nil) (ck_cons0 rfl (ck_cons0 rfl (ck_cons0 rfl (ck_cons0 rfl (ck_cons0 rfl (ck_cons0 rfl (ck_cons0 rfl (ck_cons0 rfl (ck_cons0 rfl (ck_cons0 rfl (ck_cons0 rfl (ck_cons0 rfl (ck_cons0 rfl (ck_cons0 rfl ck_nil)))))))))))))) rfl rfl rfl)
theorem tn_price {sc : List Value} {i s1 s2 : Int32} {b0 b1 b2 b3 : Int64} {p0 p1 p2 p3 t0 t1 t2 t3 t4 t5 t6 d0 d1 d2 d3 d4 d5 : Int32} {vp : Value} {f mi cn th nb bg : Int32} {o : Int64} {LC LP LF LQ : cn_L} {P : mm_H → List Value → Prop} (hs : ∀ v ∈ sc, ∀ b, v ≠ .ref b) (hv : clB vp = true) (h2 : cloB 2 LC = true) (h3 : cloB 3 LP = true) (h4 : cloB 4 LF = true) (h5 : cloQ [3100, 3140] LQ = true) (a1 : scr sc i 1 s1) (a2 : scr sc i 2 s2)  (hP : ∀ p0 p1 p2 p3 th o, P (can sc (cn_M (mainL b0 b1 b2 b3 p0 p1 p2 p3 t0 t1 t2 t3 t4 t5 t6 d0 d1 d2 d3 d4 d5 vp f mi cn th nb bg o) LC LP LF LQ)) (lcs (i + 6))) :
  fl_G (fun _ _ => False) (tk 299950 1375000 P) [] 60 0 3301 [.ref 0, .ref 272, .ref 287, .ref 298, .ref 299, .int i, .retAddr 0, .retAddr 0, .retAddr 0] [] (([(0, 100, false, sc), (272, 0, true, [.ref 273, .ref 274, .ref 275, .ref 276, .ref 279, .ref 282, .ref 283, .ref 284, .ref 285, .ref 286, vp, .null, .int f, .int mi, .int cn, .int 0, .int 45]), (287, 21, true, [.ref 288, .ref 289, .ref 290, .ref 291, .ref 292, .ref 293, .ref 294, .ref 295, .ref 296, .ref 297, .int nb, .int f, .int (-1), .int mi, .int 0, .int 0, .int 0, .int th, .int bg, .long 0, .int 45]), (298, 101, true, [.long o]), (286, 100, true, [.int p0, .int p1, .int p2, .int p3]), (294, 100, true, [.int p0, .int p1, .int p2, .int p3])], cn_R sc (cn_M (mainL b0 b1 b2 b3 p0 p1 p2 p3 t0 t1 t2 t3 t4 t5 t6 d0 d1 d2 d3 d4 d5 vp f mi cn th nb bg o) LC LP LF LQ)), 9000, 0, 0) := by
  obtain ⟨R, hR⟩ : ∃ R, R = cn_R sc (cn_M (mainL b0 b1 b2 b3 p0 p1 p2 p3 t0 t1 t2 t3 t4 t5 t6 d0 d1 d2 d3 d4 d5 vp f mi cn th nb bg o) LC LP LF LQ) := ⟨_, rfl⟩
  rw [← hR]
  rcases iy_4 s1 with e1 | ⟨e1, _⟩ | ⟨e1, _⟩ | ⟨e1, _⟩ | ⟨e1, _⟩
  all_goals (first | (subst e1; rcases rgc 0 9999 s2 with hs2 | hs2) | skip)
  repeat' (first
    | with_reducible refine gl_end28 ?_
    | ((with_reducible refine c_inT ?_ ?_); (with_reducible assumption))
    | ((with_reducible refine c_inF ?_ ?_); (with_reducible assumption))
    | ((with_reducible apply c_isInT); (with_reducible assumption); rfl; rfl)
    | ((with_reducible apply c_isInF); (with_reducible assumption); rfl; rfl)
    | ((with_reducible refine c_rqx ?_ ?_ ?_); rfl; (with_reducible assumption))
    | ((with_reducible apply gl_sc); rfl; rfl; (with_reducible assumption))
    | ((with_reducible refine gl_lcmp ?_ ?_ ?_); rfl; rfl)
    | refine gl_fly [(0, 28), (208, 0), (108, 0), (0, 3307), (0, 3313), (0, 3326), (0, 3332), (0, 3360)] rfl ?_)
  all_goals (subst hR; exact tk_leaf1 [(0, 100, false, sc)] hs (hP _ _ _ _ _ _) (main_ok hv h2 h3 h4 h5) rfl (ro_cons rfl rfl ro_nil) (ck_cons0 rfl (ck_cons0 rfl (ck_cons0 rfl (ck_cons0 rfl (ck_cons0 rfl (ck_cons0 rfl (ck_cons0 rfl (ck_cons0 rfl (ck_cons0 rfl (ck_cons0 rfl (ck_cons0 rfl (ck_cons0 rfl (ck_cons0 rfl (ck_cons0 rfl ck_nil)))))))))))))) rfl rfl rfl)
theorem tn_sell {sc : List Value} {i s1 : Int32} {b0 b1 b2 b3 : Int64} {p0 p1 p2 p3 t0 t1 t2 t3 t4 t5 t6 d0 d1 d2 d3 d4 d5 : Int32} {vp : Value} {f mi cn th nb bg : Int32} {o : Int64} {LC LP LF LQ : cn_L} {P : mm_H → List Value → Prop} (hs : ∀ v ∈ sc, ∀ b, v ≠ .ref b) (hv : clB vp = true) (h2 : cloB 2 LC = true) (h3 : cloB 3 LP = true) (h4 : cloB 4 LF = true) (h5 : cloQ [3100, 3140] LQ = true) (a1 : scr sc i 1 s1)  (hP : ∀ th o, P (can sc (cn_M (mainL b0 b1 b2 b3 p0 p1 p2 p3 t0 t1 t2 t3 t4 t5 t6 d0 d1 d2 d3 d4 d5 vp f mi cn th nb bg o) LC LP LF LQ)) (lcs (i + 6))) :
  fl_G (fun _ _ => False) (tk 299950 1375000 P) [] 60 0 3369 [.ref 0, .ref 272, .ref 287, .ref 298, .ref 299, .int i, .retAddr 0, .retAddr 0, .retAddr 0] [] (([(0, 100, false, sc), (272, 0, true, [.ref 273, .ref 274, .ref 275, .ref 276, .ref 279, .ref 282, .ref 283, .ref 284, .ref 285, .ref 286, vp, .null, .int f, .int mi, .int cn, .int 0, .int 45]), (287, 21, true, [.ref 288, .ref 289, .ref 290, .ref 291, .ref 292, .ref 293, .ref 294, .ref 295, .ref 296, .ref 297, .int nb, .int f, .int (-1), .int mi, .int 0, .int 0, .int 0, .int th, .int bg, .long 0, .int 45]), (298, 101, true, [.long o]), (284, 101, true, [.long 0, .long 0, .long 0, .long 0]), (285, 101, true, [.long 0, .long 0, .long 0, .long 0]), (295, 101, true, [.long 0, .long 0, .long 0, .long 0]), (286, 100, true, [.int p0, .int p1, .int p2, .int p3]), (294, 100, true, [.int p0, .int p1, .int p2, .int p3])], cn_R sc (cn_M (mainL b0 b1 b2 b3 p0 p1 p2 p3 t0 t1 t2 t3 t4 t5 t6 d0 d1 d2 d3 d4 d5 vp f mi cn th nb bg o) LC LP LF LQ)), 9000, 0, 0) := by
  obtain ⟨R, hR⟩ : ∃ R, R = cn_R sc (cn_M (mainL b0 b1 b2 b3 p0 p1 p2 p3 t0 t1 t2 t3 t4 t5 t6 d0 d1 d2 d3 d4 d5 vp f mi cn th nb bg o) LC LP LF LQ) := ⟨_, rfl⟩
  rw [← hR]
  rcases iy_4 s1 with e1 | ⟨e1, _⟩ | ⟨e1, _⟩ | ⟨e1, _⟩ | ⟨e1, _⟩
  all_goals (try subst e1)
  repeat' (first
    | with_reducible refine gl_end28 ?_
    | ((with_reducible refine c_inT ?_ ?_); (with_reducible assumption))
    | ((with_reducible refine c_inF ?_ ?_); (with_reducible assumption))
    | ((with_reducible apply c_isInT); (with_reducible assumption); rfl; rfl)
    | ((with_reducible apply c_isInF); (with_reducible assumption); rfl; rfl)
    | ((with_reducible refine c_rqx ?_ ?_ ?_); rfl; (with_reducible assumption))
    | ((with_reducible apply gl_sc); rfl; rfl; (with_reducible assumption))
    | ((with_reducible refine gl_lcmp ?_ ?_ ?_); rfl; rfl)
    | refine gl_fly [(0, 28), (208, 0), (108, 0), (0, 3375), (0, 3388), (0, 3415)] rfl ?_)
  all_goals (subst hR; exact tk_leaf1 [(0, 100, false, sc)] hs (hP _ _) (main_ok hv h2 h3 h4 h5) rfl (ro_cons rfl rfl ro_nil) (ck_cons0 rfl (ck_cons0 rfl (ck_cons0 rfl (ck_cons0 rfl (ck_cons0 rfl (ck_cons0 rfl (ck_cons0 rfl (ck_cons0 rfl (ck_cons0 rfl (ck_cons0 rfl (ck_cons0 rfl (ck_cons0 rfl (ck_cons0 rfl (ck_cons0 rfl ck_nil)))))))))))))) rfl rfl rfl)
theorem tn_meanWeight {sc : List Value} {i  : Int32} {b0 b1 b2 b3 : Int64} {p0 p1 p2 p3 t0 t1 t2 t3 t4 t5 t6 d0 d1 d2 d3 d4 d5 : Int32} {vp : Value} {f mi cn th nb bg : Int32} {o : Int64} {LC LP LF LQ : cn_L} {P : mm_H → List Value → Prop} (hs : ∀ v ∈ sc, ∀ b, v ≠ .ref b) (hv : clB vp = true) (h2 : cloB 2 LC = true) (h3 : cloB 3 LP = true) (h4 : cloB 4 LF = true) (h5 : cloQ [3100, 3140] LQ = true)   (hP : ∀ th, P (can sc (cn_M (mainL b0 b1 b2 b3 p0 p1 p2 p3 t0 t1 t2 t3 t4 t5 t6 d0 d1 d2 d3 d4 d5 vp f mi cn th nb bg o) LC LP LF LQ)) (lcs (i + 6))) :
  fl_G (fun _ _ => False) (tk 299950 1375000 P) [] 60 0 3490 [.ref 0, .ref 272, .ref 287, .ref 298, .ref 299, .int i, .retAddr 0, .retAddr 0, .retAddr 0] [] (([(0, 100, false, sc), (272, 0, true, [.ref 273, .ref 274, .ref 275, .ref 276, .ref 279, .ref 282, .ref 283, .ref 284, .ref 285, .ref 286, vp, .null, .int f, .int mi, .int cn, .int 0, .int 45]), (287, 21, true, [.ref 288, .ref 289, .ref 290, .ref 291, .ref 292, .ref 293, .ref 294, .ref 295, .ref 296, .ref 297, .int nb, .int f, .int (-1), .int mi, .int 0, .int 0, .int 0, .int th, .int bg, .long 0, .int 45]), (298, 101, true, [.long o])], cn_R sc (cn_M (mainL b0 b1 b2 b3 p0 p1 p2 p3 t0 t1 t2 t3 t4 t5 t6 d0 d1 d2 d3 d4 d5 vp f mi cn th nb bg o) LC LP LF LQ)), 9000, 0, 0) := by
  obtain ⟨R, hR⟩ : ∃ R, R = cn_R sc (cn_M (mainL b0 b1 b2 b3 p0 p1 p2 p3 t0 t1 t2 t3 t4 t5 t6 d0 d1 d2 d3 d4 d5 vp f mi cn th nb bg o) LC LP LF LQ) := ⟨_, rfl⟩
  rw [← hR]
  repeat' (first
    | with_reducible refine gl_end28 ?_
    | ((with_reducible refine c_inT ?_ ?_); (with_reducible assumption))
    | ((with_reducible refine c_inF ?_ ?_); (with_reducible assumption))
    | ((with_reducible apply c_isInT); (with_reducible assumption); rfl; rfl)
    | ((with_reducible apply c_isInF); (with_reducible assumption); rfl; rfl)
    | ((with_reducible refine c_rqx ?_ ?_ ?_); rfl; (with_reducible assumption))
    | ((with_reducible apply gl_sc); rfl; rfl; (with_reducible assumption))
    | ((with_reducible refine gl_lcmp ?_ ?_ ?_); rfl; rfl)
    | refine gl_fly [(0, 28), (208, 0), (108, 0)] rfl ?_)
  all_goals (subst hR; exact tk_leaf1 [(0, 100, false, sc)] hs (hP _) (main_ok hv h2 h3 h4 h5) rfl (ro_cons rfl rfl ro_nil) (ck_cons0 rfl (ck_cons0 rfl (ck_cons0 rfl (ck_cons0 rfl (ck_cons0 rfl (ck_cons0 rfl (ck_cons0 rfl (ck_cons0 rfl (ck_cons0 rfl (ck_cons0 rfl (ck_cons0 rfl (ck_cons0 rfl (ck_cons0 rfl (ck_cons0 rfl ck_nil)))))))))))))) rfl rfl rfl)
theorem tn_none {sc : List Value} {i  : Int32} {b0 b1 b2 b3 : Int64} {p0 p1 p2 p3 t0 t1 t2 t3 t4 t5 t6 d0 d1 d2 d3 d4 d5 : Int32} {vp : Value} {f mi cn th nb bg : Int32} {o : Int64} {LC LP LF LQ : cn_L} {P : mm_H → List Value → Prop} (hs : ∀ v ∈ sc, ∀ b, v ≠ .ref b) (hv : clB vp = true) (h2 : cloB 2 LC = true) (h3 : cloB 3 LP = true) (h4 : cloB 4 LF = true) (h5 : cloQ [3100, 3140] LQ = true)   (hP : ∀ th, P (can sc (cn_M (mainL b0 b1 b2 b3 p0 p1 p2 p3 t0 t1 t2 t3 t4 t5 t6 d0 d1 d2 d3 d4 d5 vp f mi cn th nb bg o) LC LP LF LQ)) (lcs (i + 6))) :
  fl_G (fun _ _ => False) (tk 299950 1375000 P) [] 60 0 3568 [.ref 0, .ref 272, .ref 287, .ref 298, .ref 299, .int i, .retAddr 0, .retAddr 0, .retAddr 0] [] (([(0, 100, false, sc), (272, 0, true, [.ref 273, .ref 274, .ref 275, .ref 276, .ref 279, .ref 282, .ref 283, .ref 284, .ref 285, .ref 286, vp, .null, .int f, .int mi, .int cn, .int 0, .int 45]), (287, 21, true, [.ref 288, .ref 289, .ref 290, .ref 291, .ref 292, .ref 293, .ref 294, .ref 295, .ref 296, .ref 297, .int nb, .int f, .int (-1), .int mi, .int 0, .int 0, .int 0, .int th, .int bg, .long 0, .int 45]), (298, 101, true, [.long o])], cn_R sc (cn_M (mainL b0 b1 b2 b3 p0 p1 p2 p3 t0 t1 t2 t3 t4 t5 t6 d0 d1 d2 d3 d4 d5 vp f mi cn th nb bg o) LC LP LF LQ)), 9000, 0, 0) := by
  obtain ⟨R, hR⟩ : ∃ R, R = cn_R sc (cn_M (mainL b0 b1 b2 b3 p0 p1 p2 p3 t0 t1 t2 t3 t4 t5 t6 d0 d1 d2 d3 d4 d5 vp f mi cn th nb bg o) LC LP LF LQ) := ⟨_, rfl⟩
  rw [← hR]
  repeat' (first
    | with_reducible refine gl_end28 ?_
    | ((with_reducible refine c_inT ?_ ?_); (with_reducible assumption))
    | ((with_reducible refine c_inF ?_ ?_); (with_reducible assumption))
    | ((with_reducible apply c_isInT); (with_reducible assumption); rfl; rfl)
    | ((with_reducible apply c_isInF); (with_reducible assumption); rfl; rfl)
    | ((with_reducible refine c_rqx ?_ ?_ ?_); rfl; (with_reducible assumption))
    | ((with_reducible apply gl_sc); rfl; rfl; (with_reducible assumption))
    | ((with_reducible refine gl_lcmp ?_ ?_ ?_); rfl; rfl)
    | refine gl_fly [(0, 28), (208, 0), (108, 0)] rfl ?_)
  all_goals (subst hR; exact tk_leaf1 [(0, 100, false, sc)] hs (hP _) (main_ok hv h2 h3 h4 h5) rfl (ro_cons rfl rfl ro_nil) (ck_cons0 rfl (ck_cons0 rfl (ck_cons0 rfl (ck_cons0 rfl (ck_cons0 rfl (ck_cons0 rfl (ck_cons0 rfl (ck_cons0 rfl (ck_cons0 rfl (ck_cons0 rfl (ck_cons0 rfl (ck_cons0 rfl (ck_cons0 rfl (ck_cons0 rfl ck_nil)))))))))))))) rfl rfl rfl)
end CALLS0
