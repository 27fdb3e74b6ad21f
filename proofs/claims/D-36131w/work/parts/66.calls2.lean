set_option maxRecDepth 100000
section CALLS2
set_option maxHeartbeats 20000000 in
theorem tn_disc {sc : List Value} {i s1 s2 : Int32} {b0 b1 b2 b3 : Int64} {p0 p1 p2 p3 t0 t1 t2 t3 t4 t5 t6 d0 d1 d2 d3 d4 d5 : Int32} {vp : Value} {f mi cn th nb bg : Int32} {o : Int64} {LC LP LF LQ : cn_L} {P : mm_H → List Value → Prop} (hs : ∀ v ∈ sc, ∀ b, v ≠ .ref b) (hv : clB vp = true) (h2 : cloB 2 LC = true) (h3 : cloB 3 LP = true) (h4 : cloB 4 LF = true) (h5 : cloQ [3100, 3140] LQ = true) (a1 : scr sc i 1 s1) (a2 : scr sc i 2 s2)  (hP : ∀ th o, P (can sc (cn_M (mainL b0 b1 b2 b3 p0 p1 p2 p3 t0 t1 t2 t3 t4 t5 t6 d0 d1 d2 d3 d4 d5 vp f mi cn th nb bg o) LC LP LF LQ)) (lcs (i + 6))) :
  fl_G (fun _ _ => False) (tk 299950 1375000 P) [] 60 0 1287 [.ref 0, .ref 272, .ref 287, .ref 298, .ref 299, .int i, .retAddr 0, .retAddr 0, .retAddr 0] [] (([(0, 100, false, sc), (272, 0, true, [.ref 273, .ref 274, .ref 275, .ref 276, .ref 279, .ref 282, .ref 283, .ref 284, .ref 285, .ref 286, vp, .null, .int f, .int mi, .int cn, .int 0, .int 45]), (287, 21, true, [.ref 288, .ref 289, .ref 290, .ref 291, .ref 292, .ref 293, .ref 294, .ref 295, .ref 296, .ref 297, .int nb, .int f, .int (-1), .int mi, .int 0, .int 0, .int 0, .int th, .int bg, .long 0, .int 45]), (298, 101, true, [.long o])], cn_R sc (cn_M (mainL b0 b1 b2 b3 p0 p1 p2 p3 t0 t1 t2 t3 t4 t5 t6 d0 d1 d2 d3 d4 d5 vp f mi cn th nb bg o) LC LP LF LQ)), 9000, 0, 0) := by
  obtain ⟨R, hR⟩ : ∃ R, R = cn_R sc (cn_M (mainL b0 b1 b2 b3 p0 p1 p2 p3 t0 t1 t2 t3 t4 t5 t6 d0 d1 d2 d3 d4 d5 vp f mi cn th nb bg o) LC LP LF LQ) := ⟨_, rfl⟩
  rw [← hR]
  rcases or2 (rgc 1 999 s1) (rgc 0 999 s2) with hs1 | ⟨hs1, hs2⟩ | ⟨hs1, hs2⟩
  all_goals (first | (obtain ⟨D, e1, q1, q2⟩ := rg_nat (lo := 1) (hi := 999) rfl rfl (by decide) (by decide) hs1; obtain ⟨H, e2, q3, q4⟩ := rg_nat (lo := 0) (hi := 999) rfl rfl (by decide) (by decide) hs2; subst e1; subst e2) | skip)
  repeat' (first
    | with_reducible refine gl_end28 ?_
    | ((with_reducible refine c_inT ?_ ?_); (with_reducible assumption))
    | ((with_reducible refine c_inF ?_ ?_); (with_reducible assumption))
    | ((with_reducible apply c_isInT); (with_reducible assumption); rfl; rfl)
    | ((with_reducible apply c_isInF); (with_reducible assumption); rfl; rfl)
    | ((with_reducible refine c_rqx ?_ ?_ ?_); rfl; (with_reducible assumption))
    | ((with_reducible apply gl_sc); rfl; rfl; (with_reducible assumption))
    | ((with_reducible refine gl_lcmp ?_ ?_ ?_); rfl; rfl)
    | ((with_reducible refine c_disc_x ?_ ?_ ?_); (with_reducible assumption); (with_reducible assumption); intro r hr)
    | ((with_reducible refine c_disc_m ?_ ?_ ?_); (with_reducible assumption); (with_reducible assumption); intro r2 hr2; obtain rfl := lst2_un hr2 hr)
    | refine gl_fly [(0, 28), (208, 0), (108, 0), (0, 1293), (0, 1299), (0, 1312), (0, 1318), (0, 1346), (253, 0), (149, 0)] rfl ?_)
  all_goals (subst hR; exact tk_leaf1 [(0, 100, false, sc)] hs (hP _ _) (main_ok hv h2 h3 h4 h5) rfl (ro_cons rfl rfl ro_nil) (ck_cons0 rfl (ck_cons0 rfl (ck_cons0 rfl (ck_cons0 rfl (ck_cons0 rfl (ck_cons0 rfl (ck_cons0 rfl (ck_cons0 rfl (ck_cons0 rfl (ck_cons0 rfl (ck_cons0 rfl (ck_cons0 rfl (ck_cons0 rfl (ck_cons0 rfl ck_nil)))))))))))))) rfl rfl rfl)
set_option maxHeartbeats 20000000 in
theorem tn_tried {sc : List Value} {i s1 s2 : Int32} {b0 b1 b2 b3 : Int64} {p0 p1 p2 p3 t0 t1 t2 t3 t4 t5 t6 d0 d1 d2 d3 d4 d5 : Int32} {vp : Value} {f mi cn th nb bg : Int32} {o : Int64} {LC LP LF LQ : cn_L} {P : mm_H → List Value → Prop} (hs : ∀ v ∈ sc, ∀ b, v ≠ .ref b) (hv : clB vp = true) (h2 : cloB 2 LC = true) (h3 : cloB 3 LP = true) (h4 : cloB 4 LF = true) (h5 : cloQ [3100, 3140] LQ = true) (a1 : scr sc i 1 s1) (a2 : scr sc i 2 s2)  (hP : ∀ th o, P (can sc (cn_M (mainL b0 b1 b2 b3 p0 p1 p2 p3 t0 t1 t2 t3 t4 t5 t6 d0 d1 d2 d3 d4 d5 vp f mi cn th nb bg o) LC LP LF LQ)) (lcs (i + 6))) :
  fl_G (fun _ _ => False) (tk 299950 1375000 P) [] 60 0 1451 [.ref 0, .ref 272, .ref 287, .ref 298, .ref 299, .int i, .retAddr 0, .retAddr 0, .retAddr 0] [] (([(0, 100, false, sc), (272, 0, true, [.ref 273, .ref 274, .ref 275, .ref 276, .ref 279, .ref 282, .ref 283, .ref 284, .ref 285, .ref 286, vp, .null, .int f, .int mi, .int cn, .int 0, .int 45]), (287, 21, true, [.ref 288, .ref 289, .ref 290, .ref 291, .ref 292, .ref 293, .ref 294, .ref 295, .ref 296, .ref 297, .int nb, .int f, .int (-1), .int mi, .int 0, .int 0, .int 0, .int th, .int bg, .long 0, .int 45]), (298, 101, true, [.long o])], cn_R sc (cn_M (mainL b0 b1 b2 b3 p0 p1 p2 p3 t0 t1 t2 t3 t4 t5 t6 d0 d1 d2 d3 d4 d5 vp f mi cn th nb bg o) LC LP LF LQ)), 9000, 0, 0) := by
  obtain ⟨R, hR⟩ : ∃ R, R = cn_R sc (cn_M (mainL b0 b1 b2 b3 p0 p1 p2 p3 t0 t1 t2 t3 t4 t5 t6 d0 d1 d2 d3 d4 d5 vp f mi cn th nb bg o) LC LP LF LQ) := ⟨_, rfl⟩
  rw [← hR]
  rcases or2 (rgc 1 18000 s1) (rgc 0 300 s2) with hs1 | ⟨hs1, hs2⟩ | ⟨hs1, hs2⟩
  repeat' (first
    | with_reducible refine gl_end28 ?_
    | ((with_reducible refine c_inT ?_ ?_); (with_reducible assumption))
    | ((with_reducible refine c_inF ?_ ?_); (with_reducible assumption))
    | ((with_reducible apply c_isInT); (with_reducible assumption); rfl; rfl)
    | ((with_reducible apply c_isInF); (with_reducible assumption); rfl; rfl)
    | ((with_reducible refine c_rqx ?_ ?_ ?_); rfl; (with_reducible assumption))
    | ((with_reducible apply gl_sc); rfl; rfl; (with_reducible assumption))
    | ((with_reducible refine gl_lcmp ?_ ?_ ?_); rfl; rfl)
    | ((with_reducible refine tro_x0 ?_); intro z1 w1)
    | ((with_reducible refine tro_m0 ?_); intro z2 w2)
    | refine gl_fly [(0, 28), (208, 0), (108, 0), (0, 1457), (0, 1463), (0, 1476), (0, 1482), (0, 1510), (255, 7), (154, 8)] rfl ?_)
  all_goals (subst hR; exact tk_leaf1 [(0, 100, false, sc)] hs (hP _ _) (main_ok hv h2 h3 h4 h5) rfl (ro_cons rfl rfl ro_nil) (ck_cons0 rfl (ck_cons0 rfl (ck_cons0 rfl (ck_cons0 rfl (ck_cons0 rfl (ck_cons0 rfl (ck_cons0 rfl (ck_cons0 rfl (ck_cons0 rfl (ck_cons0 rfl (ck_cons0 rfl (ck_cons0 rfl (ck_cons0 rfl (ck_cons0 rfl ck_nil)))))))))))))) rfl rfl rfl)
set_option maxHeartbeats 20000000 in
theorem tn_tries {sc : List Value} {i s1 s2 : Int32} {b0 b1 b2 b3 : Int64} {p0 p1 p2 p3 t0 t1 t2 t3 t4 t5 t6 d0 d1 d2 d3 d4 d5 : Int32} {vp : Value} {f mi cn th nb bg : Int32} {o : Int64} {LC LP LF LQ : cn_L} {P : mm_H → List Value → Prop} (hs : ∀ v ∈ sc, ∀ b, v ≠ .ref b) (hv : clB vp = true) (h2 : cloB 2 LC = true) (h3 : cloB 3 LP = true) (h4 : cloB 4 LF = true) (h5 : cloQ [3100, 3140] LQ = true) (a1 : scr sc i 1 s1) (a2 : scr sc i 2 s2)  (hP : ∀ th o, P (can sc (cn_M (mainL b0 b1 b2 b3 p0 p1 p2 p3 t0 t1 t2 t3 t4 t5 t6 d0 d1 d2 d3 d4 d5 vp f mi cn th nb bg o) LC LP LF LQ)) (lcs (i + 6))) :
  fl_G (fun _ _ => False) (tk 299950 1375000 P) [] 60 0 1519 [.ref 0, .ref 272, .ref 287, .ref 298, .ref 299, .int i, .retAddr 0, .retAddr 0, .retAddr 0] [] (([(0, 100, false, sc), (272, 0, true, [.ref 273, .ref 274, .ref 275, .ref 276, .ref 279, .ref 282, .ref 283, .ref 284, .ref 285, .ref 286, vp, .null, .int f, .int mi, .int cn, .int 0, .int 45]), (287, 21, true, [.ref 288, .ref 289, .ref 290, .ref 291, .ref 292, .ref 293, .ref 294, .ref 295, .ref 296, .ref 297, .int nb, .int f, .int (-1), .int mi, .int 0, .int 0, .int 0, .int th, .int bg, .long 0, .int 45]), (298, 101, true, [.long o])], cn_R sc (cn_M (mainL b0 b1 b2 b3 p0 p1 p2 p3 t0 t1 t2 t3 t4 t5 t6 d0 d1 d2 d3 d4 d5 vp f mi cn th nb bg o) LC LP LF LQ)), 9000, 0, 0) := by
  obtain ⟨R, hR⟩ : ∃ R, R = cn_R sc (cn_M (mainL b0 b1 b2 b3 p0 p1 p2 p3 t0 t1 t2 t3 t4 t5 t6 d0 d1 d2 d3 d4 d5 vp f mi cn th nb bg o) LC LP LF LQ) := ⟨_, rfl⟩
  rw [← hR]
  rcases or2 (rgc 1 18000 s1) (rgc 0 300 s2) with hs1 | ⟨hs1, hs2⟩ | ⟨hs1, hs2⟩
  repeat' (first
    | with_reducible refine gl_end28 ?_
    | ((with_reducible refine c_inT ?_ ?_); (with_reducible assumption))
    | ((with_reducible refine c_inF ?_ ?_); (with_reducible assumption))
    | ((with_reducible apply c_isInT); (with_reducible assumption); rfl; rfl)
    | ((with_reducible apply c_isInF); (with_reducible assumption); rfl; rfl)
    | ((with_reducible refine c_rqx ?_ ?_ ?_); rfl; (with_reducible assumption))
    | ((with_reducible apply gl_sc); rfl; rfl; (with_reducible assumption))
    | ((with_reducible refine gl_lcmp ?_ ?_ ?_); rfl; rfl)
    | ((with_reducible refine tro_x0 ?_); intro z1 w1)
    | ((with_reducible refine tro_m0 ?_); intro z2 w2)
    | refine gl_fly [(0, 28), (208, 0), (108, 0), (0, 1525), (0, 1531), (0, 1544), (0, 1550), (0, 1578), (255, 7), (154, 8)] rfl ?_)
  all_goals (subst hR; exact tk_leaf1 [(0, 100, false, sc)] hs (hP _ _) (main_ok hv h2 h3 h4 h5) rfl (ro_cons rfl rfl ro_nil) (ck_cons0 rfl (ck_cons0 rfl (ck_cons0 rfl (ck_cons0 rfl (ck_cons0 rfl (ck_cons0 rfl (ck_cons0 rfl (ck_cons0 rfl (ck_cons0 rfl (ck_cons0 rfl (ck_cons0 rfl (ck_cons0 rfl (ck_cons0 rfl (ck_cons0 rfl ck_nil)))))))))))))) rfl rfl rfl)
end CALLS2
