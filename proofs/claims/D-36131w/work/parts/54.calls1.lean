set_option maxRecDepth 100000
section CALLS1
theorem tn_work0 {sc : List Value} {i s1 s2 s3 s4 : Int32} {b0 b1 b2 b3 : Int64} {p0 p1 p2 p3 t0 t1 t2 t3 t4 t5 t6 d0 d1 d2 d3 d4 d5 : Int32} {vp : Value} {f mi cn th nb bg : Int32} {o : Int64} {LC LP LF LQ : cn_L} {P : mm_H → List Value → Prop} (hs : ∀ v ∈ sc, ∀ b, v ≠ .ref b) (hv : clB vp = true) (h2 : cloB 2 LC = true) (h3 : cloB 3 LP = true) (h4 : cloB 4 LF = true) (h5 : cloQ [3100, 3140] LQ = true) (a1 : scr sc i 1 s1) (a2 : scr sc i 2 s2) (a3 : scr sc i 3 s3) (a4 : scr sc i 4 s4) (hd1 : mm_lk LP (fun _ => none) 275 = some (1, true, [.int 0, .ref 1, .int 0])) (hd2 : mm_lk LP (fun _ => none) 290 = some (1, true, [.int 0, .ref 1, .int 0])) (hP : ∀ th, P (can sc (cn_M (mainL b0 b1 b2 b3 p0 p1 p2 p3 t0 t1 t2 t3 t4 t5 t6 d0 d1 d2 d3 d4 d5 vp f mi cn th nb bg o) LC LP LF LQ)) (lcs (i + 6))) :
  fl_G (fun _ _ => False) (tk 299950 1375000 P) [] 60 0 1671 [.ref 0, .ref 272, .ref 287, .ref 298, .ref 299, .int i, .retAddr 0, .retAddr 0, .retAddr 0] [] (([(0, 100, false, sc), (272, 0, true, [.ref 273, .ref 274, .ref 275, .ref 276, .ref 279, .ref 282, .ref 283, .ref 284, .ref 285, .ref 286, vp, .null, .int f, .int mi, .int cn, .int 0, .int 45]), (287, 21, true, [.ref 288, .ref 289, .ref 290, .ref 291, .ref 292, .ref 293, .ref 294, .ref 295, .ref 296, .ref 297, .int nb, .int f, .int (-1), .int mi, .int 0, .int 0, .int 0, .int th, .int bg, .long 0, .int 45]), (298, 101, true, [.long o]), (275, 1, true, [.int 0, .ref 1, .int 0]), (290, 1, true, [.int 0, .ref 1, .int 0])], cn_R sc (cn_M (mainL b0 b1 b2 b3 p0 p1 p2 p3 t0 t1 t2 t3 t4 t5 t6 d0 d1 d2 d3 d4 d5 vp f mi cn th nb bg o) LC LP LF LQ)), 9000, 0, 0) := by
  obtain ⟨R, hR⟩ : ∃ R, R = cn_R sc (cn_M (mainL b0 b1 b2 b3 p0 p1 p2 p3 t0 t1 t2 t3 t4 t5 t6 d0 d1 d2 d3 d4 d5 vp f mi cn th nb bg o) LC LP LF LQ) := ⟨_, rfl⟩
  rw [← hR]
  have e0 : rgF 0 (0 - 1) s1 := rg_e s1
  rcases or3 (rgc 1 400 s2) (rgc 90 180 s3) (rgc (-99) 99 s4) with hs2 | ⟨hs2, hs3⟩ | ⟨hs2, hs3, hs4⟩ | ⟨hs2, hs3, hs4⟩
  repeat' (first
    | with_reducible refine gl_end28 ?_
    | ((with_reducible refine c_inT ?_ ?_); (with_reducible assumption))
    | ((with_reducible refine c_inF ?_ ?_); (with_reducible assumption))
    | ((with_reducible apply c_isInT); (with_reducible assumption); rfl; rfl)
    | ((with_reducible apply c_isInF); (with_reducible assumption); rfl; rfl)
    | ((with_reducible refine c_rqx ?_ ?_ ?_); rfl; (with_reducible assumption))
    | ((with_reducible apply gl_sc); rfl; rfl; (with_reducible assumption))
    | ((with_reducible refine gl_lcmp ?_ ?_ ?_); rfl; rfl)
    | refine gl_fly [(0, 28), (208, 0), (108, 0), (0, 1677), (0, 1683), (0, 1689), (0, 1695), (0, 1708), (0, 1714), (0, 1720), (0, 1726), (0, 1754), (248, 0)] rfl ?_)
  all_goals (subst hR; exact tk_leaf1 [(0, 100, false, sc), (275, 1, true, [.int 0, .ref 1, .int 0]), (290, 1, true, [.int 0, .ref 1, .int 0])] hs (hP _) (main_ok hv h2 h3 h4 h5) rfl (ro_cons rfl rfl (ro_cons hd1 rfl (ro_cons hd2 rfl ro_nil))) (ck_cons0 rfl (ck_cons0 rfl (ck_cons0 rfl (ck_cons0 rfl (ck_cons0 rfl (ck_cons0 rfl (ck_cons0 rfl (ck_cons0 rfl (ck_cons0 rfl (ck_cons0 rfl (ck_cons0 rfl (ck_cons0 rfl (ck_cons0 rfl (ck_cons0 rfl ck_nil)))))))))))))) rfl rfl rfl)
theorem tn_behind0 {sc : List Value} {i s1 s2 s3 : Int32} {b0 b1 b2 b3 : Int64} {p0 p1 p2 p3 t0 t1 t2 t3 t4 t5 t6 d0 d1 d2 d3 d4 d5 : Int32} {vp : Value} {f mi cn th nb bg : Int32} {o : Int64} {LC LP LF LQ : cn_L} {P : mm_H → List Value → Prop} (hs : ∀ v ∈ sc, ∀ b, v ≠ .ref b) (hv : clB vp = true) (h2 : cloB 2 LC = true) (h3 : cloB 3 LP = true) (h4 : cloB 4 LF = true) (h5 : cloQ [3100, 3140] LQ = true) (a1 : scr sc i 1 s1) (a2 : scr sc i 2 s2) (a3 : scr sc i 3 s3) (hd1 : mm_lk LP (fun _ => none) 275 = some (1, true, [.int 0, .ref 1, .int 0])) (hd2 : mm_lk LP (fun _ => none) 290 = some (1, true, [.int 0, .ref 1, .int 0])) (hP : ∀ th, P (can sc (cn_M (mainL b0 b1 b2 b3 p0 p1 p2 p3 t0 t1 t2 t3 t4 t5 t6 d0 d1 d2 d3 d4 d5 vp f mi cn th nb bg o) LC LP LF LQ)) (lcs (i + 6))) :
  fl_G (fun _ _ => False) (tk 299950 1375000 P) [] 60 0 1763 [.ref 0, .ref 272, .ref 287, .ref 298, .ref 299, .int i, .retAddr 0, .retAddr 0, .retAddr 0] [] (([(0, 100, false, sc), (272, 0, true, [.ref 273, .ref 274, .ref 275, .ref 276, .ref 279, .ref 282, .ref 283, .ref 284, .ref 285, .ref 286, vp, .null, .int f, .int mi, .int cn, .int 0, .int 45]), (287, 21, true, [.ref 288, .ref 289, .ref 290, .ref 291, .ref 292, .ref 293, .ref 294, .ref 295, .ref 296, .ref 297, .int nb, .int f, .int (-1), .int mi, .int 0, .int 0, .int 0, .int th, .int bg, .long 0, .int 45]), (298, 101, true, [.long o]), (275, 1, true, [.int 0, .ref 1, .int 0]), (290, 1, true, [.int 0, .ref 1, .int 0])], cn_R sc (cn_M (mainL b0 b1 b2 b3 p0 p1 p2 p3 t0 t1 t2 t3 t4 t5 t6 d0 d1 d2 d3 d4 d5 vp f mi cn th nb bg o) LC LP LF LQ)), 9000, 0, 0) := by
  obtain ⟨R, hR⟩ : ∃ R, R = cn_R sc (cn_M (mainL b0 b1 b2 b3 p0 p1 p2 p3 t0 t1 t2 t3 t4 t5 t6 d0 d1 d2 d3 d4 d5 vp f mi cn th nb bg o) LC LP LF LQ) := ⟨_, rfl⟩
  rw [← hR]
  have e0 : rgF 0 (0 - 1) s1 := rg_e s1
  repeat' (first
    | with_reducible refine gl_end28 ?_
    | ((with_reducible refine c_inT ?_ ?_); (with_reducible assumption))
    | ((with_reducible refine c_inF ?_ ?_); (with_reducible assumption))
    | ((with_reducible apply c_isInT); (with_reducible assumption); rfl; rfl)
    | ((with_reducible apply c_isInF); (with_reducible assumption); rfl; rfl)
    | ((with_reducible refine c_rqx ?_ ?_ ?_); rfl; (with_reducible assumption))
    | ((with_reducible apply gl_sc); rfl; rfl; (with_reducible assumption))
    | ((with_reducible refine gl_lcmp ?_ ?_ ?_); rfl; rfl)
    | refine gl_fly [(0, 28), (208, 0), (108, 0), (0, 1769), (0, 1775), (0, 1781), (0, 1794), (0, 1800), (0, 1806), (0, 1834), (248, 0)] rfl ?_)
  all_goals (subst hR; exact tk_leaf1 [(0, 100, false, sc), (275, 1, true, [.int 0, .ref 1, .int 0]), (290, 1, true, [.int 0, .ref 1, .int 0])] hs (hP _) (main_ok hv h2 h3 h4 h5) rfl (ro_cons rfl rfl (ro_cons hd1 rfl (ro_cons hd2 rfl ro_nil))) (ck_cons0 rfl (ck_cons0 rfl (ck_cons0 rfl (ck_cons0 rfl (ck_cons0 rfl (ck_cons0 rfl (ck_cons0 rfl (ck_cons0 rfl (ck_cons0 rfl (ck_cons0 rfl (ck_cons0 rfl (ck_cons0 rfl (ck_cons0 rfl (ck_cons0 rfl ck_nil)))))))))))))) rfl rfl rfl)
theorem tn_apart0 {sc : List Value} {i s1 s2 s3 : Int32} {b0 b1 b2 b3 : Int64} {p0 p1 p2 p3 t0 t1 t2 t3 t4 t5 t6 d0 d1 d2 d3 d4 d5 : Int32} {vp : Value} {f mi cn th nb bg : Int32} {o : Int64} {LC LP LF LQ : cn_L} {P : mm_H → List Value → Prop} (hs : ∀ v ∈ sc, ∀ b, v ≠ .ref b) (hv : clB vp = true) (h2 : cloB 2 LC = true) (h3 : cloB 3 LP = true) (h4 : cloB 4 LF = true) (h5 : cloQ [3100, 3140] LQ = true) (a1 : scr sc i 1 s1) (a2 : scr sc i 2 s2) (a3 : scr sc i 3 s3) (hd1 : mm_lk LP (fun _ => none) 275 = some (1, true, [.int 0, .ref 1, .int 0])) (hd2 : mm_lk LP (fun _ => none) 290 = some (1, true, [.int 0, .ref 1, .int 0])) (hP : ∀ th, P (can sc (cn_M (mainL b0 b1 b2 b3 p0 p1 p2 p3 t0 t1 t2 t3 t4 t5 t6 d0 d1 d2 d3 d4 d5 vp f mi cn th nb bg o) LC LP LF LQ)) (lcs (i + 6))) :
  fl_G (fun _ _ => False) (tk 299950 1375000 P) [] 60 0 1843 [.ref 0, .ref 272, .ref 287, .ref 298, .ref 299, .int i, .retAddr 0, .retAddr 0, .retAddr 0] [] (([(0, 100, false, sc), (272, 0, true, [.ref 273, .ref 274, .ref 275, .ref 276, .ref 279, .ref 282, .ref 283, .ref 284, .ref 285, .ref 286, vp, .null, .int f, .int mi, .int cn, .int 0, .int 45]), (287, 21, true, [.ref 288, .ref 289, .ref 290, .ref 291, .ref 292, .ref 293, .ref 294, .ref 295, .ref 296, .ref 297, .int nb, .int f, .int (-1), .int mi, .int 0, .int 0, .int 0, .int th, .int bg, .long 0, .int 45]), (298, 101, true, [.long o]), (275, 1, true, [.int 0, .ref 1, .int 0]), (290, 1, true, [.int 0, .ref 1, .int 0])], cn_R sc (cn_M (mainL b0 b1 b2 b3 p0 p1 p2 p3 t0 t1 t2 t3 t4 t5 t6 d0 d1 d2 d3 d4 d5 vp f mi cn th nb bg o) LC LP LF LQ)), 9000, 0, 0) := by
  obtain ⟨R, hR⟩ : ∃ R, R = cn_R sc (cn_M (mainL b0 b1 b2 b3 p0 p1 p2 p3 t0 t1 t2 t3 t4 t5 t6 d0 d1 d2 d3 d4 d5 vp f mi cn th nb bg o) LC LP LF LQ) := ⟨_, rfl⟩
  rw [← hR]
  have e0 : rgF 0 (0 - 1) s1 := rg_e s1
  repeat' (first
    | with_reducible refine gl_end28 ?_
    | ((with_reducible refine c_inT ?_ ?_); (with_reducible assumption))
    | ((with_reducible refine c_inF ?_ ?_); (with_reducible assumption))
    | ((with_reducible apply c_isInT); (with_reducible assumption); rfl; rfl)
    | ((with_reducible apply c_isInF); (with_reducible assumption); rfl; rfl)
    | ((with_reducible refine c_rqx ?_ ?_ ?_); rfl; (with_reducible assumption))
    | ((with_reducible apply gl_sc); rfl; rfl; (with_reducible assumption))
    | ((with_reducible refine gl_lcmp ?_ ?_ ?_); rfl; rfl)
    | refine gl_fly [(0, 28), (208, 0), (108, 0), (0, 1849), (0, 1855), (0, 1861), (0, 1874), (0, 1880), (0, 1886), (0, 1921), (248, 0)] rfl ?_)
  all_goals (subst hR; exact tk_leaf1 [(0, 100, false, sc), (275, 1, true, [.int 0, .ref 1, .int 0]), (290, 1, true, [.int 0, .ref 1, .int 0])] hs (hP _) (main_ok hv h2 h3 h4 h5) rfl (ro_cons rfl rfl (ro_cons hd1 rfl (ro_cons hd2 rfl ro_nil))) (ck_cons0 rfl (ck_cons0 rfl (ck_cons0 rfl (ck_cons0 rfl (ck_cons0 rfl (ck_cons0 rfl (ck_cons0 rfl (ck_cons0 rfl (ck_cons0 rfl (ck_cons0 rfl (ck_cons0 rfl (ck_cons0 rfl (ck_cons0 rfl (ck_cons0 rfl ck_nil)))))))))))))) rfl rfl rfl)
theorem tn_stations0 {sc : List Value} {i s1 : Int32} {b0 b1 b2 b3 : Int64} {p0 p1 p2 p3 t0 t1 t2 t3 t4 t5 t6 d0 d1 d2 d3 d4 d5 : Int32} {vp : Value} {f mi cn th nb bg : Int32} {o : Int64} {LC LP LF LQ : cn_L} {P : mm_H → List Value → Prop} (hs : ∀ v ∈ sc, ∀ b, v ≠ .ref b) (hv : clB vp = true) (h2 : cloB 2 LC = true) (h3 : cloB 3 LP = true) (h4 : cloB 4 LF = true) (h5 : cloQ [3100, 3140] LQ = true) (a1 : scr sc i 1 s1) (hd1 : mm_lk LP (fun _ => none) 275 = some (1, true, [.int 0, .ref 1, .int 0])) (hd2 : mm_lk LP (fun _ => none) 290 = some (1, true, [.int 0, .ref 1, .int 0])) (hP : ∀ th, P (can sc (cn_M (mainL b0 b1 b2 b3 p0 p1 p2 p3 t0 t1 t2 t3 t4 t5 t6 d0 d1 d2 d3 d4 d5 vp f mi cn th nb bg o) LC LP LF LQ)) (lcs (i + 6))) :
  fl_G (fun _ _ => False) (tk 299950 1375000 P) [] 60 0 1930 [.ref 0, .ref 272, .ref 287, .ref 298, .ref 299, .int i, .retAddr 0, .retAddr 0, .retAddr 0] [] (([(0, 100, false, sc), (272, 0, true, [.ref 273, .ref 274, .ref 275, .ref 276, .ref 279, .ref 282, .ref 283, .ref 284, .ref 285, .ref 286, vp, .null, .int f, .int mi, .int cn, .int 0, .int 45]), (287, 21, true, [.ref 288, .ref 289, .ref 290, .ref 291, .ref 292, .ref 293, .ref 294, .ref 295, .ref 296, .ref 297, .int nb, .int f, .int (-1), .int mi, .int 0, .int 0, .int 0, .int th, .int bg, .long 0, .int 45]), (298, 101, true, [.long o]), (275, 1, true, [.int 0, .ref 1, .int 0]), (290, 1, true, [.int 0, .ref 1, .int 0])], cn_R sc (cn_M (mainL b0 b1 b2 b3 p0 p1 p2 p3 t0 t1 t2 t3 t4 t5 t6 d0 d1 d2 d3 d4 d5 vp f mi cn th nb bg o) LC LP LF LQ)), 9000, 0, 0) := by
  obtain ⟨R, hR⟩ : ∃ R, R = cn_R sc (cn_M (mainL b0 b1 b2 b3 p0 p1 p2 p3 t0 t1 t2 t3 t4 t5 t6 d0 d1 d2 d3 d4 d5 vp f mi cn th nb bg o) LC LP LF LQ) := ⟨_, rfl⟩
  rw [← hR]
  have e0 : rgF 0 (0 - 1) s1 := rg_e s1
  repeat' (first
    | with_reducible refine gl_end28 ?_
    | ((with_reducible refine c_inT ?_ ?_); (with_reducible assumption))
    | ((with_reducible refine c_inF ?_ ?_); (with_reducible assumption))
    | ((with_reducible apply c_isInT); (with_reducible assumption); rfl; rfl)
    | ((with_reducible apply c_isInF); (with_reducible assumption); rfl; rfl)
    | ((with_reducible refine c_rqx ?_ ?_ ?_); rfl; (with_reducible assumption))
    | ((with_reducible apply gl_sc); rfl; rfl; (with_reducible assumption))
    | ((with_reducible refine gl_lcmp ?_ ?_ ?_); rfl; rfl)
    | refine gl_fly [(0, 28), (208, 0), (108, 0), (0, 1936), (0, 1949), (0, 1977), (248, 0)] rfl ?_)
  all_goals (subst hR; exact tk_leaf1 [(0, 100, false, sc), (275, 1, true, [.int 0, .ref 1, .int 0]), (290, 1, true, [.int 0, .ref 1, .int 0])] hs (hP _) (main_ok hv h2 h3 h4 h5) rfl (ro_cons rfl rfl (ro_cons hd1 rfl (ro_cons hd2 rfl ro_nil))) (ck_cons0 rfl (ck_cons0 rfl (ck_cons0 rfl (ck_cons0 rfl (ck_cons0 rfl (ck_cons0 rfl (ck_cons0 rfl (ck_cons0 rfl (ck_cons0 rfl (ck_cons0 rfl (ck_cons0 rfl (ck_cons0 rfl (ck_cons0 rfl (ck_cons0 rfl ck_nil)))))))))))))) rfl rfl rfl)
theorem tn_stationOf0 {sc : List Value} {i s1 s2 : Int32} {b0 b1 b2 b3 : Int64} {p0 p1 p2 p3 t0 t1 t2 t3 t4 t5 t6 d0 d1 d2 d3 d4 d5 : Int32} {vp : Value} {f mi cn th nb bg : Int32} {o : Int64} {LC LP LF LQ : cn_L} {P : mm_H → List Value → Prop} (hs : ∀ v ∈ sc, ∀ b, v ≠ .ref b) (hv : clB vp = true) (h2 : cloB 2 LC = true) (h3 : cloB 3 LP = true) (h4 : cloB 4 LF = true) (h5 : cloQ [3100, 3140] LQ = true) (a1 : scr sc i 1 s1) (a2 : scr sc i 2 s2) (hd1 : mm_lk LP (fun _ => none) 275 = some (1, true, [.int 0, .ref 1, .int 0])) (hd2 : mm_lk LP (fun _ => none) 290 = some (1, true, [.int 0, .ref 1, .int 0])) (hP : ∀ th, P (can sc (cn_M (mainL b0 b1 b2 b3 p0 p1 p2 p3 t0 t1 t2 t3 t4 t5 t6 d0 d1 d2 d3 d4 d5 vp f mi cn th nb bg o) LC LP LF LQ)) (lcs (i + 6))) :
  fl_G (fun _ _ => False) (tk 299950 1375000 P) [] 60 0 1986 [.ref 0, .ref 272, .ref 287, .ref 298, .ref 299, .int i, .retAddr 0, .retAddr 0, .retAddr 0] [] (([(0, 100, false, sc), (272, 0, true, [.ref 273, .ref 274, .ref 275, .ref 276, .ref 279, .ref 282, .ref 283, .ref 284, .ref 285, .ref 286, vp, .null, .int f, .int mi, .int cn, .int 0, .int 45]), (287, 21, true, [.ref 288, .ref 289, .ref 290, .ref 291, .ref 292, .ref 293, .ref 294, .ref 295, .ref 296, .ref 297, .int nb, .int f, .int (-1), .int mi, .int 0, .int 0, .int 0, .int th, .int bg, .long 0, .int 45]), (298, 101, true, [.long o]), (275, 1, true, [.int 0, .ref 1, .int 0]), (290, 1, true, [.int 0, .ref 1, .int 0])], cn_R sc (cn_M (mainL b0 b1 b2 b3 p0 p1 p2 p3 t0 t1 t2 t3 t4 t5 t6 d0 d1 d2 d3 d4 d5 vp f mi cn th nb bg o) LC LP LF LQ)), 9000, 0, 0) := by
  obtain ⟨R, hR⟩ : ∃ R, R = cn_R sc (cn_M (mainL b0 b1 b2 b3 p0 p1 p2 p3 t0 t1 t2 t3 t4 t5 t6 d0 d1 d2 d3 d4 d5 vp f mi cn th nb bg o) LC LP LF LQ) := ⟨_, rfl⟩
  rw [← hR]
  have e0 : rgF 0 (0 - 1) s1 := rg_e s1
  repeat' (first
    | with_reducible refine gl_end28 ?_
    | ((with_reducible refine c_inT ?_ ?_); (with_reducible assumption))
    | ((with_reducible refine c_inF ?_ ?_); (with_reducible assumption))
    | ((with_reducible apply c_isInT); (with_reducible assumption); rfl; rfl)
    | ((with_reducible apply c_isInF); (with_reducible assumption); rfl; rfl)
    | ((with_reducible refine c_rqx ?_ ?_ ?_); rfl; (with_reducible assumption))
    | ((with_reducible apply gl_sc); rfl; rfl; (with_reducible assumption))
    | ((with_reducible refine gl_lcmp ?_ ?_ ?_); rfl; rfl)
    | refine gl_fly [(0, 28), (208, 0), (108, 0), (0, 1992), (0, 1998), (0, 2011), (0, 2017), (0, 2045), (248, 0)] rfl ?_)
  all_goals (subst hR; exact tk_leaf1 [(0, 100, false, sc), (275, 1, true, [.int 0, .ref 1, .int 0]), (290, 1, true, [.int 0, .ref 1, .int 0])] hs (hP _) (main_ok hv h2 h3 h4 h5) rfl (ro_cons rfl rfl (ro_cons hd1 rfl (ro_cons hd2 rfl ro_nil))) (ck_cons0 rfl (ck_cons0 rfl (ck_cons0 rfl (ck_cons0 rfl (ck_cons0 rfl (ck_cons0 rfl (ck_cons0 rfl (ck_cons0 rfl (ck_cons0 rfl (ck_cons0 rfl (ck_cons0 rfl (ck_cons0 rfl (ck_cons0 rfl (ck_cons0 rfl ck_nil)))))))))))))) rfl rfl rfl)
theorem tn_overloads0 {sc : List Value} {i s1 : Int32} {b0 b1 b2 b3 : Int64} {p0 p1 p2 p3 t0 t1 t2 t3 t4 t5 t6 d0 d1 d2 d3 d4 d5 : Int32} {vp : Value} {f mi cn th nb bg : Int32} {o : Int64} {LC LP LF LQ : cn_L} {P : mm_H → List Value → Prop} (hs : ∀ v ∈ sc, ∀ b, v ≠ .ref b) (hv : clB vp = true) (h2 : cloB 2 LC = true) (h3 : cloB 3 LP = true) (h4 : cloB 4 LF = true) (h5 : cloQ [3100, 3140] LQ = true) (a1 : scr sc i 1 s1) (hd1 : mm_lk LP (fun _ => none) 275 = some (1, true, [.int 0, .ref 1, .int 0])) (hd2 : mm_lk LP (fun _ => none) 290 = some (1, true, [.int 0, .ref 1, .int 0])) (hP : ∀ th, P (can sc (cn_M (mainL b0 b1 b2 b3 p0 p1 p2 p3 t0 t1 t2 t3 t4 t5 t6 d0 d1 d2 d3 d4 d5 vp f mi cn th nb bg o) LC LP LF LQ)) (lcs (i + 6))) :
  fl_G (fun _ _ => False) (tk 299950 1375000 P) [] 60 0 2166 [.ref 0, .ref 272, .ref 287, .ref 298, .ref 299, .int i, .retAddr 0, .retAddr 0, .retAddr 0] [] (([(0, 100, false, sc), (272, 0, true, [.ref 273, .ref 274, .ref 275, .ref 276, .ref 279, .ref 282, .ref 283, .ref 284, .ref 285, .ref 286, vp, .null, .int f, .int mi, .int cn, .int 0, .int 45]), (287, 21, true, [.ref 288, .ref 289, .ref 290, .ref 291, .ref 292, .ref 293, .ref 294, .ref 295, .ref 296, .ref 297, .int nb, .int f, .int (-1), .int mi, .int 0, .int 0, .int 0, .int th, .int bg, .long 0, .int 45]), (298, 101, true, [.long o]), (275, 1, true, [.int 0, .ref 1, .int 0]), (290, 1, true, [.int 0, .ref 1, .int 0])], cn_R sc (cn_M (mainL b0 b1 b2 b3 p0 p1 p2 p3 t0 t1 t2 t3 t4 t5 t6 d0 d1 d2 d3 d4 d5 vp f mi cn th nb bg o) LC LP LF LQ)), 9000, 0, 0) := by
  obtain ⟨R, hR⟩ : ∃ R, R = cn_R sc (cn_M (mainL b0 b1 b2 b3 p0 p1 p2 p3 t0 t1 t2 t3 t4 t5 t6 d0 d1 d2 d3 d4 d5 vp f mi cn th nb bg o) LC LP LF LQ) := ⟨_, rfl⟩
  rw [← hR]
  have e0 : rgF 0 (0 - 1) s1 := rg_e s1
  repeat' (first
    | with_reducible refine gl_end28 ?_
    | ((with_reducible refine c_inT ?_ ?_); (with_reducible assumption))
    | ((with_reducible refine c_inF ?_ ?_); (with_reducible assumption))
    | ((with_reducible apply c_isInT); (with_reducible assumption); rfl; rfl)
    | ((with_reducible apply c_isInF); (with_reducible assumption); rfl; rfl)
    | ((with_reducible refine c_rqx ?_ ?_ ?_); rfl; (with_reducible assumption))
    | ((with_reducible apply gl_sc); rfl; rfl; (with_reducible assumption))
    | ((with_reducible refine gl_lcmp ?_ ?_ ?_); rfl; rfl)
    | refine gl_fly [(0, 28), (208, 0), (108, 0), (0, 2172), (0, 2185), (0, 2213), (248, 0)] rfl ?_)
  all_goals (subst hR; exact tk_leaf1 [(0, 100, false, sc), (275, 1, true, [.int 0, .ref 1, .int 0]), (290, 1, true, [.int 0, .ref 1, .int 0])] hs (hP _) (main_ok hv h2 h3 h4 h5) rfl (ro_cons rfl rfl (ro_cons hd1 rfl (ro_cons hd2 rfl ro_nil))) (ck_cons0 rfl (ck_cons0 rfl (ck_cons0 rfl (ck_cons0 rfl (ck_cons0 rfl (ck_cons0 rfl (ck_cons0 rfl (ck_cons0 rfl (ck_cons0 rfl (ck_cons0 rfl (ck_cons0 rfl (ck_cons0 rfl (ck_cons0 rfl (ck_cons0 rfl ck_nil)))))))))))))) rfl rfl rfl)
theorem tn_fingers0 {sc : List Value} {i s1 s2 s3 : Int32} {b0 b1 b2 b3 : Int64} {p0 p1 p2 p3 t0 t1 t2 t3 t4 t5 t6 d0 d1 d2 d3 d4 d5 : Int32} {vp : Value} {f mi cn th nb bg : Int32} {o : Int64} {LC LP LF LQ : cn_L} {P : mm_H → List Value → Prop} (hs : ∀ v ∈ sc, ∀ b, v ≠ .ref b) (hv : clB vp = true) (h2 : cloB 2 LC = true) (h3 : cloB 3 LP = true) (h4 : cloB 4 LF = true) (h5 : cloQ [3100, 3140] LQ = true) (a1 : scr sc i 1 s1) (a2 : scr sc i 2 s2) (a3 : scr sc i 3 s3) (hd1 : mm_lk LP (fun _ => none) 275 = some (1, true, [.int 0, .ref 1, .int 0])) (hd2 : mm_lk LP (fun _ => none) 290 = some (1, true, [.int 0, .ref 1, .int 0])) (hP : ∀ th, P (can sc (cn_M (mainL b0 b1 b2 b3 p0 p1 p2 p3 t0 t1 t2 t3 t4 t5 t6 d0 d1 d2 d3 d4 d5 vp f mi cn th nb bg o) LC LP LF LQ)) (lcs (i + 6))) :
  fl_G (fun _ _ => False) (tk 299950 1375000 P) [] 60 0 2222 [.ref 0, .ref 272, .ref 287, .ref 298, .ref 299, .int i, .retAddr 0, .retAddr 0, .retAddr 0] [] (([(0, 100, false, sc), (272, 0, true, [.ref 273, .ref 274, .ref 275, .ref 276, .ref 279, .ref 282, .ref 283, .ref 284, .ref 285, .ref 286, vp, .null, .int f, .int mi, .int cn, .int 0, .int 45]), (287, 21, true, [.ref 288, .ref 289, .ref 290, .ref 291, .ref 292, .ref 293, .ref 294, .ref 295, .ref 296, .ref 297, .int nb, .int f, .int (-1), .int mi, .int 0, .int 0, .int 0, .int th, .int bg, .long 0, .int 45]), (298, 101, true, [.long o]), (275, 1, true, [.int 0, .ref 1, .int 0]), (290, 1, true, [.int 0, .ref 1, .int 0])], cn_R sc (cn_M (mainL b0 b1 b2 b3 p0 p1 p2 p3 t0 t1 t2 t3 t4 t5 t6 d0 d1 d2 d3 d4 d5 vp f mi cn th nb bg o) LC LP LF LQ)), 9000, 0, 0) := by
  obtain ⟨R, hR⟩ : ∃ R, R = cn_R sc (cn_M (mainL b0 b1 b2 b3 p0 p1 p2 p3 t0 t1 t2 t3 t4 t5 t6 d0 d1 d2 d3 d4 d5 vp f mi cn th nb bg o) LC LP LF LQ) := ⟨_, rfl⟩
  rw [← hR]
  have e0 : rgF 0 (0 - 1) s1 := rg_e s1
  repeat' (first
    | with_reducible refine gl_end28 ?_
    | ((with_reducible refine c_inT ?_ ?_); (with_reducible assumption))
    | ((with_reducible refine c_inF ?_ ?_); (with_reducible assumption))
    | ((with_reducible apply c_isInT); (with_reducible assumption); rfl; rfl)
    | ((with_reducible apply c_isInF); (with_reducible assumption); rfl; rfl)
    | ((with_reducible refine c_rqx ?_ ?_ ?_); rfl; (with_reducible assumption))
    | ((with_reducible apply gl_sc); rfl; rfl; (with_reducible assumption))
    | ((with_reducible refine gl_lcmp ?_ ?_ ?_); rfl; rfl)
    | refine gl_fly [(0, 28), (208, 0), (108, 0), (0, 2228), (0, 2234), (0, 2240), (0, 2253), (0, 2259), (0, 2265), (0, 2300), (248, 0)] rfl ?_)
  all_goals (subst hR; exact tk_leaf1 [(0, 100, false, sc), (275, 1, true, [.int 0, .ref 1, .int 0]), (290, 1, true, [.int 0, .ref 1, .int 0])] hs (hP _) (main_ok hv h2 h3 h4 h5) rfl (ro_cons rfl rfl (ro_cons hd1 rfl (ro_cons hd2 rfl ro_nil))) (ck_cons0 rfl (ck_cons0 rfl (ck_cons0 rfl (ck_cons0 rfl (ck_cons0 rfl (ck_cons0 rfl (ck_cons0 rfl (ck_cons0 rfl (ck_cons0 rfl (ck_cons0 rfl (ck_cons0 rfl (ck_cons0 rfl (ck_cons0 rfl (ck_cons0 rfl ck_nil)))))))))))))) rfl rfl rfl)
theorem tn_sensor0 {sc : List Value} {i s1 s2 : Int32} {b0 b1 b2 b3 : Int64} {p0 p1 p2 p3 t0 t1 t2 t3 t4 t5 t6 d0 d1 d2 d3 d4 d5 : Int32} {vp : Value} {f mi cn th nb bg : Int32} {o : Int64} {LC LP LF LQ : cn_L} {P : mm_H → List Value → Prop} (hs : ∀ v ∈ sc, ∀ b, v ≠ .ref b) (hv : clB vp = true) (h2 : cloB 2 LC = true) (h3 : cloB 3 LP = true) (h4 : cloB 4 LF = true) (h5 : cloQ [3100, 3140] LQ = true) (a1 : scr sc i 1 s1) (a2 : scr sc i 2 s2) (hd1 : mm_lk LP (fun _ => none) 275 = some (1, true, [.int 0, .ref 1, .int 0])) (hd2 : mm_lk LP (fun _ => none) 290 = some (1, true, [.int 0, .ref 1, .int 0])) (hP : ∀ th, P (can sc (cn_M (mainL b0 b1 b2 b3 p0 p1 p2 p3 t0 t1 t2 t3 t4 t5 t6 d0 d1 d2 d3 d4 d5 vp f mi cn th nb bg o) LC LP LF LQ)) (lcs (i + 6))) :
  fl_G (fun _ _ => False) (tk 299950 1375000 P) [] 60 0 2309 [.ref 0, .ref 272, .ref 287, .ref 298, .ref 299, .int i, .retAddr 0, .retAddr 0, .retAddr 0] [] (([(0, 100, false, sc), (272, 0, true, [.ref 273, .ref 274, .ref 275, .ref 276, .ref 279, .ref 282, .ref 283, .ref 284, .ref 285, .ref 286, vp, .null, .int f, .int mi, .int cn, .int 0, .int 45]), (287, 21, true, [.ref 288, .ref 289, .ref 290, .ref 291, .ref 292, .ref 293, .ref 294, .ref 295, .ref 296, .ref 297, .int nb, .int f, .int (-1), .int mi, .int 0, .int 0, .int 0, .int th, .int bg, .long 0, .int 45]), (298, 101, true, [.long o]), (275, 1, true, [.int 0, .ref 1, .int 0]), (290, 1, true, [.int 0, .ref 1, .int 0])], cn_R sc (cn_M (mainL b0 b1 b2 b3 p0 p1 p2 p3 t0 t1 t2 t3 t4 t5 t6 d0 d1 d2 d3 d4 d5 vp f mi cn th nb bg o) LC LP LF LQ)), 9000, 0, 0) := by
  obtain ⟨R, hR⟩ : ∃ R, R = cn_R sc (cn_M (mainL b0 b1 b2 b3 p0 p1 p2 p3 t0 t1 t2 t3 t4 t5 t6 d0 d1 d2 d3 d4 d5 vp f mi cn th nb bg o) LC LP LF LQ) := ⟨_, rfl⟩
  rw [← hR]
  have e0 : rgF 0 (0 - 1) s1 := rg_e s1
  repeat' (first
    | with_reducible refine gl_end28 ?_
    | ((with_reducible refine c_inT ?_ ?_); (with_reducible assumption))
    | ((with_reducible refine c_inF ?_ ?_); (with_reducible assumption))
    | ((with_reducible apply c_isInT); (with_reducible assumption); rfl; rfl)
    | ((with_reducible apply c_isInF); (with_reducible assumption); rfl; rfl)
    | ((with_reducible refine c_rqx ?_ ?_ ?_); rfl; (with_reducible assumption))
    | ((with_reducible apply gl_sc); rfl; rfl; (with_reducible assumption))
    | ((with_reducible refine gl_lcmp ?_ ?_ ?_); rfl; rfl)
    | refine gl_fly [(0, 28), (208, 0), (108, 0), (0, 2315), (0, 2321), (0, 2334), (0, 2340), (0, 2368), (248, 0)] rfl ?_)
  all_goals (subst hR; exact tk_leaf1 [(0, 100, false, sc), (275, 1, true, [.int 0, .ref 1, .int 0]), (290, 1, true, [.int 0, .ref 1, .int 0])] hs (hP _) (main_ok hv h2 h3 h4 h5) rfl (ro_cons rfl rfl (ro_cons hd1 rfl (ro_cons hd2 rfl ro_nil))) (ck_cons0 rfl (ck_cons0 rfl (ck_cons0 rfl (ck_cons0 rfl (ck_cons0 rfl (ck_cons0 rfl (ck_cons0 rfl (ck_cons0 rfl (ck_cons0 rfl (ck_cons0 rfl (ck_cons0 rfl (ck_cons0 rfl (ck_cons0 rfl (ck_cons0 rfl ck_nil)))))))))))))) rfl rfl rfl)
theorem tn_clearance0 {sc : List Value} {i s1 s2 : Int32} {b0 b1 b2 b3 : Int64} {p0 p1 p2 p3 t0 t1 t2 t3 t4 t5 t6 d0 d1 d2 d3 d4 d5 : Int32} {vp : Value} {f mi cn th nb bg : Int32} {o : Int64} {LC LP LF LQ : cn_L} {P : mm_H → List Value → Prop} (hs : ∀ v ∈ sc, ∀ b, v ≠ .ref b) (hv : clB vp = true) (h2 : cloB 2 LC = true) (h3 : cloB 3 LP = true) (h4 : cloB 4 LF = true) (h5 : cloQ [3100, 3140] LQ = true) (a1 : scr sc i 1 s1) (a2 : scr sc i 2 s2) (hd1 : mm_lk LP (fun _ => none) 275 = some (1, true, [.int 0, .ref 1, .int 0])) (hd2 : mm_lk LP (fun _ => none) 290 = some (1, true, [.int 0, .ref 1, .int 0])) (hP : ∀ th, P (can sc (cn_M (mainL b0 b1 b2 b3 p0 p1 p2 p3 t0 t1 t2 t3 t4 t5 t6 d0 d1 d2 d3 d4 d5 vp f mi cn th nb bg o) LC LP LF LQ)) (lcs (i + 6))) :
  fl_G (fun _ _ => False) (tk 299950 1375000 P) [] 60 0 2377 [.ref 0, .ref 272, .ref 287, .ref 298, .ref 299, .int i, .retAddr 0, .retAddr 0, .retAddr 0] [] (([(0, 100, false, sc), (272, 0, true, [.ref 273, .ref 274, .ref 275, .ref 276, .ref 279, .ref 282, .ref 283, .ref 284, .ref 285, .ref 286, vp, .null, .int f, .int mi, .int cn, .int 0, .int 45]), (287, 21, true, [.ref 288, .ref 289, .ref 290, .ref 291, .ref 292, .ref 293, .ref 294, .ref 295, .ref 296, .ref 297, .int nb, .int f, .int (-1), .int mi, .int 0, .int 0, .int 0, .int th, .int bg, .long 0, .int 45]), (298, 101, true, [.long o]), (275, 1, true, [.int 0, .ref 1, .int 0]), (290, 1, true, [.int 0, .ref 1, .int 0])], cn_R sc (cn_M (mainL b0 b1 b2 b3 p0 p1 p2 p3 t0 t1 t2 t3 t4 t5 t6 d0 d1 d2 d3 d4 d5 vp f mi cn th nb bg o) LC LP LF LQ)), 9000, 0, 0) := by
  obtain ⟨R, hR⟩ : ∃ R, R = cn_R sc (cn_M (mainL b0 b1 b2 b3 p0 p1 p2 p3 t0 t1 t2 t3 t4 t5 t6 d0 d1 d2 d3 d4 d5 vp f mi cn th nb bg o) LC LP LF LQ) := ⟨_, rfl⟩
  rw [← hR]
  have e0 : rgF 0 (0 - 1) s1 := rg_e s1
  repeat' (first
    | with_reducible refine gl_end28 ?_
    | ((with_reducible refine c_inT ?_ ?_); (with_reducible assumption))
    | ((with_reducible refine c_inF ?_ ?_); (with_reducible assumption))
    | ((with_reducible apply c_isInT); (with_reducible assumption); rfl; rfl)
    | ((with_reducible apply c_isInF); (with_reducible assumption); rfl; rfl)
    | ((with_reducible refine c_rqx ?_ ?_ ?_); rfl; (with_reducible assumption))
    | ((with_reducible apply gl_sc); rfl; rfl; (with_reducible assumption))
    | ((with_reducible refine gl_lcmp ?_ ?_ ?_); rfl; rfl)
    | refine gl_fly [(0, 28), (208, 0), (108, 0), (0, 2383), (0, 2389), (0, 2402), (0, 2408), (0, 2436), (248, 0)] rfl ?_)
  all_goals (subst hR; exact tk_leaf1 [(0, 100, false, sc), (275, 1, true, [.int 0, .ref 1, .int 0]), (290, 1, true, [.int 0, .ref 1, .int 0])] hs (hP _) (main_ok hv h2 h3 h4 h5) rfl (ro_cons rfl rfl (ro_cons hd1 rfl (ro_cons hd2 rfl ro_nil))) (ck_cons0 rfl (ck_cons0 rfl (ck_cons0 rfl (ck_cons0 rfl (ck_cons0 rfl (ck_cons0 rfl (ck_cons0 rfl (ck_cons0 rfl (ck_cons0 rfl (ck_cons0 rfl (ck_cons0 rfl (ck_cons0 rfl (ck_cons0 rfl (ck_cons0 rfl ck_nil)))))))))))))) rfl rfl rfl)
theorem tn_regrind0 {sc : List Value} {i s1 : Int32} {b0 b1 b2 b3 : Int64} {p0 p1 p2 p3 t0 t1 t2 t3 t4 t5 t6 d0 d1 d2 d3 d4 d5 : Int32} {vp : Value} {f mi cn th nb bg : Int32} {o : Int64} {LC LP LF LQ : cn_L} {P : mm_H → List Value → Prop} (hs : ∀ v ∈ sc, ∀ b, v ≠ .ref b) (hv : clB vp = true) (h2 : cloB 2 LC = true) (h3 : cloB 3 LP = true) (h4 : cloB 4 LF = true) (h5 : cloQ [3100, 3140] LQ = true) (a1 : scr sc i 1 s1) (hd1 : mm_lk LP (fun _ => none) 275 = some (1, true, [.int 0, .ref 1, .int 0])) (hd2 : mm_lk LP (fun _ => none) 290 = some (1, true, [.int 0, .ref 1, .int 0])) (hP : ∀ th, P (can sc (cn_M (mainL b0 b1 b2 b3 p0 p1 p2 p3 t0 t1 t2 t3 t4 t5 t6 d0 d1 d2 d3 d4 d5 vp f mi cn th nb bg o) LC LP LF LQ)) (lcs (i + 6))) :
  fl_G (fun _ _ => False) (tk 299950 1375000 P) [] 60 0 2445 [.ref 0, .ref 272, .ref 287, .ref 298, .ref 299, .int i, .retAddr 0, .retAddr 0, .retAddr 0] [] (([(0, 100, false, sc), (272, 0, true, [.ref 273, .ref 274, .ref 275, .ref 276, .ref 279, .ref 282, .ref 283, .ref 284, .ref 285, .ref 286, vp, .null, .int f, .int mi, .int cn, .int 0, .int 45]), (287, 21, true, [.ref 288, .ref 289, .ref 290, .ref 291, .ref 292, .ref 293, .ref 294, .ref 295, .ref 296, .ref 297, .int nb, .int f, .int (-1), .int mi, .int 0, .int 0, .int 0, .int th, .int bg, .long 0, .int 45]), (298, 101, true, [.long o]), (275, 1, true, [.int 0, .ref 1, .int 0]), (290, 1, true, [.int 0, .ref 1, .int 0])], cn_R sc (cn_M (mainL b0 b1 b2 b3 p0 p1 p2 p3 t0 t1 t2 t3 t4 t5 t6 d0 d1 d2 d3 d4 d5 vp f mi cn th nb bg o) LC LP LF LQ)), 9000, 0, 0) := by
  obtain ⟨R, hR⟩ : ∃ R, R = cn_R sc (cn_M (mainL b0 b1 b2 b3 p0 p1 p2 p3 t0 t1 t2 t3 t4 t5 t6 d0 d1 d2 d3 d4 d5 vp f mi cn th nb bg o) LC LP LF LQ) := ⟨_, rfl⟩
  rw [← hR]
  have e0 : rgF 0 (0 - 1) s1 := rg_e s1
  repeat' (first
    | with_reducible refine gl_end28 ?_
    | ((with_reducible refine c_inT ?_ ?_); (with_reducible assumption))
    | ((with_reducible refine c_inF ?_ ?_); (with_reducible assumption))
    | ((with_reducible apply c_isInT); (with_reducible assumption); rfl; rfl)
    | ((with_reducible apply c_isInF); (with_reducible assumption); rfl; rfl)
    | ((with_reducible refine c_rqx ?_ ?_ ?_); rfl; (with_reducible assumption))
    | ((with_reducible apply gl_sc); rfl; rfl; (with_reducible assumption))
    | ((with_reducible refine gl_lcmp ?_ ?_ ?_); rfl; rfl)
    | refine gl_fly [(0, 28), (208, 0), (108, 0), (0, 2451), (0, 2464), (0, 2492), (248, 0)] rfl ?_)
  all_goals (subst hR; exact tk_leaf1 [(0, 100, false, sc), (275, 1, true, [.int 0, .ref 1, .int 0]), (290, 1, true, [.int 0, .ref 1, .int 0])] hs (hP _) (main_ok hv h2 h3 h4 h5) rfl (ro_cons rfl rfl (ro_cons hd1 rfl (ro_cons hd2 rfl ro_nil))) (ck_cons0 rfl (ck_cons0 rfl (ck_cons0 rfl (ck_cons0 rfl (ck_cons0 rfl (ck_cons0 rfl (ck_cons0 rfl (ck_cons0 rfl (ck_cons0 rfl (ck_cons0 rfl (ck_cons0 rfl (ck_cons0 rfl (ck_cons0 rfl (ck_cons0 rfl ck_nil)))))))))))))) rfl rfl rfl)
theorem tn_shims0 {sc : List Value} {i s1 : Int32} {b0 b1 b2 b3 : Int64} {p0 p1 p2 p3 t0 t1 t2 t3 t4 t5 t6 d0 d1 d2 d3 d4 d5 : Int32} {vp : Value} {f mi cn th nb bg : Int32} {o : Int64} {LC LP LF LQ : cn_L} {P : mm_H → List Value → Prop} (hs : ∀ v ∈ sc, ∀ b, v ≠ .ref b) (hv : clB vp = true) (h2 : cloB 2 LC = true) (h3 : cloB 3 LP = true) (h4 : cloB 4 LF = true) (h5 : cloQ [3100, 3140] LQ = true) (a1 : scr sc i 1 s1) (hd1 : mm_lk LP (fun _ => none) 275 = some (1, true, [.int 0, .ref 1, .int 0])) (hd2 : mm_lk LP (fun _ => none) 290 = some (1, true, [.int 0, .ref 1, .int 0])) (hP : ∀ th, P (can sc (cn_M (mainL b0 b1 b2 b3 p0 p1 p2 p3 t0 t1 t2 t3 t4 t5 t6 d0 d1 d2 d3 d4 d5 vp f mi cn th nb bg o) LC LP LF LQ)) (lcs (i + 6))) :
  fl_G (fun _ _ => False) (tk 299950 1375000 P) [] 60 0 2501 [.ref 0, .ref 272, .ref 287, .ref 298, .ref 299, .int i, .retAddr 0, .retAddr 0, .retAddr 0] [] (([(0, 100, false, sc), (272, 0, true, [.ref 273, .ref 274, .ref 275, .ref 276, .ref 279, .ref 282, .ref 283, .ref 284, .ref 285, .ref 286, vp, .null, .int f, .int mi, .int cn, .int 0, .int 45]), (287, 21, true, [.ref 288, .ref 289, .ref 290, .ref 291, .ref 292, .ref 293, .ref 294, .ref 295, .ref 296, .ref 297, .int nb, .int f, .int (-1), .int mi, .int 0, .int 0, .int 0, .int th, .int bg, .long 0, .int 45]), (298, 101, true, [.long o]), (275, 1, true, [.int 0, .ref 1, .int 0]), (290, 1, true, [.int 0, .ref 1, .int 0])], cn_R sc (cn_M (mainL b0 b1 b2 b3 p0 p1 p2 p3 t0 t1 t2 t3 t4 t5 t6 d0 d1 d2 d3 d4 d5 vp f mi cn th nb bg o) LC LP LF LQ)), 9000, 0, 0) := by
  obtain ⟨R, hR⟩ : ∃ R, R = cn_R sc (cn_M (mainL b0 b1 b2 b3 p0 p1 p2 p3 t0 t1 t2 t3 t4 t5 t6 d0 d1 d2 d3 d4 d5 vp f mi cn th nb bg o) LC LP LF LQ) := ⟨_, rfl⟩
  rw [← hR]
  have e0 : rgF 0 (0 - 1) s1 := rg_e s1
  repeat' (first
    | with_reducible refine gl_end28 ?_
    | ((with_reducible refine c_inT ?_ ?_); (with_reducible assumption))
    | ((with_reducible refine c_inF ?_ ?_); (with_reducible assumption))
    | ((with_reducible apply c_isInT); (with_reducible assumption); rfl; rfl)
    | ((with_reducible apply c_isInF); (with_reducible assumption); rfl; rfl)
    | ((with_reducible refine c_rqx ?_ ?_ ?_); rfl; (with_reducible assumption))
    | ((with_reducible apply gl_sc); rfl; rfl; (with_reducible assumption))
    | ((with_reducible refine gl_lcmp ?_ ?_ ?_); rfl; rfl)
    | refine gl_fly [(0, 28), (208, 0), (108, 0), (0, 2507), (0, 2520), (0, 2548), (248, 0)] rfl ?_)
  all_goals (subst hR; exact tk_leaf1 [(0, 100, false, sc), (275, 1, true, [.int 0, .ref 1, .int 0]), (290, 1, true, [.int 0, .ref 1, .int 0])] hs (hP _) (main_ok hv h2 h3 h4 h5) rfl (ro_cons rfl rfl (ro_cons hd1 rfl (ro_cons hd2 rfl ro_nil))) (ck_cons0 rfl (ck_cons0 rfl (ck_cons0 rfl (ck_cons0 rfl (ck_cons0 rfl (ck_cons0 rfl (ck_cons0 rfl (ck_cons0 rfl (ck_cons0 rfl (ck_cons0 rfl (ck_cons0 rfl (ck_cons0 rfl (ck_cons0 rfl (ck_cons0 rfl ck_nil)))))))))))))) rfl rfl rfl)
theorem tn_burr0 {sc : List Value} {i s1 : Int32} {b0 b1 b2 b3 : Int64} {p0 p1 p2 p3 t0 t1 t2 t3 t4 t5 t6 d0 d1 d2 d3 d4 d5 : Int32} {vp : Value} {f mi cn th nb bg : Int32} {o : Int64} {LC LP LF LQ : cn_L} {P : mm_H → List Value → Prop} (hs : ∀ v ∈ sc, ∀ b, v ≠ .ref b) (hv : clB vp = true) (h2 : cloB 2 LC = true) (h3 : cloB 3 LP = true) (h4 : cloB 4 LF = true) (h5 : cloQ [3100, 3140] LQ = true) (a1 : scr sc i 1 s1) (hd1 : mm_lk LP (fun _ => none) 275 = some (1, true, [.int 0, .ref 1, .int 0])) (hd2 : mm_lk LP (fun _ => none) 290 = some (1, true, [.int 0, .ref 1, .int 0])) (hP : ∀ th, P (can sc (cn_M (mainL b0 b1 b2 b3 p0 p1 p2 p3 t0 t1 t2 t3 t4 t5 t6 d0 d1 d2 d3 d4 d5 vp f mi cn th nb bg o) LC LP LF LQ)) (lcs (i + 6))) :
  fl_G (fun _ _ => False) (tk 299950 1375000 P) [] 60 0 2557 [.ref 0, .ref 272, .ref 287, .ref 298, .ref 299, .int i, .retAddr 0, .retAddr 0, .retAddr 0] [] (([(0, 100, false, sc), (272, 0, true, [.ref 273, .ref 274, .ref 275, .ref 276, .ref 279, .ref 282, .ref 283, .ref 284, .ref 285, .ref 286, vp, .null, .int f, .int mi, .int cn, .int 0, .int 45]), (287, 21, true, [.ref 288, .ref 289, .ref 290, .ref 291, .ref 292, .ref 293, .ref 294, .ref 295, .ref 296, .ref 297, .int nb, .int f, .int (-1), .int mi, .int 0, .int 0, .int 0, .int th, .int bg, .long 0, .int 45]), (298, 101, true, [.long o]), (275, 1, true, [.int 0, .ref 1, .int 0]), (290, 1, true, [.int 0, .ref 1, .int 0])], cn_R sc (cn_M (mainL b0 b1 b2 b3 p0 p1 p2 p3 t0 t1 t2 t3 t4 t5 t6 d0 d1 d2 d3 d4 d5 vp f mi cn th nb bg o) LC LP LF LQ)), 9000, 0, 0) := by
  obtain ⟨R, hR⟩ : ∃ R, R = cn_R sc (cn_M (mainL b0 b1 b2 b3 p0 p1 p2 p3 t0 t1 t2 t3 t4 t5 t6 d0 d1 d2 d3 d4 d5 vp f mi cn th nb bg o) LC LP LF LQ) := ⟨_, rfl⟩
  rw [← hR]
  have e0 : rgF 0 (0 - 1) s1 := rg_e s1
  repeat' (first
    | with_reducible refine gl_end28 ?_
    | ((with_reducible refine c_inT ?_ ?_); (with_reducible assumption))
    | ((with_reducible refine c_inF ?_ ?_); (with_reducible assumption))
    | ((with_reducible apply c_isInT); (with_reducible assumption); rfl; rfl)
    | ((with_reducible apply c_isInF); (with_reducible assumption); rfl; rfl)
    | ((with_reducible refine c_rqx ?_ ?_ ?_); rfl; (with_reducible assumption))
    | ((with_reducible apply gl_sc); rfl; rfl; (with_reducible assumption))
    | ((with_reducible refine gl_lcmp ?_ ?_ ?_); rfl; rfl)
    | refine gl_fly [(0, 28), (208, 0), (108, 0), (0, 2563), (0, 2576), (0, 2604), (248, 0)] rfl ?_)
  all_goals (subst hR; exact tk_leaf1 [(0, 100, false, sc), (275, 1, true, [.int 0, .ref 1, .int 0]), (290, 1, true, [.int 0, .ref 1, .int 0])] hs (hP _) (main_ok hv h2 h3 h4 h5) rfl (ro_cons rfl rfl (ro_cons hd1 rfl (ro_cons hd2 rfl ro_nil))) (ck_cons0 rfl (ck_cons0 rfl (ck_cons0 rfl (ck_cons0 rfl (ck_cons0 rfl (ck_cons0 rfl (ck_cons0 rfl (ck_cons0 rfl (ck_cons0 rfl (ck_cons0 rfl (ck_cons0 rfl (ck_cons0 rfl (ck_cons0 rfl (ck_cons0 rfl ck_nil)))))))))))))) rfl rfl rfl)
theorem tn_misfeed0 {sc : List Value} {i s1 s2 : Int32} {b0 b1 b2 b3 : Int64} {p0 p1 p2 p3 t0 t1 t2 t3 t4 t5 t6 d0 d1 d2 d3 d4 d5 : Int32} {vp : Value} {f mi cn th nb bg : Int32} {o : Int64} {LC LP LF LQ : cn_L} {P : mm_H → List Value → Prop} (hs : ∀ v ∈ sc, ∀ b, v ≠ .ref b) (hv : clB vp = true) (h2 : cloB 2 LC = true) (h3 : cloB 3 LP = true) (h4 : cloB 4 LF = true) (h5 : cloQ [3100, 3140] LQ = true) (a1 : scr sc i 1 s1) (a2 : scr sc i 2 s2) (hd1 : mm_lk LP (fun _ => none) 275 = some (1, true, [.int 0, .ref 1, .int 0])) (hd2 : mm_lk LP (fun _ => none) 290 = some (1, true, [.int 0, .ref 1, .int 0])) (hP : ∀ th, P (can sc (cn_M (mainL b0 b1 b2 b3 p0 p1 p2 p3 t0 t1 t2 t3 t4 t5 t6 d0 d1 d2 d3 d4 d5 vp f mi cn th nb bg o) LC LP LF LQ)) (lcs (i + 6))) :
  fl_G (fun _ _ => False) (tk 299950 1375000 P) [] 60 0 2613 [.ref 0, .ref 272, .ref 287, .ref 298, .ref 299, .int i, .retAddr 0, .retAddr 0, .retAddr 0] [] (([(0, 100, false, sc), (272, 0, true, [.ref 273, .ref 274, .ref 275, .ref 276, .ref 279, .ref 282, .ref 283, .ref 284, .ref 285, .ref 286, vp, .null, .int f, .int mi, .int cn, .int 0, .int 45]), (287, 21, true, [.ref 288, .ref 289, .ref 290, .ref 291, .ref 292, .ref 293, .ref 294, .ref 295, .ref 296, .ref 297, .int nb, .int f, .int (-1), .int mi, .int 0, .int 0, .int 0, .int th, .int bg, .long 0, .int 45]), (298, 101, true, [.long o]), (275, 1, true, [.int 0, .ref 1, .int 0]), (290, 1, true, [.int 0, .ref 1, .int 0])], cn_R sc (cn_M (mainL b0 b1 b2 b3 p0 p1 p2 p3 t0 t1 t2 t3 t4 t5 t6 d0 d1 d2 d3 d4 d5 vp f mi cn th nb bg o) LC LP LF LQ)), 9000, 0, 0) := by
  obtain ⟨R, hR⟩ : ∃ R, R = cn_R sc (cn_M (mainL b0 b1 b2 b3 p0 p1 p2 p3 t0 t1 t2 t3 t4 t5 t6 d0 d1 d2 d3 d4 d5 vp f mi cn th nb bg o) LC LP LF LQ) := ⟨_, rfl⟩
  rw [← hR]
  have e0 : rgF 0 (0 - 1) s1 := rg_e s1
  repeat' (first
    | with_reducible refine gl_end28 ?_
    | ((with_reducible refine c_inT ?_ ?_); (with_reducible assumption))
    | ((with_reducible refine c_inF ?_ ?_); (with_reducible assumption))
    | ((with_reducible apply c_isInT); (with_reducible assumption); rfl; rfl)
    | ((with_reducible apply c_isInF); (with_reducible assumption); rfl; rfl)
    | ((with_reducible refine c_rqx ?_ ?_ ?_); rfl; (with_reducible assumption))
    | ((with_reducible apply gl_sc); rfl; rfl; (with_reducible assumption))
    | ((with_reducible refine gl_lcmp ?_ ?_ ?_); rfl; rfl)
    | refine gl_fly [(0, 28), (208, 0), (108, 0), (0, 2619), (0, 2625), (0, 2638), (0, 2644), (0, 2672), (248, 0)] rfl ?_)
  all_goals (subst hR; exact tk_leaf1 [(0, 100, false, sc), (275, 1, true, [.int 0, .ref 1, .int 0]), (290, 1, true, [.int 0, .ref 1, .int 0])] hs (hP _) (main_ok hv h2 h3 h4 h5) rfl (ro_cons rfl rfl (ro_cons hd1 rfl (ro_cons hd2 rfl ro_nil))) (ck_cons0 rfl (ck_cons0 rfl (ck_cons0 rfl (ck_cons0 rfl (ck_cons0 rfl (ck_cons0 rfl (ck_cons0 rfl (ck_cons0 rfl (ck_cons0 rfl (ck_cons0 rfl (ck_cons0 rfl (ck_cons0 rfl (ck_cons0 rfl (ck_cons0 rfl ck_nil)))))))))))))) rfl rfl rfl)
theorem tn_change0 {sc : List Value} {i s1 : Int32} {b0 b1 b2 b3 : Int64} {p0 p1 p2 p3 t0 t1 t2 t3 t4 t5 t6 d0 d1 d2 d3 d4 d5 : Int32} {vp : Value} {f mi cn th nb bg : Int32} {o : Int64} {LC LP LF LQ : cn_L} {P : mm_H → List Value → Prop} (hs : ∀ v ∈ sc, ∀ b, v ≠ .ref b) (hv : clB vp = true) (h2 : cloB 2 LC = true) (h3 : cloB 3 LP = true) (h4 : cloB 4 LF = true) (h5 : cloQ [3100, 3140] LQ = true) (a1 : scr sc i 1 s1) (hd1 : mm_lk LP (fun _ => none) 275 = some (1, true, [.int 0, .ref 1, .int 0])) (hd2 : mm_lk LP (fun _ => none) 290 = some (1, true, [.int 0, .ref 1, .int 0])) (hP : ∀ th, P (can sc (cn_M (mainL b0 b1 b2 b3 p0 p1 p2 p3 t0 t1 t2 t3 t4 t5 t6 d0 d1 d2 d3 d4 d5 vp f mi cn th nb bg o) LC LP LF LQ)) (lcs (i + 6))) :
  fl_G (fun _ _ => False) (tk 299950 1375000 P) [] 60 0 2681 [.ref 0, .ref 272, .ref 287, .ref 298, .ref 299, .int i, .retAddr 0, .retAddr 0, .retAddr 0] [] (([(0, 100, false, sc), (272, 0, true, [.ref 273, .ref 274, .ref 275, .ref 276, .ref 279, .ref 282, .ref 283, .ref 284, .ref 285, .ref 286, vp, .null, .int f, .int mi, .int cn, .int 0, .int 45]), (287, 21, true, [.ref 288, .ref 289, .ref 290, .ref 291, .ref 292, .ref 293, .ref 294, .ref 295, .ref 296, .ref 297, .int nb, .int f, .int (-1), .int mi, .int 0, .int 0, .int 0, .int th, .int bg, .long 0, .int 45]), (298, 101, true, [.long o]), (275, 1, true, [.int 0, .ref 1, .int 0]), (290, 1, true, [.int 0, .ref 1, .int 0])], cn_R sc (cn_M (mainL b0 b1 b2 b3 p0 p1 p2 p3 t0 t1 t2 t3 t4 t5 t6 d0 d1 d2 d3 d4 d5 vp f mi cn th nb bg o) LC LP LF LQ)), 9000, 0, 0) := by
  obtain ⟨R, hR⟩ : ∃ R, R = cn_R sc (cn_M (mainL b0 b1 b2 b3 p0 p1 p2 p3 t0 t1 t2 t3 t4 t5 t6 d0 d1 d2 d3 d4 d5 vp f mi cn th nb bg o) LC LP LF LQ) := ⟨_, rfl⟩
  rw [← hR]
  have e0 : rgF 0 (0 - 1) s1 := rg_e s1
  repeat' (first
    | with_reducible refine gl_end28 ?_
    | ((with_reducible refine c_inT ?_ ?_); (with_reducible assumption))
    | ((with_reducible refine c_inF ?_ ?_); (with_reducible assumption))
    | ((with_reducible apply c_isInT); (with_reducible assumption); rfl; rfl)
    | ((with_reducible apply c_isInF); (with_reducible assumption); rfl; rfl)
    | ((with_reducible refine c_rqx ?_ ?_ ?_); rfl; (with_reducible assumption))
    | ((with_reducible apply gl_sc); rfl; rfl; (with_reducible assumption))
    | ((with_reducible refine gl_lcmp ?_ ?_ ?_); rfl; rfl)
    | refine gl_fly [(0, 28), (208, 0), (108, 0), (0, 2687), (0, 2700), (0, 2728), (248, 0)] rfl ?_)
  all_goals (subst hR; exact tk_leaf1 [(0, 100, false, sc), (275, 1, true, [.int 0, .ref 1, .int 0]), (290, 1, true, [.int 0, .ref 1, .int 0])] hs (hP _) (main_ok hv h2 h3 h4 h5) rfl (ro_cons rfl rfl (ro_cons hd1 rfl (ro_cons hd2 rfl ro_nil))) (ck_cons0 rfl (ck_cons0 rfl (ck_cons0 rfl (ck_cons0 rfl (ck_cons0 rfl (ck_cons0 rfl (ck_cons0 rfl (ck_cons0 rfl (ck_cons0 rfl (ck_cons0 rfl (ck_cons0 rfl (ck_cons0 rfl (ck_cons0 rfl (ck_cons0 rfl ck_nil)))))))))))))) rfl rfl rfl)
theorem tn_strokes0 {sc : List Value} {i s1 : Int32} {b0 b1 b2 b3 : Int64} {p0 p1 p2 p3 t0 t1 t2 t3 t4 t5 t6 d0 d1 d2 d3 d4 d5 : Int32} {vp : Value} {f mi cn th nb bg : Int32} {o : Int64} {LC LP LF LQ : cn_L} {P : mm_H → List Value → Prop} (hs : ∀ v ∈ sc, ∀ b, v ≠ .ref b) (hv : clB vp = true) (h2 : cloB 2 LC = true) (h3 : cloB 3 LP = true) (h4 : cloB 4 LF = true) (h5 : cloQ [3100, 3140] LQ = true) (a1 : scr sc i 1 s1) (hd1 : mm_lk LP (fun _ => none) 275 = some (1, true, [.int 0, .ref 1, .int 0])) (hd2 : mm_lk LP (fun _ => none) 290 = some (1, true, [.int 0, .ref 1, .int 0])) (hP : ∀ th, P (can sc (cn_M (mainL b0 b1 b2 b3 p0 p1 p2 p3 t0 t1 t2 t3 t4 t5 t6 d0 d1 d2 d3 d4 d5 vp f mi cn th nb bg o) LC LP LF LQ)) (lcs (i + 6))) :
  fl_G (fun _ _ => False) (tk 299950 1375000 P) [] 60 0 2818 [.ref 0, .ref 272, .ref 287, .ref 298, .ref 299, .int i, .retAddr 0, .retAddr 0, .retAddr 0] [] (([(0, 100, false, sc), (272, 0, true, [.ref 273, .ref 274, .ref 275, .ref 276, .ref 279, .ref 282, .ref 283, .ref 284, .ref 285, .ref 286, vp, .null, .int f, .int mi, .int cn, .int 0, .int 45]), (287, 21, true, [.ref 288, .ref 289, .ref 290, .ref 291, .ref 292, .ref 293, .ref 294, .ref 295, .ref 296, .ref 297, .int nb, .int f, .int (-1), .int mi, .int 0, .int 0, .int 0, .int th, .int bg, .long 0, .int 45]), (298, 101, true, [.long o]), (275, 1, true, [.int 0, .ref 1, .int 0]), (290, 1, true, [.int 0, .ref 1, .int 0])], cn_R sc (cn_M (mainL b0 b1 b2 b3 p0 p1 p2 p3 t0 t1 t2 t3 t4 t5 t6 d0 d1 d2 d3 d4 d5 vp f mi cn th nb bg o) LC LP LF LQ)), 9000, 0, 0) := by
  obtain ⟨R, hR⟩ : ∃ R, R = cn_R sc (cn_M (mainL b0 b1 b2 b3 p0 p1 p2 p3 t0 t1 t2 t3 t4 t5 t6 d0 d1 d2 d3 d4 d5 vp f mi cn th nb bg o) LC LP LF LQ) := ⟨_, rfl⟩
  rw [← hR]
  have e0 : rgF 0 (0 - 1) s1 := rg_e s1
  repeat' (first
    | with_reducible refine gl_end28 ?_
    | ((with_reducible refine c_inT ?_ ?_); (with_reducible assumption))
    | ((with_reducible refine c_inF ?_ ?_); (with_reducible assumption))
    | ((with_reducible apply c_isInT); (with_reducible assumption); rfl; rfl)
    | ((with_reducible apply c_isInF); (with_reducible assumption); rfl; rfl)
    | ((with_reducible refine c_rqx ?_ ?_ ?_); rfl; (with_reducible assumption))
    | ((with_reducible apply gl_sc); rfl; rfl; (with_reducible assumption))
    | ((with_reducible refine gl_lcmp ?_ ?_ ?_); rfl; rfl)
    | refine gl_fly [(0, 28), (208, 0), (108, 0), (0, 2824), (0, 2837), (0, 2865), (248, 0)] rfl ?_)
  all_goals (subst hR; exact tk_leaf1 [(0, 100, false, sc), (275, 1, true, [.int 0, .ref 1, .int 0]), (290, 1, true, [.int 0, .ref 1, .int 0])] hs (hP _) (main_ok hv h2 h3 h4 h5) rfl (ro_cons rfl rfl (ro_cons hd1 rfl (ro_cons hd2 rfl ro_nil))) (ck_cons0 rfl (ck_cons0 rfl (ck_cons0 rfl (ck_cons0 rfl (ck_cons0 rfl (ck_cons0 rfl (ck_cons0 rfl (ck_cons0 rfl (ck_cons0 rfl (ck_cons0 rfl (ck_cons0 rfl (ck_cons0 rfl (ck_cons0 rfl (ck_cons0 rfl ck_nil)))))))))))))) rfl rfl rfl)
theorem tn_goodShare0 {sc : List Value} {i  : Int32} {b0 b1 b2 b3 : Int64} {p0 p1 p2 p3 t0 t1 t2 t3 t4 t5 t6 d0 d1 d2 d3 d4 d5 : Int32} {vp : Value} {f mi cn th nb bg : Int32} {o : Int64} {LC LP LF LQ : cn_L} {P : mm_H → List Value → Prop} (hs : ∀ v ∈ sc, ∀ b, v ≠ .ref b) (hv : clB vp = true) (h2 : cloB 2 LC = true) (h3 : cloB 3 LP = true) (h4 : cloB 4 LF = true) (h5 : cloQ [3100, 3140] LQ = true)  (hd1 : mm_lk LP (fun _ => none) 275 = some (1, true, [.int 0, .ref 1, .int 0])) (hd2 : mm_lk LP (fun _ => none) 290 = some (1, true, [.int 0, .ref 1, .int 0])) (hP : ∀ th, P (can sc (cn_M (mainL b0 b1 b2 b3 p0 p1 p2 p3 t0 t1 t2 t3 t4 t5 t6 d0 d1 d2 d3 d4 d5 vp f mi cn th nb bg o) LC LP LF LQ)) (lcs (i + 6))) :
  fl_G (fun _ _ => False) (tk 299950 1375000 P) [] 60 0 3424 [.ref 0, .ref 272, .ref 287, .ref 298, .ref 299, .int i, .retAddr 0, .retAddr 0, .retAddr 0] [] (([(0, 100, false, sc), (272, 0, true, [.ref 273, .ref 274, .ref 275, .ref 276, .ref 279, .ref 282, .ref 283, .ref 284, .ref 285, .ref 286, vp, .null, .int f, .int mi, .int cn, .int 0, .int 45]), (287, 21, true, [.ref 288, .ref 289, .ref 290, .ref 291, .ref 292, .ref 293, .ref 294, .ref 295, .ref 296, .ref 297, .int nb, .int f, .int (-1), .int mi, .int 0, .int 0, .int 0, .int th, .int bg, .long 0, .int 45]), (298, 101, true, [.long o]), (275, 1, true, [.int 0, .ref 1, .int 0]), (290, 1, true, [.int 0, .ref 1, .int 0])], cn_R sc (cn_M (mainL b0 b1 b2 b3 p0 p1 p2 p3 t0 t1 t2 t3 t4 t5 t6 d0 d1 d2 d3 d4 d5 vp f mi cn th nb bg o) LC LP LF LQ)), 9000, 0, 0) := by
  obtain ⟨R, hR⟩ : ∃ R, R = cn_R sc (cn_M (mainL b0 b1 b2 b3 p0 p1 p2 p3 t0 t1 t2 t3 t4 t5 t6 d0 d1 d2 d3 d4 d5 vp f mi cn th nb bg o) LC LP LF LQ) := ⟨_, rfl⟩
  rw [← hR]
  repeat' (first
    | with_reducible refine gl_end28 ?_
    | ((with_reducible refine c_inT ?_ ?_); (with_reducible assumption))
    | ((with_reducible refine c_inF ?_ ?_); (with_reducible assumption))
    | ((with_reducible apply c_isInT); (with_reducible assumption); rfl; rfl)
    | ((with_reducible apply c_isInF); (with_reducible assumption); rfl; rfl)
    | ((with_reducible refine c_rqx ?_ ?_ ?_); rfl; (with_reducible assumption))
    | ((with_reducible apply gl_sc); rfl; rfl; (with_reducible assumption))
    | ((with_reducible refine gl_lcmp ?_ ?_ ?_); rfl; rfl)
    | refine gl_fly [(0, 28), (208, 0), (108, 0), (248, 0)] rfl ?_)
  all_goals (subst hR; exact tk_leaf1 [(0, 100, false, sc), (275, 1, true, [.int 0, .ref 1, .int 0]), (290, 1, true, [.int 0, .ref 1, .int 0])] hs (hP _) (main_ok hv h2 h3 h4 h5) rfl (ro_cons rfl rfl (ro_cons hd1 rfl (ro_cons hd2 rfl ro_nil))) (ck_cons0 rfl (ck_cons0 rfl (ck_cons0 rfl (ck_cons0 rfl (ck_cons0 rfl (ck_cons0 rfl (ck_cons0 rfl (ck_cons0 rfl (ck_cons0 rfl (ck_cons0 rfl (ck_cons0 rfl (ck_cons0 rfl (ck_cons0 rfl (ck_cons0 rfl ck_nil)))))))))))))) rfl rfl rfl)
end CALLS1
