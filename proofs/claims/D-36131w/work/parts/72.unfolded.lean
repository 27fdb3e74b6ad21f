set_option maxRecDepth 100000
section F_unfolded
set_option maxHeartbeats 20000000 in
theorem tf_unfolded_LFN {sc : List Value} {i s1 s2 : Int32} {b0 b1 b2 b3 : Int64} {p0 p1 p2 p3 t0 t1 t2 t3 t4 t5 t6 d0 d1 d2 d3 d4 d5 : Int32} {f mi cn th : Int32} {o : Int64} {LC LP LQ : cn_L} {P : mm_H → List Value → Prop}  (hs : ∀ v ∈ sc, ∀ b, v ≠ .ref b) (h2 : cloB 2 LC = true) (h3 : cloB 3 LP = true) (h5 : cloQ [3100, 3140] LQ = true)  (a1_ : scr sc i 1 s1) (a2_ : scr sc i 2 s2) (hP : ∀ th o, P (can sc (cn_M (mainL b0 b1 b2 b3 p0 p1 p2 p3 t0 t1 t2 t3 t4 t5 t6 d0 d1 d2 d3 d4 d5 .null f mi cn th 0 0 o) LC LP LFN LQ)) (lcs (i + 6))) :
  fl_G (fun _ _ => False) (tk 299950 1375000 P) [] 60 0 1219 [.ref 0, .ref 272, .ref 287, .ref 298, .ref 299, .int i, .retAddr 0, .retAddr 0, .retAddr 0] [] (([(0, 100, false, sc), (272, 0, true, [.ref 273, .ref 274, .ref 275, .ref 276, .ref 279, .ref 282, .ref 283, .ref 284, .ref 285, .ref 286, .null, .null, .int f, .int mi, .int cn, .int 0, .int 45]), (287, 21, true, [.ref 288, .ref 289, .ref 290, .ref 291, .ref 292, .ref 293, .ref 294, .ref 295, .ref 296, .ref 297, .int 0, .int f, .int (-1), .int mi, .int 0, .int 0, .int 0, .int th, .int 0, .long 0, .int 45]), (298, 101, true, [.long o]), (296, 100, true, [.int t0, .int t1, .int t2, .int t3, .int t4, .int t5, .int t6])], cn_R sc (cn_M (mainL b0 b1 b2 b3 p0 p1 p2 p3 t0 t1 t2 t3 t4 t5 t6 d0 d1 d2 d3 d4 d5 .null f mi cn th 0 0 o) LC LP LFN LQ)), 9000, 0, 0) := by
  obtain ⟨R, hR⟩ : ∃ R, R = cn_R sc (cn_M (mainL b0 b1 b2 b3 p0 p1 p2 p3 t0 t1 t2 t3 t4 t5 t6 d0 d1 d2 d3 d4 d5 .null f mi cn th 0 0 o) LC LP LFN LQ) := ⟨_, rfl⟩
  have hI : IA R := by rw [hR]; exact ia_can
  rw [← hR]
  rcases or2 (rgc 0 999 s1) (rgc 20 600 s2) with hs1 | ⟨hs1, hs2⟩ | ⟨hs1, hs2⟩
  repeat' (first
    | with_reducible refine gl_end28 ?_
    | ((with_reducible refine c_inT ?_ ?_); (with_reducible assumption))
    | ((with_reducible refine c_inF ?_ ?_); (with_reducible assumption))
    | ((with_reducible apply c_isInT); (with_reducible assumption); rfl; rfl)
    | ((with_reducible apply c_isInF); (with_reducible assumption); rfl; rfl)
    | ((with_reducible refine c_rqx ?_ ?_ ?_); rfl; (with_reducible assumption))
    | ((with_reducible apply gl_sc); rfl; rfl; (with_reducible assumption))
    | ((with_reducible refine gl_lcmp ?_ ?_ ?_); rfl; (first | with_reducible rfl | simp only [Int32.mul_add, Int32.mul_zero, Int32.zero_add, Int32.add_assoc]))
    | ((with_reducible refine c_vOfS ?_ ?_ ?_); (with_reducible assumption); rfl)
    | ((with_reducible apply gl_aastI); exact hI; (with_reducible assumption); rfl; rfl; rfl; rfl; rfl; rfl)
    | ((with_reducible refine gl_unboxI hI ?_ ?_ ?_ ?_ ?_ ?_); (with_reducible assumption); rfl; rfl; rfl; rfl)
    | refine gl_fly [(0, 28), (208, 0), (108, 0), (0, 1225), (0, 1231), (0, 1244), (0, 1250), (0, 1278), (141, 0), (216, 14), (146, 82)] rfl ?_)
  all_goals (subst hR; first
    | exact tk_leaf [(0, 100, false, sc)] [] 4 hs rfl (main_ok rfl h2 h3 LFN_c h5) (hP _ _) (cn_hj (Or.inr rfl) (Or.inr rfl) (Or.inl rfl) (Or.inr rfl)) rfl (ro_cons rfl rfl ro_nil) rfl rfl rfl (ck_cons0 rfl (ck_cons0 rfl (ck_cons0 rfl (ck_cons0 rfl (ck_cons0 rfl (ck_cons0 rfl (ck_cons0 rfl (ck_cons0 rfl (ck_cons0 rfl (ck_cons0 rfl (ck_cons0 rfl (ck_cons0 rfl (ck_cons0 rfl (ck_cons0 rfl ck_nil)))))))))))))) ck_nil rfl rfl rfl)
set_option maxHeartbeats 20000000 in
theorem tf_unfolded_LFA {sc : List Value} {i s1 s2 : Int32} {b0 b1 b2 b3 : Int64} {p0 p1 p2 p3 t1 t2 t3 t4 t5 t6 d0 d1 d2 d3 d4 d5 : Int32} {f mi cn th : Int32} {o : Int64} {LC LP LQ : cn_L} {P : mm_H → List Value → Prop} {k0 : Nat} (hs : ∀ v ∈ sc, ∀ b, v ≠ .ref b) (h2 : cloB 2 LC = true) (h3 : cloB 3 LP = true) (h5 : cloQ [3100, 3140] LQ = true) (hk0 : k0 < 128) (a1_ : scr sc i 1 s1) (a2_ : scr sc i 2 s2) (hP : ∀ th o, P (can sc (cn_M (mainL b0 b1 b2 b3 p0 p1 p2 p3 (Int32.ofNat k0) t1 t2 t3 t4 t5 t6 d0 d1 d2 d3 d4 d5 (.ref 4000) f mi cn th 0 1 o) LC LP (LFA k0) LQ)) (lcs (i + 6))) :
  fl_G (fun _ _ => False) (tk 299950 1375000 P) [] 60 0 1219 [.ref 0, .ref 272, .ref 287, .ref 298, .ref 299, .int i, .retAddr 0, .retAddr 0, .retAddr 0] [] (([(0, 100, false, sc), (272, 0, true, [.ref 273, .ref 274, .ref 275, .ref 276, .ref 279, .ref 282, .ref 283, .ref 284, .ref 285, .ref 286, .ref 4000, .null, .int f, .int mi, .int cn, .int 0, .int 45]), (287, 21, true, [.ref 288, .ref 289, .ref 290, .ref 291, .ref 292, .ref 293, .ref 294, .ref 295, .ref 296, .ref 297, .int 0, .int f, .int (-1), .int mi, .int 0, .int 0, .int 0, .int th, .int 1, .long 0, .int 45]), (298, 101, true, [.long o]), (296, 100, true, [.int (Int32.ofNat k0), .int t1, .int t2, .int t3, .int t4, .int t5, .int t6]), (4000, 14, true, [.ref 4001, .ref 4002]), (4001, 1, true, [.int 1, .ref 4003, .int 1]), (4003, 104, true, [.ref (144 + k0), .null, .null, .null, .null, .null, .null, .null, .null, .null]), (4002, 1, true, [.int 0, .ref 1, .int 0])], cn_R sc (cn_M (mainL b0 b1 b2 b3 p0 p1 p2 p3 (Int32.ofNat k0) t1 t2 t3 t4 t5 t6 d0 d1 d2 d3 d4 d5 (.ref 4000) f mi cn th 0 1 o) LC LP (LFA k0) LQ)), 9000, 0, 0) := by
  obtain ⟨R, hR⟩ : ∃ R, R = cn_R sc (cn_M (mainL b0 b1 b2 b3 p0 p1 p2 p3 (Int32.ofNat k0) t1 t2 t3 t4 t5 t6 d0 d1 d2 d3 d4 d5 (.ref 4000) f mi cn th 0 1 o) LC LP (LFA k0) LQ) := ⟨_, rfl⟩
  have hI : IA R := by rw [hR]; exact ia_can
  rw [← hR]
  rcases or2 (rgc 0 999 s1) (rgc 20 600 s2) with hs1 | ⟨hs1, hs2⟩ | ⟨hs1, hs2⟩
  repeat' (first
    | with_reducible refine gl_end28 ?_
    | ((with_reducible refine c_inT ?_ ?_); (with_reducible assumption))
    | ((with_reducible refine c_inF ?_ ?_); (with_reducible assumption))
    | ((with_reducible apply c_isInT); (with_reducible assumption); rfl; rfl)
    | ((with_reducible apply c_isInF); (with_reducible assumption); rfl; rfl)
    | ((with_reducible refine c_rqx ?_ ?_ ?_); rfl; (with_reducible assumption))
    | ((with_reducible apply gl_sc); rfl; rfl; (with_reducible assumption))
    | ((with_reducible refine gl_lcmp ?_ ?_ ?_); rfl; (first | with_reducible rfl | simp only [Int32.mul_add, Int32.mul_zero, Int32.zero_add, Int32.add_assoc]))
    | ((with_reducible refine c_vOfS ?_ ?_ ?_); (with_reducible assumption); rfl)
    | ((with_reducible apply gl_aastI); exact hI; (with_reducible assumption); rfl; rfl; rfl; rfl; rfl; rfl)
    | ((with_reducible refine gl_unboxI hI ?_ ?_ ?_ ?_ ?_ ?_); (with_reducible assumption); rfl; rfl; rfl; rfl)
    | refine gl_fly [(0, 28), (208, 0), (108, 0), (0, 1225), (0, 1231), (0, 1244), (0, 1250), (0, 1278), (141, 0), (216, 14), (146, 82)] rfl ?_)
  all_goals (subst hR; first
    | exact tk_leaf [(0, 100, false, sc)] [] 4 hs rfl (main_ok rfl h2 h3 (LFA_c hk0) h5) (hP _ _) (cn_hj (Or.inr rfl) (Or.inr rfl) (Or.inl rfl) (Or.inr rfl)) rfl (ro_cons rfl rfl ro_nil) rfl rfl rfl (ck_cons0 rfl (ck_cons0 rfl (ck_cons0 rfl (ck_cons0 rfl (ck_cons0 rfl (ck_cons0 rfl (ck_cons0 rfl (ck_cons0 rfl (ck_cons0 rfl (ck_cons0 rfl (ck_cons0 rfl (ck_cons0 rfl (ck_cons0 rfl (ck_cons0 rfl ck_nil)))))))))))))) (ck_cons0 rfl (ck_cons0 rfl (ck_ints rfl rfl (iv_k hk0 (iv_null (iv_null (iv_null (iv_null (iv_null (iv_null (iv_null (iv_null (iv_null iv_nil)))))))))) (ck_cons0 rfl ck_nil)))) rfl rfl rfl)
set_option maxHeartbeats 20000000 in
theorem tf_unfolded_LFB {sc : List Value} {i s1 s2 : Int32} {b0 b1 b2 b3 : Int64} {p0 p1 p2 p3 t2 t3 t4 t5 t6 d1 d2 d3 d4 d5 : Int32} {f mi cn th : Int32} {o : Int64} {LC LP LQ : cn_L} {P : mm_H → List Value → Prop} {k0 k1 : Nat} {z0 : Bool} (hs : ∀ v ∈ sc, ∀ b, v ≠ .ref b) (h2 : cloB 2 LC = true) (h3 : cloB 3 LP = true) (h5 : cloQ [3100, 3140] LQ = true) (hk0 : k0 < 128) (hk1 : k1 < 128) (a1_ : scr sc i 1 s1) (a2_ : scr sc i 2 s2) (hP : ∀ th o, P (can sc (cn_M (mainL b0 b1 b2 b3 p0 p1 p2 p3 (Int32.ofNat k0) (Int32.ofNat k1) t2 t3 t4 t5 t6 (bif z0 then 1 else 3) d1 d2 d3 d4 d5 (.ref 4000) f mi cn th 1 1 o) LC LP (LFB k0 k1 z0) LQ)) (lcs (i + 6))) :
  fl_G (fun _ _ => False) (tk 299950 1375000 P) [] 60 0 1219 [.ref 0, .ref 272, .ref 287, .ref 298, .ref 299, .int i, .retAddr 0, .retAddr 0, .retAddr 0] [] (([(0, 100, false, sc), (272, 0, true, [.ref 273, .ref 274, .ref 275, .ref 276, .ref 279, .ref 282, .ref 283, .ref 284, .ref 285, .ref 286, .ref 4000, .null, .int f, .int mi, .int cn, .int 0, .int 45]), (287, 21, true, [.ref 288, .ref 289, .ref 290, .ref 291, .ref 292, .ref 293, .ref 294, .ref 295, .ref 296, .ref 297, .int 1, .int f, .int (-1), .int mi, .int 0, .int 0, .int 0, .int th, .int 1, .long 0, .int 45]), (298, 101, true, [.long o]), (296, 100, true, [.int (Int32.ofNat k0), .int (Int32.ofNat k1), .int t2, .int t3, .int t4, .int t5, .int t6]), (4000, 14, true, [.ref 4001, .ref 4002]), (4001, 1, true, [.int 2, .ref 4003, .int 2]), (4003, 104, true, [.ref (144 + k0), .ref (144 + k1), .null, .null, .null, .null, .null, .null, .null, .null]), (4002, 1, true, [.int 1, .ref 4004, .int 1]), (4004, 104, true, [.ref (bif z0 then 3 else 4), .null, .null, .null, .null, .null, .null, .null, .null, .null])], cn_R sc (cn_M (mainL b0 b1 b2 b3 p0 p1 p2 p3 (Int32.ofNat k0) (Int32.ofNat k1) t2 t3 t4 t5 t6 (bif z0 then 1 else 3) d1 d2 d3 d4 d5 (.ref 4000) f mi cn th 1 1 o) LC LP (LFB k0 k1 z0) LQ)), 9000, 0, 0) := by
  obtain ⟨R, hR⟩ : ∃ R, R = cn_R sc (cn_M (mainL b0 b1 b2 b3 p0 p1 p2 p3 (Int32.ofNat k0) (Int32.ofNat k1) t2 t3 t4 t5 t6 (bif z0 then 1 else 3) d1 d2 d3 d4 d5 (.ref 4000) f mi cn th 1 1 o) LC LP (LFB k0 k1 z0) LQ) := ⟨_, rfl⟩
  have hI : IA R := by rw [hR]; exact ia_can
  rw [← hR]
  rcases or2 (rgc 0 999 s1) (rgc 20 600 s2) with hs1 | ⟨hs1, hs2⟩ | ⟨hs1, hs2⟩
  repeat' (first
    | with_reducible refine gl_end28 ?_
    | ((with_reducible refine c_inT ?_ ?_); (with_reducible assumption))
    | ((with_reducible refine c_inF ?_ ?_); (with_reducible assumption))
    | ((with_reducible apply c_isInT); (with_reducible assumption); rfl; rfl)
    | ((with_reducible apply c_isInF); (with_reducible assumption); rfl; rfl)
    | ((with_reducible refine c_rqx ?_ ?_ ?_); rfl; (with_reducible assumption))
    | ((with_reducible apply gl_sc); rfl; rfl; (with_reducible assumption))
    | ((with_reducible refine gl_lcmp ?_ ?_ ?_); rfl; (first | with_reducible rfl | simp only [Int32.mul_add, Int32.mul_zero, Int32.zero_add, Int32.add_assoc]))
    | ((with_reducible refine c_vOfS ?_ ?_ ?_); (with_reducible assumption); rfl)
    | ((with_reducible apply gl_aastI); exact hI; (with_reducible assumption); rfl; rfl; rfl; rfl; rfl; rfl)
    | ((with_reducible refine gl_unboxI hI ?_ ?_ ?_ ?_ ?_ ?_); (with_reducible assumption); rfl; rfl; rfl; rfl)
    | refine gl_fly [(0, 28), (208, 0), (108, 0), (0, 1225), (0, 1231), (0, 1244), (0, 1250), (0, 1278), (141, 0), (216, 14), (146, 82)] rfl ?_)
  all_goals (subst hR; first
    | exact tk_leaf [(0, 100, false, sc)] [] 4 hs rfl (main_ok rfl h2 h3 (LFB_c hk0 hk1) h5) (hP _ _) (cn_hj (Or.inr rfl) (Or.inr rfl) (Or.inl rfl) (Or.inr rfl)) rfl (ro_cons rfl rfl ro_nil) rfl rfl rfl (ck_cons0 rfl (ck_cons0 rfl (ck_cons0 rfl (ck_cons0 rfl (ck_cons0 rfl (ck_cons0 rfl (ck_cons0 rfl (ck_cons0 rfl (ck_cons0 rfl (ck_cons0 rfl (ck_cons0 rfl (ck_cons0 rfl (ck_cons0 rfl (ck_cons0 rfl ck_nil)))))))))))))) (ck_cons0 rfl (ck_cons0 rfl (ck_ints rfl rfl (iv_k hk0 (iv_k hk1 (iv_null (iv_null (iv_null (iv_null (iv_null (iv_null (iv_null (iv_null iv_nil)))))))))) (ck_cons0 rfl (ck_cons0 rfl ck_nil))))) rfl rfl rfl)
set_option maxHeartbeats 20000000 in
theorem tf_unfolded_LFC {sc : List Value} {i s1 s2 : Int32} {b0 b1 b2 b3 : Int64} {p0 p1 p2 p3 t3 t4 t5 t6 d2 d3 d4 d5 : Int32} {f mi cn th : Int32} {o : Int64} {LC LP LQ : cn_L} {P : mm_H → List Value → Prop} {k0 k1 k2 : Nat} {z0 z1 : Bool} (hs : ∀ v ∈ sc, ∀ b, v ≠ .ref b) (h2 : cloB 2 LC = true) (h3 : cloB 3 LP = true) (h5 : cloQ [3100, 3140] LQ = true) (hk0 : k0 < 128) (hk1 : k1 < 128) (hk2 : k2 < 128) (a1_ : scr sc i 1 s1) (a2_ : scr sc i 2 s2) (hP : ∀ th o, P (can sc (cn_M (mainL b0 b1 b2 b3 p0 p1 p2 p3 (Int32.ofNat k0) (Int32.ofNat k1) (Int32.ofNat k2) t3 t4 t5 t6 (bif z0 then 1 else 3) (bif z1 then 1 else 3) d2 d3 d4 d5 (.ref 4000) f mi cn th 2 1 o) LC LP (LFC k0 k1 k2 z0 z1) LQ)) (lcs (i + 6))) :
  fl_G (fun _ _ => False) (tk 299950 1375000 P) [] 60 0 1219 [.ref 0, .ref 272, .ref 287, .ref 298, .ref 299, .int i, .retAddr 0, .retAddr 0, .retAddr 0] [] (([(0, 100, false, sc), (272, 0, true, [.ref 273, .ref 274, .ref 275, .ref 276, .ref 279, .ref 282, .ref 283, .ref 284, .ref 285, .ref 286, .ref 4000, .null, .int f, .int mi, .int cn, .int 0, .int 45]), (287, 21, true, [.ref 288, .ref 289, .ref 290, .ref 291, .ref 292, .ref 293, .ref 294, .ref 295, .ref 296, .ref 297, .int 2, .int f, .int (-1), .int mi, .int 0, .int 0, .int 0, .int th, .int 1, .long 0, .int 45]), (298, 101, true, [.long o]), (296, 100, true, [.int (Int32.ofNat k0), .int (Int32.ofNat k1), .int (Int32.ofNat k2), .int t3, .int t4, .int t5, .int t6]), (4000, 14, true, [.ref 4001, .ref 4002]), (4001, 1, true, [.int 3, .ref 4003, .int 3]), (4003, 104, true, [.ref (144 + k0), .ref (144 + k1), .ref (144 + k2), .null, .null, .null, .null, .null, .null, .null]), (4002, 1, true, [.int 2, .ref 4004, .int 2]), (4004, 104, true, [.ref (bif z0 then 3 else 4), .ref (bif z1 then 3 else 4), .null, .null, .null, .null, .null, .null, .null, .null])], cn_R sc (cn_M (mainL b0 b1 b2 b3 p0 p1 p2 p3 (Int32.ofNat k0) (Int32.ofNat k1) (Int32.ofNat k2) t3 t4 t5 t6 (bif z0 then 1 else 3) (bif z1 then 1 else 3) d2 d3 d4 d5 (.ref 4000) f mi cn th 2 1 o) LC LP (LFC k0 k1 k2 z0 z1) LQ)), 9000, 0, 0) := by
  obtain ⟨R, hR⟩ : ∃ R, R = cn_R sc (cn_M (mainL b0 b1 b2 b3 p0 p1 p2 p3 (Int32.ofNat k0) (Int32.ofNat k1) (Int32.ofNat k2) t3 t4 t5 t6 (bif z0 then 1 else 3) (bif z1 then 1 else 3) d2 d3 d4 d5 (.ref 4000) f mi cn th 2 1 o) LC LP (LFC k0 k1 k2 z0 z1) LQ) := ⟨_, rfl⟩
  have hI : IA R := by rw [hR]; exact ia_can
  rw [← hR]
  rcases or2 (rgc 0 999 s1) (rgc 20 600 s2) with hs1 | ⟨hs1, hs2⟩ | ⟨hs1, hs2⟩
  repeat' (first
    | with_reducible refine gl_end28 ?_
    | ((with_reducible refine c_inT ?_ ?_); (with_reducible assumption))
    | ((with_reducible refine c_inF ?_ ?_); (with_reducible assumption))
    | ((with_reducible apply c_isInT); (with_reducible assumption); rfl; rfl)
    | ((with_reducible apply c_isInF); (with_reducible assumption); rfl; rfl)
    | ((with_reducible refine c_rqx ?_ ?_ ?_); rfl; (with_reducible assumption))
    | ((with_reducible apply gl_sc); rfl; rfl; (with_reducible assumption))
    | ((with_reducible refine gl_lcmp ?_ ?_ ?_); rfl; (first | with_reducible rfl | simp only [Int32.mul_add, Int32.mul_zero, Int32.zero_add, Int32.add_assoc]))
    | ((with_reducible refine c_vOfS ?_ ?_ ?_); (with_reducible assumption); rfl)
    | ((with_reducible apply gl_aastI); exact hI; (with_reducible assumption); rfl; rfl; rfl; rfl; rfl; rfl)
    | ((with_reducible refine gl_unboxI hI ?_ ?_ ?_ ?_ ?_ ?_); (with_reducible assumption); rfl; rfl; rfl; rfl)
    | refine gl_fly [(0, 28), (208, 0), (108, 0), (0, 1225), (0, 1231), (0, 1244), (0, 1250), (0, 1278), (141, 0), (216, 14), (146, 82)] rfl ?_)
  all_goals (subst hR; first
    | exact tk_leaf [(0, 100, false, sc)] [] 4 hs rfl (main_ok rfl h2 h3 (LFC_c hk0 hk1 hk2) h5) (hP _ _) (cn_hj (Or.inr rfl) (Or.inr rfl) (Or.inl rfl) (Or.inr rfl)) rfl (ro_cons rfl rfl ro_nil) rfl rfl rfl (ck_cons0 rfl (ck_cons0 rfl (ck_cons0 rfl (ck_cons0 rfl (ck_cons0 rfl (ck_cons0 rfl (ck_cons0 rfl (ck_cons0 rfl (ck_cons0 rfl (ck_cons0 rfl (ck_cons0 rfl (ck_cons0 rfl (ck_cons0 rfl (ck_cons0 rfl ck_nil)))))))))))))) (ck_cons0 rfl (ck_cons0 rfl (ck_ints rfl rfl (iv_k hk0 (iv_k hk1 (iv_k hk2 (iv_null (iv_null (iv_null (iv_null (iv_null (iv_null (iv_null iv_nil)))))))))) (ck_cons0 rfl (ck_cons0 rfl ck_nil))))) rfl rfl rfl)
end F_unfolded
