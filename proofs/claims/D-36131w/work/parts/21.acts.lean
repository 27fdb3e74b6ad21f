/-- classes that may lie in an array of Objects -/
def mm_toO : List Nat := [0, 1, 2, 3, 4, 5, 6, 7, 8, 9, 10, 11, 12, 13, 14, 15, 16, 17, 18, 19, 20, 21, 22, 23, 24, 25, 26, 27, 28, 29, 60]
def ac_iadd (p : Nat) : mm_A := fun ls st h => match st with
  | .int y :: .int x :: st' => mm_nx p ls (.int (x + y) :: st') h
  | _ => mm_sk
def ac_isub (p : Nat) : mm_A := fun ls st h => match st with
  | .int y :: .int x :: st' => mm_nx p ls (.int (x - y) :: st') h
  | _ => mm_sk
def ac_imul (p : Nat) : mm_A := fun ls st h => match st with
  | .int y :: .int x :: st' => mm_nx p ls (.int (x * y) :: st') h
  | _ => mm_sk
def ac_iand (p : Nat) : mm_A := fun ls st h => match st with
  | .int y :: .int x :: st' => mm_nx p ls (.int (x &&& y) :: st') h
  | _ => mm_sk
def ac_ior (p : Nat) : mm_A := fun ls st h => match st with
  | .int y :: .int x :: st' => mm_nx p ls (.int (x ||| y) :: st') h
  | _ => mm_sk
def ac_ixor (p : Nat) : mm_A := fun ls st h => match st with
  | .int y :: .int x :: st' => mm_nx p ls (.int (x ^^^ y) :: st') h
  | _ => mm_sk
def ac_ishl (p : Nat) : mm_A := fun ls st h => match st with
  | .int y :: .int x :: st' => mm_nx p ls (.int (x <<< (y &&& 31)) :: st') h
  | _ => mm_sk
def ac_ishr (p : Nat) : mm_A := fun ls st h => match st with
  | .int y :: .int x :: st' => mm_nx p ls (.int (x >>> (y &&& 31)) :: st') h
  | _ => mm_sk
def ac_iushr (p : Nat) : mm_A := fun ls st h => match st with
  | .int y :: .int x :: st' => mm_nx p ls (.int ((x.toUInt32 >>> (y.toUInt32 &&& Int32.toUInt32 31)).toInt32) :: st') h
  | _ => mm_sk
def ac_idiv (p : Nat) : mm_A := fun ls st h => match st with
  | .int y :: .int x :: st' => if y = 0 then mm_sk else mm_nx p ls (.int (x / y) :: st') h
  | _ => mm_sk
def ac_irem (p : Nat) : mm_A := fun ls st h => match st with
  | .int y :: .int x :: st' => if y = 0 then mm_sk else mm_nx p ls (.int (x - x / y * y) :: st') h
  | _ => mm_sk
def ac_ladd (p : Nat) : mm_A := fun ls st h => match st with
  | .long y :: .long x :: st' => mm_nx p ls (.long (x + y) :: st') h
  | _ => mm_sk
def ac_lsub (p : Nat) : mm_A := fun ls st h => match st with
  | .long y :: .long x :: st' => mm_nx p ls (.long (x - y) :: st') h
  | _ => mm_sk
def ac_lmul (p : Nat) : mm_A := fun ls st h => match st with
  | .long y :: .long x :: st' => mm_nx p ls (.long (x * y) :: st') h
  | _ => mm_sk
def ac_land (p : Nat) : mm_A := fun ls st h => match st with
  | .long y :: .long x :: st' => mm_nx p ls (.long (x &&& y) :: st') h
  | _ => mm_sk
def ac_lor (p : Nat) : mm_A := fun ls st h => match st with
  | .long y :: .long x :: st' => mm_nx p ls (.long (x ||| y) :: st') h
  | _ => mm_sk
def ac_lxor (p : Nat) : mm_A := fun ls st h => match st with
  | .long y :: .long x :: st' => mm_nx p ls (.long (x ^^^ y) :: st') h
  | _ => mm_sk
def ac_ldiv (p : Nat) : mm_A := fun ls st h => match st with
  | .long y :: .long x :: st' => if y = 0 then mm_sk else mm_nx p ls (.long (x / y) :: st') h
  | _ => mm_sk
def ac_lcmp (p : Nat) : mm_A := fun ls st h => match st with
  | .long y :: .long x :: st' => mm_nx p ls (.int (lg_cmp x y) :: st') h
  | _ => mm_sk
def ac_lshl (p : Nat) : mm_A := fun ls st h => match st with
  | .int y :: .long x :: st' => mm_nx p ls (.long (x <<< (y.toInt64 &&& 63)) :: st') h
  | _ => mm_sk
def ac_lshr (p : Nat) : mm_A := fun ls st h => match st with
  | .int y :: .long x :: st' => mm_nx p ls (.long (x >>> (y.toInt64 &&& 63)) :: st') h
  | _ => mm_sk
def ac_lushr (p : Nat) : mm_A := fun ls st h => match st with
  | .int y :: .long x :: st' => mm_nx p ls (.long ((x.toUInt64 >>> (y.toInt64.toUInt64 &&& Int64.toUInt64 63)).toInt64) :: st') h
  | _ => mm_sk
def ac_ineg (p : Nat) : mm_A := fun ls st h => match st with
  | .int x :: st' => mm_nx p ls (.int (-x) :: st') h
  | _ => mm_sk
def ac_i2l (p : Nat) : mm_A := fun ls st h => match st with
  | .int x :: st' => mm_nx p ls (.long (x.toInt64) :: st') h
  | _ => mm_sk
def ac_l2i (p : Nat) : mm_A := fun ls st h => match st with
  | .long x :: st' => mm_nx p ls (.int (x.toInt32) :: st') h
  | _ => mm_sk
def ac_i2c (p : Nat) : mm_A := fun ls st h => match st with
  | .int x :: st' => mm_nx p ls (.int ((x.toUInt32 % 65536).toInt32) :: st') h
  | _ => mm_sk
def ac_i2b (p : Nat) : mm_A := fun ls st h => match st with
  | .int x :: st' => mm_nx p ls (.int (x.toInt8.toInt32) :: st') h
  | _ => mm_sk
def ac_if_eq (t p : Nat) : mm_A := fun ls st h => match st with
  | .int x :: st' => if x = 0 then mm_nx t ls st' h else mm_nx p ls st' h
  | _ => mm_sk
def ac_ic_eq (t p : Nat) : mm_A := fun ls st h => match st with
  | .int y :: .int x :: st' => if x = y then mm_nx t ls st' h else mm_nx p ls st' h
  | _ => mm_sk
def ac_if_ne (t p : Nat) : mm_A := fun ls st h => match st with
  | .int x :: st' => if ¬ x = 0 then mm_nx t ls st' h else mm_nx p ls st' h
  | _ => mm_sk
def ac_ic_ne (t p : Nat) : mm_A := fun ls st h => match st with
  | .int y :: .int x :: st' => if ¬ x = y then mm_nx t ls st' h else mm_nx p ls st' h
  | _ => mm_sk
def ac_if_lt (t p : Nat) : mm_A := fun ls st h => match st with
  | .int x :: st' => if x < 0 then mm_nx t ls st' h else mm_nx p ls st' h
  | _ => mm_sk
def ac_ic_lt (t p : Nat) : mm_A := fun ls st h => match st with
  | .int y :: .int x :: st' => if x < y then mm_nx t ls st' h else mm_nx p ls st' h
  | _ => mm_sk
def ac_if_ge (t p : Nat) : mm_A := fun ls st h => match st with
  | .int x :: st' => if 0 ≤ x then mm_nx t ls st' h else mm_nx p ls st' h
  | _ => mm_sk
def ac_ic_ge (t p : Nat) : mm_A := fun ls st h => match st with
  | .int y :: .int x :: st' => if y ≤ x then mm_nx t ls st' h else mm_nx p ls st' h
  | _ => mm_sk
def ac_if_gt (t p : Nat) : mm_A := fun ls st h => match st with
  | .int x :: st' => if 0 < x then mm_nx t ls st' h else mm_nx p ls st' h
  | _ => mm_sk
def ac_ic_gt (t p : Nat) : mm_A := fun ls st h => match st with
  | .int y :: .int x :: st' => if y < x then mm_nx t ls st' h else mm_nx p ls st' h
  | _ => mm_sk
def ac_if_le (t p : Nat) : mm_A := fun ls st h => match st with
  | .int x :: st' => if x ≤ 0 then mm_nx t ls st' h else mm_nx p ls st' h
  | _ => mm_sk
def ac_ic_le (t p : Nat) : mm_A := fun ls st h => match st with
  | .int y :: .int x :: st' => if x ≤ y then mm_nx t ls st' h else mm_nx p ls st' h
  | _ => mm_sk
def ac_c (v : Value) (p : Nat) : mm_A := fun ls st h => mm_nx p ls (v :: st) h
def ac_il (i p : Nat) : mm_A := fun ls st h => match mm_at ls i with
  | .int x => mm_nx p ls (.int x :: st) h
  | _ => mm_sk
def ac_ll (i p : Nat) : mm_A := fun ls st h => match mm_at ls i with
  | .long x => mm_nx p ls (.long x :: st) h
  | _ => mm_sk
def ac_al (i p : Nat) : mm_A := fun ls st h => match mm_at ls i with
  | .ref x => mm_nx p ls (.ref x :: st) h
  | .null => mm_nx p ls (.null :: st) h
  | _ => mm_sk
def ac_is (i p : Nat) : mm_A := fun ls st h => match st with
  | .int x :: st' => mm_t1 mm_sk i ls (.int x) (fun ls' => mm_nx p ls' st' h)
  | _ => mm_sk
def ac_as (i p : Nat) : mm_A := fun ls st h => match st with
  | .ref x :: st' => mm_t1 mm_sk i ls (.ref x) (fun ls' => mm_nx p ls' st' h)
  | .null :: st' => mm_t1 mm_sk i ls .null (fun ls' => mm_nx p ls' st' h)
  | _ => mm_sk
def ac_fs (i p : Nat) : mm_A := fun ls st h => match st with
  | .float x :: st' => mm_t1 mm_sk i ls (.float x) (fun ls' => mm_nx p ls' st' h)
  | _ => mm_sk
def ac_ls (i p : Nat) : mm_A := fun ls st h => match st with
  | .long x :: st' => mm_t2 mm_sk i ls (.long x) (fun ls' => mm_nx p ls' st' h)
  | _ => mm_sk
def ac_ds (i p : Nat) : mm_A := fun ls st h => match st with
  | .double x :: st' => mm_t2 mm_sk i ls (.double x) (fun ls' => mm_nx p ls' st' h)
  | _ => mm_sk
def ac_inc (i : Nat) (c : Int32) (p : Nat) : mm_A := fun ls st h => match mm_at ls i with
  | .int x => mm_t1 mm_sk i ls (.int (x + c)) (fun ls' => mm_nx p ls' st h)
  | _ => mm_sk
def ac_go (t : Nat) : mm_A := fun ls st h => mm_nx t ls st h
def ac_pop (p : Nat) : mm_A := fun ls st h => match st with
  | .int _ :: st' => mm_nx p ls st' h
  | .ref _ :: st' => mm_nx p ls st' h
  | .null :: st' => mm_nx p ls st' h
  | _ => mm_sk
def ac_dup (p : Nat) : mm_A := fun ls st h => match st with
  | .int x :: st' => mm_nx p ls (.int x :: .int x :: st') h
  | .ref x :: st' => mm_nx p ls (.ref x :: .ref x :: st') h
  | .null :: st' => mm_nx p ls (.null :: .null :: st') h
  | _ => mm_sk
/-- an int over a reference: the two shapes that occur -/
def ac_dup2 (p : Nat) : mm_A := fun ls st h => match st with
  | .int x :: .ref a :: st' => mm_nx p ls (.int x :: .ref a :: .int x :: .ref a :: st') h
  | _ => mm_sk
def ac_dupx1 (p : Nat) : mm_A := fun ls st h => match st with
  | .int x :: .ref a :: st' => mm_nx p ls (.int x :: .ref a :: .int x :: st') h
  | .ref x :: .ref a :: st' => mm_nx p ls (.ref x :: .ref a :: .ref x :: st') h
  | _ => mm_sk
def ac_nul (t p : Nat) : mm_A := fun ls st h => match st with
  | .null :: st' => mm_nx t ls st' h
  | .ref _ :: st' => mm_nx p ls st' h
  | _ => mm_sk
def ac_nnul (t p : Nat) : mm_A := fun ls st h => match st with
  | .null :: st' => mm_nx p ls st' h
  | .ref _ :: st' => mm_nx t ls st' h
  | _ => mm_sk
/-- comparing references: e where they are one, n where they are two cells -/
def ac_acmp (e n : Nat) : mm_A := fun ls st h => match st with
  | .null :: .null :: st' => mm_nx e ls st' h
  | .null :: .ref _ :: st' => mm_nx n ls st' h
  | .ref _ :: .null :: st' => mm_nx n ls st' h
  | .ref b :: .ref a :: st' => if a = b then mm_nx e ls st' h else (match mm_get h a, mm_get h b with
    | some (_, true, _), some _ => mm_nx n ls st' h
    | some _, some (_, true, _) => mm_nx n ls st' h
    | _, _ => mm_sk)
  | _ => mm_sk
def mm_tsw (d : Nat) (x : Int32) : Int32 → List Nat → Nat
  | _, [] => d
  | k, t :: ts => if x = k then t else mm_tsw d x (k + 1) ts
def ac_tsw (d : Nat) (ts : List Nat) : mm_A := fun ls st h => match st with
  | .int x :: st' => mm_nx (mm_tsw d x 0 ts) ls st' h
  | _ => mm_sk
def ac_ir : mm_A := fun _ st h => match st with
  | [.int x] => mm_rt (some (.int x)) h
  | _ => mm_sk
def ac_zr : mm_A := fun _ st h => match st with
  | [.int x] => if x = 0 ∨ x = 1 then mm_rt (some (.int x)) h else mm_sk
  | _ => mm_sk
def ac_cr : mm_A := fun _ st h => match st with
  | [.int x] => if x.toUInt32.toUInt16.toUInt32.toInt32 = x then mm_rt (some (.int x)) h else mm_sk
  | _ => mm_sk
def ac_lr : mm_A := fun _ st h => match st with
  | [.long x] => mm_rt (some (.long x)) h
  | _ => mm_sk
def ac_fr : mm_A := fun _ st h => match st with
  | [.float x] => mm_rt (some (.float x)) h
  | _ => mm_sk
def ac_dr : mm_A := fun _ st h => match st with
  | [.double x] => mm_rt (some (.double x)) h
  | _ => mm_sk
def ac_ar : mm_A := fun _ st h => match st with
  | [.ref x] => mm_rt (some (.ref x)) h
  | [.null] => mm_rt (some .null) h
  | _ => mm_sk
def ac_vr : mm_A := fun _ st h => match st with
  | [] => mm_rt none h
  | _ => mm_sk
/-- place j of a list -/
def mm_nth {α : Type} (sk : α) : List Value → Nat → (Value → α) → α
  | [], _, _ => sk
  | v :: _, 0, k => k v
  | _ :: l, n + 1, k => mm_nth sk l n k
def mm_lst {α : Type} (sk : α) : List Value → Nat → Value → (List Value → α) → α
  | [], _, _, _ => sk
  | _ :: l, 0, v, k => k (v :: l)
  | w :: l, n + 1, v, k => mm_lst sk l n v (fun l' => k (w :: l'))
theorem mm_nth_eq {α : Type} (sk : α) : ∀ (l : List Value) (n : Nat) (k : Value → α), mm_nth sk l n k = (match l[n]? with | some v => k v | none => sk)
  | [], n, k => by simp [mm_nth]
  | v :: l, 0, k => by simp [mm_nth]
  | v :: l, n + 1, k => by simp [mm_nth, mm_nth_eq sk l n k]
theorem mm_lst_eq {α : Type} (sk : α) : ∀ (l : List Value) (n : Nat) (v : Value) (k : List Value → α), mm_lst sk l n v k = if n < l.length then k (l.set n v) else sk
  | [], n, v, k => by simp [mm_lst]
  | w :: l, 0, v, k => by simp [mm_lst]
  | w :: l, n + 1, v, k => by simp [mm_lst, mm_lst_eq sk l n v]
def ac_gf (c k p : Nat) : mm_A := fun ls st h => match st with
  | .ref a :: st' => (match mm_get h a with
    | some (c', _, fs) => if c' = c then mm_nth mm_sk fs k (fun v => mm_nx p ls (v :: st') h) else mm_sk
    | none => mm_sk)
  | _ => mm_sk
/-- may v be kept as a value of this type: 0 int, 1 long, 2 reference, 3 boolean, 4 char -/
def mm_vt : Nat → Value → Bool
  | 0, .int _ => true
  | 1, .long _ => true
  | 2, .ref _ => true
  | 2, .null => true
  | 3, .int x => decide (x = 0 ∨ x = 1)
  | 4, .int x => decide (x.toUInt32.toUInt16.toUInt32.toInt32 = x) && decide (0 ≤ x) && decide (x ≤ 65535)
  | _, _ => false
def ac_pf (c k ty p : Nat) : mm_A := fun ls st h => match st with
  | v :: .ref a :: st' => (match mm_get h a with
    | some (c', true, fs) => if c' = c then (match mm_vt ty v with
      | true => mm_lst mm_sk fs k v (fun fs' => mm_putK h a (c', true, fs') (fun h' => mm_nx p ls st' h'))
      | false => mm_sk) else mm_sk
    | _ => mm_sk)
  | _ => mm_sk
def ac_alen (p : Nat) : mm_A := fun ls st h => match st with
  | .ref a :: st' => (match mm_get h a with
    | some (c, _, l) => if 100 ≤ c then mm_nx p ls (.int (Int32.ofNat l.length) :: st') h else mm_sk
    | none => mm_sk)
  | _ => mm_sk
/-- an array's place: of kind t, or (t = 4) of any kind of references -/
def mm_ak (t c : Nat) : Bool := if t = 4 then decide (104 ≤ c) else decide (c = 100 + t)
def ac_ald (t p : Nat) : mm_A := fun ls st h => match st with
  | .int i :: .ref a :: st' => (match mm_get h a with
    | some (c, _, l) => if mm_ak t c = true then (if i < 0 then mm_sk else (match l[i.toNatClampNeg]? with
      | some v => mm_nx p ls (v :: st') h
      | none => mm_sk)) else mm_sk
    | none => mm_sk)
  | _ => mm_sk
def ac_ast (t ty p : Nat) : mm_A := fun ls st h => match st with
  | v :: .int i :: .ref a :: st' => (match mm_get h a with
    | some (c, true, l) => if c = 100 + t then (if i < 0 then mm_sk else (match mm_vt ty v with
      | true => mm_lst mm_sk l i.toNatClampNeg v (fun l' => mm_putK h a (c, true, l') (fun h' => mm_nx p ls st' h'))
      | false => mm_sk)) else mm_sk
    | _ => mm_sk)
  | _ => mm_sk
/-- into an array of Objects: null, or an object of one of our classes -/
def ac_aast (p : Nat) : mm_A := fun ls st h => match st with
  | .null :: .int i :: .ref a :: st' => (match mm_get h a with
    | some (104, true, l) => (if i < 0 then mm_sk else mm_lst mm_sk l i.toNatClampNeg .null (fun l' => mm_putK h a (104, true, l') (fun h' => mm_nx p ls st' h')))
    | _ => mm_sk)
  | .ref b :: .int i :: .ref a :: st' => (match mm_get h a, mm_get h b with
    | some (104, true, l), some (c, _, _) => if c ∈ mm_toO then (if i < 0 then mm_sk else mm_lst mm_sk l i.toNatClampNeg (.ref b) (fun l' => mm_putK h a (104, true, l') (fun h' => mm_nx p ls st' h'))) else mm_sk
    | _, _ => mm_sk)
  | _ => mm_sk
def mm_dv : Nat → Value
  | 0 => .int 0
  | 1 => .long 0
  | 2 => .int 0
  | 3 => .double 0
  | _ => .null
def ac_newa (t p : Nat) : mm_A := fun ls st h => match st with
  | .int n :: st' => if n < 0 then mm_sk else if 65536 < n.toNatClampNeg then mm_sk else mm_newK h (100 + t, true, List.replicate n.toNatClampNeg (mm_dv t)) (fun q h' => mm_nx p ls (.ref q :: st') h')
  | _ => mm_sk
/-- the rows of an array of n arrays of k booleans -/
def mm_rows (k : Nat) : Nat → mm_H → mm_H
  | 0, h => h
  | n + 1, h => mm_rows k n (mm_new h (102, true, List.replicate k (.int 0)))
def ac_mna (p : Nat) : mm_A := fun ls st h => match st with
  | .int k :: .int n :: st' => if n < 0 ∨ k < 0 ∨ 1024 < n.toNatClampNeg ∨ 1024 < k.toNatClampNeg then mm_sk else
    mm_nx p ls (.ref h.2.1 :: st') (mm_rows k.toNatClampNeg n.toNatClampNeg (mm_new h (105, true, (List.range n.toNatClampNeg).map (fun j => .ref (h.2.1 + 1 + j)))))
  | _ => mm_sk
def ac_new (c : Nat) (fs : List Value) (p : Nat) : mm_A := fun ls st h => mm_newK h (c, true, fs) (fun q h' => mm_nx p ls (.ref q :: st) h')
def ac_oi (p : Nat) : mm_A := fun ls st h => match st with
  | .ref _ :: st' => if st'.length ≤ 4 then mm_nx p ls st' h else mm_sk
  | _ => mm_sk
/-- a cast that passes: null, or a class of this list -/
def ac_cc (cs : List Nat) (p : Nat) : mm_A := fun ls st h => match st with
  | .null :: st' => mm_nx p ls (.null :: st') h
  | .ref a :: st' => (match mm_get h a with
    | some (c, d, _) => if c ∈ cs ∧ (c < 100 ∨ d = true) then mm_nx p ls (.ref a :: st') h else mm_sk
    | none => mm_sk)
  | _ => mm_sk
/-- calls: static; of an object's own constructor or private method; by the receiver's class -/
def ac_cs (m n p : Nat) : mm_A := fun ls st h => mm_pop mm_sk n st [] (fun as st' => if st'.length ≤ 4 then mm_cl m as p ls st' h else mm_sk)
def ac_ci (m n p : Nat) : mm_A := fun ls st h => mm_pop mm_sk n st [] (fun as st' => match st' with
  | .ref a :: st2 => if st2.length ≤ 4 then mm_cl m (.ref a :: as) p ls st2 h else mm_sk
  | _ => mm_sk)
def ac_cv (tbl : List (Nat × Nat)) (n p : Nat) : mm_A := fun ls st h => mm_pop mm_sk n st [] (fun as st' => match st' with
  | .ref a :: st2 => (match mm_get h a with
    | some (c, _, _) => (match tbl.lookup c with
      | some m => if st2.length ≤ 4 then mm_cl m (.ref a :: as) p ls st2 h else mm_sk
      | none => mm_sk)
    | none => mm_sk)
  | _ => mm_sk)
def ac_t0 (k : Nat) : mm_A := fun _ st h => if st.length ≤ 4 then mm_th k (mm_pay h) else mm_sk
def ac_mx (p : Nat) : mm_A := fun ls st h => match st with
  | .int y :: .int x :: st' => if st'.length ≤ 4 then mm_nx p ls (.int (if x < y then y else x) :: st') h else mm_sk
  | _ => mm_sk
def ac_mn (p : Nat) : mm_A := fun ls st h => match st with
  | .int y :: .int x :: st' => if st'.length ≤ 4 then mm_nx p ls (.int (if y < x then y else x) :: st') h else mm_sk
  | _ => mm_sk
def ac_ab (p : Nat) : mm_A := fun ls st h => match st with
  | .int x :: st' => if st'.length ≤ 4 then mm_nx p ls (.int (if 0 ≤ x then x else 0 - x) :: st') h else mm_sk
  | _ => mm_sk
/-- may all of these lie in an array of Objects -/
def mm_alO (h : mm_H) : List Value → Bool
  | [] => true
  | .null :: l => mm_alO h l
  | .ref b :: l => (match mm_get h b with
    | some (c, _, _) => if c ∈ mm_toO then mm_alO h l else false
    | none => false)
  | _ :: _ => false
/-- System.arraycopy of Objects, all places in range -/
def mm_cpy (src dst : List Value) (sp dp n : Nat) : List Value := dst.take dp ++ ((src.drop sp).take n ++ dst.drop (dp + n))
def ac_cpy (p : Nat) : mm_A := fun ls st h => match st with
  | .int n :: .int dp :: .ref b :: .int sp :: .ref a :: st' => (match mm_get h a, mm_get h b with
    | some (104, _, src), some (104, true, dst) => if n < 0 ∨ dp < 0 ∨ sp < 0 ∨ src.length < sp.toNatClampNeg + n.toNatClampNeg ∨ dst.length < dp.toNatClampNeg + n.toNatClampNeg ∨ 4 < st'.length then mm_sk else
      if mm_alO h ((src.drop sp.toNatClampNeg).take n.toNatClampNeg) = true then mm_putK h b (104, true, mm_cpy src dst sp.toNatClampNeg dp.toNatClampNeg n.toNatClampNeg) (fun h' => mm_nx p ls st' h') else mm_sk
    | _, _ => mm_sk)
  | _ => mm_sk
/-- getClass of an array of Objects -/
def ac_gc (v : Value) (p : Nat) : mm_A := fun ls st h => match st with
  | .ref a :: st' => (match mm_get h a with
    | some (104, true, _) => if st'.length ≤ 4 then mm_nx p ls (v :: st') h else mm_sk
    | _ => mm_sk)
  | _ => mm_sk
