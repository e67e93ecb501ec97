section
/-! CRC-32C, bits alone: the law's eight bit steps are one step by the table. No program in sight. -/
def cr_us (x y : Int32) : Int32 := (x.toUInt32 >>> (y.toUInt32 &&& Int32.toUInt32 31)).toInt32
def cr_P : BitVec 32 := 2197175160#32
def cr_pl (t : Bool) : BitVec 32 := bif t then cr_P else 0#32
/-- one bit step -/
def cr_bs (c : BitVec 32) : BitVec 32 := (c >>> 1) ^^^ cr_pl (c.getLsbD 0)
def cr_bn : Nat → BitVec 32 → BitVec 32
  | 0, c => c
  | n + 1, c => cr_bs (cr_bn n c)
/-- the table of CRC32C, place by place -/
def cr_tab (j : Nat) : Int32 := Int32.ofBitVec (cr_bn 8 (BitVec.ofNat 32 j))
/-- what CRC32C.update does to the sum x at the byte v -/
def cr_up (x v : Int32) : Int32 := cr_us x 8 ^^^ cr_tab ((x ^^^ (v &&& 255)) &&& 255).toNatClampNeg
/-- the law's step k, and its first k steps -/
def cr_st (x w k : Int32) : Int32 := if (x ^^^ cr_us w k) &&& 1 = 0 then cr_us x 1 else cr_us x 1 ^^^ (-2097792136)
def cr_it (x w : Int32) : Nat → Int32
  | 0 => x
  | k + 1 => cr_st (cr_it x w k) w (nI k)
/-- the number that getValue answers -/
def cr_v (x : Int32) : Int64 := (x ^^^ (-1)).toInt64 &&& 4294967295
theorem cr_pl_xor (s t : Bool) : cr_pl (s ^^ t) = cr_pl s ^^^ cr_pl t := by cases s <;> cases t <;> decide
theorem cr_x4 (a b p q : BitVec 32) : (a ^^^ b) ^^^ (p ^^^ q) = (a ^^^ p) ^^^ (b ^^^ q) := by
  apply BitVec.eq_of_getLsbD_eq
  intro i _
  simp only [BitVec.getLsbD_xor]
  cases a.getLsbD i <;> cases b.getLsbD i <;> cases p.getLsbD i <;> cases q.getLsbD i <;> rfl
theorem cr_x3 (a b p : BitVec 32) : (a ^^^ p) ^^^ b = (a ^^^ b) ^^^ p := by
  apply BitVec.eq_of_getLsbD_eq
  intro i _
  simp only [BitVec.getLsbD_xor]
  cases a.getLsbD i <;> cases b.getLsbD i <;> cases p.getLsbD i <;> rfl
theorem cr_bs_xor (x y : BitVec 32) : cr_bs (x ^^^ y) = cr_bs x ^^^ cr_bs y := by
  unfold cr_bs
  rw [BitVec.ushiftRight_xor_distrib, BitVec.getLsbD_xor, cr_pl_xor, cr_x4]
theorem cr_bn_xor (n : Nat) (x y : BitVec 32) : cr_bn n (x ^^^ y) = cr_bn n x ^^^ cr_bn n y := by
  induction n with
  | zero => rfl
  | succ n ih =>
    show cr_bs (cr_bn n (x ^^^ y)) = cr_bs (cr_bn n x) ^^^ cr_bs (cr_bn n y)
    rw [ih, cr_bs_xor]
theorem cr_bn_high (n : Nat) (x : BitVec 32) (h : ∀ i, i < n → x.getLsbD i = false) : cr_bn n x = x >>> n := by
  induction n with
  | zero => exact (BitVec.ushiftRight_zero x).symm
  | succ n ih =>
    show cr_bs (cr_bn n x) = x >>> (n + 1)
    rw [ih (fun i hi => h i (by omega))]
    unfold cr_bs
    rw [BitVec.getLsbD_ushiftRight, Nat.add_zero, h n (by omega), show cr_pl false = 0#32 from rfl, BitVec.xor_zero, BitVec.shiftRight_add]
theorem cr_255 (i : Nat) : (255#32).getLsbD i = decide (i < 8) := by
  rcases Nat.lt_or_ge i 32 with h | h
  · exact (by decide +kernel : ∀ i, i < 32 → (255#32).getLsbD i = decide (i < 8)) i h
  · rw [BitVec.getLsbD_of_ge _ _ h, decide_eq_false (by omega)]
theorem cr_split (x : BitVec 32) : cr_bn 8 x = cr_bn 8 (x &&& 255#32) ^^^ (x >>> 8) := by
  have h1 : x = (x &&& 255#32) ^^^ (x ^^^ (x &&& 255#32)) := by
    apply BitVec.eq_of_getLsbD_eq
    intro i _
    simp only [BitVec.getLsbD_xor, BitVec.getLsbD_and]
    cases x.getLsbD i <;> cases (255#32).getLsbD i <;> rfl
  have h2 : cr_bn 8 (x ^^^ (x &&& 255#32)) = (x ^^^ (x &&& 255#32)) >>> 8 := by
    apply cr_bn_high
    intro i hi
    rw [BitVec.getLsbD_xor, BitVec.getLsbD_and, cr_255, decide_eq_true hi]
    cases x.getLsbD i <;> rfl
  have h3 : (x ^^^ (x &&& 255#32)) >>> 8 = x >>> 8 := by
    apply BitVec.eq_of_getLsbD_eq
    intro i _
    rw [BitVec.getLsbD_ushiftRight, BitVec.getLsbD_ushiftRight, BitVec.getLsbD_xor, BitVec.getLsbD_and, cr_255, decide_eq_false (by omega)]
    cases x.getLsbD (8 + i) <;> rfl
  have h4 := cr_bn_xor 8 (x &&& 255#32) (x ^^^ (x &&& 255#32))
  rw [← h1, h2, h3] at h4
  exact h4
theorem cr_us_bv (x : Int32) (k : Nat) (hk : k < 32) : (cr_us x (nI k)).toBitVec = x.toBitVec >>> k := by
  have hs : (((nI k).toUInt32 &&& Int32.toUInt32 31).toBitVec % 32).toNat = k :=
    (by decide +kernel : ∀ n, n < 32 → (((nI n).toUInt32 &&& Int32.toUInt32 31).toBitVec % 32).toNat = n) k hk
  have e : (cr_us x (nI k)).toBitVec = x.toBitVec >>> (((nI k).toUInt32 &&& Int32.toUInt32 31).toBitVec % 32).toNat := UInt32.toBitVec_shiftRight _ _
  rw [e, hs]
theorem cr_bit (z : Int32) : z &&& 1 = 0 ↔ z.toBitVec.getLsbD 0 = false := by
  constructor
  · intro h
    have h2 : (z &&& 1).toBitVec.getLsbD 0 = (0 : Int32).toBitVec.getLsbD 0 := by rw [h]
    rw [Int32.toBitVec_and, BitVec.getLsbD_and, show (1 : Int32).toBitVec.getLsbD 0 = true from by decide, show (0 : Int32).toBitVec.getLsbD 0 = false from by decide, Bool.and_true] at h2
    exact h2
  · intro h
    apply Int32.toBitVec_inj.mp
    apply BitVec.eq_of_getLsbD_eq
    intro i hi
    rw [Int32.toBitVec_and, BitVec.getLsbD_and, (by decide +kernel : ∀ i, i < 32 → (0 : Int32).toBitVec.getLsbD i = false) i hi]
    by_cases h0 : i = 0
    · subst h0
      rw [h]
      rfl
    · rw [(by decide +kernel : ∀ i, i < 32 → i ≠ 0 → (1 : Int32).toBitVec.getLsbD i = false) i hi h0, Bool.and_false]
theorem cr_st_bv (y w : Int32) (k : Nat) (hk : k < 32) : (cr_st y w (nI k)).toBitVec = (y.toBitVec >>> 1) ^^^ cr_pl (y.toBitVec.getLsbD 0 ^^ w.toBitVec.getLsbD k) := by
  have hc : (y ^^^ cr_us w (nI k)) &&& 1 = 0 ↔ (y.toBitVec.getLsbD 0 ^^ w.toBitVec.getLsbD k) = false := by
    rw [cr_bit, Int32.toBitVec_xor, BitVec.getLsbD_xor, cr_us_bv w k hk, BitVec.getLsbD_ushiftRight, Nat.add_zero]
  have h1 : (cr_us y 1).toBitVec = y.toBitVec >>> 1 := cr_us_bv y 1 (by decide)
  unfold cr_st
  cases hB : (y.toBitVec.getLsbD 0 ^^ w.toBitVec.getLsbD k) with
  | false =>
    rw [if_pos (hc.mpr hB), h1, show cr_pl false = 0#32 from rfl, BitVec.xor_zero]
  | true =>
    rw [if_neg (fun h => by rw [hc.mp h] at hB; cases hB), Int32.toBitVec_xor, h1]
    rfl
theorem cr_inv (x w : Int32) (k : Nat) (hk : k ≤ 8) : (cr_it x w k).toBitVec ^^^ ((w.toBitVec &&& 255#32) >>> k) = cr_bn k (x.toBitVec ^^^ (w.toBitVec &&& 255#32)) := by
  induction k with
  | zero =>
    rw [BitVec.ushiftRight_zero]
    rfl
  | succ k ih =>
    have ih := ih (by omega)
    show (cr_st (cr_it x w k) w (nI k)).toBitVec ^^^ ((w.toBitVec &&& 255#32) >>> (k + 1)) = cr_bs (cr_bn k (x.toBitVec ^^^ (w.toBitVec &&& 255#32)))
    rw [← ih, cr_st_bv _ _ k (by omega)]
    unfold cr_bs
    rw [BitVec.ushiftRight_xor_distrib, ← BitVec.shiftRight_add, BitVec.getLsbD_xor, BitVec.getLsbD_ushiftRight, show k + 0 = k from rfl, BitVec.getLsbD_and, cr_255, decide_eq_true (show k < 8 by omega), Bool.and_true]
    exact cr_x3 _ _ _
theorem cr_idx (z : Int32) : BitVec.ofNat 32 (z &&& 255).toNatClampNeg = z.toBitVec &&& 255#32 := by
  obtain ⟨j, hj, e⟩ := pk_andE z (m := 255) 8 (by decide)
  have h : (nI j).toBitVec = z.toBitVec &&& 255#32 := by
    rw [← e, Int32.toBitVec_and]
    rfl
  rw [e, nI_clamp (Nat.lt_trans hj (by decide))]
  exact h
/-- the law's eight steps are update's one -/
theorem cr_main (x w : Int32) : cr_it x w 8 = cr_up x w := by
  apply Int32.toBitVec_inj.mp
  have hz : (w.toBitVec &&& 255#32) >>> 8 = 0#32 := by
    apply BitVec.eq_of_getLsbD_eq
    intro i _
    rw [BitVec.getLsbD_ushiftRight, BitVec.getLsbD_and, cr_255, decide_eq_false (by omega), Bool.and_false, BitVec.getLsbD_zero]
  have h := cr_inv x w 8 (Nat.le_refl 8)
  rw [hz, BitVec.xor_zero, cr_split, BitVec.ushiftRight_xor_distrib, hz, BitVec.xor_zero] at h
  have h8 : (cr_us x 8).toBitVec = x.toBitVec >>> 8 := cr_us_bv x 8 (by decide)
  have ht : (cr_tab ((x ^^^ (w &&& 255)) &&& 255).toNatClampNeg).toBitVec = cr_bn 8 ((x.toBitVec ^^^ (w.toBitVec &&& 255#32)) &&& 255#32) := by
    show cr_bn 8 (BitVec.ofNat 32 ((x ^^^ (w &&& 255)) &&& 255).toNatClampNeg) = _
    rw [cr_idx, Int32.toBitVec_xor, Int32.toBitVec_and]
    rfl
  unfold cr_up
  rw [h, Int32.toBitVec_xor, h8, ht, BitVec.xor_comm]
/-- the index stays in the table -/
theorem cr_in (z : Int32) : vp_in (z &&& 255) 256 := pk_andIn z (m := 255) 8 (by decide) (by decide)
/-- which of the two -/
theorem cr_which (z : Int32) : ∃ j : Nat, j < 2 ∧ z &&& 1 = nI j := pk_andE z (m := 1) 1 (by decide)
theorem cr_w01 {j : Nat} (hj : j < 2) : (nI j &&& 1 = 0 ∧ j = 0) ∨ (¬ nI j &&& 1 = 0 ∧ j = 1) := by
  rcases (show j = 0 ∨ j = 1 by omega) with rfl | rfl
  · exact Or.inl ⟨by decide, rfl⟩
  · exact Or.inr ⟨by decide, rfl⟩
theorem cr_cmp (x : Int64) : lg_cmp x x = 0 := by simp [lg_cmp]
end
section
/-! the 256 premises of the table, as one list -/
theorem tf_list : (flatC (Jvm.Cond.and given_1 narrow_1)).drop 7 = (List.range 256).map (fun j => Jvm.Cond.eq (.elem (.static "java/util/zip/CRC32C" "byteTable" "[I") (.int (Int32.ofNat j))) (.int (cr_tab j))) := by decide +kernel
theorem tf_mem (j : Nat) (hj : j < 256) : Jvm.Cond.eq (.elem (.static "java/util/zip/CRC32C" "byteTable" "[I") (.int (Int32.ofNat j))) (.int (cr_tab j)) ∈ flatC (Jvm.Cond.and given_1 narrow_1) := by
  refine List.mem_of_mem_drop (i := 7) ?_
  rw [tf_list]
  exact List.mem_map.mpr ⟨j, List.mem_range.mpr hj, rfl⟩
end
section
/-! Names, field tables, word lists, decode rows (printed by gen_names.py) -/
def R_Crc : String := "java/util/zip/CRC32C"
def F_Crc : u_T := fun k => match k with
  | _ => ("java/util/zip/CRC32C", "crc", "I", false)
def t_Crc : Nat → FieldType := fun k => match k with
  | _ => .int
abbrev w_Crc : List Cond := u_ws R_Crc F_Crc 1
def R_Drill : String := "CrcDrill"
def F_Drill : u_T := fun k => match k with
  | 0 => ("CrcDrill", "a", "Ljava/util/zip/CRC32C;", true)
  | _ => ("CrcDrill", "b", "Ljava/util/zip/CRC32C;", true)
def t_Drill : Nat → FieldType := fun k => match k with
  | 0 => .object "java/util/zip/CRC32C"
  | _ => .object "java/util/zip/CRC32C"
abbrev w_Drill : List Cond := u_ws R_Drill F_Drill 2
def R_law : String := "CrcDrillLaw"
abbrev b_Crc_init : ByteArray := prog_3_method_1_code
def y_Crc_init : MethodName := ⟨R_Crc, "<init>", "()V"⟩
abbrev b_Crc_update : ByteArray := prog_3_method_2_code
def y_Crc_update : MethodName := ⟨R_Crc, "update", "(I)V"⟩
abbrev b_Crc_getValue : ByteArray := prog_3_method_6_code
def y_Crc_getValue : MethodName := ⟨R_Crc, "getValue", "()J"⟩
abbrev b_Crc_reset : ByteArray := prog_3_method_5_code
def y_Crc_reset : MethodName := ⟨R_Crc, "reset", "()V"⟩
abbrev b_Drill_init : ByteArray := prog_1_method_1_code
def y_Drill_init : MethodName := ⟨R_Drill, "<init>", "()V"⟩
abbrev b_Drill_of : ByteArray := prog_1_method_2_code
def y_Drill_of : MethodName := ⟨R_Drill, "of", "(I)Ljava/util/zip/CRC32C;"⟩
abbrev b_Drill_take : ByteArray := prog_1_method_3_code
def y_Drill_take : MethodName := ⟨R_Drill, "take", "(II)V"⟩
abbrev b_Drill_value : ByteArray := prog_1_method_4_code
def y_Drill_value : MethodName := ⟨R_Drill, "value", "(I)J"⟩
abbrev b_Drill_reset : ByteArray := prog_1_method_5_code
def y_Drill_reset : MethodName := ⟨R_Drill, "reset", "(I)V"⟩
def w_Crc_init : List Cond := .code y_Crc_init b_Crc_init 1 none :: ([.methodLink R_Crc 1 objectInit, .instanceMethod objectInit, .code objectInit ⟨#[0xb1]⟩ 1 none, .fieldLink R_Crc 7 "java/util/zip/CRC32C" "crc" "I"] ++ w_Crc)
def w_Crc_update : List Cond := .code y_Crc_update b_Crc_update 2 none :: ([.fieldLink R_Crc 7 "java/util/zip/CRC32C" "crc" "I", .fieldLink R_Crc 13 "java/util/zip/CRC32C" "byteTable" "[I"] ++ w_Crc)
def w_Crc_getValue : List Cond := .code y_Crc_getValue b_Crc_getValue 1 (some .long) :: ([.fieldLink R_Crc 7 "java/util/zip/CRC32C" "crc" "I", .constantLong R_Crc 112 4294967295] ++ w_Crc)
def w_Crc_reset : List Cond := .code y_Crc_reset b_Crc_reset 1 none :: ([.fieldLink R_Crc 7 "java/util/zip/CRC32C" "crc" "I"] ++ w_Crc)
def w_Drill_init : List Cond := .code y_Drill_init b_Drill_init 1 none :: ([.methodLink R_Drill 1 objectInit, .instanceMethod objectInit, .code objectInit ⟨#[0xb1]⟩ 1 none, .classLink R_Drill 7 R_Crc, .instantiable R_Crc 1, .initialized R_Crc, .methodLink R_Drill 9 y_Crc_init, .instanceMethod y_Crc_init, .code y_Crc_init b_Crc_init 1 none, .methodLink R_Crc 1 objectInit, .fieldLink R_Crc 7 "java/util/zip/CRC32C" "crc" "I", .fieldLink R_Drill 10 "CrcDrill" "a" "Ljava/util/zip/CRC32C;", .fieldLink R_Drill 16 "CrcDrill" "b" "Ljava/util/zip/CRC32C;"] ++ w_Crc ++ w_Drill)
def w_Drill_of : List Cond := .code y_Drill_of b_Drill_of 2 (some (.object "java/util/zip/CRC32C")) :: ([.fieldLink R_Drill 10 "CrcDrill" "a" "Ljava/util/zip/CRC32C;", .fieldLink R_Drill 16 "CrcDrill" "b" "Ljava/util/zip/CRC32C;"] ++ w_Drill)
def w_Drill_take : List Cond := .code y_Drill_take b_Drill_take 3 none :: ([.methodLink R_Drill 19 y_Drill_of, .instanceMethod y_Drill_of, .selects R_Drill y_Drill_of y_Drill_of, .initialized R_Drill, .methodLink R_Drill 23 y_Crc_update, .instanceMethod y_Crc_update, .selects R_Crc y_Crc_update y_Crc_update, .initialized R_Crc] ++ w_Drill_of ++ w_Crc_update)
def w_Drill_value : List Cond := .code y_Drill_value b_Drill_value 2 (some .long) :: ([.methodLink R_Drill 19 y_Drill_of, .instanceMethod y_Drill_of, .selects R_Drill y_Drill_of y_Drill_of, .initialized R_Drill, .methodLink R_Drill 27 y_Crc_getValue, .instanceMethod y_Crc_getValue, .selects R_Crc y_Crc_getValue y_Crc_getValue, .initialized R_Crc] ++ w_Drill_of ++ w_Crc_getValue)
def w_Drill_reset : List Cond := .code y_Drill_reset b_Drill_reset 2 none :: ([.methodLink R_Drill 19 y_Drill_of, .instanceMethod y_Drill_of, .selects R_Drill y_Drill_of y_Drill_of, .initialized R_Drill, .methodLink R_Drill 31 y_Crc_reset, .instanceMethod y_Crc_reset, .selects R_Crc y_Crc_reset y_Crc_reset, .initialized R_Crc] ++ w_Drill_of ++ w_Crc_reset)
abbrev cr_cl : List vw_C := [(R_Crc, F_Crc, 1), (R_Drill, F_Drill, 2)]
theorem n_Crc : ∀ a, a < 1 → ∀ b, b < 1 → a ≠ b → (F_Crc a).2.1 ≠ (F_Crc b).2.1 := by decide +kernel
theorem t_Crc_ok : ∀ k, k < 1 → parseFieldDescriptor (F_Crc k).2.2.1 = some (t_Crc k) := by decide +kernel
theorem n_Drill : ∀ a, a < 2 → ∀ b, b < 2 → a ≠ b → (F_Drill a).2.1 ≠ (F_Drill b).2.1 := by decide +kernel
theorem t_Drill_ok : ∀ k, k < 2 → parseFieldDescriptor (F_Drill k).2.2.1 = some (t_Drill k) := by decide +kernel
theorem d_Crc_init_0 : decode b_Crc_init 0 = .ok (.aload_n 0, 1) := by decide +kernel
theorem d_Crc_init_1 : decode b_Crc_init 1 = .ok (.invokespecial 1, 3) := by decide +kernel
theorem d_Crc_init_4 : decode b_Crc_init 4 = .ok (.aload_n 0, 1) := by decide +kernel
theorem d_Crc_init_5 : decode b_Crc_init 5 = .ok (.iconst (-1), 1) := by decide +kernel
theorem d_Crc_init_6 : decode b_Crc_init 6 = .ok (.putfield 7, 3) := by decide +kernel
theorem d_Crc_init_9 : decode b_Crc_init 9 = .ok (.return_, 1) := by decide +kernel
theorem d_Crc_update_0 : decode b_Crc_update 0 = .ok (.aload_n 0, 1) := by decide +kernel
theorem d_Crc_update_1 : decode b_Crc_update 1 = .ok (.aload_n 0, 1) := by decide +kernel
theorem d_Crc_update_2 : decode b_Crc_update 2 = .ok (.getfield 7, 3) := by decide +kernel
theorem d_Crc_update_5 : decode b_Crc_update 5 = .ok (.bipush 8, 2) := by decide +kernel
theorem d_Crc_update_7 : decode b_Crc_update 7 = .ok (.iushr, 1) := by decide +kernel
theorem d_Crc_update_8 : decode b_Crc_update 8 = .ok (.getstatic 13, 3) := by decide +kernel
theorem d_Crc_update_11 : decode b_Crc_update 11 = .ok (.aload_n 0, 1) := by decide +kernel
theorem d_Crc_update_12 : decode b_Crc_update 12 = .ok (.getfield 7, 3) := by decide +kernel
theorem d_Crc_update_15 : decode b_Crc_update 15 = .ok (.iload_n 1, 1) := by decide +kernel
theorem d_Crc_update_16 : decode b_Crc_update 16 = .ok (.sipush 255, 3) := by decide +kernel
theorem d_Crc_update_19 : decode b_Crc_update 19 = .ok (.iand, 1) := by decide +kernel
theorem d_Crc_update_20 : decode b_Crc_update 20 = .ok (.ixor, 1) := by decide +kernel
theorem d_Crc_update_21 : decode b_Crc_update 21 = .ok (.sipush 255, 3) := by decide +kernel
theorem d_Crc_update_24 : decode b_Crc_update 24 = .ok (.iand, 1) := by decide +kernel
theorem d_Crc_update_25 : decode b_Crc_update 25 = .ok (.iaload, 1) := by decide +kernel
theorem d_Crc_update_26 : decode b_Crc_update 26 = .ok (.ixor, 1) := by decide +kernel
theorem d_Crc_update_27 : decode b_Crc_update 27 = .ok (.putfield 7, 3) := by decide +kernel
theorem d_Crc_update_30 : decode b_Crc_update 30 = .ok (.return_, 1) := by decide +kernel
theorem d_Crc_getValue_0 : decode b_Crc_getValue 0 = .ok (.aload_n 0, 1) := by decide +kernel
theorem d_Crc_getValue_1 : decode b_Crc_getValue 1 = .ok (.getfield 7, 3) := by decide +kernel
theorem d_Crc_getValue_4 : decode b_Crc_getValue 4 = .ok (.iconst (-1), 1) := by decide +kernel
theorem d_Crc_getValue_5 : decode b_Crc_getValue 5 = .ok (.ixor, 1) := by decide +kernel
theorem d_Crc_getValue_6 : decode b_Crc_getValue 6 = .ok (.i2l, 1) := by decide +kernel
theorem d_Crc_getValue_7 : decode b_Crc_getValue 7 = .ok (.ldc2_w 112, 3) := by decide +kernel
theorem d_Crc_getValue_10 : decode b_Crc_getValue 10 = .ok (.land, 1) := by decide +kernel
theorem d_Crc_getValue_11 : decode b_Crc_getValue 11 = .ok (.lreturn, 1) := by decide +kernel
theorem d_Crc_reset_0 : decode b_Crc_reset 0 = .ok (.aload_n 0, 1) := by decide +kernel
theorem d_Crc_reset_1 : decode b_Crc_reset 1 = .ok (.iconst (-1), 1) := by decide +kernel
theorem d_Crc_reset_2 : decode b_Crc_reset 2 = .ok (.putfield 7, 3) := by decide +kernel
theorem d_Crc_reset_5 : decode b_Crc_reset 5 = .ok (.return_, 1) := by decide +kernel
theorem d_Drill_init_0 : decode b_Drill_init 0 = .ok (.aload_n 0, 1) := by decide +kernel
theorem d_Drill_init_1 : decode b_Drill_init 1 = .ok (.invokespecial 1, 3) := by decide +kernel
theorem d_Drill_init_4 : decode b_Drill_init 4 = .ok (.aload_n 0, 1) := by decide +kernel
theorem d_Drill_init_5 : decode b_Drill_init 5 = .ok (.new 7, 3) := by decide +kernel
theorem d_Drill_init_8 : decode b_Drill_init 8 = .ok (.dup, 1) := by decide +kernel
theorem d_Drill_init_9 : decode b_Drill_init 9 = .ok (.invokespecial 9, 3) := by decide +kernel
theorem d_Drill_init_12 : decode b_Drill_init 12 = .ok (.putfield 10, 3) := by decide +kernel
theorem d_Drill_init_15 : decode b_Drill_init 15 = .ok (.aload_n 0, 1) := by decide +kernel
theorem d_Drill_init_16 : decode b_Drill_init 16 = .ok (.new 7, 3) := by decide +kernel
theorem d_Drill_init_19 : decode b_Drill_init 19 = .ok (.dup, 1) := by decide +kernel
theorem d_Drill_init_20 : decode b_Drill_init 20 = .ok (.invokespecial 9, 3) := by decide +kernel
theorem d_Drill_init_23 : decode b_Drill_init 23 = .ok (.putfield 16, 3) := by decide +kernel
theorem d_Drill_init_26 : decode b_Drill_init 26 = .ok (.return_, 1) := by decide +kernel
theorem d_Drill_of_0 : decode b_Drill_of 0 = .ok (.iload_n 1, 1) := by decide +kernel
theorem d_Drill_of_1 : decode b_Drill_of 1 = .ok (.iconst 1, 1) := by decide +kernel
theorem d_Drill_of_2 : decode b_Drill_of 2 = .ok (.iand, 1) := by decide +kernel
theorem d_Drill_of_3 : decode b_Drill_of 3 = .ok (.ifCond .ne 10, 3) := by decide +kernel
theorem d_Drill_of_6 : decode b_Drill_of 6 = .ok (.aload_n 0, 1) := by decide +kernel
theorem d_Drill_of_7 : decode b_Drill_of 7 = .ok (.getfield 10, 3) := by decide +kernel
theorem d_Drill_of_10 : decode b_Drill_of 10 = .ok (.goto 7, 3) := by decide +kernel
theorem d_Drill_of_13 : decode b_Drill_of 13 = .ok (.aload_n 0, 1) := by decide +kernel
theorem d_Drill_of_14 : decode b_Drill_of 14 = .ok (.getfield 16, 3) := by decide +kernel
theorem d_Drill_of_17 : decode b_Drill_of 17 = .ok (.areturn, 1) := by decide +kernel
theorem d_Drill_take_0 : decode b_Drill_take 0 = .ok (.aload_n 0, 1) := by decide +kernel
theorem d_Drill_take_1 : decode b_Drill_take 1 = .ok (.iload_n 1, 1) := by decide +kernel
theorem d_Drill_take_2 : decode b_Drill_take 2 = .ok (.invokevirtual 19, 3) := by decide +kernel
theorem d_Drill_take_5 : decode b_Drill_take 5 = .ok (.iload_n 2, 1) := by decide +kernel
theorem d_Drill_take_6 : decode b_Drill_take 6 = .ok (.invokevirtual 23, 3) := by decide +kernel
theorem d_Drill_take_9 : decode b_Drill_take 9 = .ok (.return_, 1) := by decide +kernel
theorem d_Drill_value_0 : decode b_Drill_value 0 = .ok (.aload_n 0, 1) := by decide +kernel
theorem d_Drill_value_1 : decode b_Drill_value 1 = .ok (.iload_n 1, 1) := by decide +kernel
theorem d_Drill_value_2 : decode b_Drill_value 2 = .ok (.invokevirtual 19, 3) := by decide +kernel
theorem d_Drill_value_5 : decode b_Drill_value 5 = .ok (.invokevirtual 27, 3) := by decide +kernel
theorem d_Drill_value_8 : decode b_Drill_value 8 = .ok (.lreturn, 1) := by decide +kernel
theorem d_Drill_reset_0 : decode b_Drill_reset 0 = .ok (.aload_n 0, 1) := by decide +kernel
theorem d_Drill_reset_1 : decode b_Drill_reset 1 = .ok (.iload_n 1, 1) := by decide +kernel
theorem d_Drill_reset_2 : decode b_Drill_reset 2 = .ok (.invokevirtual 19, 3) := by decide +kernel
theorem d_Drill_reset_5 : decode b_Drill_reset 5 = .ok (.invokevirtual 31, 3) := by decide +kernel
theorem d_Drill_reset_8 : decode b_Drill_reset 8 = .ok (.return_, 1) := by decide +kernel
theorem d_law_0 : decode code 0 = .ok (.new 7, 3) := by decide +kernel
theorem d_law_3 : decode code 3 = .ok (.dup, 1) := by decide +kernel
theorem d_law_4 : decode code 4 = .ok (.invokespecial 9, 3) := by decide +kernel
theorem d_law_7 : decode code 7 = .ok (.astore_n 1, 1) := by decide +kernel
theorem d_law_8 : decode code 8 = .ok (.iconst 2, 1) := by decide +kernel
theorem d_law_9 : decode code 9 = .ok (.newarray .int, 2) := by decide +kernel
theorem d_law_11 : decode code 11 = .ok (.dup, 1) := by decide +kernel
theorem d_law_12 : decode code 12 = .ok (.iconst 0, 1) := by decide +kernel
theorem d_law_13 : decode code 13 = .ok (.iconst (-1), 1) := by decide +kernel
theorem d_law_14 : decode code 14 = .ok (.iastore, 1) := by decide +kernel
theorem d_law_15 : decode code 15 = .ok (.dup, 1) := by decide +kernel
theorem d_law_16 : decode code 16 = .ok (.iconst 1, 1) := by decide +kernel
theorem d_law_17 : decode code 17 = .ok (.iconst (-1), 1) := by decide +kernel
theorem d_law_18 : decode code 18 = .ok (.iastore, 1) := by decide +kernel
theorem d_law_19 : decode code 19 = .ok (.astore_n 2, 1) := by decide +kernel
theorem d_law_20 : decode code 20 = .ok (.iconst 0, 1) := by decide +kernel
theorem d_law_21 : decode code 21 = .ok (.istore_n 3, 1) := by decide +kernel
theorem d_law_22 : decode code 22 = .ok (.iload_n 3, 1) := by decide +kernel
theorem d_law_23 : decode code 23 = .ok (.aload_n 0, 1) := by decide +kernel
theorem d_law_24 : decode code 24 = .ok (.arraylength, 1) := by decide +kernel
theorem d_law_25 : decode code 25 = .ok (.if_icmp .ge 158, 3) := by decide +kernel
theorem d_law_28 : decode code 28 = .ok (.aload_n 0, 1) := by decide +kernel
theorem d_law_29 : decode code 29 = .ok (.iload_n 3, 1) := by decide +kernel
theorem d_law_30 : decode code 30 = .ok (.iaload, 1) := by decide +kernel
theorem d_law_31 : decode code 31 = .ok (.istore 4, 2) := by decide +kernel
theorem d_law_33 : decode code 33 = .ok (.iload 4, 2) := by decide +kernel
theorem d_law_35 : decode code 35 = .ok (.bipush 8, 2) := by decide +kernel
theorem d_law_37 : decode code 37 = .ok (.ishr, 1) := by decide +kernel
theorem d_law_38 : decode code 38 = .ok (.iconst 1, 1) := by decide +kernel
theorem d_law_39 : decode code 39 = .ok (.iand, 1) := by decide +kernel
theorem d_law_40 : decode code 40 = .ok (.istore 5, 2) := by decide +kernel
theorem d_law_42 : decode code 42 = .ok (.iload 4, 2) := by decide +kernel
theorem d_law_44 : decode code 44 = .ok (.bipush 9, 2) := by decide +kernel
theorem d_law_46 : decode code 46 = .ok (.ishr, 1) := by decide +kernel
theorem d_law_47 : decode code 47 = .ok (.bipush 31, 2) := by decide +kernel
theorem d_law_49 : decode code 49 = .ok (.iand, 1) := by decide +kernel
theorem d_law_50 : decode code 50 = .ok (.bipush 31, 2) := by decide +kernel
theorem d_law_52 : decode code 52 = .ok (.if_icmp .ne 17, 3) := by decide +kernel
theorem d_law_55 : decode code 55 = .ok (.aload_n 1, 1) := by decide +kernel
theorem d_law_56 : decode code 56 = .ok (.iload 5, 2) := by decide +kernel
theorem d_law_58 : decode code 58 = .ok (.invokevirtual 10, 3) := by decide +kernel
theorem d_law_61 : decode code 61 = .ok (.aload_n 2, 1) := by decide +kernel
theorem d_law_62 : decode code 62 = .ok (.iload 5, 2) := by decide +kernel
theorem d_law_64 : decode code 64 = .ok (.iconst (-1), 1) := by decide +kernel
theorem d_law_65 : decode code 65 = .ok (.iastore, 1) := by decide +kernel
theorem d_law_66 : decode code 66 = .ok (.goto 71, 3) := by decide +kernel
theorem d_law_69 : decode code 69 = .ok (.aload_n 1, 1) := by decide +kernel
theorem d_law_70 : decode code 70 = .ok (.iload 5, 2) := by decide +kernel
theorem d_law_72 : decode code 72 = .ok (.iload 4, 2) := by decide +kernel
theorem d_law_74 : decode code 74 = .ok (.invokevirtual 14, 3) := by decide +kernel
theorem d_law_77 : decode code 77 = .ok (.iconst 0, 1) := by decide +kernel
theorem d_law_78 : decode code 78 = .ok (.istore 6, 2) := by decide +kernel
theorem d_law_80 : decode code 80 = .ok (.iload 6, 2) := by decide +kernel
theorem d_law_82 : decode code 82 = .ok (.bipush 8, 2) := by decide +kernel
theorem d_law_84 : decode code 84 = .ok (.if_icmp .ge 53, 3) := by decide +kernel
theorem d_law_87 : decode code 87 = .ok (.aload_n 2, 1) := by decide +kernel
theorem d_law_88 : decode code 88 = .ok (.iload 5, 2) := by decide +kernel
theorem d_law_90 : decode code 90 = .ok (.iaload, 1) := by decide +kernel
theorem d_law_91 : decode code 91 = .ok (.iload 4, 2) := by decide +kernel
theorem d_law_93 : decode code 93 = .ok (.iload 6, 2) := by decide +kernel
theorem d_law_95 : decode code 95 = .ok (.iushr, 1) := by decide +kernel
theorem d_law_96 : decode code 96 = .ok (.ixor, 1) := by decide +kernel
theorem d_law_97 : decode code 97 = .ok (.iconst 1, 1) := by decide +kernel
theorem d_law_98 : decode code 98 = .ok (.iand, 1) := by decide +kernel
theorem d_law_99 : decode code 99 = .ok (.ifCond .eq 7, 3) := by decide +kernel
theorem d_law_102 : decode code 102 = .ok (.iconst 1, 1) := by decide +kernel
theorem d_law_103 : decode code 103 = .ok (.goto 4, 3) := by decide +kernel
theorem d_law_106 : decode code 106 = .ok (.iconst 0, 1) := by decide +kernel
theorem d_law_107 : decode code 107 = .ok (.istore 7, 2) := by decide +kernel
theorem d_law_109 : decode code 109 = .ok (.aload_n 2, 1) := by decide +kernel
theorem d_law_110 : decode code 110 = .ok (.iload 5, 2) := by decide +kernel
theorem d_law_112 : decode code 112 = .ok (.dup2, 1) := by decide +kernel
theorem d_law_113 : decode code 113 = .ok (.iaload, 1) := by decide +kernel
theorem d_law_114 : decode code 114 = .ok (.iconst 1, 1) := by decide +kernel
theorem d_law_115 : decode code 115 = .ok (.iushr, 1) := by decide +kernel
theorem d_law_116 : decode code 116 = .ok (.iastore, 1) := by decide +kernel
theorem d_law_117 : decode code 117 = .ok (.iload 7, 2) := by decide +kernel
theorem d_law_119 : decode code 119 = .ok (.ifCond .eq 12, 3) := by decide +kernel
theorem d_law_122 : decode code 122 = .ok (.aload_n 2, 1) := by decide +kernel
theorem d_law_123 : decode code 123 = .ok (.iload 5, 2) := by decide +kernel
theorem d_law_125 : decode code 125 = .ok (.dup2, 1) := by decide +kernel
theorem d_law_126 : decode code 126 = .ok (.iaload, 1) := by decide +kernel
theorem d_law_127 : decode code 127 = .ok (.ldc 18, 2) := by decide +kernel
theorem d_law_129 : decode code 129 = .ok (.ixor, 1) := by decide +kernel
theorem d_law_130 : decode code 130 = .ok (.iastore, 1) := by decide +kernel
theorem d_law_131 : decode code 131 = .ok (.iinc 6 1, 3) := by decide +kernel
theorem d_law_134 : decode code 134 = .ok (.goto (-54), 3) := by decide +kernel
theorem d_law_137 : decode code 137 = .ok (.aload_n 1, 1) := by decide +kernel
theorem d_law_138 : decode code 138 = .ok (.iconst 0, 1) := by decide +kernel
theorem d_law_139 : decode code 139 = .ok (.invokevirtual 19, 3) := by decide +kernel
theorem d_law_142 : decode code 142 = .ok (.aload_n 2, 1) := by decide +kernel
theorem d_law_143 : decode code 143 = .ok (.iconst 0, 1) := by decide +kernel
theorem d_law_144 : decode code 144 = .ok (.iaload, 1) := by decide +kernel
theorem d_law_145 : decode code 145 = .ok (.iconst (-1), 1) := by decide +kernel
theorem d_law_146 : decode code 146 = .ok (.ixor, 1) := by decide +kernel
theorem d_law_147 : decode code 147 = .ok (.i2l, 1) := by decide +kernel
theorem d_law_148 : decode code 148 = .ok (.ldc2_w 23, 3) := by decide +kernel
theorem d_law_151 : decode code 151 = .ok (.land, 1) := by decide +kernel
theorem d_law_152 : decode code 152 = .ok (.lcmp, 1) := by decide +kernel
theorem d_law_153 : decode code 153 = .ok (.ifCond .ne 22, 3) := by decide +kernel
theorem d_law_156 : decode code 156 = .ok (.aload_n 1, 1) := by decide +kernel
theorem d_law_157 : decode code 157 = .ok (.iconst 1, 1) := by decide +kernel
theorem d_law_158 : decode code 158 = .ok (.invokevirtual 19, 3) := by decide +kernel
theorem d_law_161 : decode code 161 = .ok (.aload_n 2, 1) := by decide +kernel
theorem d_law_162 : decode code 162 = .ok (.iconst 1, 1) := by decide +kernel
theorem d_law_163 : decode code 163 = .ok (.iaload, 1) := by decide +kernel
theorem d_law_164 : decode code 164 = .ok (.iconst (-1), 1) := by decide +kernel
theorem d_law_165 : decode code 165 = .ok (.ixor, 1) := by decide +kernel
theorem d_law_166 : decode code 166 = .ok (.i2l, 1) := by decide +kernel
theorem d_law_167 : decode code 167 = .ok (.ldc2_w 23, 3) := by decide +kernel
theorem d_law_170 : decode code 170 = .ok (.land, 1) := by decide +kernel
theorem d_law_171 : decode code 171 = .ok (.lcmp, 1) := by decide +kernel
theorem d_law_172 : decode code 172 = .ok (.ifCond .eq 5, 3) := by decide +kernel
theorem d_law_175 : decode code 175 = .ok (.iconst 0, 1) := by decide +kernel
theorem d_law_176 : decode code 176 = .ok (.ireturn, 1) := by decide +kernel
theorem d_law_177 : decode code 177 = .ok (.iinc 3 1, 3) := by decide +kernel
theorem d_law_180 : decode code 180 = .ok (.goto (-158), 3) := by decide +kernel
theorem d_law_183 : decode code 183 = .ok (.iconst 1, 1) := by decide +kernel
theorem d_law_184 : decode code 184 = .ok (.ireturn, 1) := by decide +kernel
set_option maxRecDepth 20000 in
theorem g_Drill_init_Crc_init : GoodIn w_Drill_init (w_Crc_init) := goodIn_p _ [9, 3] rfl (by decide +kernel)
set_option maxRecDepth 20000 in
theorem g_Drill_take_of : GoodIn w_Drill_take (wsV R_Drill 19 R_Drill y_Drill_of w_Drill_of) := goodIn_p _ [9] rfl (by decide +kernel)
set_option maxRecDepth 20000 in
theorem g_Drill_take_Crc_update : GoodIn w_Drill_take (wsV R_Drill 23 R_Crc y_Crc_update w_Crc_update) := goodIn_p _ [14] rfl (by decide +kernel)
set_option maxRecDepth 20000 in
theorem g_Drill_value_of : GoodIn w_Drill_value (wsV R_Drill 19 R_Drill y_Drill_of w_Drill_of) := goodIn_p _ [9] rfl (by decide +kernel)
set_option maxRecDepth 20000 in
theorem g_Drill_value_Crc_getValue : GoodIn w_Drill_value (wsV R_Drill 27 R_Crc y_Crc_getValue w_Crc_getValue) := goodIn_p _ [14] rfl (by decide +kernel)
set_option maxRecDepth 20000 in
theorem g_Drill_reset_of : GoodIn w_Drill_reset (wsV R_Drill 19 R_Drill y_Drill_of w_Drill_of) := goodIn_p _ [9] rfl (by decide +kernel)
set_option maxRecDepth 20000 in
theorem g_Drill_reset_Crc_reset : GoodIn w_Drill_reset (wsV R_Drill 31 R_Crc y_Crc_reset w_Crc_reset) := goodIn_p _ [14] rfl (by decide +kernel)
def lw_privs : List (MethodName × Nat) := [(y_Drill_of, 2)]
def lw_tbl : List Cond := k2_sels lw_privs ++ tables_1
theorem lw_privs_ok : ∀ q ∈ lw_privs, (q.1.cls ≠ "java/lang/invoke/MethodHandle" ∧ q.1.cls ≠ "java/lang/invoke/VarHandle") ∧ Cond.instantiable q.1.cls q.2 ∈ tables_1 ∧ Cond.privateMethod q.1 ∈ tables_1 ∧ Cond.instanceMethod q.1 ∈ tables_1 := by
  intro q hq
  rw [List.mem_singleton.mp hq]
  exact ⟨by decide +kernel, by decide +kernel, by decide +kernel, by decide +kernel⟩
set_option maxRecDepth 20000 in
theorem g_law_init : GoodIn lw_tbl (w_Drill_init) := goodIn_p _ [8, 11, 16] rfl (by decide +kernel)
set_option maxRecDepth 20000 in
theorem g_law_take : GoodIn lw_tbl (wsV R_law 14 R_Drill y_Drill_take w_Drill_take) := goodIn_p _ [32, 36, 40] rfl (by decide +kernel)
set_option maxRecDepth 20000 in
theorem g_law_value : GoodIn lw_tbl (wsV R_law 19 R_Drill y_Drill_value w_Drill_value) := goodIn_p _ [46, 36, 50] rfl (by decide +kernel)
set_option maxRecDepth 20000 in
theorem g_law_reset : GoodIn lw_tbl (wsV R_law 10 R_Drill y_Drill_reset w_Drill_reset) := goodIn_p _ [55, 36, 59] rfl (by decide +kernel)
end
section
/-! The contracts of java.util.zip.CRC32C: <init>, update, getValue, reset (printed by gen_contracts.py) -/
/-- the world behind a method -/
abbrev at_W (dC : Nat → ClassId) (dI : Nat → Nat → Nat) (A : Nat → Prop) (ws : va_W) (t : State) : Prop := va_P (dC, dI) cr_cl ws t.heap ∧ va_K (dC, dI) cr_cl [] t ∧ va_D A ws
/-- the static table of CRC32C: where it is, what it holds; none of A is its place -/
def tb_ok (t : Nat) (A : Nat → Prop) (U : State) (H : Heap) : Prop := va_Z "java/util/zip/CRC32C" "byteTable" "[I" (.ref t) A U H ∧ va_T .int t 256 (fun j => .int (cr_tab j)) A U H
theorem tb_ok.moved {t : Nat} {A : Nat → Prop} {u U : State} {H : Heap} (hvm : u.vm.Alike U.vm) (h : tb_ok t A u H) : tb_ok t A U H := ⟨va_Z.moved hvm h.1, va_T.moved hvm h.2⟩
theorem tb_ok.use {t : Nat} {A B : Nat → Prop} {s U : State} {H : Heap} {locs : List Loc} (h : tb_ok t A s s.heap) (hS : va_S A s.heap H locs) (hAB : ∀ q, B q → A q) (hU : U.heap = H) (hvm : s.vm.Alike U.vm) : tb_ok t B U U.heap := by
  rw [hU]
  exact ⟨va_Z.moved hvm ((h.1.kept hS.2.1).narrow hAB), va_T.moved hvm ((h.2.kept hS.2.1).narrow hAB)⟩
set_option maxHeartbeats 4000000 in
/-- CRC32C(): the sum is -1 -/
theorem c_Crc_init (l : Launch) (dC : Nat → ClassId) (dI : Nat → Nat → Nat) (h0 : Nat) (sz : Nat) (f : Int32) : Met l y_Crc_init w_Crc_init ({ frames := 1, cells := 0, slots := 0, locals := 12 }) (va_Pc [.ref h0] (fun U => U.heap.size = sz ∧ va_P (dC, dI) cr_cl [(h0, .inr (0, [.int f]))] U.heap ∧ va_K (dC, dI) cr_cl [] U ∧ va_D (fun _ => True) [(h0, .inr (0, [.int f]))])) (va_Qv (fun _ : Unit => True) (fun _ => at_W dC dI (va_A [(h0, .inr (0, [.int f]))] sz) [(h0, .inr (0, [.int (-1)]))]) (va_A [(h0, .inr (0, [.int f]))] sz)) 0 0 (va_A [(h0, .inr (0, [.int f]))] sz) := by
  refine Met.ofW (cc := b_Crc_init) (maxL := 1) (ret := none) (by decide) rfl ?_
  intro p e s m args below meth c s₁ B hml hv
  obtain ⟨rfl, hsz, hP, hK, hD0⟩ := hv
  have hx := B.exec
  have hb := B.bytes
  have hr := B.returns
  have hts := atoms_spec (ws := w_Crc_init) B.pre
  have hown : s.vm.findClass R_Crc = some m.cls := findClass_of_methodNamed B.named
  have hlocks := B.notSynchronized
  have hin : meth.name = "<init>" := (name_of_methodNamed B.named B.method).1
  subst hsz
  have hD := hD0.self (sz := s.heap.size)
  generalize hAe : va_A [(h0, .inr (0, [.int f]))] s.heap.size = A at hD ⊢
  have hA : ∀ q : Nat, s.heap.size ≤ q → A q := fun q h => by rw [← hAe]; exact Or.inr h
  have hS : va_S A s.heap s.heap [] := va_S.rf
  have hP : va_P (dC, dI) cr_cl [(h0, .inr (0, [.int f]))] s.heap := hP
  have hl := lv_entry ([.ref h0]) (n := 1) (Nat.le_of_ble_eq_true rfl)
  rw [lg_entry_eq]
  generalize (lg_sl ([.ref h0]) ++ List.replicate (1 - (lg_sl ([.ref h0])).length) Slot.unset).toArray = ls at hl ⊢
  have hl : lv_has ls 1 [(0, .ref h0)] := hl
  refine lv_aload_n hx hb d_Crc_init_0 rfl (lv_at hl 0 rfl) ?_
  refine W.objInit hx hb hown (hts (.methodLink R_Crc 1 objectInit) (by decide +kernel)) (hts (.instanceMethod objectInit) (by decide +kernel)) (hts _ (List.mem_of_getElem? (i := 3) rfl)) rfl (by rw [hml]; exact hl.1) rfl d_Crc_init_1 (Nat.le_of_ble_eq_true rfl) (Nat.le_of_ble_eq_true rfl) ?_
  refine W.eq (g2 := F0 m 4 ls []) rfl ?_
  refine lv_aload_n hx hb d_Crc_init_4 rfl (lv_at hl 0 rfl) ?_
  refine lv_iconst (v := -1) hx hb d_Crc_init_5 (by decide) ?_
  refine va_put (D := (dC, dI)) (ci := 0) (v := .int (-1)) (ty := .int) (C := R_Crc) (T := F_Crc) (N := 1) hx hb hts (by decide +kernel) t_Crc t_Crc_ok n_Crc hown hK hP hD hS 0 rfl rfl 0 (by decide) (hts (.fieldLink R_Crc 7 "java/util/zip/CRC32C" "crc" "I") (by decide +kernel)) (fun _ h9 => h9) rfl (by decide +kernel) rfl rfl (Nat.le_of_ble_eq_true rfl) d_Crc_init_6 (fun H locs hP hD hS => ?_)
  have hP : va_P (dC, dI) cr_cl [(h0, .inr (0, [.int (-1)]))] H := hP
  have hD : va_D A [(h0, .inr (0, [.int (-1)]))] := hD
  exact W.vret hx hb hr (fun t9 ht hW => ⟨⟨(), rfl, trivial, by rw [ht]; exact hP, va_K.moved hW.alike hK, hD⟩, hS.F ht⟩) hS.2.2 d_Crc_init_9
set_option maxHeartbeats 4000000 in
/-- reset(): the sum is -1 -/
theorem c_Crc_reset (l : Launch) (dC : Nat → ClassId) (dI : Nat → Nat → Nat) (h0 : Nat) (sz : Nat) (f : Int32) : Met l y_Crc_reset w_Crc_reset ({ frames := 0, cells := 0, slots := 0, locals := 0 }) (va_Pc [.ref h0] (fun U => U.heap.size = sz ∧ va_P (dC, dI) cr_cl [(h0, .inr (0, [.int f]))] U.heap ∧ va_K (dC, dI) cr_cl [] U ∧ va_D (fun _ => True) [(h0, .inr (0, [.int f]))])) (va_Qv (fun _ : Unit => True) (fun _ => at_W dC dI (va_A [(h0, .inr (0, [.int f]))] sz) [(h0, .inr (0, [.int (-1)]))]) (va_A [(h0, .inr (0, [.int f]))] sz)) 0 0 (va_A [(h0, .inr (0, [.int f]))] sz) := by
  refine Met.ofW (cc := b_Crc_reset) (maxL := 1) (ret := none) (by decide) rfl ?_
  intro p e s m args below meth c s₁ B hml hv
  obtain ⟨rfl, hsz, hP, hK, hD0⟩ := hv
  have hx := B.exec
  have hb := B.bytes
  have hr := B.returns
  have hts := atoms_spec (ws := w_Crc_reset) B.pre
  have hown : s.vm.findClass R_Crc = some m.cls := findClass_of_methodNamed B.named
  have hlocks := B.notSynchronized
  subst hsz
  have hD := hD0.self (sz := s.heap.size)
  generalize hAe : va_A [(h0, .inr (0, [.int f]))] s.heap.size = A at hD ⊢
  have hA : ∀ q : Nat, s.heap.size ≤ q → A q := fun q h => by rw [← hAe]; exact Or.inr h
  have hS : va_S A s.heap s.heap [] := va_S.rf
  have hP : va_P (dC, dI) cr_cl [(h0, .inr (0, [.int f]))] s.heap := hP
  have hl := lv_entry ([.ref h0]) (n := 1) (Nat.le_of_ble_eq_true rfl)
  rw [lg_entry_eq]
  generalize (lg_sl ([.ref h0]) ++ List.replicate (1 - (lg_sl ([.ref h0])).length) Slot.unset).toArray = ls at hl ⊢
  have hl : lv_has ls 1 [(0, .ref h0)] := hl
  refine lv_aload_n hx hb d_Crc_reset_0 rfl (lv_at hl 0 rfl) ?_
  refine lv_iconst (v := -1) hx hb d_Crc_reset_1 (by decide) ?_
  refine va_put (D := (dC, dI)) (ci := 0) (v := .int (-1)) (ty := .int) (C := R_Crc) (T := F_Crc) (N := 1) hx hb hts (by decide +kernel) t_Crc t_Crc_ok n_Crc hown hK hP hD hS 0 rfl rfl 0 (by decide) (hts (.fieldLink R_Crc 7 "java/util/zip/CRC32C" "crc" "I") (by decide +kernel)) (fun _ h9 => h9) rfl (by decide +kernel) rfl rfl (Nat.le_of_ble_eq_true rfl) d_Crc_reset_2 (fun H locs hP hD hS => ?_)
  have hP : va_P (dC, dI) cr_cl [(h0, .inr (0, [.int (-1)]))] H := hP
  have hD : va_D A [(h0, .inr (0, [.int (-1)]))] := hD
  exact W.vret hx hb hr (fun t9 ht hW => ⟨⟨(), rfl, trivial, by rw [ht]; exact hP, va_K.moved hW.alike hK, hD⟩, hS.F ht⟩) hS.2.2 d_Crc_reset_5
set_option maxHeartbeats 4000000 in
/-- getValue(): the sum, all bits turned, as a long; the sum stays -/
theorem c_Crc_getValue (l : Launch) (dC : Nat → ClassId) (dI : Nat → Nat → Nat) (h0 : Nat) (sz : Nat) (f : Int32) : Met l y_Crc_getValue w_Crc_getValue ({ frames := 0, cells := 0, slots := 0, locals := 0 }) (va_Pc [.ref h0] (fun U => U.heap.size = sz ∧ va_P (dC, dI) cr_cl [(h0, .inr (0, [.int f]))] U.heap ∧ va_K (dC, dI) cr_cl [] U ∧ va_D (fun _ => True) [(h0, .inr (0, [.int f]))])) (va_Ql (fun (r : Int64) (_ : Unit) => r = cr_v f) (fun _ => at_W dC dI (va_A [(h0, .inr (0, [.int f]))] sz) [(h0, .inr (0, [.int f]))]) (va_A [(h0, .inr (0, [.int f]))] sz)) 0 0 (va_A [(h0, .inr (0, [.int f]))] sz) := by
  refine Met.ofW (cc := b_Crc_getValue) (maxL := 1) (ret := (some .long)) (by decide) rfl ?_
  intro p e s m args below meth c s₁ B hml hv
  obtain ⟨rfl, hsz, hP, hK, hD0⟩ := hv
  have hx := B.exec
  have hb := B.bytes
  have hr := B.returns
  have hts := atoms_spec (ws := w_Crc_getValue) B.pre
  have hown : s.vm.findClass R_Crc = some m.cls := findClass_of_methodNamed B.named
  have hlocks := B.notSynchronized
  subst hsz
  have hD := hD0.self (sz := s.heap.size)
  generalize hAe : va_A [(h0, .inr (0, [.int f]))] s.heap.size = A at hD ⊢
  have hA : ∀ q : Nat, s.heap.size ≤ q → A q := fun q h => by rw [← hAe]; exact Or.inr h
  have hS : va_S A s.heap s.heap [] := va_S.rf
  have hP : va_P (dC, dI) cr_cl [(h0, .inr (0, [.int f]))] s.heap := hP
  have hl := lv_entry ([.ref h0]) (n := 1) (Nat.le_of_ble_eq_true rfl)
  rw [lg_entry_eq]
  generalize (lg_sl ([.ref h0]) ++ List.replicate (1 - (lg_sl ([.ref h0])).length) Slot.unset).toArray = ls at hl ⊢
  have hl : lv_has ls 1 [(0, .ref h0)] := hl
  refine lv_aload_n hx hb d_Crc_getValue_0 rfl (lv_at hl 0 rfl) ?_
  refine va_get (D := (dC, dI)) (ci := 0) (v := .int f) (C := R_Crc) (T := F_Crc) (N := 1) hx hb hts (by decide +kernel) hown hK hP 0 rfl rfl 0 (by decide) (hts (.fieldLink R_Crc 7 "java/util/zip/CRC32C" "crc" "I") (by decide +kernel)) (fun _ h9 => h9) rfl d_Crc_getValue_1 ?_
  refine lv_iconst (v := -1) hx hb d_Crc_getValue_4 (by decide) ?_
  refine lv_ixor hx hb d_Crc_getValue_5 ?_
  refine lv_i2l hx hb d_Crc_getValue_6 rfl ?_
  refine lv_ldc2 hx hb hown (hts (.constantLong R_Crc 112 4294967295) (by decide +kernel)) d_Crc_getValue_7 ?_
  refine lv_land hx hb d_Crc_getValue_10 ?_
  exact W.lret (v := cr_v f) hx hb hr (fun t9 ht hW => ⟨⟨cr_v f, (), rfl, rfl, by rw [ht]; exact hP, va_K.moved hW.alike hK, hD⟩, hS.F ht⟩) hS.2.2 d_Crc_getValue_11
set_option maxHeartbeats 4000000 in
/-- update(v): one step by the table -/
theorem c_Crc_update (l : Launch) (dC : Nat → ClassId) (dI : Nat → Nat → Nat) (h0 : Nat) (sz : Nat) (t : Nat) (f v : Int32) : Met l y_Crc_update w_Crc_update ({ frames := 0, cells := 0, slots := 0, locals := 0 }) (va_Pc [.ref h0, .int v] (fun U => U.heap.size = sz ∧ va_P (dC, dI) cr_cl [(h0, .inr (0, [.int f]))] U.heap ∧ va_K (dC, dI) cr_cl [] U ∧ va_D (fun _ => True) [(h0, .inr (0, [.int f]))] ∧ tb_ok t (va_A [(h0, .inr (0, [.int f]))] sz) U U.heap)) (va_Qv (fun _ : Unit => True) (fun _ => at_W dC dI (va_A [(h0, .inr (0, [.int f]))] sz) [(h0, .inr (0, [.int (cr_up f v)]))]) (va_A [(h0, .inr (0, [.int f]))] sz)) 0 0 (va_A [(h0, .inr (0, [.int f]))] sz) := by
  refine Met.ofW (cc := b_Crc_update) (maxL := 2) (ret := none) (by decide) rfl ?_
  intro p e s m args below meth c s₁ B hml hv
  obtain ⟨rfl, hsz, hP, hK, hD0, hTB⟩ := hv
  have hx := B.exec
  have hb := B.bytes
  have hr := B.returns
  have hts := atoms_spec (ws := w_Crc_update) B.pre
  have hown : s.vm.findClass R_Crc = some m.cls := findClass_of_methodNamed B.named
  have hlocks := B.notSynchronized
  subst hsz
  have hD := hD0.self (sz := s.heap.size)
  generalize hAe : va_A [(h0, .inr (0, [.int f]))] s.heap.size = A at hD hTB ⊢
  have hA : ∀ q : Nat, s.heap.size ≤ q → A q := fun q h => by rw [← hAe]; exact Or.inr h
  have hS : va_S A s.heap s.heap [] := va_S.rf
  have hP : va_P (dC, dI) cr_cl [(h0, .inr (0, [.int f]))] s.heap := hP
  have hl := lv_entry ([.ref h0, .int v]) (n := 2) (Nat.le_of_ble_eq_true rfl)
  rw [lg_entry_eq]
  generalize (lg_sl ([.ref h0, .int v]) ++ List.replicate (2 - (lg_sl ([.ref h0, .int v])).length) Slot.unset).toArray = ls at hl ⊢
  have hl : lv_has ls 2 [(0, .ref h0), (1, .int v)] := hl
  refine lv_aload_n hx hb d_Crc_update_0 rfl (lv_at hl 0 rfl) ?_
  refine lv_aload_n hx hb d_Crc_update_1 rfl (lv_at hl 0 rfl) ?_
  refine va_get (D := (dC, dI)) (ci := 0) (v := .int f) (C := R_Crc) (T := F_Crc) (N := 1) hx hb hts (by decide +kernel) hown hK hP 0 rfl rfl 0 (by decide) (hts (.fieldLink R_Crc 7 "java/util/zip/CRC32C" "crc" "I") (by decide +kernel)) (fun _ h9 => h9) rfl d_Crc_update_2 ?_
  refine lv_bipush (v := 8) hx hb d_Crc_update_5 (by decide) ?_
  refine lv_iushr (v := cr_us f 8) hx hb d_Crc_update_7 rfl ?_
  refine va_gets hx hb hTB.1 hS hown (hts (.fieldLink R_Crc 13 "java/util/zip/CRC32C" "byteTable" "[I") (by decide +kernel)) (fun _ h9 => h9) d_Crc_update_8 ?_
  refine lv_aload_n hx hb d_Crc_update_11 rfl (lv_at hl 0 rfl) ?_
  refine va_get (D := (dC, dI)) (ci := 0) (v := .int f) (C := R_Crc) (T := F_Crc) (N := 1) hx hb hts (by decide +kernel) hown hK hP 0 rfl rfl 0 (by decide) (hts (.fieldLink R_Crc 7 "java/util/zip/CRC32C" "crc" "I") (by decide +kernel)) (fun _ h9 => h9) rfl d_Crc_update_12 ?_
  refine lv_iload_n hx hb d_Crc_update_15 rfl (lv_at hl 1 rfl) ?_
  refine lv_sipush (v := 255) hx hb d_Crc_update_16 (by decide) ?_
  refine lv_iand hx hb d_Crc_update_19 ?_
  refine lv_ixor hx hb d_Crc_update_20 ?_
  refine lv_sipush (v := 255) hx hb d_Crc_update_21 (by decide) ?_
  refine lv_iand hx hb d_Crc_update_24 ?_
  refine va_ti hx hb hTB.2 hS (cr_in _) rfl d_Crc_update_25 ?_
  refine lv_ixor hx hb d_Crc_update_26 ?_
  refine W.eq (g2 := F0 m 27 ls [.int (cr_up f v), .ref h0]) rfl ?_
  refine va_put (D := (dC, dI)) (ci := 0) (v := .int (cr_up f v)) (ty := .int) (C := R_Crc) (T := F_Crc) (N := 1) hx hb hts (by decide +kernel) t_Crc t_Crc_ok n_Crc hown hK hP hD hS 0 rfl rfl 0 (by decide) (hts (.fieldLink R_Crc 7 "java/util/zip/CRC32C" "crc" "I") (by decide +kernel)) (fun _ h9 => h9) rfl (by decide +kernel) rfl rfl (Nat.le_of_ble_eq_true rfl) d_Crc_update_27 (fun H locs hP hD hS => ?_)
  have hP : va_P (dC, dI) cr_cl [(h0, .inr (0, [.int (cr_up f v)]))] H := hP
  have hD : va_D A [(h0, .inr (0, [.int (cr_up f v)]))] := hD
  exact W.vret hx hb hr (fun t9 ht hW => ⟨⟨(), rfl, trivial, by rw [ht]; exact hP, va_K.moved hW.alike hK, hD⟩, hS.F ht⟩) hS.2.2 d_Crc_update_30
end
section
/-! The contracts of CrcDrill: <init>, of, take, value, reset (printed by gen_contracts.py) -/
/-- the two sums: f 0 and f 1 -/
abbrev dr_W (h0 q1 q2 : Nat) (f : Nat → Int32) : va_W := [(h0, .inr (1, [.ref q1, .ref q2])), (q1, .inr (0, [.int (f 0)])), (q2, .inr (0, [.int (f 1)]))]
set_option maxHeartbeats 4000000 in
/-- CrcDrill(): two new sums of -1 -/
theorem c_Drill_init (l : Launch) (dC : Nat → ClassId) (dI : Nat → Nat → Nat) (h0 : Nat) (sz : Nat) : Met l y_Drill_init w_Drill_init ({ frames := 2, cells := 2, slots := 2, locals := 32 }) (va_Pc [.ref h0] (fun U => U.heap.size = sz ∧ va_P (dC, dI) cr_cl [(h0, .inr (1, [.null, .null]))] U.heap ∧ va_K (dC, dI) cr_cl [] U ∧ va_D (fun _ => True) [(h0, .inr (1, [.null, .null]))])) (va_Qv (fun _ : Unit => True) (fun _ u => ∃ q1 q2 : Nat, at_W dC dI (va_A [(h0, .inr (1, [.null, .null]))] sz) (dr_W h0 q1 q2 (fun _ => -1)) u) (va_A [(h0, .inr (1, [.null, .null]))] sz)) 2 2 (va_A [(h0, .inr (1, [.null, .null]))] sz) := by
  refine Met.ofW (cc := b_Drill_init) (maxL := 1) (ret := none) (by decide) rfl ?_
  intro p e s m args below meth c s₁ B hml hv
  obtain ⟨rfl, hsz, hP, hK, hD0⟩ := hv
  have hx := B.exec
  have hb := B.bytes
  have hr := B.returns
  have hts := atoms_spec (ws := w_Drill_init) B.pre
  have hown : s.vm.findClass R_Drill = some m.cls := findClass_of_methodNamed B.named
  have hlocks := B.notSynchronized
  have hin : meth.name = "<init>" := (name_of_methodNamed B.named B.method).1
  subst hsz
  have hD := hD0.self (sz := s.heap.size)
  generalize hAe : va_A [(h0, .inr (1, [.null, .null]))] s.heap.size = A at hD ⊢
  have hA : ∀ q : Nat, s.heap.size ≤ q → A q := fun q h => by rw [← hAe]; exact Or.inr h
  have hS : va_S A s.heap s.heap [] := va_S.rf
  have hP : va_P (dC, dI) cr_cl [(h0, .inr (1, [.null, .null]))] s.heap := hP
  have hl := lv_entry ([.ref h0]) (n := 1) (Nat.le_of_ble_eq_true rfl)
  rw [lg_entry_eq]
  generalize (lg_sl ([.ref h0]) ++ List.replicate (1 - (lg_sl ([.ref h0])).length) Slot.unset).toArray = ls at hl ⊢
  have hl : lv_has ls 1 [(0, .ref h0)] := hl
  refine lv_aload_n hx hb d_Drill_init_0 rfl (lv_at hl 0 rfl) ?_
  refine W.objInit hx hb hown (hts (.methodLink R_Drill 1 objectInit) (by decide +kernel)) (hts (.instanceMethod objectInit) (by decide +kernel)) (hts _ (List.mem_of_getElem? (i := 3) rfl)) rfl (by rw [hml]; exact hl.1) rfl d_Drill_init_1 (Nat.le_of_ble_eq_true rfl) (Nat.le_of_ble_eq_true rfl) ?_
  refine W.eq (g2 := F0 m 4 ls []) rfl ?_
  refine lv_aload_n hx hb d_Drill_init_4 rfl (lv_at hl 0 rfl) ?_
  have h_c : 1 ≤ 2 := by decide
  refine va_new (ci := 0) (fs := [.int 0]) (C := R_Crc) (T := F_Crc) (N := 1) hx hb hts (by decide +kernel) t_Crc t_Crc_ok hown (hts (.classLink R_Drill 7 R_Crc) (by decide +kernel)) (hts (.instantiable R_Crc 1) (by decide +kernel)) (hts (.initialized R_Crc) (by decide +kernel)) hK hP hD hS hA rfl (fun j hj => by rcases (show j = 0 by omega) with rfl <;> rfl) h_c h_c d_Drill_init_5 (fun q1 H hP hD hS => ?_)
  have hP : va_P (dC, dI) cr_cl [(h0, .inr (1, [.null, .null])), (q1, .inr (0, [.int 0]))] H := hP
  have hD : va_D A [(h0, .inr (1, [.null, .null])), (q1, .inr (0, [.int 0]))] := hD
  refine W.widen (k := 1) (n := 1) (by omega) (by omega) ?_
  refine lv_dup hx hb d_Drill_init_8 rfl ?_
  have hPc := hP.sub (ws' := [(q1, .inr (0, [.int 0]))]) [1] rfl
  have hDc := hD.sub (ws' := [(q1, .inr (0, [.int 0]))]) [1] (by decide) rfl
  have hKc := hK.sub (tys' := []) [] rfl
  have hFc := va_free (wc := [(q1, .inr (0, [.int 0]))]) hD hS hA [1] rfl
  refine va_callv (va_runI (As := []) (rest := [.ref q1, .ref h0]) ⟨hx, hb, hml, hown, hts⟩ (c_Crc_init l dC dI q1 H.size 0) (cwI 0 hts g_Drill_init_Crc_init rfl rfl rfl (hts (.initialized R_Crc) (by decide +kernel)) (hts (.methodLink R_Drill 9 y_Crc_init) (by decide +kernel)) (hts (.instanceMethod y_Crc_init) (by decide +kernel)) rfl (by decide +kernel) ⟨Nat.le_of_ble_eq_true rfl, Nat.le_of_ble_eq_true rfl⟩) ⟨fun a U g mk q => by obtain ⟨q0, q1, qP, qK, qD⟩ := q; exact ⟨q0, q1, qP, va_K.moved (u := U) (U := U.calling g mk a) (Vm.Alike.refl U.vm) qK, qD⟩, fun U hU hW => ⟨rfl, by rw [hU], by rw [hU]; exact hPc, va_K.moved hW.alike hKc, hDc.weaken (fun _ _ _ _ => trivial)⟩⟩ rfl rfl hl.1 rfl (lv_room (Nat.le_of_ble_eq_true rfl)) d_Drill_init_9 ⟨h_c, h_c⟩) hS (fun q _ h => hFc q h) hFc (fun u9 t9 H1 locs ht hvm hw hB hz1 hk1 hS => ?_)
  obtain ⟨hP1, hK1, hD1⟩ := hB
  rw [ht] at hP1
  obtain ⟨hP, hD⟩ := va_join (wr := [(h0, .inr (1, [.null, .null]))]) (w1 := [(q1, .inr (0, [.int (-1)]))]) hP hD [1] [0] rfl rfl (by decide) (by decide) hk1 hFc hP1 hD1
  generalize H1 = H at hP hS ⊢
  have hP : va_P (dC, dI) cr_cl [(h0, .inr (1, [.null, .null])), (q1, .inr (0, [.int (-1)]))] H := hP
  have hD : va_D A [(h0, .inr (1, [.null, .null])), (q1, .inr (0, [.int (-1)]))] := hD
  refine va_putF (D := (dC, dI)) (ci := 1) (v := .ref q1) (ty := .object "java/util/zip/CRC32C") (C := R_Drill) (T := F_Drill) (N := 2) hx hb hts (by decide +kernel) t_Drill t_Drill_ok n_Drill hown hK hP hD hS 0 rfl rfl 0 (by decide) (hts (.fieldLink R_Drill 10 "CrcDrill" "a" "Ljava/util/zip/CRC32C;") (by decide +kernel)) (fun _ h9 => h9) rfl hin rfl (by decide +kernel) rfl rfl (Nat.le_of_ble_eq_true rfl) d_Drill_init_12 (fun H locs hP hD hS => ?_)
  have hP : va_P (dC, dI) cr_cl [(h0, .inr (1, [.ref q1, .null])), (q1, .inr (0, [.int (-1)]))] H := hP
  have hD : va_D A [(h0, .inr (1, [.ref q1, .null])), (q1, .inr (0, [.int (-1)]))] := hD
  refine lv_aload_n hx hb d_Drill_init_15 rfl (lv_at hl 0 rfl) ?_
  have h_c : 2 ≤ 2 := by decide
  refine va_new (ci := 0) (fs := [.int 0]) (C := R_Crc) (T := F_Crc) (N := 1) hx hb hts (by decide +kernel) t_Crc t_Crc_ok hown (hts (.classLink R_Drill 7 R_Crc) (by decide +kernel)) (hts (.instantiable R_Crc 1) (by decide +kernel)) (hts (.initialized R_Crc) (by decide +kernel)) hK hP hD hS hA rfl (fun j hj => by rcases (show j = 0 by omega) with rfl <;> rfl) h_c h_c d_Drill_init_16 (fun q2 H hP hD hS => ?_)
  have hP : va_P (dC, dI) cr_cl [(h0, .inr (1, [.ref q1, .null])), (q1, .inr (0, [.int (-1)])), (q2, .inr (0, [.int 0]))] H := hP
  have hD : va_D A [(h0, .inr (1, [.ref q1, .null])), (q1, .inr (0, [.int (-1)])), (q2, .inr (0, [.int 0]))] := hD
  refine W.widen (k := 2) (n := 2) (by omega) (by omega) ?_
  refine lv_dup hx hb d_Drill_init_19 rfl ?_
  have hPc := hP.sub (ws' := [(q2, .inr (0, [.int 0]))]) [2] rfl
  have hDc := hD.sub (ws' := [(q2, .inr (0, [.int 0]))]) [2] (by decide) rfl
  have hKc := hK.sub (tys' := []) [] rfl
  have hFc := va_free (wc := [(q2, .inr (0, [.int 0]))]) hD hS hA [2] rfl
  refine va_callv (va_runI (As := []) (rest := [.ref q2, .ref h0]) ⟨hx, hb, hml, hown, hts⟩ (c_Crc_init l dC dI q2 H.size 0) (cwI 0 hts g_Drill_init_Crc_init rfl rfl rfl (hts (.initialized R_Crc) (by decide +kernel)) (hts (.methodLink R_Drill 9 y_Crc_init) (by decide +kernel)) (hts (.instanceMethod y_Crc_init) (by decide +kernel)) rfl (by decide +kernel) ⟨Nat.le_of_ble_eq_true rfl, Nat.le_of_ble_eq_true rfl⟩) ⟨fun a U g mk q => by obtain ⟨q0, q1, qP, qK, qD⟩ := q; exact ⟨q0, q1, qP, va_K.moved (u := U) (U := U.calling g mk a) (Vm.Alike.refl U.vm) qK, qD⟩, fun U hU hW => ⟨rfl, by rw [hU], by rw [hU]; exact hPc, va_K.moved hW.alike hKc, hDc.weaken (fun _ _ _ _ => trivial)⟩⟩ rfl rfl hl.1 rfl (lv_room (Nat.le_of_ble_eq_true rfl)) d_Drill_init_20 ⟨h_c, h_c⟩) hS (fun q _ h => hFc q h) hFc (fun u9 t9 H1 locs ht hvm hw hB hz1 hk1 hS => ?_)
  obtain ⟨hP1, hK1, hD1⟩ := hB
  rw [ht] at hP1
  obtain ⟨hP, hD⟩ := va_join (wr := [(h0, .inr (1, [.ref q1, .null])), (q1, .inr (0, [.int (-1)]))]) (w1 := [(q2, .inr (0, [.int (-1)]))]) hP hD [2] [0, 1] rfl rfl (by decide) (by decide) hk1 hFc hP1 hD1
  generalize H1 = H at hP hS ⊢
  have hP : va_P (dC, dI) cr_cl [(h0, .inr (1, [.ref q1, .null])), (q1, .inr (0, [.int (-1)])), (q2, .inr (0, [.int (-1)]))] H := hP
  have hD : va_D A [(h0, .inr (1, [.ref q1, .null])), (q1, .inr (0, [.int (-1)])), (q2, .inr (0, [.int (-1)]))] := hD
  refine va_putF (D := (dC, dI)) (ci := 1) (v := .ref q2) (ty := .object "java/util/zip/CRC32C") (C := R_Drill) (T := F_Drill) (N := 2) hx hb hts (by decide +kernel) t_Drill t_Drill_ok n_Drill hown hK hP hD hS 0 rfl rfl 1 (by decide) (hts (.fieldLink R_Drill 16 "CrcDrill" "b" "Ljava/util/zip/CRC32C;") (by decide +kernel)) (fun _ h9 => h9) rfl hin rfl (by decide +kernel) rfl rfl (Nat.le_of_ble_eq_true rfl) d_Drill_init_23 (fun H locs hP hD hS => ?_)
  have hP : va_P (dC, dI) cr_cl [(h0, .inr (1, [.ref q1, .ref q2])), (q1, .inr (0, [.int (-1)])), (q2, .inr (0, [.int (-1)]))] H := hP
  have hD : va_D A [(h0, .inr (1, [.ref q1, .ref q2])), (q1, .inr (0, [.int (-1)])), (q2, .inr (0, [.int (-1)]))] := hD
  refine W.widen (k := 2) (n := 2) (by omega) (by omega) ?_
  exact W.vret hx hb hr (fun t9 ht hW => ⟨⟨(), rfl, trivial, q1, q2, by rw [ht]; exact hP, va_K.moved hW.alike hK, hD⟩, hS.F ht⟩) hS.2.2 d_Drill_init_26
set_option maxHeartbeats 4000000 in
/-- of(w): the one or the other -/
theorem c_Drill_of (l : Launch) (dC : Nat → ClassId) (dI : Nat → Nat → Nat) (h0 : Nat) (sz : Nat) (q1 q2 a : Nat) (w : Int32) (ha : (w &&& 1 = 0 ∧ a = q1) ∨ (¬ w &&& 1 = 0 ∧ a = q2)) : Met l y_Drill_of w_Drill_of ({ frames := 0, cells := 0, slots := 0, locals := 0 }) (va_Pc [.ref h0, .int w] (fun U => U.heap.size = sz ∧ va_P (dC, dI) cr_cl [(h0, .inr (1, [.ref q1, .ref q2]))] U.heap ∧ va_K (dC, dI) cr_cl [] U ∧ va_D (fun _ => True) [(h0, .inr (1, [.ref q1, .ref q2]))])) (va_Qr (fun _ : Unit => True) (fun _ r u => r = a ∧ at_W dC dI (va_A [(h0, .inr (1, [.ref q1, .ref q2]))] sz) [(h0, .inr (1, [.ref q1, .ref q2]))] u) (va_A [(h0, .inr (1, [.ref q1, .ref q2]))] sz)) 0 0 (va_A [(h0, .inr (1, [.ref q1, .ref q2]))] sz) := by
  refine Met.ofW (cc := b_Drill_of) (maxL := 2) (ret := (some (.object "java/util/zip/CRC32C"))) (by decide) rfl ?_
  intro p e s m args below meth c s₁ B hml hv
  obtain ⟨rfl, hsz, hP, hK, hD0⟩ := hv
  have hx := B.exec
  have hb := B.bytes
  have hr := B.returns
  have hts := atoms_spec (ws := w_Drill_of) B.pre
  have hown : s.vm.findClass R_Drill = some m.cls := findClass_of_methodNamed B.named
  have hlocks := B.notSynchronized
  subst hsz
  have hD := hD0.self (sz := s.heap.size)
  generalize hAe : va_A [(h0, .inr (1, [.ref q1, .ref q2]))] s.heap.size = A at hD ⊢
  have hA : ∀ q : Nat, s.heap.size ≤ q → A q := fun q h => by rw [← hAe]; exact Or.inr h
  have hS : va_S A s.heap s.heap [] := va_S.rf
  have hP : va_P (dC, dI) cr_cl [(h0, .inr (1, [.ref q1, .ref q2]))] s.heap := hP
  have hl := lv_entry ([.ref h0, .int w]) (n := 2) (Nat.le_of_ble_eq_true rfl)
  rw [lg_entry_eq]
  generalize (lg_sl ([.ref h0, .int w]) ++ List.replicate (2 - (lg_sl ([.ref h0, .int w])).length) Slot.unset).toArray = ls at hl ⊢
  have hl : lv_has ls 2 [(0, .ref h0), (1, .int w)] := hl
  refine lv_iload_n hx hb d_Drill_of_0 rfl (lv_at hl 1 rfl) ?_
  refine lv_iconst (v := 1) hx hb d_Drill_of_1 (by decide) ?_
  refine lv_iand hx hb d_Drill_of_2 ?_
  refine lv_if_ne hx hb d_Drill_of_3 (tgt := 13) rfl (fun hne => ?_) (fun he => ?_)
  · have e9 : a = q2 := by
      rcases ha with h | h
      · exact absurd h.1 hne
      · exact h.2
    refine lv_aload_n hx hb d_Drill_of_13 rfl (lv_at hl 0 rfl) ?_
    refine va_get (D := (dC, dI)) (ci := 1) (v := .ref a) (C := R_Drill) (T := F_Drill) (N := 2) hx hb hts (by decide +kernel) hown hK hP 0 rfl rfl 1 (by decide) (hts (.fieldLink R_Drill 16 "CrcDrill" "b" "Ljava/util/zip/CRC32C;") (by decide +kernel)) (fun _ h9 => h9) (by subst e9; rfl) d_Drill_of_14 ?_
    exact W.aret hx hb hr (Or.inl ⟨_, rfl⟩) (Or.inr ⟨_, rfl⟩) (fun t9 ht hW => ⟨⟨(), a, rfl, trivial, rfl, by rw [ht]; exact hP, va_K.moved hW.alike hK, hD⟩, hS.F ht⟩) hS.2.2 d_Drill_of_17
  · have e9 : a = q1 := by
      rcases ha with h | h
      · exact h.2
      · exact absurd he h.1
    refine lv_aload_n hx hb d_Drill_of_6 rfl (lv_at hl 0 rfl) ?_
    refine va_get (D := (dC, dI)) (ci := 1) (v := .ref a) (C := R_Drill) (T := F_Drill) (N := 2) hx hb hts (by decide +kernel) hown hK hP 0 rfl rfl 0 (by decide) (hts (.fieldLink R_Drill 10 "CrcDrill" "a" "Ljava/util/zip/CRC32C;") (by decide +kernel)) (fun _ h9 => h9) (by subst e9; rfl) d_Drill_of_7 ?_
    refine lv_goto hx hb d_Drill_of_10 (tgt := 17) rfl ?_
    exact W.aret hx hb hr (Or.inl ⟨_, rfl⟩) (Or.inr ⟨_, rfl⟩) (fun t9 ht hW => ⟨⟨(), a, rfl, trivial, rfl, by rw [ht]; exact hP, va_K.moved hW.alike hK, hD⟩, hS.F ht⟩) hS.2.2 d_Drill_of_17
set_option maxHeartbeats 4000000 in
/-- take, of the sum 0 -/
theorem c_Drill_take_0 (l : Launch) (dC : Nat → ClassId) (dI : Nat → Nat → Nat) (h0 : Nat) (sz : Nat) (q1 q2 : Nat) (f : Nat → Int32) (t : Nat) (v : Int32) : Met l y_Drill_take w_Drill_take ({ frames := 1, cells := 0, slots := 0, locals := 21 }) (va_Pc [.ref h0, .int (nI 0), .int v] (fun U => U.heap.size = sz ∧ va_P (dC, dI) cr_cl (dr_W h0 q1 q2 f) U.heap ∧ va_K (dC, dI) cr_cl [] U ∧ va_D (fun _ => True) (dr_W h0 q1 q2 f) ∧ tb_ok t (va_A (dr_W h0 q1 q2 f) sz) U U.heap)) (va_Qv (fun _ : Unit => True) (fun _ => at_W dC dI (va_A (dr_W h0 q1 q2 f) sz) (dr_W h0 q1 q2 (upd f 0 (cr_up (f 0) v)))) (va_A (dr_W h0 q1 q2 f) sz)) 0 0 (va_A (dr_W h0 q1 q2 f) sz) := by
  refine Met.ofW (cc := b_Drill_take) (maxL := 3) (ret := none) (by decide) rfl ?_
  intro p e s m args below meth c s₁ B hml hv
  obtain ⟨rfl, hsz, hP, hK, hD0, hTB⟩ := hv
  have hx := B.exec
  have hb := B.bytes
  have hr := B.returns
  have hts := atoms_spec (ws := w_Drill_take) B.pre
  have hown : s.vm.findClass R_Drill = some m.cls := findClass_of_methodNamed B.named
  have hlocks := B.notSynchronized
  subst hsz
  have hD := hD0.self (sz := s.heap.size)
  generalize hAe : va_A (dr_W h0 q1 q2 f) s.heap.size = A at hD hTB ⊢
  have hA : ∀ q : Nat, s.heap.size ≤ q → A q := fun q h => by rw [← hAe]; exact Or.inr h
  have hS : va_S A s.heap s.heap [] := va_S.rf
  have hP : va_P (dC, dI) cr_cl (dr_W h0 q1 q2 f) s.heap := hP
  have hl := lv_entry ([.ref h0, .int (nI 0), .int v]) (n := 3) (Nat.le_of_ble_eq_true rfl)
  rw [lg_entry_eq]
  generalize (lg_sl ([.ref h0, .int (nI 0), .int v]) ++ List.replicate (3 - (lg_sl ([.ref h0, .int (nI 0), .int v])).length) Slot.unset).toArray = ls at hl ⊢
  have hl : lv_has ls 3 [(0, .ref h0), (1, .int (nI 0)), (2, .int v)] := hl
  refine lv_aload_n hx hb d_Drill_take_0 rfl (lv_at hl 0 rfl) ?_
  refine lv_iload_n hx hb d_Drill_take_1 rfl (lv_at hl 1 rfl) ?_
  have hPc := hP.sub (ws' := [(h0, .inr (1, [.ref q1, .ref q2]))]) [0] rfl
  have hDc := hD.sub (ws' := [(h0, .inr (1, [.ref q1, .ref q2]))]) [0] (by decide) rfl
  have hKc := hK.sub (tys' := []) [] rfl
  have hFc := va_free (wc := [(h0, .inr (1, [.ref q1, .ref q2]))]) hD hS hA [0] rfl
  refine va_callr (va_runV (C := R_Drill) (b := h0) (As := [.int (nI 0)]) (rest := []) ⟨hx, hb, hml, hown, hts⟩ (c_Drill_of l dC dI h0 s.heap.size q1 q2 q1 (nI 0) (Or.inl ⟨by decide, rfl⟩)) (cwV 1 hts g_Drill_take_of rfl rfl rfl (by decide +kernel) ⟨Nat.le_of_ble_eq_true rfl, Nat.le_of_ble_eq_true rfl⟩) ⟨fun a U g mk q => by obtain ⟨q0, q1, qP, qK, qD⟩ := q; exact ⟨q0, q1, qP, va_K.moved (u := U) (U := U.calling g mk a) (Vm.Alike.refl U.vm) qK, qD⟩, va_recv (q := (R_Drill, F_Drill, 2)) (ci := 1) (q0 := 0) hK hP rfl rfl, fun U hU hW => ⟨rfl, by rw [hU], by rw [hU]; exact hPc, va_K.moved hW.alike hKc, hDc.weaken (fun _ _ _ _ => trivial)⟩⟩ rfl rfl hl.1 rfl (lv_room (Nat.le_of_ble_eq_true rfl)) d_Drill_take_2 ⟨Nat.zero_le _, Nat.zero_le _⟩) hS (fun q _ h => hFc q h) hFc (fun u9 ra t9 H1 locs ht hvm hw hB hz1 hk1 hS => ?_)
  obtain ⟨hra, hB⟩ := hB
  rw [hra]
  obtain ⟨hP1, hK1, hD1⟩ := hB
  rw [ht] at hP1
  obtain ⟨hP, hD⟩ := va_join (wr := [(q1, .inr (0, [.int (f 0)])), (q2, .inr (0, [.int (f 1)]))]) (w1 := [(h0, .inr (1, [.ref q1, .ref q2]))]) hP hD [0] [1, 2] rfl rfl (by decide) (by decide) hk1 hFc hP1 hD1
  generalize H1 = H at hP hS ⊢
  have hP : va_P (dC, dI) cr_cl [(q1, .inr (0, [.int (f 0)])), (q2, .inr (0, [.int (f 1)])), (h0, .inr (1, [.ref q1, .ref q2]))] H := hP
  have hD : va_D A [(q1, .inr (0, [.int (f 0)])), (q2, .inr (0, [.int (f 1)])), (h0, .inr (1, [.ref q1, .ref q2]))] := hD
  refine lv_iload_n hx hb d_Drill_take_5 rfl (lv_at hl 2 rfl) ?_
  have hPc := hP.sub (ws' := [(q1, .inr (0, [.int (f 0)]))]) [0] rfl
  have hDc := hD.sub (ws' := [(q1, .inr (0, [.int (f 0)]))]) [0] (by decide) rfl
  have hKc := hK.sub (tys' := []) [] rfl
  have hFc := va_free (wc := [(q1, .inr (0, [.int (f 0)]))]) hD hS hA [0] rfl
  refine va_callv (va_runV (C := R_Crc) (b := q1) (As := [.int v]) (rest := []) ⟨hx, hb, hml, hown, hts⟩ (c_Crc_update l dC dI q1 H.size t (f 0) v) (cwV 1 hts g_Drill_take_Crc_update rfl rfl rfl (by decide +kernel) ⟨Nat.le_of_ble_eq_true rfl, Nat.le_of_ble_eq_true rfl⟩) ⟨fun a U g mk q => by obtain ⟨q0, q1, qP, qK, qD, qT⟩ := q; exact ⟨q0, q1, qP, va_K.moved (u := U) (U := U.calling g mk a) (Vm.Alike.refl U.vm) qK, qD, tb_ok.moved (u := U) (U := U.calling g mk a) (Vm.Alike.refl U.vm) qT⟩, va_recv (q := (R_Crc, F_Crc, 1)) (ci := 0) (q0 := 0) hK hP rfl rfl, fun U hU hW => ⟨rfl, by rw [hU], by rw [hU]; exact hPc, va_K.moved hW.alike hKc, hDc.weaken (fun _ _ _ _ => trivial), hTB.use hS hFc hU hW.alike⟩⟩ rfl rfl hl.1 rfl (lv_room (Nat.le_of_ble_eq_true rfl)) d_Drill_take_6 ⟨Nat.zero_le _, Nat.zero_le _⟩) hS (fun q _ h => hFc q h) hFc (fun u9 t9 H1 locs ht hvm hw hB hz1 hk1 hS => ?_)
  obtain ⟨hP1, hK1, hD1⟩ := hB
  rw [ht] at hP1
  obtain ⟨hP, hD⟩ := va_join (wr := [(q2, .inr (0, [.int (f 1)])), (h0, .inr (1, [.ref q1, .ref q2]))]) (w1 := [(q1, .inr (0, [.int (cr_up (f 0) v)]))]) hP hD [0] [1, 2] rfl rfl (by decide) (by decide) hk1 hFc hP1 hD1
  generalize H1 = H at hP hS ⊢
  have hP : va_P (dC, dI) cr_cl [(q2, .inr (0, [.int (f 1)])), (h0, .inr (1, [.ref q1, .ref q2])), (q1, .inr (0, [.int (cr_up (f 0) v)]))] H := hP
  have hD : va_D A [(q2, .inr (0, [.int (f 1)])), (h0, .inr (1, [.ref q1, .ref q2])), (q1, .inr (0, [.int (cr_up (f 0) v)]))] := hD
  have hP9 := hP.sub (ws' := dr_W h0 q1 q2 (upd f 0 (cr_up (f 0) v))) [1, 2, 0] rfl
  have hD9 := hD.sub (ws' := dr_W h0 q1 q2 (upd f 0 (cr_up (f 0) v))) [1, 2, 0] (by decide) rfl
  exact W.vret hx hb hr (fun t9 ht hW => ⟨⟨(), rfl, trivial, by rw [ht]; exact hP9, va_K.moved hW.alike hK, hD9⟩, hS.F ht⟩) hS.2.2 d_Drill_take_9
set_option maxHeartbeats 4000000 in
/-- take, of the sum 1 -/
theorem c_Drill_take_1 (l : Launch) (dC : Nat → ClassId) (dI : Nat → Nat → Nat) (h0 : Nat) (sz : Nat) (q1 q2 : Nat) (f : Nat → Int32) (t : Nat) (v : Int32) : Met l y_Drill_take w_Drill_take ({ frames := 1, cells := 0, slots := 0, locals := 21 }) (va_Pc [.ref h0, .int (nI 1), .int v] (fun U => U.heap.size = sz ∧ va_P (dC, dI) cr_cl (dr_W h0 q1 q2 f) U.heap ∧ va_K (dC, dI) cr_cl [] U ∧ va_D (fun _ => True) (dr_W h0 q1 q2 f) ∧ tb_ok t (va_A (dr_W h0 q1 q2 f) sz) U U.heap)) (va_Qv (fun _ : Unit => True) (fun _ => at_W dC dI (va_A (dr_W h0 q1 q2 f) sz) (dr_W h0 q1 q2 (upd f 1 (cr_up (f 1) v)))) (va_A (dr_W h0 q1 q2 f) sz)) 0 0 (va_A (dr_W h0 q1 q2 f) sz) := by
  refine Met.ofW (cc := b_Drill_take) (maxL := 3) (ret := none) (by decide) rfl ?_
  intro p e s m args below meth c s₁ B hml hv
  obtain ⟨rfl, hsz, hP, hK, hD0, hTB⟩ := hv
  have hx := B.exec
  have hb := B.bytes
  have hr := B.returns
  have hts := atoms_spec (ws := w_Drill_take) B.pre
  have hown : s.vm.findClass R_Drill = some m.cls := findClass_of_methodNamed B.named
  have hlocks := B.notSynchronized
  subst hsz
  have hD := hD0.self (sz := s.heap.size)
  generalize hAe : va_A (dr_W h0 q1 q2 f) s.heap.size = A at hD hTB ⊢
  have hA : ∀ q : Nat, s.heap.size ≤ q → A q := fun q h => by rw [← hAe]; exact Or.inr h
  have hS : va_S A s.heap s.heap [] := va_S.rf
  have hP : va_P (dC, dI) cr_cl (dr_W h0 q1 q2 f) s.heap := hP
  have hl := lv_entry ([.ref h0, .int (nI 1), .int v]) (n := 3) (Nat.le_of_ble_eq_true rfl)
  rw [lg_entry_eq]
  generalize (lg_sl ([.ref h0, .int (nI 1), .int v]) ++ List.replicate (3 - (lg_sl ([.ref h0, .int (nI 1), .int v])).length) Slot.unset).toArray = ls at hl ⊢
  have hl : lv_has ls 3 [(0, .ref h0), (1, .int (nI 1)), (2, .int v)] := hl
  refine lv_aload_n hx hb d_Drill_take_0 rfl (lv_at hl 0 rfl) ?_
  refine lv_iload_n hx hb d_Drill_take_1 rfl (lv_at hl 1 rfl) ?_
  have hPc := hP.sub (ws' := [(h0, .inr (1, [.ref q1, .ref q2]))]) [0] rfl
  have hDc := hD.sub (ws' := [(h0, .inr (1, [.ref q1, .ref q2]))]) [0] (by decide) rfl
  have hKc := hK.sub (tys' := []) [] rfl
  have hFc := va_free (wc := [(h0, .inr (1, [.ref q1, .ref q2]))]) hD hS hA [0] rfl
  refine va_callr (va_runV (C := R_Drill) (b := h0) (As := [.int (nI 1)]) (rest := []) ⟨hx, hb, hml, hown, hts⟩ (c_Drill_of l dC dI h0 s.heap.size q1 q2 q2 (nI 1) (Or.inr ⟨by decide, rfl⟩)) (cwV 1 hts g_Drill_take_of rfl rfl rfl (by decide +kernel) ⟨Nat.le_of_ble_eq_true rfl, Nat.le_of_ble_eq_true rfl⟩) ⟨fun a U g mk q => by obtain ⟨q0, q1, qP, qK, qD⟩ := q; exact ⟨q0, q1, qP, va_K.moved (u := U) (U := U.calling g mk a) (Vm.Alike.refl U.vm) qK, qD⟩, va_recv (q := (R_Drill, F_Drill, 2)) (ci := 1) (q0 := 0) hK hP rfl rfl, fun U hU hW => ⟨rfl, by rw [hU], by rw [hU]; exact hPc, va_K.moved hW.alike hKc, hDc.weaken (fun _ _ _ _ => trivial)⟩⟩ rfl rfl hl.1 rfl (lv_room (Nat.le_of_ble_eq_true rfl)) d_Drill_take_2 ⟨Nat.zero_le _, Nat.zero_le _⟩) hS (fun q _ h => hFc q h) hFc (fun u9 ra t9 H1 locs ht hvm hw hB hz1 hk1 hS => ?_)
  obtain ⟨hra, hB⟩ := hB
  rw [hra]
  obtain ⟨hP1, hK1, hD1⟩ := hB
  rw [ht] at hP1
  obtain ⟨hP, hD⟩ := va_join (wr := [(q1, .inr (0, [.int (f 0)])), (q2, .inr (0, [.int (f 1)]))]) (w1 := [(h0, .inr (1, [.ref q1, .ref q2]))]) hP hD [0] [1, 2] rfl rfl (by decide) (by decide) hk1 hFc hP1 hD1
  generalize H1 = H at hP hS ⊢
  have hP : va_P (dC, dI) cr_cl [(q1, .inr (0, [.int (f 0)])), (q2, .inr (0, [.int (f 1)])), (h0, .inr (1, [.ref q1, .ref q2]))] H := hP
  have hD : va_D A [(q1, .inr (0, [.int (f 0)])), (q2, .inr (0, [.int (f 1)])), (h0, .inr (1, [.ref q1, .ref q2]))] := hD
  refine lv_iload_n hx hb d_Drill_take_5 rfl (lv_at hl 2 rfl) ?_
  have hPc := hP.sub (ws' := [(q2, .inr (0, [.int (f 1)]))]) [1] rfl
  have hDc := hD.sub (ws' := [(q2, .inr (0, [.int (f 1)]))]) [1] (by decide) rfl
  have hKc := hK.sub (tys' := []) [] rfl
  have hFc := va_free (wc := [(q2, .inr (0, [.int (f 1)]))]) hD hS hA [1] rfl
  refine va_callv (va_runV (C := R_Crc) (b := q2) (As := [.int v]) (rest := []) ⟨hx, hb, hml, hown, hts⟩ (c_Crc_update l dC dI q2 H.size t (f 1) v) (cwV 1 hts g_Drill_take_Crc_update rfl rfl rfl (by decide +kernel) ⟨Nat.le_of_ble_eq_true rfl, Nat.le_of_ble_eq_true rfl⟩) ⟨fun a U g mk q => by obtain ⟨q0, q1, qP, qK, qD, qT⟩ := q; exact ⟨q0, q1, qP, va_K.moved (u := U) (U := U.calling g mk a) (Vm.Alike.refl U.vm) qK, qD, tb_ok.moved (u := U) (U := U.calling g mk a) (Vm.Alike.refl U.vm) qT⟩, va_recv (q := (R_Crc, F_Crc, 1)) (ci := 0) (q0 := 1) hK hP rfl rfl, fun U hU hW => ⟨rfl, by rw [hU], by rw [hU]; exact hPc, va_K.moved hW.alike hKc, hDc.weaken (fun _ _ _ _ => trivial), hTB.use hS hFc hU hW.alike⟩⟩ rfl rfl hl.1 rfl (lv_room (Nat.le_of_ble_eq_true rfl)) d_Drill_take_6 ⟨Nat.zero_le _, Nat.zero_le _⟩) hS (fun q _ h => hFc q h) hFc (fun u9 t9 H1 locs ht hvm hw hB hz1 hk1 hS => ?_)
  obtain ⟨hP1, hK1, hD1⟩ := hB
  rw [ht] at hP1
  obtain ⟨hP, hD⟩ := va_join (wr := [(q1, .inr (0, [.int (f 0)])), (h0, .inr (1, [.ref q1, .ref q2]))]) (w1 := [(q2, .inr (0, [.int (cr_up (f 1) v)]))]) hP hD [1] [0, 2] rfl rfl (by decide) (by decide) hk1 hFc hP1 hD1
  generalize H1 = H at hP hS ⊢
  have hP : va_P (dC, dI) cr_cl [(q1, .inr (0, [.int (f 0)])), (h0, .inr (1, [.ref q1, .ref q2])), (q2, .inr (0, [.int (cr_up (f 1) v)]))] H := hP
  have hD : va_D A [(q1, .inr (0, [.int (f 0)])), (h0, .inr (1, [.ref q1, .ref q2])), (q2, .inr (0, [.int (cr_up (f 1) v)]))] := hD
  have hP9 := hP.sub (ws' := dr_W h0 q1 q2 (upd f 1 (cr_up (f 1) v))) [1, 0, 2] rfl
  have hD9 := hD.sub (ws' := dr_W h0 q1 q2 (upd f 1 (cr_up (f 1) v))) [1, 0, 2] (by decide) rfl
  exact W.vret hx hb hr (fun t9 ht hW => ⟨⟨(), rfl, trivial, by rw [ht]; exact hP9, va_K.moved hW.alike hK, hD9⟩, hS.F ht⟩) hS.2.2 d_Drill_take_9
/-- take: the sum j -/
theorem c_Drill_take (l : Launch) (dC : Nat → ClassId) (dI : Nat → Nat → Nat) (h0 : Nat) (sz : Nat) (q1 q2 : Nat) (f : Nat → Int32) (t : Nat) (v : Int32) (j : Nat) (hj : j < 2) : Met l y_Drill_take w_Drill_take ({ frames := 1, cells := 0, slots := 0, locals := 21 }) (va_Pc [.ref h0, .int (nI j), .int v] (fun U => U.heap.size = sz ∧ va_P (dC, dI) cr_cl (dr_W h0 q1 q2 f) U.heap ∧ va_K (dC, dI) cr_cl [] U ∧ va_D (fun _ => True) (dr_W h0 q1 q2 f) ∧ tb_ok t (va_A (dr_W h0 q1 q2 f) sz) U U.heap)) (va_Qv (fun _ : Unit => True) (fun _ => at_W dC dI (va_A (dr_W h0 q1 q2 f) sz) (dr_W h0 q1 q2 (upd f j (cr_up (f j) v)))) (va_A (dr_W h0 q1 q2 f) sz)) 0 0 (va_A (dr_W h0 q1 q2 f) sz) := by
  rcases (show j = 0 ∨ j = 1 by omega) with rfl | rfl
  · exact c_Drill_take_0 l dC dI h0 sz q1 q2 f t v
  · exact c_Drill_take_1 l dC dI h0 sz q1 q2 f t v
set_option maxHeartbeats 4000000 in
/-- value, of the sum 0 -/
theorem c_Drill_value_0 (l : Launch) (dC : Nat → ClassId) (dI : Nat → Nat → Nat) (h0 : Nat) (sz : Nat) (q1 q2 : Nat) (f : Nat → Int32) : Met l y_Drill_value w_Drill_value ({ frames := 1, cells := 0, slots := 0, locals := 21 }) (va_Pc [.ref h0, .int (nI 0)] (fun U => U.heap.size = sz ∧ va_P (dC, dI) cr_cl (dr_W h0 q1 q2 f) U.heap ∧ va_K (dC, dI) cr_cl [] U ∧ va_D (fun _ => True) (dr_W h0 q1 q2 f))) (va_Ql (fun (r : Int64) (_ : Unit) => r = cr_v (f 0)) (fun _ => at_W dC dI (va_A (dr_W h0 q1 q2 f) sz) (dr_W h0 q1 q2 f)) (va_A (dr_W h0 q1 q2 f) sz)) 0 0 (va_A (dr_W h0 q1 q2 f) sz) := by
  refine Met.ofW (cc := b_Drill_value) (maxL := 2) (ret := (some .long)) (by decide) rfl ?_
  intro p e s m args below meth c s₁ B hml hv
  obtain ⟨rfl, hsz, hP, hK, hD0⟩ := hv
  have hx := B.exec
  have hb := B.bytes
  have hr := B.returns
  have hts := atoms_spec (ws := w_Drill_value) B.pre
  have hown : s.vm.findClass R_Drill = some m.cls := findClass_of_methodNamed B.named
  have hlocks := B.notSynchronized
  subst hsz
  have hD := hD0.self (sz := s.heap.size)
  generalize hAe : va_A (dr_W h0 q1 q2 f) s.heap.size = A at hD ⊢
  have hA : ∀ q : Nat, s.heap.size ≤ q → A q := fun q h => by rw [← hAe]; exact Or.inr h
  have hS : va_S A s.heap s.heap [] := va_S.rf
  have hP : va_P (dC, dI) cr_cl (dr_W h0 q1 q2 f) s.heap := hP
  have hl := lv_entry ([.ref h0, .int (nI 0)]) (n := 2) (Nat.le_of_ble_eq_true rfl)
  rw [lg_entry_eq]
  generalize (lg_sl ([.ref h0, .int (nI 0)]) ++ List.replicate (2 - (lg_sl ([.ref h0, .int (nI 0)])).length) Slot.unset).toArray = ls at hl ⊢
  have hl : lv_has ls 2 [(0, .ref h0), (1, .int (nI 0))] := hl
  refine lv_aload_n hx hb d_Drill_value_0 rfl (lv_at hl 0 rfl) ?_
  refine lv_iload_n hx hb d_Drill_value_1 rfl (lv_at hl 1 rfl) ?_
  have hPc := hP.sub (ws' := [(h0, .inr (1, [.ref q1, .ref q2]))]) [0] rfl
  have hDc := hD.sub (ws' := [(h0, .inr (1, [.ref q1, .ref q2]))]) [0] (by decide) rfl
  have hKc := hK.sub (tys' := []) [] rfl
  have hFc := va_free (wc := [(h0, .inr (1, [.ref q1, .ref q2]))]) hD hS hA [0] rfl
  refine va_callr (va_runV (C := R_Drill) (b := h0) (As := [.int (nI 0)]) (rest := []) ⟨hx, hb, hml, hown, hts⟩ (c_Drill_of l dC dI h0 s.heap.size q1 q2 q1 (nI 0) (Or.inl ⟨by decide, rfl⟩)) (cwV 1 hts g_Drill_value_of rfl rfl rfl (by decide +kernel) ⟨Nat.le_of_ble_eq_true rfl, Nat.le_of_ble_eq_true rfl⟩) ⟨fun a U g mk q => by obtain ⟨q0, q1, qP, qK, qD⟩ := q; exact ⟨q0, q1, qP, va_K.moved (u := U) (U := U.calling g mk a) (Vm.Alike.refl U.vm) qK, qD⟩, va_recv (q := (R_Drill, F_Drill, 2)) (ci := 1) (q0 := 0) hK hP rfl rfl, fun U hU hW => ⟨rfl, by rw [hU], by rw [hU]; exact hPc, va_K.moved hW.alike hKc, hDc.weaken (fun _ _ _ _ => trivial)⟩⟩ rfl rfl hl.1 rfl (lv_room (Nat.le_of_ble_eq_true rfl)) d_Drill_value_2 ⟨Nat.zero_le _, Nat.zero_le _⟩) hS (fun q _ h => hFc q h) hFc (fun u9 ra t9 H1 locs ht hvm hw hB hz1 hk1 hS => ?_)
  obtain ⟨hra, hB⟩ := hB
  rw [hra]
  obtain ⟨hP1, hK1, hD1⟩ := hB
  rw [ht] at hP1
  obtain ⟨hP, hD⟩ := va_join (wr := [(q1, .inr (0, [.int (f 0)])), (q2, .inr (0, [.int (f 1)]))]) (w1 := [(h0, .inr (1, [.ref q1, .ref q2]))]) hP hD [0] [1, 2] rfl rfl (by decide) (by decide) hk1 hFc hP1 hD1
  generalize H1 = H at hP hS ⊢
  have hP : va_P (dC, dI) cr_cl [(q1, .inr (0, [.int (f 0)])), (q2, .inr (0, [.int (f 1)])), (h0, .inr (1, [.ref q1, .ref q2]))] H := hP
  have hD : va_D A [(q1, .inr (0, [.int (f 0)])), (q2, .inr (0, [.int (f 1)])), (h0, .inr (1, [.ref q1, .ref q2]))] := hD
  have hPc := hP.sub (ws' := [(q1, .inr (0, [.int (f 0)]))]) [0] rfl
  have hDc := hD.sub (ws' := [(q1, .inr (0, [.int (f 0)]))]) [0] (by decide) rfl
  have hKc := hK.sub (tys' := []) [] rfl
  have hFc := va_free (wc := [(q1, .inr (0, [.int (f 0)]))]) hD hS hA [0] rfl
  refine va_calll (va_runV (C := R_Crc) (b := q1) (As := []) (rest := []) ⟨hx, hb, hml, hown, hts⟩ (c_Crc_getValue l dC dI q1 H.size (f 0)) (cwV 0 hts g_Drill_value_Crc_getValue rfl rfl rfl (by decide +kernel) ⟨Nat.le_of_ble_eq_true rfl, Nat.le_of_ble_eq_true rfl⟩) ⟨fun a U g mk q => by obtain ⟨q0, q1, qP, qK, qD⟩ := q; exact ⟨q0, q1, qP, va_K.moved (u := U) (U := U.calling g mk a) (Vm.Alike.refl U.vm) qK, qD⟩, va_recv (q := (R_Crc, F_Crc, 1)) (ci := 0) (q0 := 0) hK hP rfl rfl, fun U hU hW => ⟨rfl, by rw [hU], by rw [hU]; exact hPc, va_K.moved hW.alike hKc, hDc.weaken (fun _ _ _ _ => trivial)⟩⟩ rfl rfl hl.1 rfl (lv_room (Nat.le_of_ble_eq_true rfl)) d_Drill_value_5 ⟨Nat.zero_le _, Nat.zero_le _⟩) hS (fun q _ h => hFc q h) hFc (fun r9 u9 t9 H1 locs ht hvm hw hB hz1 hk1 hS => ?_)
  obtain ⟨hP1, hK1, hD1⟩ := hB
  rw [ht] at hP1
  obtain ⟨hP, hD⟩ := va_join (wr := [(q2, .inr (0, [.int (f 1)])), (h0, .inr (1, [.ref q1, .ref q2]))]) (w1 := [(q1, .inr (0, [.int (f 0)]))]) hP hD [0] [1, 2] rfl rfl (by decide) (by decide) hk1 hFc hP1 hD1
  generalize H1 = H at hP hS ⊢
  have hP : va_P (dC, dI) cr_cl [(q2, .inr (0, [.int (f 1)])), (h0, .inr (1, [.ref q1, .ref q2])), (q1, .inr (0, [.int (f 0)]))] H := hP
  have hD : va_D A [(q2, .inr (0, [.int (f 1)])), (h0, .inr (1, [.ref q1, .ref q2])), (q1, .inr (0, [.int (f 0)]))] := hD
  have hP9 := hP.sub (ws' := dr_W h0 q1 q2 f) [1, 2, 0] rfl
  have hD9 := hD.sub (ws' := dr_W h0 q1 q2 f) [1, 2, 0] (by decide) rfl
  have hw : r9 = cr_v (f 0) := hw
  subst hw
  exact W.lret hx hb hr (fun t9 ht hW => ⟨⟨_, (), rfl, rfl, by rw [ht]; exact hP9, va_K.moved hW.alike hK, hD9⟩, hS.F ht⟩) hS.2.2 d_Drill_value_8
set_option maxHeartbeats 4000000 in
/-- value, of the sum 1 -/
theorem c_Drill_value_1 (l : Launch) (dC : Nat → ClassId) (dI : Nat → Nat → Nat) (h0 : Nat) (sz : Nat) (q1 q2 : Nat) (f : Nat → Int32) : Met l y_Drill_value w_Drill_value ({ frames := 1, cells := 0, slots := 0, locals := 21 }) (va_Pc [.ref h0, .int (nI 1)] (fun U => U.heap.size = sz ∧ va_P (dC, dI) cr_cl (dr_W h0 q1 q2 f) U.heap ∧ va_K (dC, dI) cr_cl [] U ∧ va_D (fun _ => True) (dr_W h0 q1 q2 f))) (va_Ql (fun (r : Int64) (_ : Unit) => r = cr_v (f 1)) (fun _ => at_W dC dI (va_A (dr_W h0 q1 q2 f) sz) (dr_W h0 q1 q2 f)) (va_A (dr_W h0 q1 q2 f) sz)) 0 0 (va_A (dr_W h0 q1 q2 f) sz) := by
  refine Met.ofW (cc := b_Drill_value) (maxL := 2) (ret := (some .long)) (by decide) rfl ?_
  intro p e s m args below meth c s₁ B hml hv
  obtain ⟨rfl, hsz, hP, hK, hD0⟩ := hv
  have hx := B.exec
  have hb := B.bytes
  have hr := B.returns
  have hts := atoms_spec (ws := w_Drill_value) B.pre
  have hown : s.vm.findClass R_Drill = some m.cls := findClass_of_methodNamed B.named
  have hlocks := B.notSynchronized
  subst hsz
  have hD := hD0.self (sz := s.heap.size)
  generalize hAe : va_A (dr_W h0 q1 q2 f) s.heap.size = A at hD ⊢
  have hA : ∀ q : Nat, s.heap.size ≤ q → A q := fun q h => by rw [← hAe]; exact Or.inr h
  have hS : va_S A s.heap s.heap [] := va_S.rf
  have hP : va_P (dC, dI) cr_cl (dr_W h0 q1 q2 f) s.heap := hP
  have hl := lv_entry ([.ref h0, .int (nI 1)]) (n := 2) (Nat.le_of_ble_eq_true rfl)
  rw [lg_entry_eq]
  generalize (lg_sl ([.ref h0, .int (nI 1)]) ++ List.replicate (2 - (lg_sl ([.ref h0, .int (nI 1)])).length) Slot.unset).toArray = ls at hl ⊢
  have hl : lv_has ls 2 [(0, .ref h0), (1, .int (nI 1))] := hl
  refine lv_aload_n hx hb d_Drill_value_0 rfl (lv_at hl 0 rfl) ?_
  refine lv_iload_n hx hb d_Drill_value_1 rfl (lv_at hl 1 rfl) ?_
  have hPc := hP.sub (ws' := [(h0, .inr (1, [.ref q1, .ref q2]))]) [0] rfl
  have hDc := hD.sub (ws' := [(h0, .inr (1, [.ref q1, .ref q2]))]) [0] (by decide) rfl
  have hKc := hK.sub (tys' := []) [] rfl
  have hFc := va_free (wc := [(h0, .inr (1, [.ref q1, .ref q2]))]) hD hS hA [0] rfl
  refine va_callr (va_runV (C := R_Drill) (b := h0) (As := [.int (nI 1)]) (rest := []) ⟨hx, hb, hml, hown, hts⟩ (c_Drill_of l dC dI h0 s.heap.size q1 q2 q2 (nI 1) (Or.inr ⟨by decide, rfl⟩)) (cwV 1 hts g_Drill_value_of rfl rfl rfl (by decide +kernel) ⟨Nat.le_of_ble_eq_true rfl, Nat.le_of_ble_eq_true rfl⟩) ⟨fun a U g mk q => by obtain ⟨q0, q1, qP, qK, qD⟩ := q; exact ⟨q0, q1, qP, va_K.moved (u := U) (U := U.calling g mk a) (Vm.Alike.refl U.vm) qK, qD⟩, va_recv (q := (R_Drill, F_Drill, 2)) (ci := 1) (q0 := 0) hK hP rfl rfl, fun U hU hW => ⟨rfl, by rw [hU], by rw [hU]; exact hPc, va_K.moved hW.alike hKc, hDc.weaken (fun _ _ _ _ => trivial)⟩⟩ rfl rfl hl.1 rfl (lv_room (Nat.le_of_ble_eq_true rfl)) d_Drill_value_2 ⟨Nat.zero_le _, Nat.zero_le _⟩) hS (fun q _ h => hFc q h) hFc (fun u9 ra t9 H1 locs ht hvm hw hB hz1 hk1 hS => ?_)
  obtain ⟨hra, hB⟩ := hB
  rw [hra]
  obtain ⟨hP1, hK1, hD1⟩ := hB
  rw [ht] at hP1
  obtain ⟨hP, hD⟩ := va_join (wr := [(q1, .inr (0, [.int (f 0)])), (q2, .inr (0, [.int (f 1)]))]) (w1 := [(h0, .inr (1, [.ref q1, .ref q2]))]) hP hD [0] [1, 2] rfl rfl (by decide) (by decide) hk1 hFc hP1 hD1
  generalize H1 = H at hP hS ⊢
  have hP : va_P (dC, dI) cr_cl [(q1, .inr (0, [.int (f 0)])), (q2, .inr (0, [.int (f 1)])), (h0, .inr (1, [.ref q1, .ref q2]))] H := hP
  have hD : va_D A [(q1, .inr (0, [.int (f 0)])), (q2, .inr (0, [.int (f 1)])), (h0, .inr (1, [.ref q1, .ref q2]))] := hD
  have hPc := hP.sub (ws' := [(q2, .inr (0, [.int (f 1)]))]) [1] rfl
  have hDc := hD.sub (ws' := [(q2, .inr (0, [.int (f 1)]))]) [1] (by decide) rfl
  have hKc := hK.sub (tys' := []) [] rfl
  have hFc := va_free (wc := [(q2, .inr (0, [.int (f 1)]))]) hD hS hA [1] rfl
  refine va_calll (va_runV (C := R_Crc) (b := q2) (As := []) (rest := []) ⟨hx, hb, hml, hown, hts⟩ (c_Crc_getValue l dC dI q2 H.size (f 1)) (cwV 0 hts g_Drill_value_Crc_getValue rfl rfl rfl (by decide +kernel) ⟨Nat.le_of_ble_eq_true rfl, Nat.le_of_ble_eq_true rfl⟩) ⟨fun a U g mk q => by obtain ⟨q0, q1, qP, qK, qD⟩ := q; exact ⟨q0, q1, qP, va_K.moved (u := U) (U := U.calling g mk a) (Vm.Alike.refl U.vm) qK, qD⟩, va_recv (q := (R_Crc, F_Crc, 1)) (ci := 0) (q0 := 1) hK hP rfl rfl, fun U hU hW => ⟨rfl, by rw [hU], by rw [hU]; exact hPc, va_K.moved hW.alike hKc, hDc.weaken (fun _ _ _ _ => trivial)⟩⟩ rfl rfl hl.1 rfl (lv_room (Nat.le_of_ble_eq_true rfl)) d_Drill_value_5 ⟨Nat.zero_le _, Nat.zero_le _⟩) hS (fun q _ h => hFc q h) hFc (fun r9 u9 t9 H1 locs ht hvm hw hB hz1 hk1 hS => ?_)
  obtain ⟨hP1, hK1, hD1⟩ := hB
  rw [ht] at hP1
  obtain ⟨hP, hD⟩ := va_join (wr := [(q1, .inr (0, [.int (f 0)])), (h0, .inr (1, [.ref q1, .ref q2]))]) (w1 := [(q2, .inr (0, [.int (f 1)]))]) hP hD [1] [0, 2] rfl rfl (by decide) (by decide) hk1 hFc hP1 hD1
  generalize H1 = H at hP hS ⊢
  have hP : va_P (dC, dI) cr_cl [(q1, .inr (0, [.int (f 0)])), (h0, .inr (1, [.ref q1, .ref q2])), (q2, .inr (0, [.int (f 1)]))] H := hP
  have hD : va_D A [(q1, .inr (0, [.int (f 0)])), (h0, .inr (1, [.ref q1, .ref q2])), (q2, .inr (0, [.int (f 1)]))] := hD
  have hP9 := hP.sub (ws' := dr_W h0 q1 q2 f) [1, 0, 2] rfl
  have hD9 := hD.sub (ws' := dr_W h0 q1 q2 f) [1, 0, 2] (by decide) rfl
  have hw : r9 = cr_v (f 1) := hw
  subst hw
  exact W.lret hx hb hr (fun t9 ht hW => ⟨⟨_, (), rfl, rfl, by rw [ht]; exact hP9, va_K.moved hW.alike hK, hD9⟩, hS.F ht⟩) hS.2.2 d_Drill_value_8
/-- value: the sum j -/
theorem c_Drill_value (l : Launch) (dC : Nat → ClassId) (dI : Nat → Nat → Nat) (h0 : Nat) (sz : Nat) (q1 q2 : Nat) (f : Nat → Int32) (j : Nat) (hj : j < 2) : Met l y_Drill_value w_Drill_value ({ frames := 1, cells := 0, slots := 0, locals := 21 }) (va_Pc [.ref h0, .int (nI j)] (fun U => U.heap.size = sz ∧ va_P (dC, dI) cr_cl (dr_W h0 q1 q2 f) U.heap ∧ va_K (dC, dI) cr_cl [] U ∧ va_D (fun _ => True) (dr_W h0 q1 q2 f))) (va_Ql (fun (r : Int64) (_ : Unit) => r = cr_v (f j)) (fun _ => at_W dC dI (va_A (dr_W h0 q1 q2 f) sz) (dr_W h0 q1 q2 f)) (va_A (dr_W h0 q1 q2 f) sz)) 0 0 (va_A (dr_W h0 q1 q2 f) sz) := by
  rcases (show j = 0 ∨ j = 1 by omega) with rfl | rfl
  · exact c_Drill_value_0 l dC dI h0 sz q1 q2 f
  · exact c_Drill_value_1 l dC dI h0 sz q1 q2 f
set_option maxHeartbeats 4000000 in
/-- reset, of the sum 0 -/
theorem c_Drill_reset_0 (l : Launch) (dC : Nat → ClassId) (dI : Nat → Nat → Nat) (h0 : Nat) (sz : Nat) (q1 q2 : Nat) (f : Nat → Int32) : Met l y_Drill_reset w_Drill_reset ({ frames := 1, cells := 0, slots := 0, locals := 21 }) (va_Pc [.ref h0, .int (nI 0)] (fun U => U.heap.size = sz ∧ va_P (dC, dI) cr_cl (dr_W h0 q1 q2 f) U.heap ∧ va_K (dC, dI) cr_cl [] U ∧ va_D (fun _ => True) (dr_W h0 q1 q2 f))) (va_Qv (fun _ : Unit => True) (fun _ => at_W dC dI (va_A (dr_W h0 q1 q2 f) sz) (dr_W h0 q1 q2 (upd f 0 (-1)))) (va_A (dr_W h0 q1 q2 f) sz)) 0 0 (va_A (dr_W h0 q1 q2 f) sz) := by
  refine Met.ofW (cc := b_Drill_reset) (maxL := 2) (ret := none) (by decide) rfl ?_
  intro p e s m args below meth c s₁ B hml hv
  obtain ⟨rfl, hsz, hP, hK, hD0⟩ := hv
  have hx := B.exec
  have hb := B.bytes
  have hr := B.returns
  have hts := atoms_spec (ws := w_Drill_reset) B.pre
  have hown : s.vm.findClass R_Drill = some m.cls := findClass_of_methodNamed B.named
  have hlocks := B.notSynchronized
  subst hsz
  have hD := hD0.self (sz := s.heap.size)
  generalize hAe : va_A (dr_W h0 q1 q2 f) s.heap.size = A at hD ⊢
  have hA : ∀ q : Nat, s.heap.size ≤ q → A q := fun q h => by rw [← hAe]; exact Or.inr h
  have hS : va_S A s.heap s.heap [] := va_S.rf
  have hP : va_P (dC, dI) cr_cl (dr_W h0 q1 q2 f) s.heap := hP
  have hl := lv_entry ([.ref h0, .int (nI 0)]) (n := 2) (Nat.le_of_ble_eq_true rfl)
  rw [lg_entry_eq]
  generalize (lg_sl ([.ref h0, .int (nI 0)]) ++ List.replicate (2 - (lg_sl ([.ref h0, .int (nI 0)])).length) Slot.unset).toArray = ls at hl ⊢
  have hl : lv_has ls 2 [(0, .ref h0), (1, .int (nI 0))] := hl
  refine lv_aload_n hx hb d_Drill_reset_0 rfl (lv_at hl 0 rfl) ?_
  refine lv_iload_n hx hb d_Drill_reset_1 rfl (lv_at hl 1 rfl) ?_
  have hPc := hP.sub (ws' := [(h0, .inr (1, [.ref q1, .ref q2]))]) [0] rfl
  have hDc := hD.sub (ws' := [(h0, .inr (1, [.ref q1, .ref q2]))]) [0] (by decide) rfl
  have hKc := hK.sub (tys' := []) [] rfl
  have hFc := va_free (wc := [(h0, .inr (1, [.ref q1, .ref q2]))]) hD hS hA [0] rfl
  refine va_callr (va_runV (C := R_Drill) (b := h0) (As := [.int (nI 0)]) (rest := []) ⟨hx, hb, hml, hown, hts⟩ (c_Drill_of l dC dI h0 s.heap.size q1 q2 q1 (nI 0) (Or.inl ⟨by decide, rfl⟩)) (cwV 1 hts g_Drill_reset_of rfl rfl rfl (by decide +kernel) ⟨Nat.le_of_ble_eq_true rfl, Nat.le_of_ble_eq_true rfl⟩) ⟨fun a U g mk q => by obtain ⟨q0, q1, qP, qK, qD⟩ := q; exact ⟨q0, q1, qP, va_K.moved (u := U) (U := U.calling g mk a) (Vm.Alike.refl U.vm) qK, qD⟩, va_recv (q := (R_Drill, F_Drill, 2)) (ci := 1) (q0 := 0) hK hP rfl rfl, fun U hU hW => ⟨rfl, by rw [hU], by rw [hU]; exact hPc, va_K.moved hW.alike hKc, hDc.weaken (fun _ _ _ _ => trivial)⟩⟩ rfl rfl hl.1 rfl (lv_room (Nat.le_of_ble_eq_true rfl)) d_Drill_reset_2 ⟨Nat.zero_le _, Nat.zero_le _⟩) hS (fun q _ h => hFc q h) hFc (fun u9 ra t9 H1 locs ht hvm hw hB hz1 hk1 hS => ?_)
  obtain ⟨hra, hB⟩ := hB
  rw [hra]
  obtain ⟨hP1, hK1, hD1⟩ := hB
  rw [ht] at hP1
  obtain ⟨hP, hD⟩ := va_join (wr := [(q1, .inr (0, [.int (f 0)])), (q2, .inr (0, [.int (f 1)]))]) (w1 := [(h0, .inr (1, [.ref q1, .ref q2]))]) hP hD [0] [1, 2] rfl rfl (by decide) (by decide) hk1 hFc hP1 hD1
  generalize H1 = H at hP hS ⊢
  have hP : va_P (dC, dI) cr_cl [(q1, .inr (0, [.int (f 0)])), (q2, .inr (0, [.int (f 1)])), (h0, .inr (1, [.ref q1, .ref q2]))] H := hP
  have hD : va_D A [(q1, .inr (0, [.int (f 0)])), (q2, .inr (0, [.int (f 1)])), (h0, .inr (1, [.ref q1, .ref q2]))] := hD
  have hPc := hP.sub (ws' := [(q1, .inr (0, [.int (f 0)]))]) [0] rfl
  have hDc := hD.sub (ws' := [(q1, .inr (0, [.int (f 0)]))]) [0] (by decide) rfl
  have hKc := hK.sub (tys' := []) [] rfl
  have hFc := va_free (wc := [(q1, .inr (0, [.int (f 0)]))]) hD hS hA [0] rfl
  refine va_callv (va_runV (C := R_Crc) (b := q1) (As := []) (rest := []) ⟨hx, hb, hml, hown, hts⟩ (c_Crc_reset l dC dI q1 H.size (f 0)) (cwV 0 hts g_Drill_reset_Crc_reset rfl rfl rfl (by decide +kernel) ⟨Nat.le_of_ble_eq_true rfl, Nat.le_of_ble_eq_true rfl⟩) ⟨fun a U g mk q => by obtain ⟨q0, q1, qP, qK, qD⟩ := q; exact ⟨q0, q1, qP, va_K.moved (u := U) (U := U.calling g mk a) (Vm.Alike.refl U.vm) qK, qD⟩, va_recv (q := (R_Crc, F_Crc, 1)) (ci := 0) (q0 := 0) hK hP rfl rfl, fun U hU hW => ⟨rfl, by rw [hU], by rw [hU]; exact hPc, va_K.moved hW.alike hKc, hDc.weaken (fun _ _ _ _ => trivial)⟩⟩ rfl rfl hl.1 rfl (lv_room (Nat.le_of_ble_eq_true rfl)) d_Drill_reset_5 ⟨Nat.zero_le _, Nat.zero_le _⟩) hS (fun q _ h => hFc q h) hFc (fun u9 t9 H1 locs ht hvm hw hB hz1 hk1 hS => ?_)
  obtain ⟨hP1, hK1, hD1⟩ := hB
  rw [ht] at hP1
  obtain ⟨hP, hD⟩ := va_join (wr := [(q2, .inr (0, [.int (f 1)])), (h0, .inr (1, [.ref q1, .ref q2]))]) (w1 := [(q1, .inr (0, [.int (-1)]))]) hP hD [0] [1, 2] rfl rfl (by decide) (by decide) hk1 hFc hP1 hD1
  generalize H1 = H at hP hS ⊢
  have hP : va_P (dC, dI) cr_cl [(q2, .inr (0, [.int (f 1)])), (h0, .inr (1, [.ref q1, .ref q2])), (q1, .inr (0, [.int (-1)]))] H := hP
  have hD : va_D A [(q2, .inr (0, [.int (f 1)])), (h0, .inr (1, [.ref q1, .ref q2])), (q1, .inr (0, [.int (-1)]))] := hD
  have hP9 := hP.sub (ws' := dr_W h0 q1 q2 (upd f 0 (-1))) [1, 2, 0] rfl
  have hD9 := hD.sub (ws' := dr_W h0 q1 q2 (upd f 0 (-1))) [1, 2, 0] (by decide) rfl
  exact W.vret hx hb hr (fun t9 ht hW => ⟨⟨(), rfl, trivial, by rw [ht]; exact hP9, va_K.moved hW.alike hK, hD9⟩, hS.F ht⟩) hS.2.2 d_Drill_reset_8
set_option maxHeartbeats 4000000 in
/-- reset, of the sum 1 -/
theorem c_Drill_reset_1 (l : Launch) (dC : Nat → ClassId) (dI : Nat → Nat → Nat) (h0 : Nat) (sz : Nat) (q1 q2 : Nat) (f : Nat → Int32) : Met l y_Drill_reset w_Drill_reset ({ frames := 1, cells := 0, slots := 0, locals := 21 }) (va_Pc [.ref h0, .int (nI 1)] (fun U => U.heap.size = sz ∧ va_P (dC, dI) cr_cl (dr_W h0 q1 q2 f) U.heap ∧ va_K (dC, dI) cr_cl [] U ∧ va_D (fun _ => True) (dr_W h0 q1 q2 f))) (va_Qv (fun _ : Unit => True) (fun _ => at_W dC dI (va_A (dr_W h0 q1 q2 f) sz) (dr_W h0 q1 q2 (upd f 1 (-1)))) (va_A (dr_W h0 q1 q2 f) sz)) 0 0 (va_A (dr_W h0 q1 q2 f) sz) := by
  refine Met.ofW (cc := b_Drill_reset) (maxL := 2) (ret := none) (by decide) rfl ?_
  intro p e s m args below meth c s₁ B hml hv
  obtain ⟨rfl, hsz, hP, hK, hD0⟩ := hv
  have hx := B.exec
  have hb := B.bytes
  have hr := B.returns
  have hts := atoms_spec (ws := w_Drill_reset) B.pre
  have hown : s.vm.findClass R_Drill = some m.cls := findClass_of_methodNamed B.named
  have hlocks := B.notSynchronized
  subst hsz
  have hD := hD0.self (sz := s.heap.size)
  generalize hAe : va_A (dr_W h0 q1 q2 f) s.heap.size = A at hD ⊢
  have hA : ∀ q : Nat, s.heap.size ≤ q → A q := fun q h => by rw [← hAe]; exact Or.inr h
  have hS : va_S A s.heap s.heap [] := va_S.rf
  have hP : va_P (dC, dI) cr_cl (dr_W h0 q1 q2 f) s.heap := hP
  have hl := lv_entry ([.ref h0, .int (nI 1)]) (n := 2) (Nat.le_of_ble_eq_true rfl)
  rw [lg_entry_eq]
  generalize (lg_sl ([.ref h0, .int (nI 1)]) ++ List.replicate (2 - (lg_sl ([.ref h0, .int (nI 1)])).length) Slot.unset).toArray = ls at hl ⊢
  have hl : lv_has ls 2 [(0, .ref h0), (1, .int (nI 1))] := hl
  refine lv_aload_n hx hb d_Drill_reset_0 rfl (lv_at hl 0 rfl) ?_
  refine lv_iload_n hx hb d_Drill_reset_1 rfl (lv_at hl 1 rfl) ?_
  have hPc := hP.sub (ws' := [(h0, .inr (1, [.ref q1, .ref q2]))]) [0] rfl
  have hDc := hD.sub (ws' := [(h0, .inr (1, [.ref q1, .ref q2]))]) [0] (by decide) rfl
  have hKc := hK.sub (tys' := []) [] rfl
  have hFc := va_free (wc := [(h0, .inr (1, [.ref q1, .ref q2]))]) hD hS hA [0] rfl
  refine va_callr (va_runV (C := R_Drill) (b := h0) (As := [.int (nI 1)]) (rest := []) ⟨hx, hb, hml, hown, hts⟩ (c_Drill_of l dC dI h0 s.heap.size q1 q2 q2 (nI 1) (Or.inr ⟨by decide, rfl⟩)) (cwV 1 hts g_Drill_reset_of rfl rfl rfl (by decide +kernel) ⟨Nat.le_of_ble_eq_true rfl, Nat.le_of_ble_eq_true rfl⟩) ⟨fun a U g mk q => by obtain ⟨q0, q1, qP, qK, qD⟩ := q; exact ⟨q0, q1, qP, va_K.moved (u := U) (U := U.calling g mk a) (Vm.Alike.refl U.vm) qK, qD⟩, va_recv (q := (R_Drill, F_Drill, 2)) (ci := 1) (q0 := 0) hK hP rfl rfl, fun U hU hW => ⟨rfl, by rw [hU], by rw [hU]; exact hPc, va_K.moved hW.alike hKc, hDc.weaken (fun _ _ _ _ => trivial)⟩⟩ rfl rfl hl.1 rfl (lv_room (Nat.le_of_ble_eq_true rfl)) d_Drill_reset_2 ⟨Nat.zero_le _, Nat.zero_le _⟩) hS (fun q _ h => hFc q h) hFc (fun u9 ra t9 H1 locs ht hvm hw hB hz1 hk1 hS => ?_)
  obtain ⟨hra, hB⟩ := hB
  rw [hra]
  obtain ⟨hP1, hK1, hD1⟩ := hB
  rw [ht] at hP1
  obtain ⟨hP, hD⟩ := va_join (wr := [(q1, .inr (0, [.int (f 0)])), (q2, .inr (0, [.int (f 1)]))]) (w1 := [(h0, .inr (1, [.ref q1, .ref q2]))]) hP hD [0] [1, 2] rfl rfl (by decide) (by decide) hk1 hFc hP1 hD1
  generalize H1 = H at hP hS ⊢
  have hP : va_P (dC, dI) cr_cl [(q1, .inr (0, [.int (f 0)])), (q2, .inr (0, [.int (f 1)])), (h0, .inr (1, [.ref q1, .ref q2]))] H := hP
  have hD : va_D A [(q1, .inr (0, [.int (f 0)])), (q2, .inr (0, [.int (f 1)])), (h0, .inr (1, [.ref q1, .ref q2]))] := hD
  have hPc := hP.sub (ws' := [(q2, .inr (0, [.int (f 1)]))]) [1] rfl
  have hDc := hD.sub (ws' := [(q2, .inr (0, [.int (f 1)]))]) [1] (by decide) rfl
  have hKc := hK.sub (tys' := []) [] rfl
  have hFc := va_free (wc := [(q2, .inr (0, [.int (f 1)]))]) hD hS hA [1] rfl
  refine va_callv (va_runV (C := R_Crc) (b := q2) (As := []) (rest := []) ⟨hx, hb, hml, hown, hts⟩ (c_Crc_reset l dC dI q2 H.size (f 1)) (cwV 0 hts g_Drill_reset_Crc_reset rfl rfl rfl (by decide +kernel) ⟨Nat.le_of_ble_eq_true rfl, Nat.le_of_ble_eq_true rfl⟩) ⟨fun a U g mk q => by obtain ⟨q0, q1, qP, qK, qD⟩ := q; exact ⟨q0, q1, qP, va_K.moved (u := U) (U := U.calling g mk a) (Vm.Alike.refl U.vm) qK, qD⟩, va_recv (q := (R_Crc, F_Crc, 1)) (ci := 0) (q0 := 1) hK hP rfl rfl, fun U hU hW => ⟨rfl, by rw [hU], by rw [hU]; exact hPc, va_K.moved hW.alike hKc, hDc.weaken (fun _ _ _ _ => trivial)⟩⟩ rfl rfl hl.1 rfl (lv_room (Nat.le_of_ble_eq_true rfl)) d_Drill_reset_5 ⟨Nat.zero_le _, Nat.zero_le _⟩) hS (fun q _ h => hFc q h) hFc (fun u9 t9 H1 locs ht hvm hw hB hz1 hk1 hS => ?_)
  obtain ⟨hP1, hK1, hD1⟩ := hB
  rw [ht] at hP1
  obtain ⟨hP, hD⟩ := va_join (wr := [(q1, .inr (0, [.int (f 0)])), (h0, .inr (1, [.ref q1, .ref q2]))]) (w1 := [(q2, .inr (0, [.int (-1)]))]) hP hD [1] [0, 2] rfl rfl (by decide) (by decide) hk1 hFc hP1 hD1
  generalize H1 = H at hP hS ⊢
  have hP : va_P (dC, dI) cr_cl [(q1, .inr (0, [.int (f 0)])), (h0, .inr (1, [.ref q1, .ref q2])), (q2, .inr (0, [.int (-1)]))] H := hP
  have hD : va_D A [(q1, .inr (0, [.int (f 0)])), (h0, .inr (1, [.ref q1, .ref q2])), (q2, .inr (0, [.int (-1)]))] := hD
  have hP9 := hP.sub (ws' := dr_W h0 q1 q2 (upd f 1 (-1))) [1, 0, 2] rfl
  have hD9 := hD.sub (ws' := dr_W h0 q1 q2 (upd f 1 (-1))) [1, 0, 2] (by decide) rfl
  exact W.vret hx hb hr (fun t9 ht hW => ⟨⟨(), rfl, trivial, by rw [ht]; exact hP9, va_K.moved hW.alike hK, hD9⟩, hS.F ht⟩) hS.2.2 d_Drill_reset_8
/-- reset: the sum j -/
theorem c_Drill_reset (l : Launch) (dC : Nat → ClassId) (dI : Nat → Nat → Nat) (h0 : Nat) (sz : Nat) (q1 q2 : Nat) (f : Nat → Int32) (j : Nat) (hj : j < 2) : Met l y_Drill_reset w_Drill_reset ({ frames := 1, cells := 0, slots := 0, locals := 21 }) (va_Pc [.ref h0, .int (nI j)] (fun U => U.heap.size = sz ∧ va_P (dC, dI) cr_cl (dr_W h0 q1 q2 f) U.heap ∧ va_K (dC, dI) cr_cl [] U ∧ va_D (fun _ => True) (dr_W h0 q1 q2 f))) (va_Qv (fun _ : Unit => True) (fun _ => at_W dC dI (va_A (dr_W h0 q1 q2 f) sz) (dr_W h0 q1 q2 (upd f j (-1)))) (va_A (dr_W h0 q1 q2 f) sz)) 0 0 (va_A (dr_W h0 q1 q2 f) sz) := by
  rcases (show j = 0 ∨ j = 1 by omega) with rfl | rfl
  · exact c_Drill_reset_0 l dC dI h0 sz q1 q2 f
  · exact c_Drill_reset_1 l dC dI h0 sz q1 q2 f
end
section
/-! THE CLAIM OUT OF ONE WALK OF THE LAW'S BODY. Your part is whole_start (and what it stands on); all else here is the same for every law, but numbers. -/
def lw_P (b : Addr) (xs : List Int32) (args : Array Value) (s : State) : Prop := args = #[.ref b] ∧ s.IntsAt b xs ∧ xs.length ≤ 6000 ∧ (Jvm.Cond.and given_1 narrow_1).before args s = true
def lw_Q (_ : Array Value) (s : State) (o : Outcome) (t : State) : Prop := o = .returned (some (.int 1)) ∧ Framed s o t [] 4 6
def lw_Z (below : List Frame) (a : Array Value) (s : State) : State → Prop := fun t => ∃ o, t.status = .running ∧ Ended t below o ∧ lw_Q a s o t
/-- the law's own end, with 1 on the stack, nothing written that was there before, its room as the claim has it -/
theorem lw_ret {p : Program} {l : Launch} {e : Env} {s : State} {m : MethodId} {below : List Frame} {meth : Method} {c : Code} {b : Nat} (hx : p.tables.exec = Jvm.exec) (hb : c.code = code) (hr : meth.sig.returnType = ret) (hlocks : meth.locks = false) {pc : Nat} {H : Heap} {ls : Array Slot} (hdg : decode code pc = .ok (.ireturn, 1)) : W p l e room_1 s m #[Value.ref b] below meth c H [] 4 6 (lw_Z below #[Value.ref b] s) (F0 m pc ls [.int 1]) := by
  intro T hT X
  obtain ⟨fs, hret, hrun, hended, hW, hframe⟩ := X.leave (v := some (.int 1)) (hlocks := hlocks) (fun h => by rw [hr] at h; cases h)
  have hmeth' : T.vm.method? m = some meth := X.method'
  refine ⟨T.setFrames fs, ?_, .returned (some (.int 1)), hrun, hended, rfl, ⟨_, rfl⟩, hW, hframe⟩
  jvm_step X.here [X.here.top, hx, hb, hdg, hmeth', hr, ret, narrow_b1]
  (try refine ⟨rfl, ?_⟩); (try refine ⟨rfl, ?_⟩)
  first | (intro acts; rw [hret _ acts rfl rfl rfl]) | rw [hret _ _ rfl rfl rfl]
  exact Steps.refl _
/-- what holds at the law's entry: the machine, the code, the tables' words (any of lw_tbl by 'hts w (by decide +kernel)'), the script of L ints xs at the cell b, what the Statement gives of the start (any of its parts by flat_of_before) -/
def lw_At (p : Program) (s : State) (m : MethodId) (meth : Method) (c : Code) (b L : Nat) (xs : Nat → Int32) : Prop :=
  p.tables.exec = Jvm.exec ∧ c.code = code ∧ meth.sig.returnType = ret ∧ c.maxLocals = 8 ∧ s.vm.findClass R_law = some m.cls ∧ (∀ w ∈ lw_tbl, w.before #[Value.ref b] s = true) ∧ va_X b L xs s s.heap ∧ b < s.heap.size ∧ meth.locks = false ∧ (Jvm.Cond.and given_1 narrow_1).before #[Value.ref b] s = true
/-! The law's own world: the drill, its two sums g 0, g 1, and the array left, with h -/
abbrev lw_W (h0 q1 q2 aL : Nat) (cA : ClassId) (g h : Nat → Int32) : va_W := [(h0, .inr (1, [.ref q1, .ref q2])), (q1, .inr (0, [.int (g 0)])), (q2, .inr (0, [.int (g 1)])), (aL, .inl (cA, 2, .inl h))]
def lw_J (dC : Nat → ClassId) (dI : Nat → Nat → Nat) (h0 q1 q2 aL : Nat) (cA : ClassId) (g h : Nat → Int32) (s : State) (H : Heap) (locs : List Loc) : Prop := va_P (dC, dI) cr_cl (lw_W h0 q1 q2 aL cA g h) H ∧ va_D (fun q => s.heap.size ≤ q) (lw_W h0 q1 q2 aL cA g h) ∧ va_S (fun q => s.heap.size ≤ q) s.heap H locs
theorem cr_uu (f : Nat → Int32) (k : Nat) (v w : Int32) : upd (upd f k v) k w = upd f k w := by
  funext j
  by_cases h : j = k <;> simp [upd, h]
theorem cr_uself (f : Nat → Int32) (k : Nat) : upd f k (f k) = f := by
  funext j
  by_cases h : j = k <;> simp [upd, h]
section LAWCALLS
variable {p : Program} {l : Launch} {e : Env} {s : State} {m : MethodId} {below : List Frame} {meth : Method} {c : Code} {b L : Nat} {xs : Nat → Int32} {dC : Nat → ClassId} {dI : Nat → Nat → Nat} {h0 q1 q2 aL t : Nat} {cA : ClassId}
set_option maxHeartbeats 4000000 in
/-- the law calls value -/
theorem lw_value (C0 : lw_At p s m meth c b L xs) (hK : va_K (dC, dI) cr_cl [(cA, .int)] s) {f h : Nat → Int32} {H : Heap} {locs : List Loc} (J : lw_J dC dI h0 q1 q2 aL cA f h s H locs) {pc : Nat} {ls : Array Slot} (hl : ls.size = 8) {j : Nat} (hj : j < 2) (hdg : decode code pc = .ok (.invokevirtual 19, 3)) (kk : ∀ (H1 : Heap) (locs1 : List Loc), lw_J dC dI h0 q1 q2 aL cA f h s H1 locs1 → W p l e room_1 s m #[Value.ref b] below meth c H1 locs1 4 6 (lw_Z below #[Value.ref b] s) (F0 m (pc + 3) ls [.long (cr_v (f j))])) : W p l e room_1 s m #[Value.ref b] below meth c H locs 4 6 (lw_Z below #[Value.ref b] s) (F0 m pc ls (.int (nI j) :: .ref h0 :: [])) := by
  obtain ⟨hx, hb, hr, hml, hown, hts, hX, hbl, hlocks, hgv⟩ := id C0
  obtain ⟨hP, hD, hS⟩ := J
  have hA : ∀ q : Nat, s.heap.size ≤ q → (fun q => s.heap.size ≤ q) q := fun q h => h
  have hPc := hP.sub (ws' := (dr_W h0 q1 q2 f)) [0, 1, 2] rfl
  have hDc := hD.sub (ws' := (dr_W h0 q1 q2 f)) [0, 1, 2] (by decide) rfl
  have hKc := hK.sub (tys' := []) [] rfl
  have hFc := va_free (wc := (dr_W h0 q1 q2 f)) hD hS hA [0, 1, 2] rfl
  refine va_calll (va_runV (C := R_Drill) (b := h0) (As := [.int (nI j)]) (rest := []) ⟨hx, hb, hml, hown, hts⟩ (c_Drill_value l dC dI h0 H.size q1 q2 f j hj) (cwV 1 hts g_law_value rfl rfl rfl (by decide +kernel) ⟨Nat.le_of_ble_eq_true rfl, Nat.le_of_ble_eq_true rfl⟩) ⟨fun a U g mk q => by obtain ⟨q0, q1, qP, qK, qD⟩ := q; exact ⟨q0, q1, qP, va_K.moved (u := U) (U := U.calling g mk a) (Vm.Alike.refl U.vm) qK, qD⟩, va_recv (q := (R_Drill, F_Drill, 2)) (ci := 1) (q0 := 0) hK hP rfl rfl, fun U hU hW => ⟨rfl, by rw [hU], by rw [hU]; exact hPc, va_K.moved hW.alike hKc, hDc.weaken (fun _ _ _ _ => trivial)⟩⟩ rfl rfl hl rfl (lv_room (Nat.le_of_ble_eq_true rfl)) hdg ⟨Nat.le_of_ble_eq_true rfl, Nat.le_of_ble_eq_true rfl⟩) hS (fun q _ h => hFc q h) hFc (fun r9 u9 t9 H1 locs ht hvm hw hB hz1 hk1 hS => ?_)
  obtain ⟨hP1, hK1, hD1⟩ := hB
  rw [ht] at hP1
  obtain ⟨hP, hD⟩ := va_join (wr := [(aL, .inl (cA, 2, .inl h))]) (w1 := dr_W h0 q1 q2 f) hP hD [0, 1, 2] [3] rfl rfl (by decide) (by decide) hk1 hFc hP1 hD1
  have hw : r9 = cr_v (f j) := hw
  subst hw
  exact kk H1 locs ⟨hP.sub (ws' := lw_W h0 q1 q2 aL cA f h) [1, 2, 3, 0] rfl, hD.sub (ws' := lw_W h0 q1 q2 aL cA f h) [1, 2, 3, 0] (by decide) rfl, hS⟩
set_option maxHeartbeats 4000000 in
/-- the law calls take -/
theorem lw_take (C0 : lw_At p s m meth c b L xs) (hK : va_K (dC, dI) cr_cl [(cA, .int)] s) (hTB : tb_ok t (fun q => s.heap.size ≤ q) s s.heap) {f h : Nat → Int32} {H : Heap} {locs : List Loc} (J : lw_J dC dI h0 q1 q2 aL cA f h s H locs) {pc : Nat} {ls : Array Slot} (hl : ls.size = 8) {j : Nat} (hj : j < 2) {w : Int32} (hdg : decode code pc = .ok (.invokevirtual 14, 3)) (kk : ∀ (H1 : Heap) (locs1 : List Loc), lw_J dC dI h0 q1 q2 aL cA (upd f j (cr_up (f j) w)) h s H1 locs1 → W p l e room_1 s m #[Value.ref b] below meth c H1 locs1 4 6 (lw_Z below #[Value.ref b] s) (F0 m (pc + 3) ls [])) : W p l e room_1 s m #[Value.ref b] below meth c H locs 4 6 (lw_Z below #[Value.ref b] s) (F0 m pc ls (.int w :: .int (nI j) :: .ref h0 :: [])) := by
  obtain ⟨hx, hb, hr, hml, hown, hts, hX, hbl, hlocks, hgv⟩ := id C0
  obtain ⟨hP, hD, hS⟩ := J
  have hA : ∀ q : Nat, s.heap.size ≤ q → (fun q => s.heap.size ≤ q) q := fun q h => h
  have hPc := hP.sub (ws' := (dr_W h0 q1 q2 f)) [0, 1, 2] rfl
  have hDc := hD.sub (ws' := (dr_W h0 q1 q2 f)) [0, 1, 2] (by decide) rfl
  have hKc := hK.sub (tys' := []) [] rfl
  have hFc := va_free (wc := (dr_W h0 q1 q2 f)) hD hS hA [0, 1, 2] rfl
  refine va_callv (va_runV (C := R_Drill) (b := h0) (As := [.int (nI j), .int w]) (rest := []) ⟨hx, hb, hml, hown, hts⟩ (c_Drill_take l dC dI h0 H.size q1 q2 f t w j hj) (cwV 2 hts g_law_take rfl rfl rfl (by decide +kernel) ⟨Nat.le_of_ble_eq_true rfl, Nat.le_of_ble_eq_true rfl⟩) ⟨fun a U g mk q => by obtain ⟨q0, q1, qP, qK, qD, qT⟩ := q; exact ⟨q0, q1, qP, va_K.moved (u := U) (U := U.calling g mk a) (Vm.Alike.refl U.vm) qK, qD, tb_ok.moved (u := U) (U := U.calling g mk a) (Vm.Alike.refl U.vm) qT⟩, va_recv (q := (R_Drill, F_Drill, 2)) (ci := 1) (q0 := 0) hK hP rfl rfl, fun U hU hW => ⟨rfl, by rw [hU], by rw [hU]; exact hPc, va_K.moved hW.alike hKc, hDc.weaken (fun _ _ _ _ => trivial), hTB.use hS hFc hU hW.alike⟩⟩ rfl rfl hl rfl (lv_room (Nat.le_of_ble_eq_true rfl)) hdg ⟨Nat.le_of_ble_eq_true rfl, Nat.le_of_ble_eq_true rfl⟩) hS (fun q _ h => hFc q h) hFc (fun u9 t9 H1 locs ht hvm hw hB hz1 hk1 hS => ?_)
  obtain ⟨hP1, hK1, hD1⟩ := hB
  rw [ht] at hP1
  obtain ⟨hP, hD⟩ := va_join (wr := [(aL, .inl (cA, 2, .inl h))]) (w1 := dr_W h0 q1 q2 (upd f j (cr_up (f j) w))) hP hD [0, 1, 2] [3] rfl rfl (by decide) (by decide) hk1 hFc hP1 hD1
  exact kk H1 locs ⟨hP.sub (ws' := lw_W h0 q1 q2 aL cA (upd f j (cr_up (f j) w)) h) [1, 2, 3, 0] rfl, hD.sub (ws' := lw_W h0 q1 q2 aL cA (upd f j (cr_up (f j) w)) h) [1, 2, 3, 0] (by decide) rfl, hS⟩
set_option maxHeartbeats 4000000 in
/-- the law calls reset -/
theorem lw_reset (C0 : lw_At p s m meth c b L xs) (hK : va_K (dC, dI) cr_cl [(cA, .int)] s) {f h : Nat → Int32} {H : Heap} {locs : List Loc} (J : lw_J dC dI h0 q1 q2 aL cA f h s H locs) {pc : Nat} {ls : Array Slot} (hl : ls.size = 8) {j : Nat} (hj : j < 2) (hdg : decode code pc = .ok (.invokevirtual 10, 3)) (kk : ∀ (H1 : Heap) (locs1 : List Loc), lw_J dC dI h0 q1 q2 aL cA (upd f j (-1)) h s H1 locs1 → W p l e room_1 s m #[Value.ref b] below meth c H1 locs1 4 6 (lw_Z below #[Value.ref b] s) (F0 m (pc + 3) ls [])) : W p l e room_1 s m #[Value.ref b] below meth c H locs 4 6 (lw_Z below #[Value.ref b] s) (F0 m pc ls (.int (nI j) :: .ref h0 :: [])) := by
  obtain ⟨hx, hb, hr, hml, hown, hts, hX, hbl, hlocks, hgv⟩ := id C0
  obtain ⟨hP, hD, hS⟩ := J
  have hA : ∀ q : Nat, s.heap.size ≤ q → (fun q => s.heap.size ≤ q) q := fun q h => h
  have hPc := hP.sub (ws' := (dr_W h0 q1 q2 f)) [0, 1, 2] rfl
  have hDc := hD.sub (ws' := (dr_W h0 q1 q2 f)) [0, 1, 2] (by decide) rfl
  have hKc := hK.sub (tys' := []) [] rfl
  have hFc := va_free (wc := (dr_W h0 q1 q2 f)) hD hS hA [0, 1, 2] rfl
  refine va_callv (va_runV (C := R_Drill) (b := h0) (As := [.int (nI j)]) (rest := []) ⟨hx, hb, hml, hown, hts⟩ (c_Drill_reset l dC dI h0 H.size q1 q2 f j hj) (cwV 1 hts g_law_reset rfl rfl rfl (by decide +kernel) ⟨Nat.le_of_ble_eq_true rfl, Nat.le_of_ble_eq_true rfl⟩) ⟨fun a U g mk q => by obtain ⟨q0, q1, qP, qK, qD⟩ := q; exact ⟨q0, q1, qP, va_K.moved (u := U) (U := U.calling g mk a) (Vm.Alike.refl U.vm) qK, qD⟩, va_recv (q := (R_Drill, F_Drill, 2)) (ci := 1) (q0 := 0) hK hP rfl rfl, fun U hU hW => ⟨rfl, by rw [hU], by rw [hU]; exact hPc, va_K.moved hW.alike hKc, hDc.weaken (fun _ _ _ _ => trivial)⟩⟩ rfl rfl hl rfl (lv_room (Nat.le_of_ble_eq_true rfl)) hdg ⟨Nat.le_of_ble_eq_true rfl, Nat.le_of_ble_eq_true rfl⟩) hS (fun q _ h => hFc q h) hFc (fun u9 t9 H1 locs ht hvm hw hB hz1 hk1 hS => ?_)
  obtain ⟨hP1, hK1, hD1⟩ := hB
  rw [ht] at hP1
  obtain ⟨hP, hD⟩ := va_join (wr := [(aL, .inl (cA, 2, .inl h))]) (w1 := dr_W h0 q1 q2 (upd f j (-1))) hP hD [0, 1, 2] [3] rfl rfl (by decide) (by decide) hk1 hFc hP1 hD1
  exact kk H1 locs ⟨hP.sub (ws' := lw_W h0 q1 q2 aL cA (upd f j (-1)) h) [1, 2, 3, 0] rfl, hD.sub (ws' := lw_W h0 q1 q2 aL cA (upd f j (-1)) h) [1, 2, 3, 0] (by decide) rfl, hS⟩
end LAWCALLS
end
section
/-! The law's loops: the tail at 137, the eight bits at 80, the script at 22 -/
section LAWLOOPS
variable {p : Program} {l : Launch} {e : Env} {s : State} {m : MethodId} {below : List Frame} {meth : Method} {c : Code} {b L : Nat} {xs : Nat → Int32} {dC : Nat → ClassId} {dI : Nat → Nat → Nat} {h0 q1 q2 aL t : Nat} {cA : ClassId}
set_option maxHeartbeats 4000000 in
/-- 137 .. 177: both sums are asked, and they are as the law has them -/
theorem lw_tail (C0 : lw_At p s m meth c b L xs) (hK : va_K (dC, dI) cr_cl [(cA, .int)] s) {f : Nat → Int32} {i : Int32} {ls : Array Slot} {H : Heap} {locs : List Loc} (hl : lv_has ls 8 [(0, .ref b), (1, .ref h0), (2, .ref aL), (3, .int i)]) (J : lw_J dC dI h0 q1 q2 aL cA f f s H locs) (kk : ∀ (H1 : Heap) (locs1 : List Loc), lw_J dC dI h0 q1 q2 aL cA f f s H1 locs1 → W p l e room_1 s m #[Value.ref b] below meth c H1 locs1 4 6 (lw_Z below #[Value.ref b] s) (F0 m 177 ls [])) : W p l e room_1 s m #[Value.ref b] below meth c H locs 4 6 (lw_Z below #[Value.ref b] s) (F0 m 137 ls []) := by
  obtain ⟨hx, hb, hr, hml, hown, hts, hX, hbl, hlocks, hgv⟩ := id C0
  refine lv_aload_n hx hb d_law_137 rfl (lv_at hl 1 rfl) ?_
  refine lv_iconst (v := nI 0) hx hb d_law_138 (by decide) ?_
  refine lw_value C0 hK J hl.1 (j := 0) (by decide) d_law_139 (fun H locs J => ?_)
  have hP := J.1
  refine lv_aload_n hx hb d_law_142 rfl (lv_at hl 2 rfl) ?_
  refine lv_iconst (v := nI 0) hx hb d_law_143 (by decide) ?_
  refine va_iald hx hb hK hP 3 0 rfl rfl (vp_in_nI (by decide) (by decide)) d_law_144 ?_
  rw [nI_clamp (show 0 < 2 ^ 31 by decide)]
  refine lv_iconst (v := -1) hx hb d_law_145 (by decide) ?_
  refine lv_ixor hx hb d_law_146 ?_
  refine lv_i2l hx hb d_law_147 rfl ?_
  refine lv_ldc2 hx hb hown (hts (.constantLong R_law 23 4294967295) (by decide +kernel)) d_law_148 ?_
  refine lv_land hx hb d_law_151 ?_
  refine W.lcmp hx hb d_law_152 ?_
  refine lv_if_ne hx hb d_law_153 (tgt := 175) rfl (fun hne => absurd (cr_cmp (cr_v (f 0))) hne) (fun _ => ?_)
  refine lv_aload_n hx hb d_law_156 rfl (lv_at hl 1 rfl) ?_
  refine lv_iconst (v := nI 1) hx hb d_law_157 (by decide) ?_
  refine lw_value C0 hK J hl.1 (j := 1) (by decide) d_law_158 (fun H locs J => ?_)
  have hP := J.1
  refine lv_aload_n hx hb d_law_161 rfl (lv_at hl 2 rfl) ?_
  refine lv_iconst (v := nI 1) hx hb d_law_162 (by decide) ?_
  refine va_iald hx hb hK hP 3 0 rfl rfl (vp_in_nI (by decide) (by decide)) d_law_163 ?_
  rw [nI_clamp (show 1 < 2 ^ 31 by decide)]
  refine lv_iconst (v := -1) hx hb d_law_164 (by decide) ?_
  refine lv_ixor hx hb d_law_165 ?_
  refine lv_i2l hx hb d_law_166 rfl ?_
  refine lv_ldc2 hx hb hown (hts (.constantLong R_law 23 4294967295) (by decide +kernel)) d_law_167 ?_
  refine lv_land hx hb d_law_170 ?_
  refine W.lcmp hx hb d_law_171 ?_
  exact lv_if_eq hx hb d_law_172 (tgt := 177) rfl (fun _ => kk _ _ J) (fun hne => absurd (cr_cmp (cr_v (f 1))) hne)
set_option maxHeartbeats 4000000 in
/-- 109 .. 80: the place is shifted, and takes the polynomial where o is not 0 -/
theorem lw_shift (C0 : lw_At p s m meth c b L xs) (hK : va_K (dC, dI) cr_cl [(cA, .int)] s) {g h : Nat → Int32} {i w o : Int32} {j k : Nat} (hj : j < 2) {ls : Array Slot} {H : Heap} {locs : List Loc} (hl : lv_has ls 8 [(0, .ref b), (1, .ref h0), (2, .ref aL), (3, .int i), (4, .int w), (5, .int (nI j)), (6, .int (nI k)), (7, .int o)]) (J : lw_J dC dI h0 q1 q2 aL cA g h s H locs) (kk : ∀ (ls1 : Array Slot) (H1 : Heap) (locs1 : List Loc), lv_has ls1 8 [(0, .ref b), (1, .ref h0), (2, .ref aL), (3, .int i), (4, .int w), (5, .int (nI j)), (6, .int (nI (k + 1)))] → lw_J dC dI h0 q1 q2 aL cA g (upd h j (if o = 0 then cr_us (h j) 1 else cr_us (h j) 1 ^^^ (-2097792136))) s H1 locs1 → W p l e room_1 s m #[Value.ref b] below meth c H1 locs1 4 6 (lw_Z below #[Value.ref b] s) (F0 m 80 ls1 [])) : W p l e room_1 s m #[Value.ref b] below meth c H locs 4 6 (lw_Z below #[Value.ref b] s) (F0 m 109 ls []) := by
  obtain ⟨hx, hb, hr, hml, hown, hts, hX, hbl, hlocks, hgv⟩ := id C0
  have hc : (nI j).toNatClampNeg = j := nI_clamp (by omega)
  have hin : vp_in (nI j) 2 := vp_in_nI hj (by decide)
  have hback : ∀ (z : Int32) (H1 : Heap) (locs1 : List Loc), z = (if o = 0 then cr_us (h j) 1 else cr_us (h j) 1 ^^^ (-2097792136)) → lw_J dC dI h0 q1 q2 aL cA g (upd h j z) s H1 locs1 → W p l e room_1 s m #[Value.ref b] below meth c H1 locs1 4 6 (lw_Z below #[Value.ref b] s) (F0 m 131 ls []) := by
    intro z H1 locs1 ez J1
    subst ez
    refine lv_iinc (k := 6) (v := nI (k + 1)) hx hb d_law_131 hl rfl (by rw [show Int32.ofInt 1 = 1 from by decide]; exact (nI_succ k).symm) (by decide) rfl (fun ls1 hl1 => ?_)
    refine lv_goto hx hb d_law_134 (tgt := 80) rfl ?_
    exact kk ls1 H1 locs1 (lv_sub hl1 [1, 2, 3, 4, 5, 6, 0] rfl) J1
  obtain ⟨hP, hD, hS⟩ := J
  refine lv_aload_n hx hb d_law_109 rfl (lv_at hl 2 rfl) ?_
  refine lv_iload hx hb d_law_110 (lv_at hl 5 rfl) ?_
  refine lv_dup2_11 hx hb d_law_112 rfl rfl ?_
  refine va_iald hx hb hK hP 3 0 rfl rfl hin d_law_113 ?_
  rw [hc]
  refine lv_iconst (v := 1) hx hb d_law_114 (by decide) ?_
  refine lv_iushr (v := cr_us (h j) 1) hx hb d_law_115 rfl ?_
  refine va_iast hx hb hK hP hD hS 3 0 rfl rfl hin d_law_116 (fun H locs hP hD hS => ?_)
  rw [hc] at hP hD
  have hP : va_P (dC, dI) cr_cl (lw_W h0 q1 q2 aL cA g (upd h j (cr_us (h j) 1))) H := hP
  have hD : va_D (fun q => s.heap.size ≤ q) (lw_W h0 q1 q2 aL cA g (upd h j (cr_us (h j) 1))) := hD
  refine lv_iload hx hb d_law_117 (lv_at hl 7 rfl) ?_
  refine lv_if_eq hx hb d_law_119 (tgt := 131) rfl (fun ho => ?_) (fun ho => ?_)
  · exact hback (cr_us (h j) 1) H locs (by rw [if_pos ho]) ⟨hP, hD, hS⟩
  · refine lv_aload_n hx hb d_law_122 rfl (lv_at hl 2 rfl) ?_
    refine lv_iload hx hb d_law_123 (lv_at hl 5 rfl) ?_
    refine lv_dup2_11 hx hb d_law_125 rfl rfl ?_
    refine va_iald hx hb hK hP 3 0 rfl rfl hin d_law_126 ?_
    rw [hc]
    rw [pk_us]
    refine lv_ldc hx hb hown (hts (.constant R_law 18 (-2097792136)) (by decide +kernel)) d_law_127 ?_
    refine lv_ixor hx hb d_law_129 ?_
    refine va_iast hx hb hK hP hD hS 3 0 rfl rfl hin d_law_130 (fun H locs hP hD hS => ?_)
    rw [hc, cr_uu] at hP hD
    exact hback (cr_us (h j) 1 ^^^ (-2097792136)) H locs (by rw [if_neg ho]) ⟨hP, hD, hS⟩
set_option maxHeartbeats 4000000 in
/-- 80 .. 137: the eight bits -/
theorem lw_bits (C0 : lw_At p s m meth c b L xs) (hK : va_K (dC, dI) cr_cl [(cA, .int)] s) {g f : Nat → Int32} {i w : Int32} {j : Nat} (hj : j < 2) (kk : ∀ (ls1 : Array Slot) (H1 : Heap) (locs1 : List Loc), lv_has ls1 8 [(0, .ref b), (1, .ref h0), (2, .ref aL), (3, .int i)] → lw_J dC dI h0 q1 q2 aL cA g (upd f j (cr_it (f j) w 8)) s H1 locs1 → W p l e room_1 s m #[Value.ref b] below meth c H1 locs1 4 6 (lw_Z below #[Value.ref b] s) (F0 m 137 ls1 [])) : ∀ (n k : Nat) (ls : Array Slot) (H : Heap) (locs : List Loc), k + n = 8 → lv_has ls 8 [(0, .ref b), (1, .ref h0), (2, .ref aL), (3, .int i), (4, .int w), (5, .int (nI j)), (6, .int (nI k))] → lw_J dC dI h0 q1 q2 aL cA g (upd f j (cr_it (f j) w k)) s H locs → W p l e room_1 s m #[Value.ref b] below meth c H locs 4 6 (lw_Z below #[Value.ref b] s) (F0 m 80 ls []) := by
  obtain ⟨hx, hb, hr, hml, hown, hts, hX, hbl, hlocks, hgv⟩ := id C0
  have hc : (nI j).toNatClampNeg = j := nI_clamp (by omega)
  have hin : vp_in (nI j) 2 := vp_in_nI hj (by decide)
  intro n
  induction n with
  | zero =>
    intro k ls H locs hk hl J
    obtain rfl : k = 8 := by omega
    refine lv_iload hx hb d_law_80 (lv_at hl 6 rfl) ?_
    refine lv_bipush (v := nI 8) hx hb d_law_82 (by decide) ?_
    exact lv_icmp_ge hx hb d_law_84 (tgt := 137) rfl (fun _ => kk ls H locs (lv_sub hl [0, 1, 2, 3] rfl) J) (fun hn => absurd (nI_le (Nat.le_refl 8) (by decide)) hn)
  | succ n ih =>
    intro k ls H locs hk hl J
    have hP := J.1
    refine lv_iload hx hb d_law_80 (lv_at hl 6 rfl) ?_
    refine lv_bipush (v := nI 8) hx hb d_law_82 (by decide) ?_
    refine lv_icmp_ge hx hb d_law_84 (tgt := 137) rfl (fun hn => absurd hn (nI_ge (show k < 8 by omega) (by decide))) (fun _ => ?_)
    refine lv_aload_n hx hb d_law_87 rfl (lv_at hl 2 rfl) ?_
    refine lv_iload hx hb d_law_88 (lv_at hl 5 rfl) ?_
    refine va_iald hx hb hK hP 3 0 rfl rfl hin d_law_90 ?_
    rw [hc]
    rw [pk_us]
    refine lv_iload hx hb d_law_91 (lv_at hl 4 rfl) ?_
    refine lv_iload hx hb d_law_93 (lv_at hl 6 rfl) ?_
    refine lv_iushr (v := cr_us w (nI k)) hx hb d_law_95 rfl ?_
    refine lv_ixor hx hb d_law_96 ?_
    refine lv_iconst (v := 1) hx hb d_law_97 (by decide) ?_
    refine lv_iand hx hb d_law_98 ?_
    have hnext : ∀ (o : Int32) (ls1 : Array Slot), (if o = 0 then cr_us (cr_it (f j) w k) 1 else cr_us (cr_it (f j) w k) 1 ^^^ (-2097792136)) = cr_it (f j) w (k + 1) → lv_has ls1 8 [(0, .ref b), (1, .ref h0), (2, .ref aL), (3, .int i), (4, .int w), (5, .int (nI j)), (6, .int (nI k)), (7, .int o)] → W p l e room_1 s m #[Value.ref b] below meth c H locs 4 6 (lw_Z below #[Value.ref b] s) (F0 m 109 ls1 []) := by
      intro o ls1 eo hl1
      refine lw_shift C0 hK hj hl1 J (fun ls2 H2 locs2 hl2 J2 => ?_)
      rw [cr_uu, pk_us, eo] at J2
      exact ih (k + 1) ls2 H2 locs2 (by omega) hl2 J2
    refine lv_if_eq hx hb d_law_99 (tgt := 106) rfl (fun h1 => ?_) (fun h1 => ?_)
    · refine lv_iconst (v := 0) hx hb d_law_106 (by decide) ?_
      refine lv_istore hx hb d_law_107 hl (by decide) rfl (fun ls1 hl1 => ?_)
      refine hnext 0 ls1 ?_ (lv_sub hl1 [1, 2, 3, 4, 5, 6, 7, 0] rfl)
      show _ = cr_st (cr_it (f j) w k) w (nI k)
      unfold cr_st
      rw [if_pos rfl, if_pos h1]
    · refine lv_iconst (v := 1) hx hb d_law_102 (by decide) ?_
      refine lv_goto hx hb d_law_103 (tgt := 107) rfl ?_
      refine lv_istore hx hb d_law_107 hl (by decide) rfl (fun ls1 hl1 => ?_)
      refine hnext 1 ls1 ?_ (lv_sub hl1 [1, 2, 3, 4, 5, 6, 7, 0] rfl)
      show _ = cr_st (cr_it (f j) w k) w (nI k)
      unfold cr_st
      rw [if_neg (show ¬ (1 : Int32) = 0 by decide), if_neg h1]
set_option maxHeartbeats 4000000 in
/-- 22: the script -/
theorem lw_loop (C0 : lw_At p s m meth c b L xs) (hK : va_K (dC, dI) cr_cl [(cA, .int)] s) (hTB : tb_ok t (fun q => s.heap.size ≤ q) s s.heap) (hL : L ≤ 6000) : ∀ (n i : Nat) (ls : Array Slot) (H : Heap) (locs : List Loc) (f : Nat → Int32), i + n = L → lv_has ls 8 [(0, .ref b), (1, .ref h0), (2, .ref aL), (3, .int (nI i))] → lw_J dC dI h0 q1 q2 aL cA f f s H locs → W p l e room_1 s m #[Value.ref b] below meth c H locs 4 6 (lw_Z below #[Value.ref b] s) (F0 m 22 ls []) := by
  obtain ⟨hx, hb, hr, hml, hown, hts, hX, hbl, hlocks, hgv⟩ := id C0
  have hbA : ¬ (fun q : Nat => s.heap.size ≤ q) b := Nat.not_le.mpr hbl
  intro n
  induction n with
  | zero =>
    intro i ls H locs f hi hl J
    have hS := J.2.2
    refine lv_iload_n hx hb d_law_22 rfl (lv_at hl 3 rfl) ?_
    refine lv_aload_n hx hb d_law_23 rfl (lv_at hl 0 rfl) ?_
    refine va_slen hx hb hX hbl hbA hS d_law_24 ?_
    refine lv_icmp_ge hx hb d_law_25 (tgt := 183) rfl (fun _ => ?_) (fun hn => absurd (nI_le (show L ≤ i by omega) (show i < 2 ^ 31 by omega)) hn)
    refine lv_iconst (v := 1) hx hb d_law_183 (by decide) ?_
    refine va_forget hS.2.2 ?_
    exact lw_ret hx hb hr hlocks d_law_184
  | succ n ih =>
    intro i ls H locs f hi hl J
    have hS := J.2.2
    have hi1 : i < L := by omega
    have htail : ∀ (f1 : Nat → Int32) (ls1 : Array Slot) (H1 : Heap) (locs1 : List Loc), lv_has ls1 8 [(0, .ref b), (1, .ref h0), (2, .ref aL), (3, .int (nI i))] → lw_J dC dI h0 q1 q2 aL cA f1 f1 s H1 locs1 → W p l e room_1 s m #[Value.ref b] below meth c H1 locs1 4 6 (lw_Z below #[Value.ref b] s) (F0 m 137 ls1 []) := by
      intro f1 ls1 H1 locs1 hl1 J1
      refine lw_tail C0 hK hl1 J1 (fun H2 locs2 J2 => ?_)
      refine lv_iinc (k := 3) (v := nI (i + 1)) hx hb d_law_177 hl1 rfl (by rw [show Int32.ofInt 1 = 1 from by decide]; exact (nI_succ i).symm) (by decide) rfl (fun ls2 hl2 => ?_)
      refine lv_goto hx hb d_law_180 (tgt := 22) rfl ?_
      exact ih (i + 1) ls2 H2 locs2 f1 (by omega) (lv_sub hl2 [1, 2, 3, 0] rfl) J2
    refine lv_iload_n hx hb d_law_22 rfl (lv_at hl 3 rfl) ?_
    refine lv_aload_n hx hb d_law_23 rfl (lv_at hl 0 rfl) ?_
    refine va_slen hx hb hX hbl hbA hS d_law_24 ?_
    refine lv_icmp_ge hx hb d_law_25 (tgt := 183) rfl (fun hn => absurd hn (nI_ge hi1 (by omega))) (fun _ => ?_)
    refine lv_aload_n hx hb d_law_28 rfl (lv_at hl 0 rfl) ?_
    refine lv_iload_n hx hb d_law_29 rfl (lv_at hl 3 rfl) ?_
    refine va_sld hx hb hX hbl hbA hS (vp_in_nI hi1 (by omega)) d_law_30 ?_
    generalize xs (nI i).toNatClampNeg = w
    refine lv_istore hx hb d_law_31 hl (by decide) rfl (fun ls hl => ?_)
    refine lv_iload hx hb d_law_33 (lv_at hl 0 rfl) ?_
    refine lv_bipush (v := 8) hx hb d_law_35 (by decide) ?_
    refine lv_ishr hx hb d_law_37 ?_
    refine lv_iconst (v := 1) hx hb d_law_38 (by decide) ?_
    refine lv_iand hx hb d_law_39 ?_
    obtain ⟨j, hj, ej⟩ := cr_which (w >>> (8 &&& 31))
    rw [ej]
    refine lv_istore hx hb d_law_40 hl (by decide) rfl (fun ls hl => ?_)
    have hl : lv_has ls 8 [(0, .ref b), (1, .ref h0), (2, .ref aL), (3, .int (nI i)), (4, .int w), (5, .int (nI j))] := lv_sub hl [2, 3, 4, 5, 1, 0] rfl
    refine lv_iload hx hb d_law_42 (lv_at hl 4 rfl) ?_
    refine lv_bipush (v := 9) hx hb d_law_44 (by decide) ?_
    refine lv_ishr hx hb d_law_46 ?_
    refine lv_bipush (v := 31) hx hb d_law_47 (by decide) ?_
    refine lv_iand hx hb d_law_49 ?_
    refine lv_bipush (v := 31) hx hb d_law_50 (by decide) ?_
    refine lv_icmp_ne hx hb d_law_52 (tgt := 69) rfl (fun _ => ?_) (fun _ => ?_)
    · refine lv_aload_n hx hb d_law_69 rfl (lv_at hl 1 rfl) ?_
      refine lv_iload hx hb d_law_70 (lv_at hl 5 rfl) ?_
      refine lv_iload hx hb d_law_72 (lv_at hl 4 rfl) ?_
      refine lw_take C0 hK hTB J hl.1 hj d_law_74 (fun H locs J => ?_)
      refine lv_iconst (v := nI 0) hx hb d_law_77 (by decide) ?_
      refine lv_istore hx hb d_law_78 hl (by decide) rfl (fun ls hl => ?_)
      refine lw_bits (q1 := q1) (q2 := q2) C0 hK (g := upd f j (cr_up (f j) w)) (f := f) hj (fun ls1 H1 locs1 hl1 J1 => ?_) 8 0 ls H locs rfl (lv_sub hl [1, 2, 3, 4, 5, 6, 0] rfl) ?_
      · rw [cr_main] at J1
        exact htail _ ls1 H1 locs1 hl1 J1
      · show lw_J dC dI h0 q1 q2 aL cA _ (upd f j (f j)) s H locs
        rw [cr_uself]
        exact J
    · refine lv_aload_n hx hb d_law_55 rfl (lv_at hl 1 rfl) ?_
      refine lv_iload hx hb d_law_56 (lv_at hl 5 rfl) ?_
      refine lw_reset C0 hK J hl.1 hj d_law_58 (fun H locs J => ?_)
      obtain ⟨hP, hD, hS⟩ := J
      refine lv_aload_n hx hb d_law_61 rfl (lv_at hl 2 rfl) ?_
      refine lv_iload hx hb d_law_62 (lv_at hl 5 rfl) ?_
      refine lv_iconst (v := -1) hx hb d_law_64 (by decide) ?_
      refine va_iast hx hb hK hP hD hS 3 0 rfl rfl (vp_in_nI hj (by decide)) d_law_65 (fun H locs hP hD hS => ?_)
      rw [nI_clamp (show j < 2 ^ 31 by omega)] at hP hD
      refine lv_goto hx hb d_law_66 (tgt := 137) rfl ?_
      exact htail _ ls H locs (lv_sub hl [0, 1, 2, 3] rfl) ⟨hP, hD, hS⟩
end LAWLOOPS
end
section
/-- the two classes' numbers and slots -/
theorem lw_known {s : State} {c0 c1 : ClassId} {i0 i1 : Nat → Nat} (hk0 : u_Kn s R_Crc F_Crc 1 c0 i0) (hk1 : u_Kn s R_Drill F_Drill 2 c1 i1) : va_K ((fun k => if k = 0 then c0 else c1), (fun k => if k = 0 then i0 else i1)) cr_cl [] s := by
  refine ⟨fun ci q hq => ?_, fun k q h => by simp at h⟩
  rcases ci with _ | _ | ci
  · cases hq
    exact hk0
  · cases hq
    exact hk1
  · simp at hq
set_option maxHeartbeats 4000000 in
/-- YOUR PART: from the entry, for every script of at most 6000 ints, the law comes to its end with true -/
theorem whole_start {p : Program} {e : Env} {s : State} {m : MethodId} {below : List Frame} {meth : Method} {c : Code} (l : Launch) {b L : Nat} {xs : Nat → Int32} (hL : L ≤ 6000) (C0 : lw_At p s m meth c b L xs) : W p l e room_1 s m #[Value.ref b] below meth c s.heap [] 0 0 (lw_Z below #[Value.ref b] s) (entryFrame m ([Value.ref b] : List Value).toArray 8) := by
  obtain ⟨hx, hb, hr, hml, hown, hts, hX, hbl, hlocks, hgv⟩ := id C0
  have hp := flat_of_before _ hgv
  obtain ⟨c0, i0, hk0⟩ := u_known (C := R_Crc) (T := F_Crc) (N := 1) (n := 1) hts (by decide +kernel) (hts (.instantiable R_Crc 1) (by decide +kernel))
  obtain ⟨c1, i1, hk1⟩ := u_known (C := R_Drill) (T := F_Drill) (N := 2) (n := 2) hts (by decide +kernel) (hts (.instantiable R_Drill 2) (by decide +kernel))
  obtain ⟨dC, dI, hK⟩ : ∃ (dC : Nat → ClassId) (dI : Nat → Nat → Nat), va_K (dC, dI) cr_cl [] s := ⟨_, _, lw_known hk0 hk1⟩
  have hA0 : ∀ a : Nat, a < s.heap.size → ¬ (fun q => s.heap.size ≤ q) a := fun a h => Nat.not_le.mpr h
  have hA : ∀ q : Nat, s.heap.size ≤ q → (fun q => s.heap.size ≤ q) q := fun q h => h
  obtain ⟨t, ht, hT⟩ := va_Tof (A := (fun q => s.heap.size ≤ q)) (N := 256) (f := fun j => .int (cr_tab j)) (tm := (.static "java/util/zip/CRC32C" "byteTable" "[I")) (ty := .int) (by decide) (hp _ (by decide +kernel)) (va_eqt (hp (Cond.eq (.length (.static "java/util/zip/CRC32C" "byteTable" "[I")) (.int 256)) (by decide +kernel))) (fun j hj => va_eqt (hp _ (tf_mem j hj))) hA0
  have hTB : tb_ok t (fun q => s.heap.size ≤ q) s s.heap := ⟨va_Zref (hts (.laysStatic "java/util/zip/CRC32C" "byteTable" "[I") (by decide +kernel)) (hts (.initialized "java/util/zip/CRC32C") (by decide +kernel)) ht hA0, hT⟩
  have hP : va_P (dC, dI) cr_cl [] s.heap := fun k q h => by simp at h
  have hD : va_D (fun q => s.heap.size ≤ q) [] := ⟨fun i j p q h => by simp at h, fun k q h => by simp at h⟩
  have hS : va_S (fun q => s.heap.size ≤ q) s.heap s.heap [] := va_S.rf
  have hl := lv_entry ([.ref b]) (n := 8) (Nat.le_of_ble_eq_true rfl)
  rw [lg_entry_eq]
  generalize (lg_sl ([.ref b]) ++ List.replicate (8 - (lg_sl ([.ref b])).length) Slot.unset).toArray = ls at hl ⊢
  have hl : lv_has ls 8 [(0, .ref b)] := hl
  refine va_new (ci := 1) (fs := [.null, .null]) (C := R_Drill) (T := F_Drill) (N := 2) hx hb hts (by decide +kernel) t_Drill t_Drill_ok hown (hts (.classLink R_law 7 R_Drill) (by decide +kernel)) (hts (.instantiable R_Drill 2) (by decide +kernel)) (hts (.initialized R_Drill) (by decide +kernel)) hK hP hD hS hA rfl (fun j hj => by rcases (show j = 0 ∨ j = 1 by omega) with rfl | rfl <;> rfl) (Nat.le_of_ble_eq_true rfl) (Nat.le_of_ble_eq_true rfl) d_law_0 (fun h0 H hP hD hS => ?_)
  have hP : va_P (dC, dI) cr_cl [(h0, .inr (1, [.null, .null]))] H := hP
  have hD : va_D (fun q => s.heap.size ≤ q) [(h0, .inr (1, [.null, .null]))] := hD
  refine lv_dup hx hb d_law_3 rfl ?_
  have hPc := hP.sub (ws' := [(h0, .inr (1, [.null, .null]))]) [0] rfl
  have hDc := hD.sub (ws' := [(h0, .inr (1, [.null, .null]))]) [0] (by decide) rfl
  have hKc := hK.sub (tys' := []) [] rfl
  have hFc := va_free (wc := [(h0, .inr (1, [.null, .null]))]) hD hS hA [0] rfl
  refine va_callv (va_runI (As := []) (rest := [.ref h0]) ⟨hx, hb, hml, hown, hts⟩ (c_Drill_init l dC dI h0 H.size) (cwI 0 hts g_law_init rfl rfl rfl (hts (.initialized R_Drill) (by decide +kernel)) (hts (.methodLink R_law 9 y_Drill_init) (by decide +kernel)) (hts (.instanceMethod y_Drill_init) (by decide +kernel)) rfl (by decide +kernel) ⟨Nat.le_of_ble_eq_true rfl, Nat.le_of_ble_eq_true rfl⟩) ⟨fun a U g mk q => by obtain ⟨q0, q1, qP, qK, qD⟩ := q; exact ⟨q0, q1, qP, va_K.moved (u := U) (U := U.calling g mk a) (Vm.Alike.refl U.vm) qK, qD⟩, fun U hU hW => ⟨rfl, by rw [hU], by rw [hU]; exact hPc, va_K.moved hW.alike hKc, hDc.weaken (fun _ _ _ _ => trivial)⟩⟩ rfl rfl hl.1 rfl (lv_room (Nat.le_of_ble_eq_true rfl)) d_law_4 ⟨Nat.le_of_ble_eq_true rfl, Nat.le_of_ble_eq_true rfl⟩) hS (fun q _ h => hFc q h) hFc (fun u9 t9 H1 locs ht hvm hw hB hz1 hk1 hS => ?_)
  obtain ⟨q1, q2, hP1, hK1, hD1⟩ := hB
  rw [ht] at hP1
  obtain ⟨hP, hD⟩ := va_join (wr := []) (w1 := dr_W h0 q1 q2 (fun _ => -1)) hP hD [0] [] rfl rfl (by decide) (by decide) hk1 hFc hP1 hD1
  generalize H1 = H at hP hS ⊢
  have hP : va_P (dC, dI) cr_cl [(h0, .inr (1, [.ref q1, .ref q2])), (q1, .inr (0, [.int (-1)])), (q2, .inr (0, [.int (-1)]))] H := hP
  have hD : va_D (fun q => s.heap.size ≤ q) [(h0, .inr (1, [.ref q1, .ref q2])), (q1, .inr (0, [.int (-1)])), (q2, .inr (0, [.int (-1)]))] := hD
  refine lv_astore_n hx hb d_law_7 rfl hl (by decide) rfl (fun ls hl => ?_)
  refine lv_iconst (v := 2) hx hb d_law_8 (by decide) ?_
  refine va_newa (atype := .int) (ty := .int) (a0 := (2, .inl (fun _ => 0))) (N' := 2) hx hb (hts (.arrayClass .int) (by decide +kernel)) rfl hK hP hD hS hA (fun _ => rfl) (by decide) (by decide) (by decide) (Nat.le_of_ble_eq_true rfl) (Nat.le_of_ble_eq_true rfl) d_law_9 (fun aL cA H hK hP hD hS => ?_)
  have hK : va_K (dC, dI) cr_cl [(cA, .int)] s := hK
  have hP : va_P (dC, dI) cr_cl [(h0, .inr (1, [.ref q1, .ref q2])), (q1, .inr (0, [.int (-1)])), (q2, .inr (0, [.int (-1)])), (aL, .inl (cA, 2, .inl (fun _ => 0)))] H := hP
  have hD : va_D (fun q => s.heap.size ≤ q) [(h0, .inr (1, [.ref q1, .ref q2])), (q1, .inr (0, [.int (-1)])), (q2, .inr (0, [.int (-1)])), (aL, .inl (cA, 2, .inl (fun _ => 0)))] := hD
  refine lv_dup hx hb d_law_11 rfl ?_
  refine lv_iconst (v := nI 0) hx hb d_law_12 (by decide) ?_
  refine lv_iconst (v := -1) hx hb d_law_13 (by decide) ?_
  refine va_iast hx hb hK hP hD hS 3 0 rfl rfl (vp_in_nI (by decide) (by decide)) d_law_14 (fun H locs hP hD hS => ?_)
  rw [nI_clamp (show 0 < 2 ^ 31 by decide)] at hP hD
  have hP : va_P (dC, dI) cr_cl [(h0, .inr (1, [.ref q1, .ref q2])), (q1, .inr (0, [.int (-1)])), (q2, .inr (0, [.int (-1)])), (aL, .inl (cA, 2, .inl (upd (fun _ => 0) 0 (-1))))] H := hP
  have hD : va_D (fun q => s.heap.size ≤ q) [(h0, .inr (1, [.ref q1, .ref q2])), (q1, .inr (0, [.int (-1)])), (q2, .inr (0, [.int (-1)])), (aL, .inl (cA, 2, .inl (upd (fun _ => 0) 0 (-1))))] := hD
  refine lv_dup hx hb d_law_15 rfl ?_
  refine lv_iconst (v := nI 1) hx hb d_law_16 (by decide) ?_
  refine lv_iconst (v := -1) hx hb d_law_17 (by decide) ?_
  refine va_iast hx hb hK hP hD hS 3 0 rfl rfl (vp_in_nI (by decide) (by decide)) d_law_18 (fun H locs hP hD hS => ?_)
  rw [nI_clamp (show 1 < 2 ^ 31 by decide)] at hP hD
  have hP : va_P (dC, dI) cr_cl [(h0, .inr (1, [.ref q1, .ref q2])), (q1, .inr (0, [.int (-1)])), (q2, .inr (0, [.int (-1)])), (aL, .inl (cA, 2, .inl (upd (upd (fun _ => 0) 0 (-1)) 1 (-1))))] H := hP
  have hD : va_D (fun q => s.heap.size ≤ q) [(h0, .inr (1, [.ref q1, .ref q2])), (q1, .inr (0, [.int (-1)])), (q2, .inr (0, [.int (-1)])), (aL, .inl (cA, 2, .inl (upd (upd (fun _ => 0) 0 (-1)) 1 (-1))))] := hD
  refine lv_astore_n hx hb d_law_19 rfl hl (by decide) rfl (fun ls hl => ?_)
  refine lv_iconst (v := nI 0) hx hb d_law_20 (by decide) ?_
  refine lv_istore_n hx hb d_law_21 rfl hl (by decide) rfl (fun ls hl => ?_)
  refine W.widen (k := 4) (n := 6) (Nat.le_of_ble_eq_true rfl) (Nat.le_of_ble_eq_true rfl) ?_
  exact lw_loop C0 hK hTB hL L 0 ls H locs (upd (upd (fun _ => 0) 0 (-1)) 1 (-1)) (Nat.zero_add L) (lv_sub hl [3, 2, 1, 0] rfl) ⟨hP, hD, hS⟩
set_option maxHeartbeats 4000000 in
theorem lw_walk (l : Launch) (b : Addr) (xs : List Int32) : MetFree l x (headSpec (Jvm.Cond.code x code maxLocals ret :: tables_1) room_1) (lw_P b xs) (fun _ _ _ _ _ => True) lw_Q := by
  refine MetFree.of_bodyS (code := code) (maxLocals := maxLocals) (ret := ret) (by decide) ?_ ?_
  · intro args s m h hn
    obtain ⟨meth, c, h1, h2, h3, h4, h5, h6, -, -⟩ := Cond.code_spec hn (atoms_spec (ws := Jvm.Cond.code x code maxLocals ret :: tables_1) h _ List.mem_cons_self)
    exact ⟨meth, c, h1, h2, h3, h4, h5, h6⟩
  · intro p e s m args below meth c s₁ B hml0 hP _
    obtain ⟨rfl, hx, hbd, hgv⟩ := hP
    obtain ⟨scr, harrAt, hlist, hof, hsmall⟩ := hx
    obtain ⟨hcb, hkn, -, -⟩ := State.arrayAt?_spec harrAt
    have hown : s.vm.findClass R_law = some m.cls := findClass_of_methodNamed B.named
    have hts0 : ∀ c ∈ (Jvm.Cond.code x code maxLocals ret :: tables_1), c.before #[Value.ref b] s = true := atoms_spec (ws := Jvm.Cond.code x code maxLocals ret :: tables_1) B.pre
    have hts : ∀ w ∈ lw_tbl, w.before #[Value.ref b] s = true := k2_hts_sels lw_privs (fun w hw => hts0 w (List.mem_cons_of_mem _ hw)) lw_privs_ok
    have hml : c.maxLocals = 8 := B.maxLocals_eq (hts0 _ List.mem_cons_self)
    have X₀ : Stand p l e room_1 s m #[Value.ref b] below meth c s₁ [] 0 0 := Stand.of_body B
    have hh0 : s₁.heap = s.heap := by rw [B.state]; rfl
    have hsz : scr.slots.size = xs.length := by rw [← Array.length_toList, hlist, List.length_map]
    have hval : ∀ j : Nat, j < xs.length → scr.slots[j]? = some (.int (xs.getD j 0)) := fun j hj => by
      rw [← Array.getElem?_toList, hlist]
      simp [hj]
    have hbl : b < s.heap.size := (Array.getElem?_eq_some_iff.mp hcb).1
    have hX : va_X b xs.length (fun j => xs.getD j 0) s s.heap := ⟨scr, hcb, hof, hkn, hsz, hval⟩
    have K : W p l e room_1 s m #[Value.ref b] below meth c s₁.heap [] 0 0 (lw_Z below #[Value.ref b] s) (entryFrame m ([Value.ref b] : List Value).toArray 8) := by
      rw [hh0]
      exact whole_start l hbd ⟨B.exec, B.bytes, B.returns, hml, hown, hts, hX, hbl, B.notSynchronized, hgv⟩
    obtain ⟨t, a1, o, b1, b2, b3⟩ := K s₁ rfl X₀
    exact ⟨t, o, a1, b1, b2, b3⟩
theorem lw_pre_spec {args : Array Value} {s : State} (h : (Jvm.Cond.and given_1 narrow_1).before args s = true) (hr : rest_1_c.before args s = true) : ∃ (b : Addr) (xs : List Int32), lw_P b xs args s := by
  have hs := flat_of_before _ h
  have hq := flat_of_before _ hr
  have hc : (Cond.count 1).before args s = true := hs _ (by decide +kernel)
  have harr : (Cond.arrayOf (.arg 0) .int).before args s = true := hs _ (by decide +kernel)
  have hle : (Cond.le (.length (.arg 0)) (.int 6000)).before args s = true := hs _ (by decide +kernel)
  have hlen : (Cond.isInt (.length (.arg 0))).before args s = true := hq _ (by decide +kernel)
  have hall : (Cond.all (.arg 0) (.isInt (.elem (.arg 0) (.index 0)))).before args s = true := hq _ (by decide +kernel)
  obtain ⟨b, xs, hb, hx⟩ := State.ints_of_pre rfl harr hlen hall
  have hsm : xs.length < 2 ^ 31 := hx.choose_spec.2.2.2
  have hev : (Term.length (.arg 0)).eval args s none [] s = some (.int xs.length.toInt32) := hx.length_eval hb
  have hv := Cond.le_ints hev (show (Term.int 6000).eval args s none [] s = some (.int 6000) from rfl)
  have hd : xs.length.toInt32 ≤ 6000 := by
    simpa [Cond.before, Cond.holds, hv] using hle
  have hN : xs.length ≤ 6000 := (Int32.ofNat_le_ofNat hsm (by decide)).mp (show Int32.ofNat xs.length ≤ Int32.ofNat 6000 from hd)
  exact ⟨b, xs, Cond.one_arg hc (show args[0]? = some (.ref b) from hb), hx, hN, h⟩
theorem lw_comes (l : Launch) : Comes l x (Jvm.Cond.code x code maxLocals ret :: tables_1) room_1 (fun tb e args s => Calls_1 tb e args s ∧ rest_1 tb e args s ∧ Pre_1 tb e args s)
    (fun _ _ args s o t => lw_Q args s o t) := by
  intro p e ha hc hk s m args below hf hfit hheap happ hpre
  obtain ⟨b, xs, hP⟩ := lw_pre_spec hpre.2.2 hpre.2.1
  obtain ⟨k, o, h1, h2, h3, hQ⟩ := lw_walk l b xs p e ha hc hk s m args below hf ((Spec.applies_iff_loose hf).mp happ).1 hP trivial
  exact ⟨k, o, h1, h2, h3, hQ⟩
theorem lw_frame {s t : State} {o : Outcome} {args : Array Value} (h : Framed s o t [] 4 6) :
    Framed s o t (fieldLocs frame_1_writes args s ++ arrayLocs frame_1_arrays args s ++ staticLocs frame_1_statics s) 4 6 := h
theorem lw_limb (L : Cond) (hL : ∀ (args : Array Value) (s t : State), L.after args s (.returned (some (.int 1))) t = true) :
    ArmFor flags0 classFile x code maxLocals ret World_1 tables_1 room_1 Calls_1 rest_1 Pre_1
      (fun tb e a s o t => postC L tb e a s o t ∧ Framed s o t (fieldLocs frame_1_writes a s ++ arrayLocs frame_1_arrays a s ++ staticLocs frame_1_statics s) 4 6) := by
  intro l _ _ _ p e ha hc hk s m args below hf hfit hheap happ hpre
  obtain ⟨k, o, h1, h2, h3, rfl, hF⟩ := lw_comes l p e ha hc hk s m args below hf hfit hheap happ hpre
  exact ⟨k, _, h1, h2, h3, hL args s _, lw_frame hF⟩
theorem i_vc : Claimed_1_1 ∧ Claimed_1_2 := ⟨lw_limb limb_1_1 (fun args s t => by simp [limb_1_1, Cond.after, Cond.holds, Cond.value]), lw_limb limb_1_2 (fun args s t => Cond.after_iff.mpr (by
  first | (rw [show limb_1_2 = Cond.eq .result (.int 1) from rfl, Cond.eq_ints (x := 1) (y := 1) rfl rfl]; simp; done) | (simp [limb_1_2, Cond.value, Term.eval]; done)))⟩
end
