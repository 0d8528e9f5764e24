section
/-! names: methods, their code, words of the tables (printed by tools/names.py) -/
set_option maxRecDepth 100000
abbrev b_Mi : ByteArray := prog_2_method_1_code
def y_Mi : MethodName := ⟨"TimDrill$Mark", "<init>", "(II)V"⟩
abbrev c_Mi : Cond := .code y_Mi b_Mi 3 none
abbrev b_Mc : ByteArray := prog_2_method_2_code
def y_Mc : MethodName := ⟨"TimDrill$Mark", "compareTo", "(LTimDrill$Mark;)I"⟩
abbrev c_Mc : Cond := .code y_Mc b_Mc 2 (some FieldType.int)
abbrev b_Mo : ByteArray := prog_2_method_3_code
def y_Mo : MethodName := ⟨"TimDrill$Mark", "compareTo", "(Ljava/lang/Object;)I"⟩
abbrev c_Mo : Cond := .code y_Mo b_Mo 2 (some FieldType.int)
abbrev b_Di : ByteArray := prog_1_method_1_code
def y_Di : MethodName := ⟨"TimDrill", "<init>", "([I)V"⟩
abbrev c_Di : Cond := .code y_Di b_Di 3 none
abbrev b_Ds : ByteArray := prog_1_method_2_code
def y_Ds : MethodName := ⟨"TimDrill", "sort", "(II)V"⟩
abbrev c_Ds : Cond := .code y_Ds b_Ds 3 none
abbrev b_Dt : ByteArray := prog_1_method_3_code
def y_Dt : MethodName := ⟨"TimDrill", "set", "(III)V"⟩
abbrev c_Dt : Cond := .code y_Dt b_Dt 4 none
abbrev b_Dn : ByteArray := prog_1_method_4_code
def y_Dn : MethodName := ⟨"TimDrill", "name", "(I)I"⟩
abbrev c_Dn : Cond := .code y_Dn b_Dn 2 (some FieldType.int)
abbrev b_Lo : ByteArray := method_2_code
def y_Lo : MethodName := ⟨"TimDrillLaw", "order", "([I[III)V"⟩
abbrev c_Lo : Cond := .code y_Lo b_Lo 14 none
abbrev b_As : ByteArray := prog_9_method_37_code
def y_As : MethodName := ⟨"java/util/Arrays", "sort", "([Ljava/lang/Object;II)V"⟩
abbrev c_As : Cond := .code y_As b_As 3 none
abbrev b_Ar : ByteArray := prog_9_method_30_code
def y_Ar : MethodName := ⟨"java/util/Arrays", "rangeCheck", "(III)V"⟩
abbrev c_Ar : Cond := .code y_Ar b_Ar 3 none
abbrev b_Nz : ByteArray := prog_5_method_47_code
def y_Nz : MethodName := ⟨"java/lang/Integer", "numberOfLeadingZeros", "(I)I"⟩
abbrev c_Nz : Cond := .code y_Nz b_Nz 2 (some FieldType.int)
abbrev b_Mn : ByteArray := prog_6_method_69_code
def y_Mn : MethodName := ⟨"java/lang/Math", "min", "(II)I"⟩
abbrev c_Mn : Cond := .code y_Mn b_Mn 2 (some FieldType.int)
abbrev b_Fm : ByteArray := prog_6_method_50_code
def y_Fm : MethodName := ⟨"java/lang/Math", "floorMod", "(II)I"⟩
abbrev c_Fm : Cond := .code y_Fm b_Fm 3 (some FieldType.int)
abbrev b_Ci : ByteArray := prog_11_method_1_code
def y_Ci : MethodName := ⟨"java/util/ComparableTimSort", "<init>", "([Ljava/lang/Object;[Ljava/lang/Object;II)V"⟩
abbrev c_Ci : Cond := .code y_Ci b_Ci 8 none
abbrev b_Cs : ByteArray := prog_11_method_2_code
def y_Cs : MethodName := ⟨"java/util/ComparableTimSort", "sort", "([Ljava/lang/Object;II[Ljava/lang/Object;II)V"⟩
abbrev c_Cs : Cond := .code y_Cs b_Cs 11 none
abbrev b_Cb : ByteArray := prog_11_method_3_code
def y_Cb : MethodName := ⟨"java/util/ComparableTimSort", "binarySort", "([Ljava/lang/Object;III)V"⟩
abbrev c_Cb : Cond := .code y_Cb b_Cb 8 none
abbrev b_Cc : ByteArray := prog_11_method_4_code
def y_Cc : MethodName := ⟨"java/util/ComparableTimSort", "countRunAndMakeAscending", "([Ljava/lang/Object;II)I"⟩
abbrev c_Cc : Cond := .code y_Cc b_Cc 4 (some FieldType.int)
abbrev b_Cr : ByteArray := prog_11_method_5_code
def y_Cr : MethodName := ⟨"java/util/ComparableTimSort", "reverseRange", "([Ljava/lang/Object;II)V"⟩
abbrev c_Cr : Cond := .code y_Cr b_Cr 4 none
abbrev b_Cm : ByteArray := prog_11_method_6_code
def y_Cm : MethodName := ⟨"java/util/ComparableTimSort", "minRunLength", "(I)I"⟩
abbrev c_Cm : Cond := .code y_Cm b_Cm 2 (some FieldType.int)
abbrev b_Cp : ByteArray := prog_11_method_7_code
def y_Cp : MethodName := ⟨"java/util/ComparableTimSort", "pushRun", "(II)V"⟩
abbrev c_Cp : Cond := .code y_Cp b_Cp 3 none
abbrev b_Cl : ByteArray := prog_11_method_8_code
def y_Cl : MethodName := ⟨"java/util/ComparableTimSort", "mergeCollapse", "()V"⟩
abbrev c_Cl : Cond := .code y_Cl b_Cl 2 none
abbrev b_Cf : ByteArray := prog_11_method_9_code
def y_Cf : MethodName := ⟨"java/util/ComparableTimSort", "mergeForceCollapse", "()V"⟩
abbrev c_Cf : Cond := .code y_Cf b_Cf 2 none
abbrev b_Ca : ByteArray := prog_11_method_10_code
def y_Ca : MethodName := ⟨"java/util/ComparableTimSort", "mergeAt", "(I)V"⟩
abbrev c_Ca : Cond := .code y_Ca b_Ca 7 none
abbrev b_Gl : ByteArray := prog_11_method_11_code
def y_Gl : MethodName := ⟨"java/util/ComparableTimSort", "gallopLeft", "(Ljava/lang/Comparable;[Ljava/lang/Object;III)I"⟩
abbrev c_Gl : Cond := .code y_Gl b_Gl 9 (some FieldType.int)
abbrev b_Gr : ByteArray := prog_11_method_12_code
def y_Gr : MethodName := ⟨"java/util/ComparableTimSort", "gallopRight", "(Ljava/lang/Comparable;[Ljava/lang/Object;III)I"⟩
abbrev c_Gr : Cond := .code y_Gr b_Gr 9 (some FieldType.int)
abbrev b_Ml : ByteArray := prog_11_method_13_code
def y_Ml : MethodName := ⟨"java/util/ComparableTimSort", "mergeLo", "(IIII)V"⟩
abbrev c_Ml : Cond := .code y_Ml b_Ml 13 none
abbrev b_Mh : ByteArray := prog_11_method_14_code
def y_Mh : MethodName := ⟨"java/util/ComparableTimSort", "mergeHi", "(IIII)V"⟩
abbrev c_Mh : Cond := .code y_Mh b_Mh 14 none
abbrev b_Ce : ByteArray := prog_11_method_15_code
def y_Ce : MethodName := ⟨"java/util/ComparableTimSort", "ensureCapacity", "(I)[Ljava/lang/Object;"⟩
abbrev c_Ce : Cond := .code y_Ce b_Ce 4 (some (FieldType.array (FieldType.object "java/lang/Object")))
abbrev y_cmp : MethodName := ⟨"java/lang/Comparable", "compareTo", "(Ljava/lang/Object;)I"⟩
def lw_privs : List (MethodName × Nat) := [(y_Cp, 8), (y_Cl, 8), (y_Cf, 8), (y_Ca, 8), (y_Ml, 8), (y_Mh, 8), (y_Ce, 8)]
def lw_tbl : List Cond := k2_sels lw_privs ++ tables_1
def TT : List Cond := lw_tbl.filter goodWord
theorem lw_privs_ok : ∀ q ∈ lw_privs, (q.1.cls ≠ "java/lang/invoke/MethodHandle" ∧ q.1.cls ≠ "java/lang/invoke/VarHandle") ∧ Cond.instantiable q.1.cls q.2 ∈ tables_1 ∧ Cond.privateMethod q.1 ∈ tables_1 ∧ Cond.instanceMethod q.1 ∈ tables_1 := by decide +kernel
theorem TT_good : ∀ w ∈ TT, goodWord w = true := fun w h => (List.mem_filter.mp h).2
theorem TT_in : ∀ w ∈ TT, w ∈ lw_tbl := fun w h => (List.mem_filter.mp h).1
theorem gd_in {c0 c : Cond} {pre : List Cond} (hc : c ∈ TT) (hp : ∀ w ∈ pre, w ∈ TT) : GoodIn (c0 :: TT) (pre ++ (c :: TT)) := by
  intro w hw
  have h : w ∈ TT := by
    rcases List.mem_append.mp hw with h | h
    · exact hp w h
    · rcases List.mem_cons.mp h with h | h
      · exact h ▸ hc
      · exact h
  exact ⟨List.mem_cons_of_mem _ h, good_of_word (TT_good w h)⟩
theorem gd_tt {c0 c : Cond} (hc : c ∈ TT) : GoodIn (c0 :: TT) (c :: TT) := gd_in (pre := []) hc (fun w h => by cases h)
theorem tc_Mi : c_Mi ∈ TT := List.mem_filter.mpr ⟨List.mem_append_right _ (List.mem_of_getElem? (i := 23) rfl), rfl⟩
theorem tc_Mc : c_Mc ∈ TT := List.mem_filter.mpr ⟨List.mem_append_right _ (List.mem_of_getElem? (i := 72) rfl), rfl⟩
theorem tc_Mo : c_Mo ∈ TT := List.mem_filter.mpr ⟨List.mem_append_right _ (List.mem_of_getElem? (i := 67) rfl), rfl⟩
theorem tc_Di : c_Di ∈ TT := List.mem_filter.mpr ⟨List.mem_append_right _ (List.mem_of_getElem? (i := 14) rfl), rfl⟩
theorem tc_Ds : c_Ds ∈ TT := List.mem_filter.mpr ⟨List.mem_append_right _ (List.mem_of_getElem? (i := 40) rfl), rfl⟩
theorem tc_Dt : c_Dt ∈ TT := List.mem_filter.mpr ⟨List.mem_append_right _ (List.mem_of_getElem? (i := 164) rfl), rfl⟩
theorem tc_Dn : c_Dn ∈ TT := List.mem_filter.mpr ⟨List.mem_append_right _ (List.mem_of_getElem? (i := 168) rfl), rfl⟩
theorem tc_Lo : c_Lo ∈ TT := List.mem_filter.mpr ⟨List.mem_append_right _ (List.mem_of_getElem? (i := 171) rfl), rfl⟩
theorem tc_As : c_As ∈ TT := List.mem_filter.mpr ⟨List.mem_append_right _ (List.mem_of_getElem? (i := 43) rfl), rfl⟩
theorem tc_Ar : c_Ar ∈ TT := List.mem_filter.mpr ⟨List.mem_append_right _ (List.mem_of_getElem? (i := 46) rfl), rfl⟩
theorem tc_Nz : c_Nz ∈ TT := List.mem_filter.mpr ⟨List.mem_append_right _ (List.mem_of_getElem? (i := 148) rfl), rfl⟩
theorem tc_Mn : c_Mn ∈ TT := List.mem_filter.mpr ⟨List.mem_append_right _ (List.mem_of_getElem? (i := 152) rfl), rfl⟩
theorem tc_Fm : c_Fm ∈ TT := List.mem_filter.mpr ⟨List.mem_append_right _ (List.mem_of_getElem? (i := 175) rfl), rfl⟩
theorem tc_Ci : c_Ci ∈ TT := List.mem_filter.mpr ⟨List.mem_append_right _ (List.mem_of_getElem? (i := 86) rfl), rfl⟩
theorem tc_Cs : c_Cs ∈ TT := List.mem_filter.mpr ⟨List.mem_append_right _ (List.mem_of_getElem? (i := 51) rfl), rfl⟩
theorem tc_Cb : c_Cb ∈ TT := List.mem_filter.mpr ⟨List.mem_append_right _ (List.mem_of_getElem? (i := 78) rfl), rfl⟩
theorem tc_Cc : c_Cc ∈ TT := List.mem_filter.mpr ⟨List.mem_append_right _ (List.mem_of_getElem? (i := 56) rfl), rfl⟩
theorem tc_Cr : c_Cr ∈ TT := List.mem_filter.mpr ⟨List.mem_append_right _ (List.mem_of_getElem? (i := 75) rfl), rfl⟩
theorem tc_Cm : c_Cm ∈ TT := List.mem_filter.mpr ⟨List.mem_append_right _ (List.mem_of_getElem? (i := 119) rfl), rfl⟩
theorem tc_Cp : c_Cp ∈ TT := List.mem_filter.mpr ⟨List.mem_append_right _ (List.mem_of_getElem? (i := 123) rfl), rfl⟩
theorem tc_Cl : c_Cl ∈ TT := List.mem_filter.mpr ⟨List.mem_append_right _ (List.mem_of_getElem? (i := 127) rfl), rfl⟩
theorem tc_Cf : c_Cf ∈ TT := List.mem_filter.mpr ⟨List.mem_append_right _ (List.mem_of_getElem? (i := 160) rfl), rfl⟩
theorem tc_Ca : c_Ca ∈ TT := List.mem_filter.mpr ⟨List.mem_append_right _ (List.mem_of_getElem? (i := 131) rfl), rfl⟩
theorem tc_Gl : c_Gl ∈ TT := List.mem_filter.mpr ⟨List.mem_append_right _ (List.mem_of_getElem? (i := 137) rfl), rfl⟩
theorem tc_Gr : c_Gr ∈ TT := List.mem_filter.mpr ⟨List.mem_append_right _ (List.mem_of_getElem? (i := 134) rfl), rfl⟩
theorem tc_Ml : c_Ml ∈ TT := List.mem_filter.mpr ⟨List.mem_append_right _ (List.mem_of_getElem? (i := 141) rfl), rfl⟩
theorem tc_Mh : c_Mh ∈ TT := List.mem_filter.mpr ⟨List.mem_append_right _ (List.mem_of_getElem? (i := 156) rfl), rfl⟩
theorem tc_Ce : c_Ce ∈ TT := List.mem_filter.mpr ⟨List.mem_append_right _ (List.mem_of_getElem? (i := 145) rfl), rfl⟩
end
section
/-! numbers as integers: zI; rows of one instruction in that form (printed by tools/zrows.py) -/
def zI (z : Int) : Int32 := Int32.ofInt z
abbrev inR (a : Int) : Prop := -2147483648 ≤ a ∧ a < 2147483648
theorem zI_toInt {z : Int} (h : inR z) : (zI z).toInt = z := by
  unfold zI
  rw [Int32.toInt_ofInt]
  have h1 := h.1
  have h2 := h.2
  have hs : ((Int32.size : Nat) : Int) = 4294967296 := rfl
  rw [Int.bmod_eq_of_le] <;> omega
theorem zI_of (x : Int32) : x = zI x.toInt := (Int32.ofInt_toInt x).symm
theorem zI_rng (x : Int32) : inR x.toInt := ⟨by have := x.le_toInt; omega, by have := x.toInt_lt; omega⟩
theorem zI_add (a b : Int) : zI a + zI b = zI (a + b) := (Int32.ofInt_add a b).symm
theorem zI_sub (a b : Int) : zI a - zI b = zI (a - b) := (Int32.ofInt_sub a b).symm
theorem zI_mul (a b : Int) : zI a * zI b = zI (a * b) := (Int32.ofInt_mul a b).symm
theorem zI_neg (a : Int) : -zI a = zI (-a) := (Int32.ofInt_neg a).symm
theorem zI_lt {a b : Int} (ha : inR a) (hb : inR b) : zI a < zI b ↔ a < b := by
  rw [Int32.lt_iff_toInt_lt, zI_toInt ha, zI_toInt hb]
theorem zI_le {a b : Int} (ha : inR a) (hb : inR b) : zI a ≤ zI b ↔ a ≤ b := by
  rw [Int32.le_iff_toInt_le, zI_toInt ha, zI_toInt hb]
theorem zI_eq {a b : Int} (ha : inR a) (hb : inR b) : zI a = zI b ↔ a = b := by
  rw [← Int32.toInt_inj, zI_toInt ha, zI_toInt hb]
theorem zI_cl {a : Int} (h0 : 0 ≤ a) (h1 : a < 2147483648) : (zI a).toNatClampNeg = a.toNat := by
  show (zI a).toInt.toNat = a.toNat
  rw [zI_toInt ⟨by omega, h1⟩]
theorem zI_nat (n : Nat) : Int32.ofNat n = zI n := by
  unfold zI
  rw [Int32.ofInt_eq_ofNat]
theorem zI_0 : zI 0 = 0 := by decide
theorem zI_inR0 : inR 0 := by decide
section ZR
variable {p : Program} {l : Launch} {e : Env} {R : Room} {s : State} {m : MethodId} {args : Array Value} {below : List Frame} {meth : Method} {c : Code} {H : Heap} {locs : List Loc} {cells slots : Nat} {Q : State → Prop}
variable {cc : ByteArray} {pc nL : Nat} {ls : Array Slot} {rest : List Value} {Ts : List Cond} {own : String}

theorem z_iconst (S : CallFix p m c cc nL s args Ts own) {n : Int} (hd : decode cc pc = .ok (.iconst n, 1)) (k : W p l e R s m args below meth c H locs cells slots Q (F0 m (pc + 1) ls (.int (zI n) :: rest))) : W p l e R s m args below meth c H locs cells slots Q (F0 m pc ls (rest)) := by
  exact lv_iconst S.1 S.2.1 hd rfl k
theorem z_bipush (S : CallFix p m c cc nL s args Ts own) {n : Int} (hv : (Int8.ofInt n).toInt32 = zI n) (hd : decode cc pc = .ok (.bipush n, 2)) (k : W p l e R s m args below meth c H locs cells slots Q (F0 m (pc + 2) ls (.int (zI n) :: rest))) : W p l e R s m args below meth c H locs cells slots Q (F0 m pc ls (rest)) := by
  exact lv_bipush S.1 S.2.1 hd hv k
theorem z_sipush (S : CallFix p m c cc nL s args Ts own) {n : Int} (hv : (Int16.ofInt n).toInt32 = zI n) (hd : decode cc pc = .ok (.sipush n, 3)) (k : W p l e R s m args below meth c H locs cells slots Q (F0 m (pc + 3) ls (.int (zI n) :: rest))) : W p l e R s m args below meth c H locs cells slots Q (F0 m pc ls (rest)) := by
  exact lv_sipush S.1 S.2.1 hd hv k
theorem z_iadd (S : CallFix p m c cc nL s args Ts own) {a b : Int} (hd : decode cc pc = .ok (.iadd, 1)) (k : W p l e R s m args below meth c H locs cells slots Q (F0 m (pc + 1) ls (.int (zI (a + b)) :: rest))) : W p l e R s m args below meth c H locs cells slots Q (F0 m pc ls (.int (zI b) :: .int (zI a) :: rest)) := by
  exact lv_iadd S.1 S.2.1 hd (by rw [zI_add]; exact k)
theorem z_isub (S : CallFix p m c cc nL s args Ts own) {a b : Int} (hd : decode cc pc = .ok (.isub, 1)) (k : W p l e R s m args below meth c H locs cells slots Q (F0 m (pc + 1) ls (.int (zI (a - b)) :: rest))) : W p l e R s m args below meth c H locs cells slots Q (F0 m pc ls (.int (zI b) :: .int (zI a) :: rest)) := by
  exact lv_isub S.1 S.2.1 hd (by rw [zI_sub]; exact k)
theorem z_imul (S : CallFix p m c cc nL s args Ts own) {a b : Int} (hd : decode cc pc = .ok (.imul, 1)) (k : W p l e R s m args below meth c H locs cells slots Q (F0 m (pc + 1) ls (.int (zI (a * b)) :: rest))) : W p l e R s m args below meth c H locs cells slots Q (F0 m pc ls (.int (zI b) :: .int (zI a) :: rest)) := by
  exact lv_imul S.1 S.2.1 hd (by rw [zI_mul]; exact k)
theorem z_ineg (S : CallFix p m c cc nL s args Ts own) {a : Int} (hd : decode cc pc = .ok (.ineg, 1)) (k : W p l e R s m args below meth c H locs cells slots Q (F0 m (pc + 1) ls (.int (zI (-a)) :: rest))) : W p l e R s m args below meth c H locs cells slots Q (F0 m pc ls (.int (zI a) :: rest)) := by
  exact lv_ineg S.1 S.2.1 hd (by rw [zI_neg]; exact k)
theorem z_dup (S : CallFix p m c cc nL s args Ts own) {v : Value} (hv : v.category = 1) (hd : decode cc pc = .ok (.dup, 1)) (k : W p l e R s m args below meth c H locs cells slots Q (F0 m (pc + 1) ls (v :: v :: rest))) : W p l e R s m args below meth c H locs cells slots Q (F0 m pc ls (v :: rest)) := by
  exact lv_dup S.1 S.2.1 hd hv k
theorem z_top {a b : Int} (h : a = b) (k : W p l e R s m args below meth c H locs cells slots Q (F0 m pc ls (.int (zI b) :: rest))) : W p l e R s m args below meth c H locs cells slots Q (F0 m pc ls (.int (zI a) :: rest)) := by
  subst h; exact k
theorem z_topI {x : Int32} {b : Int} (h : x = zI b) (k : W p l e R s m args below meth c H locs cells slots Q (F0 m pc ls (.int (zI b) :: rest))) : W p l e R s m args below meth c H locs cells slots Q (F0 m pc ls (.int x :: rest)) := by
  subst h; exact k
theorem z_iload_n (S : CallFix p m c cc nL s args Ts own) {i : Nat} {x : Int32} {q : Fin 4} (hi : (q : Nat) = i) (hl : ls[i]? = some (.val (.int x))) (hd : decode cc pc = .ok (.iload_n q, 1)) (k : W p l e R s m args below meth c H locs cells slots Q (F0 m (pc + 1) ls (.int x :: rest))) : W p l e R s m args below meth c H locs cells slots Q (F0 m pc ls rest) := by
  exact lv_iload_n S.1 S.2.1 hd hi hl k
theorem z_iload (S : CallFix p m c cc nL s args Ts own) {i : Nat} {x : Int32} (hl : ls[i]? = some (.val (.int x))) (hd : decode cc pc = .ok (.iload i, 2)) (k : W p l e R s m args below meth c H locs cells slots Q (F0 m (pc + 2) ls (.int x :: rest))) : W p l e R s m args below meth c H locs cells slots Q (F0 m pc ls rest) := by
  exact lv_iload S.1 S.2.1 hd hl k
theorem z_aload_n (S : CallFix p m c cc nL s args Ts own) {i x : Nat} {q : Fin 4} (hi : (q : Nat) = i) (hl : ls[i]? = some (.val (.ref x))) (hd : decode cc pc = .ok (.aload_n q, 1)) (k : W p l e R s m args below meth c H locs cells slots Q (F0 m (pc + 1) ls (.ref x :: rest))) : W p l e R s m args below meth c H locs cells slots Q (F0 m pc ls rest) := by
  exact lv_aload_n S.1 S.2.1 hd hi hl k
theorem z_aload (S : CallFix p m c cc nL s args Ts own) {i x : Nat} (hl : ls[i]? = some (.val (.ref x))) (hd : decode cc pc = .ok (.aload i, 2)) (k : W p l e R s m args below meth c H locs cells slots Q (F0 m (pc + 2) ls (.ref x :: rest))) : W p l e R s m args below meth c H locs cells slots Q (F0 m pc ls rest) := by
  exact lv_aload S.1 S.2.1 hd hl k
theorem z_istore_n (S : CallFix p m c cc nL s args Ts own) {i : Nat} {x : Int32} {lv lv' : List (Nat × Value)} {q : Fin 4} (hi : (q : Nat) = i) (h : lv_has ls nL lv) (hl : (i, Value.int x) :: lv.filter (fun q => !(q.1 == i) && !(q.1 + 1 == i && q.2.category == 2)) = lv') (hn : i < nL) (hd : decode cc pc = .ok (.istore_n q, 1)) (kk : ∀ ls' : Array Slot, lv_has ls' nL lv' → W p l e R s m args below meth c H locs cells slots Q (F0 m (pc + 1) ls' rest)) : W p l e R s m args below meth c H locs cells slots Q (F0 m pc ls (.int x :: rest)) := by
  exact lv_istore_n S.1 S.2.1 hd hi h hn hl kk
theorem z_istore (S : CallFix p m c cc nL s args Ts own) {i : Nat} {x : Int32} {lv lv' : List (Nat × Value)} (h : lv_has ls nL lv) (hl : (i, Value.int x) :: lv.filter (fun q => !(q.1 == i) && !(q.1 + 1 == i && q.2.category == 2)) = lv') (hn : i < nL) (hd : decode cc pc = .ok (.istore i, 2)) (kk : ∀ ls' : Array Slot, lv_has ls' nL lv' → W p l e R s m args below meth c H locs cells slots Q (F0 m (pc + 2) ls' rest)) : W p l e R s m args below meth c H locs cells slots Q (F0 m pc ls (.int x :: rest)) := by
  exact lv_istore S.1 S.2.1 hd h hn hl kk
theorem z_astore_n (S : CallFix p m c cc nL s args Ts own) {i : Nat} {x : Nat} {lv lv' : List (Nat × Value)} {q : Fin 4} (hi : (q : Nat) = i) (h : lv_has ls nL lv) (hl : (i, Value.ref x) :: lv.filter (fun q => !(q.1 == i) && !(q.1 + 1 == i && q.2.category == 2)) = lv') (hn : i < nL) (hd : decode cc pc = .ok (.astore_n q, 1)) (kk : ∀ ls' : Array Slot, lv_has ls' nL lv' → W p l e R s m args below meth c H locs cells slots Q (F0 m (pc + 1) ls' rest)) : W p l e R s m args below meth c H locs cells slots Q (F0 m pc ls (.ref x :: rest)) := by
  exact lv_astore_n S.1 S.2.1 hd hi h hn hl kk
theorem z_astore (S : CallFix p m c cc nL s args Ts own) {i : Nat} {x : Nat} {lv lv' : List (Nat × Value)} (h : lv_has ls nL lv) (hl : (i, Value.ref x) :: lv.filter (fun q => !(q.1 == i) && !(q.1 + 1 == i && q.2.category == 2)) = lv') (hn : i < nL) (hd : decode cc pc = .ok (.astore i, 2)) (kk : ∀ ls' : Array Slot, lv_has ls' nL lv' → W p l e R s m args below meth c H locs cells slots Q (F0 m (pc + 2) ls' rest)) : W p l e R s m args below meth c H locs cells slots Q (F0 m pc ls (.ref x :: rest)) := by
  exact lv_astore S.1 S.2.1 hd h hn hl kk
theorem z_iinc (S : CallFix p m c cc nL s args Ts own) {i q : Nat} {n a : Int} {lv lv' : List (Nat × Value)} (h : lv_has ls nL lv) (hk : lv[q]? = some (i, .int (zI a))) (hl : (i, Value.int (zI (a + n))) :: lv.filter (fun q => !(q.1 == i) && !(q.1 + 1 == i && q.2.category == 2)) = lv') (hn : i < nL) (hd : decode cc pc = .ok (.iinc i n, 3)) (kk : ∀ ls' : Array Slot, lv_has ls' nL lv' → W p l e R s m args below meth c H locs cells slots Q (F0 m (pc + 3) ls' rest)) : W p l e R s m args below meth c H locs cells slots Q (F0 m pc ls rest) := by
  exact lv_iinc S.1 S.2.1 hd h hk (zI_add a n) hn hl kk
theorem z_goto (S : CallFix p m c cc nL s args Ts own) {off : Int} {tgt : Nat} (ht : (pc : Int) + off = (tgt : Int)) (hd : decode cc pc = .ok (.goto off, 3)) (k : W p l e R s m args below meth c H locs cells slots Q (F0 m tgt ls rest)) : W p l e R s m args below meth c H locs cells slots Q (F0 m pc ls rest) := by
  exact lv_goto S.1 S.2.1 hd ht k
theorem z_icmp_eq (S : CallFix p m c cc nL s args Ts own) {a b off : Int} {tgt : Nat} (ht : (pc : Int) + off = (tgt : Int)) (ha : inR a) (hb : inR b) (hd : decode cc pc = .ok (.if_icmp .eq off, 3)) (kt : a = b → W p l e R s m args below meth c H locs cells slots Q (F0 m tgt ls rest)) (kf : a ≠ b → W p l e R s m args below meth c H locs cells slots Q (F0 m (pc + 3) ls rest)) : W p l e R s m args below meth c H locs cells slots Q (F0 m pc ls (.int (zI b) :: .int (zI a) :: rest)) := by
  exact lv_icmp_eq S.1 S.2.1 hd ht (fun h => kt ((zI_eq ha hb).mp h)) (fun h => kf (fun e => h ((zI_eq ha hb).mpr e)))
theorem z_if_eq (S : CallFix p m c cc nL s args Ts own) {a off : Int} {tgt : Nat} (ht : (pc : Int) + off = (tgt : Int)) (ha : inR a) (hd : decode cc pc = .ok (.ifCond .eq off, 3)) (kt : a = 0 → W p l e R s m args below meth c H locs cells slots Q (F0 m tgt ls rest)) (kf : a ≠ 0 → W p l e R s m args below meth c H locs cells slots Q (F0 m (pc + 3) ls rest)) : W p l e R s m args below meth c H locs cells slots Q (F0 m pc ls (.int (zI a) :: rest)) := by
  exact lv_if_eq S.1 S.2.1 hd ht (fun h => kt ((zI_eq ha zI_inR0).mp (by rw [zI_0]; exact h))) (fun h => kf (fun e => h (by have := (zI_eq ha zI_inR0).mpr e; rw [zI_0] at this; exact this)))
theorem z_icmp_ne (S : CallFix p m c cc nL s args Ts own) {a b off : Int} {tgt : Nat} (ht : (pc : Int) + off = (tgt : Int)) (ha : inR a) (hb : inR b) (hd : decode cc pc = .ok (.if_icmp .ne off, 3)) (kt : a ≠ b → W p l e R s m args below meth c H locs cells slots Q (F0 m tgt ls rest)) (kf : a = b → W p l e R s m args below meth c H locs cells slots Q (F0 m (pc + 3) ls rest)) : W p l e R s m args below meth c H locs cells slots Q (F0 m pc ls (.int (zI b) :: .int (zI a) :: rest)) := by
  exact lv_icmp_ne S.1 S.2.1 hd ht (fun h => kt (fun e => h ((zI_eq ha hb).mpr e))) (fun h => kf ((zI_eq ha hb).mp h))
theorem z_if_ne (S : CallFix p m c cc nL s args Ts own) {a off : Int} {tgt : Nat} (ht : (pc : Int) + off = (tgt : Int)) (ha : inR a) (hd : decode cc pc = .ok (.ifCond .ne off, 3)) (kt : a ≠ 0 → W p l e R s m args below meth c H locs cells slots Q (F0 m tgt ls rest)) (kf : a = 0 → W p l e R s m args below meth c H locs cells slots Q (F0 m (pc + 3) ls rest)) : W p l e R s m args below meth c H locs cells slots Q (F0 m pc ls (.int (zI a) :: rest)) := by
  exact lv_if_ne S.1 S.2.1 hd ht (fun h => kt (fun e => h (by have := (zI_eq ha zI_inR0).mpr e; rw [zI_0] at this; exact this))) (fun h => kf ((zI_eq ha zI_inR0).mp (by rw [zI_0]; exact h)))
theorem z_icmp_lt (S : CallFix p m c cc nL s args Ts own) {a b off : Int} {tgt : Nat} (ht : (pc : Int) + off = (tgt : Int)) (ha : inR a) (hb : inR b) (hd : decode cc pc = .ok (.if_icmp .lt off, 3)) (kt : a < b → W p l e R s m args below meth c H locs cells slots Q (F0 m tgt ls rest)) (kf : b ≤ a → W p l e R s m args below meth c H locs cells slots Q (F0 m (pc + 3) ls rest)) : W p l e R s m args below meth c H locs cells slots Q (F0 m pc ls (.int (zI b) :: .int (zI a) :: rest)) := by
  exact lv_icmp_lt S.1 S.2.1 hd ht (fun h => kt ((zI_lt ha hb).mp h)) (fun h => kf (Int.not_lt.mp (fun e => h ((zI_lt ha hb).mpr e))))
theorem z_if_lt (S : CallFix p m c cc nL s args Ts own) {a off : Int} {tgt : Nat} (ht : (pc : Int) + off = (tgt : Int)) (ha : inR a) (hd : decode cc pc = .ok (.ifCond .lt off, 3)) (kt : a < 0 → W p l e R s m args below meth c H locs cells slots Q (F0 m tgt ls rest)) (kf : 0 ≤ a → W p l e R s m args below meth c H locs cells slots Q (F0 m (pc + 3) ls rest)) : W p l e R s m args below meth c H locs cells slots Q (F0 m pc ls (.int (zI a) :: rest)) := by
  exact lv_if_lt S.1 S.2.1 hd ht (fun h => kt ((zI_lt ha zI_inR0).mp (by rw [zI_0]; exact h))) (fun h => kf (Int.not_lt.mp (fun e => h (by have := (zI_lt ha zI_inR0).mpr e; rw [zI_0] at this; exact this))))
theorem z_icmp_ge (S : CallFix p m c cc nL s args Ts own) {a b off : Int} {tgt : Nat} (ht : (pc : Int) + off = (tgt : Int)) (ha : inR a) (hb : inR b) (hd : decode cc pc = .ok (.if_icmp .ge off, 3)) (kt : b ≤ a → W p l e R s m args below meth c H locs cells slots Q (F0 m tgt ls rest)) (kf : a < b → W p l e R s m args below meth c H locs cells slots Q (F0 m (pc + 3) ls rest)) : W p l e R s m args below meth c H locs cells slots Q (F0 m pc ls (.int (zI b) :: .int (zI a) :: rest)) := by
  exact lv_icmp_ge S.1 S.2.1 hd ht (fun h => kt ((zI_le hb ha).mp h)) (fun h => kf (Int.not_le.mp (fun e => h ((zI_le hb ha).mpr e))))
theorem z_if_ge (S : CallFix p m c cc nL s args Ts own) {a off : Int} {tgt : Nat} (ht : (pc : Int) + off = (tgt : Int)) (ha : inR a) (hd : decode cc pc = .ok (.ifCond .ge off, 3)) (kt : 0 ≤ a → W p l e R s m args below meth c H locs cells slots Q (F0 m tgt ls rest)) (kf : a < 0 → W p l e R s m args below meth c H locs cells slots Q (F0 m (pc + 3) ls rest)) : W p l e R s m args below meth c H locs cells slots Q (F0 m pc ls (.int (zI a) :: rest)) := by
  exact lv_if_ge S.1 S.2.1 hd ht (fun h => kt ((zI_le zI_inR0 ha).mp (by rw [zI_0]; exact h))) (fun h => kf (Int.not_le.mp (fun e => h (by have := (zI_le zI_inR0 ha).mpr e; rw [zI_0] at this; exact this))))
theorem z_icmp_gt (S : CallFix p m c cc nL s args Ts own) {a b off : Int} {tgt : Nat} (ht : (pc : Int) + off = (tgt : Int)) (ha : inR a) (hb : inR b) (hd : decode cc pc = .ok (.if_icmp .gt off, 3)) (kt : b < a → W p l e R s m args below meth c H locs cells slots Q (F0 m tgt ls rest)) (kf : a ≤ b → W p l e R s m args below meth c H locs cells slots Q (F0 m (pc + 3) ls rest)) : W p l e R s m args below meth c H locs cells slots Q (F0 m pc ls (.int (zI b) :: .int (zI a) :: rest)) := by
  exact lv_icmp_gt S.1 S.2.1 hd ht (fun h => kt ((zI_lt hb ha).mp h)) (fun h => kf (Int.not_lt.mp (fun e => h ((zI_lt hb ha).mpr e))))
theorem z_if_gt (S : CallFix p m c cc nL s args Ts own) {a off : Int} {tgt : Nat} (ht : (pc : Int) + off = (tgt : Int)) (ha : inR a) (hd : decode cc pc = .ok (.ifCond .gt off, 3)) (kt : 0 < a → W p l e R s m args below meth c H locs cells slots Q (F0 m tgt ls rest)) (kf : a ≤ 0 → W p l e R s m args below meth c H locs cells slots Q (F0 m (pc + 3) ls rest)) : W p l e R s m args below meth c H locs cells slots Q (F0 m pc ls (.int (zI a) :: rest)) := by
  exact lv_if_gt S.1 S.2.1 hd ht (fun h => kt ((zI_lt zI_inR0 ha).mp (by rw [zI_0]; exact h))) (fun h => kf (Int.not_lt.mp (fun e => h (by have := (zI_lt zI_inR0 ha).mpr e; rw [zI_0] at this; exact this))))
theorem z_icmp_le (S : CallFix p m c cc nL s args Ts own) {a b off : Int} {tgt : Nat} (ht : (pc : Int) + off = (tgt : Int)) (ha : inR a) (hb : inR b) (hd : decode cc pc = .ok (.if_icmp .le off, 3)) (kt : a ≤ b → W p l e R s m args below meth c H locs cells slots Q (F0 m tgt ls rest)) (kf : b < a → W p l e R s m args below meth c H locs cells slots Q (F0 m (pc + 3) ls rest)) : W p l e R s m args below meth c H locs cells slots Q (F0 m pc ls (.int (zI b) :: .int (zI a) :: rest)) := by
  exact lv_icmp_le S.1 S.2.1 hd ht (fun h => kt ((zI_le ha hb).mp h)) (fun h => kf (Int.not_le.mp (fun e => h ((zI_le ha hb).mpr e))))
theorem z_if_le (S : CallFix p m c cc nL s args Ts own) {a off : Int} {tgt : Nat} (ht : (pc : Int) + off = (tgt : Int)) (ha : inR a) (hd : decode cc pc = .ok (.ifCond .le off, 3)) (kt : a ≤ 0 → W p l e R s m args below meth c H locs cells slots Q (F0 m tgt ls rest)) (kf : 0 < a → W p l e R s m args below meth c H locs cells slots Q (F0 m (pc + 3) ls rest)) : W p l e R s m args below meth c H locs cells slots Q (F0 m pc ls (.int (zI a) :: rest)) := by
  exact lv_if_le S.1 S.2.1 hd ht (fun h => kt ((zI_le ha zI_inR0).mp (by rw [zI_0]; exact h))) (fun h => kf (Int.not_le.mp (fun e => h (by have := (zI_le ha zI_inR0).mpr e; rw [zI_0] at this; exact this))))
theorem z_shr1 {a : Int} (h0 : 0 ≤ a) (h1 : a < 2147483648) : zI a = nI a.toNat := by
  unfold zI nI
  rw [← Int32.ofInt_eq_ofNat]
  congr 1
  omega
theorem z_iushr1 (S : CallFix p m c cc nL s args Ts own) {a : Int} (h0 : 0 ≤ a) (h1 : a < 2147483648) (hd : decode cc pc = .ok (.iushr, 1)) (k : W p l e R s m args below meth c H locs cells slots Q (F0 m (pc + 1) ls (.int (zI (a / 2)) :: rest))) : W p l e R s m args below meth c H locs cells slots Q (F0 m pc ls (.int (zI 1) :: .int (zI a) :: rest)) := by
  refine lv_iushr (v := zI (a / 2)) S.1 S.2.1 hd ?_ k
  rw [z_shr1 h0 h1, z_shr1 (a := a / 2) (by omega) (by omega), show zI 1 = 1 by decide, pk_ushrN (by omega) 1 1 (by decide)]
  congr 1
  omega
theorem z_ishr1 (S : CallFix p m c cc nL s args Ts own) {a : Int} (h0 : 0 ≤ a) (h1 : a < 2147483648) (hd : decode cc pc = .ok (.ishr, 1)) (k : W p l e R s m args below meth c H locs cells slots Q (F0 m (pc + 1) ls (.int (zI (a / 2)) :: rest))) : W p l e R s m args below meth c H locs cells slots Q (F0 m pc ls (.int (zI 1) :: .int (zI a) :: rest)) := by
  refine lv_ishr S.1 S.2.1 hd ?_
  have e : zI a >>> (zI 1 &&& 31) = zI (a / 2) := by
    rw [z_shr1 h0 h1, z_shr1 (a := a / 2) (by omega) (by omega), show (zI 1 &&& 31 : Int32) = 1 by decide, pk_shrN (by omega) 1 1 (by decide)]
    congr 1
    omega
  rw [e]; exact k
theorem z_ishl1 (S : CallFix p m c cc nL s args Ts own) {a : Int} (h0 : 0 ≤ a) (h1 : a < 1073741824) (hd : decode cc pc = .ok (.ishl, 1)) (k : W p l e R s m args below meth c H locs cells slots Q (F0 m (pc + 1) ls (.int (zI (2 * a)) :: rest))) : W p l e R s m args below meth c H locs cells slots Q (F0 m pc ls (.int (zI 1) :: .int (zI a) :: rest)) := by
  refine lv_ishl S.1 S.2.1 hd ?_
  have e : zI a <<< (zI 1 &&& 31) = zI (2 * a) := by
    rw [z_shr1 h0 (by omega), z_shr1 (a := 2 * a) (by omega) (by omega), show (zI 1 &&& 31 : Int32) = 1 by decide, pk_shlN 1 1 (by decide) (by omega)]
    congr 1
    omega
  rw [e]; exact k
end ZR
end
section
/-! the heap's rows, over cells that are named; contracts (CT) and calls -/
set_option maxRecDepth 100000
def F_Mark : u_T := fun k => match k with
  | 0 => ("TimDrill$Mark", "weight", "I", true)
  | _ => ("TimDrill$Mark", "name", "I", true)
def t_Mark : Nat → FieldType := fun k => match k with
  | 0 => .int
  | _ => .int
def F_Drill : u_T := fun k => match k with
  | _ => ("TimDrill", "row", "[LTimDrill$Mark;", true)
def t_Drill : Nat → FieldType := fun k => match k with
  | _ => .array (.object "TimDrill$Mark")
/-- the sorter's fields: a, minGallop, tmp, tmpBase, tmpLen, stackSize, runBase, runLen -/
def F_Cts : u_T := fun k => match k with
  | 0 => ("java/util/ComparableTimSort", "a", "[Ljava/lang/Object;", true)
  | 1 => ("java/util/ComparableTimSort", "minGallop", "I", false)
  | 2 => ("java/util/ComparableTimSort", "tmp", "[Ljava/lang/Object;", false)
  | 3 => ("java/util/ComparableTimSort", "tmpBase", "I", false)
  | 4 => ("java/util/ComparableTimSort", "tmpLen", "I", false)
  | 5 => ("java/util/ComparableTimSort", "stackSize", "I", false)
  | 6 => ("java/util/ComparableTimSort", "runBase", "[I", true)
  | _ => ("java/util/ComparableTimSort", "runLen", "[I", true)
def t_Cts : Nat → FieldType := fun k => match k with
  | 0 => .array (.object "java/lang/Object")
  | 1 => .int
  | 2 => .array (.object "java/lang/Object")
  | 3 => .int
  | 4 => .int
  | 5 => .int
  | 6 => .array .int
  | _ => .array .int
abbrev classes : List vw_C := [("TimDrill$Mark", F_Mark, 2), ("TimDrill", F_Drill, 1), ("java/util/ComparableTimSort", F_Cts, 8)]
theorem tin_Mark : ∀ w ∈ u_ws "TimDrill$Mark" F_Mark 2, w ∈ TT := by decide +kernel
theorem tin_Drill : ∀ w ∈ u_ws "TimDrill" F_Drill 1, w ∈ TT := by decide +kernel
theorem tin_Cts : ∀ w ∈ u_ws "java/util/ComparableTimSort" F_Cts 8, w ∈ TT := by decide +kernel
theorem tok_Mark : ∀ k, k < 2 → parseFieldDescriptor (F_Mark k).2.2.1 = some (t_Mark k) := by decide +kernel
theorem tok_Drill : ∀ k, k < 1 → parseFieldDescriptor (F_Drill k).2.2.1 = some (t_Drill k) := by decide +kernel
theorem tok_Cts : ∀ k, k < 8 → parseFieldDescriptor (F_Cts k).2.2.1 = some (t_Cts k) := by decide +kernel
theorem tnm_Mark : ∀ a, a < 2 → ∀ b, b < 2 → a ≠ b → (F_Mark a).2.1 ≠ (F_Mark b).2.1 := by decide +kernel
theorem tnm_Drill : ∀ a, a < 1 → ∀ b, b < 1 → a ≠ b → (F_Drill a).2.1 ≠ (F_Drill b).2.1 := by decide +kernel
theorem tnm_Cts : ∀ a, a < 8 → ∀ b, b < 8 → a ≠ b → (F_Cts a).2.1 ≠ (F_Cts b).2.1 := by decide +kernel
/-- what the tables say: classes, array classes, the interface's call, casts -/
abbrev arrs (cI cM cO : ClassId) : List (ClassId × FieldType) := [(cI, .int), (cM, .object "TimDrill$Mark"), (cO, .object "java/lang/Object")]
abbrev KD : Type := va_G × ClassId × ClassId × ClassId × Nat
def KN (K : KD) (U : State) : Prop :=
  va_K K.1 classes (arrs K.2.1 K.2.2.1 K.2.2.2.1) U ∧ va_Fw "TimDrill$Mark" y_cmp y_Mo U ∧ va_Nw (.castable "TimDrill$Mark" "java/lang/Object") U ∧ va_AO "TimDrill$Mark" U ∧ va_AO "java/lang/Object" U ∧ va_Nw (.fieldLinkNest "java/util/Arrays" 112 "java/util/Arrays$LegacyMergeSort" "userRequested" "Z" "java/util/Arrays") U
theorem KN.warm {K : KD} {s U : State} (hW : s.WarmedH U.vm) (h : KN K s) : KN K U :=
  ⟨va_K.moved hW.alike h.1, va_Fw.moved (by decide) hW.alike h.2.1, va_Nw.warmC hW h.2.2.1, va_AO.moved hW.alike h.2.2.2.1, va_AO.moved hW.alike h.2.2.2.2.1, va_Nw.warmF hW h.2.2.2.2.2⟩
theorem KN.same {K : KD} {s U : State} (e : s.vm = U.vm) (h : KN K s) : KN K U :=
  ⟨va_K.moved (by rw [e]; exact Vm.Alike.refl _) h.1, va_Fw.moved (by decide) (by rw [e]; exact Vm.Alike.refl _) h.2.1, va_Nw.same rfl e h.2.2.1, va_AO.moved (by rw [e]; exact Vm.Alike.refl _) h.2.2.2.1, va_AO.moved (by rw [e]; exact Vm.Alike.refl _) h.2.2.2.2.1, va_Nw.same rfl e h.2.2.2.2.2⟩
/-- below N0 (K's last part) nothing changes, and the statics lie there -/
abbrev N0 (K : KD) : Nat := K.2.2.2.2
def Keep (n : Nat) (H H1 : Heap) : Prop := H.size ≤ H1.size ∧ ∀ q, q < n → H1[q]? = H[q]?
theorem Keep.rf {n : Nat} {H : Heap} : Keep n H H := ⟨Nat.le_refl _, fun _ _ => rfl⟩
theorem Keep.tr {n : Nat} {H H1 H2 : Heap} (h : Keep n H H1) (h2 : Keep n H1 H2) : Keep n H H2 := ⟨Nat.le_trans h.1 h2.1, fun q hq => (h2.2 q hq).trans (h.2 q hq)⟩
theorem Keep.set {n : Nat} {H H1 : Heap} {a : Nat} {x : Cell} (h : Keep n H H1) (ha : n ≤ a) : Keep n H (H1.setIfInBounds a x) :=
  ⟨by simp; exact h.1, fun q hq => by rw [Array.getElem?_setIfInBounds_ne (by omega)]; exact h.2 q hq⟩
abbrev LO (n : Nat) (locs : List Loc) : Prop := ∀ q ∈ locs, n ≤ q.base
theorem LO.nil {n : Nat} : LO n [] := fun q h => by cases h
theorem LO.put {n a i : Nat} {locs : List Loc} (h : LO n locs) (ha : n ≤ a) : LO n (locs ++ [⟨a, i⟩]) := fun q hq => by
  rcases List.mem_append.mp hq with h1 | h1
  · exact h q h1
  · rw [List.mem_singleton.mp h1]; exact ha
theorem LO.app {n : Nat} {locs L : List Loc} (h : LO n locs) (h2 : LO n L) : LO n (locs ++ L) := fun q hq => by
  rcases List.mem_append.mp hq with h1 | h1
  · exact h q h1
  · exact h2 q h1
abbrev ZA (K : KD) (U : State) (H : Heap) : Prop := va_Z "java/util/ComparableTimSort" "$assertionsDisabled" "Z" (.int 1) (fun q => N0 K ≤ q) U H
abbrev ZL (K : KD) (U : State) (H : Heap) : Prop := va_Z "java/util/Arrays$LegacyMergeSort" "userRequested" "Z" (.int 0) (fun q => N0 K ≤ q) U H
def GN (K : KD) (U : State) : Prop := KN K U ∧ ZA K U U.heap ∧ ZL K U U.heap ∧ N0 K ≤ U.heap.size
theorem ZA.to {C n d : String} {v : Value} {k : Nat} {U : State} {H H1 : Heap} (h : va_Z C n d v (fun q => k ≤ q) U H) (hk : Keep k H H1) : va_Z C n d v (fun q => k ≤ q) U H1 :=
  h.kept (fun a _ h2 => hk.2 a (Nat.not_le.mp h2))
theorem GN.warm {K : KD} {s U : State} {H : Heap} (h : GN K s) (hk : Keep (N0 K) s.heap H) (hU : U.heap = H) (hW : s.WarmedH U.vm) : GN K U := by
  subst hU
  exact ⟨KN.warm hW h.1, ZA.to (va_Z.moved hW.alike h.2.1) hk, ZA.to (va_Z.moved hW.alike h.2.2.1) hk, Nat.le_trans h.2.2.2 hk.1⟩
theorem GN.blind {K : KD} {U : State} {g : JFrame} {mk : MethodId} {a : Array Value} (h : GN K U) : GN K (U.calling g mk a) :=
  ⟨KN.same (U := U.calling g mk a) rfl h.1, va_Z.moved (U := U.calling g mk a) (Vm.Alike.refl U.vm) h.2.1, va_Z.moved (U := U.calling g mk a) (Vm.Alike.refl U.vm) h.2.2.1, h.2.2.2⟩
/-- a contract: the arguments are av, the heap holds P; then it returns v, and post ties the heaps -/
def QH (post : Heap → Option Value → Heap → Prop) : Array Value → State → Outcome → State → Prop := fun _ st o t => ∃ v, o = .returned v ∧ post st.heap v t.heap
def PH (K : KD) (av : List Value) (P : Heap → Prop) : Array Value → State → Prop := fun v U => v = av.toArray ∧ GN K U ∧ P U.heap
def CT (l : Launch) (K : KD) (y : MethodName) (cd : Cond) (rm : Room) (av : List Value) (P : Heap → Prop) (post : Heap → Option Value → Heap → Prop) : Prop :=
  Met l y (cd :: TT) rm (PH K av P) (QH post) rm.cells rm.slots (fun q => N0 K ≤ q)
theorem PH.blind {K : KD} {av : List Value} {P : Heap → Prop} : FrameBlind (PH K av P) := fun a U g mk h => ⟨h.1, GN.blind h.2.1, h.2.2⟩
section ZH
variable {p : Program} {l : Launch} {e : Env} {R : Room} {s : State} {m : MethodId} {args : Array Value} {below : List Frame} {meth : Method} {c : Code} {H : Heap} {locs : List Loc} {cells slots : Nat} {Q : State → Prop}
variable {cc : ByteArray} {pc nL : Nat} {ls : Array Slot} {rest : List Value} {c0 : Cond} {own : String} {K : KD}
/-- a method's walk gives its contract -/
theorem z_met {y : MethodName} {rm : Room} {av : List Value} {P : Heap → Prop} {post : Heap → Option Value → Heap → Prop} {maxL : Nat} {ret : Option FieldType} (hy : plainName y.cls = true) (hlen : (lg_sl av).length ≤ maxL)
    (body : ∀ (p : Program) (e : Env) (s : State) (m : MethodId) (below : List Frame) (meth : Method) (c : Code) (ls : Array Slot), CallFix p m c cc maxL s av.toArray (Cond.code y cc maxL ret :: TT) y.cls → meth.sig.returnType = ret → meth.locks = false → meth.name = y.name → GN K s → P s.heap → lv_has ls maxL (lv_args 0 av) →
      W p l e rm s m av.toArray below meth c s.heap [] 0 0 (MQ below (QH post) av.toArray s rm.cells rm.slots (fun q => N0 K ≤ q)) (F0 m 0 ls [])) : CT l K y (Cond.code y cc maxL ret) rm av P post := by
  refine Met.ofW (cc := cc) (maxL := maxL) (ret := ret) hy rfl ?_
  intro p e s m args below meth c s₁ B hml hv
  obtain ⟨rfl, hG, hP⟩ := hv
  rw [lg_entry_eq]
  exact body p e s m below meth c _ ⟨B.exec, B.bytes, hml, findClass_of_methodNamed B.named, atoms_spec (ws := Cond.code y cc maxL ret :: TT) B.pre⟩ B.returns B.notSynchronized (name_of_methodNamed B.named B.method).1 hG hP (lv_entry av hlen)
theorem wt {Ts : List Cond} {w : Cond} (hts : ∀ w ∈ c0 :: Ts, w.before args s = true) (h : w ∈ Ts) : w.before args s = true := hts w (List.mem_cons_of_mem _ h)
theorem z_iret {post : Heap → Option Value → Heap → Prop} {v : Int32} (S : CallFix p m c cc nL s args (c0 :: TT) own) (hr : meth.sig.returnType = some .int) (hlk : meth.locks = false) (hlo : LO (N0 K) locs) (hq : post s.heap (some (.int v)) H) (hd : decode cc pc = .ok (.ireturn, 1)) : W p l e R s m args below meth c H locs cells slots (MQ below (QH post) args s cells slots (fun q => N0 K ≤ q)) (F0 m pc ls [.int v]) :=
  W.iret S.1 S.2.1 hr (fun t ht _ => ⟨_, rfl, by rw [ht]; exact hq⟩) hlo hd hlk
theorem z_vret {post : Heap → Option Value → Heap → Prop} (S : CallFix p m c cc nL s args (c0 :: TT) own) (hr : meth.sig.returnType = none) (hlk : meth.locks = false) (hlo : LO (N0 K) locs) (hq : post s.heap none H) (hd : decode cc pc = .ok (.return_, 1)) : W p l e R s m args below meth c H locs cells slots (MQ below (QH post) args s cells slots (fun q => N0 K ≤ q)) (F0 m pc ls []) :=
  W.vret S.1 S.2.1 hr (fun t ht _ => ⟨_, rfl, by rw [ht]; exact hq⟩) hlo hd hlk
theorem z_aret {post : Heap → Option Value → Heap → Prop} {a : Nat} {t0 : FieldType} (S : CallFix p m c cc nL s args (c0 :: TT) own) (hr : meth.sig.returnType = some (.array t0)) (hlk : meth.locks = false) (hlo : LO (N0 K) locs) (hq : post s.heap (some (.ref a)) H) (hd : decode cc pc = .ok (.areturn, 1)) : W p l e R s m args below meth c H locs cells slots (MQ below (QH post) args s cells slots (fun q => N0 K ≤ q)) (F0 m pc ls [.ref a]) :=
  W.aret S.1 S.2.1 hr (Or.inr ⟨_, rfl⟩) (Or.inr ⟨_, rfl⟩) (fun t ht _ => ⟨_, rfl, by rw [ht]; exact hq⟩) hlo hd hlk
/-- what comes back of any call -/
theorem z_run {n : Nat} {mc ms k : Nat} {g : JFrame} {Qa : Array Value → State → Outcome → State → Prop} {a : Array Value} {post : Heap → Option Value → Heap → Prop} (hQ : Qa = QH post)
    (hr : ∀ T : State, T.heap = H → Stand p l e R s m args below meth c T locs cells slots → ∃ (v : Option Value) (st₀ t T' : State) (L : List Loc), st₀.heap = H ∧ Stand p l e R s m args below meth c T' (locs ++ L) (cells + mc) (slots + ms) ∧ (∀ q ∈ L, n ≤ q.base) ∧ T'.heap = t.heap ∧ T'.vm = t.vm ∧ Qa a st₀ (.returned v) t ∧ Goes p e below T g T' { g with pc := g.pc + k, stack := v.toList ++ rest }) (hlo : LO n locs)
    (kk : ∀ (v : Option Value) (H' : Heap) (locs' : List Loc), post H v H' → LO n locs' → W p l e R s m args below meth c H' locs' (cells + mc) (slots + ms) Q { g with pc := g.pc + k, stack := v.toList ++ rest }) : W p l e R s m args below meth c H locs cells slots Q g := by
  intro T hT X
  obtain ⟨v, st₀, t, T', L, h0, X', hL, e1, e2, hq, st⟩ := hr T hT X
  rw [hQ] at hq
  obtain ⟨v', hv, hp⟩ := hq
  cases hv
  rw [h0] at hp
  obtain ⟨t2, a1, b1⟩ := kk v t.heap (locs ++ L) hp (hlo.app hL) T' e1 X'
  exact ⟨t2, st t2 a1, b1⟩
variable {y : MethodName} {bytes : ByteArray} {maxL index n : Nat} {ret : Option FieldType} {rm : Room} {As st : List Value} {P : Heap → Prop} {post : Heap → Option Value → Heap → Prop}
theorem z_callS (S : CallFix p m c cc nL s args (c0 :: TT) own) (hC : CT l K y (Cond.code y bytes maxL ret) rm As P post) (hcd : Cond.code y bytes maxL ret ∈ TT) (w1 : Cond.methodLink own index y ∈ TT) (w2 : Cond.static y ∈ TT) (w3 : Cond.initialized y.cls ∈ TT)
    (hd0 : y.cls ≠ "java/lang/invoke/MethodHandle" ∧ y.cls ≠ "java/lang/invoke/VarHandle" ∧ (parseMethodDescriptor y.desc).map (fun d => d.parameters.length) = some n) (hR : rm.frames + 1 ≤ R.frames ∧ 8 + (maxL + 11) + rm.locals ≤ R.locals) (hn : As.length = n)
    (hG : GN K s) (hk : Keep (N0 K) s.heap H) (hlo : LO (N0 K) locs) (hP : P H) {lv : List (Nat × Value)} (hls : lv_has ls nL lv) (hst : st = As.reverse ++ rest) (hW : (rest.map fun v => v.category).sum ≤ 8) (hf : cells + rm.cells ≤ R.cells ∧ slots + rm.slots ≤ R.slots) (hd : decode cc pc = .ok (.invokestatic index, 3))
    (kk : ∀ (v : Option Value) (H' : Heap) (locs' : List Loc), post H v H' → LO (N0 K) locs' → W p l e R s m args below meth c H' locs' (cells + rm.cells) (slots + rm.slots) Q (F0 m (pc + 3) ls (v.toList ++ rest))) : W p l e R s m args below meth c H locs cells slots Q (F0 m pc ls st) :=
  z_run (a := As.toArray) rfl (va_runS (g := F0 m pc ls st) S hC (va_cwS n S.2.2.2.2 (gd_in (pre := [.methodLink own index y, .static y, .initialized y.cls]) hcd (by
      intro w hw
      rcases List.mem_cons.mp hw with h | hw
      · exact h ▸ w1
      rcases List.mem_cons.mp hw with h | hw
      · exact h ▸ w2
      rcases List.mem_cons.mp hw with h | hw
      · exact h ▸ w3
      cases hw)) rfl rfl rfl hd0 hR) ⟨PH.blind, fun U hU hW => ⟨rfl, hG.warm hk hU hW, by rw [hU]; exact hP⟩⟩ rfl hn hls.1 hst (lv_room hW) hd hf) hlo kk
theorem z_callI {b : Nat} (S : CallFix p m c cc nL s args (c0 :: TT) own) (hC : CT l K y (Cond.code y bytes maxL none) rm (.ref b :: As) P post) (hcd : Cond.code y bytes maxL none ∈ TT) (w1 : Cond.methodLink own index y ∈ TT) (w2 : Cond.instanceMethod y ∈ TT) (w3 : Cond.initialized y.cls ∈ TT) (hy1 : y.name = "<init>")
    (hd0 : y.cls ≠ "java/lang/invoke/MethodHandle" ∧ y.cls ≠ "java/lang/invoke/VarHandle" ∧ (parseMethodDescriptor y.desc).map (fun d => d.parameters.length) = some n) (hR : rm.frames + 1 ≤ R.frames ∧ 8 + (maxL + 11) + rm.locals ≤ R.locals) (hn : As.length = n)
    (hG : GN K s) (hk : Keep (N0 K) s.heap H) (hlo : LO (N0 K) locs) (hP : P H) {lv : List (Nat × Value)} (hls : lv_has ls nL lv) (hst : st = As.reverse ++ .ref b :: rest) (hW : (rest.map fun v => v.category).sum ≤ 8) (hf : cells + rm.cells ≤ R.cells ∧ slots + rm.slots ≤ R.slots) (hd : decode cc pc = .ok (.invokespecial index, 3))
    (kk : ∀ (v : Option Value) (H' : Heap) (locs' : List Loc), post H v H' → LO (N0 K) locs' → W p l e R s m args below meth c H' locs' (cells + rm.cells) (slots + rm.slots) Q (F0 m (pc + 3) ls (v.toList ++ rest))) : W p l e R s m args below meth c H locs cells slots Q (F0 m pc ls st) :=
  z_run (a := (Value.ref b :: As).toArray) rfl (va_runI (g := F0 m pc ls st) S hC (cwI n S.2.2.2.2 (gd_tt hcd) rfl rfl rfl (wt S.2.2.2.2 w3) (wt S.2.2.2.2 w1) (wt S.2.2.2.2 w2) hy1 hd0 hR) ⟨PH.blind, fun U hU hW => ⟨rfl, hG.warm hk hU hW, by rw [hU]; exact hP⟩⟩ rfl hn hls.1 hst (lv_room hW) hd hf) hlo kk
theorem z_callV {b : Nat} {C : String} (S : CallFix p m c cc nL s args (c0 :: TT) own) (hC : CT l K y (Cond.code y bytes maxL ret) rm (.ref b :: As) P post) (hcd : Cond.code y bytes maxL ret ∈ TT) (w1 : Cond.methodLink own index y ∈ TT) (w2 : Cond.instanceMethod y ∈ TT) (w4 : Cond.selects C y y ∈ TT) (w3 : Cond.initialized C ∈ TT)
    (hd0 : y.cls = C ∧ y.cls ≠ "java/lang/invoke/MethodHandle" ∧ y.cls ≠ "java/lang/invoke/VarHandle" ∧ (parseMethodDescriptor y.desc).map (fun d => d.parameters.length) = some n) (hR : rm.frames + 1 ≤ R.frames ∧ 8 + (maxL + 11) + rm.locals ≤ R.locals) (hn : As.length = n)
    (hG : GN K s) (hk : Keep (N0 K) s.heap H) (hlo : LO (N0 K) locs) (hrc : ∃ cellB : Cell, H[b]? = some cellB ∧ cellB.vm.isStatics = false ∧ s.vm.findClass C = some cellB.cls) (hP : P H) {lv : List (Nat × Value)} (hls : lv_has ls nL lv) (hst : st = As.reverse ++ .ref b :: rest) (hW : (rest.map fun v => v.category).sum ≤ 8) (hf : cells + rm.cells ≤ R.cells ∧ slots + rm.slots ≤ R.slots) (hd : decode cc pc = .ok (.invokevirtual index, 3))
    (kk : ∀ (v : Option Value) (H' : Heap) (locs' : List Loc), post H v H' → LO (N0 K) locs' → W p l e R s m args below meth c H' locs' (cells + rm.cells) (slots + rm.slots) Q (F0 m (pc + 3) ls (v.toList ++ rest))) : W p l e R s m args below meth c H locs cells slots Q (F0 m pc ls st) :=
  z_run (a := (Value.ref b :: As).toArray) rfl (va_runV (g := F0 m pc ls st) S hC (cwV n S.2.2.2.2 (gd_in (pre := [.methodLink own index y, .instanceMethod y, .selects C y y, .initialized C]) hcd (by
      intro w hw
      rcases List.mem_cons.mp hw with h | hw
      · exact h ▸ w1
      rcases List.mem_cons.mp hw with h | hw
      · exact h ▸ w2
      rcases List.mem_cons.mp hw with h | hw
      · exact h ▸ w4
      rcases List.mem_cons.mp hw with h | hw
      · exact h ▸ w3
      cases hw)) rfl rfl rfl hd0 hR) ⟨PH.blind, hrc, fun U hU hW => ⟨rfl, hG.warm hk hU hW, by rw [hU]; exact hP⟩⟩ rfl hn hls.1 hst (lv_room hW) hd hf) hlo kk
end ZH
end
section
/-! arrays, fields, new cells, statics, the interface's call: rows over named cells -/
set_option maxRecDepth 100000
abbrev RA (cA : ClassId) (n : Nat) (f : Nat → Option Nat) : Cell := vp_cell cA (n, .inr (.inr (.inr (.inr f))))
abbrev IA (cA : ClassId) (n : Nat) (f : Nat → Int32) : Cell := vp_cell cA (n, .inl f)
abbrev cI_ (K : KD) : ClassId := K.2.1
abbrev cM_ (K : KD) : ClassId := K.2.2.1
abbrev cO_ (K : KD) : ClassId := K.2.2.2.1
abbrev AK (U : State) (cA : ClassId) (ty : FieldType) : Prop := ArrOfT U cA ty ∧ va_RA U cA ty
theorem GN.I {K : KD} {U : State} (h : GN K U) : AK U (cI_ K) .int := h.1.1.2 0 _ rfl
theorem GN.M {K : KD} {U : State} (h : GN K U) : AK U (cM_ K) (.object "TimDrill$Mark") := h.1.1.2 1 _ rfl
theorem GN.O {K : KD} {U : State} (h : GN K U) : AK U (cO_ K) (.object "java/lang/Object") := h.1.1.2 2 _ rfl
theorem heap_eq {H H' : Heap} {a : Nat} {x : Cell} (h1 : H'[a]? = some x) (h2 : H'.size = H.size) (h3 : ∀ q, q ≠ a → H'[q]? = H[q]?) : H' = H.setIfInBounds a x := by
  apply Array.ext_getElem?
  intro q
  by_cases h : q = a
  · subst h
    have : q < H'.size := (Array.getElem?_eq_some_iff.mp h1).1
    rw [h1, Array.getElem?_setIfInBounds_self_of_lt (by omega)]
  · rw [h3 q h, Array.getElem?_setIfInBounds_ne (fun e => h e.symm)]
theorem set_at {H : Heap} {a : Nat} {x y : Cell} (h : H[a]? = some y) : (H.setIfInBounds a x)[a]? = some x :=
  Array.getElem?_setIfInBounds_self_of_lt (Array.getElem?_eq_some_iff.mp h).1
theorem set_off {H : Heap} {a q : Nat} {x : Cell} (h : q ≠ a) : (H.setIfInBounds a x)[q]? = H[q]? := Array.getElem?_setIfInBounds_ne (fun e => h e.symm)
theorem set_set {H : Heap} {a : Nat} {x y : Cell} : (H.setIfInBounds a x).setIfInBounds a y = H.setIfInBounds a y := by simp
theorem set_self {H : Heap} {a : Nat} {x : Cell} (h : H[a]? = some x) : H.setIfInBounds a x = H := (heap_eq h rfl (fun _ _ => rfl)).symm
/-- a mark: its weight and name -/
def MkAt (K : KD) (y : Nat) (w n : Int32) (H : Heap) : Prop := va_at K.1 classes (y, .inr (0, [.int w, .int n])) H
theorem MkAt.kept {K : KD} {y : Nat} {w n : Int32} {H H1 : Heap} (h : MkAt K y w n H) (hq : H1[y]? = H[y]?) : MkAt K y w n H1 := va_at.kept h hq
theorem MkAt.lt {K : KD} {y : Nat} {w n : Int32} {H : Heap} (h : MkAt K y w n H) : y < H.size := va_at.lt h
theorem p1 {D : va_G} {q : Nat × va_E} {H : Heap} (h : va_at D classes q H) : va_P D classes [q] H := fun k x hx => by
  have hz : k < 1 := (List.getElem?_eq_some_iff.mp hx).1
  rw [show k = 0 by omega] at hx
  cases hx
  exact h
theorem ob_recv {D : va_G} {a ci : Nat} {fs : List Value} {H : Heap} {s : State} {tys : List (ClassId × FieldType)} {q : vw_C} (hK : va_K D classes tys s) (h : va_at D classes (a, .inr (ci, fs)) H) (hc : classes[ci]? = some q) : ∃ cell : Cell, H[a]? = some cell ∧ cell.vm.isStatics = false ∧ s.vm.findClass q.1 = some cell.cls := va_recv (q0 := 0) hK (p1 h) hc rfl
theorem MkAt.recv {K : KD} {y : Nat} {w n : Int32} {H : Heap} {s : State} (hG : GN K s) (h : MkAt K y w n H) : ∃ cell : Cell, H[y]? = some cell ∧ cell.vm.isStatics = false ∧ s.vm.findClass "TimDrill$Mark" = some cell.cls := ob_recv (q := ("TimDrill$Mark", F_Mark, 2)) hG.1.1 h rfl
theorem MkAt.anyM {K : KD} {y : Nat} {w n : Int32} {H : Heap} {s : State} (hG : GN K s) (h : MkAt K y w n H) : va_Any "TimDrill$Mark" s H y :=
  va_rAny (q0 := 0) (r := ("TimDrill$Mark", F_Mark, 2)) hG.1.1 (p1 h) rfl rfl (fun comp c0 h1 h2 => by
    cases h1.symm.trans h2
    have := (hG.1.1.1 0 _ rfl).2
    have e : K.1.1 0 = comp := Option.some.inj (this.1.symm.trans h1)
    rw [← e]; exact va_assign this)
theorem MkAt.anyO {K : KD} {y : Nat} {w n : Int32} {H : Heap} {s : State} (hG : GN K s) (h : MkAt K y w n H) : va_Any "java/lang/Object" s H y :=
  va_rAny (q0 := 0) (r := ("TimDrill$Mark", F_Mark, 2)) hG.1.1 (p1 h) rfl rfl (fun comp c0 h1 h2 => by
    obtain ⟨c3, t3, w1, w2, w3⟩ := Cond.castable_spec (va_Nw.use (A := #[]) rfl hG.1.2.2.1)
    cases h1.symm.trans w2
    cases h2.symm.trans w1
    exact w3)
section ZC
variable {p : Program} {l : Launch} {e : Env} {R : Room} {s : State} {m : MethodId} {args : Array Value} {below : List Frame} {meth : Method} {c : Code} {H : Heap} {locs : List Loc} {cells slots : Nat} {Q : State → Prop}
variable {cc : ByteArray} {pc nL : Nat} {ls : Array Slot} {rest : List Value} {c0 : Cond} {own : String} {K : KD} {a : Nat} {cA : ClassId} {n : Nat}
theorem z_ix {i : Int} (h0 : 0 ≤ i) (h1 : i < n) (hn : n < 2147483648) : ¬ (zI i < 0 ∨ n ≤ (zI i).toNatClampNeg) := by
  rw [zI_cl h0 (by omega), ← zI_0, zI_lt ⟨by omega, by omega⟩ zI_inR0]
  omega
theorem z_aald {C : String} {f : Nat → Option Nat} (S : CallFix p m c cc nL s args (c0 :: TT) own) (hA : AK s cA (.object C)) (ha : H[a]? = some (RA cA n f)) {i : Int} (h0 : 0 ≤ i) (h1 : i < n) (hn : n < 2147483648) {y : Nat} (hy : f i.toNat = some y) (hd : decode cc pc = .ok (.aaload, 1))
    (kk : W p l e R s m args below meth c H locs cells slots Q (F0 m (pc + 1) ls (.ref y :: rest))) : W p l e R s m args below meth c H locs cells slots Q (F0 m pc ls (.int (zI i) :: .ref a :: rest)) :=
  W.aald (v := .ref y) (ty := .object C) S.1 S.2.1 ha (hA.1 n (fun j => va_rf (f j))) rfl (fun q => by cases q) (by show ¬ (zI i < 0 ∨ (arrV _ _ _).slots.size ≤ _); rw [arrV_size]; exact z_ix h0 h1 hn) (by show (arrV _ _ _).slots[_]? = _; rw [zI_cl h0 (by omega), arrV_read _ _ (by omega), hy]; rfl) rfl rfl hd kk
theorem z_aast {E : String} {f : Nat → Option Nat} (S : CallFix p m c cc nL s args (c0 :: TT) own) (hA : AK s cA (.object E)) (ha : H[a]? = some (RA cA n f)) (hlo : LO (N0 K) locs) (hN : N0 K ≤ a) {v : Nat} (hv : va_Any E s H v) {i : Int} (h0 : 0 ≤ i) (h1 : i < n) (hn : n < 2147483648) (hd : decode cc pc = .ok (.aastore, 1))
    (kk : ∀ locs' : List Loc, LO (N0 K) locs' → W p l e R s m args below meth c (H.setIfInBounds a (RA cA n (va_up f i.toNat (some v)))) locs' cells slots Q (F0 m (pc + 1) ls rest)) : W p l e R s m args below meth c H locs cells slots Q (F0 m pc ls (.ref v :: .int (zI i) :: .ref a :: rest)) := by
  have hx := z_ix (n := n) h0 h1 hn
  obtain ⟨cellV, g1, g3, ⟨kC, hkC⟩, hasg⟩ := hv
  obtain ⟨kA, comp, k1, k2, k3, -⟩ := hA.2
  obtain ⟨kE, hkE, -⟩ := Vm.findClass_spec k3
  refine W.aast S.1 S.2.1 ha (fun q h => by cases h) (fun h => by cases h) k1 k2 rfl hkE ⟨fun h => hx (Or.inl h), by show _ < (arrV _ _ _).slots.size; rw [arrV_size]; exact Nat.not_le.mp (fun h => hx (Or.inr h))⟩ g1 (fun q h => by rw [h] at g3; cases g3) hkC (hasg _ k3) rfl rfl hd fun H1 e z oq => ?_
  have e2 : (RA cA n f).setSlot (zI i).toNatClampNeg (.ref v) = RA cA n (va_up f i.toNat (some v)) := by
    rw [zI_cl h0 (by omega)]
    show (vp_cell _ _).setSlot _ _ = vp_cell _ _
    rw [vp_cell_q, vp_cell_q, arrV_store]
    congr 1
    funext q
    by_cases hq : q = i.toNat
    · subst hq
      simp [updV, va_up, va_rf]
    · simp [updV, va_up, hq]
  rw [e2] at e
  rw [heap_eq e z oq]
  exact kk _ (hlo.put hN)
theorem z_alen {ty : FieldType} {x : vp_A} (S : CallFix p m c cc nL s args (c0 :: TT) own) (hA : AK s cA ty) (ha : H[a]? = some (vp_cell cA x)) (hd : decode cc pc = .ok (.arraylength, 1))
    (kk : W p l e R s m args below meth c H locs cells slots Q (F0 m (pc + 1) ls (.int (zI x.1) :: rest))) : W p l e R s m args below meth c H locs cells slots Q (F0 m pc ls (.ref a :: rest)) := by
  rw [← zI_nat] at kk
  obtain ⟨n, f | f | f | f | f⟩ := x
  · exact W.alen (n := Int32.ofNat n) S.1 S.2.1 ha (hA.1 n (fun j => .int (f j))) (by rw [vp_cell_i, arrV_size] <;> rfl) rfl rfl hd kk
  · exact W.alen (n := Int32.ofNat n) S.1 S.2.1 ha (hA.1 n (fun j => .long (f j))) (by rw [vp_cell_l, arrV_size] <;> rfl) rfl rfl hd kk
  · exact W.alen (n := Int32.ofNat n) S.1 S.2.1 ha (hA.1 n (fun j => .float (f j))) (by rw [vp_cell_f, arrV_size] <;> rfl) rfl rfl hd kk
  · exact W.alen (n := Int32.ofNat n) S.1 S.2.1 ha (hA.1 n (fun j => .double (f j))) (by rw [vp_cell_d, arrV_size] <;> rfl) rfl rfl hd kk
  · exact W.alen (n := Int32.ofNat n) S.1 S.2.1 ha (hA.1 n (fun j => va_rf (f j))) (by rw [vp_cell_q, arrV_size] <;> rfl) rfl rfl hd kk
theorem z_iald {f : Nat → Int32} (S : CallFix p m c cc nL s args (c0 :: TT) own) (hA : AK s cA .int) (ha : H[a]? = some (IA cA n f)) {i : Int} (h0 : 0 ≤ i) (h1 : i < n) (hn : n < 2147483648) {y : Int32} (hy : f i.toNat = y) (hd : decode cc pc = .ok (.iaload, 1))
    (kk : W p l e R s m args below meth c H locs cells slots Q (F0 m (pc + 1) ls (.int y :: rest))) : W p l e R s m args below meth c H locs cells slots Q (F0 m pc ls (.int (zI i) :: .ref a :: rest)) :=
  W.iald (v := .int y) S.1 S.2.1 ha (hA.1 n (fun j => .int (f j))) (fun q => by cases q) (by show ¬ (zI i < 0 ∨ (arrV _ _ _).slots.size ≤ _); rw [arrV_size]; exact z_ix h0 h1 hn) (by show (arrV _ _ _).slots[_]? = _; rw [zI_cl h0 (by omega), arrV_read _ _ (by omega), hy]) rfl rfl hd kk
theorem z_iast {f : Nat → Int32} (S : CallFix p m c cc nL s args (c0 :: TT) own) (hA : AK s cA .int) (ha : H[a]? = some (IA cA n f)) (hlo : LO (N0 K) locs) (hN : N0 K ≤ a) {v : Int32} {i : Int} (h0 : 0 ≤ i) (h1 : i < n) (hn : n < 2147483648) (hd : decode cc pc = .ok (.iastore, 1))
    (kk : ∀ locs' : List Loc, LO (N0 K) locs' → W p l e R s m args below meth c (H.setIfInBounds a (IA cA n (va_up f i.toNat v))) locs' cells slots Q (F0 m (pc + 1) ls rest)) : W p l e R s m args below meth c H locs cells slots Q (F0 m pc ls (.int v :: .int (zI i) :: .ref a :: rest)) := by
  have hx := z_ix (n := n) h0 h1 hn
  refine W.iast S.1 S.2.1 ha (hA.1 n (fun j => .int (f j))) (fun h => by cases h) (by show ¬ (zI i < 0 ∨ (arrV _ _ _).slots.size ≤ _); rw [arrV_size]; exact hx) rfl rfl hd fun H1 e z oq => ?_
  have e2 : (IA cA n f).setSlot (zI i).toNatClampNeg (.int v) = IA cA n (va_up f i.toNat v) := by
    rw [zI_cl h0 (by omega)]
    show (vp_cell _ _).setSlot _ _ = vp_cell _ _
    rw [vp_cell_i, vp_cell_i, arrV_store]
    congr 1
    funext q
    by_cases hq : q = i.toNat
    · subst hq
      simp [updV, va_up]
    · simp [updV, va_up, hq]
  rw [e2] at e
  rw [heap_eq e z oq]
  exact kk _ (hlo.put hN)
theorem z_get {C ref : String} {T : u_T} {N ci index : Nat} {fs : List Value} {v : Value} (S : CallFix p m c cc nL s args (c0 :: TT) own) (hin : ∀ w ∈ u_ws C T N, w ∈ TT) (hG : GN K s) (hO : va_at K.1 classes (a, .inr (ci, fs)) H) (hc : classes[ci]? = some (C, T, N)) (k : Nat) (hk : k < N) (hlink : Cond.fieldLink own index ref (T k).2.1 (T k).2.2.1 ∈ TT) (hsame : (T k).1 = ref) (hv : fs[k]? = some v) (hd : decode cc pc = .ok (.getfield index, 3))
    (kk : W p l e R s m args below meth c H locs cells slots Q (F0 m (pc + 3) ls (v :: rest))) : W p l e R s m args below meth c H locs cells slots Q (F0 m pc ls (.ref a :: rest)) :=
  va_get S.1 S.2.1 S.2.2.2.2 (fun w h => List.mem_cons_of_mem _ (hin w h)) S.2.2.2.1 hG.1.1 (p1 hO) 0 rfl hc k hk (wt S.2.2.2.2 hlink) (fun x h => by rw [← hsame]; exact h) hv hd kk
theorem z_put {C ref : String} {T : u_T} {N ci index : Nat} {fs : List Value} {v : Value} (S : CallFix p m c cc nL s args (c0 :: TT) own) (hin : ∀ w ∈ u_ws C T N, w ∈ TT) (ty0 : Nat → FieldType) (hty : ∀ k, k < N → parseFieldDescriptor (T k).2.2.1 = some (ty0 k)) (hnm : ∀ a, a < N → ∀ b, b < N → a ≠ b → (T a).2.1 ≠ (T b).2.1) (hG : GN K s) (hO : va_at K.1 classes (a, .inr (ci, fs)) H) (hlo : LO (N0 K) locs) (hN : N0 K ≤ a) (hc : classes[ci]? = some (C, T, N)) (k : Nat) (hk : k < N) (hlink : Cond.fieldLink own index ref (T k).2.1 (T k).2.2.1 ∈ TT) (hsame : (T k).1 = ref) (hfin : (T k).2.2.2 = false) (hn : narrow (ty0 k) v = v) (hfit : fits (ty0 k) v = true) (hl : k < fs.length) (hd : decode cc pc = .ok (.putfield index, 3))
    (kk : ∀ (H1 : Heap) (locs' : List Loc), va_at K.1 classes (a, .inr (ci, fs.set k v)) H1 → H1.size = H.size → (∀ q, q ≠ a → H1[q]? = H[q]?) → LO (N0 K) locs' → W p l e R s m args below meth c H1 locs' cells slots Q (F0 m (pc + 3) ls rest)) : W p l e R s m args below meth c H locs cells slots Q (F0 m pc ls (v :: .ref a :: rest)) := by
  have hts := S.2.2.2.2
  have hin' : ∀ w ∈ u_ws C T N, w ∈ c0 :: TT := fun w h => List.mem_cons_of_mem _ (hin w h)
  have hap := va_apart (own := own) hts hin' ty0 hty hnm hG.1.1 hc
  obtain ⟨r, h1, cell, q1, q2, q3, q4⟩ := hO
  have hr : r = (C, T, N) := Option.some.inj (h1.symm.trans hc)
  subst hr
  obtain ⟨hS, hfc, kC, hkC, hkind⟩ := hG.1.1.1 ci _ hc
  obtain ⟨cf, kf, fi, f, hi, hsl⟩ := hS k hk
  have hlay := hts _ (hin' _ (u_in_lay hk))
  unfold u_lay at hlay
  rw [if_neg (by rw [hfin]; decide)] at hlay
  have hst := (u_facts hfc hkC (u_lays hts hin' hk) hi).1
  have h6 := u_store hfc hkC hkind hlay hi (hty k hk) hn hfit
  refine W.putK S.1 S.2.1 (f := f) ⟨S.2.2.2.1, wt hts hlink, ⟨_, _, _, by rw [← hsame]; exact hi⟩, hst⟩ (by rw [q2]; exact h6) q1 q3 (by rw [hsl]; exact k2_hasslot (q4 k hk)) rfl rfl hd fun H' e1 e2 e3 => ?_
  rw [hsl] at e1 ⊢
  exact kk H' _ ⟨_, hc, t_OB.to (V := updV (vp_V fs) k v) ⟨_, e1, q2, q3, t_set q4 hap hk v⟩ (fun j _ => vp_updV_set hl v j)⟩ e2 e3 (hlo.put hN)
theorem z_putF {C ref : String} {T : u_T} {N ci index : Nat} {fs : List Value} {v : Value} (S : CallFix p m c cc nL s args (c0 :: TT) own) (hin : ∀ w ∈ u_ws C T N, w ∈ TT) (ty0 : Nat → FieldType) (hty : ∀ k, k < N → parseFieldDescriptor (T k).2.2.1 = some (ty0 k)) (hnm : ∀ a, a < N → ∀ b, b < N → a ≠ b → (T a).2.1 ≠ (T b).2.1) (hG : GN K s) (hO : va_at K.1 classes (a, .inr (ci, fs)) H) (hlo : LO (N0 K) locs) (hN : N0 K ≤ a) (hc : classes[ci]? = some (C, T, N)) (k : Nat) (hk : k < N) (hlink : Cond.fieldLink own index ref (T k).2.1 (T k).2.2.1 ∈ TT) (hsame : (T k).1 = ref) (hfin : (T k).2.2.2 = true) (hin2 : meth.name = "<init>") (hdecl : (T k).1 = own) (hn : narrow (ty0 k) v = v) (hfit : fits (ty0 k) v = true) (hl : k < fs.length) (hd : decode cc pc = .ok (.putfield index, 3))
    (kk : ∀ (H1 : Heap) (locs' : List Loc), va_at K.1 classes (a, .inr (ci, fs.set k v)) H1 → H1.size = H.size → (∀ q, q ≠ a → H1[q]? = H[q]?) → LO (N0 K) locs' → W p l e R s m args below meth c H1 locs' cells slots Q (F0 m (pc + 3) ls rest)) : W p l e R s m args below meth c H locs cells slots Q (F0 m pc ls (v :: .ref a :: rest)) := by
  have hts := S.2.2.2.2
  have hown := S.2.2.2.1
  have hin' : ∀ w ∈ u_ws C T N, w ∈ c0 :: TT := fun w h => List.mem_cons_of_mem _ (hin w h)
  have hap := va_apart (own := own) hts hin' ty0 hty hnm hG.1.1 hc
  obtain ⟨r, h1, cell, q1, q2, q3, q4⟩ := hO
  have hr : r = (C, T, N) := Option.some.inj (h1.symm.trans hc)
  subst hr
  obtain ⟨hS, hfc, kC, hkC, hkind⟩ := hG.1.1.1 ci _ hc
  obtain ⟨cf, kf, fi, f, hi, hsl⟩ := hS k hk
  have hlay := hts _ (hin' _ (u_in_lay hk))
  unfold u_lay at hlay
  rw [if_pos hfin] at hlay
  have hst := (u_facts hfc hkC (u_lays hts hin' hk) hi).1
  have hcf : m.cls = cf := by
    obtain ⟨_, _, c', _, _, _, -, -, hf', -, -, -, hown2, -⟩ := Cond.laysFinal_spec hlay
    have e1 : c' = cf := by have := hi.symm.trans hf'; simp at this; exact this.1.symm
    rw [hdecl] at hown2
    rw [← e1]; exact Option.some.inj (hown.symm.trans hown2)
  have h6 := u_fits hfc hkC hkind (Or.inr hlay) hi (hty k hk) hn hfit
  refine W.putFinK S.1 S.2.1 hown (wt hts hlink) (by rw [← hsame]; exact hi) hst hcf hin2 (by rw [q2]; exact h6) q1 q3 (by rw [hsl]; exact k2_hasslot (q4 k hk)) rfl rfl hd fun H' e1 e2 e3 => ?_
  rw [hsl] at e1 ⊢
  exact kk H' _ ⟨_, hc, t_OB.to (V := updV (vp_V fs) k v) ⟨_, e1, q2, q3, t_set q4 hap hk v⟩ (fun j _ => vp_updV_set hl v j)⟩ e2 e3 (hlo.put hN)
theorem z_new {C : String} {T : u_T} {N ci index : Nat} (S : CallFix p m c cc nL s args (c0 :: TT) own) (hin : ∀ w ∈ u_ws C T N, w ∈ TT) (ty : Nat → FieldType) (hty : ∀ k, k < N → parseFieldDescriptor (T k).2.2.1 = some (ty k)) (hG : GN K s) (w1 : Cond.classLink own index C ∈ TT) (w2 : Cond.instantiable C N ∈ TT) (w3 : Cond.initialized C ∈ TT) (hc : classes[ci]? = some (C, T, N)) {fs : List Value} (hfs : ∀ j, j < N → defaultValue (ty j) = vp_V fs j) (hcells : cells + 1 ≤ R.cells) (hslots : slots + N ≤ R.slots) (hd : decode cc pc = .ok (.new index, 3))
    (kk : ∀ (H1 : Heap), va_at K.1 classes (H.size, .inr (ci, fs)) H1 → H1.size = H.size + 1 → (∀ q, q < H.size → H1[q]? = H[q]?) → W p l e R s m args below meth c H1 locs (cells + 1) (slots + N) Q (F0 m (pc + 3) ls (.ref H.size :: rest))) : W p l e R s m args below meth c H locs cells slots Q (F0 m pc ls rest) := by
  have hKn := hG.1.1.1 ci _ hc
  refine W.newcK S.1 S.2.1 S.2.2.2.1 (wt S.2.2.2.2 w1) (wt S.2.2.2.2 w2) (wt S.2.2.2.2 w3) rfl hd hcells hslots hKn.2.1 rfl fun H1 kC hkC e1 z1 o1 => ?_
  exact kk H1 ⟨_, hc, (u_born ty S.2.2.2.2 (fun w h => List.mem_cons_of_mem _ (hin w h)) hKn hkC e1 hty).to hfs⟩ z1 o1
theorem z_newi (S : CallFix p m c cc nL s args (c0 :: TT) own) (hG : GN K s) (w1 : Cond.arrayClass .int ∈ TT) {i : Int} (h0 : 0 ≤ i) (h1 : i < 1000000) (hcells : cells + 1 ≤ R.cells) (hslots : slots + i.toNat ≤ R.slots) (hd : decode cc pc = .ok (.newarray .int, 2))
    (kk : W p l e R s m args below meth c (H.push (IA (cI_ K) i.toNat (fun _ => 0))) locs (cells + 1) (slots + i.toNat) Q (F0 m (pc + 2) ls (.ref H.size :: rest))) : W p l e R s m args below meth c H locs cells slots Q (F0 m pc ls (.int (zI i) :: rest)) := by
  have hcl : (zI i).toNatClampNeg = i.toNat := zI_cl h0 (by omega)
  refine W.newa (atype := .int) S.1 S.2.1 (wt S.2.2.2.2 w1) rfl hd rfl (fun h => by rw [← zI_0, zI_lt ⟨by omega, by omega⟩ zI_inR0] at h; omega) (by rw [hcl]; show _ * 4 ≤ _; omega) hcells (by rw [hcl]; exact hslots) fun cA kA comp f1 f2 f3 => ?_
  have e : cA = cI_ K := Option.some.inj (f1.symm.trans hG.I.2)
  subst e
  rw [hcl, arrV_new]
  exact kk
theorem z_anew {C : String} {index : Nat} (S : CallFix p m c cc nL s args (c0 :: TT) own) (hA : AK s cA (.object C)) (hov : va_AO C s) (w1 : Cond.classLink own index C ∈ TT) {i : Int} (h0 : 0 ≤ i) (h1 : i < 1000000) (hcells : cells + 1 ≤ R.cells) (hslots : slots + i.toNat ≤ R.slots) (hd : decode cc pc = .ok (.anewarray index, 3))
    (kk : W p l e R s m args below meth c (H.push (RA cA i.toNat (fun _ => none))) locs (cells + 1) (slots + i.toNat) Q (F0 m (pc + 3) ls (.ref H.size :: rest))) : W p l e R s m args below meth c H locs cells slots Q (F0 m pc ls (.int (zI i) :: rest)) := by
  have hcl : (zI i).toNatClampNeg = i.toNat := zI_cl h0 (by omega)
  refine W.anew S.1 S.2.1 S.2.2.2.1 (wt S.2.2.2.2 w1) (va_AO.use hov) rfl hd rfl (fun h => by rw [← zI_0, zI_lt ⟨by omega, by omega⟩ zI_inR0] at h; omega) (by rw [hcl]; omega) hcells (by rw [hcl]; exact hslots) fun cB kA comp f1 f2 f3 f4 => ?_
  obtain ⟨kA', comp', r1, r2, r3, r4⟩ := hA.2
  have e : cB = cA := Option.some.inj (f1.symm.trans r4)
  subst e
  rw [hcl, arrV_new]
  exact kk
theorem z_asrt {off : Int} {tgt : Nat} (S : CallFix p m c cc nL s args (c0 :: TT) own) (hG : GN K s) (hk : Keep (N0 K) s.heap H) (w1 : Cond.fieldLink own 37 "java/util/ComparableTimSort" "$assertionsDisabled" "Z" ∈ TT) (ht : ((pc + 3 : Nat) : Int) + off = (tgt : Int)) (hd : decode cc pc = .ok (.getstatic 37, 3)) (hd2 : decode cc (pc + 3) = .ok (.ifCond .ne off, 3))
    (kk : W p l e R s m args below meth c H locs cells slots Q (F0 m tgt ls rest)) : W p l e R s m args below meth c H locs cells slots Q (F0 m pc ls rest) := by
  obtain ⟨cf, kf, fi, f, a, cell, h1, h2, h3, h4, h5, h6, h7, h8⟩ := ZA.to hG.2.1 hk
  refine W.gets S.1 S.2.1 S.2.2.2.1 (wt S.2.2.2.2 w1) h1 h2 h3 h4 h5 (fun e => by rw [e] at h6; cases h6) h7 rfl hd ?_
  exact lv_if_ne S.1 S.2.1 hd2 ht (fun _ => kk) (fun h => by cases h)
theorem z_copy {index : Nat} {a1 n1 : Nat} {c1 : ClassId} {E0 E1 : String} {f g : Nat → Option Nat} {lv : List (Nat × Value)} (S : CallFix p m c cc nL s args (c0 :: TT) own) (w1 : Cond.methodLink own index arraycopyName ∈ TT) (w2 : Cond.native arraycopyName ∈ TT) (w3 : Cond.static arraycopyName ∈ TT) (w4 : Cond.initialized "java/lang/System" ∈ TT)
    (hA0 : AK s cA (.object E0)) (hA1 : AK s c1 (.object E1)) (ha0 : H[a]? = some (RA cA n f)) (ha1 : H[a1]? = some (RA c1 n1 g)) (hlo : LO (N0 K) locs) (hN : N0 K ≤ a1) {sp dp k : Int} (h1 : 0 ≤ sp) (h2 : 0 ≤ dp) (h3 : 0 ≤ k) (h4 : sp + k ≤ n) (h5 : dp + k ≤ n1) (hn : n < 2147483648) (hn1 : n1 < 2147483648)
    (hel : ∀ i : Nat, i < k.toNat → ∀ y : Nat, f (sp.toNat + i) = some y → va_Any E1 s H y) (hfr : 1 ≤ R.frames) (hlc : (rest.map fun v => v.category).sum + 27 ≤ R.locals) (hls : lv_has ls nL lv) (hd : decode cc pc = .ok (.invokestatic index, 3))
    (kk : ∀ locs' : List Loc, LO (N0 K) locs' → W p l e R s m args below meth c (H.setIfInBounds a1 (RA c1 n1 (va_cpy f g sp.toNat dp.toNat k.toNat))) locs' cells slots Q (F0 m (pc + 3) ls rest)) : W p l e R s m args below meth c H locs cells slots Q (F0 m pc ls (.int (zI k) :: .int (zI dp) :: .ref a1 :: .int (zI sp) :: .ref a :: rest)) := by
  have csp : (zI sp).toNatClampNeg = sp.toNat := zI_cl h1 (by omega)
  have cdp : (zI dp).toNatClampNeg = dp.toNat := zI_cl h2 (by omega)
  have ck : (zI k).toNatClampNeg = k.toNat := zI_cl h3 (by omega)
  have tsp : (zI sp).toInt = sp := zI_toInt ⟨by omega, by omega⟩
  have tdp : (zI dp).toInt = dp := zI_toInt ⟨by omega, by omega⟩
  have tk : (zI k).toInt = k := zI_toInt ⟨by omega, by omega⟩
  have h9 : nativeFrameWords "java/lang/System" "arraycopy" 5 ≤ 16 := by decide +kernel
  intro T hT X
  obtain ⟨-, k0, hk0, cm0, hkk0⟩ := hA0.1 n (fun j => va_rf (f j))
  obtain ⟨-, k1, hk1, cm1, hkk1⟩ := hA1.1 n1 (fun j => va_rf (g j))
  obtain ⟨vm', X', step⟩ := X.arraycopy S.1 S.2.2.2.1 (wt S.2.2.2.2 w1) (wt S.2.2.2.2 w2) (wt S.2.2.2.2 w3) (wt S.2.2.2.2 w4) (src := a) (dst := a1) (cs := RA cA n f) (cd := RA c1 n1 g) (srcPos := zI sp) (destPos := zI dp) (n := zI k) (by rw [hT]; exact ha0) (by rw [hT]; exact ha1)
    (fun _ h => by cases h) (fun _ h => by cases h) (fun h => by cases h) (fun h => by cases h) hk0 hk1 hkk0 hkk1 rfl (fun h => by rw [← zI_0, zI_lt ⟨by omega, by omega⟩ zI_inR0] at h; omega) (fun h => by rw [← zI_0, zI_lt ⟨by omega, by omega⟩ zI_inR0] at h; omega) (fun h => by rw [← zI_0, zI_lt ⟨by omega, by omega⟩ zI_inR0] at h; omega)
    (by rw [tsp, tk]; show ¬ _ > ((arrV cA n (fun j => va_rf (f j))).slots.size : Int); rw [arrV_size]; omega)
    (by rw [tdp, tk]; show ¬ _ > ((arrV c1 n1 (fun j => va_rf (g j))).slots.size : Int); rw [arrV_size]; omega)
    (fun vm₁ hal i hi => by
      rw [ck] at hi
      rw [csp]
      have e : (RA cA n f).slots.getD (sp.toNat + i) .null = va_rf (f (sp.toNat + i)) := by
        show (arrV cA n (fun j => va_rf (f j))).slots.getD _ _ = _
        rw [Array.getD_eq_getD_getElem?, arrV_read _ _ (by omega)]
        rfl
      rw [e]
      cases hy : f (sp.toNat + i) with
      | none => exact ⟨rfl, trivial⟩
      | some y =>
        obtain ⟨cellV, g1, g2, ⟨kC, hkC⟩, hasg⟩ := hel i hi y hy
        obtain ⟨kA, comp, r1, r2, r3, -⟩ := hA1.2
        cases hk1.symm.trans r1
        cases hkk1.symm.trans r2
        obtain ⟨kE, hkE, -⟩ := Vm.findClass_spec r3
        obtain ⟨kC', hkC', -⟩ := hal.2.2 _ _ hkC
        obtain ⟨kE', hkE', -⟩ := hal.2.2 _ _ hkE
        refine ⟨rfl, cellV, (show T.heap[y]? = some cellV by rw [hT]; exact g1), (fun q h => by rw [h] at g2; cases g2), ⟨kC', hkC'⟩, ?_, ?_⟩
        · exact ⟨kE', hkE'⟩
        · show vm₁.assignable _ _ = true
          rw [hal.assignable]
          exact hasg _ r3)
    (g := F0 m pc ls (.int (zI k) :: .int (zI dp) :: .ref a1 :: .int (zI sp) :: .ref a :: rest)) rfl (by rw [S.2.2.1]; exact hls.1) (rest := rest) rfl (by rw [S.2.1]; exact hd) hfr (by show 2 * 0 + _ + (nativeFrameWords "java/lang/System" "arraycopy" 5 + 11) ≤ _; omega)
  have e1 : copied (RA cA n f) (RA c1 n1 g) (zI sp) (zI dp) (zI k) = RA c1 n1 (va_cpy f g sp.toNat dp.toNat k.toNat) := by
    rw [← csp, ← cdp, ← ck]
    show copied (vp_cell _ _) (vp_cell _ _) _ _ _ = vp_cell _ _
    rw [vp_cell_q, vp_cell_q, vp_cell_q]
    exact va_copied (fun z => va_rf z) cA c1 f g (by rw [csp, ck]; omega)
  rw [e1] at X' step
  have hheap : ((T.setVm vm').setCell a1 (RA c1 n1 (va_cpy f g sp.toNat dp.toNat k.toNat))).heap = H.setIfInBounds a1 (RA c1 n1 (va_cpy f g sp.toNat dp.toNat k.toNat)) := by rw [← hT]; rfl
  obtain ⟨t, b1, b2⟩ := kk _ (hlo.app (fun q hq => by
    obtain ⟨z, -, hz⟩ := List.mem_map.mp hq
    rw [← hz]; exact hN)) _ hheap X'
  exact ⟨t, step t b1, b2⟩
theorem z_cast {y : Nat} {w nm : Int32} {index : Nat} (S : CallFix p m c cc nL s args (c0 :: TT) own) (hG : GN K s) (hM : MkAt K y w nm H) (w1 : Cond.classLink own index "java/lang/Comparable" ∈ TT) (hd : decode cc pc = .ok (.checkcast index, 3))
    (kk : W p l e R s m args below meth c H locs cells slots Q (F0 m (pc + 3) ls (.ref y :: rest))) : W p l e R s m args below meth c H locs cells slots Q (F0 m pc ls (.ref y :: rest)) :=
  va_castY (C := "TimDrill$Mark") S.1 S.2.1 S.2.2.2.1 (wt S.2.2.2.2 w1) hG.1.2.1.2.2.2.2 (hM.recv hG) hd kk
end ZC
end
section
/-! words of the tables, one by one (printed by tools/words.py) -/
set_option maxRecDepth 100000
theorem tn_L : Cond.initialized "TimDrillLaw" ∈ TT := by decide +kernel
theorem tn_D : Cond.initialized "TimDrill" ∈ TT := by decide +kernel
theorem tn_M : Cond.initialized "TimDrill$Mark" ∈ TT := by decide +kernel
theorem tn_H : Cond.initialized "java/lang/Math" ∈ TT := by decide +kernel
theorem tn_A : Cond.initialized "java/util/Arrays" ∈ TT := by decide +kernel
theorem tn_G : Cond.initialized "java/util/Arrays$LegacyMergeSort" ∈ TT := by decide +kernel
theorem tn_C : Cond.initialized "java/util/ComparableTimSort" ∈ TT := by decide +kernel
theorem tn_S : Cond.initialized "java/lang/System" ∈ TT := by decide +kernel
theorem tn_N : Cond.initialized "java/lang/Number" ∈ TT := by decide +kernel
theorem tn_I : Cond.initialized "java/lang/Integer" ∈ TT := by decide +kernel
theorem tcl_L13 : Cond.classLink "TimDrillLaw" 13 "TimDrill" ∈ TT := by decide +kernel
theorem tins_D : Cond.instantiable "TimDrill" 1 ∈ TT := by decide +kernel
theorem tm_L15 : Cond.methodLink "TimDrillLaw" 15 y_Di ∈ TT := by decide +kernel
theorem ti_Di : Cond.instanceMethod y_Di ∈ TT := by decide +kernel
theorem tm_D1 : Cond.methodLink "TimDrill" 1 objectInit ∈ TT := by decide +kernel
theorem ti_objectInit : Cond.instanceMethod objectInit ∈ TT := by decide +kernel
theorem tcl_D7 : Cond.classLink "TimDrill" 7 "TimDrill$Mark" ∈ TT := by decide +kernel
theorem tins_M : Cond.instantiable "TimDrill$Mark" 2 ∈ TT := by decide +kernel
theorem tm_D15 : Cond.methodLink "TimDrill" 15 y_Mi ∈ TT := by decide +kernel
theorem ti_Mi : Cond.instanceMethod y_Mi ∈ TT := by decide +kernel
theorem tm_M1 : Cond.methodLink "TimDrill$Mark" 1 objectInit ∈ TT := by decide +kernel
theorem tf_M7 : Cond.fieldLink "TimDrill$Mark" 7 "TimDrill$Mark" "weight" "I" ∈ TT := by decide +kernel
theorem tf_M13 : Cond.fieldLink "TimDrill$Mark" 13 "TimDrill$Mark" "name" "I" ∈ TT := by decide +kernel
theorem tf_D24 : Cond.fieldLink "TimDrill" 24 "TimDrill$Mark" "name" "I" ∈ TT := by decide +kernel
theorem tf_D9 : Cond.fieldLink "TimDrill" 9 "TimDrill" "row" "[LTimDrill$Mark;" ∈ TT := by decide +kernel
theorem tm_L21 : Cond.methodLink "TimDrillLaw" 21 y_Ds ∈ TT := by decide +kernel
theorem ti_Ds : Cond.instanceMethod y_Ds ∈ TT := by decide +kernel
theorem tse_Ds : Cond.selects "TimDrill" y_Ds y_Ds ∈ TT := by decide +kernel
theorem tm_D18 : Cond.methodLink "TimDrill" 18 y_As ∈ TT := by decide +kernel
theorem ts_As : Cond.static y_As ∈ TT := by decide +kernel
theorem tm_A13 : Cond.methodLink "java/util/Arrays" 13 y_Ar ∈ TT := by decide +kernel
theorem ts_Ar : Cond.static y_Ar ∈ TT := by decide +kernel
theorem tm_A122 : Cond.methodLink "java/util/Arrays" 122 y_Cs ∈ TT := by decide +kernel
theorem ts_Cs : Cond.static y_Cs ∈ TT := by decide +kernel
theorem tf_C37 : Cond.fieldLink "java/util/ComparableTimSort" 37 "java/util/ComparableTimSort" "$assertionsDisabled" "Z" ∈ TT := by decide +kernel
theorem tm_C44 : Cond.methodLink "java/util/ComparableTimSort" 44 y_Cc ∈ TT := by decide +kernel
theorem ts_Cc : Cond.static y_Cc ∈ TT := by decide +kernel
theorem tcl_C69 : Cond.classLink "java/util/ComparableTimSort" 69 "java/lang/Comparable" ∈ TT := by decide +kernel
theorem tm_C71 : Cond.methodLink "java/util/ComparableTimSort" 71 y_cmp ∈ TT := by decide +kernel
theorem tse_cmp : Cond.selects "TimDrill$Mark" y_cmp y_Mo ∈ TT := by decide +kernel
theorem ti_Mo : Cond.instanceMethod y_Mo ∈ TT := by decide +kernel
theorem tcl_M8 : Cond.classLink "TimDrill$Mark" 8 "TimDrill$Mark" ∈ TT := by decide +kernel
theorem tm_M16 : Cond.methodLink "TimDrill$Mark" 16 y_Mc ∈ TT := by decide +kernel
theorem ti_Mc : Cond.instanceMethod y_Mc ∈ TT := by decide +kernel
theorem tse_Mc : Cond.selects "TimDrill$Mark" y_Mc y_Mc ∈ TT := by decide +kernel
theorem tm_C81 : Cond.methodLink "java/util/ComparableTimSort" 81 y_Cr ∈ TT := by decide +kernel
theorem ts_Cr : Cond.static y_Cr ∈ TT := by decide +kernel
theorem tm_C48 : Cond.methodLink "java/util/ComparableTimSort" 48 y_Cb ∈ TT := by decide +kernel
theorem ts_Cb : Cond.static y_Cb ∈ TT := by decide +kernel
theorem tm_C75 : Cond.methodLink "java/util/ComparableTimSort" 75 arraycopyName ∈ TT := by decide +kernel
theorem ts_arraycopyName : Cond.static arraycopyName ∈ TT := by decide +kernel
theorem tna_arraycopyName : Cond.native arraycopyName ∈ TT := by decide +kernel
theorem tcl_C7 : Cond.classLink "java/util/ComparableTimSort" 7 "java/util/ComparableTimSort" ∈ TT := by decide +kernel
theorem tins_C : Cond.instantiable "java/util/ComparableTimSort" 8 ∈ TT := by decide +kernel
theorem tm_C52 : Cond.methodLink "java/util/ComparableTimSort" 52 y_Ci ∈ TT := by decide +kernel
theorem ti_Ci : Cond.instanceMethod y_Ci ∈ TT := by decide +kernel
theorem tm_C1 : Cond.methodLink "java/util/ComparableTimSort" 1 objectInit ∈ TT := by decide +kernel
theorem tcl_C2 : Cond.classLink "java/util/ComparableTimSort" 2 "java/lang/Object" ∈ TT := by decide +kernel
theorem tk_C29 : Cond.constant "java/util/ComparableTimSort" 29 119151 ∈ TT := by decide +kernel
theorem tf_C16 : Cond.fieldLink "java/util/ComparableTimSort" 16 "java/util/ComparableTimSort" "a" "[Ljava/lang/Object;" ∈ TT := by decide +kernel
theorem tf_C9 : Cond.fieldLink "java/util/ComparableTimSort" 9 "java/util/ComparableTimSort" "minGallop" "I" ∈ TT := by decide +kernel
theorem tf_C20 : Cond.fieldLink "java/util/ComparableTimSort" 20 "java/util/ComparableTimSort" "tmp" "[Ljava/lang/Object;" ∈ TT := by decide +kernel
theorem tf_C23 : Cond.fieldLink "java/util/ComparableTimSort" 23 "java/util/ComparableTimSort" "tmpBase" "I" ∈ TT := by decide +kernel
theorem tf_C26 : Cond.fieldLink "java/util/ComparableTimSort" 26 "java/util/ComparableTimSort" "tmpLen" "I" ∈ TT := by decide +kernel
theorem tf_C13 : Cond.fieldLink "java/util/ComparableTimSort" 13 "java/util/ComparableTimSort" "stackSize" "I" ∈ TT := by decide +kernel
theorem tf_C30 : Cond.fieldLink "java/util/ComparableTimSort" 30 "java/util/ComparableTimSort" "runBase" "[I" ∈ TT := by decide +kernel
theorem tf_C34 : Cond.fieldLink "java/util/ComparableTimSort" 34 "java/util/ComparableTimSort" "runLen" "[I" ∈ TT := by decide +kernel
theorem tm_C55 : Cond.methodLink "java/util/ComparableTimSort" 55 y_Cm ∈ TT := by decide +kernel
theorem ts_Cm : Cond.static y_Cm ∈ TT := by decide +kernel
theorem tm_C59 : Cond.methodLink "java/util/ComparableTimSort" 59 y_Cp ∈ TT := by decide +kernel
theorem ti_Cp : Cond.instanceMethod y_Cp ∈ TT := by decide +kernel
theorem tm_C63 : Cond.methodLink "java/util/ComparableTimSort" 63 y_Cl ∈ TT := by decide +kernel
theorem ti_Cl : Cond.instanceMethod y_Cl ∈ TT := by decide +kernel
theorem tm_C85 : Cond.methodLink "java/util/ComparableTimSort" 85 y_Ca ∈ TT := by decide +kernel
theorem ti_Ca : Cond.instanceMethod y_Ca ∈ TT := by decide +kernel
theorem tm_C89 : Cond.methodLink "java/util/ComparableTimSort" 89 y_Gr ∈ TT := by decide +kernel
theorem ts_Gr : Cond.static y_Gr ∈ TT := by decide +kernel
theorem tm_C93 : Cond.methodLink "java/util/ComparableTimSort" 93 y_Gl ∈ TT := by decide +kernel
theorem ts_Gl : Cond.static y_Gl ∈ TT := by decide +kernel
theorem tm_C96 : Cond.methodLink "java/util/ComparableTimSort" 96 y_Ml ∈ TT := by decide +kernel
theorem ti_Ml : Cond.instanceMethod y_Ml ∈ TT := by decide +kernel
theorem tm_C103 : Cond.methodLink "java/util/ComparableTimSort" 103 y_Ce ∈ TT := by decide +kernel
theorem ti_Ce : Cond.instanceMethod y_Ce ∈ TT := by decide +kernel
theorem tm_C114 : Cond.methodLink "java/util/ComparableTimSort" 114 y_Nz ∈ TT := by decide +kernel
theorem ts_Nz : Cond.static y_Nz ∈ TT := by decide +kernel
theorem tk_I264 : Cond.constant "java/lang/Integer" 264 65536 ∈ TT := by decide +kernel
theorem tm_C119 : Cond.methodLink "java/util/ComparableTimSort" 119 y_Mn ∈ TT := by decide +kernel
theorem ts_Mn : Cond.static y_Mn ∈ TT := by decide +kernel
theorem tm_C100 : Cond.methodLink "java/util/ComparableTimSort" 100 y_Mh ∈ TT := by decide +kernel
theorem ti_Mh : Cond.instanceMethod y_Mh ∈ TT := by decide +kernel
theorem tm_C66 : Cond.methodLink "java/util/ComparableTimSort" 66 y_Cf ∈ TT := by decide +kernel
theorem ti_Cf : Cond.instanceMethod y_Cf ∈ TT := by decide +kernel
theorem tm_L35 : Cond.methodLink "TimDrillLaw" 35 y_Dt ∈ TT := by decide +kernel
theorem ti_Dt : Cond.instanceMethod y_Dt ∈ TT := by decide +kernel
theorem tse_Dt : Cond.selects "TimDrill" y_Dt y_Dt ∈ TT := by decide +kernel
theorem tm_L31 : Cond.methodLink "TimDrillLaw" 31 y_Dn ∈ TT := by decide +kernel
theorem ti_Dn : Cond.instanceMethod y_Dn ∈ TT := by decide +kernel
theorem tse_Dn : Cond.selects "TimDrill" y_Dn y_Dn ∈ TT := by decide +kernel
theorem tm_L25 : Cond.methodLink "TimDrillLaw" 25 y_Lo ∈ TT := by decide +kernel
theorem ts_Lo : Cond.static y_Lo ∈ TT := by decide +kernel
theorem tm_L7 : Cond.methodLink "TimDrillLaw" 7 y_Mn ∈ TT := by decide +kernel
theorem tm_L18 : Cond.methodLink "TimDrillLaw" 18 y_Fm ∈ TT := by decide +kernel
theorem ts_Fm : Cond.static y_Fm ∈ TT := by decide +kernel
theorem tse_Cp : Cond.selects "java/util/ComparableTimSort" y_Cp y_Cp ∈ TT := by decide +kernel
theorem tse_Cl : Cond.selects "java/util/ComparableTimSort" y_Cl y_Cl ∈ TT := by decide +kernel
theorem tse_Cf : Cond.selects "java/util/ComparableTimSort" y_Cf y_Cf ∈ TT := by decide +kernel
theorem tse_Ca : Cond.selects "java/util/ComparableTimSort" y_Ca y_Ca ∈ TT := by decide +kernel
theorem tse_Ml : Cond.selects "java/util/ComparableTimSort" y_Ml y_Ml ∈ TT := by decide +kernel
theorem tse_Mh : Cond.selects "java/util/ComparableTimSort" y_Mh y_Mh ∈ TT := by decide +kernel
theorem tse_Ce : Cond.selects "java/util/ComparableTimSort" y_Ce y_Ce ∈ TT := by decide +kernel
theorem tar_int : Cond.arrayClass .int ∈ TT := by decide +kernel
theorem tw_asrt : Cond.fieldLink "java/util/ComparableTimSort" 37 "java/util/ComparableTimSort" "$assertionsDisabled" "Z" ∈ TT := tf_C37
theorem tobj : Cond.code objectInit ⟨#[0xb1]⟩ 1 none ∈ TT := List.mem_filter.mpr ⟨List.mem_append_right _ (List.mem_of_getElem? (i := 17) rfl), rfl⟩
end
section
/-! the marks: constructor, compareTo -/
set_option maxRecDepth 100000
def cmpI (a b : Int) : Int := if a < b then -1 else if a = b then 0 else 1
theorem cmpI_lt {a b : Int} : cmpI a b < 0 ↔ a < b := by unfold cmpI; split <;> (try split) <;> omega
theorem cmpI_gt {a b : Int} : 0 < cmpI a b ↔ b < a := by unfold cmpI; split <;> (try split) <;> omega
theorem cmpI_le {a b : Int} : cmpI a b ≤ 0 ↔ a ≤ b := by unfold cmpI; split <;> (try split) <;> omega
theorem cmpI_ge {a b : Int} : 0 ≤ cmpI a b ↔ b ≤ a := by unfold cmpI; split <;> (try split) <;> omega
theorem cmpI_in {a b : Int} : inR (cmpI a b) := by unfold cmpI inR; split <;> (try split) <;> omega
theorem cmpI_eq {a b : Int} : cmpI a b = 0 ↔ a = b := by unfold cmpI; split <;> (try split) <;> omega
theorem d_Mi_0 : decode b_Mi 0 = .ok (.aload_n 0, 1) := by decide +kernel
theorem d_Mi_1 : decode b_Mi 1 = .ok (.invokespecial 1, 3) := by decide +kernel
theorem d_Mi_4 : decode b_Mi 4 = .ok (.aload_n 0, 1) := by decide +kernel
theorem d_Mi_5 : decode b_Mi 5 = .ok (.iload_n 1, 1) := by decide +kernel
theorem d_Mi_6 : decode b_Mi 6 = .ok (.putfield 7, 3) := by decide +kernel
theorem d_Mi_9 : decode b_Mi 9 = .ok (.aload_n 0, 1) := by decide +kernel
theorem d_Mi_10 : decode b_Mi 10 = .ok (.iload_n 2, 1) := by decide +kernel
theorem d_Mi_11 : decode b_Mi 11 = .ok (.putfield 13, 3) := by decide +kernel
theorem d_Mi_14 : decode b_Mi 14 = .ok (.return_, 1) := by decide +kernel
theorem d_Mc_0 : decode b_Mc 0 = .ok (.aload_n 0, 1) := by decide +kernel
theorem d_Mc_1 : decode b_Mc 1 = .ok (.getfield 7, 3) := by decide +kernel
theorem d_Mc_4 : decode b_Mc 4 = .ok (.aload_n 1, 1) := by decide +kernel
theorem d_Mc_5 : decode b_Mc 5 = .ok (.getfield 7, 3) := by decide +kernel
theorem d_Mc_8 : decode b_Mc 8 = .ok (.if_icmp .ge 7, 3) := by decide +kernel
theorem d_Mc_11 : decode b_Mc 11 = .ok (.iconst (-1), 1) := by decide +kernel
theorem d_Mc_12 : decode b_Mc 12 = .ok (.goto 19, 3) := by decide +kernel
theorem d_Mc_15 : decode b_Mc 15 = .ok (.aload_n 0, 1) := by decide +kernel
theorem d_Mc_16 : decode b_Mc 16 = .ok (.getfield 7, 3) := by decide +kernel
theorem d_Mc_19 : decode b_Mc 19 = .ok (.aload_n 1, 1) := by decide +kernel
theorem d_Mc_20 : decode b_Mc 20 = .ok (.getfield 7, 3) := by decide +kernel
theorem d_Mc_23 : decode b_Mc 23 = .ok (.if_icmp .ne 7, 3) := by decide +kernel
theorem d_Mc_26 : decode b_Mc 26 = .ok (.iconst 0, 1) := by decide +kernel
theorem d_Mc_27 : decode b_Mc 27 = .ok (.goto 4, 3) := by decide +kernel
theorem d_Mc_30 : decode b_Mc 30 = .ok (.iconst 1, 1) := by decide +kernel
theorem d_Mc_31 : decode b_Mc 31 = .ok (.ireturn, 1) := by decide +kernel
theorem d_Mo_0 : decode b_Mo 0 = .ok (.aload_n 0, 1) := by decide +kernel
theorem d_Mo_1 : decode b_Mo 1 = .ok (.aload_n 1, 1) := by decide +kernel
theorem d_Mo_2 : decode b_Mo 2 = .ok (.checkcast 8, 3) := by decide +kernel
theorem d_Mo_5 : decode b_Mo 5 = .ok (.invokevirtual 16, 3) := by decide +kernel
theorem d_Mo_8 : decode b_Mo 8 = .ok (.ireturn, 1) := by decide +kernel
abbrev rm_Mi : Room := { frames := 1, cells := 0, slots := 0, locals := 12 }
set_option maxHeartbeats 4000000 in
theorem ct_Mi (l : Launch) (K : KD) (o : Nat) (w nm : Int32) : CT l K y_Mi c_Mi rm_Mi [.ref o, .int w, .int nm] (fun H => va_at K.1 classes (o, .inr (0, [.int 0, .int 0])) H ∧ N0 K ≤ o) (fun H v H' => v = none ∧ MkAt K o w nm H' ∧ H'.size = H.size ∧ ∀ q, q ≠ o → H'[q]? = H[q]?) := by
  refine z_met (by decide) (Nat.le_of_ble_eq_true rfl) ?_
  intro p e s m below meth c ls S hr hlk hnm hG hP hl
  obtain ⟨hO, hN⟩ := hP
  have hl : lv_has ls 3 [(0, .ref o), (1, .int w), (2, .int nm)] := hl
  refine z_aload_n S rfl (lv_at hl 0 rfl) d_Mi_0 ?_
  refine W.objInit S.1 S.2.1 S.2.2.2.1 (wt S.2.2.2.2 tm_M1) (wt S.2.2.2.2 ti_objectInit) (wt S.2.2.2.2 tobj) rfl (by rw [S.2.2.1]; exact hl.1) rfl d_Mi_1 (Nat.le_of_ble_eq_true rfl) (Nat.le_of_ble_eq_true rfl) ?_
  refine W.eq (g2 := F0 m 4 ls []) rfl ?_
  refine z_aload_n S rfl (lv_at hl 0 rfl) d_Mi_4 ?_
  refine z_iload_n S rfl (lv_at hl 1 rfl) d_Mi_5 ?_
  refine z_putF (C := "TimDrill$Mark") (T := F_Mark) (N := 2) (ci := 0) S tin_Mark t_Mark tok_Mark tnm_Mark hG hO LO.nil hN rfl 0 (by decide) tf_M7 rfl rfl hnm rfl rfl rfl (Nat.le_of_ble_eq_true rfl) d_Mi_6 (fun H1 locs hO1 z1 o1 hlo => ?_)
  refine z_aload_n S rfl (lv_at hl 0 rfl) d_Mi_9 ?_
  refine z_iload_n S rfl (lv_at hl 2 rfl) d_Mi_10 ?_
  refine z_putF (C := "TimDrill$Mark") (T := F_Mark) (N := 2) (ci := 0) S tin_Mark t_Mark tok_Mark tnm_Mark hG hO1 hlo hN rfl 1 (by decide) tf_M13 rfl rfl hnm rfl rfl rfl (Nat.le_of_ble_eq_true rfl) d_Mi_11 (fun H2 locs hO2 z2 o2 hlo => ?_)
  exact z_vret S hr hlk hlo ⟨rfl, hO2, z2.trans z1, fun q hq => (o2 q hq).trans (o1 q hq)⟩ d_Mi_14
abbrev rm_Mc : Room := { frames := 0, cells := 0, slots := 0, locals := 0 }
set_option maxHeartbeats 4000000 in
theorem ct_Mc (l : Launch) (K : KD) (x y : Nat) (wx wy nx ny : Int32) : CT l K y_Mc c_Mc rm_Mc [.ref x, .ref y] (fun H => MkAt K x wx nx H ∧ MkAt K y wy ny H) (fun H v H' => v = some (.int (zI (cmpI wx.toInt wy.toInt))) ∧ H' = H) := by
  refine z_met (by decide) (Nat.le_of_ble_eq_true rfl) ?_
  intro p e s m below meth c ls S hr hlk hnm hG hP hl
  obtain ⟨hX, hY⟩ := hP
  have hl : lv_has ls 2 [(0, .ref x), (1, .ref y)] := hl
  refine z_aload_n S rfl (lv_at hl 0 rfl) d_Mc_0 ?_
  refine z_get (C := "TimDrill$Mark") (T := F_Mark) (N := 2) (ci := 0) S tin_Mark hG hX rfl 0 (by decide) tf_M7 rfl rfl d_Mc_1 ?_
  refine z_aload_n S rfl (lv_at hl 1 rfl) d_Mc_4 ?_
  refine z_get (C := "TimDrill$Mark") (T := F_Mark) (N := 2) (ci := 0) S tin_Mark hG hY rfl 0 (by decide) tf_M7 rfl rfl d_Mc_5 ?_
  refine lv_icmp_ge (tgt := 15) S.1 S.2.1 d_Mc_8 (by decide) (fun h => ?_) (fun h => ?_)
  skip
  · refine z_aload_n S rfl (lv_at hl 0 rfl) d_Mc_15 ?_
    refine z_get (C := "TimDrill$Mark") (T := F_Mark) (N := 2) (ci := 0) S tin_Mark hG hX rfl 0 (by decide) tf_M7 rfl rfl d_Mc_16 ?_
    refine z_aload_n S rfl (lv_at hl 1 rfl) d_Mc_19 ?_
    refine z_get (C := "TimDrill$Mark") (T := F_Mark) (N := 2) (ci := 0) S tin_Mark hG hY rfl 0 (by decide) tf_M7 rfl rfl d_Mc_20 ?_
    refine lv_icmp_ne (tgt := 30) S.1 S.2.1 d_Mc_23 (by decide) (fun h2 => ?_) (fun h2 => ?_)
    skip
    · refine z_iconst S d_Mc_30 ?_
      have e : cmpI wx.toInt wy.toInt = 1 := by
        rw [Int32.le_iff_toInt_le] at h
        rw [← Int32.toInt_inj] at h2
        unfold cmpI
        rw [if_neg (by omega), if_neg h2]
      exact z_iret S hr hlk LO.nil ⟨by rw [e], rfl⟩ d_Mc_31
    · refine z_iconst S d_Mc_26 ?_
      refine z_goto (tgt := 31) S (by decide) d_Mc_27 ?_
      have e : cmpI wx.toInt wy.toInt = 0 := by
        subst h2
        unfold cmpI
        simp
      exact z_iret S hr hlk LO.nil ⟨by rw [e], rfl⟩ d_Mc_31
  · refine z_iconst S d_Mc_11 ?_
    refine z_goto (tgt := 31) S (by decide) d_Mc_12 ?_
    have e : cmpI wx.toInt wy.toInt = -1 := by
      rw [Int32.le_iff_toInt_le] at h
      unfold cmpI
      rw [if_pos (by omega)]
    exact z_iret S hr hlk LO.nil ⟨by rw [e], rfl⟩ d_Mc_31
abbrev rm_Mo : Room := { frames := 1, cells := 0, slots := 0, locals := 21 }
set_option maxHeartbeats 4000000 in
theorem ct_Mo (l : Launch) (K : KD) (x y : Nat) (wx wy nx ny : Int32) : CT l K y_Mo c_Mo rm_Mo [.ref x, .ref y] (fun H => MkAt K x wx nx H ∧ MkAt K y wy ny H) (fun H v H' => v = some (.int (zI (cmpI wx.toInt wy.toInt))) ∧ H' = H) := by
  refine z_met (by decide) (Nat.le_of_ble_eq_true rfl) ?_
  intro p e s m below meth c ls S hr hlk hnm hG hP hl
  obtain ⟨hX, hY⟩ := hP
  have hl : lv_has ls 2 [(0, .ref x), (1, .ref y)] := hl
  refine z_aload_n S rfl (lv_at hl 0 rfl) d_Mo_0 ?_
  refine z_aload_n S rfl (lv_at hl 1 rfl) d_Mo_1 ?_
  refine va_castS (nm := "TimDrill$Mark") S.1 S.2.1 S.2.2.2.1 (wt S.2.2.2.2 tcl_M8) (hG.1.1.1 0 _ rfl).2 (hY.recv hG) d_Mo_2 ?_
  refine z_callV (C := "TimDrill$Mark") (As := [.ref y]) (n := 1) S (ct_Mc l K x y wx wy nx ny) tc_Mc tm_M16 ti_Mc tse_Mc tn_M (by decide) (by decide) rfl hG Keep.rf LO.nil (hX.recv hG) ⟨hX, hY⟩ hl rfl (by decide) (by decide) d_Mo_5 (fun v H1 locs hp hlo => ?_)
  obtain ⟨rfl, rfl⟩ := hp
  exact z_iret S hr hlk hlo ⟨rfl, rfl⟩ d_Mo_8
end
section
/-! lists of an array's stretch; stable sorting as: sorted, and the same order within each key -/
section PU
variable {α : Type}
def sg (f : Nat → α) (i n : Nat) : List α := (List.range' i n).map f
theorem sg_0 (f : Nat → α) (i : Nat) : sg f i 0 = [] := rfl
theorem sg_1 (f : Nat → α) (i : Nat) : sg f i 1 = [f i] := rfl
theorem sg_cons (f : Nat → α) (i n : Nat) : sg f i (n + 1) = f i :: sg f (i + 1) n := by simp [sg, List.range'_succ]
theorem sg_app (f : Nat → α) (i m n : Nat) : sg f i (m + n) = sg f i m ++ sg f (i + m) n := by
  unfold sg
  rw [← List.map_append, List.range'_append_1]
theorem sg_snoc (f : Nat → α) (i n : Nat) : sg f i (n + 1) = sg f i n ++ [f (i + n)] := by rw [sg_app, sg_1]
theorem sg_len (f : Nat → α) (i n : Nat) : (sg f i n).length = n := by simp [sg]
theorem sg_mem {f : Nat → α} {i n : Nat} {x : α} : x ∈ sg f i n ↔ ∃ j, i ≤ j ∧ j < i + n ∧ f j = x := by
  unfold sg
  rw [List.mem_map]
  constructor
  · rintro ⟨j, hj, e⟩
    rw [List.mem_range'_1] at hj
    exact ⟨j, hj.1, hj.2, e⟩
  · rintro ⟨j, h1, h2, e⟩
    exact ⟨j, by rw [List.mem_range'_1]; exact ⟨h1, h2⟩, e⟩
theorem sg_congr {f g : Nat → α} {i j n : Nat} (h : ∀ x, x < n → f (i + x) = g (j + x)) : sg f i n = sg g j n := by
  apply List.ext_getElem?
  intro x
  unfold sg
  simp only [List.getElem?_map]
  by_cases hx : x < n
  · rw [List.getElem?_range' (by omega), List.getElem?_range' (by omega)]
    simp
    exact h x hx
  · rw [List.getElem?_eq_none (by simp; omega), List.getElem?_eq_none (by simp; omega)]; rfl
theorem sg_same {f g : Nat → α} {i n : Nat} (h : ∀ x, i ≤ x → x < i + n → f x = g x) : sg f i n = sg g i n := sg_congr (fun x hx => h (i + x) (by omega) (by omega))
theorem sg_get {f : Nat → α} {i n j : Nat} (h : j < n) : (sg f i n)[j]? = some (f (i + j)) := by
  unfold sg
  rw [List.getElem?_map, List.getElem?_range' (by omega)]
  simp
theorem sg_inj {f g : Nat → α} {i j n : Nat} (h : sg f i n = sg g j n) (x : Nat) (hx : x < n) : f (i + x) = g (j + x) := by
  have h1 := sg_get (f := f) (i := i) hx
  rw [h, sg_get hx] at h1
  exact (Option.some.inj h1).symm
theorem sg_map {β : Type} (φ : α → β) (f : Nat → α) (i n : Nat) : (sg f i n).map φ = sg (fun j => φ (f j)) i n := by simp [sg]
/-- the same order within each key -/
def Eqv (k : α → Int) (l l' : List α) : Prop := ∀ c : Int, l.filter (fun x => decide (k x = c)) = l'.filter (fun x => decide (k x = c))
theorem Eqv.rf {k : α → Int} {l : List α} : Eqv k l l := fun _ => rfl
theorem Eqv.of {k : α → Int} {l l' : List α} (h : l = l') : Eqv k l l' := h ▸ Eqv.rf
theorem Eqv.sy {k : α → Int} {l l' : List α} (h : Eqv k l l') : Eqv k l' l := fun c => (h c).symm
theorem Eqv.tr {k : α → Int} {l l' l2 : List α} (h : Eqv k l l') (h2 : Eqv k l' l2) : Eqv k l l2 := fun c => (h c).trans (h2 c)
theorem Eqv.app {k : α → Int} {l l' r r' : List α} (h : Eqv k l l') (h2 : Eqv k r r') : Eqv k (l ++ r) (l' ++ r') := fun c => by
  rw [List.filter_append, List.filter_append, h c, h2 c]
theorem Eqv.mem {k : α → Int} {l l' : List α} (h : Eqv k l l') {x : α} (hx : x ∈ l) : x ∈ l' := by
  have h1 : x ∈ l.filter (fun y => decide (k y = k x)) := List.mem_filter.mpr ⟨hx, by simp⟩
  rw [h (k x)] at h1
  exact (List.mem_filter.mp h1).1
theorem Eqv.comm {k : α → Int} {l r : List α} (h : ∀ x ∈ l, ∀ y ∈ r, k x ≠ k y) : Eqv k (l ++ r) (r ++ l) := fun c => by
  rw [List.filter_append, List.filter_append]
  by_cases hl : l.filter (fun x => decide (k x = c)) = []
  · rw [hl]; simp
  · have hr : r.filter (fun x => decide (k x = c)) = [] := by
      rw [List.filter_eq_nil_iff]
      intro y hy
      obtain ⟨x, hx⟩ := List.exists_mem_of_ne_nil _ hl
      have hx' := List.mem_filter.mp hx
      have e : k x = c := by simpa using hx'.2
      have := h x hx'.1 y hy
      simp
      intro e2
      exact this (e.trans e2.symm)
    rw [hr]; simp
theorem Eqv.map {β : Type} {k : α → Int} {k2 : β → Int} (φ : α → β) (hφ : ∀ x, k2 (φ x) = k x) {l l' : List α} (h : Eqv k l l') : Eqv k2 (l.map φ) (l'.map φ) := fun c => by
  rw [List.filter_map, List.filter_map]
  have e : ((fun x => decide (k2 x = c)) ∘ φ) = (fun x => decide (k x = c)) := by
    funext x
    simp [hφ]
  rw [e, h c]
abbrev Up (k : α → Int) (l : List α) : Prop := l.Pairwise (fun x y => k x ≤ k y)
theorem Eqv.uniq {k : α → Int} : ∀ {l l' : List α}, Up k l → Up k l' → Eqv k l l' → l = l'
  | [], l', _, _, h => by
    cases l' with
    | nil => rfl
    | cons y t => exact absurd (h.sy.mem List.mem_cons_self) (by simp)
  | x :: t, l', h1, h2, h => by
    cases l' with
    | nil => exact absurd (h.mem List.mem_cons_self) (by simp)
    | cons y t' =>
      have ex : k x = k y := by
        have a1 : k y ≤ k x := by
          rcases List.mem_cons.mp (h.mem (List.mem_cons_self (a := x))) with e | e
          · rw [e]; omega
          · exact (List.pairwise_cons.mp h2).1 x e
        have a2 : k x ≤ k y := by
          rcases List.mem_cons.mp (h.sy.mem (List.mem_cons_self (a := y))) with e | e
          · rw [e]; omega
          · exact (List.pairwise_cons.mp h1).1 y e
        omega
      have hc := h (k x)
      rw [List.filter_cons_of_pos (by simp), List.filter_cons_of_pos (by simp [ex])] at hc
      have exy : x = y := (List.cons.inj hc).1
      subst exy
      have ht : Eqv k t t' := fun c => by
        have := h c
        by_cases e : k x = c
        · rw [List.filter_cons_of_pos (by simp [e]), List.filter_cons_of_pos (by simp [e])] at this
          exact (List.cons.inj this).2
        · rw [List.filter_cons_of_neg (by simp [e]), List.filter_cons_of_neg (by simp [e])] at this
          exact this
      rw [Eqv.uniq (List.pairwise_cons.mp h1).2 (List.pairwise_cons.mp h2).2 ht]
/-- sorted, by places -/
def Srt (k : α → Int) (f : Nat → α) (i n : Nat) : Prop := ∀ a b, i ≤ a → a < b → b < i + n → k (f a) ≤ k (f b)
theorem Srt.up {k : α → Int} {f : Nat → α} : ∀ {n i : Nat}, Srt k f i n → Up k (sg f i n)
  | 0, _, _ => by rw [sg_0]; exact List.Pairwise.nil
  | n + 1, i, h => by
    rw [sg_cons]
    refine List.pairwise_cons.mpr ⟨fun y hy => ?_, Srt.up (fun a b h1 h2 h3 => h a b (by omega) h2 (by omega))⟩
    obtain ⟨j, h1, h2, rfl⟩ := sg_mem.mp hy
    exact h i j (by omega) (by omega) (by omega)
theorem Srt.of_up {k : α → Int} {f : Nat → α} {n i : Nat} (h : Up k (sg f i n)) : Srt k f i n := by
  intro a b h1 h2 h3
  rw [Up, List.pairwise_iff_getElem] at h
  have := h (a - i) (b - i) (by rw [sg_len]; omega) (by rw [sg_len]; omega) (by omega)
  have e1 : (sg f i n)[a - i]? = some (f a) := by rw [sg_get (by omega)]; congr 2; omega
  have e2 : (sg f i n)[b - i]? = some (f b) := by rw [sg_get (by omega)]; congr 2; omega
  rw [List.getElem?_eq_getElem (by rw [sg_len]; omega)] at e1 e2
  rw [Option.some.inj e1, Option.some.inj e2] at this
  exact this
theorem Srt.sub {k : α → Int} {f : Nat → α} {i n i' n' : Nat} (h : Srt k f i n) (h1 : i ≤ i') (h2 : i' + n' ≤ i + n) : Srt k f i' n' := fun a b x y z => h a b (by omega) y (by omega)
theorem Srt.congr {k : α → Int} {f g : Nat → α} {i n : Nat} (h : Srt k f i n) (e : ∀ x, i ≤ x → x < i + n → g x = f x) : Srt k g i n := fun a b x y z => by
  rw [e a x (by omega), e b (by omega) z]
  exact h a b x y z
theorem Srt.small {k : α → Int} {f : Nat → α} {i n : Nat} (h : n ≤ 1) : Srt k f i n := fun a b x y z => by omega
theorem Srt.le {k : α → Int} {f : Nat → α} {i n a b : Nat} (h : Srt k f i n) (h1 : i ≤ a) (h2 : a ≤ b) (h3 : b < i + n) : k (f a) ≤ k (f b) := by
  by_cases e : a = b
  · subst e; omega
  · exact h a b h1 (by omega) h3
/-- two sorted stretches side by side -/
theorem Srt.join {k : α → Int} {f : Nat → α} {i m n : Nat} (h1 : Srt k f i m) (h2 : Srt k f (i + m) n) (h : ∀ a b, i ≤ a → a < i + m → i + m ≤ b → b < i + m + n → k (f a) ≤ k (f b)) : Srt k f i (m + n) := by
  intro a b x y z
  by_cases ha : b < i + m
  · exact h1 a b x y ha
  · by_cases hb : a < i + m
    · exact h a b x hb (by omega) (by omega)
    · exact h2 a b (by omega) y (by omega)
end PU
end
section
/-! the comparison as one row; pools of marks -/
set_option maxRecDepth 100000
/-- the marks at the addresses of M: weights wt, names nm -/
def MS (K : KD) (M : Nat → Prop) (wt nm : Nat → Int32) (H : Heap) : Prop := ∀ y, M y → MkAt K y (wt y) (nm y) H
theorem MS.kept {K : KD} {M : Nat → Prop} {wt nm : Nat → Int32} {H H1 : Heap} (h : MS K M wt nm H) (hq : ∀ y, M y → H1[y]? = H[y]?) : MS K M wt nm H1 := fun y hy => (h y hy).kept (hq y hy)
theorem MS.set {K : KD} {M : Nat → Prop} {wt nm : Nat → Int32} {H : Heap} {a : Nat} {x : Cell} (h : MS K M wt nm H) (ha : ¬ M a) : MS K M wt nm (H.setIfInBounds a x) := h.kept (fun y hy => set_off (fun e => ha (e ▸ hy)))
def kw (wt : Nat → Int32) (o : Option Nat) : Int := match o with
  | some y => (wt y).toInt
  | none => 0
theorem kw_some {wt : Nat → Int32} {o : Option Nat} {y : Nat} (h : o = some y) : kw wt o = (wt y).toInt := by subst h; rfl
/-- every place from i on, n of them, holds a mark -/
def Full (M : Nat → Prop) (f : Nat → Option Nat) (i n : Nat) : Prop := ∀ j, i ≤ j → j < i + n → ∃ y, f j = some y ∧ M y
theorem Full.sub {M : Nat → Prop} {f : Nat → Option Nat} {i n i' n' : Nat} (h : Full M f i n) (h1 : i ≤ i') (h2 : i' + n' ≤ i + n) : Full M f i' n' := fun j x y => h j (by omega) (by omega)
theorem Full.up {M : Nat → Prop} {f : Nat → Option Nat} {i n j y : Nat} (h : Full M f i n) (hy : M y) : Full M (va_up f j (some y)) i n := fun q x z => by
  by_cases e : q = j
  · subst e; exact ⟨y, va_up_self f q (some y), hy⟩
  · rw [va_up_ne f (some y) e]; exact h q x z
theorem Full.cpy {M : Nat → Prop} {f g : Nat → Option Nat} {i n sp dp k : Nat} (h : Full M g i n) (hf : Full M f sp k) : Full M (va_cpy f g sp dp k) i n := fun q x z => by
  by_cases e : dp ≤ q ∧ q < dp + k
  · rw [pk_cpy_in e.1 e.2]; exact hf _ (by omega) (by omega)
  · rw [pk_cpy_out (by omega)]; exact h q x z
section ZF
variable {p : Program} {l : Launch} {e : Env} {R : Room} {s : State} {m : MethodId} {args : Array Value} {below : List Frame} {meth : Method} {c : Code} {H : Heap} {locs : List Loc} {cells slots : Nat} {Q : State → Prop}
variable {cc : ByteArray} {pc nL : Nat} {ls : Array Slot} {rest : List Value} {c0 : Cond} {K : KD}
theorem z_cmp {x y : Nat} {wx wy nx ny : Int32} {lv : List (Nat × Value)} (S : CallFix p m c cc nL s args (c0 :: TT) "java/util/ComparableTimSort") (hG : GN K s) (hk : Keep (N0 K) s.heap H) (hlo : LO (N0 K) locs) (hx : MkAt K x wx nx H) (hy : MkAt K y wy ny H) (hR : 2 ≤ R.frames ∧ 42 ≤ R.locals) (hcs : cells ≤ R.cells ∧ slots ≤ R.slots) (hls : lv_has ls nL lv) (hW : (rest.map fun v => v.category).sum ≤ 8) (hd : decode cc pc = .ok (.invokeinterface 71 2, 5))
    (kk : ∀ locs' : List Loc, LO (N0 K) locs' → W p l e R s m args below meth c H locs' cells slots Q (F0 m (pc + 5) ls (.int (zI (cmpI wx.toInt wy.toInt)) :: rest))) : W p l e R s m args below meth c H locs cells slots Q (F0 m pc ls (.ref y :: .ref x :: rest)) := by
  refine z_run (n := N0 K) (mc := 0) (ms := 0) (k := 5) (a := #[.ref x, .ref y]) (rest := rest) rfl (va_runF (g := F0 m pc ls (.ref y :: .ref x :: rest)) (As := [.ref y]) (C := "TimDrill$Mark") (n := 1) (hG.1.1.1 0 _ rfl).2 S (ct_Mo l K x y wx wy nx ny)
    (va_cwF 1 S.2.2.2.2 (gd_in (pre := [.methodLink "java/util/ComparableTimSort" 71 y_cmp, .selects "TimDrill$Mark" y_cmp y_Mo, .instanceMethod y_Mo, .initialized y_Mo.cls]) tc_Mo (by
      intro w hw
      rcases List.mem_cons.mp hw with h | hw
      · exact h ▸ tm_C71
      rcases List.mem_cons.mp hw with h | hw
      · exact h ▸ tse_cmp
      rcases List.mem_cons.mp hw with h | hw
      · exact h ▸ ti_Mo
      rcases List.mem_cons.mp hw with h | hw
      · exact h ▸ tn_M
      cases hw)) rfl rfl rfl hG.1.2.1 (by decide) ⟨by show 1 + 1 ≤ _; exact hR.1, by show 8 + (2 + 11) + 21 ≤ _; exact hR.2⟩)
    ⟨PH.blind, hx.recv hG, fun U hU hW => ⟨rfl, hG.warm hk hU hW, by rw [hU]; exact ⟨hx, hy⟩⟩⟩ rfl rfl hls.1 rfl (lv_room hW) hd hcs) hlo ?_
  intro v H' locs' hp hl'
  obtain ⟨rfl, rfl⟩ := hp
  exact kk locs' hl'
end ZF
end
section
/-! array rows whose places are natural numbers -/
section ZN
variable {p : Program} {l : Launch} {e : Env} {R : Room} {s : State} {m : MethodId} {args : Array Value} {below : List Frame} {meth : Method} {c : Code} {H : Heap} {locs : List Loc} {cells slots : Nat} {Q : State → Prop}
variable {cc : ByteArray} {pc nL : Nat} {ls : Array Slot} {rest : List Value} {c0 : Cond} {own : String} {K : KD} {a : Nat} {cA : ClassId} {n : Nat}
theorem n_aald {C : String} {f : Nat → Option Nat} {i : Int} (j : Nat) (S : CallFix p m c cc nL s args (c0 :: TT) own) (hA : AK s cA (.object C)) (ha : H[a]? = some (RA cA n f)) (hn : n < 2147483648) (hi : i = (j : Int)) (h1 : j < n) {y : Nat} (hy : f j = some y) (hd : decode cc pc = .ok (.aaload, 1))
    (kk : W p l e R s m args below meth c H locs cells slots Q (F0 m (pc + 1) ls (.ref y :: rest))) : W p l e R s m args below meth c H locs cells slots Q (F0 m pc ls (.int (zI i) :: .ref a :: rest)) := by
  subst hi
  exact z_aald S hA ha (by omega) (by omega) hn (by rw [Int.toNat_natCast]; exact hy) hd kk
theorem n_aast {E : String} {f : Nat → Option Nat} {i : Int} (j : Nat) (S : CallFix p m c cc nL s args (c0 :: TT) own) (hA : AK s cA (.object E)) (ha : H[a]? = some (RA cA n f)) (hlo : LO (N0 K) locs) (hN : N0 K ≤ a) (hn : n < 2147483648) {v : Nat} (hv : va_Any E s H v) (hi : i = (j : Int)) (h1 : j < n) (hd : decode cc pc = .ok (.aastore, 1))
    (kk : ∀ locs' : List Loc, LO (N0 K) locs' → W p l e R s m args below meth c (H.setIfInBounds a (RA cA n (va_up f j (some v)))) locs' cells slots Q (F0 m (pc + 1) ls rest)) : W p l e R s m args below meth c H locs cells slots Q (F0 m pc ls (.ref v :: .int (zI i) :: .ref a :: rest)) := by
  subst hi
  refine z_aast S hA ha hlo hN hv (by omega) (by omega) hn hd ?_
  rw [Int.toNat_natCast]
  exact kk
theorem n_iald {f : Nat → Int32} {i : Int} (j : Nat) (S : CallFix p m c cc nL s args (c0 :: TT) own) (hA : AK s cA .int) (ha : H[a]? = some (IA cA n f)) (hn : n < 2147483648) (hi : i = (j : Int)) (h1 : j < n) {y : Int32} (hy : f j = y) (hd : decode cc pc = .ok (.iaload, 1))
    (kk : W p l e R s m args below meth c H locs cells slots Q (F0 m (pc + 1) ls (.int y :: rest))) : W p l e R s m args below meth c H locs cells slots Q (F0 m pc ls (.int (zI i) :: .ref a :: rest)) := by
  subst hi
  exact z_iald S hA ha (by omega) (by omega) hn (by rw [Int.toNat_natCast]; exact hy) hd kk
theorem n_iast {f : Nat → Int32} {i : Int} (j : Nat) (S : CallFix p m c cc nL s args (c0 :: TT) own) (hA : AK s cA .int) (ha : H[a]? = some (IA cA n f)) (hlo : LO (N0 K) locs) (hN : N0 K ≤ a) (hn : n < 2147483648) {v : Int32} (hi : i = (j : Int)) (h1 : j < n) (hd : decode cc pc = .ok (.iastore, 1))
    (kk : ∀ locs' : List Loc, LO (N0 K) locs' → W p l e R s m args below meth c (H.setIfInBounds a (IA cA n (va_up f j v))) locs' cells slots Q (F0 m (pc + 1) ls rest)) : W p l e R s m args below meth c H locs cells slots Q (F0 m pc ls (.int v :: .int (zI i) :: .ref a :: rest)) := by
  subst hi
  refine z_iast S hA ha hlo hN (by omega) (by omega) hn hd ?_
  rw [Int.toNat_natCast]
  exact kk
theorem n_copy {a1 n1 : Nat} {c1 : ClassId} {E0 E1 : String} {f g : Nat → Option Nat} {lv : List (Nat × Value)} {sp dp k : Int} (sp' dp' k' : Nat) (S : CallFix p m c cc nL s args (c0 :: TT) "java/util/ComparableTimSort")
    (hA0 : AK s cA (.object E0)) (hA1 : AK s c1 (.object E1)) (ha0 : H[a]? = some (RA cA n f)) (ha1 : H[a1]? = some (RA c1 n1 g)) (hlo : LO (N0 K) locs) (hN : N0 K ≤ a1) (hn : n < 2147483648) (hn1 : n1 < 2147483648) (h1 : sp = (sp' : Int)) (h2 : dp = (dp' : Int)) (h3 : k = (k' : Int)) (h4 : sp' + k' ≤ n) (h5 : dp' + k' ≤ n1)
    (hel : ∀ j, sp' ≤ j → j < sp' + k' → ∃ y, f j = some y ∧ va_Any E1 s H y) (hfr : 1 ≤ R.frames ∧ 35 ≤ R.locals) (hls : lv_has ls nL lv) (hW : (rest.map fun v => v.category).sum ≤ 8) (hd : decode cc pc = .ok (.invokestatic 75, 3))
    (kk : ∀ locs' : List Loc, LO (N0 K) locs' → W p l e R s m args below meth c (H.setIfInBounds a1 (RA c1 n1 (va_cpy f g sp' dp' k'))) locs' cells slots Q (F0 m (pc + 3) ls rest)) : W p l e R s m args below meth c H locs cells slots Q (F0 m pc ls (.int (zI k) :: .int (zI dp) :: .ref a1 :: .int (zI sp) :: .ref a :: rest)) := by
  subst h1
  subst h2
  subst h3
  refine z_copy S tm_C75 tna_arraycopyName ts_arraycopyName tn_S hA0 hA1 ha0 ha1 hlo hN (by omega) (by omega) (by omega) (by omega) (by omega) hn hn1 (fun i hi y hy => ?_) hfr.1 (by omega) hls hd ?_
  · rw [Int.toNat_natCast] at hi hy
    obtain ⟨y', e1, e2⟩ := hel (sp' + i) (by omega) (by omega)
    rw [hy] at e1
    cases e1
    exact e2
  · rw [Int.toNat_natCast, Int.toNat_natCast, Int.toNat_natCast]
    exact kk
end ZN
end
section
/-! reverseRange -/
set_option maxRecDepth 100000
theorem d_Cr_0 : decode b_Cr 0 = .ok (.iinc 2 (-1), 3) := by decide +kernel
theorem d_Cr_3 : decode b_Cr 3 = .ok (.iload_n 1, 1) := by decide +kernel
theorem d_Cr_4 : decode b_Cr 4 = .ok (.iload_n 2, 1) := by decide +kernel
theorem d_Cr_5 : decode b_Cr 5 = .ok (.if_icmp .ge 26, 3) := by decide +kernel
theorem d_Cr_8 : decode b_Cr 8 = .ok (.aload_n 0, 1) := by decide +kernel
theorem d_Cr_9 : decode b_Cr 9 = .ok (.iload_n 1, 1) := by decide +kernel
theorem d_Cr_10 : decode b_Cr 10 = .ok (.aaload, 1) := by decide +kernel
theorem d_Cr_11 : decode b_Cr 11 = .ok (.astore_n 3, 1) := by decide +kernel
theorem d_Cr_12 : decode b_Cr 12 = .ok (.aload_n 0, 1) := by decide +kernel
theorem d_Cr_13 : decode b_Cr 13 = .ok (.iload_n 1, 1) := by decide +kernel
theorem d_Cr_14 : decode b_Cr 14 = .ok (.iinc 1 1, 3) := by decide +kernel
theorem d_Cr_17 : decode b_Cr 17 = .ok (.aload_n 0, 1) := by decide +kernel
theorem d_Cr_18 : decode b_Cr 18 = .ok (.iload_n 2, 1) := by decide +kernel
theorem d_Cr_19 : decode b_Cr 19 = .ok (.aaload, 1) := by decide +kernel
theorem d_Cr_20 : decode b_Cr 20 = .ok (.aastore, 1) := by decide +kernel
theorem d_Cr_21 : decode b_Cr 21 = .ok (.aload_n 0, 1) := by decide +kernel
theorem d_Cr_22 : decode b_Cr 22 = .ok (.iload_n 2, 1) := by decide +kernel
theorem d_Cr_23 : decode b_Cr 23 = .ok (.iinc 2 (-1), 3) := by decide +kernel
theorem d_Cr_26 : decode b_Cr 26 = .ok (.aload_n 3, 1) := by decide +kernel
theorem d_Cr_27 : decode b_Cr 27 = .ok (.aastore, 1) := by decide +kernel
theorem d_Cr_28 : decode b_Cr 28 = .ok (.goto (-25), 3) := by decide +kernel
theorem d_Cr_31 : decode b_Cr 31 = .ok (.return_, 1) := by decide +kernel
def rvF (f : Nat → Option Nat) (lo hi : Nat) : Nat → Option Nat := fun x => if lo ≤ x ∧ x < hi then f (lo + hi - 1 - x) else f x
abbrev rm_Cr : Room := { frames := 0, cells := 0, slots := 0, locals := 0 }
set_option maxHeartbeats 4000000 in
theorem ct_Cr (l : Launch) (K : KD) (a n lo hi : Nat) (f : Nat → Option Nat) (M : Nat → Prop) (wt nm : Nat → Int32) (hn : n < 1000000) (hlh : lo < hi) (hhn : hi ≤ n) (hN : N0 K ≤ a) (hMa : ¬ M a) (hF : Full M f 0 n) :
    CT l K y_Cr c_Cr rm_Cr [.ref a, .int (zI lo), .int (zI hi)] (fun H => H[a]? = some (RA (cM_ K) n f) ∧ MS K M wt nm H) (fun H v H' => v = none ∧ H' = H.setIfInBounds a (RA (cM_ K) n (rvF f lo hi))) := by
  refine z_met (by decide) (Nat.le_of_ble_eq_true rfl) ?_
  intro p e s m below meth c ls S hr hlk hnm hG hP hl
  obtain ⟨ha, hM⟩ := hP
  have hl : lv_has ls 4 [(0, .ref a), (1, .int (zI lo)), (2, .int (zI hi))] := hl
  have ha' : ∀ g, (s.heap.setIfInBounds a (RA (cM_ K) n g))[a]? = some (RA (cM_ K) n g) := fun g => set_at ha
  have hM' : ∀ g, MS K M wt nm (s.heap.setIfInBounds a (RA (cM_ K) n g)) := fun g => hM.set hMa
  have loop : ∀ (k i j : Nat) (g : Nat → Option Nat) (ls : Array Slot) (locs : List Loc), j - i < k → lo ≤ i → i + j + 1 = lo + hi → i ≤ hi → j < hi → (∀ x, g x = if (lo ≤ x ∧ x < i) ∨ (j < x ∧ x < hi) then f (lo + hi - 1 - x) else f x) → LO (N0 K) locs → lv_has ls 4 [(2, .int (zI j)), (0, .ref a), (1, .int (zI i))] →
      W p l e rm_Cr s m #[.ref a, .int (zI lo), .int (zI hi)] below meth c (s.heap.setIfInBounds a (RA (cM_ K) n g)) locs 0 0 (MQ below (QH (fun H v H' => v = none ∧ H' = H.setIfInBounds a (RA (cM_ K) n (rvF f lo hi)))) #[.ref a, .int (zI lo), .int (zI hi)] s 0 0 (fun q => N0 K ≤ q)) (F0 m 3 ls []) := by
    intro k
    induction k with
    | zero => intro i j g ls locs h; omega
    | succ k ih =>
      intro i j g ls locs hk h1 h2 h3 h4 hg hlo hl
      refine z_iload_n S rfl (lv_at hl 2 rfl) d_Cr_3 ?_
      refine z_iload_n S rfl (lv_at hl 0 rfl) d_Cr_4 ?_
      refine z_icmp_ge (tgt := 31) S (by decide) (by omega) (by omega) d_Cr_5 ?_ ?_
      · intro hc
        have hfin : g = rvF f lo hi := by
          funext x
          rw [hg x]
          unfold rvF
          by_cases hx : lo ≤ x ∧ x < hi
          · rw [if_pos hx]
            by_cases hx2 : (lo ≤ x ∧ x < i) ∨ (j < x ∧ x < hi)
            · rw [if_pos hx2]
            · rw [if_neg hx2]
              congr 1
              omega
          · rw [if_neg hx, if_neg (by omega)]
        rw [hfin]
        exact z_vret S hr hlk hlo ⟨rfl, rfl⟩ d_Cr_31
      · intro hc
        have hgi : ∃ y, g i = some y ∧ M y := by
          rw [hg i, if_neg (by omega)]
          exact hF i (by omega) (by omega)
        have hgj : ∃ y, g j = some y ∧ M y := by
          rw [hg j, if_neg (by omega)]
          exact hF j (by omega) (by omega)
        obtain ⟨yi, ei, mi⟩ := hgi
        obtain ⟨yj, ej, mj⟩ := hgj
        refine z_aload_n S rfl (lv_at hl 1 rfl) d_Cr_8 ?_
        refine z_iload_n S rfl (lv_at hl 2 rfl) d_Cr_9 ?_
        refine n_aald i S hG.M (ha' g) (by omega) rfl (by omega) ei d_Cr_10 ?_
        refine z_astore_n (lv' := [(3, .ref yi), (2, .int (zI j)), (0, .ref a), (1, .int (zI i))]) S rfl hl rfl (by decide) d_Cr_11 (fun ls hl => ?_)
        refine z_aload_n S rfl (lv_at hl 2 rfl) d_Cr_12 ?_
        refine z_iload_n S rfl (lv_at hl 3 rfl) d_Cr_13 ?_
        refine z_iinc (lv' := [(1, .int (zI (i + 1))), (3, .ref yi), (2, .int (zI j)), (0, .ref a)]) (q := 3) S hl rfl rfl (by decide) d_Cr_14 (fun ls hl => ?_)
        refine z_aload_n S rfl (lv_at hl 3 rfl) d_Cr_17 ?_
        refine z_iload_n S rfl (lv_at hl 2 rfl) d_Cr_18 ?_
        refine n_aald j S hG.M (ha' g) (by omega) rfl (by omega) ej d_Cr_19 ?_
        refine n_aast i S hG.M (ha' g) hlo hN (by omega) ((hM' g yj mj).anyM hG) rfl (by omega) d_Cr_20 (fun locs hlo => ?_)
        rw [set_set]
        refine z_aload_n S rfl (lv_at hl 3 rfl) d_Cr_21 ?_
        refine z_iload_n S rfl (lv_at hl 2 rfl) d_Cr_22 ?_
        refine z_iinc (lv' := [(2, .int (zI (j + (-1)))), (1, .int (zI (i + 1))), (3, .ref yi), (0, .ref a)]) (q := 2) S hl rfl rfl (by decide) d_Cr_23 (fun ls hl => ?_)
        refine z_aload_n S rfl (lv_at hl 2 rfl) d_Cr_26 ?_
        refine n_aast j S hG.M (ha' _) hlo hN (by omega) ((hM' _ yi mi).anyM hG) rfl (by omega) d_Cr_27 (fun locs hlo => ?_)
        rw [set_set]
        refine z_goto (tgt := 3) S (by decide) d_Cr_28 ?_
        have hl : lv_has ls 4 [(2, .int (zI (j + (-1)))), (0, .ref a), (1, .int (zI (i + 1)))] := lv_sub hl [0, 3, 1] rfl
        have hl : lv_has ls 4 [(2, .int (zI ((j - 1 : Nat) : Int))), (0, .ref a), (1, .int (zI (i + 1)))] := by rw [show ((j - 1 : Nat) : Int) = (j + (-1)) by omega]; exact hl
        refine ih (i + 1) (j - 1) _ ls locs (by omega) (by omega) (by omega) (by omega) (by omega) ?_ hlo hl
        intro x
        by_cases hxj : x = j
        · subst hxj
          rw [va_up_self, if_pos (by omega), ← ei, hg i, if_neg (by omega)]
          congr 1
          omega
        · rw [va_up_ne _ _ hxj]
          by_cases hxi : x = i
          · subst hxi
            rw [va_up_self, if_pos (by omega), ← ej, hg j, if_neg (by omega)]
            congr 1
            omega
          · rw [va_up_ne _ _ hxi, hg x]
            by_cases hx2 : (lo ≤ x ∧ x < i) ∨ (j < x ∧ x < hi)
            · rw [if_pos hx2, if_pos (by omega)]
            · rw [if_neg hx2, if_neg (by omega)]
  refine z_iinc (lv' := [(2, .int (zI (hi + (-1)))), (0, .ref a), (1, .int (zI lo))]) (q := 2) S hl rfl rfl (by decide) d_Cr_0 (fun ls hl => ?_)
  have hl : lv_has ls 4 [(2, .int (zI (hi + (-1)))), (0, .ref a), (1, .int (zI lo))] := lv_sub hl [0, 1, 2] rfl
  have hl : lv_has ls 4 [(2, .int (zI ((hi - 1 : Nat) : Int))), (0, .ref a), (1, .int (zI lo))] := by rw [show ((hi - 1 : Nat) : Int) = (hi + (-1)) by omega]; exact hl
  have h0 := loop (hi - lo + 1) lo (hi - 1) f ls [] (by omega) (by omega) (by omega) (by omega) (by omega) (fun x => by rw [if_neg (by omega)]) LO.nil hl
  rw [set_self ha] at h0
  exact h0
end
section
/-! countRunAndMakeAscending -/
set_option maxRecDepth 100000
theorem Eqv.rev {α : Type} {k : α → Int} : ∀ {l : List α}, l.Pairwise (fun x y => k x ≠ k y) → Eqv k l.reverse l
  | [], _ => Eqv.rf
  | x :: t, h => by
    rw [List.reverse_cons]
    have h1 := List.pairwise_cons.mp h
    refine ((Eqv.rev h1.2).app (Eqv.rf (l := [x]))).tr ?_
    refine (Eqv.comm (l := t) (r := [x]) ?_).tr (Eqv.of rfl)
    intro y hy z hz e
    rw [List.mem_singleton] at hz
    subst hz
    exact h1.1 y hy e.symm
theorem sg_rev (f : Nat → Option Nat) {lo hi : Nat} (h : lo ≤ hi) : sg (rvF f lo hi) lo (hi - lo) = (sg f lo (hi - lo)).reverse := by
  apply List.ext_getElem?
  intro x
  by_cases hx : x < hi - lo
  · rw [sg_get hx, List.getElem?_reverse (by rw [sg_len]; exact hx), sg_len, sg_get (by omega)]
    unfold rvF
    rw [if_pos (by omega)]
    congr 2
    omega
  · rw [List.getElem?_eq_none (by rw [sg_len]; omega), List.getElem?_eq_none (by rw [List.length_reverse, sg_len]; omega)]
/-- step by step gives all pairs -/
theorem down_all {k : Nat → Int} {lo r : Nat} (h : ∀ x, lo < x → x < r → k x < k (x - 1)) : ∀ d a, lo ≤ a → a + d + 1 < r → k (a + d + 1) < k a
  | 0, a, h1, h2 => by have := h (a + 1) (by omega) (by omega); simpa using this
  | d + 1, a, h1, h2 => by
    have h3 := down_all h d a h1 (by omega)
    have h4 := h (a + (d + 1) + 1) (by omega) (by omega)
    have e : a + (d + 1) + 1 - 1 = a + d + 1 := by omega
    rw [e] at h4
    omega
theorem up_all {k : Nat → Int} {lo r : Nat} (h : ∀ x, lo < x → x < r → k (x - 1) ≤ k x) : ∀ d a, lo ≤ a → a + d + 1 < r → k a ≤ k (a + d + 1)
  | 0, a, h1, h2 => by have := h (a + 1) (by omega) (by omega); simpa using this
  | d + 1, a, h1, h2 => by
    have h3 := up_all h d a h1 (by omega)
    have h4 := h (a + (d + 1) + 1) (by omega) (by omega)
    have e : a + (d + 1) + 1 - 1 = a + d + 1 := by omega
    rw [e] at h4
    omega
theorem up_srt {k : Option Nat → Int} {f : Nat → Option Nat} {lo r : Nat} (h : ∀ x, lo < x → x < r → k (f (x - 1)) ≤ k (f x)) : Srt k f lo (r - lo) := by
  intro a b h1 h2 h3
  have := up_all (k := fun x => k (f x)) h (b - a - 1) a h1 (by omega)
  have e : a + (b - a - 1) + 1 = b := by omega
  rw [e] at this
  exact this
theorem down_rev {k : Option Nat → Int} {f : Nat → Option Nat} {lo r : Nat} (hr : lo ≤ r) (h : ∀ x, lo < x → x < r → k (f x) < k (f (x - 1))) : Srt k (rvF f lo r) lo (r - lo) ∧ Eqv k (sg (rvF f lo r) lo (r - lo)) (sg f lo (r - lo)) := by
  have hall : ∀ a b, lo ≤ a → a < b → b < r → k (f b) < k (f a) := by
    intro a b h1 h2 h3
    have := down_all (k := fun x => k (f x)) h (b - a - 1) a h1 (by omega)
    have e : a + (b - a - 1) + 1 = b := by omega
    rw [e] at this
    exact this
  constructor
  · intro a b h1 h2 h3
    unfold rvF
    rw [if_pos (by omega), if_pos (by omega)]
    have := hall (lo + r - 1 - b) (lo + r - 1 - a) (by omega) (by omega) (by omega)
    omega
  · rw [sg_rev f hr]
    refine Eqv.rev ?_
    rw [List.pairwise_iff_getElem]
    intro i j hi hj hij
    rw [sg_len] at hi hj
    have e1 := sg_get (f := f) (i := lo) hi
    have e2 := sg_get (f := f) (i := lo) hj
    rw [List.getElem?_eq_getElem (by rw [sg_len]; omega)] at e1 e2
    rw [Option.some.inj e1, Option.some.inj e2]
    have := hall (lo + i) (lo + j) (by omega) (by omega) (by omega)
    omega
theorem d_Cc_0 : decode b_Cc 0 = .ok (.getstatic 37, 3) := by decide +kernel
theorem d_Cc_3 : decode b_Cc 3 = .ok (.ifCond .ne 16, 3) := by decide +kernel
theorem d_Cc_19 : decode b_Cc 19 = .ok (.iload_n 1, 1) := by decide +kernel
theorem d_Cc_20 : decode b_Cc 20 = .ok (.iconst 1, 1) := by decide +kernel
theorem d_Cc_21 : decode b_Cc 21 = .ok (.iadd, 1) := by decide +kernel
theorem d_Cc_22 : decode b_Cc 22 = .ok (.istore_n 3, 1) := by decide +kernel
theorem d_Cc_23 : decode b_Cc 23 = .ok (.iload_n 3, 1) := by decide +kernel
theorem d_Cc_24 : decode b_Cc 24 = .ok (.iload_n 2, 1) := by decide +kernel
theorem d_Cc_25 : decode b_Cc 25 = .ok (.if_icmp .ne 5, 3) := by decide +kernel
theorem d_Cc_28 : decode b_Cc 28 = .ok (.iconst 1, 1) := by decide +kernel
theorem d_Cc_29 : decode b_Cc 29 = .ok (.ireturn, 1) := by decide +kernel
theorem d_Cc_30 : decode b_Cc 30 = .ok (.aload_n 0, 1) := by decide +kernel
theorem d_Cc_31 : decode b_Cc 31 = .ok (.iload_n 3, 1) := by decide +kernel
theorem d_Cc_32 : decode b_Cc 32 = .ok (.iinc 3 1, 3) := by decide +kernel
theorem d_Cc_35 : decode b_Cc 35 = .ok (.aaload, 1) := by decide +kernel
theorem d_Cc_36 : decode b_Cc 36 = .ok (.checkcast 69, 3) := by decide +kernel
theorem d_Cc_39 : decode b_Cc 39 = .ok (.aload_n 0, 1) := by decide +kernel
theorem d_Cc_40 : decode b_Cc 40 = .ok (.iload_n 1, 1) := by decide +kernel
theorem d_Cc_41 : decode b_Cc 41 = .ok (.aaload, 1) := by decide +kernel
theorem d_Cc_42 : decode b_Cc 42 = .ok (.invokeinterface 71 2, 5) := by decide +kernel
theorem d_Cc_47 : decode b_Cc 47 = .ok (.ifCond .ge 42, 3) := by decide +kernel
theorem d_Cc_50 : decode b_Cc 50 = .ok (.iload_n 3, 1) := by decide +kernel
theorem d_Cc_51 : decode b_Cc 51 = .ok (.iload_n 2, 1) := by decide +kernel
theorem d_Cc_52 : decode b_Cc 52 = .ok (.if_icmp .ge 28, 3) := by decide +kernel
theorem d_Cc_55 : decode b_Cc 55 = .ok (.aload_n 0, 1) := by decide +kernel
theorem d_Cc_56 : decode b_Cc 56 = .ok (.iload_n 3, 1) := by decide +kernel
theorem d_Cc_57 : decode b_Cc 57 = .ok (.aaload, 1) := by decide +kernel
theorem d_Cc_58 : decode b_Cc 58 = .ok (.checkcast 69, 3) := by decide +kernel
theorem d_Cc_61 : decode b_Cc 61 = .ok (.aload_n 0, 1) := by decide +kernel
theorem d_Cc_62 : decode b_Cc 62 = .ok (.iload_n 3, 1) := by decide +kernel
theorem d_Cc_63 : decode b_Cc 63 = .ok (.iconst 1, 1) := by decide +kernel
theorem d_Cc_64 : decode b_Cc 64 = .ok (.isub, 1) := by decide +kernel
theorem d_Cc_65 : decode b_Cc 65 = .ok (.aaload, 1) := by decide +kernel
theorem d_Cc_66 : decode b_Cc 66 = .ok (.invokeinterface 71 2, 5) := by decide +kernel
theorem d_Cc_71 : decode b_Cc 71 = .ok (.ifCond .ge 9, 3) := by decide +kernel
theorem d_Cc_74 : decode b_Cc 74 = .ok (.iinc 3 1, 3) := by decide +kernel
theorem d_Cc_77 : decode b_Cc 77 = .ok (.goto (-27), 3) := by decide +kernel
theorem d_Cc_80 : decode b_Cc 80 = .ok (.aload_n 0, 1) := by decide +kernel
theorem d_Cc_81 : decode b_Cc 81 = .ok (.iload_n 1, 1) := by decide +kernel
theorem d_Cc_82 : decode b_Cc 82 = .ok (.iload_n 3, 1) := by decide +kernel
theorem d_Cc_83 : decode b_Cc 83 = .ok (.invokestatic 81, 3) := by decide +kernel
theorem d_Cc_86 : decode b_Cc 86 = .ok (.goto 33, 3) := by decide +kernel
theorem d_Cc_89 : decode b_Cc 89 = .ok (.iload_n 3, 1) := by decide +kernel
theorem d_Cc_90 : decode b_Cc 90 = .ok (.iload_n 2, 1) := by decide +kernel
theorem d_Cc_91 : decode b_Cc 91 = .ok (.if_icmp .ge 28, 3) := by decide +kernel
theorem d_Cc_94 : decode b_Cc 94 = .ok (.aload_n 0, 1) := by decide +kernel
theorem d_Cc_95 : decode b_Cc 95 = .ok (.iload_n 3, 1) := by decide +kernel
theorem d_Cc_96 : decode b_Cc 96 = .ok (.aaload, 1) := by decide +kernel
theorem d_Cc_97 : decode b_Cc 97 = .ok (.checkcast 69, 3) := by decide +kernel
theorem d_Cc_100 : decode b_Cc 100 = .ok (.aload_n 0, 1) := by decide +kernel
theorem d_Cc_101 : decode b_Cc 101 = .ok (.iload_n 3, 1) := by decide +kernel
theorem d_Cc_102 : decode b_Cc 102 = .ok (.iconst 1, 1) := by decide +kernel
theorem d_Cc_103 : decode b_Cc 103 = .ok (.isub, 1) := by decide +kernel
theorem d_Cc_104 : decode b_Cc 104 = .ok (.aaload, 1) := by decide +kernel
theorem d_Cc_105 : decode b_Cc 105 = .ok (.invokeinterface 71 2, 5) := by decide +kernel
theorem d_Cc_110 : decode b_Cc 110 = .ok (.ifCond .lt 9, 3) := by decide +kernel
theorem d_Cc_113 : decode b_Cc 113 = .ok (.iinc 3 1, 3) := by decide +kernel
theorem d_Cc_116 : decode b_Cc 116 = .ok (.goto (-27), 3) := by decide +kernel
theorem d_Cc_119 : decode b_Cc 119 = .ok (.iload_n 3, 1) := by decide +kernel
theorem d_Cc_120 : decode b_Cc 120 = .ok (.iload_n 1, 1) := by decide +kernel
theorem d_Cc_121 : decode b_Cc 121 = .ok (.isub, 1) := by decide +kernel
theorem d_Cc_122 : decode b_Cc 122 = .ok (.ireturn, 1) := by decide +kernel
abbrev rm_Cc : Room := { frames := 2, cells := 0, slots := 0, locals := 42 }
def Pcc (K : KD) (a n lo hi : Nat) (f : Nat → Option Nat) (wt : Nat → Int32) : Heap → Option Value → Heap → Prop := fun H v H' => ∃ (r : Nat) (f' : Nat → Option Nat), v = some (.int (zI r)) ∧ H' = H.setIfInBounds a (RA (cM_ K) n f') ∧ 1 ≤ r ∧ lo + r ≤ hi ∧ (∀ x, (x < lo ∨ lo + r ≤ x) → f' x = f x) ∧ Srt (kw wt) f' lo r ∧ Eqv (kw wt) (sg f' lo r) (sg f lo r)
set_option maxHeartbeats 4000000 in
theorem ct_Cc (l : Launch) (K : KD) (a n lo hi : Nat) (f : Nat → Option Nat) (M : Nat → Prop) (wt nm : Nat → Int32) (hn : n < 1000000) (hlh : lo < hi) (hhn : hi ≤ n) (hN : N0 K ≤ a) (hMa : ¬ M a) (hF : Full M f 0 n) :
    CT l K y_Cc c_Cc rm_Cc [.ref a, .int (zI lo), .int (zI hi)] (fun H => H[a]? = some (RA (cM_ K) n f) ∧ MS K M wt nm H) (Pcc K a n lo hi f wt) := by
  refine z_met (by decide) (Nat.le_of_ble_eq_true rfl) ?_
  intro p e s m below meth c ls S hr hlk hnm hG hP hl
  obtain ⟨ha, hM⟩ := hP
  have hl : lv_has ls 4 [(0, .ref a), (1, .int (zI lo)), (2, .int (zI hi))] := hl
  generalize hQ : MQ below (QH (Pcc K a n lo hi f wt)) [Value.ref a, .int (zI lo), .int (zI hi)].toArray s rm_Cc.cells rm_Cc.slots (fun q => N0 K ≤ q) = Q
  have down : ∀ (k r : Nat) (ls : Array Slot) (locs : List Loc), hi - r < k → lo + 2 ≤ r → r ≤ hi → (∀ x, lo < x → x < r → kw wt (f x) < kw wt (f (x - 1))) → LO (N0 K) locs → lv_has ls 4 [(3, .int (zI r)), (0, .ref a), (1, .int (zI lo)), (2, .int (zI hi))] →
      W p l e rm_Cc s m [Value.ref a, .int (zI lo), .int (zI hi)].toArray below meth c s.heap locs 0 0 Q (F0 m 50 ls []) := by
    intro k
    induction k with
    | zero => intro r ls locs h; omega
    | succ k ih =>
      intro r ls locs hk h1 h2 hd hlo hl
      have hdone : ∀ locs : List Loc, LO (N0 K) locs → W p l e rm_Cc s m [Value.ref a, .int (zI lo), .int (zI hi)].toArray below meth c s.heap locs 0 0 Q (F0 m 80 ls []) := by
        intro locs hlo
        refine z_aload_n S rfl (lv_at hl 1 rfl) d_Cc_80 ?_
        refine z_iload_n S rfl (lv_at hl 2 rfl) d_Cc_81 ?_
        refine z_iload_n S rfl (lv_at hl 0 rfl) d_Cc_82 ?_
        refine z_callS (n := 3) S (ct_Cr l K a n lo r f M wt nm hn (by omega) (by omega) hN hMa hF) tc_Cr tm_C81 ts_Cr tn_C (by decide) (by decide) rfl hG Keep.rf hlo ⟨ha, hM⟩ hl rfl (by decide) (by decide) d_Cc_83 (fun v H1 locs hp hlo => ?_)
        obtain ⟨rfl, rfl⟩ := hp
        refine z_goto (tgt := 119) S (by decide) d_Cc_86 ?_
        refine z_iload_n S rfl (lv_at hl 0 rfl) d_Cc_119 ?_
        refine z_iload_n S rfl (lv_at hl 2 rfl) d_Cc_120 ?_
        refine z_isub S d_Cc_121 ?_
        obtain ⟨q1, q2⟩ := down_rev (by omega) hd
        subst hQ
        exact z_iret S hr hlk hlo ⟨r - lo, rvF f lo r, by rw [show ((r - lo : Nat) : Int) = (r : Int) - lo by omega], rfl, by omega, by omega, fun x hx => by unfold rvF; rw [if_neg (by omega)], q1, q2⟩ d_Cc_122
      refine z_iload_n S rfl (lv_at hl 0 rfl) d_Cc_50 ?_
      refine z_iload_n S rfl (lv_at hl 3 rfl) d_Cc_51 ?_
      refine z_icmp_ge (tgt := 80) S (by decide) (by omega) (by omega) d_Cc_52 ?_ ?_
      · intro hc
        exact hdone locs hlo
      · intro hc
        obtain ⟨y1, e1, m1⟩ := hF r (by omega) (by omega)
        obtain ⟨y2, e2, m2⟩ := hF (r - 1) (by omega) (by omega)
        refine z_aload_n S rfl (lv_at hl 1 rfl) d_Cc_55 ?_
        refine z_iload_n S rfl (lv_at hl 0 rfl) d_Cc_56 ?_
        refine n_aald r S hG.M ha (by omega) rfl (by omega) e1 d_Cc_57 ?_
        refine z_cast S hG (hM y1 m1) tcl_C69 d_Cc_58 ?_
        refine z_aload_n S rfl (lv_at hl 1 rfl) d_Cc_61 ?_
        refine z_iload_n S rfl (lv_at hl 0 rfl) d_Cc_62 ?_
        refine z_iconst S d_Cc_63 ?_
        refine z_isub S d_Cc_64 ?_
        refine n_aald (r - 1) S hG.M ha (by omega) (by omega) (by omega) e2 d_Cc_65 ?_
        refine z_cmp S hG Keep.rf hlo (hM y1 m1) (hM y2 m2) (by decide) (by decide) hl (by decide) d_Cc_66 (fun locs hlo => ?_)
        refine z_if_ge (tgt := 80) S (by decide) cmpI_in d_Cc_71 ?_ ?_
        · intro hc2
          exact hdone locs hlo
        · intro hc2
          refine z_iinc (lv' := [(3, .int (zI (r + 1))), (0, .ref a), (1, .int (zI lo)), (2, .int (zI hi))]) (q := 0) S hl rfl rfl (by decide) d_Cc_74 (fun ls hl => ?_)
          refine z_goto (tgt := 50) S (by decide) d_Cc_77 ?_
          rw [cmpI_lt] at hc2
          refine ih (r + 1) ls locs (by omega) (by omega) (by omega) ?_ hlo hl
          intro x hx1 hx2
          by_cases hxr : x = r
          · subst hxr
            rw [kw_some e1, kw_some e2]
            exact hc2
          · exact hd x hx1 (by omega)
  have upw : ∀ (k r : Nat) (ls : Array Slot) (locs : List Loc), hi - r < k → lo + 2 ≤ r → r ≤ hi → (∀ x, lo < x → x < r → kw wt (f (x - 1)) ≤ kw wt (f x)) → LO (N0 K) locs → lv_has ls 4 [(3, .int (zI r)), (0, .ref a), (1, .int (zI lo)), (2, .int (zI hi))] →
      W p l e rm_Cc s m [Value.ref a, .int (zI lo), .int (zI hi)].toArray below meth c s.heap locs 0 0 Q (F0 m 89 ls []) := by
    intro k
    induction k with
    | zero => intro r ls locs h; omega
    | succ k ih =>
      intro r ls locs hk h1 h2 hd hlo hl
      have hdone : ∀ locs : List Loc, LO (N0 K) locs → W p l e rm_Cc s m [Value.ref a, .int (zI lo), .int (zI hi)].toArray below meth c s.heap locs 0 0 Q (F0 m 119 ls []) := by
        intro locs hlo
        refine z_iload_n S rfl (lv_at hl 0 rfl) d_Cc_119 ?_
        refine z_iload_n S rfl (lv_at hl 2 rfl) d_Cc_120 ?_
        refine z_isub S d_Cc_121 ?_
        subst hQ
        exact z_iret S hr hlk hlo ⟨r - lo, f, by rw [show ((r - lo : Nat) : Int) = (r : Int) - lo by omega], (set_self ha).symm, by omega, by omega, fun x hx => rfl, up_srt hd, Eqv.rf⟩ d_Cc_122
      refine z_iload_n S rfl (lv_at hl 0 rfl) d_Cc_89 ?_
      refine z_iload_n S rfl (lv_at hl 3 rfl) d_Cc_90 ?_
      refine z_icmp_ge (tgt := 119) S (by decide) (by omega) (by omega) d_Cc_91 ?_ ?_
      · intro hc
        exact hdone locs hlo
      · intro hc
        obtain ⟨y1, e1, m1⟩ := hF r (by omega) (by omega)
        obtain ⟨y2, e2, m2⟩ := hF (r - 1) (by omega) (by omega)
        refine z_aload_n S rfl (lv_at hl 1 rfl) d_Cc_94 ?_
        refine z_iload_n S rfl (lv_at hl 0 rfl) d_Cc_95 ?_
        refine n_aald r S hG.M ha (by omega) rfl (by omega) e1 d_Cc_96 ?_
        refine z_cast S hG (hM y1 m1) tcl_C69 d_Cc_97 ?_
        refine z_aload_n S rfl (lv_at hl 1 rfl) d_Cc_100 ?_
        refine z_iload_n S rfl (lv_at hl 0 rfl) d_Cc_101 ?_
        refine z_iconst S d_Cc_102 ?_
        refine z_isub S d_Cc_103 ?_
        refine n_aald (r - 1) S hG.M ha (by omega) (by omega) (by omega) e2 d_Cc_104 ?_
        refine z_cmp S hG Keep.rf hlo (hM y1 m1) (hM y2 m2) (by decide) (by decide) hl (by decide) d_Cc_105 (fun locs hlo => ?_)
        refine z_if_lt (tgt := 119) S (by decide) cmpI_in d_Cc_110 ?_ ?_
        · intro hc2
          exact hdone locs hlo
        · intro hc2
          refine z_iinc (lv' := [(3, .int (zI (r + 1))), (0, .ref a), (1, .int (zI lo)), (2, .int (zI hi))]) (q := 0) S hl rfl rfl (by decide) d_Cc_113 (fun ls hl => ?_)
          refine z_goto (tgt := 89) S (by decide) d_Cc_116 ?_
          rw [cmpI_ge] at hc2
          refine ih (r + 1) ls locs (by omega) (by omega) (by omega) ?_ hlo hl
          intro x hx1 hx2
          by_cases hxr : x = r
          · subst hxr
            rw [kw_some e1, kw_some e2]
            exact hc2
          · exact hd x hx1 (by omega)
  refine z_asrt (tgt := 19) S hG Keep.rf tw_asrt (by decide) d_Cc_0 d_Cc_3 ?_
  refine z_iload_n S rfl (lv_at hl 1 rfl) d_Cc_19 ?_
  refine z_iconst S d_Cc_20 ?_
  refine z_iadd S d_Cc_21 ?_
  refine z_istore_n (lv' := [(3, .int (zI (lo + 1))), (0, .ref a), (1, .int (zI lo)), (2, .int (zI hi))]) S rfl hl rfl (by decide) d_Cc_22 (fun ls hl => ?_)
  refine z_iload_n S rfl (lv_at hl 0 rfl) d_Cc_23 ?_
  refine z_iload_n S rfl (lv_at hl 3 rfl) d_Cc_24 ?_
  refine z_icmp_ne (tgt := 30) S (by decide) (by omega) (by omega) d_Cc_25 ?_ ?_
  · intro hc
    obtain ⟨y1, e1, m1⟩ := hF (lo + 1) (by omega) (by omega)
    obtain ⟨y2, e2, m2⟩ := hF lo (by omega) (by omega)
    refine z_aload_n S rfl (lv_at hl 1 rfl) d_Cc_30 ?_
    refine z_iload_n S rfl (lv_at hl 0 rfl) d_Cc_31 ?_
    refine z_iinc (lv' := [(3, .int (zI ((lo + 1) + 1))), (0, .ref a), (1, .int (zI lo)), (2, .int (zI hi))]) (q := 0) S hl rfl rfl (by decide) d_Cc_32 (fun ls hl => ?_)
    refine n_aald (lo + 1) S hG.M ha (by omega) (by omega) (by omega) e1 d_Cc_35 ?_
    refine z_cast S hG (hM y1 m1) tcl_C69 d_Cc_36 ?_
    refine z_aload_n S rfl (lv_at hl 1 rfl) d_Cc_39 ?_
    refine z_iload_n S rfl (lv_at hl 2 rfl) d_Cc_40 ?_
    refine n_aald lo S hG.M ha (by omega) (by omega) (by omega) e2 d_Cc_41 ?_
    refine z_cmp S hG Keep.rf LO.nil (hM y1 m1) (hM y2 m2) (by decide) (by decide) hl (by decide) d_Cc_42 (fun locs hlo => ?_)
    have hl : lv_has ls 4 [(3, .int (zI ((lo + 2 : Nat) : Int))), (0, .ref a), (1, .int (zI lo)), (2, .int (zI hi))] := by rw [show ((lo + 2 : Nat) : Int) = ((lo + 1) + 1) by omega]; exact hl
    refine z_if_ge (tgt := 89) S (by decide) cmpI_in d_Cc_47 ?_ ?_
    · intro hc2
      rw [cmpI_ge] at hc2
      refine upw (hi + 1) (lo + 2) ls locs (by omega) (by omega) (by omega) ?_ hlo hl
      intro x hx1 hx2
      have hx : x = lo + 1 := by omega
      subst hx
      rw [kw_some e1, show lo + 1 - 1 = lo by omega, kw_some e2]
      exact hc2
    · intro hc2
      rw [cmpI_lt] at hc2
      refine down (hi + 1) (lo + 2) ls locs (by omega) (by omega) (by omega) ?_ hlo hl
      intro x hx1 hx2
      have hx : x = lo + 1 := by omega
      subst hx
      rw [kw_some e1, show lo + 1 - 1 = lo by omega, kw_some e2]
      exact hc2
  · intro hc
    refine z_iconst S d_Cc_28 ?_
    subst hQ
    exact z_iret S hr hlk LO.nil ⟨1, f, rfl, (set_self ha).symm, by omega, by omega, fun x hx => rfl, Srt.small (by omega), Eqv.rf⟩ d_Cc_29
end
section
/-! binarySort -/
set_option maxRecDepth 100000
def insF (f : Nat → Option Nat) (L st : Nat) : Nat → Option Nat := fun x => if x = L then f st else if L < x ∧ x ≤ st then f (x - 1) else f x
theorem ins_ok {k : Option Nat → Int} {f : Nat → Option Nat} {lo L st : Nat} (h1 : lo ≤ L) (h2 : L ≤ st) (hs : Srt k f lo (st - lo)) (hl : ∀ j, lo ≤ j → j < L → k (f j) ≤ k (f st)) (hr : ∀ j, L ≤ j → j < st → k (f st) < k (f j)) :
    Srt k (insF f L st) lo (st + 1 - lo) ∧ Eqv k (sg (insF f L st) lo (st + 1 - lo)) (sg f lo (st + 1 - lo)) := by
  constructor
  · intro a b ha hab hb
    unfold insF
    by_cases e1 : a = L
    · rw [if_pos e1, if_neg (by omega), if_pos (by omega)]
      have := hr (b - 1) (by omega) (by omega)
      omega
    · rw [if_neg e1]
      by_cases e2 : b = L
      · rw [if_neg (by omega), if_pos e2]
        exact hl a ha (by omega)
      · rw [if_neg e2]
        by_cases e3 : L < a
        · rw [if_pos (by omega), if_pos (by omega)]
          exact hs (a - 1) (b - 1) (by omega) (by omega) (by omega)
        · rw [if_neg (by omega)]
          by_cases e4 : L < b
          · rw [if_pos (by omega)]
            by_cases e5 : b = L + 1
            · have := hl a ha (by omega)
              have e6 : b - 1 = L := by omega
              rw [e6]
              by_cases e7 : L = st
              · rw [e7]; exact this
              · have := hr L (by omega) (by omega)
                omega
            · exact hs a (b - 1) (by omega) (by omega) (by omega)
          · rw [if_neg (by omega)]
            exact hs a b ha hab (by omega)
  · have e1 : st + 1 - lo = (L - lo) + (1 + (st - L)) := by omega
    have e2 : st + 1 - lo = (L - lo) + ((st - L) + 1) := by omega
    have s1 : sg (insF f L st) lo (st + 1 - lo) = sg f lo (L - lo) ++ ([f st] ++ sg f L (st - L)) := by
      rw [e1, sg_app, sg_app, sg_1]
      congr 1
      · exact sg_same (fun x _ _ => by unfold insF; rw [if_neg (by omega), if_neg (by omega)])
      · congr 1
        · unfold insF; rw [if_pos (by omega)]
        · exact sg_congr (fun x hx => by unfold insF; rw [if_neg (by omega), if_pos (by omega)]; congr 1; omega)
    have s2 : sg f lo (st + 1 - lo) = sg f lo (L - lo) ++ (sg f L (st - L) ++ [f st]) := by
      rw [e2, sg_app, sg_snoc, show lo + (L - lo) = L by omega, show L + (st - L) = st by omega]
    rw [s1, s2]
    refine Eqv.app Eqv.rf (Eqv.comm ?_)
    intro x hx y hy
    rw [List.mem_singleton] at hx
    subst hx
    obtain ⟨j, j1, j2, rfl⟩ := sg_mem.mp hy
    have := hr j j1 (by omega)
    omega
theorem ins_1 {f : Nat → Option Nat} {L y0 yp : Nat} (h0 : f L = some y0) (hp : f (L + 1) = some yp) : va_up (va_up f (L + 1) (some y0)) L (some yp) = insF f L (L + 1) := by
  funext x
  unfold insF
  by_cases e1 : x = L
  · rw [if_pos e1, e1, va_up_self, hp]
  · rw [if_neg e1, va_up_ne _ _ e1]
    by_cases e2 : x = L + 1
    · rw [e2, va_up_self, if_pos (by omega), ← h0]
      rfl
    · rw [va_up_ne _ _ e2, if_neg (by omega)]
theorem ins_2 {f : Nat → Option Nat} {L y0 y1 yp : Nat} (h0 : f L = some y0) (h1 : f (L + 1) = some y1) (hp : f (L + 2) = some yp) : va_up (va_up (va_up f (L + 2) (some y1)) (L + 1) (some y0)) L (some yp) = insF f L (L + 2) := by
  funext x
  unfold insF
  by_cases e1 : x = L
  · rw [if_pos e1, e1, va_up_self, hp]
  · rw [if_neg e1, va_up_ne _ _ e1]
    by_cases e2 : x = L + 1
    · rw [e2, va_up_self, if_pos (by omega), ← h0]
      rfl
    · rw [va_up_ne _ _ e2]
      by_cases e3 : x = L + 2
      · rw [e3, va_up_self, if_pos (by omega), ← h1]
        rfl
      · rw [va_up_ne _ _ e3, if_neg (by omega)]
theorem ins_n {f : Nat → Option Nat} {L st yp : Nat} (h : L ≤ st) (hp : f st = some yp) : va_up (va_cpy f f L (L + 1) (st - L)) L (some yp) = insF f L st := by
  funext x
  unfold insF
  by_cases e1 : x = L
  · rw [if_pos e1, e1, va_up_self, hp]
  · rw [if_neg e1, va_up_ne _ _ e1]
    by_cases e2 : L < x ∧ x ≤ st
    · rw [if_pos e2, pk_cpy_in (by omega) (by omega)]
      congr 1
      omega
    · rw [if_neg e2, pk_cpy_out (by omega)]
theorem d_Cb_0 : decode b_Cb 0 = .ok (.getstatic 37, 3) := by decide +kernel
theorem d_Cb_3 : decode b_Cb 3 = .ok (.ifCond .ne 21, 3) := by decide +kernel
theorem d_Cb_24 : decode b_Cb 24 = .ok (.iload_n 3, 1) := by decide +kernel
theorem d_Cb_25 : decode b_Cb 25 = .ok (.iload_n 1, 1) := by decide +kernel
theorem d_Cb_26 : decode b_Cb 26 = .ok (.if_icmp .ne 6, 3) := by decide +kernel
theorem d_Cb_29 : decode b_Cb 29 = .ok (.iinc 3 1, 3) := by decide +kernel
theorem d_Cb_32 : decode b_Cb 32 = .ok (.iload_n 3, 1) := by decide +kernel
theorem d_Cb_33 : decode b_Cb 33 = .ok (.iload_n 2, 1) := by decide +kernel
theorem d_Cb_34 : decode b_Cb 34 = .ok (.if_icmp .ge 188, 3) := by decide +kernel
theorem d_Cb_37 : decode b_Cb 37 = .ok (.aload_n 0, 1) := by decide +kernel
theorem d_Cb_38 : decode b_Cb 38 = .ok (.iload_n 3, 1) := by decide +kernel
theorem d_Cb_39 : decode b_Cb 39 = .ok (.aaload, 1) := by decide +kernel
theorem d_Cb_40 : decode b_Cb 40 = .ok (.checkcast 69, 3) := by decide +kernel
theorem d_Cb_43 : decode b_Cb 43 = .ok (.astore 4, 2) := by decide +kernel
theorem d_Cb_45 : decode b_Cb 45 = .ok (.iload_n 1, 1) := by decide +kernel
theorem d_Cb_46 : decode b_Cb 46 = .ok (.istore 5, 2) := by decide +kernel
theorem d_Cb_48 : decode b_Cb 48 = .ok (.iload_n 3, 1) := by decide +kernel
theorem d_Cb_49 : decode b_Cb 49 = .ok (.istore 6, 2) := by decide +kernel
theorem d_Cb_51 : decode b_Cb 51 = .ok (.getstatic 37, 3) := by decide +kernel
theorem d_Cb_54 : decode b_Cb 54 = .ok (.ifCond .ne 18, 3) := by decide +kernel
theorem d_Cb_72 : decode b_Cb 72 = .ok (.iload 5, 2) := by decide +kernel
theorem d_Cb_74 : decode b_Cb 74 = .ok (.iload 6, 2) := by decide +kernel
theorem d_Cb_76 : decode b_Cb 76 = .ok (.if_icmp .ge 42, 3) := by decide +kernel
theorem d_Cb_79 : decode b_Cb 79 = .ok (.iload 5, 2) := by decide +kernel
theorem d_Cb_81 : decode b_Cb 81 = .ok (.iload 6, 2) := by decide +kernel
theorem d_Cb_83 : decode b_Cb 83 = .ok (.iadd, 1) := by decide +kernel
theorem d_Cb_84 : decode b_Cb 84 = .ok (.iconst 1, 1) := by decide +kernel
theorem d_Cb_85 : decode b_Cb 85 = .ok (.iushr, 1) := by decide +kernel
theorem d_Cb_86 : decode b_Cb 86 = .ok (.istore 7, 2) := by decide +kernel
theorem d_Cb_88 : decode b_Cb 88 = .ok (.aload 4, 2) := by decide +kernel
theorem d_Cb_90 : decode b_Cb 90 = .ok (.aload_n 0, 1) := by decide +kernel
theorem d_Cb_91 : decode b_Cb 91 = .ok (.iload 7, 2) := by decide +kernel
theorem d_Cb_93 : decode b_Cb 93 = .ok (.aaload, 1) := by decide +kernel
theorem d_Cb_94 : decode b_Cb 94 = .ok (.invokeinterface 71 2, 5) := by decide +kernel
theorem d_Cb_99 : decode b_Cb 99 = .ok (.ifCond .ge 10, 3) := by decide +kernel
theorem d_Cb_102 : decode b_Cb 102 = .ok (.iload 7, 2) := by decide +kernel
theorem d_Cb_104 : decode b_Cb 104 = .ok (.istore 6, 2) := by decide +kernel
theorem d_Cb_106 : decode b_Cb 106 = .ok (.goto 9, 3) := by decide +kernel
theorem d_Cb_109 : decode b_Cb 109 = .ok (.iload 7, 2) := by decide +kernel
theorem d_Cb_111 : decode b_Cb 111 = .ok (.iconst 1, 1) := by decide +kernel
theorem d_Cb_112 : decode b_Cb 112 = .ok (.iadd, 1) := by decide +kernel
theorem d_Cb_113 : decode b_Cb 113 = .ok (.istore 5, 2) := by decide +kernel
theorem d_Cb_115 : decode b_Cb 115 = .ok (.goto (-43), 3) := by decide +kernel
theorem d_Cb_118 : decode b_Cb 118 = .ok (.getstatic 37, 3) := by decide +kernel
theorem d_Cb_121 : decode b_Cb 121 = .ok (.ifCond .ne 18, 3) := by decide +kernel
theorem d_Cb_139 : decode b_Cb 139 = .ok (.iload_n 3, 1) := by decide +kernel
theorem d_Cb_140 : decode b_Cb 140 = .ok (.iload 5, 2) := by decide +kernel
theorem d_Cb_142 : decode b_Cb 142 = .ok (.isub, 1) := by decide +kernel
theorem d_Cb_143 : decode b_Cb 143 = .ok (.istore 7, 2) := by decide +kernel
theorem d_Cb_145 : decode b_Cb 145 = .ok (.iload 7, 2) := by decide +kernel
theorem d_Cb_147 : decode b_Cb 147 = .ok (.lookupswitch 50 #[(1, 37), (2, 25)], 25) := by decide +kernel
theorem d_Cb_172 : decode b_Cb 172 = .ok (.aload_n 0, 1) := by decide +kernel
theorem d_Cb_173 : decode b_Cb 173 = .ok (.iload 5, 2) := by decide +kernel
theorem d_Cb_175 : decode b_Cb 175 = .ok (.iconst 2, 1) := by decide +kernel
theorem d_Cb_176 : decode b_Cb 176 = .ok (.iadd, 1) := by decide +kernel
theorem d_Cb_177 : decode b_Cb 177 = .ok (.aload_n 0, 1) := by decide +kernel
theorem d_Cb_178 : decode b_Cb 178 = .ok (.iload 5, 2) := by decide +kernel
theorem d_Cb_180 : decode b_Cb 180 = .ok (.iconst 1, 1) := by decide +kernel
theorem d_Cb_181 : decode b_Cb 181 = .ok (.iadd, 1) := by decide +kernel
theorem d_Cb_182 : decode b_Cb 182 = .ok (.aaload, 1) := by decide +kernel
theorem d_Cb_183 : decode b_Cb 183 = .ok (.aastore, 1) := by decide +kernel
theorem d_Cb_184 : decode b_Cb 184 = .ok (.aload_n 0, 1) := by decide +kernel
theorem d_Cb_185 : decode b_Cb 185 = .ok (.iload 5, 2) := by decide +kernel
theorem d_Cb_187 : decode b_Cb 187 = .ok (.iconst 1, 1) := by decide +kernel
theorem d_Cb_188 : decode b_Cb 188 = .ok (.iadd, 1) := by decide +kernel
theorem d_Cb_189 : decode b_Cb 189 = .ok (.aload_n 0, 1) := by decide +kernel
theorem d_Cb_190 : decode b_Cb 190 = .ok (.iload 5, 2) := by decide +kernel
theorem d_Cb_192 : decode b_Cb 192 = .ok (.aaload, 1) := by decide +kernel
theorem d_Cb_193 : decode b_Cb 193 = .ok (.aastore, 1) := by decide +kernel
theorem d_Cb_194 : decode b_Cb 194 = .ok (.goto 16, 3) := by decide +kernel
theorem d_Cb_197 : decode b_Cb 197 = .ok (.aload_n 0, 1) := by decide +kernel
theorem d_Cb_198 : decode b_Cb 198 = .ok (.iload 5, 2) := by decide +kernel
theorem d_Cb_200 : decode b_Cb 200 = .ok (.aload_n 0, 1) := by decide +kernel
theorem d_Cb_201 : decode b_Cb 201 = .ok (.iload 5, 2) := by decide +kernel
theorem d_Cb_203 : decode b_Cb 203 = .ok (.iconst 1, 1) := by decide +kernel
theorem d_Cb_204 : decode b_Cb 204 = .ok (.iadd, 1) := by decide +kernel
theorem d_Cb_205 : decode b_Cb 205 = .ok (.iload 7, 2) := by decide +kernel
theorem d_Cb_207 : decode b_Cb 207 = .ok (.invokestatic 75, 3) := by decide +kernel
theorem d_Cb_210 : decode b_Cb 210 = .ok (.aload_n 0, 1) := by decide +kernel
theorem d_Cb_211 : decode b_Cb 211 = .ok (.iload 5, 2) := by decide +kernel
theorem d_Cb_213 : decode b_Cb 213 = .ok (.aload 4, 2) := by decide +kernel
theorem d_Cb_215 : decode b_Cb 215 = .ok (.aastore, 1) := by decide +kernel
theorem d_Cb_216 : decode b_Cb 216 = .ok (.iinc 3 1, 3) := by decide +kernel
theorem d_Cb_219 : decode b_Cb 219 = .ok (.goto (-187), 3) := by decide +kernel
theorem d_Cb_222 : decode b_Cb 222 = .ok (.return_, 1) := by decide +kernel
abbrev rm_Cb : Room := { frames := 2, cells := 0, slots := 0, locals := 42 }
def Pcb (K : KD) (a n lo hi : Nat) (f : Nat → Option Nat) (wt : Nat → Int32) : Heap → Option Value → Heap → Prop := fun H v H' => ∃ (f' : Nat → Option Nat), v = none ∧ H' = H.setIfInBounds a (RA (cM_ K) n f') ∧ (∀ x, (x < lo ∨ hi ≤ x) → f' x = f x) ∧ Srt (kw wt) f' lo (hi - lo) ∧ Eqv (kw wt) (sg f' lo (hi - lo)) (sg f lo (hi - lo))
set_option maxHeartbeats 4000000 in
theorem ct_Cb (l : Launch) (K : KD) (a n lo hi st : Nat) (f : Nat → Option Nat) (M : Nat → Prop) (wt nm : Nat → Int32) (hn : n < 1000000) (hls : lo ≤ st) (hsh : st ≤ hi) (hlh : lo < hi) (hhn : hi ≤ n) (hN : N0 K ≤ a) (hMa : ¬ M a) (hF : Full M f 0 n) (hst : Srt (kw wt) f lo (st - lo)) :
    CT l K y_Cb c_Cb rm_Cb [.ref a, .int (zI lo), .int (zI hi), .int (zI st)] (fun H => H[a]? = some (RA (cM_ K) n f) ∧ MS K M wt nm H) (Pcb K a n lo hi f wt) := by
  refine z_met (by decide) (Nat.le_of_ble_eq_true rfl) ?_
  intro p e s m below meth c ls S hr hlk hnm hG hP hl
  obtain ⟨ha, hM⟩ := hP
  have hl : lv_has ls 8 [(0, .ref a), (1, .int (zI lo)), (2, .int (zI hi)), (3, .int (zI st))] := hl
  have ha' : ∀ g, (s.heap.setIfInBounds a (RA (cM_ K) n g))[a]? = some (RA (cM_ K) n g) := fun g => set_at ha
  have hM' : ∀ g, MS K M wt nm (s.heap.setIfInBounds a (RA (cM_ K) n g)) := fun g => hM.set hMa
  have hk' : ∀ g, Keep (N0 K) s.heap (s.heap.setIfInBounds a (RA (cM_ K) n g)) := fun g => Keep.rf.set hN
  generalize hQ : MQ below (QH (Pcb K a n lo hi f wt)) [Value.ref a, .int (zI lo), .int (zI hi), .int (zI st)].toArray s rm_Cb.cells rm_Cb.slots (fun q => N0 K ≤ q) = Q
  have loop : ∀ (k t : Nat) (g : Nat → Option Nat) (ls : Array Slot) (locs : List Loc), hi - t < k → lo ≤ t → t ≤ hi → (∀ x, (x < lo ∨ t ≤ x) → g x = f x) → Srt (kw wt) g lo (t - lo) → Eqv (kw wt) (sg g lo (t - lo)) (sg f lo (t - lo)) → Full M g 0 n → LO (N0 K) locs → lv_has ls 8 [(3, .int (zI t)), (0, .ref a), (1, .int (zI lo)), (2, .int (zI hi))] →
      W p l e rm_Cb s m [Value.ref a, .int (zI lo), .int (zI hi), .int (zI st)].toArray below meth c (s.heap.setIfInBounds a (RA (cM_ K) n g)) locs 0 0 Q (F0 m 32 ls []) := by
    intro k
    induction k with
    | zero => intro t g ls locs h; omega
    | succ k ih =>
      intro t g ls locs hk h1 h2 hg hs hE hFg hlo hl
      refine z_iload_n S rfl (lv_at hl 0 rfl) d_Cb_32 ?_
      refine z_iload_n S rfl (lv_at hl 3 rfl) d_Cb_33 ?_
      refine z_icmp_ge (tgt := 222) S (by decide) (by omega) (by omega) d_Cb_34 ?_ ?_
      · intro hc
        have et : t = hi := by omega
        subst et
        subst hQ
        exact z_vret S hr hlk hlo ⟨g, rfl, rfl, hg, hs, hE⟩ d_Cb_222
      · intro hc
        obtain ⟨yp, ep, mp⟩ := hFg t (by omega) (by omega)
        -- behind the insertion
        have fin : ∀ (L : Nat) (ls : Array Slot) (locs : List Loc), lo ≤ L → L ≤ t → (∀ j, lo ≤ j → j < L → kw wt (g j) ≤ kw wt (g t)) → (∀ j, L ≤ j → j < t → kw wt (g t) < kw wt (g j)) → LO (N0 K) locs → lv_has ls 8 [(3, .int (zI t)), (0, .ref a), (1, .int (zI lo)), (2, .int (zI hi))] → W p l e rm_Cb s m [Value.ref a, .int (zI lo), .int (zI hi), .int (zI st)].toArray below meth c (s.heap.setIfInBounds a (RA (cM_ K) n (insF g L t))) locs 0 0 Q (F0 m 216 ls []) := by
          intro L ls locs hL1 hL2 hleft hright hlo hl
          refine z_iinc (lv' := [(3, .int (zI (t + 1))), (0, .ref a), (1, .int (zI lo)), (2, .int (zI hi))]) (q := 0) S hl rfl rfl (by decide) d_Cb_216 (fun ls hl => ?_)
          refine z_goto (tgt := 32) S (by decide) d_Cb_219 ?_
          have hl : lv_has ls 8 [(3, .int (zI (t + 1))), (0, .ref a), (1, .int (zI lo)), (2, .int (zI hi))] := lv_sub hl [0, 1, 2, 3] rfl
          obtain ⟨q1, q2⟩ := ins_ok (k := kw wt) (f := g) hL1 hL2 hs hleft hright
          refine ih (t + 1) _ ls locs (by omega) (by omega) (by omega) ?_ q1 ?_ ?_ hlo hl
          · intro x hx
            unfold insF
            rw [if_neg (by omega), if_neg (by omega)]
            exact hg x (by omega)
          · refine q2.tr ?_
            rw [show t + 1 - lo = (t - lo) + 1 by omega, sg_snoc, sg_snoc, show lo + (t - lo) = t by omega, hg t (by omega)]
            exact hE.app Eqv.rf
          · intro j _ hj2
            unfold insF
            by_cases e1 : j = L
            · rw [if_pos e1]; exact hFg t (by omega) (by omega)
            · rw [if_neg e1]
              by_cases e2 : L < j ∧ j ≤ t
              · rw [if_pos e2]; exact hFg (j - 1) (by omega) (by omega)
              · rw [if_neg e2]; exact hFg j (by omega) (by omega)
        -- the binary search
        have bs : ∀ (k L r : Nat) (ls : Array Slot) (locs : List Loc), r - L < k → lo ≤ L → L ≤ r → r ≤ t → (∀ j, lo ≤ j → j < L → kw wt (g j) ≤ kw wt (g t)) → (∀ j, r ≤ j → j < t → kw wt (g t) < kw wt (g j)) → LO (N0 K) locs → lv_has ls 8 [(6, .int (zI r)), (5, .int (zI L)), (4, .ref yp), (3, .int (zI t)), (0, .ref a), (1, .int (zI lo)), (2, .int (zI hi))] → W p l e rm_Cb s m [Value.ref a, .int (zI lo), .int (zI hi), .int (zI st)].toArray below meth c (s.heap.setIfInBounds a (RA (cM_ K) n g)) locs 0 0 Q (F0 m 72 ls []) := by
          intro k
          induction k with
          | zero => intro L r ls locs h; omega
          | succ k ih2 =>
            intro L r ls locs hk2 g1 g2 g3 hleft hright hlo hl
            refine z_iload S (lv_at hl 1 rfl) d_Cb_72 ?_
            refine z_iload S (lv_at hl 0 rfl) d_Cb_74 ?_
            refine z_icmp_ge (tgt := 118) S (by decide) (by omega) (by omega) d_Cb_76 ?_ ?_
            · intro hc2
              have eLr : L = r := by omega
              subst eLr
              have hl : lv_has ls 8 [(6, .int (zI L)), (5, .int (zI L)), (4, .ref yp), (3, .int (zI t)), (0, .ref a), (1, .int (zI lo)), (2, .int (zI hi))] := lv_sub hl [0, 1, 2, 3, 4, 5, 6] rfl
              refine z_asrt (tgt := 139) S hG (hk' g) tw_asrt (by decide) d_Cb_118 d_Cb_121 ?_
              refine z_iload_n S rfl (lv_at hl 3 rfl) d_Cb_139 ?_
              refine z_iload S (lv_at hl 1 rfl) d_Cb_140 ?_
              refine z_isub S d_Cb_142 ?_
              refine z_istore (lv' := [(7, .int (zI (t - L))), (6, .int (zI L)), (5, .int (zI L)), (4, .ref yp), (3, .int (zI t)), (0, .ref a), (1, .int (zI lo)), (2, .int (zI hi))]) S hl rfl (by decide) d_Cb_143 (fun ls hl => ?_)
              refine z_iload S (lv_at hl 0 rfl) d_Cb_145 ?_
              have hl : lv_has ls 8 [(7, .int (zI ((t - L : Nat) : Int))), (6, .int (zI L)), (5, .int (zI L)), (4, .ref yp), (3, .int (zI t)), (0, .ref a), (1, .int (zI lo)), (2, .int (zI hi))] := by rw [show ((t - L : Nat) : Int) = (t - L) by omega]; exact hl
              by_cases n1 : t - L = 1
              · refine lv_lookup (off := 37) (tgt := 184) S.1 S.2.1 d_Cb_147 (by decide) (by rw [zI_toInt (by omega), show (t : Int) - L = 1 by omega]; rfl) (by decide) ?_
                have et : t = L + 1 := by omega
                obtain ⟨y0, e0, m0⟩ := hFg L (by omega) (by omega)
                refine z_aload_n S rfl (lv_at hl 5 rfl) d_Cb_184 ?_
                refine z_iload S (lv_at hl 2 rfl) d_Cb_185 ?_
                refine z_iconst S d_Cb_187 ?_
                refine z_iadd S d_Cb_188 ?_
                refine z_aload_n S rfl (lv_at hl 5 rfl) d_Cb_189 ?_
                refine z_iload S (lv_at hl 2 rfl) d_Cb_190 ?_
                refine n_aald L S hG.M (ha' g) (by omega) rfl (by omega) e0 d_Cb_192 ?_
                refine n_aast (L + 1) S hG.M (ha' g) hlo hN (by omega) ((hM' g y0 m0).anyM hG) (by omega) (by omega) d_Cb_193 (fun locs hlo => ?_)
                rw [set_set]
                refine z_goto (tgt := 210) S (by decide) d_Cb_194 ?_
                refine z_aload_n S rfl (lv_at hl 5 rfl) d_Cb_210 ?_
                refine z_iload S (lv_at hl 2 rfl) d_Cb_211 ?_
                refine z_aload S (lv_at hl 3 rfl) d_Cb_213 ?_
                refine n_aast L S hG.M (ha' _) hlo hN (by omega) ((hM' _ yp mp).anyM hG) rfl (by omega) d_Cb_215 (fun locs hlo => ?_)
                rw [set_set, ins_1 e0 (by rw [← et]; exact ep), ← et]
                have hl : lv_has ls 8 [(3, .int (zI t)), (0, .ref a), (1, .int (zI lo)), (2, .int (zI hi))] := lv_sub hl [4, 5, 6, 7] rfl
                exact fin L ls locs g1 (by omega) hleft hright hlo hl
              · by_cases n2 : t - L = 2
                · refine lv_lookup (off := 25) (tgt := 172) S.1 S.2.1 d_Cb_147 (by decide) (by rw [zI_toInt (by omega), show (t : Int) - L = 2 by omega]; rfl) (by decide) ?_
                  have et : t = L + 2 := by omega
                  obtain ⟨y0, e0, m0⟩ := hFg L (by omega) (by omega)
                  obtain ⟨y1, e1, m1⟩ := hFg (L + 1) (by omega) (by omega)
                  refine z_aload_n S rfl (lv_at hl 5 rfl) d_Cb_172 ?_
                  refine z_iload S (lv_at hl 2 rfl) d_Cb_173 ?_
                  refine z_iconst S d_Cb_175 ?_
                  refine z_iadd S d_Cb_176 ?_
                  refine z_aload_n S rfl (lv_at hl 5 rfl) d_Cb_177 ?_
                  refine z_iload S (lv_at hl 2 rfl) d_Cb_178 ?_
                  refine z_iconst S d_Cb_180 ?_
                  refine z_iadd S d_Cb_181 ?_
                  refine n_aald (L + 1) S hG.M (ha' g) (by omega) (by omega) (by omega) e1 d_Cb_182 ?_
                  refine n_aast (L + 2) S hG.M (ha' g) hlo hN (by omega) ((hM' g y1 m1).anyM hG) (by omega) (by omega) d_Cb_183 (fun locs hlo => ?_)
                  rw [set_set]
                  refine z_aload_n S rfl (lv_at hl 5 rfl) d_Cb_184 ?_
                  refine z_iload S (lv_at hl 2 rfl) d_Cb_185 ?_
                  refine z_iconst S d_Cb_187 ?_
                  refine z_iadd S d_Cb_188 ?_
                  refine z_aload_n S rfl (lv_at hl 5 rfl) d_Cb_189 ?_
                  refine z_iload S (lv_at hl 2 rfl) d_Cb_190 ?_
                  refine n_aald L S hG.M (ha' _) (by omega) rfl (by omega) (by rw [va_up_ne _ _ (by omega)]; exact e0) d_Cb_192 ?_
                  refine n_aast (L + 1) S hG.M (ha' _) hlo hN (by omega) ((hM' _ y0 m0).anyM hG) (by omega) (by omega) d_Cb_193 (fun locs hlo => ?_)
                  rw [set_set]
                  refine z_goto (tgt := 210) S (by decide) d_Cb_194 ?_
                  refine z_aload_n S rfl (lv_at hl 5 rfl) d_Cb_210 ?_
                  refine z_iload S (lv_at hl 2 rfl) d_Cb_211 ?_
                  refine z_aload S (lv_at hl 3 rfl) d_Cb_213 ?_
                  refine n_aast L S hG.M (ha' _) hlo hN (by omega) ((hM' _ yp mp).anyM hG) rfl (by omega) d_Cb_215 (fun locs hlo => ?_)
                  rw [set_set, ins_2 e0 e1 (by rw [← et]; exact ep), ← et]
                  have hl : lv_has ls 8 [(3, .int (zI t)), (0, .ref a), (1, .int (zI lo)), (2, .int (zI hi))] := lv_sub hl [4, 5, 6, 7] rfl
                  exact fin L ls locs g1 (by omega) hleft hright hlo hl
                · refine lv_lookup (off := 50) (tgt := 197) S.1 S.2.1 d_Cb_147 (by decide) (by rw [zI_toInt (by omega), Op.lookupswitch.offset_cons, if_neg (by omega), Op.lookupswitch.offset_cons, if_neg (by omega)]; rfl) (by decide) ?_
                  refine z_aload_n S rfl (lv_at hl 5 rfl) d_Cb_197 ?_
                  refine z_iload S (lv_at hl 2 rfl) d_Cb_198 ?_
                  refine z_aload_n S rfl (lv_at hl 5 rfl) d_Cb_200 ?_
                  refine z_iload S (lv_at hl 2 rfl) d_Cb_201 ?_
                  refine z_iconst S d_Cb_203 ?_
                  refine z_iadd S d_Cb_204 ?_
                  refine z_iload S (lv_at hl 0 rfl) d_Cb_205 ?_
                  refine n_copy L (L + 1) (t - L) S hG.M hG.M (ha' g) (ha' g) hlo hN (by omega) (by omega) rfl (by omega) (by omega) (by omega) (by omega) (fun j j1 j2 => by obtain ⟨y, e1, m1⟩ := hFg j (by omega) (by omega); exact ⟨y, e1, (hM' g y m1).anyM hG⟩) (by decide) hl (by decide) d_Cb_207 (fun locs hlo => ?_)
                  rw [set_set]
                  refine z_aload_n S rfl (lv_at hl 5 rfl) d_Cb_210 ?_
                  refine z_iload S (lv_at hl 2 rfl) d_Cb_211 ?_
                  refine z_aload S (lv_at hl 3 rfl) d_Cb_213 ?_
                  refine n_aast L S hG.M (ha' _) hlo hN (by omega) ((hM' _ yp mp).anyM hG) rfl (by omega) d_Cb_215 (fun locs hlo => ?_)
                  rw [set_set, ins_n (by omega) ep]
                  have hl : lv_has ls 8 [(3, .int (zI t)), (0, .ref a), (1, .int (zI lo)), (2, .int (zI hi))] := lv_sub hl [4, 5, 6, 7] rfl
                  exact fin L ls locs g1 (by omega) hleft hright hlo hl
            · intro hc2
              refine z_iload S (lv_at hl 1 rfl) d_Cb_79 ?_
              refine z_iload S (lv_at hl 0 rfl) d_Cb_81 ?_
              refine z_iadd S d_Cb_83 ?_
              refine z_iconst S d_Cb_84 ?_
              refine z_iushr1 S (by omega) (by omega) d_Cb_85 ?_
              refine z_top (b := ((((L + r) / 2 : Nat)) : Int)) (by omega) ?_
              refine z_istore (lv' := [(7, .int (zI ((((L + r) / 2 : Nat)) : Int))), (6, .int (zI r)), (5, .int (zI L)), (4, .ref yp), (3, .int (zI t)), (0, .ref a), (1, .int (zI lo)), (2, .int (zI hi))]) S hl rfl (by decide) d_Cb_86 (fun ls hl => ?_)
              refine z_aload S (lv_at hl 3 rfl) d_Cb_88 ?_
              refine z_aload_n S rfl (lv_at hl 5 rfl) d_Cb_90 ?_
              refine z_iload S (lv_at hl 0 rfl) d_Cb_91 ?_
              obtain ⟨y0, e0, m0⟩ := hFg ((L + r) / 2) (by omega) (by omega)
              refine n_aald ((L + r) / 2) S hG.M (ha' g) (by omega) rfl (by omega) e0 d_Cb_93 ?_
              refine z_cmp S hG (hk' g) hlo (hM' g yp mp) (hM' g y0 m0) (by decide) (by decide) hl (by decide) d_Cb_94 (fun locs hlo => ?_)
              refine z_if_ge (tgt := 109) S (by decide) cmpI_in d_Cb_99 ?_ ?_
              · intro hc3
                rw [cmpI_ge] at hc3
                refine z_iload S (lv_at hl 0 rfl) d_Cb_109 ?_
                refine z_iconst S d_Cb_111 ?_
                refine z_iadd S d_Cb_112 ?_
                refine z_istore (lv' := [(5, .int (zI (((((L + r) / 2 : Nat)) : Int) + 1))), (7, .int (zI ((((L + r) / 2 : Nat)) : Int))), (6, .int (zI r)), (4, .ref yp), (3, .int (zI t)), (0, .ref a), (1, .int (zI lo)), (2, .int (zI hi))]) S hl rfl (by decide) d_Cb_113 (fun ls hl => ?_)
                refine z_goto (tgt := 72) S (by decide) d_Cb_115 ?_
                have hl : lv_has ls 8 [(6, .int (zI r)), (5, .int (zI ((((L + r) / 2 : Nat)) + 1))), (4, .ref yp), (3, .int (zI t)), (0, .ref a), (1, .int (zI lo)), (2, .int (zI hi))] := lv_sub hl [2, 0, 3, 4, 5, 6, 7] rfl
                refine ih2 ((L + r) / 2 + 1) r ls locs (by omega) (by omega) (by omega) (by omega) ?_ hright hlo hl
                intro j j1 j2
                have h9 := hs.le (a := j) (b := (L + r) / 2) j1 (by omega) (by omega)
                rw [kw_some e0] at h9
                rw [kw_some ep]
                omega
              · intro hc3
                rw [cmpI_lt] at hc3
                refine z_iload S (lv_at hl 0 rfl) d_Cb_102 ?_
                refine z_istore (lv' := [(6, .int (zI ((((L + r) / 2 : Nat)) : Int))), (7, .int (zI ((((L + r) / 2 : Nat)) : Int))), (5, .int (zI L)), (4, .ref yp), (3, .int (zI t)), (0, .ref a), (1, .int (zI lo)), (2, .int (zI hi))]) S hl rfl (by decide) d_Cb_104 (fun ls hl => ?_)
                refine z_goto (tgt := 115) S (by decide) d_Cb_106 ?_
                refine z_goto (tgt := 72) S (by decide) d_Cb_115 ?_
                have hl : lv_has ls 8 [(6, .int (zI (((L + r) / 2 : Nat)))), (5, .int (zI L)), (4, .ref yp), (3, .int (zI t)), (0, .ref a), (1, .int (zI lo)), (2, .int (zI hi))] := lv_sub hl [0, 2, 3, 4, 5, 6, 7] rfl
                refine ih2 L ((L + r) / 2) ls locs (by omega) (by omega) (by omega) (by omega) hleft ?_ hlo hl
                intro j j1 j2
                have h9 := hs.le (a := (L + r) / 2) (b := j) (by omega) j1 (by omega)
                rw [kw_some e0] at h9
                rw [kw_some ep]
                omega
        refine z_aload_n S rfl (lv_at hl 1 rfl) d_Cb_37 ?_
        refine z_iload_n S rfl (lv_at hl 0 rfl) d_Cb_38 ?_
        refine n_aald t S hG.M (ha' g) (by omega) rfl (by omega) ep d_Cb_39 ?_
        refine z_cast S hG (hM' g yp mp) tcl_C69 d_Cb_40 ?_
        refine z_astore (lv' := [(4, .ref yp), (3, .int (zI t)), (0, .ref a), (1, .int (zI lo)), (2, .int (zI hi))]) S hl rfl (by decide) d_Cb_43 (fun ls hl => ?_)
        refine z_iload_n S rfl (lv_at hl 3 rfl) d_Cb_45 ?_
        refine z_istore (lv' := [(5, .int (zI lo)), (4, .ref yp), (3, .int (zI t)), (0, .ref a), (1, .int (zI lo)), (2, .int (zI hi))]) S hl rfl (by decide) d_Cb_46 (fun ls hl => ?_)
        refine z_iload_n S rfl (lv_at hl 2 rfl) d_Cb_48 ?_
        refine z_istore (lv' := [(6, .int (zI t)), (5, .int (zI lo)), (4, .ref yp), (3, .int (zI t)), (0, .ref a), (1, .int (zI lo)), (2, .int (zI hi))]) S hl rfl (by decide) d_Cb_49 (fun ls hl => ?_)
        refine z_asrt (tgt := 72) S hG (hk' g) tw_asrt (by decide) d_Cb_51 d_Cb_54 ?_
        exact bs (t + 1) lo t ls locs (by omega) (by omega) (by omega) (by omega) (fun j j1 j2 => by omega) (fun j j1 j2 => by omega) hlo hl
  refine z_asrt (tgt := 24) S hG Keep.rf tw_asrt (by decide) d_Cb_0 d_Cb_3 ?_
  refine z_iload_n S rfl (lv_at hl 3 rfl) d_Cb_24 ?_
  refine z_iload_n S rfl (lv_at hl 1 rfl) d_Cb_25 ?_
  refine z_icmp_ne (tgt := 32) S (by decide) (by omega) (by omega) d_Cb_26 ?_ ?_
  · intro hc
    have h0 := loop (hi + 1) st f ls [] (by omega) (by omega) (by omega) (fun _ _ => rfl) hst Eqv.rf hF LO.nil (lv_sub hl [3, 0, 1, 2] rfl)
    rw [set_self ha] at h0
    exact h0
  · intro hc
    refine z_iinc (lv' := [(3, .int (zI (st + 1))), (0, .ref a), (1, .int (zI lo)), (2, .int (zI hi))]) (q := 3) S hl rfl rfl (by decide) d_Cb_29 (fun ls hl => ?_)
    have hl : lv_has ls 8 [(3, .int (zI (st + 1))), (0, .ref a), (1, .int (zI lo)), (2, .int (zI hi))] := lv_sub hl [0, 1, 2, 3] rfl
    have h0 := loop (hi + 1) (st + 1) f ls [] (by omega) (by omega) (by omega) (fun _ _ => rfl) (Srt.small (by omega)) Eqv.rf hF LO.nil hl
    rw [set_self ha] at h0
    exact h0
end
section
/-! gallopLeft -/
set_option maxRecDepth 100000
/-- the row's own array (false: marks) or the help array (true: objects) -/
def AC (K : KD) (b : Bool) : ClassId := match b with
  | true => cO_ K
  | false => cM_ K
def AN (b : Bool) : String := match b with
  | true => "java/lang/Object"
  | false => "TimDrill$Mark"
theorem GN.A {K : KD} {U : State} (h : GN K U) (b : Bool) : AK U (AC K b) (.object (AN b)) := by
  cases b
  · exact h.M
  · exact h.O
theorem d_Gl_0 : decode b_Gl 0 = .ok (.getstatic 37, 3) := by decide +kernel
theorem d_Gl_3 : decode b_Gl 3 = .ok (.ifCond .ne 26, 3) := by decide +kernel
theorem d_Gl_29 : decode b_Gl 29 = .ok (.iconst 0, 1) := by decide +kernel
theorem d_Gl_30 : decode b_Gl 30 = .ok (.istore 5, 2) := by decide +kernel
theorem d_Gl_32 : decode b_Gl 32 = .ok (.iconst 1, 1) := by decide +kernel
theorem d_Gl_33 : decode b_Gl 33 = .ok (.istore 6, 2) := by decide +kernel
theorem d_Gl_35 : decode b_Gl 35 = .ok (.aload_n 0, 1) := by decide +kernel
theorem d_Gl_36 : decode b_Gl 36 = .ok (.aload_n 1, 1) := by decide +kernel
theorem d_Gl_37 : decode b_Gl 37 = .ok (.iload_n 2, 1) := by decide +kernel
theorem d_Gl_38 : decode b_Gl 38 = .ok (.iload 4, 2) := by decide +kernel
theorem d_Gl_40 : decode b_Gl 40 = .ok (.iadd, 1) := by decide +kernel
theorem d_Gl_41 : decode b_Gl 41 = .ok (.aaload, 1) := by decide +kernel
theorem d_Gl_42 : decode b_Gl 42 = .ok (.invokeinterface 71 2, 5) := by decide +kernel
theorem d_Gl_47 : decode b_Gl 47 = .ok (.ifCond .le 86, 3) := by decide +kernel
theorem d_Gl_50 : decode b_Gl 50 = .ok (.iload_n 3, 1) := by decide +kernel
theorem d_Gl_51 : decode b_Gl 51 = .ok (.iload 4, 2) := by decide +kernel
theorem d_Gl_53 : decode b_Gl 53 = .ok (.isub, 1) := by decide +kernel
theorem d_Gl_54 : decode b_Gl 54 = .ok (.istore 7, 2) := by decide +kernel
theorem d_Gl_56 : decode b_Gl 56 = .ok (.iload 6, 2) := by decide +kernel
theorem d_Gl_58 : decode b_Gl 58 = .ok (.iload 7, 2) := by decide +kernel
theorem d_Gl_60 : decode b_Gl 60 = .ok (.if_icmp .ge 45, 3) := by decide +kernel
theorem d_Gl_63 : decode b_Gl 63 = .ok (.aload_n 0, 1) := by decide +kernel
theorem d_Gl_64 : decode b_Gl 64 = .ok (.aload_n 1, 1) := by decide +kernel
theorem d_Gl_65 : decode b_Gl 65 = .ok (.iload_n 2, 1) := by decide +kernel
theorem d_Gl_66 : decode b_Gl 66 = .ok (.iload 4, 2) := by decide +kernel
theorem d_Gl_68 : decode b_Gl 68 = .ok (.iadd, 1) := by decide +kernel
theorem d_Gl_69 : decode b_Gl 69 = .ok (.iload 6, 2) := by decide +kernel
theorem d_Gl_71 : decode b_Gl 71 = .ok (.iadd, 1) := by decide +kernel
theorem d_Gl_72 : decode b_Gl 72 = .ok (.aaload, 1) := by decide +kernel
theorem d_Gl_73 : decode b_Gl 73 = .ok (.invokeinterface 71 2, 5) := by decide +kernel
theorem d_Gl_78 : decode b_Gl 78 = .ok (.ifCond .le 27, 3) := by decide +kernel
theorem d_Gl_81 : decode b_Gl 81 = .ok (.iload 6, 2) := by decide +kernel
theorem d_Gl_83 : decode b_Gl 83 = .ok (.istore 5, 2) := by decide +kernel
theorem d_Gl_85 : decode b_Gl 85 = .ok (.iload 6, 2) := by decide +kernel
theorem d_Gl_87 : decode b_Gl 87 = .ok (.iconst 1, 1) := by decide +kernel
theorem d_Gl_88 : decode b_Gl 88 = .ok (.ishl, 1) := by decide +kernel
theorem d_Gl_89 : decode b_Gl 89 = .ok (.iconst 1, 1) := by decide +kernel
theorem d_Gl_90 : decode b_Gl 90 = .ok (.iadd, 1) := by decide +kernel
theorem d_Gl_91 : decode b_Gl 91 = .ok (.istore 6, 2) := by decide +kernel
theorem d_Gl_93 : decode b_Gl 93 = .ok (.iload 6, 2) := by decide +kernel
theorem d_Gl_95 : decode b_Gl 95 = .ok (.ifCond .gt (-39), 3) := by decide +kernel
theorem d_Gl_105 : decode b_Gl 105 = .ok (.iload 6, 2) := by decide +kernel
theorem d_Gl_107 : decode b_Gl 107 = .ok (.iload 7, 2) := by decide +kernel
theorem d_Gl_109 : decode b_Gl 109 = .ok (.if_icmp .le 7, 3) := by decide +kernel
theorem d_Gl_112 : decode b_Gl 112 = .ok (.iload 7, 2) := by decide +kernel
theorem d_Gl_114 : decode b_Gl 114 = .ok (.istore 6, 2) := by decide +kernel
theorem d_Gl_116 : decode b_Gl 116 = .ok (.iload 5, 2) := by decide +kernel
theorem d_Gl_118 : decode b_Gl 118 = .ok (.iload 4, 2) := by decide +kernel
theorem d_Gl_120 : decode b_Gl 120 = .ok (.iadd, 1) := by decide +kernel
theorem d_Gl_121 : decode b_Gl 121 = .ok (.istore 5, 2) := by decide +kernel
theorem d_Gl_123 : decode b_Gl 123 = .ok (.iload 6, 2) := by decide +kernel
theorem d_Gl_125 : decode b_Gl 125 = .ok (.iload 4, 2) := by decide +kernel
theorem d_Gl_127 : decode b_Gl 127 = .ok (.iadd, 1) := by decide +kernel
theorem d_Gl_128 : decode b_Gl 128 = .ok (.istore 6, 2) := by decide +kernel
theorem d_Gl_130 : decode b_Gl 130 = .ok (.goto 87, 3) := by decide +kernel
theorem d_Gl_133 : decode b_Gl 133 = .ok (.iload 4, 2) := by decide +kernel
theorem d_Gl_135 : decode b_Gl 135 = .ok (.iconst 1, 1) := by decide +kernel
theorem d_Gl_136 : decode b_Gl 136 = .ok (.iadd, 1) := by decide +kernel
theorem d_Gl_137 : decode b_Gl 137 = .ok (.istore 7, 2) := by decide +kernel
theorem d_Gl_139 : decode b_Gl 139 = .ok (.iload 6, 2) := by decide +kernel
theorem d_Gl_141 : decode b_Gl 141 = .ok (.iload 7, 2) := by decide +kernel
theorem d_Gl_143 : decode b_Gl 143 = .ok (.if_icmp .ge 45, 3) := by decide +kernel
theorem d_Gl_146 : decode b_Gl 146 = .ok (.aload_n 0, 1) := by decide +kernel
theorem d_Gl_147 : decode b_Gl 147 = .ok (.aload_n 1, 1) := by decide +kernel
theorem d_Gl_148 : decode b_Gl 148 = .ok (.iload_n 2, 1) := by decide +kernel
theorem d_Gl_149 : decode b_Gl 149 = .ok (.iload 4, 2) := by decide +kernel
theorem d_Gl_151 : decode b_Gl 151 = .ok (.iadd, 1) := by decide +kernel
theorem d_Gl_152 : decode b_Gl 152 = .ok (.iload 6, 2) := by decide +kernel
theorem d_Gl_154 : decode b_Gl 154 = .ok (.isub, 1) := by decide +kernel
theorem d_Gl_155 : decode b_Gl 155 = .ok (.aaload, 1) := by decide +kernel
theorem d_Gl_156 : decode b_Gl 156 = .ok (.invokeinterface 71 2, 5) := by decide +kernel
theorem d_Gl_161 : decode b_Gl 161 = .ok (.ifCond .gt 27, 3) := by decide +kernel
theorem d_Gl_164 : decode b_Gl 164 = .ok (.iload 6, 2) := by decide +kernel
theorem d_Gl_166 : decode b_Gl 166 = .ok (.istore 5, 2) := by decide +kernel
theorem d_Gl_168 : decode b_Gl 168 = .ok (.iload 6, 2) := by decide +kernel
theorem d_Gl_170 : decode b_Gl 170 = .ok (.iconst 1, 1) := by decide +kernel
theorem d_Gl_171 : decode b_Gl 171 = .ok (.ishl, 1) := by decide +kernel
theorem d_Gl_172 : decode b_Gl 172 = .ok (.iconst 1, 1) := by decide +kernel
theorem d_Gl_173 : decode b_Gl 173 = .ok (.iadd, 1) := by decide +kernel
theorem d_Gl_174 : decode b_Gl 174 = .ok (.istore 6, 2) := by decide +kernel
theorem d_Gl_176 : decode b_Gl 176 = .ok (.iload 6, 2) := by decide +kernel
theorem d_Gl_178 : decode b_Gl 178 = .ok (.ifCond .gt (-39), 3) := by decide +kernel
theorem d_Gl_188 : decode b_Gl 188 = .ok (.iload 6, 2) := by decide +kernel
theorem d_Gl_190 : decode b_Gl 190 = .ok (.iload 7, 2) := by decide +kernel
theorem d_Gl_192 : decode b_Gl 192 = .ok (.if_icmp .le 7, 3) := by decide +kernel
theorem d_Gl_195 : decode b_Gl 195 = .ok (.iload 7, 2) := by decide +kernel
theorem d_Gl_197 : decode b_Gl 197 = .ok (.istore 6, 2) := by decide +kernel
theorem d_Gl_199 : decode b_Gl 199 = .ok (.iload 5, 2) := by decide +kernel
theorem d_Gl_201 : decode b_Gl 201 = .ok (.istore 8, 2) := by decide +kernel
theorem d_Gl_203 : decode b_Gl 203 = .ok (.iload 4, 2) := by decide +kernel
theorem d_Gl_205 : decode b_Gl 205 = .ok (.iload 6, 2) := by decide +kernel
theorem d_Gl_207 : decode b_Gl 207 = .ok (.isub, 1) := by decide +kernel
theorem d_Gl_208 : decode b_Gl 208 = .ok (.istore 5, 2) := by decide +kernel
theorem d_Gl_210 : decode b_Gl 210 = .ok (.iload 4, 2) := by decide +kernel
theorem d_Gl_212 : decode b_Gl 212 = .ok (.iload 8, 2) := by decide +kernel
theorem d_Gl_214 : decode b_Gl 214 = .ok (.isub, 1) := by decide +kernel
theorem d_Gl_215 : decode b_Gl 215 = .ok (.istore 6, 2) := by decide +kernel
theorem d_Gl_217 : decode b_Gl 217 = .ok (.getstatic 37, 3) := by decide +kernel
theorem d_Gl_220 : decode b_Gl 220 = .ok (.ifCond .ne 30, 3) := by decide +kernel
theorem d_Gl_250 : decode b_Gl 250 = .ok (.iinc 5 1, 3) := by decide +kernel
theorem d_Gl_253 : decode b_Gl 253 = .ok (.iload 5, 2) := by decide +kernel
theorem d_Gl_255 : decode b_Gl 255 = .ok (.iload 6, 2) := by decide +kernel
theorem d_Gl_257 : decode b_Gl 257 = .ok (.if_icmp .ge 46, 3) := by decide +kernel
theorem d_Gl_260 : decode b_Gl 260 = .ok (.iload 5, 2) := by decide +kernel
theorem d_Gl_262 : decode b_Gl 262 = .ok (.iload 6, 2) := by decide +kernel
theorem d_Gl_264 : decode b_Gl 264 = .ok (.iload 5, 2) := by decide +kernel
theorem d_Gl_266 : decode b_Gl 266 = .ok (.isub, 1) := by decide +kernel
theorem d_Gl_267 : decode b_Gl 267 = .ok (.iconst 1, 1) := by decide +kernel
theorem d_Gl_268 : decode b_Gl 268 = .ok (.iushr, 1) := by decide +kernel
theorem d_Gl_269 : decode b_Gl 269 = .ok (.iadd, 1) := by decide +kernel
theorem d_Gl_270 : decode b_Gl 270 = .ok (.istore 7, 2) := by decide +kernel
theorem d_Gl_272 : decode b_Gl 272 = .ok (.aload_n 0, 1) := by decide +kernel
theorem d_Gl_273 : decode b_Gl 273 = .ok (.aload_n 1, 1) := by decide +kernel
theorem d_Gl_274 : decode b_Gl 274 = .ok (.iload_n 2, 1) := by decide +kernel
theorem d_Gl_275 : decode b_Gl 275 = .ok (.iload 7, 2) := by decide +kernel
theorem d_Gl_277 : decode b_Gl 277 = .ok (.iadd, 1) := by decide +kernel
theorem d_Gl_278 : decode b_Gl 278 = .ok (.aaload, 1) := by decide +kernel
theorem d_Gl_279 : decode b_Gl 279 = .ok (.invokeinterface 71 2, 5) := by decide +kernel
theorem d_Gl_284 : decode b_Gl 284 = .ok (.ifCond .le 12, 3) := by decide +kernel
theorem d_Gl_287 : decode b_Gl 287 = .ok (.iload 7, 2) := by decide +kernel
theorem d_Gl_289 : decode b_Gl 289 = .ok (.iconst 1, 1) := by decide +kernel
theorem d_Gl_290 : decode b_Gl 290 = .ok (.iadd, 1) := by decide +kernel
theorem d_Gl_291 : decode b_Gl 291 = .ok (.istore 5, 2) := by decide +kernel
theorem d_Gl_293 : decode b_Gl 293 = .ok (.goto 7, 3) := by decide +kernel
theorem d_Gl_296 : decode b_Gl 296 = .ok (.iload 7, 2) := by decide +kernel
theorem d_Gl_298 : decode b_Gl 298 = .ok (.istore 6, 2) := by decide +kernel
theorem d_Gl_300 : decode b_Gl 300 = .ok (.goto (-47), 3) := by decide +kernel
theorem d_Gl_303 : decode b_Gl 303 = .ok (.getstatic 37, 3) := by decide +kernel
theorem d_Gl_306 : decode b_Gl 306 = .ok (.ifCond .ne 18, 3) := by decide +kernel
theorem d_Gl_324 : decode b_Gl 324 = .ok (.iload 6, 2) := by decide +kernel
theorem d_Gl_326 : decode b_Gl 326 = .ok (.ireturn, 1) := by decide +kernel
abbrev rm_G : Room := { frames := 2, cells := 0, slots := 0, locals := 42 }
def Pgl (base len : Nat) (f : Nat → Option Nat) (wt : Nat → Int32) (x : Int) : Heap → Option Value → Heap → Prop := fun H v H' => ∃ r : Nat, v = some (.int (zI r)) ∧ H' = H ∧ r ≤ len ∧ (∀ j, j < r → kw wt (f (base + j)) < x) ∧ (∀ j, r ≤ j → j < len → x ≤ kw wt (f (base + j)))
set_option maxHeartbeats 4000000 in
theorem ct_Gl (l : Launch) (K : KD) (b : Bool) (key a n base len hint : Nat) (f : Nat → Option Nat) (M : Nat → Prop) (wt nm : Nat → Int32) (hn : n < 1000000) (hbl : base + len ≤ n) (hh : hint < len) (hkey : M key) (hF : Full M f base len) (hst : Srt (kw wt) f base len) :
    CT l K y_Gl c_Gl rm_G [.ref key, .ref a, .int (zI base), .int (zI len), .int (zI hint)] (fun H => H[a]? = some (RA (AC K b) n f) ∧ MS K M wt nm H) (Pgl base len f wt (wt key).toInt) := by
  refine z_met (by decide) (Nat.le_of_ble_eq_true rfl) ?_
  intro p e s m below meth c ls S hr hlk hnm hG hP hl
  obtain ⟨ha, hM⟩ := hP
  have hl : lv_has ls 9 [(0, .ref key), (1, .ref a), (2, .int (zI base)), (3, .int (zI len)), (4, .int (zI hint))] := hl
  generalize hQ : MQ below (QH (Pgl base len f wt (wt key).toInt)) [Value.ref key, .ref a, .int (zI base), .int (zI len), .int (zI hint)].toArray s rm_G.cells rm_G.slots (fun q => N0 K ≤ q) = Q
  generalize hargs : [Value.ref key, .ref a, .int (zI base), .int (zI len), .int (zI hint)].toArray = args at S
  have fin : ∀ (k L r : Nat) (ls : Array Slot) (locs : List Loc), r - L < k → L ≤ r → r ≤ len → (∀ j, j < L → kw wt (f (base + j)) < (wt key).toInt) → (∀ j, r ≤ j → j < len → (wt key).toInt ≤ kw wt (f (base + j))) → LO (N0 K) locs → lv_has ls 9 [(5, .int (zI L)), (6, .int (zI r)), (0, .ref key), (1, .ref a), (2, .int (zI base))] → W p l e rm_G s m args below meth c s.heap locs 0 0 Q (F0 m 253 ls []) := by
    intro k
    induction k with
    | zero => intro L r ls locs h; omega
    | succ k ih =>
      intro L r ls locs hk h1 h2 hleft hright hlo hl
      refine z_iload S (lv_at hl 0 rfl) d_Gl_253 ?_
      refine z_iload S (lv_at hl 1 rfl) d_Gl_255 ?_
      refine z_icmp_ge (tgt := 303) S (by decide) (by omega) (by omega) d_Gl_257 ?_ ?_
      · intro hc
        have eLr : L = r := by omega
        subst eLr
        have hl : lv_has ls 9 [(5, .int (zI L)), (6, .int (zI L)), (0, .ref key), (1, .ref a), (2, .int (zI base))] := lv_sub hl [0, 1, 2, 3, 4] rfl
        refine z_asrt (tgt := 324) S hG Keep.rf tw_asrt (by decide) d_Gl_303 d_Gl_306 ?_
        refine z_iload S (lv_at hl 1 rfl) d_Gl_324 ?_
        subst hQ
        subst hargs
        exact z_iret S hr hlk hlo ⟨L, rfl, rfl, h2, hleft, hright⟩ d_Gl_326
      · intro hc
        refine z_iload S (lv_at hl 0 rfl) d_Gl_260 ?_
        refine z_iload S (lv_at hl 1 rfl) d_Gl_262 ?_
        refine z_iload S (lv_at hl 0 rfl) d_Gl_264 ?_
        refine z_isub S d_Gl_266 ?_
        refine z_iconst S d_Gl_267 ?_
        refine z_iushr1 S (by omega) (by omega) d_Gl_268 ?_
        refine z_iadd S d_Gl_269 ?_
        refine z_top (b := (((L + (r - L) / 2 : Nat)) : Int)) (by omega) ?_
        refine z_istore (lv' := [(7, .int (zI (((L + (r - L) / 2 : Nat)) : Int))), (5, .int (zI L)), (6, .int (zI r)), (0, .ref key), (1, .ref a), (2, .int (zI base))]) S hl rfl (by decide) d_Gl_270 (fun ls hl => ?_)
        refine z_aload_n S rfl (lv_at hl 3 rfl) d_Gl_272 ?_
        refine z_aload_n S rfl (lv_at hl 4 rfl) d_Gl_273 ?_
        refine z_iload_n S rfl (lv_at hl 5 rfl) d_Gl_274 ?_
        refine z_iload S (lv_at hl 0 rfl) d_Gl_275 ?_
        refine z_iadd S d_Gl_277 ?_
        obtain ⟨y0, e0, m0⟩ := hF (base + (L + (r - L) / 2)) (by omega) (by omega)
        refine n_aald (base + (L + (r - L) / 2)) S (hG.A b) ha (by omega) (by omega) (by omega) e0 d_Gl_278 ?_
        refine z_cmp S hG Keep.rf hlo (hM key hkey) (hM y0 m0) (by decide) (by decide) hl (by decide) d_Gl_279 (fun locs hlo => ?_)
        refine z_if_le (tgt := 296) S (by decide) cmpI_in d_Gl_284 ?_ ?_
        · intro hc3
          rw [cmpI_le] at hc3
          refine z_iload S (lv_at hl 0 rfl) d_Gl_296 ?_
          refine z_istore (lv' := [(6, .int (zI (((L + (r - L) / 2 : Nat)) : Int))), (7, .int (zI (((L + (r - L) / 2 : Nat)) : Int))), (5, .int (zI L)), (0, .ref key), (1, .ref a), (2, .int (zI base))]) S hl rfl (by decide) d_Gl_298 (fun ls hl => ?_)
          refine z_goto (tgt := 253) S (by decide) d_Gl_300 ?_
          have hl : lv_has ls 9 [(5, .int (zI L)), (6, .int (zI ((L + (r - L) / 2 : Nat)))), (0, .ref key), (1, .ref a), (2, .int (zI base))] := lv_sub hl [2, 0, 3, 4, 5] rfl
          refine ih L (L + (r - L) / 2) ls locs (by omega) (by omega) (by omega) hleft ?_ hlo hl
          intro j j1 j2
          have h9 := hst.le (a := base + (L + (r - L) / 2)) (b := base + j) (by omega) (by omega) (by omega)
          rw [kw_some e0] at h9
          omega
        · intro hc3
          rw [cmpI_gt] at hc3
          refine z_iload S (lv_at hl 0 rfl) d_Gl_287 ?_
          refine z_iconst S d_Gl_289 ?_
          refine z_iadd S d_Gl_290 ?_
          refine z_istore (lv' := [(5, .int (zI ((((L + (r - L) / 2 : Nat)) : Int) + 1))), (7, .int (zI (((L + (r - L) / 2 : Nat)) : Int))), (6, .int (zI r)), (0, .ref key), (1, .ref a), (2, .int (zI base))]) S hl rfl (by decide) d_Gl_291 (fun ls hl => ?_)
          refine z_goto (tgt := 300) S (by decide) d_Gl_293 ?_
          refine z_goto (tgt := 253) S (by decide) d_Gl_300 ?_
          have hl : lv_has ls 9 [(5, .int (zI ((L + (r - L) / 2 : Nat) + 1))), (6, .int (zI r)), (0, .ref key), (1, .ref a), (2, .int (zI base))] := lv_sub hl [0, 2, 3, 4, 5] rfl
          refine ih (L + (r - L) / 2 + 1) r ls locs (by omega) (by omega) (by omega) ?_ hright hlo hl
          intro j j1
          have h9 := hst.le (a := base + j) (b := base + (L + (r - L) / 2)) (by omega) (by omega) (by omega)
          rw [kw_some e0] at h9
          omega
  -- to the right of the hint
  have ga : ∀ (k u q : Nat) (ls : Array Slot) (locs : List Loc), len - u < k → u < q → hint + u < len → q ≤ 2 * len + 1 → kw wt (f (base + hint + u)) < (wt key).toInt → LO (N0 K) locs → lv_has ls 9 [(7, .int (zI (len - hint))), (6, .int (zI q)), (5, .int (zI u)), (0, .ref key), (1, .ref a), (2, .int (zI base)), (3, .int (zI len)), (4, .int (zI hint))] → W p l e rm_G s m args below meth c s.heap locs 0 0 Q (F0 m 56 ls []) := by
    intro k
    induction k with
    | zero => intro u q ls locs h; omega
    | succ k ih =>
      intro u q ls locs hk h1 h2 h3 hu hlo hl
      have out : ∀ locs : List Loc, LO (N0 K) locs → (hint + q < len → (wt key).toInt ≤ kw wt (f (base + hint + q))) → W p l e rm_G s m args below meth c s.heap locs 0 0 Q (F0 m 105 ls []) := by
        intro locs hlo hq
        have hA : ∀ (ls : Array Slot) (z : Nat), lv_has ls 9 [(6, .int (zI z)), (5, .int (zI u)), (0, .ref key), (1, .ref a), (2, .int (zI base)), (3, .int (zI len)), (4, .int (zI hint))] → u < z → hint + z ≤ len → (hint + z < len → (wt key).toInt ≤ kw wt (f (base + hint + z))) → W p l e rm_G s m args below meth c s.heap locs 0 0 Q (F0 m 116 ls []) := by
          intro ls z hl hz1 hz2 hz3
          refine z_iload S (lv_at hl 1 rfl) d_Gl_116 ?_
          refine z_iload S (lv_at hl 6 rfl) d_Gl_118 ?_
          refine z_iadd S d_Gl_120 ?_
          refine z_istore (lv' := [(5, .int (zI (u + hint))), (6, .int (zI z)), (0, .ref key), (1, .ref a), (2, .int (zI base)), (3, .int (zI len)), (4, .int (zI hint))]) S hl rfl (by decide) d_Gl_121 (fun ls hl => ?_)
          refine z_iload S (lv_at hl 1 rfl) d_Gl_123 ?_
          refine z_iload S (lv_at hl 6 rfl) d_Gl_125 ?_
          refine z_iadd S d_Gl_127 ?_
          refine z_istore (lv' := [(6, .int (zI (z + hint))), (5, .int (zI (u + hint))), (0, .ref key), (1, .ref a), (2, .int (zI base)), (3, .int (zI len)), (4, .int (zI hint))]) S hl rfl (by decide) d_Gl_128 (fun ls hl => ?_)
          refine z_goto (tgt := 217) S (by decide) d_Gl_130 ?_
          refine z_asrt (tgt := 250) S hG Keep.rf tw_asrt (by decide) d_Gl_217 d_Gl_220 ?_
          refine z_iinc (lv' := [(5, .int (zI ((u + hint) + 1))), (6, .int (zI (z + hint))), (0, .ref key), (1, .ref a), (2, .int (zI base)), (3, .int (zI len)), (4, .int (zI hint))]) (q := 1) S hl rfl rfl (by decide) d_Gl_250 (fun ls hl => ?_)
          have hl : lv_has ls 9 [(5, .int (zI ((u + hint) + 1))), (6, .int (zI (z + hint))), (0, .ref key), (1, .ref a), (2, .int (zI base))] := lv_sub hl [0, 1, 2, 3, 4] rfl
          have hl : lv_has ls 9 [(5, .int (zI ((u + hint + 1 : Nat) : Int))), (6, .int (zI (z + hint))), (0, .ref key), (1, .ref a), (2, .int (zI base))] := by rw [show ((u + hint + 1 : Nat) : Int) = ((u + hint) + 1) by omega]; exact hl
          have hl : lv_has ls 9 [(5, .int (zI ((u + hint + 1 : Nat) : Int))), (6, .int (zI ((z + hint : Nat) : Int))), (0, .ref key), (1, .ref a), (2, .int (zI base))] := by rw [show ((z + hint : Nat) : Int) = (z + hint) by omega]; exact hl
          refine fin (len + 1) (u + hint + 1) (z + hint) ls locs (by omega) (by omega) (by omega) ?_ ?_ hlo hl
          · intro j hj
            have h9 := hst.le (a := base + j) (b := base + hint + u) (by omega) (by omega) (by omega)
            omega
          · intro j j1 j2
            have h8 := hz3 (by omega)
            have h9 := hst.le (a := base + hint + z) (b := base + j) (by omega) (by omega) (by omega)
            omega
        refine z_iload S (lv_at hl 1 rfl) d_Gl_105 ?_
        refine z_iload S (lv_at hl 0 rfl) d_Gl_107 ?_
        refine z_icmp_le (tgt := 116) S (by decide) (by omega) (by omega) d_Gl_109 ?_ ?_
        · intro hc
          refine hA ls q (lv_sub hl [1, 2, 3, 4, 5, 6, 7] rfl) h1 (by omega) hq
        · intro hc
          refine z_iload S (lv_at hl 0 rfl) d_Gl_112 ?_
          refine z_istore (lv' := [(6, .int (zI (len - hint))), (7, .int (zI (len - hint))), (5, .int (zI u)), (0, .ref key), (1, .ref a), (2, .int (zI base)), (3, .int (zI len)), (4, .int (zI hint))]) S hl rfl (by decide) d_Gl_114 (fun ls hl => ?_)
          have hl : lv_has ls 9 [(6, .int (zI (len - hint))), (5, .int (zI u)), (0, .ref key), (1, .ref a), (2, .int (zI base)), (3, .int (zI len)), (4, .int (zI hint))] := lv_sub hl [0, 2, 3, 4, 5, 6, 7] rfl
          have hl : lv_has ls 9 [(6, .int (zI ((len - hint : Nat) : Int))), (5, .int (zI u)), (0, .ref key), (1, .ref a), (2, .int (zI base)), (3, .int (zI len)), (4, .int (zI hint))] := by rw [show ((len - hint : Nat) : Int) = (len - hint) by omega]; exact hl
          exact hA ls (len - hint) hl (by omega) (by omega) (fun h => by omega)
      refine z_iload S (lv_at hl 1 rfl) d_Gl_56 ?_
      refine z_iload S (lv_at hl 0 rfl) d_Gl_58 ?_
      refine z_icmp_ge (tgt := 105) S (by decide) (by omega) (by omega) d_Gl_60 ?_ ?_
      · intro hc
        exact out locs hlo (fun h => by omega)
      · intro hc
        obtain ⟨y0, e0, m0⟩ := hF (base + hint + q) (by omega) (by omega)
        refine z_aload_n S rfl (lv_at hl 3 rfl) d_Gl_63 ?_
        refine z_aload_n S rfl (lv_at hl 4 rfl) d_Gl_64 ?_
        refine z_iload_n S rfl (lv_at hl 5 rfl) d_Gl_65 ?_
        refine z_iload S (lv_at hl 7 rfl) d_Gl_66 ?_
        refine z_iadd S d_Gl_68 ?_
        refine z_iload S (lv_at hl 1 rfl) d_Gl_69 ?_
        refine z_iadd S d_Gl_71 ?_
        refine n_aald (base + hint + q) S (hG.A b) ha (by omega) (by omega) (by omega) e0 d_Gl_72 ?_
        refine z_cmp S hG Keep.rf hlo (hM key hkey) (hM y0 m0) (by decide) (by decide) hl (by decide) d_Gl_73 (fun locs hlo => ?_)
        refine z_if_le (tgt := 105) S (by decide) cmpI_in d_Gl_78 ?_ ?_
        · intro hc3
          rw [cmpI_le] at hc3
          exact out locs hlo (fun h => by rw [kw_some e0]; exact hc3)
        · intro hc3
          rw [cmpI_gt] at hc3
          refine z_iload S (lv_at hl 1 rfl) d_Gl_81 ?_
          refine z_istore (lv' := [(5, .int (zI q)), (7, .int (zI (len - hint))), (6, .int (zI q)), (0, .ref key), (1, .ref a), (2, .int (zI base)), (3, .int (zI len)), (4, .int (zI hint))]) S hl rfl (by decide) d_Gl_83 (fun ls hl => ?_)
          refine z_iload S (lv_at hl 2 rfl) d_Gl_85 ?_
          refine z_iconst S d_Gl_87 ?_
          refine z_ishl1 S (by omega) (by omega) d_Gl_88 ?_
          refine z_iconst S d_Gl_89 ?_
          refine z_iadd S d_Gl_90 ?_
          refine z_istore (lv' := [(6, .int (zI ((2 * (q : Int)) + 1))), (5, .int (zI q)), (7, .int (zI (len - hint))), (0, .ref key), (1, .ref a), (2, .int (zI base)), (3, .int (zI len)), (4, .int (zI hint))]) S hl rfl (by decide) d_Gl_91 (fun ls hl => ?_)
          refine z_iload S (lv_at hl 0 rfl) d_Gl_93 ?_
          refine z_if_gt (tgt := 56) S (by decide) (by omega) d_Gl_95 ?_ ?_
          · intro hc4
            have hl : lv_has ls 9 [(7, .int (zI (len - hint))), (6, .int (zI ((2 * q) + 1))), (5, .int (zI q)), (0, .ref key), (1, .ref a), (2, .int (zI base)), (3, .int (zI len)), (4, .int (zI hint))] := lv_sub hl [2, 0, 1, 3, 4, 5, 6, 7] rfl
            refine ih q (2 * q + 1) ls locs (by omega) (by omega) (by omega) (by omega) (by rw [kw_some e0]; exact hc3) hlo ?_
            rw [show (((2 * q + 1 : Nat)) : Int) = 2 * (q : Int) + 1 by omega]
            exact hl
          · intro hc4
            omega
  -- to the left of the hint
  have gb : ∀ (k u q : Nat) (ls : Array Slot) (locs : List Loc), len - u < k → u < q → u ≤ hint → q ≤ 2 * len + 1 → (wt key).toInt ≤ kw wt (f (base + (hint - u))) → LO (N0 K) locs → lv_has ls 9 [(7, .int (zI (hint + 1))), (6, .int (zI q)), (5, .int (zI u)), (0, .ref key), (1, .ref a), (2, .int (zI base)), (3, .int (zI len)), (4, .int (zI hint))] → W p l e rm_G s m args below meth c s.heap locs 0 0 Q (F0 m 139 ls []) := by
    intro k
    induction k with
    | zero => intro u q ls locs h; omega
    | succ k ih =>
      intro u q ls locs hk h1 h2 h3 hu hlo hl
      have out : ∀ locs : List Loc, LO (N0 K) locs → (q ≤ hint → kw wt (f (base + (hint - q))) < (wt key).toInt) → W p l e rm_G s m args below meth c s.heap locs 0 0 Q (F0 m 188 ls []) := by
        intro locs hlo hq
        have hA : ∀ (ls : Array Slot) (z : Nat), lv_has ls 9 [(6, .int (zI z)), (5, .int (zI u)), (0, .ref key), (1, .ref a), (2, .int (zI base)), (3, .int (zI len)), (4, .int (zI hint))] → u < z → z ≤ hint + 1 → (z ≤ hint → kw wt (f (base + (hint - z))) < (wt key).toInt) → W p l e rm_G s m args below meth c s.heap locs 0 0 Q (F0 m 199 ls []) := by
          intro ls z hl hz1 hz2 hz3
          refine z_iload S (lv_at hl 1 rfl) d_Gl_199 ?_
          refine z_istore (lv' := [(8, .int (zI u)), (6, .int (zI z)), (5, .int (zI u)), (0, .ref key), (1, .ref a), (2, .int (zI base)), (3, .int (zI len)), (4, .int (zI hint))]) S hl rfl (by decide) d_Gl_201 (fun ls hl => ?_)
          refine z_iload S (lv_at hl 7 rfl) d_Gl_203 ?_
          refine z_iload S (lv_at hl 1 rfl) d_Gl_205 ?_
          refine z_isub S d_Gl_207 ?_
          refine z_istore (lv' := [(5, .int (zI (hint - z))), (8, .int (zI u)), (6, .int (zI z)), (0, .ref key), (1, .ref a), (2, .int (zI base)), (3, .int (zI len)), (4, .int (zI hint))]) S hl rfl (by decide) d_Gl_208 (fun ls hl => ?_)
          refine z_iload S (lv_at hl 7 rfl) d_Gl_210 ?_
          refine z_iload S (lv_at hl 1 rfl) d_Gl_212 ?_
          refine z_isub S d_Gl_214 ?_
          refine z_istore (lv' := [(6, .int (zI (hint - u))), (5, .int (zI (hint - z))), (8, .int (zI u)), (0, .ref key), (1, .ref a), (2, .int (zI base)), (3, .int (zI len)), (4, .int (zI hint))]) S hl rfl (by decide) d_Gl_215 (fun ls hl => ?_)
          refine z_asrt (tgt := 250) S hG Keep.rf tw_asrt (by decide) d_Gl_217 d_Gl_220 ?_
          refine z_iinc (lv' := [(5, .int (zI ((hint - z) + 1))), (6, .int (zI (hint - u))), (8, .int (zI u)), (0, .ref key), (1, .ref a), (2, .int (zI base)), (3, .int (zI len)), (4, .int (zI hint))]) (q := 1) S hl rfl rfl (by decide) d_Gl_250 (fun ls hl => ?_)
          have hl : lv_has ls 9 [(5, .int (zI ((hint - z) + 1))), (6, .int (zI (hint - u))), (0, .ref key), (1, .ref a), (2, .int (zI base))] := lv_sub hl [0, 1, 3, 4, 5] rfl
          have hl : lv_has ls 9 [(5, .int (zI ((hint + 1 - z : Nat) : Int))), (6, .int (zI (hint - u))), (0, .ref key), (1, .ref a), (2, .int (zI base))] := by rw [show ((hint + 1 - z : Nat) : Int) = ((hint - z) + 1) by omega]; exact hl
          have hl : lv_has ls 9 [(5, .int (zI ((hint + 1 - z : Nat) : Int))), (6, .int (zI ((hint - u : Nat) : Int))), (0, .ref key), (1, .ref a), (2, .int (zI base))] := by rw [show ((hint - u : Nat) : Int) = (hint - u) by omega]; exact hl
          refine fin (len + 1) (hint + 1 - z) (hint - u) ls locs (by omega) (by omega) (by omega) ?_ ?_ hlo hl
          · intro j hj
            have h8 := hz3 (by omega)
            have h9 := hst.le (a := base + j) (b := base + (hint - z)) (by omega) (by omega) (by omega)
            omega
          · intro j j1 j2
            have h9 := hst.le (a := base + (hint - u)) (b := base + j) (by omega) (by omega) (by omega)
            omega
        refine z_iload S (lv_at hl 1 rfl) d_Gl_188 ?_
        refine z_iload S (lv_at hl 0 rfl) d_Gl_190 ?_
        refine z_icmp_le (tgt := 199) S (by decide) (by omega) (by omega) d_Gl_192 ?_ ?_
        · intro hc
          refine hA ls q (lv_sub hl [1, 2, 3, 4, 5, 6, 7] rfl) h1 (by omega) hq
        · intro hc
          refine z_iload S (lv_at hl 0 rfl) d_Gl_195 ?_
          refine z_istore (lv' := [(6, .int (zI (hint + 1))), (7, .int (zI (hint + 1))), (5, .int (zI u)), (0, .ref key), (1, .ref a), (2, .int (zI base)), (3, .int (zI len)), (4, .int (zI hint))]) S hl rfl (by decide) d_Gl_197 (fun ls hl => ?_)
          have hl : lv_has ls 9 [(6, .int (zI (hint + 1))), (5, .int (zI u)), (0, .ref key), (1, .ref a), (2, .int (zI base)), (3, .int (zI len)), (4, .int (zI hint))] := lv_sub hl [0, 2, 3, 4, 5, 6, 7] rfl
          have hl : lv_has ls 9 [(6, .int (zI ((hint + 1 : Nat) : Int))), (5, .int (zI u)), (0, .ref key), (1, .ref a), (2, .int (zI base)), (3, .int (zI len)), (4, .int (zI hint))] := by rw [show ((hint + 1 : Nat) : Int) = (hint + 1) by omega]; exact hl
          exact hA ls (hint + 1) hl (by omega) (by omega) (fun h => by omega)
      refine z_iload S (lv_at hl 1 rfl) d_Gl_139 ?_
      refine z_iload S (lv_at hl 0 rfl) d_Gl_141 ?_
      refine z_icmp_ge (tgt := 188) S (by decide) (by omega) (by omega) d_Gl_143 ?_ ?_
      · intro hc
        exact out locs hlo (fun h => by omega)
      · intro hc
        obtain ⟨y0, e0, m0⟩ := hF (base + (hint - q)) (by omega) (by omega)
        refine z_aload_n S rfl (lv_at hl 3 rfl) d_Gl_146 ?_
        refine z_aload_n S rfl (lv_at hl 4 rfl) d_Gl_147 ?_
        refine z_iload_n S rfl (lv_at hl 5 rfl) d_Gl_148 ?_
        refine z_iload S (lv_at hl 7 rfl) d_Gl_149 ?_
        refine z_iadd S d_Gl_151 ?_
        refine z_iload S (lv_at hl 1 rfl) d_Gl_152 ?_
        refine z_isub S d_Gl_154 ?_
        refine n_aald (base + (hint - q)) S (hG.A b) ha (by omega) (by omega) (by omega) e0 d_Gl_155 ?_
        refine z_cmp S hG Keep.rf hlo (hM key hkey) (hM y0 m0) (by decide) (by decide) hl (by decide) d_Gl_156 (fun locs hlo => ?_)
        refine z_if_gt (tgt := 188) S (by decide) cmpI_in d_Gl_161 ?_ ?_
        · intro hc3
          rw [cmpI_gt] at hc3
          exact out locs hlo (fun h => by rw [kw_some e0]; exact hc3)
        · intro hc3
          rw [cmpI_le] at hc3
          refine z_iload S (lv_at hl 1 rfl) d_Gl_164 ?_
          refine z_istore (lv' := [(5, .int (zI q)), (7, .int (zI (hint + 1))), (6, .int (zI q)), (0, .ref key), (1, .ref a), (2, .int (zI base)), (3, .int (zI len)), (4, .int (zI hint))]) S hl rfl (by decide) d_Gl_166 (fun ls hl => ?_)
          refine z_iload S (lv_at hl 2 rfl) d_Gl_168 ?_
          refine z_iconst S d_Gl_170 ?_
          refine z_ishl1 S (by omega) (by omega) d_Gl_171 ?_
          refine z_iconst S d_Gl_172 ?_
          refine z_iadd S d_Gl_173 ?_
          refine z_istore (lv' := [(6, .int (zI ((2 * (q : Int)) + 1))), (5, .int (zI q)), (7, .int (zI (hint + 1))), (0, .ref key), (1, .ref a), (2, .int (zI base)), (3, .int (zI len)), (4, .int (zI hint))]) S hl rfl (by decide) d_Gl_174 (fun ls hl => ?_)
          refine z_iload S (lv_at hl 0 rfl) d_Gl_176 ?_
          refine z_if_gt (tgt := 139) S (by decide) (by omega) d_Gl_178 ?_ ?_
          · intro hc4
            have hl : lv_has ls 9 [(7, .int (zI (hint + 1))), (6, .int (zI ((2 * q) + 1))), (5, .int (zI q)), (0, .ref key), (1, .ref a), (2, .int (zI base)), (3, .int (zI len)), (4, .int (zI hint))] := lv_sub hl [2, 0, 1, 3, 4, 5, 6, 7] rfl
            refine ih q (2 * q + 1) ls locs (by omega) (by omega) (by omega) (by omega) (by rw [kw_some e0]; exact hc3) hlo ?_
            rw [show (((2 * q + 1 : Nat)) : Int) = 2 * (q : Int) + 1 by omega]
            exact hl
          · intro hc4
            omega
  refine z_asrt (tgt := 29) S hG Keep.rf tw_asrt (by decide) d_Gl_0 d_Gl_3 ?_
  obtain ⟨y0, e0, m0⟩ := hF (base + hint) (by omega) (by omega)
  refine z_iconst S d_Gl_29 ?_
  refine z_istore (lv' := [(5, .int (zI 0)), (0, .ref key), (1, .ref a), (2, .int (zI base)), (3, .int (zI len)), (4, .int (zI hint))]) S hl rfl (by decide) d_Gl_30 (fun ls hl => ?_)
  refine z_iconst S d_Gl_32 ?_
  refine z_istore (lv' := [(6, .int (zI 1)), (5, .int (zI 0)), (0, .ref key), (1, .ref a), (2, .int (zI base)), (3, .int (zI len)), (4, .int (zI hint))]) S hl rfl (by decide) d_Gl_33 (fun ls hl => ?_)
  refine z_aload_n S rfl (lv_at hl 2 rfl) d_Gl_35 ?_
  refine z_aload_n S rfl (lv_at hl 3 rfl) d_Gl_36 ?_
  refine z_iload_n S rfl (lv_at hl 4 rfl) d_Gl_37 ?_
  refine z_iload S (lv_at hl 6 rfl) d_Gl_38 ?_
  refine z_iadd S d_Gl_40 ?_
  refine n_aald (base + hint) S (hG.A b) ha (by omega) (by omega) (by omega) e0 d_Gl_41 ?_
  refine z_cmp S hG Keep.rf LO.nil (hM key hkey) (hM y0 m0) (by decide) (by decide) hl (by decide) d_Gl_42 (fun locs hlo => ?_)
  refine z_if_le (tgt := 133) S (by decide) cmpI_in d_Gl_47 ?_ ?_
  · intro hc3
    rw [cmpI_le] at hc3
    refine z_iload S (lv_at hl 6 rfl) d_Gl_133 ?_
    refine z_iconst S d_Gl_135 ?_
    refine z_iadd S d_Gl_136 ?_
    refine z_istore (lv' := [(7, .int (zI (hint + 1))), (6, .int (zI 1)), (5, .int (zI 0)), (0, .ref key), (1, .ref a), (2, .int (zI base)), (3, .int (zI len)), (4, .int (zI hint))]) S hl rfl (by decide) d_Gl_137 (fun ls hl => ?_)
    have hl : lv_has ls 9 [(7, .int (zI (hint + 1))), (6, .int (zI 1)), (5, .int (zI 0)), (0, .ref key), (1, .ref a), (2, .int (zI base)), (3, .int (zI len)), (4, .int (zI hint))] := lv_sub hl [0, 1, 2, 3, 4, 5, 6, 7] rfl
    exact gb (len + 1) 0 1 ls locs (by omega) (by omega) (by omega) (by omega) (by rw [Nat.sub_zero, kw_some e0]; exact hc3) hlo hl
  · intro hc3
    rw [cmpI_gt] at hc3
    refine z_iload_n S rfl (lv_at hl 5 rfl) d_Gl_50 ?_
    refine z_iload S (lv_at hl 6 rfl) d_Gl_51 ?_
    refine z_isub S d_Gl_53 ?_
    refine z_istore (lv' := [(7, .int (zI (len - hint))), (6, .int (zI 1)), (5, .int (zI 0)), (0, .ref key), (1, .ref a), (2, .int (zI base)), (3, .int (zI len)), (4, .int (zI hint))]) S hl rfl (by decide) d_Gl_54 (fun ls hl => ?_)
    have hl : lv_has ls 9 [(7, .int (zI (len - hint))), (6, .int (zI 1)), (5, .int (zI 0)), (0, .ref key), (1, .ref a), (2, .int (zI base)), (3, .int (zI len)), (4, .int (zI hint))] := lv_sub hl [0, 1, 2, 3, 4, 5, 6, 7] rfl
    exact ga (len + 1) 0 1 ls locs (by omega) (by omega) (by omega) (by omega) (by rw [Nat.add_zero, kw_some e0]; exact hc3) hlo hl
end
section
/-! gallopRight -/
set_option maxRecDepth 100000
theorem d_Gr_0 : decode b_Gr 0 = .ok (.getstatic 37, 3) := by decide +kernel
theorem d_Gr_3 : decode b_Gr 3 = .ok (.ifCond .ne 26, 3) := by decide +kernel
theorem d_Gr_29 : decode b_Gr 29 = .ok (.iconst 1, 1) := by decide +kernel
theorem d_Gr_30 : decode b_Gr 30 = .ok (.istore 5, 2) := by decide +kernel
theorem d_Gr_32 : decode b_Gr 32 = .ok (.iconst 0, 1) := by decide +kernel
theorem d_Gr_33 : decode b_Gr 33 = .ok (.istore 6, 2) := by decide +kernel
theorem d_Gr_35 : decode b_Gr 35 = .ok (.aload_n 0, 1) := by decide +kernel
theorem d_Gr_36 : decode b_Gr 36 = .ok (.aload_n 1, 1) := by decide +kernel
theorem d_Gr_37 : decode b_Gr 37 = .ok (.iload_n 2, 1) := by decide +kernel
theorem d_Gr_38 : decode b_Gr 38 = .ok (.iload 4, 2) := by decide +kernel
theorem d_Gr_40 : decode b_Gr 40 = .ok (.iadd, 1) := by decide +kernel
theorem d_Gr_41 : decode b_Gr 41 = .ok (.aaload, 1) := by decide +kernel
theorem d_Gr_42 : decode b_Gr 42 = .ok (.invokeinterface 71 2, 5) := by decide +kernel
theorem d_Gr_47 : decode b_Gr 47 = .ok (.ifCond .ge 90, 3) := by decide +kernel
theorem d_Gr_50 : decode b_Gr 50 = .ok (.iload 4, 2) := by decide +kernel
theorem d_Gr_52 : decode b_Gr 52 = .ok (.iconst 1, 1) := by decide +kernel
theorem d_Gr_53 : decode b_Gr 53 = .ok (.iadd, 1) := by decide +kernel
theorem d_Gr_54 : decode b_Gr 54 = .ok (.istore 7, 2) := by decide +kernel
theorem d_Gr_56 : decode b_Gr 56 = .ok (.iload 5, 2) := by decide +kernel
theorem d_Gr_58 : decode b_Gr 58 = .ok (.iload 7, 2) := by decide +kernel
theorem d_Gr_60 : decode b_Gr 60 = .ok (.if_icmp .ge 45, 3) := by decide +kernel
theorem d_Gr_63 : decode b_Gr 63 = .ok (.aload_n 0, 1) := by decide +kernel
theorem d_Gr_64 : decode b_Gr 64 = .ok (.aload_n 1, 1) := by decide +kernel
theorem d_Gr_65 : decode b_Gr 65 = .ok (.iload_n 2, 1) := by decide +kernel
theorem d_Gr_66 : decode b_Gr 66 = .ok (.iload 4, 2) := by decide +kernel
theorem d_Gr_68 : decode b_Gr 68 = .ok (.iadd, 1) := by decide +kernel
theorem d_Gr_69 : decode b_Gr 69 = .ok (.iload 5, 2) := by decide +kernel
theorem d_Gr_71 : decode b_Gr 71 = .ok (.isub, 1) := by decide +kernel
theorem d_Gr_72 : decode b_Gr 72 = .ok (.aaload, 1) := by decide +kernel
theorem d_Gr_73 : decode b_Gr 73 = .ok (.invokeinterface 71 2, 5) := by decide +kernel
theorem d_Gr_78 : decode b_Gr 78 = .ok (.ifCond .ge 27, 3) := by decide +kernel
theorem d_Gr_81 : decode b_Gr 81 = .ok (.iload 5, 2) := by decide +kernel
theorem d_Gr_83 : decode b_Gr 83 = .ok (.istore 6, 2) := by decide +kernel
theorem d_Gr_85 : decode b_Gr 85 = .ok (.iload 5, 2) := by decide +kernel
theorem d_Gr_87 : decode b_Gr 87 = .ok (.iconst 1, 1) := by decide +kernel
theorem d_Gr_88 : decode b_Gr 88 = .ok (.ishl, 1) := by decide +kernel
theorem d_Gr_89 : decode b_Gr 89 = .ok (.iconst 1, 1) := by decide +kernel
theorem d_Gr_90 : decode b_Gr 90 = .ok (.iadd, 1) := by decide +kernel
theorem d_Gr_91 : decode b_Gr 91 = .ok (.istore 5, 2) := by decide +kernel
theorem d_Gr_93 : decode b_Gr 93 = .ok (.iload 5, 2) := by decide +kernel
theorem d_Gr_95 : decode b_Gr 95 = .ok (.ifCond .gt (-39), 3) := by decide +kernel
theorem d_Gr_105 : decode b_Gr 105 = .ok (.iload 5, 2) := by decide +kernel
theorem d_Gr_107 : decode b_Gr 107 = .ok (.iload 7, 2) := by decide +kernel
theorem d_Gr_109 : decode b_Gr 109 = .ok (.if_icmp .le 7, 3) := by decide +kernel
theorem d_Gr_112 : decode b_Gr 112 = .ok (.iload 7, 2) := by decide +kernel
theorem d_Gr_114 : decode b_Gr 114 = .ok (.istore 5, 2) := by decide +kernel
theorem d_Gr_116 : decode b_Gr 116 = .ok (.iload 6, 2) := by decide +kernel
theorem d_Gr_118 : decode b_Gr 118 = .ok (.istore 8, 2) := by decide +kernel
theorem d_Gr_120 : decode b_Gr 120 = .ok (.iload 4, 2) := by decide +kernel
theorem d_Gr_122 : decode b_Gr 122 = .ok (.iload 5, 2) := by decide +kernel
theorem d_Gr_124 : decode b_Gr 124 = .ok (.isub, 1) := by decide +kernel
theorem d_Gr_125 : decode b_Gr 125 = .ok (.istore 6, 2) := by decide +kernel
theorem d_Gr_127 : decode b_Gr 127 = .ok (.iload 4, 2) := by decide +kernel
theorem d_Gr_129 : decode b_Gr 129 = .ok (.iload 8, 2) := by decide +kernel
theorem d_Gr_131 : decode b_Gr 131 = .ok (.isub, 1) := by decide +kernel
theorem d_Gr_132 : decode b_Gr 132 = .ok (.istore 5, 2) := by decide +kernel
theorem d_Gr_134 : decode b_Gr 134 = .ok (.goto 83, 3) := by decide +kernel
theorem d_Gr_137 : decode b_Gr 137 = .ok (.iload_n 3, 1) := by decide +kernel
theorem d_Gr_138 : decode b_Gr 138 = .ok (.iload 4, 2) := by decide +kernel
theorem d_Gr_140 : decode b_Gr 140 = .ok (.isub, 1) := by decide +kernel
theorem d_Gr_141 : decode b_Gr 141 = .ok (.istore 7, 2) := by decide +kernel
theorem d_Gr_143 : decode b_Gr 143 = .ok (.iload 5, 2) := by decide +kernel
theorem d_Gr_145 : decode b_Gr 145 = .ok (.iload 7, 2) := by decide +kernel
theorem d_Gr_147 : decode b_Gr 147 = .ok (.if_icmp .ge 45, 3) := by decide +kernel
theorem d_Gr_150 : decode b_Gr 150 = .ok (.aload_n 0, 1) := by decide +kernel
theorem d_Gr_151 : decode b_Gr 151 = .ok (.aload_n 1, 1) := by decide +kernel
theorem d_Gr_152 : decode b_Gr 152 = .ok (.iload_n 2, 1) := by decide +kernel
theorem d_Gr_153 : decode b_Gr 153 = .ok (.iload 4, 2) := by decide +kernel
theorem d_Gr_155 : decode b_Gr 155 = .ok (.iadd, 1) := by decide +kernel
theorem d_Gr_156 : decode b_Gr 156 = .ok (.iload 5, 2) := by decide +kernel
theorem d_Gr_158 : decode b_Gr 158 = .ok (.iadd, 1) := by decide +kernel
theorem d_Gr_159 : decode b_Gr 159 = .ok (.aaload, 1) := by decide +kernel
theorem d_Gr_160 : decode b_Gr 160 = .ok (.invokeinterface 71 2, 5) := by decide +kernel
theorem d_Gr_165 : decode b_Gr 165 = .ok (.ifCond .lt 27, 3) := by decide +kernel
theorem d_Gr_168 : decode b_Gr 168 = .ok (.iload 5, 2) := by decide +kernel
theorem d_Gr_170 : decode b_Gr 170 = .ok (.istore 6, 2) := by decide +kernel
theorem d_Gr_172 : decode b_Gr 172 = .ok (.iload 5, 2) := by decide +kernel
theorem d_Gr_174 : decode b_Gr 174 = .ok (.iconst 1, 1) := by decide +kernel
theorem d_Gr_175 : decode b_Gr 175 = .ok (.ishl, 1) := by decide +kernel
theorem d_Gr_176 : decode b_Gr 176 = .ok (.iconst 1, 1) := by decide +kernel
theorem d_Gr_177 : decode b_Gr 177 = .ok (.iadd, 1) := by decide +kernel
theorem d_Gr_178 : decode b_Gr 178 = .ok (.istore 5, 2) := by decide +kernel
theorem d_Gr_180 : decode b_Gr 180 = .ok (.iload 5, 2) := by decide +kernel
theorem d_Gr_182 : decode b_Gr 182 = .ok (.ifCond .gt (-39), 3) := by decide +kernel
theorem d_Gr_192 : decode b_Gr 192 = .ok (.iload 5, 2) := by decide +kernel
theorem d_Gr_194 : decode b_Gr 194 = .ok (.iload 7, 2) := by decide +kernel
theorem d_Gr_196 : decode b_Gr 196 = .ok (.if_icmp .le 7, 3) := by decide +kernel
theorem d_Gr_199 : decode b_Gr 199 = .ok (.iload 7, 2) := by decide +kernel
theorem d_Gr_201 : decode b_Gr 201 = .ok (.istore 5, 2) := by decide +kernel
theorem d_Gr_203 : decode b_Gr 203 = .ok (.iload 6, 2) := by decide +kernel
theorem d_Gr_205 : decode b_Gr 205 = .ok (.iload 4, 2) := by decide +kernel
theorem d_Gr_207 : decode b_Gr 207 = .ok (.iadd, 1) := by decide +kernel
theorem d_Gr_208 : decode b_Gr 208 = .ok (.istore 6, 2) := by decide +kernel
theorem d_Gr_210 : decode b_Gr 210 = .ok (.iload 5, 2) := by decide +kernel
theorem d_Gr_212 : decode b_Gr 212 = .ok (.iload 4, 2) := by decide +kernel
theorem d_Gr_214 : decode b_Gr 214 = .ok (.iadd, 1) := by decide +kernel
theorem d_Gr_215 : decode b_Gr 215 = .ok (.istore 5, 2) := by decide +kernel
theorem d_Gr_217 : decode b_Gr 217 = .ok (.getstatic 37, 3) := by decide +kernel
theorem d_Gr_220 : decode b_Gr 220 = .ok (.ifCond .ne 30, 3) := by decide +kernel
theorem d_Gr_250 : decode b_Gr 250 = .ok (.iinc 6 1, 3) := by decide +kernel
theorem d_Gr_253 : decode b_Gr 253 = .ok (.iload 6, 2) := by decide +kernel
theorem d_Gr_255 : decode b_Gr 255 = .ok (.iload 5, 2) := by decide +kernel
theorem d_Gr_257 : decode b_Gr 257 = .ok (.if_icmp .ge 46, 3) := by decide +kernel
theorem d_Gr_260 : decode b_Gr 260 = .ok (.iload 6, 2) := by decide +kernel
theorem d_Gr_262 : decode b_Gr 262 = .ok (.iload 5, 2) := by decide +kernel
theorem d_Gr_264 : decode b_Gr 264 = .ok (.iload 6, 2) := by decide +kernel
theorem d_Gr_266 : decode b_Gr 266 = .ok (.isub, 1) := by decide +kernel
theorem d_Gr_267 : decode b_Gr 267 = .ok (.iconst 1, 1) := by decide +kernel
theorem d_Gr_268 : decode b_Gr 268 = .ok (.iushr, 1) := by decide +kernel
theorem d_Gr_269 : decode b_Gr 269 = .ok (.iadd, 1) := by decide +kernel
theorem d_Gr_270 : decode b_Gr 270 = .ok (.istore 7, 2) := by decide +kernel
theorem d_Gr_272 : decode b_Gr 272 = .ok (.aload_n 0, 1) := by decide +kernel
theorem d_Gr_273 : decode b_Gr 273 = .ok (.aload_n 1, 1) := by decide +kernel
theorem d_Gr_274 : decode b_Gr 274 = .ok (.iload_n 2, 1) := by decide +kernel
theorem d_Gr_275 : decode b_Gr 275 = .ok (.iload 7, 2) := by decide +kernel
theorem d_Gr_277 : decode b_Gr 277 = .ok (.iadd, 1) := by decide +kernel
theorem d_Gr_278 : decode b_Gr 278 = .ok (.aaload, 1) := by decide +kernel
theorem d_Gr_279 : decode b_Gr 279 = .ok (.invokeinterface 71 2, 5) := by decide +kernel
theorem d_Gr_284 : decode b_Gr 284 = .ok (.ifCond .ge 10, 3) := by decide +kernel
theorem d_Gr_287 : decode b_Gr 287 = .ok (.iload 7, 2) := by decide +kernel
theorem d_Gr_289 : decode b_Gr 289 = .ok (.istore 5, 2) := by decide +kernel
theorem d_Gr_291 : decode b_Gr 291 = .ok (.goto 9, 3) := by decide +kernel
theorem d_Gr_294 : decode b_Gr 294 = .ok (.iload 7, 2) := by decide +kernel
theorem d_Gr_296 : decode b_Gr 296 = .ok (.iconst 1, 1) := by decide +kernel
theorem d_Gr_297 : decode b_Gr 297 = .ok (.iadd, 1) := by decide +kernel
theorem d_Gr_298 : decode b_Gr 298 = .ok (.istore 6, 2) := by decide +kernel
theorem d_Gr_300 : decode b_Gr 300 = .ok (.goto (-47), 3) := by decide +kernel
theorem d_Gr_303 : decode b_Gr 303 = .ok (.getstatic 37, 3) := by decide +kernel
theorem d_Gr_306 : decode b_Gr 306 = .ok (.ifCond .ne 18, 3) := by decide +kernel
theorem d_Gr_324 : decode b_Gr 324 = .ok (.iload 5, 2) := by decide +kernel
theorem d_Gr_326 : decode b_Gr 326 = .ok (.ireturn, 1) := by decide +kernel
def Pgr (base len : Nat) (f : Nat → Option Nat) (wt : Nat → Int32) (x : Int) : Heap → Option Value → Heap → Prop := fun H v H' => ∃ r : Nat, v = some (.int (zI r)) ∧ H' = H ∧ r ≤ len ∧ (∀ j, j < r → kw wt (f (base + j)) ≤ x) ∧ (∀ j, r ≤ j → j < len → x < kw wt (f (base + j)))
set_option maxHeartbeats 4000000 in
theorem ct_Gr (l : Launch) (K : KD) (b : Bool) (key a n base len hint : Nat) (f : Nat → Option Nat) (M : Nat → Prop) (wt nm : Nat → Int32) (hn : n < 1000000) (hbl : base + len ≤ n) (hh : hint < len) (hkey : M key) (hF : Full M f base len) (hst : Srt (kw wt) f base len) :
    CT l K y_Gr c_Gr rm_G [.ref key, .ref a, .int (zI base), .int (zI len), .int (zI hint)] (fun H => H[a]? = some (RA (AC K b) n f) ∧ MS K M wt nm H) (Pgr base len f wt (wt key).toInt) := by
  refine z_met (by decide) (Nat.le_of_ble_eq_true rfl) ?_
  intro p e s m below meth c ls S hr hlk hnm hG hP hl
  obtain ⟨ha, hM⟩ := hP
  have hl : lv_has ls 9 [(0, .ref key), (1, .ref a), (2, .int (zI base)), (3, .int (zI len)), (4, .int (zI hint))] := hl
  generalize hQ : MQ below (QH (Pgr base len f wt (wt key).toInt)) [Value.ref key, .ref a, .int (zI base), .int (zI len), .int (zI hint)].toArray s rm_G.cells rm_G.slots (fun q => N0 K ≤ q) = Q
  generalize hargs : [Value.ref key, .ref a, .int (zI base), .int (zI len), .int (zI hint)].toArray = args at S
  have fin : ∀ (k L r : Nat) (ls : Array Slot) (locs : List Loc), r - L < k → L ≤ r → r ≤ len → (∀ j, j < L → kw wt (f (base + j)) ≤ (wt key).toInt) → (∀ j, r ≤ j → j < len → (wt key).toInt < kw wt (f (base + j))) → LO (N0 K) locs → lv_has ls 9 [(6, .int (zI L)), (5, .int (zI r)), (0, .ref key), (1, .ref a), (2, .int (zI base))] → W p l e rm_G s m args below meth c s.heap locs 0 0 Q (F0 m 253 ls []) := by
    intro k
    induction k with
    | zero => intro L r ls locs h; omega
    | succ k ih =>
      intro L r ls locs hk h1 h2 hleft hright hlo hl
      refine z_iload S (lv_at hl 0 rfl) d_Gr_253 ?_
      refine z_iload S (lv_at hl 1 rfl) d_Gr_255 ?_
      refine z_icmp_ge (tgt := 303) S (by decide) (by omega) (by omega) d_Gr_257 ?_ ?_
      · intro hc
        have eLr : L = r := by omega
        subst eLr
        have hl : lv_has ls 9 [(6, .int (zI L)), (5, .int (zI L)), (0, .ref key), (1, .ref a), (2, .int (zI base))] := lv_sub hl [0, 1, 2, 3, 4] rfl
        refine z_asrt (tgt := 324) S hG Keep.rf tw_asrt (by decide) d_Gr_303 d_Gr_306 ?_
        refine z_iload S (lv_at hl 1 rfl) d_Gr_324 ?_
        subst hQ
        subst hargs
        exact z_iret S hr hlk hlo ⟨L, rfl, rfl, h2, hleft, hright⟩ d_Gr_326
      · intro hc
        refine z_iload S (lv_at hl 0 rfl) d_Gr_260 ?_
        refine z_iload S (lv_at hl 1 rfl) d_Gr_262 ?_
        refine z_iload S (lv_at hl 0 rfl) d_Gr_264 ?_
        refine z_isub S d_Gr_266 ?_
        refine z_iconst S d_Gr_267 ?_
        refine z_iushr1 S (by omega) (by omega) d_Gr_268 ?_
        refine z_iadd S d_Gr_269 ?_
        refine z_top (b := (((L + (r - L) / 2 : Nat)) : Int)) (by omega) ?_
        refine z_istore (lv' := [(7, .int (zI (((L + (r - L) / 2 : Nat)) : Int))), (6, .int (zI L)), (5, .int (zI r)), (0, .ref key), (1, .ref a), (2, .int (zI base))]) S hl rfl (by decide) d_Gr_270 (fun ls hl => ?_)
        refine z_aload_n S rfl (lv_at hl 3 rfl) d_Gr_272 ?_
        refine z_aload_n S rfl (lv_at hl 4 rfl) d_Gr_273 ?_
        refine z_iload_n S rfl (lv_at hl 5 rfl) d_Gr_274 ?_
        refine z_iload S (lv_at hl 0 rfl) d_Gr_275 ?_
        refine z_iadd S d_Gr_277 ?_
        obtain ⟨y0, e0, m0⟩ := hF (base + (L + (r - L) / 2)) (by omega) (by omega)
        refine n_aald (base + (L + (r - L) / 2)) S (hG.A b) ha (by omega) (by omega) (by omega) e0 d_Gr_278 ?_
        refine z_cmp S hG Keep.rf hlo (hM key hkey) (hM y0 m0) (by decide) (by decide) hl (by decide) d_Gr_279 (fun locs hlo => ?_)
        refine z_if_ge (tgt := 294) S (by decide) cmpI_in d_Gr_284 ?_ ?_
        · intro hc3
          rw [cmpI_ge] at hc3
          refine z_iload S (lv_at hl 0 rfl) d_Gr_294 ?_
          refine z_iconst S d_Gr_296 ?_
          refine z_iadd S d_Gr_297 ?_
          refine z_istore (lv' := [(6, .int (zI ((((L + (r - L) / 2 : Nat)) : Int) + 1))), (7, .int (zI (((L + (r - L) / 2 : Nat)) : Int))), (5, .int (zI r)), (0, .ref key), (1, .ref a), (2, .int (zI base))]) S hl rfl (by decide) d_Gr_298 (fun ls hl => ?_)
          refine z_goto (tgt := 253) S (by decide) d_Gr_300 ?_
          have hl : lv_has ls 9 [(6, .int (zI ((L + (r - L) / 2 : Nat) + 1))), (5, .int (zI r)), (0, .ref key), (1, .ref a), (2, .int (zI base))] := lv_sub hl [0, 2, 3, 4, 5] rfl
          refine ih (L + (r - L) / 2 + 1) r ls locs (by omega) (by omega) (by omega) ?_ hright hlo hl
          intro j j1
          have h9 := hst.le (a := base + j) (b := base + (L + (r - L) / 2)) (by omega) (by omega) (by omega)
          rw [kw_some e0] at h9
          omega
        · intro hc3
          rw [cmpI_lt] at hc3
          refine z_iload S (lv_at hl 0 rfl) d_Gr_287 ?_
          refine z_istore (lv' := [(5, .int (zI (((L + (r - L) / 2 : Nat)) : Int))), (7, .int (zI (((L + (r - L) / 2 : Nat)) : Int))), (6, .int (zI L)), (0, .ref key), (1, .ref a), (2, .int (zI base))]) S hl rfl (by decide) d_Gr_289 (fun ls hl => ?_)
          refine z_goto (tgt := 300) S (by decide) d_Gr_291 ?_
          refine z_goto (tgt := 253) S (by decide) d_Gr_300 ?_
          have hl : lv_has ls 9 [(6, .int (zI L)), (5, .int (zI ((L + (r - L) / 2 : Nat)))), (0, .ref key), (1, .ref a), (2, .int (zI base))] := lv_sub hl [2, 0, 3, 4, 5] rfl
          refine ih L (L + (r - L) / 2) ls locs (by omega) (by omega) (by omega) hleft ?_ hlo hl
          intro j j1 j2
          have h9 := hst.le (a := base + (L + (r - L) / 2)) (b := base + j) (by omega) (by omega) (by omega)
          rw [kw_some e0] at h9
          omega
  -- to the right of the hint
  have ga : ∀ (k u q : Nat) (ls : Array Slot) (locs : List Loc), len - u < k → u < q → hint + u < len → q ≤ 2 * len + 1 → kw wt (f (base + hint + u)) ≤ (wt key).toInt → LO (N0 K) locs → lv_has ls 9 [(7, .int (zI (len - hint))), (5, .int (zI q)), (6, .int (zI u)), (0, .ref key), (1, .ref a), (2, .int (zI base)), (3, .int (zI len)), (4, .int (zI hint))] → W p l e rm_G s m args below meth c s.heap locs 0 0 Q (F0 m 143 ls []) := by
    intro k
    induction k with
    | zero => intro u q ls locs h; omega
    | succ k ih =>
      intro u q ls locs hk h1 h2 h3 hu hlo hl
      have out : ∀ locs : List Loc, LO (N0 K) locs → (hint + q < len → (wt key).toInt < kw wt (f (base + hint + q))) → W p l e rm_G s m args below meth c s.heap locs 0 0 Q (F0 m 192 ls []) := by
        intro locs hlo hq
        have hA : ∀ (ls : Array Slot) (z : Nat), lv_has ls 9 [(5, .int (zI z)), (6, .int (zI u)), (0, .ref key), (1, .ref a), (2, .int (zI base)), (3, .int (zI len)), (4, .int (zI hint))] → u < z → hint + z ≤ len → (hint + z < len → (wt key).toInt < kw wt (f (base + hint + z))) → W p l e rm_G s m args below meth c s.heap locs 0 0 Q (F0 m 203 ls []) := by
          intro ls z hl hz1 hz2 hz3
          refine z_iload S (lv_at hl 1 rfl) d_Gr_203 ?_
          refine z_iload S (lv_at hl 6 rfl) d_Gr_205 ?_
          refine z_iadd S d_Gr_207 ?_
          refine z_istore (lv' := [(6, .int (zI (u + hint))), (5, .int (zI z)), (0, .ref key), (1, .ref a), (2, .int (zI base)), (3, .int (zI len)), (4, .int (zI hint))]) S hl rfl (by decide) d_Gr_208 (fun ls hl => ?_)
          refine z_iload S (lv_at hl 1 rfl) d_Gr_210 ?_
          refine z_iload S (lv_at hl 6 rfl) d_Gr_212 ?_
          refine z_iadd S d_Gr_214 ?_
          refine z_istore (lv' := [(5, .int (zI (z + hint))), (6, .int (zI (u + hint))), (0, .ref key), (1, .ref a), (2, .int (zI base)), (3, .int (zI len)), (4, .int (zI hint))]) S hl rfl (by decide) d_Gr_215 (fun ls hl => ?_)
          refine z_asrt (tgt := 250) S hG Keep.rf tw_asrt (by decide) d_Gr_217 d_Gr_220 ?_
          refine z_iinc (lv' := [(6, .int (zI ((u + hint) + 1))), (5, .int (zI (z + hint))), (0, .ref key), (1, .ref a), (2, .int (zI base)), (3, .int (zI len)), (4, .int (zI hint))]) (q := 1) S hl rfl rfl (by decide) d_Gr_250 (fun ls hl => ?_)
          have hl : lv_has ls 9 [(6, .int (zI ((u + hint) + 1))), (5, .int (zI (z + hint))), (0, .ref key), (1, .ref a), (2, .int (zI base))] := lv_sub hl [0, 1, 2, 3, 4] rfl
          have hl : lv_has ls 9 [(6, .int (zI ((u + hint + 1 : Nat) : Int))), (5, .int (zI (z + hint))), (0, .ref key), (1, .ref a), (2, .int (zI base))] := by rw [show ((u + hint + 1 : Nat) : Int) = ((u + hint) + 1) by omega]; exact hl
          have hl : lv_has ls 9 [(6, .int (zI ((u + hint + 1 : Nat) : Int))), (5, .int (zI ((z + hint : Nat) : Int))), (0, .ref key), (1, .ref a), (2, .int (zI base))] := by rw [show ((z + hint : Nat) : Int) = (z + hint) by omega]; exact hl
          refine fin (len + 1) (u + hint + 1) (z + hint) ls locs (by omega) (by omega) (by omega) ?_ ?_ hlo hl
          · intro j hj
            have h9 := hst.le (a := base + j) (b := base + hint + u) (by omega) (by omega) (by omega)
            omega
          · intro j j1 j2
            have h8 := hz3 (by omega)
            have h9 := hst.le (a := base + hint + z) (b := base + j) (by omega) (by omega) (by omega)
            omega
        refine z_iload S (lv_at hl 1 rfl) d_Gr_192 ?_
        refine z_iload S (lv_at hl 0 rfl) d_Gr_194 ?_
        refine z_icmp_le (tgt := 203) S (by decide) (by omega) (by omega) d_Gr_196 ?_ ?_
        · intro hc
          refine hA ls q (lv_sub hl [1, 2, 3, 4, 5, 6, 7] rfl) h1 (by omega) hq
        · intro hc
          refine z_iload S (lv_at hl 0 rfl) d_Gr_199 ?_
          refine z_istore (lv' := [(5, .int (zI (len - hint))), (7, .int (zI (len - hint))), (6, .int (zI u)), (0, .ref key), (1, .ref a), (2, .int (zI base)), (3, .int (zI len)), (4, .int (zI hint))]) S hl rfl (by decide) d_Gr_201 (fun ls hl => ?_)
          have hl : lv_has ls 9 [(5, .int (zI (len - hint))), (6, .int (zI u)), (0, .ref key), (1, .ref a), (2, .int (zI base)), (3, .int (zI len)), (4, .int (zI hint))] := lv_sub hl [0, 2, 3, 4, 5, 6, 7] rfl
          have hl : lv_has ls 9 [(5, .int (zI ((len - hint : Nat) : Int))), (6, .int (zI u)), (0, .ref key), (1, .ref a), (2, .int (zI base)), (3, .int (zI len)), (4, .int (zI hint))] := by rw [show ((len - hint : Nat) : Int) = (len - hint) by omega]; exact hl
          exact hA ls (len - hint) hl (by omega) (by omega) (fun h => by omega)
      refine z_iload S (lv_at hl 1 rfl) d_Gr_143 ?_
      refine z_iload S (lv_at hl 0 rfl) d_Gr_145 ?_
      refine z_icmp_ge (tgt := 192) S (by decide) (by omega) (by omega) d_Gr_147 ?_ ?_
      · intro hc
        exact out locs hlo (fun h => by omega)
      · intro hc
        obtain ⟨y0, e0, m0⟩ := hF (base + hint + q) (by omega) (by omega)
        refine z_aload_n S rfl (lv_at hl 3 rfl) d_Gr_150 ?_
        refine z_aload_n S rfl (lv_at hl 4 rfl) d_Gr_151 ?_
        refine z_iload_n S rfl (lv_at hl 5 rfl) d_Gr_152 ?_
        refine z_iload S (lv_at hl 7 rfl) d_Gr_153 ?_
        refine z_iadd S d_Gr_155 ?_
        refine z_iload S (lv_at hl 1 rfl) d_Gr_156 ?_
        refine z_iadd S d_Gr_158 ?_
        refine n_aald (base + hint + q) S (hG.A b) ha (by omega) (by omega) (by omega) e0 d_Gr_159 ?_
        refine z_cmp S hG Keep.rf hlo (hM key hkey) (hM y0 m0) (by decide) (by decide) hl (by decide) d_Gr_160 (fun locs hlo => ?_)
        refine z_if_lt (tgt := 192) S (by decide) cmpI_in d_Gr_165 ?_ ?_
        · intro hc3
          rw [cmpI_lt] at hc3
          exact out locs hlo (fun h => by rw [kw_some e0]; exact hc3)
        · intro hc3
          rw [cmpI_ge] at hc3
          refine z_iload S (lv_at hl 1 rfl) d_Gr_168 ?_
          refine z_istore (lv' := [(6, .int (zI q)), (7, .int (zI (len - hint))), (5, .int (zI q)), (0, .ref key), (1, .ref a), (2, .int (zI base)), (3, .int (zI len)), (4, .int (zI hint))]) S hl rfl (by decide) d_Gr_170 (fun ls hl => ?_)
          refine z_iload S (lv_at hl 2 rfl) d_Gr_172 ?_
          refine z_iconst S d_Gr_174 ?_
          refine z_ishl1 S (by omega) (by omega) d_Gr_175 ?_
          refine z_iconst S d_Gr_176 ?_
          refine z_iadd S d_Gr_177 ?_
          refine z_istore (lv' := [(5, .int (zI ((2 * (q : Int)) + 1))), (6, .int (zI q)), (7, .int (zI (len - hint))), (0, .ref key), (1, .ref a), (2, .int (zI base)), (3, .int (zI len)), (4, .int (zI hint))]) S hl rfl (by decide) d_Gr_178 (fun ls hl => ?_)
          refine z_iload S (lv_at hl 0 rfl) d_Gr_180 ?_
          refine z_if_gt (tgt := 143) S (by decide) (by omega) d_Gr_182 ?_ ?_
          · intro hc4
            have hl : lv_has ls 9 [(7, .int (zI (len - hint))), (5, .int (zI ((2 * q) + 1))), (6, .int (zI q)), (0, .ref key), (1, .ref a), (2, .int (zI base)), (3, .int (zI len)), (4, .int (zI hint))] := lv_sub hl [2, 0, 1, 3, 4, 5, 6, 7] rfl
            refine ih q (2 * q + 1) ls locs (by omega) (by omega) (by omega) (by omega) (by rw [kw_some e0]; exact hc3) hlo ?_
            rw [show (((2 * q + 1 : Nat)) : Int) = 2 * (q : Int) + 1 by omega]
            exact hl
          · intro hc4
            omega
  -- to the left of the hint
  have gb : ∀ (k u q : Nat) (ls : Array Slot) (locs : List Loc), len - u < k → u < q → u ≤ hint → q ≤ 2 * len + 1 → (wt key).toInt < kw wt (f (base + (hint - u))) → LO (N0 K) locs → lv_has ls 9 [(7, .int (zI (hint + 1))), (5, .int (zI q)), (6, .int (zI u)), (0, .ref key), (1, .ref a), (2, .int (zI base)), (3, .int (zI len)), (4, .int (zI hint))] → W p l e rm_G s m args below meth c s.heap locs 0 0 Q (F0 m 56 ls []) := by
    intro k
    induction k with
    | zero => intro u q ls locs h; omega
    | succ k ih =>
      intro u q ls locs hk h1 h2 h3 hu hlo hl
      have out : ∀ locs : List Loc, LO (N0 K) locs → (q ≤ hint → kw wt (f (base + (hint - q))) ≤ (wt key).toInt) → W p l e rm_G s m args below meth c s.heap locs 0 0 Q (F0 m 105 ls []) := by
        intro locs hlo hq
        have hA : ∀ (ls : Array Slot) (z : Nat), lv_has ls 9 [(5, .int (zI z)), (6, .int (zI u)), (0, .ref key), (1, .ref a), (2, .int (zI base)), (3, .int (zI len)), (4, .int (zI hint))] → u < z → z ≤ hint + 1 → (z ≤ hint → kw wt (f (base + (hint - z))) ≤ (wt key).toInt) → W p l e rm_G s m args below meth c s.heap locs 0 0 Q (F0 m 116 ls []) := by
          intro ls z hl hz1 hz2 hz3
          refine z_iload S (lv_at hl 1 rfl) d_Gr_116 ?_
          refine z_istore (lv' := [(8, .int (zI u)), (5, .int (zI z)), (6, .int (zI u)), (0, .ref key), (1, .ref a), (2, .int (zI base)), (3, .int (zI len)), (4, .int (zI hint))]) S hl rfl (by decide) d_Gr_118 (fun ls hl => ?_)
          refine z_iload S (lv_at hl 7 rfl) d_Gr_120 ?_
          refine z_iload S (lv_at hl 1 rfl) d_Gr_122 ?_
          refine z_isub S d_Gr_124 ?_
          refine z_istore (lv' := [(6, .int (zI (hint - z))), (8, .int (zI u)), (5, .int (zI z)), (0, .ref key), (1, .ref a), (2, .int (zI base)), (3, .int (zI len)), (4, .int (zI hint))]) S hl rfl (by decide) d_Gr_125 (fun ls hl => ?_)
          refine z_iload S (lv_at hl 7 rfl) d_Gr_127 ?_
          refine z_iload S (lv_at hl 1 rfl) d_Gr_129 ?_
          refine z_isub S d_Gr_131 ?_
          refine z_istore (lv' := [(5, .int (zI (hint - u))), (6, .int (zI (hint - z))), (8, .int (zI u)), (0, .ref key), (1, .ref a), (2, .int (zI base)), (3, .int (zI len)), (4, .int (zI hint))]) S hl rfl (by decide) d_Gr_132 (fun ls hl => ?_)
          refine z_goto (tgt := 217) S (by decide) d_Gr_134 ?_
          refine z_asrt (tgt := 250) S hG Keep.rf tw_asrt (by decide) d_Gr_217 d_Gr_220 ?_
          refine z_iinc (lv' := [(6, .int (zI ((hint - z) + 1))), (5, .int (zI (hint - u))), (8, .int (zI u)), (0, .ref key), (1, .ref a), (2, .int (zI base)), (3, .int (zI len)), (4, .int (zI hint))]) (q := 1) S hl rfl rfl (by decide) d_Gr_250 (fun ls hl => ?_)
          have hl : lv_has ls 9 [(6, .int (zI ((hint - z) + 1))), (5, .int (zI (hint - u))), (0, .ref key), (1, .ref a), (2, .int (zI base))] := lv_sub hl [0, 1, 3, 4, 5] rfl
          have hl : lv_has ls 9 [(6, .int (zI ((hint + 1 - z : Nat) : Int))), (5, .int (zI (hint - u))), (0, .ref key), (1, .ref a), (2, .int (zI base))] := by rw [show ((hint + 1 - z : Nat) : Int) = ((hint - z) + 1) by omega]; exact hl
          have hl : lv_has ls 9 [(6, .int (zI ((hint + 1 - z : Nat) : Int))), (5, .int (zI ((hint - u : Nat) : Int))), (0, .ref key), (1, .ref a), (2, .int (zI base))] := by rw [show ((hint - u : Nat) : Int) = (hint - u) by omega]; exact hl
          refine fin (len + 1) (hint + 1 - z) (hint - u) ls locs (by omega) (by omega) (by omega) ?_ ?_ hlo hl
          · intro j hj
            have h8 := hz3 (by omega)
            have h9 := hst.le (a := base + j) (b := base + (hint - z)) (by omega) (by omega) (by omega)
            omega
          · intro j j1 j2
            have h9 := hst.le (a := base + (hint - u)) (b := base + j) (by omega) (by omega) (by omega)
            omega
        refine z_iload S (lv_at hl 1 rfl) d_Gr_105 ?_
        refine z_iload S (lv_at hl 0 rfl) d_Gr_107 ?_
        refine z_icmp_le (tgt := 116) S (by decide) (by omega) (by omega) d_Gr_109 ?_ ?_
        · intro hc
          refine hA ls q (lv_sub hl [1, 2, 3, 4, 5, 6, 7] rfl) h1 (by omega) hq
        · intro hc
          refine z_iload S (lv_at hl 0 rfl) d_Gr_112 ?_
          refine z_istore (lv' := [(5, .int (zI (hint + 1))), (7, .int (zI (hint + 1))), (6, .int (zI u)), (0, .ref key), (1, .ref a), (2, .int (zI base)), (3, .int (zI len)), (4, .int (zI hint))]) S hl rfl (by decide) d_Gr_114 (fun ls hl => ?_)
          have hl : lv_has ls 9 [(5, .int (zI (hint + 1))), (6, .int (zI u)), (0, .ref key), (1, .ref a), (2, .int (zI base)), (3, .int (zI len)), (4, .int (zI hint))] := lv_sub hl [0, 2, 3, 4, 5, 6, 7] rfl
          have hl : lv_has ls 9 [(5, .int (zI ((hint + 1 : Nat) : Int))), (6, .int (zI u)), (0, .ref key), (1, .ref a), (2, .int (zI base)), (3, .int (zI len)), (4, .int (zI hint))] := by rw [show ((hint + 1 : Nat) : Int) = (hint + 1) by omega]; exact hl
          exact hA ls (hint + 1) hl (by omega) (by omega) (fun h => by omega)
      refine z_iload S (lv_at hl 1 rfl) d_Gr_56 ?_
      refine z_iload S (lv_at hl 0 rfl) d_Gr_58 ?_
      refine z_icmp_ge (tgt := 105) S (by decide) (by omega) (by omega) d_Gr_60 ?_ ?_
      · intro hc
        exact out locs hlo (fun h => by omega)
      · intro hc
        obtain ⟨y0, e0, m0⟩ := hF (base + (hint - q)) (by omega) (by omega)
        refine z_aload_n S rfl (lv_at hl 3 rfl) d_Gr_63 ?_
        refine z_aload_n S rfl (lv_at hl 4 rfl) d_Gr_64 ?_
        refine z_iload_n S rfl (lv_at hl 5 rfl) d_Gr_65 ?_
        refine z_iload S (lv_at hl 7 rfl) d_Gr_66 ?_
        refine z_iadd S d_Gr_68 ?_
        refine z_iload S (lv_at hl 1 rfl) d_Gr_69 ?_
        refine z_isub S d_Gr_71 ?_
        refine n_aald (base + (hint - q)) S (hG.A b) ha (by omega) (by omega) (by omega) e0 d_Gr_72 ?_
        refine z_cmp S hG Keep.rf hlo (hM key hkey) (hM y0 m0) (by decide) (by decide) hl (by decide) d_Gr_73 (fun locs hlo => ?_)
        refine z_if_ge (tgt := 105) S (by decide) cmpI_in d_Gr_78 ?_ ?_
        · intro hc3
          rw [cmpI_ge] at hc3
          exact out locs hlo (fun h => by rw [kw_some e0]; exact hc3)
        · intro hc3
          rw [cmpI_lt] at hc3
          refine z_iload S (lv_at hl 1 rfl) d_Gr_81 ?_
          refine z_istore (lv' := [(6, .int (zI q)), (7, .int (zI (hint + 1))), (5, .int (zI q)), (0, .ref key), (1, .ref a), (2, .int (zI base)), (3, .int (zI len)), (4, .int (zI hint))]) S hl rfl (by decide) d_Gr_83 (fun ls hl => ?_)
          refine z_iload S (lv_at hl 2 rfl) d_Gr_85 ?_
          refine z_iconst S d_Gr_87 ?_
          refine z_ishl1 S (by omega) (by omega) d_Gr_88 ?_
          refine z_iconst S d_Gr_89 ?_
          refine z_iadd S d_Gr_90 ?_
          refine z_istore (lv' := [(5, .int (zI ((2 * (q : Int)) + 1))), (6, .int (zI q)), (7, .int (zI (hint + 1))), (0, .ref key), (1, .ref a), (2, .int (zI base)), (3, .int (zI len)), (4, .int (zI hint))]) S hl rfl (by decide) d_Gr_91 (fun ls hl => ?_)
          refine z_iload S (lv_at hl 0 rfl) d_Gr_93 ?_
          refine z_if_gt (tgt := 56) S (by decide) (by omega) d_Gr_95 ?_ ?_
          · intro hc4
            have hl : lv_has ls 9 [(7, .int (zI (hint + 1))), (5, .int (zI ((2 * q) + 1))), (6, .int (zI q)), (0, .ref key), (1, .ref a), (2, .int (zI base)), (3, .int (zI len)), (4, .int (zI hint))] := lv_sub hl [2, 0, 1, 3, 4, 5, 6, 7] rfl
            refine ih q (2 * q + 1) ls locs (by omega) (by omega) (by omega) (by omega) (by rw [kw_some e0]; exact hc3) hlo ?_
            rw [show (((2 * q + 1 : Nat)) : Int) = 2 * (q : Int) + 1 by omega]
            exact hl
          · intro hc4
            omega
  refine z_asrt (tgt := 29) S hG Keep.rf tw_asrt (by decide) d_Gr_0 d_Gr_3 ?_
  obtain ⟨y0, e0, m0⟩ := hF (base + hint) (by omega) (by omega)
  refine z_iconst S d_Gr_29 ?_
  refine z_istore (lv' := [(5, .int (zI 1)), (0, .ref key), (1, .ref a), (2, .int (zI base)), (3, .int (zI len)), (4, .int (zI hint))]) S hl rfl (by decide) d_Gr_30 (fun ls hl => ?_)
  refine z_iconst S d_Gr_32 ?_
  refine z_istore (lv' := [(6, .int (zI 0)), (5, .int (zI 1)), (0, .ref key), (1, .ref a), (2, .int (zI base)), (3, .int (zI len)), (4, .int (zI hint))]) S hl rfl (by decide) d_Gr_33 (fun ls hl => ?_)
  refine z_aload_n S rfl (lv_at hl 2 rfl) d_Gr_35 ?_
  refine z_aload_n S rfl (lv_at hl 3 rfl) d_Gr_36 ?_
  refine z_iload_n S rfl (lv_at hl 4 rfl) d_Gr_37 ?_
  refine z_iload S (lv_at hl 6 rfl) d_Gr_38 ?_
  refine z_iadd S d_Gr_40 ?_
  refine n_aald (base + hint) S (hG.A b) ha (by omega) (by omega) (by omega) e0 d_Gr_41 ?_
  refine z_cmp S hG Keep.rf LO.nil (hM key hkey) (hM y0 m0) (by decide) (by decide) hl (by decide) d_Gr_42 (fun locs hlo => ?_)
  refine z_if_ge (tgt := 137) S (by decide) cmpI_in d_Gr_47 ?_ ?_
  · intro hc3
    rw [cmpI_ge] at hc3
    refine z_iload_n S rfl (lv_at hl 5 rfl) d_Gr_137 ?_
    refine z_iload S (lv_at hl 6 rfl) d_Gr_138 ?_
    refine z_isub S d_Gr_140 ?_
    refine z_istore (lv' := [(7, .int (zI (len - hint))), (6, .int (zI 0)), (5, .int (zI 1)), (0, .ref key), (1, .ref a), (2, .int (zI base)), (3, .int (zI len)), (4, .int (zI hint))]) S hl rfl (by decide) d_Gr_141 (fun ls hl => ?_)
    have hl : lv_has ls 9 [(7, .int (zI (len - hint))), (5, .int (zI 1)), (6, .int (zI 0)), (0, .ref key), (1, .ref a), (2, .int (zI base)), (3, .int (zI len)), (4, .int (zI hint))] := lv_sub hl [0, 2, 1, 3, 4, 5, 6, 7] rfl
    exact ga (len + 1) 0 1 ls locs (by omega) (by omega) (by omega) (by omega) (by rw [Nat.add_zero, kw_some e0]; exact hc3) hlo hl
  · intro hc3
    rw [cmpI_lt] at hc3
    refine z_iload S (lv_at hl 6 rfl) d_Gr_50 ?_
    refine z_iconst S d_Gr_52 ?_
    refine z_iadd S d_Gr_53 ?_
    refine z_istore (lv' := [(7, .int (zI (hint + 1))), (6, .int (zI 0)), (5, .int (zI 1)), (0, .ref key), (1, .ref a), (2, .int (zI base)), (3, .int (zI len)), (4, .int (zI hint))]) S hl rfl (by decide) d_Gr_54 (fun ls hl => ?_)
    have hl : lv_has ls 9 [(7, .int (zI (hint + 1))), (5, .int (zI 1)), (6, .int (zI 0)), (0, .ref key), (1, .ref a), (2, .int (zI base)), (3, .int (zI len)), (4, .int (zI hint))] := lv_sub hl [0, 2, 1, 3, 4, 5, 6, 7] rfl
    exact gb (len + 1) 0 1 ls locs (by omega) (by omega) (by omega) (by omega) (by rw [Nat.sub_zero, kw_some e0]; exact hc3) hlo hl
end
section
/-! small methods: Math.min, Math.floorMod, Arrays.rangeCheck, minRunLength, Integer.numberOfLeadingZeros -/
set_option maxRecDepth 100000
theorem d_Mn_0 : decode b_Mn 0 = .ok (.iload_n 0, 1) := by decide +kernel
theorem d_Mn_1 : decode b_Mn 1 = .ok (.iload_n 1, 1) := by decide +kernel
theorem d_Mn_2 : decode b_Mn 2 = .ok (.if_icmp .gt 7, 3) := by decide +kernel
theorem d_Mn_5 : decode b_Mn 5 = .ok (.iload_n 0, 1) := by decide +kernel
theorem d_Mn_6 : decode b_Mn 6 = .ok (.goto 4, 3) := by decide +kernel
theorem d_Mn_9 : decode b_Mn 9 = .ok (.iload_n 1, 1) := by decide +kernel
theorem d_Mn_10 : decode b_Mn 10 = .ok (.ireturn, 1) := by decide +kernel
theorem d_Fm_0 : decode b_Fm 0 = .ok (.iload_n 0, 1) := by decide +kernel
theorem d_Fm_1 : decode b_Fm 1 = .ok (.iload_n 1, 1) := by decide +kernel
theorem d_Fm_2 : decode b_Fm 2 = .ok (.irem, 1) := by decide +kernel
theorem d_Fm_3 : decode b_Fm 3 = .ok (.istore_n 2, 1) := by decide +kernel
theorem d_Fm_4 : decode b_Fm 4 = .ok (.iload_n 0, 1) := by decide +kernel
theorem d_Fm_5 : decode b_Fm 5 = .ok (.iload_n 1, 1) := by decide +kernel
theorem d_Fm_6 : decode b_Fm 6 = .ok (.ixor, 1) := by decide +kernel
theorem d_Fm_7 : decode b_Fm 7 = .ok (.ifCond .ge 11, 3) := by decide +kernel
theorem d_Fm_10 : decode b_Fm 10 = .ok (.iload_n 2, 1) := by decide +kernel
theorem d_Fm_11 : decode b_Fm 11 = .ok (.ifCond .eq 7, 3) := by decide +kernel
theorem d_Fm_14 : decode b_Fm 14 = .ok (.iload_n 2, 1) := by decide +kernel
theorem d_Fm_15 : decode b_Fm 15 = .ok (.iload_n 1, 1) := by decide +kernel
theorem d_Fm_16 : decode b_Fm 16 = .ok (.iadd, 1) := by decide +kernel
theorem d_Fm_17 : decode b_Fm 17 = .ok (.ireturn, 1) := by decide +kernel
theorem d_Fm_18 : decode b_Fm 18 = .ok (.iload_n 2, 1) := by decide +kernel
theorem d_Fm_19 : decode b_Fm 19 = .ok (.ireturn, 1) := by decide +kernel
theorem d_Ar_0 : decode b_Ar 0 = .ok (.iload_n 1, 1) := by decide +kernel
theorem d_Ar_1 : decode b_Ar 1 = .ok (.iload_n 2, 1) := by decide +kernel
theorem d_Ar_2 : decode b_Ar 2 = .ok (.if_icmp .le 44, 3) := by decide +kernel
theorem d_Ar_46 : decode b_Ar 46 = .ok (.iload_n 1, 1) := by decide +kernel
theorem d_Ar_47 : decode b_Ar 47 = .ok (.ifCond .ge 12, 3) := by decide +kernel
theorem d_Ar_59 : decode b_Ar 59 = .ok (.iload_n 2, 1) := by decide +kernel
theorem d_Ar_60 : decode b_Ar 60 = .ok (.iload_n 0, 1) := by decide +kernel
theorem d_Ar_61 : decode b_Ar 61 = .ok (.if_icmp .le 12, 3) := by decide +kernel
theorem d_Ar_73 : decode b_Ar 73 = .ok (.return_, 1) := by decide +kernel
theorem d_Cm_0 : decode b_Cm 0 = .ok (.getstatic 37, 3) := by decide +kernel
theorem d_Cm_3 : decode b_Cm 3 = .ok (.ifCond .ne 15, 3) := by decide +kernel
theorem d_Cm_18 : decode b_Cm 18 = .ok (.iconst 0, 1) := by decide +kernel
theorem d_Cm_19 : decode b_Cm 19 = .ok (.istore_n 1, 1) := by decide +kernel
theorem d_Cm_20 : decode b_Cm 20 = .ok (.iload_n 0, 1) := by decide +kernel
theorem d_Cm_21 : decode b_Cm 21 = .ok (.bipush 32, 2) := by decide +kernel
theorem d_Cm_23 : decode b_Cm 23 = .ok (.if_icmp .lt 16, 3) := by decide +kernel
theorem d_Cm_26 : decode b_Cm 26 = .ok (.iload_n 1, 1) := by decide +kernel
theorem d_Cm_27 : decode b_Cm 27 = .ok (.iload_n 0, 1) := by decide +kernel
theorem d_Cm_28 : decode b_Cm 28 = .ok (.iconst 1, 1) := by decide +kernel
theorem d_Cm_29 : decode b_Cm 29 = .ok (.iand, 1) := by decide +kernel
theorem d_Cm_30 : decode b_Cm 30 = .ok (.ior, 1) := by decide +kernel
theorem d_Cm_31 : decode b_Cm 31 = .ok (.istore_n 1, 1) := by decide +kernel
theorem d_Cm_32 : decode b_Cm 32 = .ok (.iload_n 0, 1) := by decide +kernel
theorem d_Cm_33 : decode b_Cm 33 = .ok (.iconst 1, 1) := by decide +kernel
theorem d_Cm_34 : decode b_Cm 34 = .ok (.ishr, 1) := by decide +kernel
theorem d_Cm_35 : decode b_Cm 35 = .ok (.istore_n 0, 1) := by decide +kernel
theorem d_Cm_36 : decode b_Cm 36 = .ok (.goto (-16), 3) := by decide +kernel
theorem d_Cm_39 : decode b_Cm 39 = .ok (.iload_n 0, 1) := by decide +kernel
theorem d_Cm_40 : decode b_Cm 40 = .ok (.iload_n 1, 1) := by decide +kernel
theorem d_Cm_41 : decode b_Cm 41 = .ok (.iadd, 1) := by decide +kernel
theorem d_Cm_42 : decode b_Cm 42 = .ok (.ireturn, 1) := by decide +kernel
theorem d_Nz_0 : decode b_Nz 0 = .ok (.iload_n 0, 1) := by decide +kernel
theorem d_Nz_1 : decode b_Nz 1 = .ok (.ifCond .gt 14, 3) := by decide +kernel
theorem d_Nz_15 : decode b_Nz 15 = .ok (.bipush 31, 2) := by decide +kernel
theorem d_Nz_17 : decode b_Nz 17 = .ok (.istore_n 1, 1) := by decide +kernel
theorem d_Nz_18 : decode b_Nz 18 = .ok (.iload_n 0, 1) := by decide +kernel
theorem d_Nz_19 : decode b_Nz 19 = .ok (.ldc_w 264, 3) := by decide +kernel
theorem d_Nz_22 : decode b_Nz 22 = .ok (.if_icmp .lt 11, 3) := by decide +kernel
theorem d_Nz_33 : decode b_Nz 33 = .ok (.iload_n 0, 1) := by decide +kernel
theorem d_Nz_34 : decode b_Nz 34 = .ok (.sipush 256, 3) := by decide +kernel
theorem d_Nz_37 : decode b_Nz 37 = .ok (.if_icmp .lt 11, 3) := by decide +kernel
theorem d_Nz_40 : decode b_Nz 40 = .ok (.iinc 1 (-8), 3) := by decide +kernel
theorem d_Nz_43 : decode b_Nz 43 = .ok (.iload_n 0, 1) := by decide +kernel
theorem d_Nz_44 : decode b_Nz 44 = .ok (.bipush 8, 2) := by decide +kernel
theorem d_Nz_46 : decode b_Nz 46 = .ok (.iushr, 1) := by decide +kernel
theorem d_Nz_47 : decode b_Nz 47 = .ok (.istore_n 0, 1) := by decide +kernel
theorem d_Nz_48 : decode b_Nz 48 = .ok (.iload_n 0, 1) := by decide +kernel
theorem d_Nz_49 : decode b_Nz 49 = .ok (.bipush 16, 2) := by decide +kernel
theorem d_Nz_51 : decode b_Nz 51 = .ok (.if_icmp .lt 10, 3) := by decide +kernel
theorem d_Nz_54 : decode b_Nz 54 = .ok (.iinc 1 (-4), 3) := by decide +kernel
theorem d_Nz_57 : decode b_Nz 57 = .ok (.iload_n 0, 1) := by decide +kernel
theorem d_Nz_58 : decode b_Nz 58 = .ok (.iconst 4, 1) := by decide +kernel
theorem d_Nz_59 : decode b_Nz 59 = .ok (.iushr, 1) := by decide +kernel
theorem d_Nz_60 : decode b_Nz 60 = .ok (.istore_n 0, 1) := by decide +kernel
theorem d_Nz_61 : decode b_Nz 61 = .ok (.iload_n 0, 1) := by decide +kernel
theorem d_Nz_62 : decode b_Nz 62 = .ok (.iconst 4, 1) := by decide +kernel
theorem d_Nz_63 : decode b_Nz 63 = .ok (.if_icmp .lt 10, 3) := by decide +kernel
theorem d_Nz_66 : decode b_Nz 66 = .ok (.iinc 1 (-2), 3) := by decide +kernel
theorem d_Nz_69 : decode b_Nz 69 = .ok (.iload_n 0, 1) := by decide +kernel
theorem d_Nz_70 : decode b_Nz 70 = .ok (.iconst 2, 1) := by decide +kernel
theorem d_Nz_71 : decode b_Nz 71 = .ok (.iushr, 1) := by decide +kernel
theorem d_Nz_72 : decode b_Nz 72 = .ok (.istore_n 0, 1) := by decide +kernel
theorem d_Nz_73 : decode b_Nz 73 = .ok (.iload_n 1, 1) := by decide +kernel
theorem d_Nz_74 : decode b_Nz 74 = .ok (.iload_n 0, 1) := by decide +kernel
theorem d_Nz_75 : decode b_Nz 75 = .ok (.iconst 1, 1) := by decide +kernel
theorem d_Nz_76 : decode b_Nz 76 = .ok (.iushr, 1) := by decide +kernel
theorem d_Nz_77 : decode b_Nz 77 = .ok (.isub, 1) := by decide +kernel
theorem d_Nz_78 : decode b_Nz 78 = .ok (.ireturn, 1) := by decide +kernel
abbrev rm_0 : Room := { frames := 0, cells := 0, slots := 0, locals := 0 }
/-- as z_met, for a method of a class some of whose methods the machine runs itself, but not this one -/
theorem z_metF {l : Launch} {K : KD} {cc : ByteArray} {y : MethodName} {rm : Room} {av : List Value} {P : Heap → Prop} {post : Heap → Option Value → Heap → Prop} {maxL : Nat} {ret : Option FieldType} (hy : plainFor y = true) (hlen : (lg_sl av).length ≤ maxL)
    (body : ∀ (p : Program) (e : Env) (s : State) (m : MethodId) (below : List Frame) (meth : Method) (c : Code) (ls : Array Slot), CallFix p m c cc maxL s av.toArray (Cond.code y cc maxL ret :: TT) y.cls → meth.sig.returnType = ret → meth.locks = false → meth.name = y.name → GN K s → P s.heap → lv_has ls maxL (lv_args 0 av) →
      W p l e rm s m av.toArray below meth c s.heap [] 0 0 (MQ below (QH post) av.toArray s rm.cells rm.slots (fun q => N0 K ≤ q)) (F0 m 0 ls [])) : CT l K y (Cond.code y cc maxL ret) rm av P post := by
  unfold CT Met
  refine MetFree.of_bodySF (code := cc) (maxLocals := maxL) (ret := ret) hy ?_ ?_
  · intro args s m h hn
    obtain ⟨meth, c, h1, h2, h3, h4, h5, h6, -, -⟩ := Cond.code_spec hn (atoms_spec (ws := Cond.code y cc maxL ret :: TT) h _ List.mem_cons_self)
    exact ⟨meth, c, h1, h2, h3, h4, h5, h6⟩
  · intro p e s m args below meth c s₁ B hml hv _
    obtain ⟨rfl, hG, hP⟩ := hv
    have hh0 : s₁.heap = s.heap := by rw [B.state]; rfl
    have hw := body p e s m below meth c _ ⟨B.exec, B.bytes, hml, findClass_of_methodNamed B.named, atoms_spec (ws := Cond.code y cc maxL ret :: TT) B.pre⟩ B.returns B.notSynchronized (name_of_methodNamed B.named B.method).1 hG hP (lv_entry av hlen)
    rw [lg_entry_eq]
    obtain ⟨t, a1, o, b1, b2, b3⟩ := hw s₁ hh0 (Stand.of_body B)
    exact ⟨t, o, a1, b1, b2, ⟨b3.1, b3.2⟩⟩
theorem pf_Mn : plainFor y_Mn = true := by decide +kernel
theorem pf_Fm : plainFor y_Fm = true := by decide +kernel
theorem ct_Mn (l : Launch) (K : KD) (x y : Int) (hx : inR x) (hy : inR y) : CT l K y_Mn c_Mn rm_0 [.int (zI x), .int (zI y)] (fun _ => True) (fun H v H' => v = some (.int (zI (if x ≤ y then x else y))) ∧ H' = H) := by
  refine z_metF pf_Mn (Nat.le_of_ble_eq_true rfl) ?_
  intro p e s m below meth c ls S hr hlk hnm hG hP hl
  have hl : lv_has ls 2 [(0, .int (zI x)), (1, .int (zI y))] := hl
  refine z_iload_n S rfl (lv_at hl 0 rfl) d_Mn_0 ?_
  refine z_iload_n S rfl (lv_at hl 1 rfl) d_Mn_1 ?_
  refine z_icmp_gt (tgt := 9) S (by decide) (by omega) (by omega) d_Mn_2 ?_ ?_
  · intro hc
    refine z_iload_n S rfl (lv_at hl 1 rfl) d_Mn_9 ?_
    exact z_iret S hr hlk LO.nil ⟨by rw [if_neg (by omega)], rfl⟩ d_Mn_10
  · intro hc
    refine z_iload_n S rfl (lv_at hl 0 rfl) d_Mn_5 ?_
    refine z_goto (tgt := 10) S (by decide) d_Mn_6 ?_
    exact z_iret S hr hlk LO.nil ⟨by rw [if_pos (by omega)], rfl⟩ d_Mn_10
theorem zI_div {a d : Int} (ha : inR a) (h0 : 0 < d) (hd : d < 2147483648) : zI a / zI d = zI (a.tdiv d) := by
  apply Int32.toInt_inj.mp
  have hd' : inR d := ⟨by omega, hd⟩
  rw [Jvm.Kit.i32_div (by rw [zI_toInt hd']; omega), zI_toInt ha, zI_toInt hd', zI_toInt]
  have h1 : (a.tdiv d).natAbs ≤ a.natAbs := by rw [Int.natAbs_tdiv]; exact Nat.div_le_self _ _
  have h2 := ha.1
  have h3 := ha.2
  constructor
  · omega
  · by_cases h4 : 0 ≤ a
    · omega
    · have : a.tdiv d ≤ 0 := by
        have e : a = -(-a) := by omega
        rw [e, Int.neg_tdiv]
        have := Int.tdiv_nonneg (a := -a) (b := d) (by omega) (by omega)
        omega
      omega
theorem zI_rem {a d : Int} (ha : inR a) (h0 : 0 < d) (hd : d < 2147483648) : zI a - zI a / zI d * zI d = zI (a.tmod d) := by
  rw [zI_div ha h0 hd, zI_mul, zI_sub, Int.tmod_def, Int.mul_comm]
theorem xor_neg (x y : Int32) (hy : 0 ≤ y.toInt) : 0 ≤ x ^^^ y ↔ 0 ≤ x.toInt := by
  have h1 : (x ^^^ y).toBitVec.msb = (x.toBitVec.msb ^^ y.toBitVec.msb) := by rw [Int32.toBitVec_xor, BitVec.msb_xor]
  have h2 : y.toBitVec.msb = false := by rw [BitVec.msb_eq_toInt]; simp; exact hy
  rw [h2, Bool.xor_false, BitVec.msb_eq_toInt, BitVec.msb_eq_toInt] at h1
  rw [Int32.le_iff_toInt_le]
  show 0 ≤ (x ^^^ y).toBitVec.toInt ↔ 0 ≤ x.toBitVec.toInt
  have h3 : (x ^^^ y).toBitVec.toInt < 0 ↔ x.toBitVec.toInt < 0 := by simpa using h1
  omega
theorem ct_Fm (l : Launch) (K : KD) (x d : Int) (hx : inR x) (h0 : 0 < d) (hd : d < 2147483648) : CT l K y_Fm c_Fm rm_0 [.int (zI x), .int (zI d)] (fun _ => True) (fun H v H' => v = some (.int (zI (x % d))) ∧ H' = H) := by
  refine z_metF pf_Fm (Nat.le_of_ble_eq_true rfl) ?_
  intro p e s m below meth c ls S hr hlk hnm hG hP hl
  have hl : lv_has ls 3 [(0, .int (zI x)), (1, .int (zI d))] := hl
  have hem : x % d = if x.tmod d < 0 then x.tmod d + d else x.tmod d := by
    have b1 := Int.tmod_lt_of_pos x h0
    have b2 := Int.lt_tmod_of_pos x h0
    have e := Int.tmod_add_mul_tdiv x d
    by_cases h : x.tmod d < 0
    · rw [if_pos h]
      have e2 : x = (x.tmod d + d) + d * (x.tdiv d - 1) := by rw [Int.mul_sub, Int.mul_one]; omega
      conv => lhs; rw [e2]
      rw [Int.add_mul_emod_self_left, Int.emod_eq_of_lt (by omega) (by omega)]
    · rw [if_neg h]
      conv => lhs; rw [← e]
      rw [Int.add_mul_emod_self_left, Int.emod_eq_of_lt (by omega) (by omega)]
  have b1 := Int.tmod_lt_of_pos x h0
  have b2 := Int.lt_tmod_of_pos x h0
  have b3 : 0 ≤ x → 0 ≤ x.tmod d := fun h => Int.tmod_nonneg d h
  have b4 : ¬ 0 ≤ x → x.tmod d ≤ 0 := fun h => by
    have e : x = -(-x) := by omega
    rw [e, Int.neg_tmod]
    have := Int.tmod_nonneg (a := -x) d (by omega)
    omega
  refine z_iload_n S rfl (lv_at hl 0 rfl) d_Fm_0 ?_
  refine z_iload_n S rfl (lv_at hl 1 rfl) d_Fm_1 ?_
  refine lv_irem S.1 S.2.1 d_Fm_2 (fun h => by rw [← zI_0, zI_eq ⟨by omega, hd⟩ zI_inR0] at h; omega) ?_
  rw [zI_rem hx h0 hd]
  refine z_istore_n (lv' := [(2, .int (zI (x.tmod d))), (0, .int (zI x)), (1, .int (zI d))]) S rfl hl rfl (by decide) d_Fm_3 (fun ls hl => ?_)
  refine z_iload_n S rfl (lv_at hl 1 rfl) d_Fm_4 ?_
  refine z_iload_n S rfl (lv_at hl 2 rfl) d_Fm_5 ?_
  refine lv_ixor S.1 S.2.1 d_Fm_6 ?_
  refine lv_if_ge (tgt := 18) S.1 S.2.1 d_Fm_7 (by decide) (fun h => ?_) (fun h => ?_)
  · rw [xor_neg _ _ (by rw [zI_toInt ⟨by omega, hd⟩]; omega), zI_toInt hx] at h
    have := b3 h
    refine z_iload_n S rfl (lv_at hl 0 rfl) d_Fm_18 ?_
    exact z_iret S hr hlk LO.nil ⟨by rw [hem, if_neg (by omega)], rfl⟩ d_Fm_19
  · rw [xor_neg _ _ (by rw [zI_toInt ⟨by omega, hd⟩]; omega), zI_toInt hx] at h
    have := b4 h
    refine z_iload_n S rfl (lv_at hl 0 rfl) d_Fm_10 ?_
    refine z_if_eq (tgt := 18) S (by decide) (by omega) d_Fm_11 ?_ ?_
    · intro hc
      refine z_iload_n S rfl (lv_at hl 0 rfl) d_Fm_18 ?_
      exact z_iret S hr hlk LO.nil ⟨by rw [hem, if_neg (by omega)], rfl⟩ d_Fm_19
    · intro hc
      refine z_iload_n S rfl (lv_at hl 0 rfl) d_Fm_14 ?_
      refine z_iload_n S rfl (lv_at hl 2 rfl) d_Fm_15 ?_
      refine z_iadd S d_Fm_16 ?_
      exact z_iret S hr hlk LO.nil ⟨by rw [hem, if_pos (by omega)], rfl⟩ d_Fm_17
theorem ct_Ar (l : Launch) (K : KD) (n i j : Nat) (hn : n < 1000000) (hij : i ≤ j) (hj : j ≤ n) : CT l K y_Ar c_Ar rm_0 [.int (zI n), .int (zI i), .int (zI j)] (fun _ => True) (fun H v H' => v = none ∧ H' = H) := by
  refine z_met (by decide) (Nat.le_of_ble_eq_true rfl) ?_
  intro p e s m below meth c ls S hr hlk hnm hG hP hl
  have hl : lv_has ls 3 [(0, .int (zI n)), (1, .int (zI i)), (2, .int (zI j))] := hl
  refine z_iload_n S rfl (lv_at hl 1 rfl) d_Ar_0 ?_
  refine z_iload_n S rfl (lv_at hl 2 rfl) d_Ar_1 ?_
  refine z_icmp_le (tgt := 46) S (by decide) (by omega) (by omega) d_Ar_2 ?_ ?_
  · intro hc
    refine z_iload_n S rfl (lv_at hl 1 rfl) d_Ar_46 ?_
    refine z_if_ge (tgt := 59) S (by decide) (by omega) d_Ar_47 ?_ ?_
    · intro hc2
      refine z_iload_n S rfl (lv_at hl 2 rfl) d_Ar_59 ?_
      refine z_iload_n S rfl (lv_at hl 0 rfl) d_Ar_60 ?_
      refine z_icmp_le (tgt := 73) S (by decide) (by omega) (by omega) d_Ar_61 ?_ ?_
      · intro hc3
        exact z_vret S hr hlk LO.nil ⟨rfl, rfl⟩ d_Ar_73
      · intro hc3
        omega
    · intro hc2
      omega
  · intro hc
    omega
theorem ct_Cm (l : Launch) (K : KD) (n : Nat) (hn : n < 1000000) (h32 : 32 ≤ n) : CT l K y_Cm c_Cm rm_0 [.int (zI n)] (fun _ => True) (fun H v H' => ∃ r : Nat, v = some (.int (zI r)) ∧ 16 ≤ r ∧ r ≤ 32 ∧ H' = H) := by
  refine z_met (by decide) (Nat.le_of_ble_eq_true rfl) ?_
  intro p e s m below meth c ls S hr hlk hnm hG hP hl
  have hl : lv_has ls 2 [(0, .int (zI n))] := hl
  have loop : ∀ (k i r : Nat) (ls : Array Slot), i < k → 16 ≤ i → i < 1000000 → r ≤ 1 → lv_has ls 2 [(0, .int (zI i)), (1, .int (zI r))] → W p l e rm_0 s m [Value.int (zI n)].toArray below meth c s.heap [] 0 0 (MQ below (QH (fun H v H' => ∃ r : Nat, v = some (.int (zI r)) ∧ 16 ≤ r ∧ r ≤ 32 ∧ H' = H)) [Value.int (zI n)].toArray s 0 0 (fun q => N0 K ≤ q)) (F0 m 20 ls []) := by
    intro k
    induction k with
    | zero => intro i r ls h; omega
    | succ k ih =>
      intro i r ls hk h1 h2 h3 hl
      refine z_iload_n S rfl (lv_at hl 0 rfl) d_Cm_20 ?_
      refine z_bipush S (by decide) d_Cm_21 ?_
      refine z_icmp_lt (tgt := 39) S (by decide) (by omega) (by omega) d_Cm_23 ?_ ?_
      · intro hc
        refine z_iload_n S rfl (lv_at hl 0 rfl) d_Cm_39 ?_
        refine z_iload_n S rfl (lv_at hl 1 rfl) d_Cm_40 ?_
        refine z_iadd S d_Cm_41 ?_
        exact z_iret S hr hlk LO.nil ⟨i + r, by rw [show ((i + r : Nat) : Int) = (i : Int) + r by omega], by omega, by omega, rfl⟩ d_Cm_42
      · intro hc
        refine z_iload_n S rfl (lv_at hl 1 rfl) d_Cm_26 ?_
        refine z_iload_n S rfl (lv_at hl 0 rfl) d_Cm_27 ?_
        refine z_iconst S d_Cm_28 ?_
        refine lv_iand S.1 S.2.1 d_Cm_29 ?_
        refine lv_ior S.1 S.2.1 d_Cm_30 ?_
        have eb : zI i &&& zI 1 = zI ((i % 2 : Nat) : Int) := by
          rw [z_shr1 (by omega) (by omega), z_shr1 (a := ((i % 2 : Nat) : Int)) (by omega) (by omega), Int.toNat_natCast, Int.toNat_natCast]
          exact pk_andN (m := zI 1) (by omega) 1 (by decide)
        have er : ∃ r' : Nat, r' ≤ 1 ∧ zI r ||| zI ((i % 2 : Nat) : Int) = zI (r' : Int) := by
          have hb : i % 2 = 0 ∨ i % 2 = 1 := by omega
          have hr : r = 0 ∨ r = 1 := by omega
          rcases hb with hb | hb <;> rcases hr with hr | hr <;> rw [hb, hr]
          · exact ⟨0, by omega, by decide⟩
          · exact ⟨1, by omega, by decide⟩
          · exact ⟨1, by omega, by decide⟩
          · exact ⟨1, by omega, by decide⟩
        obtain ⟨r', hr1, hr2⟩ := er
        rw [eb, hr2]
        refine z_istore_n (lv' := [(1, .int (zI r')), (0, .int (zI i))]) S rfl hl rfl (by decide) d_Cm_31 (fun ls hl => ?_)
        refine z_iload_n S rfl (lv_at hl 1 rfl) d_Cm_32 ?_
        refine z_iconst S d_Cm_33 ?_
        refine z_ishr1 S (by omega) (by omega) d_Cm_34 ?_
        refine z_top (b := ((i / 2 : Nat) : Int)) (by omega) ?_
        refine z_istore_n (lv' := [(0, .int (zI ((i / 2 : Nat) : Int))), (1, .int (zI r'))]) S rfl hl rfl (by decide) d_Cm_35 (fun ls hl => ?_)
        refine z_goto (tgt := 20) S (by decide) d_Cm_36 ?_
        exact ih (i / 2) r' ls (by omega) (by omega) (by omega) hr1 hl
  refine z_asrt (tgt := 18) S hG Keep.rf tw_asrt (by decide) d_Cm_0 d_Cm_3 ?_
  refine z_iconst S d_Cm_18 ?_
  refine z_istore_n (lv' := [(1, .int (zI 0)), (0, .int (zI n))]) S rfl hl rfl (by decide) d_Cm_19 (fun ls hl => ?_)
  exact loop (n + 1) n 0 ls (by omega) (by omega) (by omega) (by omega) (lv_sub hl [1, 0] rfl)
theorem z_ushrN {a : Int} (k : Nat) (d : Int) (x : Int32) (hk : ((x.toUInt32 &&& Int32.toUInt32 31).toBitVec % 32).toNat = k) (hd : d = ((2 ^ k : Nat) : Int)) (h0 : 0 ≤ a) (h1 : a < 2147483648) : ((zI a).toUInt32 >>> (x.toUInt32 &&& Int32.toUInt32 31)).toInt32 = zI (a / d) := by
  obtain ⟨n, rfl⟩ := Int.eq_ofNat_of_zero_le h0
  subst hd
  have e : ((n : Int) / ((2 ^ k : Nat) : Int)) = ((n / 2 ^ k : Nat) : Int) := (Int.natCast_ediv n (2 ^ k)).symm
  have h2 : n / 2 ^ k ≤ n := Nat.div_le_self _ _
  have h3 := pk_ushrN (n := n) (by omega) x k hk
  rw [e]
  generalize n / 2 ^ k = q at h2 h3 ⊢
  rw [z_shr1 h0 h1, z_shr1 (a := (q : Int)) (by omega) (by omega), Int.toNat_natCast, Int.toNat_natCast]
  exact h3
theorem ct_Nz (l : Launch) (K : KD) (n : Nat) (hn : n < 65536) (h0 : 0 < n) : CT l K y_Nz c_Nz rm_0 [.int (zI n)] (fun _ => True) (fun H v H' => ∃ z : Nat, v = some (.int (zI z)) ∧ z ≤ 31 ∧ 16 ≤ z ∧ 2 ^ (31 - z) ≤ n ∧ n < 2 ^ (32 - z) ∧ H' = H) := by
  refine z_met (by decide) (Nat.le_of_ble_eq_true rfl) ?_
  intro p e s m below meth c ls S hr hlk hnm hG hP hl
  have hl : lv_has ls 2 [(0, .int (zI n))] := hl
  generalize hQ : MQ below (QH (fun H v H' => ∃ z : Nat, v = some (.int (zI z)) ∧ z ≤ 31 ∧ 16 ≤ z ∧ 2 ^ (31 - z) ≤ n ∧ n < 2 ^ (32 - z) ∧ H' = H)) [Value.int (zI n)].toArray s rm_0.cells rm_0.slots (fun q => N0 K ≤ q) = Q
  -- at 73: i in 1..3
  have f4 : ∀ (i u : Nat) (ls : Array Slot), 1 ≤ i → i < 4 → 17 ≤ u → u ≤ 31 → i * 2 ^ (31 - u) ≤ n → n < (i + 1) * 2 ^ (31 - u) → lv_has ls 2 [(0, .int (zI i)), (1, .int (zI u))] → W p l e rm_0 s m [Value.int (zI n)].toArray below meth c s.heap [] 0 0 Q (F0 m 73 ls []) := by
    intro i u ls h1 h2 h3 h4 h5 h6 hl
    refine z_iload_n S rfl (lv_at hl 1 rfl) d_Nz_73 ?_
    refine z_iload_n S rfl (lv_at hl 0 rfl) d_Nz_74 ?_
    refine z_iconst S d_Nz_75 ?_
    refine z_iushr1 S (by omega) (by omega) d_Nz_76 ?_
    refine z_isub S d_Nz_77 ?_
    subst hQ
    have hi : i = 1 ∨ i = 2 ∨ i = 3 := by omega
    rcases hi with rfl | rfl | rfl
    · exact z_iret S hr hlk LO.nil ⟨u, by rw [show (u : Int) - ((1 : Nat) : Int) / 2 = u by omega], by omega, by omega, by omega, by rw [show 32 - u = (31 - u) + 1 by omega, Nat.pow_succ]; omega, rfl⟩ d_Nz_78
    · exact z_iret S hr hlk LO.nil ⟨u - 1, by rw [show (u : Int) - ((2 : Nat) : Int) / 2 = ((u - 1 : Nat) : Int) by omega], by omega, by omega, by rw [show 31 - (u - 1) = (31 - u) + 1 by omega, Nat.pow_succ]; omega, by rw [show 32 - (u - 1) = (31 - u) + 1 + 1 by omega, Nat.pow_succ, Nat.pow_succ]; omega, rfl⟩ d_Nz_78
    · exact z_iret S hr hlk LO.nil ⟨u - 1, by rw [show (u : Int) - ((3 : Nat) : Int) / 2 = ((u - 1 : Nat) : Int) by omega], by omega, by omega, by rw [show 31 - (u - 1) = (31 - u) + 1 by omega, Nat.pow_succ]; omega, by rw [show 32 - (u - 1) = (31 - u) + 1 + 1 by omega, Nat.pow_succ, Nat.pow_succ]; omega, rfl⟩ d_Nz_78
  have f3 : ∀ (i u : Nat) (ls : Array Slot), 1 ≤ i → i < 16 → 19 ≤ u → u ≤ 31 → i * 2 ^ (31 - u) ≤ n → n < (i + 1) * 2 ^ (31 - u) → lv_has ls 2 [(0, .int (zI i)), (1, .int (zI u))] → W p l e rm_0 s m [Value.int (zI n)].toArray below meth c s.heap [] 0 0 Q (F0 m 61 ls []) := by
    intro i u ls h1 h2 h3 h4 h5 h6 hl
    refine z_iload_n S rfl (lv_at hl 0 rfl) d_Nz_61 ?_
    refine z_iconst S d_Nz_62 ?_
    refine z_icmp_lt (tgt := 73) S (by decide) (by omega) (by omega) d_Nz_63 ?_ ?_
    · intro hc
      exact f4 i u ls h1 (by omega) (by omega) h4 h5 h6 hl
    · intro hc
      refine z_iinc (lv' := [(1, .int (zI (u + (-2)))), (0, .int (zI i))]) (q := 1) S hl rfl rfl (by decide) d_Nz_66 (fun ls hl => ?_)
      refine z_iload_n S rfl (lv_at hl 1 rfl) d_Nz_69 ?_
      refine z_iconst S d_Nz_70 ?_
      refine lv_iushr (v := zI ((i : Int) / 4)) S.1 S.2.1 d_Nz_71 (z_ushrN 2 4 (zI 2) (by decide) rfl (by omega) (by omega)) ?_
      refine z_top (b := ((i / 4 : Nat) : Int)) (by omega) ?_
      refine z_istore_n (lv' := [(0, .int (zI ((i / 4 : Nat) : Int))), (1, .int (zI (u + (-2))))]) S rfl hl rfl (by decide) d_Nz_72 (fun ls hl => ?_)
      have hl : lv_has ls 2 [(0, .int (zI ((i / 4 : Nat) : Int))), (1, .int (zI ((u - 2 : Nat) : Int)))] := by rw [show ((u - 2 : Nat) : Int) = (u + (-2)) by omega]; exact hl
      have e : 2 ^ (31 - (u - 2)) = 2 ^ (31 - u) * 4 := by rw [show 31 - (u - 2) = (31 - u) + 2 by omega, Nat.pow_add]
      have m1 : i / 4 * 4 ≤ i := by omega
      have m2 : i + 1 ≤ (i / 4 + 1) * 4 := by omega
      exact f4 (i / 4) (u - 2) ls (by omega) (by omega) (by omega) (by omega) (by rw [e]; have := Nat.mul_le_mul_right (2 ^ (31 - u)) m1; rw [Nat.mul_assoc, Nat.mul_comm 4] at this; omega) (by rw [e]; have := Nat.mul_le_mul_right (2 ^ (31 - u)) m2; rw [Nat.mul_assoc, Nat.mul_comm 4] at this; omega) hl
  have f2 : ∀ (i u : Nat) (ls : Array Slot), 1 ≤ i → i < 256 → 23 ≤ u → u ≤ 31 → i * 2 ^ (31 - u) ≤ n → n < (i + 1) * 2 ^ (31 - u) → lv_has ls 2 [(0, .int (zI i)), (1, .int (zI u))] → W p l e rm_0 s m [Value.int (zI n)].toArray below meth c s.heap [] 0 0 Q (F0 m 48 ls []) := by
    intro i u ls h1 h2 h3 h4 h5 h6 hl
    refine z_iload_n S rfl (lv_at hl 0 rfl) d_Nz_48 ?_
    refine z_bipush S (by decide) d_Nz_49 ?_
    refine z_icmp_lt (tgt := 61) S (by decide) (by omega) (by omega) d_Nz_51 ?_ ?_
    · intro hc
      exact f3 i u ls h1 (by omega) (by omega) h4 h5 h6 hl
    · intro hc
      refine z_iinc (lv' := [(1, .int (zI (u + (-4)))), (0, .int (zI i))]) (q := 1) S hl rfl rfl (by decide) d_Nz_54 (fun ls hl => ?_)
      refine z_iload_n S rfl (lv_at hl 1 rfl) d_Nz_57 ?_
      refine z_iconst S d_Nz_58 ?_
      refine lv_iushr (v := zI ((i : Int) / 16)) S.1 S.2.1 d_Nz_59 (z_ushrN 4 16 (zI 4) (by decide) rfl (by omega) (by omega)) ?_
      refine z_top (b := ((i / 16 : Nat) : Int)) (by omega) ?_
      refine z_istore_n (lv' := [(0, .int (zI ((i / 16 : Nat) : Int))), (1, .int (zI (u + (-4))))]) S rfl hl rfl (by decide) d_Nz_60 (fun ls hl => ?_)
      have hl : lv_has ls 2 [(0, .int (zI ((i / 16 : Nat) : Int))), (1, .int (zI ((u - 4 : Nat) : Int)))] := by rw [show ((u - 4 : Nat) : Int) = (u + (-4)) by omega]; exact hl
      have e : 2 ^ (31 - (u - 4)) = 2 ^ (31 - u) * 16 := by rw [show 31 - (u - 4) = (31 - u) + 4 by omega, Nat.pow_add]
      have m1 : i / 16 * 16 ≤ i := by omega
      have m2 : i + 1 ≤ (i / 16 + 1) * 16 := by omega
      exact f3 (i / 16) (u - 4) ls (by omega) (by omega) (by omega) (by omega) (by rw [e]; have := Nat.mul_le_mul_right (2 ^ (31 - u)) m1; rw [Nat.mul_assoc, Nat.mul_comm 16] at this; omega) (by rw [e]; have := Nat.mul_le_mul_right (2 ^ (31 - u)) m2; rw [Nat.mul_assoc, Nat.mul_comm 16] at this; omega) hl
  refine z_iload_n S rfl (lv_at hl 0 rfl) d_Nz_0 ?_
  refine z_if_gt (tgt := 15) S (by decide) (by omega) d_Nz_1 ?_ ?_
  · intro hc
    refine z_bipush S (by decide) d_Nz_15 ?_
    refine z_istore_n (lv' := [(1, .int (zI 31)), (0, .int (zI n))]) S rfl hl rfl (by decide) d_Nz_17 (fun ls hl => ?_)
    refine z_iload_n S rfl (lv_at hl 1 rfl) d_Nz_18 ?_
    refine lv_ldcw (v := zI 65536) S.1 S.2.1 S.2.2.2.1 (wt S.2.2.2.2 tk_I264) d_Nz_19 ?_
    refine z_icmp_lt (tgt := 33) S (by decide) (by omega) (by omega) d_Nz_22 ?_ ?_
    · intro hc2
      refine z_iload_n S rfl (lv_at hl 1 rfl) d_Nz_33 ?_
      refine z_sipush S (by decide) d_Nz_34 ?_
      refine z_icmp_lt (tgt := 48) S (by decide) (by omega) (by omega) d_Nz_37 ?_ ?_
      · intro hc3
        refine f2 n 31 ls (by omega) (by omega) (by omega) (by omega) (by omega) (by omega) (lv_sub hl [1, 0] rfl)
      · intro hc3
        refine z_iinc (lv' := [(1, .int (zI (31 + (-8)))), (0, .int (zI n))]) (q := 0) S hl rfl rfl (by decide) d_Nz_40 (fun ls hl => ?_)
        refine z_iload_n S rfl (lv_at hl 1 rfl) d_Nz_43 ?_
        refine z_bipush S (by decide) d_Nz_44 ?_
        refine lv_iushr (v := zI ((n : Int) / 256)) S.1 S.2.1 d_Nz_46 (z_ushrN 8 256 (zI 8) (by decide) rfl (by omega) (by omega)) ?_
        refine z_top (b := ((n / 256 : Nat) : Int)) (by omega) ?_
        refine z_istore_n (lv' := [(0, .int (zI ((n / 256 : Nat) : Int))), (1, .int (zI (31 + (-8))))]) S rfl hl rfl (by decide) d_Nz_47 (fun ls hl => ?_)
        exact f2 (n / 256) 23 ls (by omega) (by omega) (by omega) (by omega) (by omega) (by omega) hl
    · intro hc2
      omega
  · intro hc
    omega
end
section
/-! the sorter's object; ensureCapacity -/
set_option maxRecDepth 100000
/-- the sorter at o: its array a, minGallop, tmp (tb, of tl places from 0 on), stackSize, runBase, runLen -/
def CO (K : KD) (o a : Nat) (mg : Int) (tb : Nat) (tl : Nat) (ss : Int) (rb rl : Nat) (H : Heap) : Prop := va_at K.1 classes (o, .inr (2, [.ref a, .int (zI mg), .ref tb, .int (zI 0), .int (zI tl), .int (zI ss), .ref rb, .ref rl])) H
theorem CO.kept {K : KD} {o a : Nat} {mg : Int} {tb tl : Nat} {ss : Int} {rb rl : Nat} {H H1 : Heap} (h : CO K o a mg tb tl ss rb rl H) (hq : H1[o]? = H[o]?) : CO K o a mg tb tl ss rb rl H1 := va_at.kept h hq
theorem CO.lt {K : KD} {o a : Nat} {mg : Int} {tb tl : Nat} {ss : Int} {rb rl : Nat} {H : Heap} (h : CO K o a mg tb tl ss rb rl H) : o < H.size := va_at.lt h
theorem CO.recv {K : KD} {o a : Nat} {mg : Int} {tb tl : Nat} {ss : Int} {rb rl : Nat} {H : Heap} {s : State} (hG : GN K s) (h : CO K o a mg tb tl ss rb rl H) : ∃ cell : Cell, H[o]? = some cell ∧ cell.vm.isStatics = false ∧ s.vm.findClass "java/util/ComparableTimSort" = some cell.cls := ob_recv (q := ("java/util/ComparableTimSort", F_Cts, 8)) hG.1.1 h rfl
theorem at_lt {H : Heap} {a : Nat} {x : Cell} (h : H[a]? = some x) : a < H.size := (Array.getElem?_eq_some_iff.mp h).1
theorem push_off {H : Heap} {q : Nat} {x : Cell} (h : q < H.size) : (H.push x)[q]? = H[q]? := by rw [Array.getElem?_push, if_neg (Nat.ne_of_lt h)]
theorem push_at {H : Heap} {x : Cell} : (H.push x)[H.size]? = some x := by simp
theorem sh_m1 : ∀ z : Nat, z < 32 → 1 ≤ z → ((zI (-1)).toUInt32 >>> ((zI (z : Int)).toUInt32 &&& Int32.toUInt32 31)).toInt32 = zI (((2 ^ (32 - z) : Nat) : Int) - 1) := by decide +kernel
theorem d_Ce_0 : decode b_Ce 0 = .ok (.aload_n 0, 1) := by decide +kernel
theorem d_Ce_1 : decode b_Ce 1 = .ok (.getfield 26, 3) := by decide +kernel
theorem d_Ce_4 : decode b_Ce 4 = .ok (.iload_n 1, 1) := by decide +kernel
theorem d_Ce_5 : decode b_Ce 5 = .ok (.if_icmp .ge 54, 3) := by decide +kernel
theorem d_Ce_8 : decode b_Ce 8 = .ok (.iconst (-1), 1) := by decide +kernel
theorem d_Ce_9 : decode b_Ce 9 = .ok (.iload_n 1, 1) := by decide +kernel
theorem d_Ce_10 : decode b_Ce 10 = .ok (.invokestatic 114, 3) := by decide +kernel
theorem d_Ce_13 : decode b_Ce 13 = .ok (.iushr, 1) := by decide +kernel
theorem d_Ce_14 : decode b_Ce 14 = .ok (.istore_n 2, 1) := by decide +kernel
theorem d_Ce_15 : decode b_Ce 15 = .ok (.iinc 2 1, 3) := by decide +kernel
theorem d_Ce_18 : decode b_Ce 18 = .ok (.iload_n 2, 1) := by decide +kernel
theorem d_Ce_19 : decode b_Ce 19 = .ok (.ifCond .ge 8, 3) := by decide +kernel
theorem d_Ce_27 : decode b_Ce 27 = .ok (.iload_n 2, 1) := by decide +kernel
theorem d_Ce_28 : decode b_Ce 28 = .ok (.aload_n 0, 1) := by decide +kernel
theorem d_Ce_29 : decode b_Ce 29 = .ok (.getfield 16, 3) := by decide +kernel
theorem d_Ce_32 : decode b_Ce 32 = .ok (.arraylength, 1) := by decide +kernel
theorem d_Ce_33 : decode b_Ce 33 = .ok (.iconst 1, 1) := by decide +kernel
theorem d_Ce_34 : decode b_Ce 34 = .ok (.iushr, 1) := by decide +kernel
theorem d_Ce_35 : decode b_Ce 35 = .ok (.invokestatic 119, 3) := by decide +kernel
theorem d_Ce_38 : decode b_Ce 38 = .ok (.istore_n 2, 1) := by decide +kernel
theorem d_Ce_39 : decode b_Ce 39 = .ok (.iload_n 2, 1) := by decide +kernel
theorem d_Ce_40 : decode b_Ce 40 = .ok (.anewarray 2, 3) := by decide +kernel
theorem d_Ce_43 : decode b_Ce 43 = .ok (.astore_n 3, 1) := by decide +kernel
theorem d_Ce_44 : decode b_Ce 44 = .ok (.aload_n 0, 1) := by decide +kernel
theorem d_Ce_45 : decode b_Ce 45 = .ok (.aload_n 3, 1) := by decide +kernel
theorem d_Ce_46 : decode b_Ce 46 = .ok (.putfield 20, 3) := by decide +kernel
theorem d_Ce_49 : decode b_Ce 49 = .ok (.aload_n 0, 1) := by decide +kernel
theorem d_Ce_50 : decode b_Ce 50 = .ok (.iload_n 2, 1) := by decide +kernel
theorem d_Ce_51 : decode b_Ce 51 = .ok (.putfield 26, 3) := by decide +kernel
theorem d_Ce_54 : decode b_Ce 54 = .ok (.aload_n 0, 1) := by decide +kernel
theorem d_Ce_55 : decode b_Ce 55 = .ok (.iconst 0, 1) := by decide +kernel
theorem d_Ce_56 : decode b_Ce 56 = .ok (.putfield 23, 3) := by decide +kernel
theorem d_Ce_59 : decode b_Ce 59 = .ok (.aload_n 0, 1) := by decide +kernel
theorem d_Ce_60 : decode b_Ce 60 = .ok (.getfield 20, 3) := by decide +kernel
theorem d_Ce_63 : decode b_Ce 63 = .ok (.areturn, 1) := by decide +kernel
abbrev rm_Ce : Room := { frames := 1, cells := 1, slots := 4000, locals := 21 }
def Pce (K : KD) (o a : Nat) (mg : Int) (tb : Nat) (ss : Int) (rb rl mc : Nat) : Heap → Option Value → Heap → Prop := fun H v H' => ∃ (tb' tl' : Nat) (g' : Nat → Option Nat), v = some (.ref tb') ∧ mc ≤ tl' ∧ tl' ≤ 4000 ∧ CO K o a mg tb' tl' ss rb rl H' ∧ H'[tb']? = some (RA (cO_ K) tl' g') ∧ (tb' = tb ∨ tb' = H.size) ∧ H.size ≤ H'.size ∧ (∀ q, q < H.size → q ≠ o → H'[q]? = H[q]?)
set_option maxHeartbeats 4000000 in
theorem ct_Ce (l : Launch) (K : KD) (o a : Nat) (mg : Int) (tb tl : Nat) (ss : Int) (rb rl mc n : Nat) (f g : Nat → Option Nat) (hn : n ≤ 8000) (h0 : 0 < mc) (hmc : mc ≤ n / 2) (htl : tl ≤ 4000) (hN : N0 K ≤ o) (hoa : o ≠ a) (hot : o ≠ tb) :
    CT l K y_Ce c_Ce rm_Ce [.ref o, .int (zI mc)] (fun H => CO K o a mg tb tl ss rb rl H ∧ H[a]? = some (RA (cM_ K) n f) ∧ H[tb]? = some (RA (cO_ K) tl g)) (Pce K o a mg tb ss rb rl mc) := by
  refine z_met (by decide) (Nat.le_of_ble_eq_true rfl) ?_
  intro p e s m below meth c ls S hr hlk hnm hG hP hl
  obtain ⟨hO, ha, ht⟩ := hP
  have hl : lv_has ls 4 [(0, .ref o), (1, .int (zI mc))] := hl
  refine z_aload_n S rfl (lv_at hl 0 rfl) d_Ce_0 ?_
  refine z_get (C := "java/util/ComparableTimSort") (T := F_Cts) (N := 8) (ci := 2) S tin_Cts hG hO rfl 4 (by decide) tf_C26 rfl rfl d_Ce_1 ?_
  refine z_iload_n S rfl (lv_at hl 1 rfl) d_Ce_4 ?_
  refine z_icmp_ge (tgt := 59) S (by decide) (by omega) (by omega) d_Ce_5 ?_ ?_
  · intro hc
    refine z_aload_n S rfl (lv_at hl 0 rfl) d_Ce_59 ?_
    refine z_get (C := "java/util/ComparableTimSort") (T := F_Cts) (N := 8) (ci := 2) S tin_Cts hG hO rfl 2 (by decide) tf_C20 rfl rfl d_Ce_60 ?_
    refine W.widen (k := 1) (n := 4000) (by omega) (by omega) ?_
    exact z_aret S hr hlk LO.nil ⟨tb, tl, g, rfl, by omega, htl, hO, ht, Or.inl rfl, Nat.le_refl _, fun _ _ _ => rfl⟩ d_Ce_63
  · intro hc
    refine z_iconst S d_Ce_8 ?_
    refine z_iload_n S rfl (lv_at hl 1 rfl) d_Ce_9 ?_
    refine z_callS (n := 1) S (ct_Nz l K mc (by omega) h0) tc_Nz tm_C114 ts_Nz tn_I (by decide) (by decide) rfl hG Keep.rf LO.nil trivial hl rfl (by decide) (by decide) d_Ce_10 (fun v H1 locs hp hlo => ?_)
    obtain ⟨z, rfl, z1, z2, z3, z4, rfl⟩ := hp
    have hp2 : 2 ^ (32 - z) ≤ 2 * mc := by
      rw [show 32 - z = (31 - z) + 1 by omega, Nat.pow_succ]
      omega
    have hsh := sh_m1 z (by omega) (by omega)
    generalize 2 ^ (32 - z) = p2 at z4 hp2 hsh
    refine lv_iushr S.1 S.2.1 d_Ce_13 hsh ?_
    refine z_istore_n (lv' := [(2, .int (zI (p2 - 1))), (0, .ref o), (1, .int (zI mc))]) S rfl hl rfl (by decide) d_Ce_14 (fun ls hl => ?_)
    refine z_iinc (lv' := [(2, .int (zI ((p2 - 1) + 1))), (0, .ref o), (1, .int (zI mc))]) (q := 0) S hl rfl rfl (by decide) d_Ce_15 (fun ls hl => ?_)
    refine z_iload_n S rfl (lv_at hl 0 rfl) d_Ce_18 ?_
    refine z_if_ge (tgt := 27) S (by decide) (by omega) d_Ce_19 ?_ ?_
    · intro hc2
      refine z_iload_n S rfl (lv_at hl 0 rfl) d_Ce_27 ?_
      refine z_aload_n S rfl (lv_at hl 1 rfl) d_Ce_28 ?_
      refine z_get (C := "java/util/ComparableTimSort") (T := F_Cts) (N := 8) (ci := 2) S tin_Cts hG hO rfl 0 (by decide) tf_C16 rfl rfl d_Ce_29 ?_
      refine z_alen S hG.M ha d_Ce_32 ?_
      refine z_iconst S d_Ce_33 ?_
      refine z_iushr1 S (by omega) (by omega) d_Ce_34 ?_
      refine z_callS (n := 2) S (ct_Mn l K _ _ (by omega) (by omega)) tc_Mn tm_C119 ts_Mn tn_H (by decide) (by decide) rfl hG Keep.rf hlo trivial hl rfl (by decide) (by decide) d_Ce_35 (fun v H1 locs hp hlo => ?_)
      obtain ⟨rfl, rfl⟩ := hp
      have hr9 : ∃ r : Nat, (if (p2 : Int) - 1 + 1 ≤ (n : Int) / 2 then (p2 : Int) - 1 + 1 else (n : Int) / 2) = (r : Int) ∧ mc ≤ r ∧ r ≤ 4000 := by
        by_cases h : (p2 : Int) - 1 + 1 ≤ (n : Int) / 2
        · rw [if_pos h]; exact ⟨p2, by omega, by omega, by omega⟩
        · rw [if_neg h]; exact ⟨n / 2, by omega, by omega, by omega⟩
      obtain ⟨r, er, hr1, hr2⟩ := hr9
      rw [er]
      refine z_istore_n (lv' := [(2, .int (zI r)), (0, .ref o), (1, .int (zI mc))]) S rfl hl rfl (by decide) d_Ce_38 (fun ls hl => ?_)
      refine z_iload_n S rfl (lv_at hl 0 rfl) d_Ce_39 ?_
      refine z_anew S hG.O hG.1.2.2.2.2.1 tcl_C2 (by omega) (by omega) (by decide) (by show 0 + _ ≤ 4000; omega) d_Ce_40 ?_
      rw [Int.toNat_natCast]
      refine z_astore_n (lv' := [(3, .ref (Array.size s.heap)), (2, .int (zI r)), (0, .ref o), (1, .int (zI mc))]) S rfl hl rfl (by decide) d_Ce_43 (fun ls hl => ?_)
      refine z_aload_n S rfl (lv_at hl 2 rfl) d_Ce_44 ?_
      refine z_aload_n S rfl (lv_at hl 0 rfl) d_Ce_45 ?_
      have hO1 : CO K o a mg tb tl ss rb rl (s.heap.push (RA (cO_ K) r (fun _ => none))) := hO.kept (push_off hO.lt)
      refine z_put (C := "java/util/ComparableTimSort") (T := F_Cts) (N := 8) (ci := 2) S tin_Cts t_Cts tok_Cts tnm_Cts hG hO1 hlo hN rfl 2 (by decide) tf_C20 rfl rfl rfl rfl (Nat.le_of_ble_eq_true rfl) d_Ce_46 (fun H2 locs hO2 q1 q2 hlo => ?_)
      refine z_aload_n S rfl (lv_at hl 2 rfl) d_Ce_49 ?_
      refine z_iload_n S rfl (lv_at hl 1 rfl) d_Ce_50 ?_
      refine z_put (C := "java/util/ComparableTimSort") (T := F_Cts) (N := 8) (ci := 2) S tin_Cts t_Cts tok_Cts tnm_Cts hG hO2 hlo hN rfl 4 (by decide) tf_C26 rfl rfl rfl rfl (Nat.le_of_ble_eq_true rfl) d_Ce_51 (fun H3 locs hO3 q3 q4 hlo => ?_)
      refine z_aload_n S rfl (lv_at hl 2 rfl) d_Ce_54 ?_
      refine z_iconst S d_Ce_55 ?_
      refine z_put (C := "java/util/ComparableTimSort") (T := F_Cts) (N := 8) (ci := 2) S tin_Cts t_Cts tok_Cts tnm_Cts hG hO3 hlo hN rfl 3 (by decide) tf_C23 rfl rfl rfl rfl (Nat.le_of_ble_eq_true rfl) d_Ce_56 (fun H4 locs hO4 q5 q6 hlo => ?_)
      refine z_aload_n S rfl (lv_at hl 2 rfl) d_Ce_59 ?_
      refine z_get (C := "java/util/ComparableTimSort") (T := F_Cts) (N := 8) (ci := 2) S tin_Cts hG hO4 rfl 2 (by decide) tf_C20 rfl rfl d_Ce_60 ?_
      have hsz := hO.lt
      refine W.widen (k := 1) (n := 4000) (by show 0 + 0 + 0 + 1 ≤ 1; omega) (by show 0 + 0 + 0 + r ≤ 4000; omega) ?_
      refine z_aret S hr hlk hlo ⟨s.heap.size, r, (fun _ => none), rfl, hr1, hr2, hO4, ?_, Or.inr rfl, ?_, ?_⟩ d_Ce_63
      · rw [q6 _ (by omega), q4 _ (by omega), q2 _ (by omega)]
        exact push_at
      · rw [q5, q3, q1, Array.size_push]
        omega
      · intro q h1 h2
        rw [q6 q h2, q4 q h2, q2 q h2]
        exact push_off h1
    · intro hc2
      omega
end
section
/-! merging, as steps on functions: from the left end (ML), from the right end (MH) -/
/-- merging from the left: f is the row before; F now; c1, l1: the left run's rest; c2, l2: the right run's rest; d: the next place -/
def ML (k : Option Nat → Int) (M : Nat → Prop) (f : Nat → Option Nat) (n b L1 L2 : Nat) (F : Nat → Option Nat) (c1 l1 c2 l2 d : Nat) : Prop :=
  c1 + l1 = L1 ∧ c2 + l2 = b + L1 + L2 ∧ d + l1 = c2 ∧ b + L1 ≤ c2 ∧ (∀ x, (x < b ∨ c2 ≤ x) → F x = f x) ∧ Eqv k (sg F b (d - b) ++ (sg f (b + c1) l1 ++ sg f c2 l2)) (sg f b (L1 + L2)) ∧ Srt k F b (d - b) ∧ (∀ x, b ≤ x → x < d → ∀ j, (b + c1 ≤ j ∧ j < b + L1) ∨ (c2 ≤ j ∧ j < b + L1 + L2) → k (F x) ≤ k (f j)) ∧ Full M F 0 n
theorem ML.init {k : Option Nat → Int} {M : Nat → Prop} {f : Nat → Option Nat} {n b L1 L2 : Nat} (hF : Full M f 0 n) : ML k M f n b L1 L2 f 0 L1 (b + L1) L2 b := by
  refine ⟨by omega, by omega, by omega, by omega, fun _ _ => rfl, ?_, Srt.small (by omega), fun x h1 h2 => by omega, hF⟩
  rw [Nat.sub_self, sg_0, List.nil_append, Nat.add_zero, ← sg_app]
  exact Eqv.rf
theorem ML.left {k : Option Nat → Int} {M : Nat → Prop} {f : Nat → Option Nat} {n b L1 L2 : Nat} {F F' : Nat → Option Nat} {c1 l1 c2 l2 d r : Nat} (h : ML k M f n b L1 L2 F c1 l1 c2 l2 d) (hs : Srt k f b L1) (hs2 : Srt k f (b + L1) L2) (hFf : Full M f b L1) (hr : r ≤ l1) (hF' : ∀ x, F' x = if d ≤ x ∧ x < d + r then f (b + c1 + (x - d)) else F x)
    (hk : 0 < l2 → ∀ j, j < r → k (f (b + c1 + j)) ≤ k (f c2)) : ML k M f n b L1 L2 F' (c1 + r) (l1 - r) c2 l2 (d + r) := by
  obtain ⟨h1, h2, h3, h4, h5, h6, h7, h8, h9⟩ := h
  have old : ∀ x, b ≤ x → x < d → F' x = F x := fun x _ hx => by rw [hF' x, if_neg (by omega)]
  have new : ∀ j, j < r → F' (d + j) = f (b + c1 + j) := fun j hj => by rw [hF' _, if_pos (by omega)]; congr 1; omega
  refine ⟨by omega, by omega, by omega, h4, fun x hx => ?_, ?_, ?_, ?_, ?_⟩
  · rw [hF' x, if_neg (by omega)]
    exact h5 x hx
  · have e1 : sg F' b (d + r - b) = sg F b (d - b) ++ sg f (b + c1) r := by
      rw [show d + r - b = (d - b) + r by omega, sg_app]
      congr 1
      · exact sg_same (fun x x1 x2 => old x x1 (by omega))
      · exact sg_congr (fun x hx => by rw [show b + (d - b) + x = d + x by omega]; exact new x hx)
    have e2 : sg f (b + c1) l1 = sg f (b + c1) r ++ sg f (b + (c1 + r)) (l1 - r) := by
      rw [show l1 = r + (l1 - r) by omega, sg_app, show r + (l1 - r) - r = l1 - r by omega, Nat.add_assoc b c1 r]
    rw [e1]
    rw [e2] at h6
    simpa only [List.append_assoc] using h6
  · rw [show d + r - b = (d - b) + r by omega]
    refine Srt.join (h7.congr (fun x x1 x2 => old x x1 (by omega))) ?_ ?_
    · intro x y x1 x2 x3
      rw [show x = d + (x - d) by omega, show y = d + (y - d) by omega, new _ (by omega), new _ (by omega)]
      exact hs _ _ (by omega) (by omega) (by omega)
    · intro x y x1 x2 x3 x4
      rw [old x x1 (by omega), show y = d + (y - d) by omega, new _ (by omega)]
      exact h8 x x1 (by omega) _ (Or.inl ⟨by omega, by omega⟩)
  · intro x x1 x2 j hj
    by_cases hx : x < d
    · rw [old x x1 hx]
      exact h8 x x1 hx j (by omega)
    · rw [show x = d + (x - d) by omega, new _ (by omega)]
      rcases hj with hj | hj
      · exact hs _ _ (by omega) (by omega) (by omega)
      · have q1 := hk (by omega) (x - d) (by omega)
        have q2 := hs2.le (a := c2) (b := j) (by omega) (by omega) (by omega)
        omega
  · intro j j1 j2
    rw [hF' j]
    by_cases hx : d ≤ j ∧ j < d + r
    · rw [if_pos hx]; exact hFf _ (by omega) (by omega)
    · rw [if_neg hx]; exact h9 j j1 j2
theorem ML.right {k : Option Nat → Int} {M : Nat → Prop} {f : Nat → Option Nat} {n b L1 L2 : Nat} {F F' : Nat → Option Nat} {c1 l1 c2 l2 d r : Nat} (h : ML k M f n b L1 L2 F c1 l1 c2 l2 d) (hs : Srt k f b L1) (hs2 : Srt k f (b + L1) L2) (hFf : Full M f (b + L1) L2) (hr : r ≤ l2) (hF' : ∀ x, F' x = if d ≤ x ∧ x < d + r then f (c2 + (x - d)) else F x)
    (hk : 0 < l1 → ∀ j, j < r → k (f (c2 + j)) < k (f (b + c1))) : ML k M f n b L1 L2 F' c1 l1 (c2 + r) (l2 - r) (d + r) := by
  obtain ⟨h1, h2, h3, h4, h5, h6, h7, h8, h9⟩ := h
  have old : ∀ x, b ≤ x → x < d → F' x = F x := fun x _ hx => by rw [hF' x, if_neg (by omega)]
  have new : ∀ j, j < r → F' (d + j) = f (c2 + j) := fun j hj => by rw [hF' _, if_pos (by omega)]; congr 1; omega
  refine ⟨by omega, by omega, by omega, by omega, fun x hx => ?_, ?_, ?_, ?_, ?_⟩
  · rw [hF' x, if_neg (by omega)]
    exact h5 x (by omega)
  · have e1 : sg F' b (d + r - b) = sg F b (d - b) ++ sg f c2 r := by
      rw [show d + r - b = (d - b) + r by omega, sg_app]
      congr 1
      · exact sg_same (fun x x1 x2 => old x x1 (by omega))
      · exact sg_congr (fun x hx => by rw [show b + (d - b) + x = d + x by omega]; exact new x hx)
    have e2 : sg f c2 l2 = sg f c2 r ++ sg f (c2 + r) (l2 - r) := by
      rw [show l2 = r + (l2 - r) by omega, sg_app, show r + (l2 - r) - r = l2 - r by omega]
    have e3 : Eqv k (sg f c2 r ++ sg f (b + c1) l1) (sg f (b + c1) l1 ++ sg f c2 r) := Eqv.comm (by
      intro x hx y hy
      obtain ⟨i, i1, i2, rfl⟩ := sg_mem.mp hx
      obtain ⟨j, j1, j2, rfl⟩ := sg_mem.mp hy
      have q1 := hk (by omega) (i - c2) (by omega)
      rw [show c2 + (i - c2) = i by omega] at q1
      have q2 := hs.le (a := b + c1) (b := j) (by omega) (by omega) (by omega)
      omega)
    rw [e1]
    rw [e2] at h6
    refine Eqv.tr ?_ h6
    have e4 := (Eqv.rf (k := k) (l := sg F b (d - b))).app (e3.app (Eqv.rf (l := sg f (c2 + r) (l2 - r))))
    simpa only [List.append_assoc] using e4
  · rw [show d + r - b = (d - b) + r by omega]
    refine Srt.join (h7.congr (fun x x1 x2 => old x x1 (by omega))) ?_ ?_
    · intro x y x1 x2 x3
      rw [show x = d + (x - d) by omega, show y = d + (y - d) by omega, new _ (by omega), new _ (by omega)]
      exact hs2 _ _ (by omega) (by omega) (by omega)
    · intro x y x1 x2 x3 x4
      rw [old x x1 (by omega), show y = d + (y - d) by omega, new _ (by omega)]
      exact h8 x x1 (by omega) _ (Or.inr ⟨by omega, by omega⟩)
  · intro x x1 x2 j hj
    by_cases hx : x < d
    · rw [old x x1 hx]
      exact h8 x x1 hx j (by omega)
    · rw [show x = d + (x - d) by omega, new _ (by omega)]
      rcases hj with hj | hj
      · have q1 := hk (by omega) (x - d) (by omega)
        have q2 := hs.le (a := b + c1) (b := j) (by omega) (by omega) (by omega)
        omega
      · exact hs2 _ _ (by omega) (by omega) (by omega)
  · intro j j1 j2
    rw [hF' j]
    by_cases hx : d ≤ j ∧ j < d + r
    · rw [if_pos hx]; exact hFf _ (by omega) (by omega)
    · rw [if_neg hx]; exact h9 j j1 j2
theorem ML.done {k : Option Nat → Int} {M : Nat → Prop} {f : Nat → Option Nat} {n b L1 L2 : Nat} {F : Nat → Option Nat} {c1 c2 d : Nat} (h : ML k M f n b L1 L2 F c1 0 c2 0 d) : (∀ x, (x < b ∨ b + L1 + L2 ≤ x) → F x = f x) ∧ Srt k F b (L1 + L2) ∧ Eqv k (sg F b (L1 + L2)) (sg f b (L1 + L2)) ∧ Full M F 0 n := by
  obtain ⟨h1, h2, h3, h4, h5, h6, h7, h8, h9⟩ := h
  rw [sg_0, sg_0, List.append_nil, List.append_nil, show d - b = L1 + L2 by omega] at h6
  rw [show d - b = L1 + L2 by omega] at h7
  exact ⟨fun x hx => h5 x (by omega), h7, h6, h9⟩
/-- merging from the right: l1, l2: how many of each run are left -/
def MH (k : Option Nat → Int) (M : Nat → Prop) (f : Nat → Option Nat) (n b L1 L2 : Nat) (F : Nat → Option Nat) (l1 l2 : Nat) : Prop :=
  l1 ≤ L1 ∧ l2 ≤ L2 ∧ (∀ x, (x < b + l1 ∨ b + L1 + L2 ≤ x) → F x = f x) ∧ Eqv k ((sg f b l1 ++ sg f (b + L1) l2) ++ sg F (b + l1 + l2) (L1 + L2 - l1 - l2)) (sg f b (L1 + L2)) ∧ Srt k F (b + l1 + l2) (L1 + L2 - l1 - l2) ∧ (∀ x, b + l1 + l2 ≤ x → x < b + L1 + L2 → ∀ j, (b ≤ j ∧ j < b + l1) ∨ (b + L1 ≤ j ∧ j < b + L1 + l2) → k (f j) ≤ k (F x)) ∧ Full M F 0 n
theorem MH.init {k : Option Nat → Int} {M : Nat → Prop} {f : Nat → Option Nat} {n b L1 L2 : Nat} (hF : Full M f 0 n) : MH k M f n b L1 L2 f L1 L2 := by
  refine ⟨by omega, by omega, fun _ _ => rfl, ?_, Srt.small (by omega), fun x h1 h2 => by omega, hF⟩
  rw [show L1 + L2 - L1 - L2 = 0 by omega, sg_0, List.append_nil, ← sg_app]
  exact Eqv.rf
theorem MH.right {k : Option Nat → Int} {M : Nat → Prop} {f : Nat → Option Nat} {n b L1 L2 : Nat} {F F' : Nat → Option Nat} {l1 l2 r : Nat} (h : MH k M f n b L1 L2 F l1 l2) (hs : Srt k f b L1) (hs2 : Srt k f (b + L1) L2) (hFf : Full M f (b + L1) L2) (hr : r ≤ l2) (hF' : ∀ x, F' x = if b + l1 + l2 - r ≤ x ∧ x < b + l1 + l2 then f (x + L1 - l1) else F x)
    (hk : 0 < l1 → ∀ j, b + L1 + l2 - r ≤ j → j < b + L1 + l2 → k (f (b + l1 - 1)) ≤ k (f j)) : MH k M f n b L1 L2 F' l1 (l2 - r) := by
  obtain ⟨h1, h2, h5, h6, h7, h8, h9⟩ := h
  have old : ∀ x, b + l1 + l2 ≤ x → F' x = F x := fun x hx => by rw [hF' x, if_neg (by omega)]
  have new : ∀ j, j < r → F' (b + l1 + l2 - r + j) = f (b + L1 + (l2 - r) + j) := fun j hj => by rw [hF' _, if_pos (by omega)]; congr 1; omega
  refine ⟨h1, by omega, fun x hx => ?_, ?_, ?_, ?_, ?_⟩
  · rw [hF' x, if_neg (by omega)]
    exact h5 x (by omega)
  · have e1 : sg F' (b + l1 + (l2 - r)) (L1 + L2 - l1 - (l2 - r)) = sg f (b + L1 + (l2 - r)) r ++ sg F (b + l1 + l2) (L1 + L2 - l1 - l2) := by
      rw [show L1 + L2 - l1 - (l2 - r) = r + (L1 + L2 - l1 - l2) by omega, sg_app]
      congr 1
      · exact sg_congr (fun x hx => by rw [show b + l1 + (l2 - r) + x = b + l1 + l2 - r + x by omega]; exact new x hx)
      · rw [show b + l1 + (l2 - r) + r = b + l1 + l2 by omega]
        exact sg_same (fun x x1 x2 => old x x1)
    have e2 : sg f (b + L1) l2 = sg f (b + L1) (l2 - r) ++ sg f (b + L1 + (l2 - r)) r := by
      rw [← sg_app, show l2 - r + r = l2 by omega]
    rw [e1]
    rw [e2] at h6
    simpa only [List.append_assoc] using h6
  · rw [show L1 + L2 - l1 - (l2 - r) = r + (L1 + L2 - l1 - l2) by omega]
    refine Srt.join ?_ ?_ ?_
    · intro x y x1 x2 x3
      rw [show x = b + l1 + l2 - r + (x - (b + l1 + l2 - r)) by omega, show y = b + l1 + l2 - r + (y - (b + l1 + l2 - r)) by omega, new _ (by omega), new _ (by omega)]
      exact hs2 _ _ (by omega) (by omega) (by omega)
    · rw [show b + l1 + (l2 - r) + r = b + l1 + l2 by omega]
      exact h7.congr (fun x x1 x2 => old x x1)
    · intro x y x1 x2 x3 x4
      rw [show x = b + l1 + l2 - r + (x - (b + l1 + l2 - r)) by omega, new _ (by omega), old y (by omega)]
      exact h8 y (by omega) (by omega) _ (Or.inr ⟨by omega, by omega⟩)
  · intro x x1 x2 j hj
    by_cases hx : b + l1 + l2 ≤ x
    · rw [old x hx]
      exact h8 x hx x2 j (by omega)
    · rw [show x = b + l1 + l2 - r + (x - (b + l1 + l2 - r)) by omega, new _ (by omega)]
      rcases hj with hj | hj
      · have q1 := hk (by omega) (b + L1 + (l2 - r) + (x - (b + l1 + l2 - r))) (by omega) (by omega)
        have q2 := hs.le (a := j) (b := b + l1 - 1) (by omega) (by omega) (by omega)
        omega
      · exact hs2 _ _ (by omega) (by omega) (by omega)
  · intro j j1 j2
    rw [hF' j]
    by_cases hx : b + l1 + l2 - r ≤ j ∧ j < b + l1 + l2
    · rw [if_pos hx]; exact hFf _ (by omega) (by omega)
    · rw [if_neg hx]; exact h9 j j1 j2
theorem MH.left {k : Option Nat → Int} {M : Nat → Prop} {f : Nat → Option Nat} {n b L1 L2 : Nat} {F F' : Nat → Option Nat} {l1 l2 r : Nat} (h : MH k M f n b L1 L2 F l1 l2) (hs : Srt k f b L1) (hs2 : Srt k f (b + L1) L2) (hFf : Full M f b L1) (hr : r ≤ l1) (hF' : ∀ x, F' x = if b + l1 + l2 - r ≤ x ∧ x < b + l1 + l2 then f (x - l2) else F x)
    (hk : 0 < l2 → ∀ j, b + l1 - r ≤ j → j < b + l1 → k (f (b + L1 + l2 - 1)) < k (f j)) : MH k M f n b L1 L2 F' (l1 - r) l2 := by
  obtain ⟨h1, h2, h5, h6, h7, h8, h9⟩ := h
  have old : ∀ x, b + l1 + l2 ≤ x → F' x = F x := fun x hx => by rw [hF' x, if_neg (by omega)]
  have new : ∀ j, j < r → F' (b + l1 + l2 - r + j) = f (b + (l1 - r) + j) := fun j hj => by rw [hF' _, if_pos (by omega)]; congr 1; omega
  refine ⟨by omega, h2, fun x hx => ?_, ?_, ?_, ?_, ?_⟩
  · rw [hF' x, if_neg (by omega)]
    exact h5 x (by omega)
  · have e1 : sg F' (b + (l1 - r) + l2) (L1 + L2 - (l1 - r) - l2) = sg f (b + (l1 - r)) r ++ sg F (b + l1 + l2) (L1 + L2 - l1 - l2) := by
      rw [show L1 + L2 - (l1 - r) - l2 = r + (L1 + L2 - l1 - l2) by omega, sg_app]
      congr 1
      · exact sg_congr (fun x hx => by rw [show b + (l1 - r) + l2 + x = b + l1 + l2 - r + x by omega]; exact new x hx)
      · rw [show b + (l1 - r) + l2 + r = b + l1 + l2 by omega]
        exact sg_same (fun x x1 x2 => old x x1)
    have e2 : sg f b l1 = sg f b (l1 - r) ++ sg f (b + (l1 - r)) r := by
      rw [← sg_app, show l1 - r + r = l1 by omega]
    have e3 : Eqv k (sg f (b + L1) l2 ++ sg f (b + (l1 - r)) r) (sg f (b + (l1 - r)) r ++ sg f (b + L1) l2) := Eqv.comm (by
      intro x hx y hy
      obtain ⟨i, i1, i2, rfl⟩ := sg_mem.mp hx
      obtain ⟨j, j1, j2, rfl⟩ := sg_mem.mp hy
      have q1 := hk (by omega) j (by omega) (by omega)
      have q2 := hs2.le (a := i) (b := b + L1 + l2 - 1) (by omega) (by omega) (by omega)
      omega)
    rw [e1]
    rw [e2] at h6
    refine Eqv.tr ?_ h6
    have e4 := (Eqv.rf (k := k) (l := sg f b (l1 - r))).app (e3.app (Eqv.rf (l := sg F (b + l1 + l2) (L1 + L2 - l1 - l2))))
    simpa only [List.append_assoc] using e4
  · rw [show L1 + L2 - (l1 - r) - l2 = r + (L1 + L2 - l1 - l2) by omega]
    refine Srt.join ?_ ?_ ?_
    · intro x y x1 x2 x3
      rw [show x = b + l1 + l2 - r + (x - (b + l1 + l2 - r)) by omega, show y = b + l1 + l2 - r + (y - (b + l1 + l2 - r)) by omega, new _ (by omega), new _ (by omega)]
      exact hs _ _ (by omega) (by omega) (by omega)
    · rw [show b + (l1 - r) + l2 + r = b + l1 + l2 by omega]
      exact h7.congr (fun x x1 x2 => old x x1)
    · intro x y x1 x2 x3 x4
      rw [show x = b + l1 + l2 - r + (x - (b + l1 + l2 - r)) by omega, new _ (by omega), old y (by omega)]
      exact h8 y (by omega) (by omega) _ (Or.inl ⟨by omega, by omega⟩)
  · intro x x1 x2 j hj
    by_cases hx : b + l1 + l2 ≤ x
    · rw [old x hx]
      exact h8 x hx x2 j (by omega)
    · rw [show x = b + l1 + l2 - r + (x - (b + l1 + l2 - r)) by omega, new _ (by omega)]
      rcases hj with hj | hj
      · exact hs _ _ (by omega) (by omega) (by omega)
      · have q1 := hk (by omega) (b + (l1 - r) + (x - (b + l1 + l2 - r))) (by omega) (by omega)
        have q2 := hs2.le (a := j) (b := b + L1 + l2 - 1) (by omega) (by omega) (by omega)
        omega
  · intro j j1 j2
    rw [hF' j]
    by_cases hx : b + l1 + l2 - r ≤ j ∧ j < b + l1 + l2
    · rw [if_pos hx]; exact hFf _ (by omega) (by omega)
    · rw [if_neg hx]; exact h9 j j1 j2
theorem MH.done {k : Option Nat → Int} {M : Nat → Prop} {f : Nat → Option Nat} {n b L1 L2 : Nat} {F : Nat → Option Nat} (h : MH k M f n b L1 L2 F 0 0) : (∀ x, (x < b ∨ b + L1 + L2 ≤ x) → F x = f x) ∧ Srt k F b (L1 + L2) ∧ Eqv k (sg F b (L1 + L2)) (sg f b (L1 + L2)) ∧ Full M F 0 n := by
  obtain ⟨h1, h2, h5, h6, h7, h8, h9⟩ := h
  rw [sg_0, sg_0, List.append_nil, List.nil_append] at h6
  exact ⟨fun x hx => h5 x (by omega), h7, h6, h9⟩
end
section
/-! mergeLo -/
set_option maxRecDepth 100000
theorem pt_up {F f : Nat → Option Nat} {d c : Nat} {v : Option Nat} (hv : v = f c) (x : Nat) : va_up F d v x = if d ≤ x ∧ x < d + 1 then f (c + (x - d)) else F x := by
  by_cases h : x = d
  · subst h
    rw [va_up_self, if_pos (by omega), hv]
    congr 1
    omega
  · rw [va_up_ne _ _ h, if_neg (by omega)]
theorem pt_cpy {src F f : Nat → Option Nat} {sp d r c : Nat} (h : ∀ j, j < r → src (sp + j) = f (c + j)) (x : Nat) : va_cpy src F sp d r x = if d ≤ x ∧ x < d + r then f (c + (x - d)) else F x := by
  by_cases hx : d ≤ x ∧ x < d + r
  · rw [pk_cpy_in hx.1 hx.2, if_pos hx, h _ (by omega)]
  · rw [pk_cpy_out (by omega), if_neg hx]
/-- the heap while two runs are merged: the sorter, its row F, the help array G; all else as in H2 -/
def HX (K : KD) (o a : Nat) (mg : Int) (tb tl : Nat) (ss : Int) (rb rl n : Nat) (F G : Nat → Option Nat) (H2 X : Heap) : Prop := CO K o a mg tb tl ss rb rl X ∧ X[a]? = some (RA (cM_ K) n F) ∧ X[tb]? = some (RA (cO_ K) tl G) ∧ X.size = H2.size ∧ ∀ q, q ≠ o → q ≠ a → X[q]? = H2[q]?
theorem HX.set {K : KD} {o a : Nat} {mg : Int} {tb tl : Nat} {ss : Int} {rb rl n : Nat} {F G : Nat → Option Nat} {H2 X : Heap} (h : HX K o a mg tb tl ss rb rl n F G H2 X) (hoa : o ≠ a) (hat : a ≠ tb) (F' : Nat → Option Nat) : HX K o a mg tb tl ss rb rl n F' G H2 (X.setIfInBounds a (RA (cM_ K) n F')) := by
  obtain ⟨h1, h2, h3, h4, h5⟩ := h
  exact ⟨h1.kept (set_off hoa), set_at h2, by rw [set_off (Ne.symm hat)]; exact h3, by simp; exact h4, fun q q1 q2 => by rw [set_off q2]; exact h5 q q1 q2⟩
theorem HX.ms {K : KD} {o a : Nat} {mg : Int} {tb tl : Nat} {ss : Int} {rb rl n : Nat} {F G : Nat → Option Nat} {H2 X : Heap} {M : Nat → Prop} {wt nm : Nat → Int32} (h : HX K o a mg tb tl ss rb rl n F G H2 X) (hM : MS K M wt nm H2) (ho : ¬ M o) (ha : ¬ M a) : MS K M wt nm X := hM.kept (fun y hy => h.2.2.2.2 y (fun e => ho (e ▸ hy)) (fun e => ha (e ▸ hy)))
theorem HX.keep {K : KD} {o a : Nat} {mg : Int} {tb tl : Nat} {ss : Int} {rb rl n : Nat} {F G : Nat → Option Nat} {H0 H2 X : Heap} (h : HX K o a mg tb tl ss rb rl n F G H2 X) (hk : Keep (N0 K) H0 H2) (ho : N0 K ≤ o) (ha : N0 K ≤ a) : Keep (N0 K) H0 X := ⟨by rw [h.2.2.2.1]; exact hk.1, fun q hq => by rw [h.2.2.2.2 q (by omega) (by omega)]; exact hk.2 q hq⟩
def Pmg (K : KD) (o a tb : Nat) (ss : Int) (rb rl n b L1 L2 : Nat) (f : Nat → Option Nat) (M : Nat → Prop) (wt : Nat → Int32) : Heap → Option Value → Heap → Prop := fun H v H' => ∃ (mg' : Int) (tb' tl' : Nat) (f' g' : Nat → Option Nat), v = none ∧ CO K o a mg' tb' tl' ss rb rl H' ∧ H'[a]? = some (RA (cM_ K) n f') ∧ H'[tb']? = some (RA (cO_ K) tl' g') ∧ tl' ≤ 4000 ∧ (tb' = tb ∨ H.size ≤ tb') ∧ H.size ≤ H'.size ∧ (∀ q, q < H.size → q ≠ o → q ≠ a → q ≠ tb → H'[q]? = H[q]?) ∧ (∀ x, (x < b ∨ b + L1 + L2 ≤ x) → f' x = f x) ∧ Srt (kw wt) f' b (L1 + L2) ∧ Eqv (kw wt) (sg f' b (L1 + L2)) (sg f b (L1 + L2)) ∧ Full M f' 0 n
theorem d_Ml_141 : decode b_Ml 141 = .ok (.iconst 0, 1) := by decide +kernel
theorem d_Ml_142 : decode b_Ml 142 = .ok (.istore 11, 2) := by decide +kernel
theorem d_Ml_144 : decode b_Ml 144 = .ok (.iconst 0, 1) := by decide +kernel
theorem d_Ml_145 : decode b_Ml 145 = .ok (.istore 12, 2) := by decide +kernel
theorem d_Ml_147 : decode b_Ml 147 = .ok (.getstatic 37, 3) := by decide +kernel
theorem d_Ml_150 : decode b_Ml 150 = .ok (.ifCond .ne 21, 3) := by decide +kernel
theorem d_Ml_171 : decode b_Ml 171 = .ok (.aload 5, 2) := by decide +kernel
theorem d_Ml_173 : decode b_Ml 173 = .ok (.iload 8, 2) := by decide +kernel
theorem d_Ml_175 : decode b_Ml 175 = .ok (.aaload, 1) := by decide +kernel
theorem d_Ml_176 : decode b_Ml 176 = .ok (.checkcast 69, 3) := by decide +kernel
theorem d_Ml_179 : decode b_Ml 179 = .ok (.aload 6, 2) := by decide +kernel
theorem d_Ml_181 : decode b_Ml 181 = .ok (.iload 7, 2) := by decide +kernel
theorem d_Ml_183 : decode b_Ml 183 = .ok (.aaload, 1) := by decide +kernel
theorem d_Ml_184 : decode b_Ml 184 = .ok (.invokeinterface 71 2, 5) := by decide +kernel
theorem d_Ml_189 : decode b_Ml 189 = .ok (.ifCond .ge 36, 3) := by decide +kernel
theorem d_Ml_192 : decode b_Ml 192 = .ok (.aload 5, 2) := by decide +kernel
theorem d_Ml_194 : decode b_Ml 194 = .ok (.iload 9, 2) := by decide +kernel
theorem d_Ml_196 : decode b_Ml 196 = .ok (.iinc 9 1, 3) := by decide +kernel
theorem d_Ml_199 : decode b_Ml 199 = .ok (.aload 5, 2) := by decide +kernel
theorem d_Ml_201 : decode b_Ml 201 = .ok (.iload 8, 2) := by decide +kernel
theorem d_Ml_203 : decode b_Ml 203 = .ok (.iinc 8 1, 3) := by decide +kernel
theorem d_Ml_206 : decode b_Ml 206 = .ok (.aaload, 1) := by decide +kernel
theorem d_Ml_207 : decode b_Ml 207 = .ok (.aastore, 1) := by decide +kernel
theorem d_Ml_208 : decode b_Ml 208 = .ok (.iinc 12 1, 3) := by decide +kernel
theorem d_Ml_211 : decode b_Ml 211 = .ok (.iconst 0, 1) := by decide +kernel
theorem d_Ml_212 : decode b_Ml 212 = .ok (.istore 11, 2) := by decide +kernel
theorem d_Ml_214 : decode b_Ml 214 = .ok (.iinc 4 (-1), 3) := by decide +kernel
theorem d_Ml_217 : decode b_Ml 217 = .ok (.iload 4, 2) := by decide +kernel
theorem d_Ml_219 : decode b_Ml 219 = .ok (.ifCond .ne 39, 3) := by decide +kernel
theorem d_Ml_222 : decode b_Ml 222 = .ok (.goto 300, 3) := by decide +kernel
theorem d_Ml_225 : decode b_Ml 225 = .ok (.aload 5, 2) := by decide +kernel
theorem d_Ml_227 : decode b_Ml 227 = .ok (.iload 9, 2) := by decide +kernel
theorem d_Ml_229 : decode b_Ml 229 = .ok (.iinc 9 1, 3) := by decide +kernel
theorem d_Ml_232 : decode b_Ml 232 = .ok (.aload 6, 2) := by decide +kernel
theorem d_Ml_234 : decode b_Ml 234 = .ok (.iload 7, 2) := by decide +kernel
theorem d_Ml_236 : decode b_Ml 236 = .ok (.iinc 7 1, 3) := by decide +kernel
theorem d_Ml_239 : decode b_Ml 239 = .ok (.aaload, 1) := by decide +kernel
theorem d_Ml_240 : decode b_Ml 240 = .ok (.aastore, 1) := by decide +kernel
theorem d_Ml_241 : decode b_Ml 241 = .ok (.iinc 11 1, 3) := by decide +kernel
theorem d_Ml_244 : decode b_Ml 244 = .ok (.iconst 0, 1) := by decide +kernel
theorem d_Ml_245 : decode b_Ml 245 = .ok (.istore 12, 2) := by decide +kernel
theorem d_Ml_247 : decode b_Ml 247 = .ok (.iinc 2 (-1), 3) := by decide +kernel
theorem d_Ml_250 : decode b_Ml 250 = .ok (.iload_n 2, 1) := by decide +kernel
theorem d_Ml_251 : decode b_Ml 251 = .ok (.iconst 1, 1) := by decide +kernel
theorem d_Ml_252 : decode b_Ml 252 = .ok (.if_icmp .ne 6, 3) := by decide +kernel
theorem d_Ml_255 : decode b_Ml 255 = .ok (.goto 267, 3) := by decide +kernel
theorem d_Ml_258 : decode b_Ml 258 = .ok (.iload 11, 2) := by decide +kernel
theorem d_Ml_260 : decode b_Ml 260 = .ok (.iload 12, 2) := by decide +kernel
theorem d_Ml_262 : decode b_Ml 262 = .ok (.ior, 1) := by decide +kernel
theorem d_Ml_263 : decode b_Ml 263 = .ok (.iload 10, 2) := by decide +kernel
theorem d_Ml_265 : decode b_Ml 265 = .ok (.if_icmp .lt (-118), 3) := by decide +kernel
theorem d_Ml_268 : decode b_Ml 268 = .ok (.getstatic 37, 3) := by decide +kernel
theorem d_Ml_271 : decode b_Ml 271 = .ok (.ifCond .ne 21, 3) := by decide +kernel
theorem d_Ml_292 : decode b_Ml 292 = .ok (.aload 5, 2) := by decide +kernel
theorem d_Ml_294 : decode b_Ml 294 = .ok (.iload 8, 2) := by decide +kernel
theorem d_Ml_296 : decode b_Ml 296 = .ok (.aaload, 1) := by decide +kernel
theorem d_Ml_297 : decode b_Ml 297 = .ok (.checkcast 69, 3) := by decide +kernel
theorem d_Ml_300 : decode b_Ml 300 = .ok (.aload 6, 2) := by decide +kernel
theorem d_Ml_302 : decode b_Ml 302 = .ok (.iload 7, 2) := by decide +kernel
theorem d_Ml_304 : decode b_Ml 304 = .ok (.iload_n 2, 1) := by decide +kernel
theorem d_Ml_305 : decode b_Ml 305 = .ok (.iconst 0, 1) := by decide +kernel
theorem d_Ml_306 : decode b_Ml 306 = .ok (.invokestatic 89, 3) := by decide +kernel
theorem d_Ml_309 : decode b_Ml 309 = .ok (.istore 11, 2) := by decide +kernel
theorem d_Ml_311 : decode b_Ml 311 = .ok (.iload 11, 2) := by decide +kernel
theorem d_Ml_313 : decode b_Ml 313 = .ok (.ifCond .eq 43, 3) := by decide +kernel
theorem d_Ml_316 : decode b_Ml 316 = .ok (.aload 6, 2) := by decide +kernel
theorem d_Ml_318 : decode b_Ml 318 = .ok (.iload 7, 2) := by decide +kernel
theorem d_Ml_320 : decode b_Ml 320 = .ok (.aload 5, 2) := by decide +kernel
theorem d_Ml_322 : decode b_Ml 322 = .ok (.iload 9, 2) := by decide +kernel
theorem d_Ml_324 : decode b_Ml 324 = .ok (.iload 11, 2) := by decide +kernel
theorem d_Ml_326 : decode b_Ml 326 = .ok (.invokestatic 75, 3) := by decide +kernel
theorem d_Ml_329 : decode b_Ml 329 = .ok (.iload 9, 2) := by decide +kernel
theorem d_Ml_331 : decode b_Ml 331 = .ok (.iload 11, 2) := by decide +kernel
theorem d_Ml_333 : decode b_Ml 333 = .ok (.iadd, 1) := by decide +kernel
theorem d_Ml_334 : decode b_Ml 334 = .ok (.istore 9, 2) := by decide +kernel
theorem d_Ml_336 : decode b_Ml 336 = .ok (.iload 7, 2) := by decide +kernel
theorem d_Ml_338 : decode b_Ml 338 = .ok (.iload 11, 2) := by decide +kernel
theorem d_Ml_340 : decode b_Ml 340 = .ok (.iadd, 1) := by decide +kernel
theorem d_Ml_341 : decode b_Ml 341 = .ok (.istore 7, 2) := by decide +kernel
theorem d_Ml_343 : decode b_Ml 343 = .ok (.iload_n 2, 1) := by decide +kernel
theorem d_Ml_344 : decode b_Ml 344 = .ok (.iload 11, 2) := by decide +kernel
theorem d_Ml_346 : decode b_Ml 346 = .ok (.isub, 1) := by decide +kernel
theorem d_Ml_347 : decode b_Ml 347 = .ok (.istore_n 2, 1) := by decide +kernel
theorem d_Ml_348 : decode b_Ml 348 = .ok (.iload_n 2, 1) := by decide +kernel
theorem d_Ml_349 : decode b_Ml 349 = .ok (.iconst 1, 1) := by decide +kernel
theorem d_Ml_350 : decode b_Ml 350 = .ok (.if_icmp .gt 6, 3) := by decide +kernel
theorem d_Ml_353 : decode b_Ml 353 = .ok (.goto 169, 3) := by decide +kernel
theorem d_Ml_356 : decode b_Ml 356 = .ok (.aload 5, 2) := by decide +kernel
theorem d_Ml_358 : decode b_Ml 358 = .ok (.iload 9, 2) := by decide +kernel
theorem d_Ml_360 : decode b_Ml 360 = .ok (.iinc 9 1, 3) := by decide +kernel
theorem d_Ml_363 : decode b_Ml 363 = .ok (.aload 5, 2) := by decide +kernel
theorem d_Ml_365 : decode b_Ml 365 = .ok (.iload 8, 2) := by decide +kernel
theorem d_Ml_367 : decode b_Ml 367 = .ok (.iinc 8 1, 3) := by decide +kernel
theorem d_Ml_370 : decode b_Ml 370 = .ok (.aaload, 1) := by decide +kernel
theorem d_Ml_371 : decode b_Ml 371 = .ok (.aastore, 1) := by decide +kernel
theorem d_Ml_372 : decode b_Ml 372 = .ok (.iinc 4 (-1), 3) := by decide +kernel
theorem d_Ml_375 : decode b_Ml 375 = .ok (.iload 4, 2) := by decide +kernel
theorem d_Ml_377 : decode b_Ml 377 = .ok (.ifCond .ne 6, 3) := by decide +kernel
theorem d_Ml_380 : decode b_Ml 380 = .ok (.goto 142, 3) := by decide +kernel
theorem d_Ml_383 : decode b_Ml 383 = .ok (.aload 6, 2) := by decide +kernel
theorem d_Ml_385 : decode b_Ml 385 = .ok (.iload 7, 2) := by decide +kernel
theorem d_Ml_387 : decode b_Ml 387 = .ok (.aaload, 1) := by decide +kernel
theorem d_Ml_388 : decode b_Ml 388 = .ok (.checkcast 69, 3) := by decide +kernel
theorem d_Ml_391 : decode b_Ml 391 = .ok (.aload 5, 2) := by decide +kernel
theorem d_Ml_393 : decode b_Ml 393 = .ok (.iload 8, 2) := by decide +kernel
theorem d_Ml_395 : decode b_Ml 395 = .ok (.iload 4, 2) := by decide +kernel
theorem d_Ml_397 : decode b_Ml 397 = .ok (.iconst 0, 1) := by decide +kernel
theorem d_Ml_398 : decode b_Ml 398 = .ok (.invokestatic 93, 3) := by decide +kernel
theorem d_Ml_401 : decode b_Ml 401 = .ok (.istore 12, 2) := by decide +kernel
theorem d_Ml_403 : decode b_Ml 403 = .ok (.iload 12, 2) := by decide +kernel
theorem d_Ml_405 : decode b_Ml 405 = .ok (.ifCond .eq 45, 3) := by decide +kernel
theorem d_Ml_408 : decode b_Ml 408 = .ok (.aload 5, 2) := by decide +kernel
theorem d_Ml_410 : decode b_Ml 410 = .ok (.iload 8, 2) := by decide +kernel
theorem d_Ml_412 : decode b_Ml 412 = .ok (.aload 5, 2) := by decide +kernel
theorem d_Ml_414 : decode b_Ml 414 = .ok (.iload 9, 2) := by decide +kernel
theorem d_Ml_416 : decode b_Ml 416 = .ok (.iload 12, 2) := by decide +kernel
theorem d_Ml_418 : decode b_Ml 418 = .ok (.invokestatic 75, 3) := by decide +kernel
theorem d_Ml_421 : decode b_Ml 421 = .ok (.iload 9, 2) := by decide +kernel
theorem d_Ml_423 : decode b_Ml 423 = .ok (.iload 12, 2) := by decide +kernel
theorem d_Ml_425 : decode b_Ml 425 = .ok (.iadd, 1) := by decide +kernel
theorem d_Ml_426 : decode b_Ml 426 = .ok (.istore 9, 2) := by decide +kernel
theorem d_Ml_428 : decode b_Ml 428 = .ok (.iload 8, 2) := by decide +kernel
theorem d_Ml_430 : decode b_Ml 430 = .ok (.iload 12, 2) := by decide +kernel
theorem d_Ml_432 : decode b_Ml 432 = .ok (.iadd, 1) := by decide +kernel
theorem d_Ml_433 : decode b_Ml 433 = .ok (.istore 8, 2) := by decide +kernel
theorem d_Ml_435 : decode b_Ml 435 = .ok (.iload 4, 2) := by decide +kernel
theorem d_Ml_437 : decode b_Ml 437 = .ok (.iload 12, 2) := by decide +kernel
theorem d_Ml_439 : decode b_Ml 439 = .ok (.isub, 1) := by decide +kernel
theorem d_Ml_440 : decode b_Ml 440 = .ok (.istore 4, 2) := by decide +kernel
theorem d_Ml_442 : decode b_Ml 442 = .ok (.iload 4, 2) := by decide +kernel
theorem d_Ml_444 : decode b_Ml 444 = .ok (.ifCond .ne 6, 3) := by decide +kernel
theorem d_Ml_447 : decode b_Ml 447 = .ok (.goto 75, 3) := by decide +kernel
theorem d_Ml_450 : decode b_Ml 450 = .ok (.aload 5, 2) := by decide +kernel
theorem d_Ml_452 : decode b_Ml 452 = .ok (.iload 9, 2) := by decide +kernel
theorem d_Ml_454 : decode b_Ml 454 = .ok (.iinc 9 1, 3) := by decide +kernel
theorem d_Ml_457 : decode b_Ml 457 = .ok (.aload 6, 2) := by decide +kernel
theorem d_Ml_459 : decode b_Ml 459 = .ok (.iload 7, 2) := by decide +kernel
theorem d_Ml_461 : decode b_Ml 461 = .ok (.iinc 7 1, 3) := by decide +kernel
theorem d_Ml_464 : decode b_Ml 464 = .ok (.aaload, 1) := by decide +kernel
theorem d_Ml_465 : decode b_Ml 465 = .ok (.aastore, 1) := by decide +kernel
theorem d_Ml_466 : decode b_Ml 466 = .ok (.iinc 2 (-1), 3) := by decide +kernel
theorem d_Ml_469 : decode b_Ml 469 = .ok (.iload_n 2, 1) := by decide +kernel
theorem d_Ml_470 : decode b_Ml 470 = .ok (.iconst 1, 1) := by decide +kernel
theorem d_Ml_471 : decode b_Ml 471 = .ok (.if_icmp .ne 6, 3) := by decide +kernel
theorem d_Ml_474 : decode b_Ml 474 = .ok (.goto 48, 3) := by decide +kernel
theorem d_Ml_477 : decode b_Ml 477 = .ok (.iinc 10 (-1), 3) := by decide +kernel
theorem d_Ml_480 : decode b_Ml 480 = .ok (.iload 11, 2) := by decide +kernel
theorem d_Ml_482 : decode b_Ml 482 = .ok (.bipush 7, 2) := by decide +kernel
theorem d_Ml_484 : decode b_Ml 484 = .ok (.if_icmp .lt 7, 3) := by decide +kernel
theorem d_Ml_487 : decode b_Ml 487 = .ok (.iconst 1, 1) := by decide +kernel
theorem d_Ml_488 : decode b_Ml 488 = .ok (.goto 4, 3) := by decide +kernel
theorem d_Ml_491 : decode b_Ml 491 = .ok (.iconst 0, 1) := by decide +kernel
theorem d_Ml_492 : decode b_Ml 492 = .ok (.iload 12, 2) := by decide +kernel
theorem d_Ml_494 : decode b_Ml 494 = .ok (.bipush 7, 2) := by decide +kernel
theorem d_Ml_496 : decode b_Ml 496 = .ok (.if_icmp .lt 7, 3) := by decide +kernel
theorem d_Ml_499 : decode b_Ml 499 = .ok (.iconst 1, 1) := by decide +kernel
theorem d_Ml_500 : decode b_Ml 500 = .ok (.goto 4, 3) := by decide +kernel
theorem d_Ml_503 : decode b_Ml 503 = .ok (.iconst 0, 1) := by decide +kernel
theorem d_Ml_504 : decode b_Ml 504 = .ok (.ior, 1) := by decide +kernel
theorem d_Ml_505 : decode b_Ml 505 = .ok (.ifCond .ne (-237), 3) := by decide +kernel
theorem d_Ml_508 : decode b_Ml 508 = .ok (.iload 10, 2) := by decide +kernel
theorem d_Ml_510 : decode b_Ml 510 = .ok (.ifCond .ge 6, 3) := by decide +kernel
theorem d_Ml_513 : decode b_Ml 513 = .ok (.iconst 0, 1) := by decide +kernel
theorem d_Ml_514 : decode b_Ml 514 = .ok (.istore 10, 2) := by decide +kernel
theorem d_Ml_516 : decode b_Ml 516 = .ok (.iinc 10 2, 3) := by decide +kernel
theorem d_Ml_519 : decode b_Ml 519 = .ok (.goto (-378), 3) := by decide +kernel
theorem d_Ml_522 : decode b_Ml 522 = .ok (.aload_n 0, 1) := by decide +kernel
theorem d_Ml_523 : decode b_Ml 523 = .ok (.iload 10, 2) := by decide +kernel
theorem d_Ml_525 : decode b_Ml 525 = .ok (.iconst 1, 1) := by decide +kernel
theorem d_Ml_526 : decode b_Ml 526 = .ok (.if_icmp .ge 7, 3) := by decide +kernel
theorem d_Ml_529 : decode b_Ml 529 = .ok (.iconst 1, 1) := by decide +kernel
theorem d_Ml_530 : decode b_Ml 530 = .ok (.goto 5, 3) := by decide +kernel
theorem d_Ml_533 : decode b_Ml 533 = .ok (.iload 10, 2) := by decide +kernel
theorem d_Ml_535 : decode b_Ml 535 = .ok (.putfield 9, 3) := by decide +kernel
theorem d_Ml_538 : decode b_Ml 538 = .ok (.iload_n 2, 1) := by decide +kernel
theorem d_Ml_539 : decode b_Ml 539 = .ok (.iconst 1, 1) := by decide +kernel
theorem d_Ml_540 : decode b_Ml 540 = .ok (.if_icmp .ne 51, 3) := by decide +kernel
theorem d_Ml_543 : decode b_Ml 543 = .ok (.getstatic 37, 3) := by decide +kernel
theorem d_Ml_546 : decode b_Ml 546 = .ok (.ifCond .ne 16, 3) := by decide +kernel
theorem d_Ml_562 : decode b_Ml 562 = .ok (.aload 5, 2) := by decide +kernel
theorem d_Ml_564 : decode b_Ml 564 = .ok (.iload 8, 2) := by decide +kernel
theorem d_Ml_566 : decode b_Ml 566 = .ok (.aload 5, 2) := by decide +kernel
theorem d_Ml_568 : decode b_Ml 568 = .ok (.iload 9, 2) := by decide +kernel
theorem d_Ml_570 : decode b_Ml 570 = .ok (.iload 4, 2) := by decide +kernel
theorem d_Ml_572 : decode b_Ml 572 = .ok (.invokestatic 75, 3) := by decide +kernel
theorem d_Ml_575 : decode b_Ml 575 = .ok (.aload 5, 2) := by decide +kernel
theorem d_Ml_577 : decode b_Ml 577 = .ok (.iload 9, 2) := by decide +kernel
theorem d_Ml_579 : decode b_Ml 579 = .ok (.iload 4, 2) := by decide +kernel
theorem d_Ml_581 : decode b_Ml 581 = .ok (.iadd, 1) := by decide +kernel
theorem d_Ml_582 : decode b_Ml 582 = .ok (.aload 6, 2) := by decide +kernel
theorem d_Ml_584 : decode b_Ml 584 = .ok (.iload 7, 2) := by decide +kernel
theorem d_Ml_586 : decode b_Ml 586 = .ok (.aaload, 1) := by decide +kernel
theorem d_Ml_587 : decode b_Ml 587 = .ok (.aastore, 1) := by decide +kernel
theorem d_Ml_588 : decode b_Ml 588 = .ok (.goto 67, 3) := by decide +kernel
theorem d_Ml_591 : decode b_Ml 591 = .ok (.iload_n 2, 1) := by decide +kernel
theorem d_Ml_592 : decode b_Ml 592 = .ok (.ifCond .ne 13, 3) := by decide +kernel
theorem d_Ml_605 : decode b_Ml 605 = .ok (.getstatic 37, 3) := by decide +kernel
theorem d_Ml_608 : decode b_Ml 608 = .ok (.ifCond .ne 16, 3) := by decide +kernel
theorem d_Ml_624 : decode b_Ml 624 = .ok (.getstatic 37, 3) := by decide +kernel
theorem d_Ml_627 : decode b_Ml 627 = .ok (.ifCond .ne 16, 3) := by decide +kernel
theorem d_Ml_643 : decode b_Ml 643 = .ok (.aload 6, 2) := by decide +kernel
theorem d_Ml_645 : decode b_Ml 645 = .ok (.iload 7, 2) := by decide +kernel
theorem d_Ml_647 : decode b_Ml 647 = .ok (.aload 5, 2) := by decide +kernel
theorem d_Ml_649 : decode b_Ml 649 = .ok (.iload 9, 2) := by decide +kernel
theorem d_Ml_651 : decode b_Ml 651 = .ok (.iload_n 2, 1) := by decide +kernel
theorem d_Ml_652 : decode b_Ml 652 = .ok (.invokestatic 75, 3) := by decide +kernel
theorem d_Ml_655 : decode b_Ml 655 = .ok (.return_, 1) := by decide +kernel
abbrev rm_Ml : Room := { frames := 3, cells := 1, slots := 4000, locals := 70 }
section MLO
variable {p : Program} {l : Launch} {e : Env} {s : State} {m : MethodId} {args : Array Value} {below : List Frame} {meth : Method} {c : Code} {Q : State → Prop} {c0 : Cond} {K : KD} {o a tb tl rb rl n b L1 L2 : Nat} {mg0 ss : Int} {f G : Nat → Option Nat} {H2 : Heap} {M : Nat → Prop} {wt nm : Nat → Int32}
-- behind the loop: one run is all but used up
set_option maxHeartbeats 4000000 in
theorem ml_exit (S : CallFix p m c b_Ml 13 s args (c0 :: TT) "java/util/ComparableTimSort") (hG : GN K s) (hk2 : Keep (N0 K) s.heap H2) (hM2 : MS K M wt nm H2) (hN : N0 K ≤ o) (hNa : N0 K ≤ a) (hoa : o ≠ a) (hat : a ≠ tb) (hMo : ¬ M o) (hMa : ¬ M a) (hn : n ≤ 8000) (htl : tl ≤ 4000) (hLt : L1 ≤ tl) (hbn : b + L1 + L2 ≤ n) (hGf : ∀ j, j < L1 → G j = f (b + j)) (hF : Full M f 0 n) (hs : Srt (kw wt) f b L1) (hs2 : Srt (kw wt) f (b + L1) L2) (hlast : ∀ j, b + L1 ≤ j → j < b + L1 + L2 → kw wt (f j) < kw wt (f (b + L1 - 1)))
    (fin : ∀ (mg : Int) (F : Nat → Option Nat) (X : Heap) (ls : Array Slot) (locs : List Loc), HX K o a mg tb tl ss rb rl n F G H2 X → (∀ x, (x < b ∨ b + L1 + L2 ≤ x) → F x = f x) → Srt (kw wt) F b (L1 + L2) → Eqv (kw wt) (sg F b (L1 + L2)) (sg f b (L1 + L2)) → Full M F 0 n → LO (N0 K) locs → W p l e rm_Ml s m args below meth c X locs 1 4000 Q (F0 m 655 ls [])) :
    ∀ (mg : Int) (F : Nat → Option Nat) (X : Heap) (c1 l1 c2 l2 d : Nat) (ls : Array Slot) (locs : List Loc), 1 ≤ l1 → (l1 = 1 ∨ l2 = 0) → ML (kw wt) M f n b L1 L2 F c1 l1 c2 l2 d → HX K o a mg0 tb tl ss rb rl n F G H2 X → LO (N0 K) locs → lv_has ls 13 [(0, .ref o), (2, .int (zI l1)), (4, .int (zI l2)), (5, .ref a), (6, .ref tb), (7, .int (zI c1)), (8, .int (zI c2)), (9, .int (zI d)), (10, .int (zI mg))] → W p l e rm_Ml s m args below meth c X locs 1 4000 Q (F0 m 522 ls []) := by
  intro mg F X c1 l1 c2 l2 d ls locs h1 h2 hML hX hlo hl
  have hFb : Full M f b L1 := hF.sub (by omega) (by omega)
  have hFb2 : Full M f (b + L1) L2 := hF.sub (by omega) (by omega)
  have hML0 := hML
  obtain ⟨g1, g2, g3, g4, g5, -, -, -, g9⟩ := hML0
  have aft : ∀ mg2 : Int, W p l e rm_Ml s m args below meth c X locs 1 4000 Q (F0 m 535 ls [.int (zI mg2), .ref o]) := by
    intro mg2
    refine z_put (C := "java/util/ComparableTimSort") (T := F_Cts) (N := 8) (ci := 2) S tin_Cts t_Cts tok_Cts tnm_Cts hG hX.1 hlo hN rfl 1 (by decide) tf_C9 rfl rfl rfl rfl (Nat.le_of_ble_eq_true rfl) d_Ml_535 (fun H3 locs hO3 z3 o3 hlo => ?_)
    have hX3 : HX K o a mg2 tb tl ss rb rl n F G H2 H3 := by
      refine ⟨hO3, by rw [o3 a (Ne.symm hoa)]; exact hX.2.1, ?_, z3.trans hX.2.2.2.1, fun q q1 q2 => by rw [o3 q q1]; exact hX.2.2.2.2 q q1 q2⟩
      by_cases hto : tb = o
      · exfalso
        subst hto
        obtain ⟨r, hr, cell, w1, w2, w3, w4⟩ := hX.1
        have := hX.2.2.1
        rw [w1] at this
        have e1 := Option.some.inj this
        have hcl := (hG.1.1.1 2 _ rfl).2
        obtain ⟨kC, hkC, hkind⟩ := hcl.2
        obtain ⟨kA, comp, r1, r2, r3, r4⟩ := hG.O.2
        have e2 : K.1.1 2 = cO_ K := by rw [← w2, e1]; rfl
        rw [e2, r1] at hkC
        have e3 := Option.some.inj hkC
        rw [← e3, r2] at hkind
        cases hkind
      · rw [o3 tb hto]; exact hX.2.2.1
    have hMS := hX3.ms hM2 hMo hMa
    have hkX := hX3.keep hk2 hN hNa
    refine z_iload_n S rfl (lv_at hl 1 rfl) d_Ml_538 ?_
    refine z_iconst S d_Ml_539 ?_
    refine z_icmp_ne (tgt := 591) S (by decide) (by omega) (by omega) d_Ml_540 ?_ ?_
    · intro hc
      have hl2 : l2 = 0 := by omega
      subst hl2
      refine z_iload_n S rfl (lv_at hl 1 rfl) d_Ml_591 ?_
      refine z_if_ne (tgt := 605) S (by decide) (by omega) d_Ml_592 ?_ ?_
      · intro hc2
        refine z_asrt (tgt := 624) S hG hkX tw_asrt (by decide) d_Ml_605 d_Ml_608 ?_
        refine z_asrt (tgt := 643) S hG hkX tw_asrt (by decide) d_Ml_624 d_Ml_627 ?_
        refine z_aload S (lv_at hl 4 rfl) d_Ml_643 ?_
        refine z_iload S (lv_at hl 5 rfl) d_Ml_645 ?_
        refine z_aload S (lv_at hl 3 rfl) d_Ml_647 ?_
        refine z_iload S (lv_at hl 7 rfl) d_Ml_649 ?_
        refine z_iload_n S rfl (lv_at hl 1 rfl) d_Ml_651 ?_
        refine n_copy c1 d l1 S hG.O hG.M hX3.2.2.1 hX3.2.1 hlo hNa (by omega) (by omega) rfl rfl rfl (by omega) (by omega) (fun j j1 j2 => ?_) (by decide) hl (by decide) d_Ml_652 (fun locs hlo => ?_)
        · rw [hGf j (by omega)]
          obtain ⟨y, e1, m1⟩ := hF (b + j) (by omega) (by omega)
          exact ⟨y, e1, (hMS y m1).anyM hG⟩
        obtain ⟨r1, r2, r3, r4⟩ := ML.done (by
          have := hML.left (F' := va_cpy G F c1 d l1) (r := l1) hs hs2 hFb (Nat.le_refl _) (fun x => pt_cpy (fun j hj => by rw [hGf _ (by omega), Nat.add_assoc]) x) (fun h => by omega)
          rw [Nat.sub_self] at this
          exact this)
        exact fin mg2 _ _ ls locs (hX3.set hoa hat _) r1 r2 r3 r4 hlo
      · intro hc2
        omega
    · intro hc
      have hl1 : l1 = 1 := by omega
      subst hl1
      refine z_asrt (tgt := 562) S hG hkX tw_asrt (by decide) d_Ml_543 d_Ml_546 ?_
      refine z_aload S (lv_at hl 3 rfl) d_Ml_562 ?_
      refine z_iload S (lv_at hl 6 rfl) d_Ml_564 ?_
      refine z_aload S (lv_at hl 3 rfl) d_Ml_566 ?_
      refine z_iload S (lv_at hl 7 rfl) d_Ml_568 ?_
      refine z_iload S (lv_at hl 2 rfl) d_Ml_570 ?_
      refine n_copy c2 d l2 S hG.M hG.M hX3.2.1 hX3.2.1 hlo hNa (by omega) (by omega) rfl rfl rfl (by omega) (by omega) (fun j j1 j2 => ?_) (by decide) hl (by decide) d_Ml_572 (fun locs hlo => ?_)
      · obtain ⟨y, e1, m1⟩ := g9 j (by omega) (by omega)
        exact ⟨y, e1, (hMS y m1).anyM hG⟩
      have hML2 := hML.right (F' := va_cpy F F c2 d l2) (r := l2) hs hs2 hFb2 (Nat.le_refl _) (fun x => pt_cpy (fun j hj => g5 _ (by omega)) x) (fun _ j hj => by
        rw [show b + c1 = b + L1 - 1 by omega]
        exact hlast _ (by omega) (by omega))
      have hX4 := hX3.set hoa hat (va_cpy F F c2 d l2)
      have hMS4 := hX4.ms hM2 hMo hMa
      obtain ⟨y, e1, m1⟩ := hF (b + c1) (by omega) (by omega)
      refine z_aload S (lv_at hl 3 rfl) d_Ml_575 ?_
      refine z_iload S (lv_at hl 7 rfl) d_Ml_577 ?_
      refine z_iload S (lv_at hl 2 rfl) d_Ml_579 ?_
      refine z_iadd S d_Ml_581 ?_
      refine z_aload S (lv_at hl 4 rfl) d_Ml_582 ?_
      refine z_iload S (lv_at hl 5 rfl) d_Ml_584 ?_
      refine n_aald c1 S hG.O hX4.2.2.1 (by omega) rfl (by omega) (by rw [hGf _ (by omega)]; exact e1) d_Ml_586 ?_
      refine n_aast (d + l2) S hG.M hX4.2.1 hlo hNa (by omega) ((hMS4 y m1).anyM hG) (by omega) (by omega) d_Ml_587 (fun locs hlo => ?_)
      refine z_goto (tgt := 655) S (by decide) d_Ml_588 ?_
      rw [Nat.sub_self] at hML2
      obtain ⟨r1, r2, r3, r4⟩ := ML.done (by
        have := hML2.left (F' := va_up (va_cpy F F c2 d l2) (d + l2) (some y)) (r := 1) hs hs2 hFb (Nat.le_refl _) (fun x => pt_up e1.symm x) (fun h => by omega)
        exact this)
      exact fin mg2 _ _ ls locs (hX4.set hoa hat _) r1 r2 r3 r4 hlo
  refine z_aload_n S rfl (lv_at hl 0 rfl) d_Ml_522 ?_
  refine z_iload S (lv_at hl 8 rfl) d_Ml_523 ?_
  refine z_iconst S d_Ml_525 ?_
  refine lv_icmp_ge (tgt := 533) S.1 S.2.1 d_Ml_526 (by decide) (fun _ => ?_) (fun _ => ?_)
  · refine z_iload S (lv_at hl 8 rfl) d_Ml_533 ?_
    exact aft mg
  · refine z_iconst S d_Ml_529 ?_
    refine z_goto (tgt := 535) S (by decide) d_Ml_530 ?_
    exact aft 1
-- the two inner loops: one by one, and galloping
set_option maxHeartbeats 4000000 in
theorem ml_loop (S : CallFix p m c b_Ml 13 s args (c0 :: TT) "java/util/ComparableTimSort") (hG : GN K s) (hk2 : Keep (N0 K) s.heap H2) (hM2 : MS K M wt nm H2) (hN : N0 K ≤ o) (hNa : N0 K ≤ a) (hoa : o ≠ a) (hat : a ≠ tb) (hMo : ¬ M o) (hMa : ¬ M a) (hn : n ≤ 8000) (htl : tl ≤ 4000) (hLt : L1 ≤ tl) (hbn : b + L1 + L2 ≤ n) (hGf : ∀ j, j < L1 → G j = f (b + j)) (hF : Full M f 0 n) (hs : Srt (kw wt) f b L1) (hs2 : Srt (kw wt) f (b + L1) L2) (hlast : ∀ j, b + L1 ≤ j → j < b + L1 + L2 → kw wt (f j) < kw wt (f (b + L1 - 1)))
    (ext : ∀ (mg : Int) (F : Nat → Option Nat) (X : Heap) (c1 l1 c2 l2 d : Nat) (ls : Array Slot) (locs : List Loc), 1 ≤ l1 → (l1 = 1 ∨ l2 = 0) → ML (kw wt) M f n b L1 L2 F c1 l1 c2 l2 d → HX K o a mg0 tb tl ss rb rl n F G H2 X → LO (N0 K) locs → lv_has ls 13 [(0, .ref o), (2, .int (zI l1)), (4, .int (zI l2)), (5, .ref a), (6, .ref tb), (7, .int (zI c1)), (8, .int (zI c2)), (9, .int (zI d)), (10, .int (zI mg))] → W p l e rm_Ml s m args below meth c X locs 1 4000 Q (F0 m 522 ls [])) :
    ∀ (N : Nat) (mg u1 u2 : Int) (F : Nat → Option Nat) (X : Heap) (c1 l1 c2 l2 d : Nat) (ls : Array Slot) (locs : List Loc), l1 + l2 < N → 2 ≤ l1 → 1 ≤ l2 → ML (kw wt) M f n b L1 L2 F c1 l1 c2 l2 d → HX K o a mg0 tb tl ss rb rl n F G H2 X → LO (N0 K) locs → lv_has ls 13 [(0, .ref o), (2, .int (zI l1)), (4, .int (zI l2)), (5, .ref a), (6, .ref tb), (7, .int (zI c1)), (8, .int (zI c2)), (9, .int (zI d)), (10, .int (zI mg)), (11, .int (zI u1)), (12, .int (zI u2))] → W p l e rm_Ml s m args below meth c X locs 1 4000 Q (F0 m 147 ls []) ∧ W p l e rm_Ml s m args below meth c X locs 1 4000 Q (F0 m 268 ls []) := by
  have hFb : Full M f b L1 := hF.sub (by omega) (by omega)
  have hFb2 : Full M f (b + L1) L2 := hF.sub (by omega) (by omega)
  have hGF : Full M G 0 L1 := fun j j1 j2 => by rw [hGf j (by omega)]; exact hFb (b + j) (by omega) (by omega)
  have hGs : Srt (kw wt) G 0 L1 := fun x y x1 x2 x3 => by rw [hGf x (by omega), hGf y (by omega)]; exact hs _ _ (by omega) (by omega) (by omega)
  intro N
  induction N with
  | zero => intro mg u1 u2 F X c1 l1 c2 l2 d ls locs h; omega
  | succ N ih =>
    intro mg u1 u2 F X c1 l1 c2 l2 d ls locs hNm h1 h2 hML hX hlo hl
    have hML0 := hML
    obtain ⟨g1, g2, g3, g4, g5, -, -, -, g9⟩ := hML0
    have hMS := hX.ms hM2 hMo hMa
    have hkX := hX.keep hk2 hN hNa
    obtain ⟨yr, er, mr⟩ := hF c2 (by omega) (by omega)
    obtain ⟨yl, el, ml⟩ := hF (b + c1) (by omega) (by omega)
    have erF : F c2 = some yr := by rw [g5 c2 (by omega)]; exact er
    have elG : G c1 = some yl := by rw [hGf c1 (by omega)]; exact el
    constructor
    · -- one by one
      have t258 : ∀ (u1 u2 : Int) (F : Nat → Option Nat) (X : Heap) (c1 l1 c2 l2 d : Nat) (ls : Array Slot) (locs : List Loc), l1 + l2 < N → 2 ≤ l1 → 1 ≤ l2 → ML (kw wt) M f n b L1 L2 F c1 l1 c2 l2 d → HX K o a mg0 tb tl ss rb rl n F G H2 X → LO (N0 K) locs → lv_has ls 13 [(0, .ref o), (2, .int (zI l1)), (4, .int (zI l2)), (5, .ref a), (6, .ref tb), (7, .int (zI c1)), (8, .int (zI c2)), (9, .int (zI d)), (10, .int (zI mg)), (11, .int (zI u1)), (12, .int (zI u2))] → W p l e rm_Ml s m args below meth c X locs 1 4000 Q (F0 m 258 ls []) := by
        intro u1 u2 F X c1 l1 c2 l2 d ls locs hNm h1 h2 hML hX hlo hl
        obtain ⟨w1, w2⟩ := ih mg u1 u2 F X c1 l1 c2 l2 d ls locs hNm h1 h2 hML hX hlo hl
        refine z_iload S (lv_at hl 9 rfl) d_Ml_258 ?_
        refine z_iload S (lv_at hl 10 rfl) d_Ml_260 ?_
        refine lv_ior S.1 S.2.1 d_Ml_262 ?_
        refine z_iload S (lv_at hl 8 rfl) d_Ml_263 ?_
        refine lv_icmp_lt (tgt := 147) S.1 S.2.1 d_Ml_265 (by decide) (fun _ => ?_) (fun _ => ?_)
        · exact w1
        · exact w2
      refine z_asrt (tgt := 171) S hG hkX tw_asrt (by decide) d_Ml_147 d_Ml_150 ?_
      refine z_aload S (lv_at hl 3 rfl) d_Ml_171 ?_
      refine z_iload S (lv_at hl 6 rfl) d_Ml_173 ?_
      refine n_aald c2 S hG.M hX.2.1 (by omega) rfl (by omega) erF d_Ml_175 ?_
      refine z_cast S hG (hMS yr mr) tcl_C69 d_Ml_176 ?_
      refine z_aload S (lv_at hl 4 rfl) d_Ml_179 ?_
      refine z_iload S (lv_at hl 5 rfl) d_Ml_181 ?_
      refine n_aald c1 S hG.O hX.2.2.1 (by omega) rfl (by omega) elG d_Ml_183 ?_
      refine z_cmp S hG hkX hlo (hMS yr mr) (hMS yl ml) (by decide) (by decide) hl (by decide) d_Ml_184 (fun locs hlo => ?_)
      refine z_if_ge (tgt := 225) S (by decide) cmpI_in d_Ml_189 ?_ ?_
      · intro hc
        rw [cmpI_ge] at hc
        refine z_aload S (lv_at hl 3 rfl) d_Ml_225 ?_
        refine z_iload S (lv_at hl 7 rfl) d_Ml_227 ?_
        refine z_iinc (lv' := [(9, .int (zI (d + 1))), (0, .ref o), (2, .int (zI l1)), (4, .int (zI l2)), (5, .ref a), (6, .ref tb), (7, .int (zI c1)), (8, .int (zI c2)), (10, .int (zI mg)), (11, .int (zI u1)), (12, .int (zI u2))]) (q := 7) S hl rfl rfl (by decide) d_Ml_229 (fun ls hl => ?_)
        refine z_aload S (lv_at hl 5 rfl) d_Ml_232 ?_
        refine z_iload S (lv_at hl 6 rfl) d_Ml_234 ?_
        refine z_iinc (lv' := [(7, .int (zI (c1 + 1))), (9, .int (zI (d + 1))), (0, .ref o), (2, .int (zI l1)), (4, .int (zI l2)), (5, .ref a), (6, .ref tb), (8, .int (zI c2)), (10, .int (zI mg)), (11, .int (zI u1)), (12, .int (zI u2))]) (q := 6) S hl rfl rfl (by decide) d_Ml_236 (fun ls hl => ?_)
        refine n_aald c1 S hG.O hX.2.2.1 (by omega) (by omega) (by omega) elG d_Ml_239 ?_
        refine n_aast d S hG.M hX.2.1 hlo hNa (by omega) ((hMS yl ml).anyM hG) (by omega) (by omega) d_Ml_240 (fun locs hlo => ?_)
        have hX2 := hX.set hoa hat (va_up F d (some yl))
        have hML2 := hML.left (F' := va_up F d (some yl)) (r := 1) hs hs2 hFb (by omega) (fun x => pt_up el.symm x) (fun _ j hj => by
          have : j = 0 := by omega
          subst this
          rw [Nat.add_zero, kw_some el, kw_some er]
          exact hc)
        refine z_iinc (lv' := [(11, .int (zI (u1 + 1))), (7, .int (zI (c1 + 1))), (9, .int (zI (d + 1))), (0, .ref o), (2, .int (zI l1)), (4, .int (zI l2)), (5, .ref a), (6, .ref tb), (8, .int (zI c2)), (10, .int (zI mg)), (12, .int (zI u2))]) (q := 9) S hl rfl rfl (by decide) d_Ml_241 (fun ls hl => ?_)
        refine z_iconst S d_Ml_244 ?_
        refine z_istore (lv' := [(12, .int (zI 0)), (11, .int (zI (u1 + 1))), (7, .int (zI (c1 + 1))), (9, .int (zI (d + 1))), (0, .ref o), (2, .int (zI l1)), (4, .int (zI l2)), (5, .ref a), (6, .ref tb), (8, .int (zI c2)), (10, .int (zI mg))]) S hl rfl (by decide) d_Ml_245 (fun ls hl => ?_)
        refine z_iinc (lv' := [(2, .int (zI (l1 + (-1)))), (12, .int (zI 0)), (11, .int (zI (u1 + 1))), (7, .int (zI (c1 + 1))), (9, .int (zI (d + 1))), (0, .ref o), (4, .int (zI l2)), (5, .ref a), (6, .ref tb), (8, .int (zI c2)), (10, .int (zI mg))]) (q := 5) S hl rfl rfl (by decide) d_Ml_247 (fun ls hl => ?_)
        refine z_iload_n S rfl (lv_at hl 0 rfl) d_Ml_250 ?_
        refine z_iconst S d_Ml_251 ?_
        have hl : lv_has ls 13 [(0, .ref o), (2, .int (zI (l1 + (-1)))), (4, .int (zI l2)), (5, .ref a), (6, .ref tb), (7, .int (zI (c1 + 1))), (8, .int (zI c2)), (9, .int (zI (d + 1))), (10, .int (zI mg)), (11, .int (zI (u1 + 1))), (12, .int (zI 0))] := lv_sub hl [5, 0, 6, 7, 8, 3, 9, 4, 10, 2, 1] rfl
        have hl : lv_has ls 13 [(0, .ref o), (2, .int (zI ((l1 - 1 : Nat) : Int))), (4, .int (zI l2)), (5, .ref a), (6, .ref tb), (7, .int (zI (c1 + 1))), (8, .int (zI c2)), (9, .int (zI (d + 1))), (10, .int (zI mg)), (11, .int (zI (u1 + 1))), (12, .int (zI 0))] := by rw [show ((l1 - 1 : Nat) : Int) = (l1 + (-1)) by omega]; exact hl
        refine z_icmp_ne (tgt := 258) S (by decide) (by omega) (by omega) d_Ml_252 ?_ ?_
        · intro hc2
          exact t258 _ _ _ _ _ _ _ _ _ ls locs (by omega) (by omega) (by omega) hML2 hX2 hlo hl
        · intro hc2
          refine z_goto (tgt := 522) S (by decide) d_Ml_255 ?_
          exact ext _ _ _ _ _ _ _ _ ls locs (by omega) (by omega) hML2 hX2 hlo (lv_sub hl [0, 1, 2, 3, 4, 5, 6, 7, 8] rfl)
      · intro hc
        rw [cmpI_lt] at hc
        refine z_aload S (lv_at hl 3 rfl) d_Ml_192 ?_
        refine z_iload S (lv_at hl 7 rfl) d_Ml_194 ?_
        refine z_iinc (lv' := [(9, .int (zI (d + 1))), (0, .ref o), (2, .int (zI l1)), (4, .int (zI l2)), (5, .ref a), (6, .ref tb), (7, .int (zI c1)), (8, .int (zI c2)), (10, .int (zI mg)), (11, .int (zI u1)), (12, .int (zI u2))]) (q := 7) S hl rfl rfl (by decide) d_Ml_196 (fun ls hl => ?_)
        refine z_aload S (lv_at hl 4 rfl) d_Ml_199 ?_
        refine z_iload S (lv_at hl 7 rfl) d_Ml_201 ?_
        refine z_iinc (lv' := [(8, .int (zI (c2 + 1))), (9, .int (zI (d + 1))), (0, .ref o), (2, .int (zI l1)), (4, .int (zI l2)), (5, .ref a), (6, .ref tb), (7, .int (zI c1)), (10, .int (zI mg)), (11, .int (zI u1)), (12, .int (zI u2))]) (q := 7) S hl rfl rfl (by decide) d_Ml_203 (fun ls hl => ?_)
        refine n_aald c2 S hG.M hX.2.1 (by omega) (by omega) (by omega) erF d_Ml_206 ?_
        refine n_aast d S hG.M hX.2.1 hlo hNa (by omega) ((hMS yr mr).anyM hG) (by omega) (by omega) d_Ml_207 (fun locs hlo => ?_)
        have hX2 := hX.set hoa hat (va_up F d (some yr))
        have hML2 := hML.right (F' := va_up F d (some yr)) (r := 1) hs hs2 hFb2 (by omega) (fun x => pt_up er.symm x) (fun _ j hj => by
          have : j = 0 := by omega
          subst this
          rw [Nat.add_zero, kw_some el, kw_some er]
          exact hc)
        refine z_iinc (lv' := [(12, .int (zI (u2 + 1))), (8, .int (zI (c2 + 1))), (9, .int (zI (d + 1))), (0, .ref o), (2, .int (zI l1)), (4, .int (zI l2)), (5, .ref a), (6, .ref tb), (7, .int (zI c1)), (10, .int (zI mg)), (11, .int (zI u1))]) (q := 10) S hl rfl rfl (by decide) d_Ml_208 (fun ls hl => ?_)
        refine z_iconst S d_Ml_211 ?_
        refine z_istore (lv' := [(11, .int (zI 0)), (12, .int (zI (u2 + 1))), (8, .int (zI (c2 + 1))), (9, .int (zI (d + 1))), (0, .ref o), (2, .int (zI l1)), (4, .int (zI l2)), (5, .ref a), (6, .ref tb), (7, .int (zI c1)), (10, .int (zI mg))]) S hl rfl (by decide) d_Ml_212 (fun ls hl => ?_)
        refine z_iinc (lv' := [(4, .int (zI (l2 + (-1)))), (11, .int (zI 0)), (12, .int (zI (u2 + 1))), (8, .int (zI (c2 + 1))), (9, .int (zI (d + 1))), (0, .ref o), (2, .int (zI l1)), (5, .ref a), (6, .ref tb), (7, .int (zI c1)), (10, .int (zI mg))]) (q := 6) S hl rfl rfl (by decide) d_Ml_214 (fun ls hl => ?_)
        refine z_iload S (lv_at hl 0 rfl) d_Ml_217 ?_
        have hl : lv_has ls 13 [(0, .ref o), (2, .int (zI l1)), (4, .int (zI (l2 + (-1)))), (5, .ref a), (6, .ref tb), (7, .int (zI c1)), (8, .int (zI (c2 + 1))), (9, .int (zI (d + 1))), (10, .int (zI mg)), (11, .int (zI 0)), (12, .int (zI (u2 + 1)))] := lv_sub hl [5, 6, 0, 7, 8, 9, 3, 4, 10, 1, 2] rfl
        have hl : lv_has ls 13 [(0, .ref o), (2, .int (zI l1)), (4, .int (zI ((l2 - 1 : Nat) : Int))), (5, .ref a), (6, .ref tb), (7, .int (zI c1)), (8, .int (zI (c2 + 1))), (9, .int (zI (d + 1))), (10, .int (zI mg)), (11, .int (zI 0)), (12, .int (zI (u2 + 1)))] := by rw [show ((l2 - 1 : Nat) : Int) = (l2 + (-1)) by omega]; exact hl
        refine z_if_ne (tgt := 258) S (by decide) (by omega) d_Ml_219 ?_ ?_
        · intro hc2
          exact t258 _ _ _ _ _ _ _ _ _ ls locs (by omega) (by omega) (by omega) hML2 hX2 hlo hl
        · intro hc2
          refine z_goto (tgt := 522) S (by decide) d_Ml_222 ?_
          exact ext _ _ _ _ _ _ _ _ ls locs (by omega) (by omega) hML2 hX2 hlo (lv_sub hl [0, 1, 2, 3, 4, 5, 6, 7, 8] rfl)
    · -- galloping
      -- behind the second gallop, at 450
      have t450 : ∀ (u1 u2 : Int) (F : Nat → Option Nat) (X : Heap) (c1 l1 c2 l2 d : Nat) (ls : Array Slot) (locs : List Loc), l1 + l2 < N + 1 → 2 ≤ l1 → 1 ≤ l2 → ML (kw wt) M f n b L1 L2 F c1 l1 c2 l2 d → kw wt (f (b + c1)) ≤ kw wt (f c2) → HX K o a mg0 tb tl ss rb rl n F G H2 X → LO (N0 K) locs → lv_has ls 13 [(0, .ref o), (2, .int (zI l1)), (4, .int (zI l2)), (5, .ref a), (6, .ref tb), (7, .int (zI c1)), (8, .int (zI c2)), (9, .int (zI d)), (10, .int (zI mg)), (11, .int (zI u1)), (12, .int (zI u2))] → W p l e rm_Ml s m args below meth c X locs 1 4000 Q (F0 m 450 ls []) := by
        intro u1 u2 F X c1 l1 c2 l2 d ls locs hNm h1 h2 hML hle hX hlo hl
        have hML0 := hML
        obtain ⟨g1, g2, g3, g4, g5, -, -, -, g9⟩ := hML0
        have hMS := hX.ms hM2 hMo hMa
        obtain ⟨yl, el, ml⟩ := hF (b + c1) (by omega) (by omega)
        have elG : G c1 = some yl := by rw [hGf c1 (by omega)]; exact el
        refine z_aload S (lv_at hl 3 rfl) d_Ml_450 ?_
        refine z_iload S (lv_at hl 7 rfl) d_Ml_452 ?_
        refine z_iinc (lv' := [(9, .int (zI (d + 1))), (0, .ref o), (2, .int (zI l1)), (4, .int (zI l2)), (5, .ref a), (6, .ref tb), (7, .int (zI c1)), (8, .int (zI c2)), (10, .int (zI mg)), (11, .int (zI u1)), (12, .int (zI u2))]) (q := 7) S hl rfl rfl (by decide) d_Ml_454 (fun ls hl => ?_)
        refine z_aload S (lv_at hl 5 rfl) d_Ml_457 ?_
        refine z_iload S (lv_at hl 6 rfl) d_Ml_459 ?_
        refine z_iinc (lv' := [(7, .int (zI (c1 + 1))), (9, .int (zI (d + 1))), (0, .ref o), (2, .int (zI l1)), (4, .int (zI l2)), (5, .ref a), (6, .ref tb), (8, .int (zI c2)), (10, .int (zI mg)), (11, .int (zI u1)), (12, .int (zI u2))]) (q := 6) S hl rfl rfl (by decide) d_Ml_461 (fun ls hl => ?_)
        refine n_aald c1 S hG.O hX.2.2.1 (by omega) (by omega) (by omega) elG d_Ml_464 ?_
        refine n_aast d S hG.M hX.2.1 hlo hNa (by omega) ((hMS yl ml).anyM hG) (by omega) (by omega) d_Ml_465 (fun locs hlo => ?_)
        have hX2 := hX.set hoa hat (va_up F d (some yl))
        have hML2 := hML.left (F' := va_up F d (some yl)) (r := 1) hs hs2 hFb (by omega) (fun x => pt_up el.symm x) (fun _ j hj => by
          have : j = 0 := by omega
          subst this
          rw [Nat.add_zero]
          exact hle)
        refine z_iinc (lv' := [(2, .int (zI (l1 + (-1)))), (7, .int (zI (c1 + 1))), (9, .int (zI (d + 1))), (0, .ref o), (4, .int (zI l2)), (5, .ref a), (6, .ref tb), (8, .int (zI c2)), (10, .int (zI mg)), (11, .int (zI u1)), (12, .int (zI u2))]) (q := 3) S hl rfl rfl (by decide) d_Ml_466 (fun ls hl => ?_)
        refine z_iload_n S rfl (lv_at hl 0 rfl) d_Ml_469 ?_
        refine z_iconst S d_Ml_470 ?_
        have hl : lv_has ls 13 [(0, .ref o), (2, .int (zI (l1 + (-1)))), (4, .int (zI l2)), (5, .ref a), (6, .ref tb), (7, .int (zI (c1 + 1))), (8, .int (zI c2)), (9, .int (zI (d + 1))), (10, .int (zI mg)), (11, .int (zI u1)), (12, .int (zI u2))] := lv_sub hl [3, 0, 4, 5, 6, 1, 7, 2, 8, 9, 10] rfl
        have hl : lv_has ls 13 [(0, .ref o), (2, .int (zI ((l1 - 1 : Nat) : Int))), (4, .int (zI l2)), (5, .ref a), (6, .ref tb), (7, .int (zI (c1 + 1))), (8, .int (zI c2)), (9, .int (zI (d + 1))), (10, .int (zI mg)), (11, .int (zI u1)), (12, .int (zI u2))] := by rw [show ((l1 - 1 : Nat) : Int) = (l1 + (-1)) by omega]; exact hl
        refine z_icmp_ne (tgt := 477) S (by decide) (by omega) (by omega) d_Ml_471 ?_ ?_
        · intro hc2
          refine z_iinc (lv' := [(10, .int (zI (mg + (-1)))), (0, .ref o), (2, .int (zI ((l1 - 1 : Nat) : Int))), (4, .int (zI l2)), (5, .ref a), (6, .ref tb), (7, .int (zI (c1 + 1))), (8, .int (zI c2)), (9, .int (zI (d + 1))), (11, .int (zI u1)), (12, .int (zI u2))]) (q := 8) S hl rfl rfl (by decide) d_Ml_477 (fun ls hl => ?_)
          refine z_iload S (lv_at hl 9 rfl) d_Ml_480 ?_
          refine z_bipush S (by decide) d_Ml_482 ?_
          have hl : lv_has ls 13 [(0, .ref o), (2, .int (zI ((l1 - 1 : Nat) : Int))), (4, .int (zI l2)), (5, .ref a), (6, .ref tb), (7, .int (zI (c1 + 1))), (8, .int (zI c2)), (9, .int (zI (d + 1))), (10, .int (zI (mg + (-1)))), (11, .int (zI u1)), (12, .int (zI u2))] := lv_sub hl [1, 2, 3, 4, 5, 6, 7, 8, 0, 9, 10] rfl
          have t504 : ∀ x y : Int32, W p l e rm_Ml s m args below meth c (X.setIfInBounds a (RA (cM_ K) n (va_up F d (some yl)))) locs 1 4000 Q (F0 m 504 ls [.int y, .int x]) := by
            intro x y
            refine lv_ior S.1 S.2.1 d_Ml_504 ?_
            refine lv_if_ne (tgt := 268) S.1 S.2.1 d_Ml_505 (by decide) (fun _ => ?_) (fun _ => ?_)
            · exact (ih (mg + (-1)) u1 u2 _ _ (c1 + 1) (l1 - 1) c2 l2 (d + 1) ls locs (by omega) (by omega) (by omega) hML2 hX2 hlo hl).2
            · refine z_iload S (lv_at hl 8 rfl) d_Ml_508 ?_
              refine lv_if_ge (tgt := 516) S.1 S.2.1 d_Ml_510 (by decide) (fun _ => ?_) (fun _ => ?_)
              · refine z_iinc (lv' := [(10, .int (zI ((mg + (-1)) + 2))), (0, .ref o), (2, .int (zI ((l1 - 1 : Nat) : Int))), (4, .int (zI l2)), (5, .ref a), (6, .ref tb), (7, .int (zI (c1 + 1))), (8, .int (zI c2)), (9, .int (zI (d + 1))), (11, .int (zI u1)), (12, .int (zI u2))]) (q := 8) S hl rfl rfl (by decide) d_Ml_516 (fun ls hl => ?_)
                refine z_goto (tgt := 141) S (by decide) d_Ml_519 ?_
                refine z_iconst S d_Ml_141 ?_
                refine z_istore (lv' := [(11, .int (zI 0)), (10, .int (zI ((mg + (-1)) + 2))), (0, .ref o), (2, .int (zI ((l1 - 1 : Nat) : Int))), (4, .int (zI l2)), (5, .ref a), (6, .ref tb), (7, .int (zI (c1 + 1))), (8, .int (zI c2)), (9, .int (zI (d + 1))), (12, .int (zI u2))]) S hl rfl (by decide) d_Ml_142 (fun ls hl => ?_)
                refine z_iconst S d_Ml_144 ?_
                refine z_istore (lv' := [(12, .int (zI 0)), (11, .int (zI 0)), (10, .int (zI ((mg + (-1)) + 2))), (0, .ref o), (2, .int (zI ((l1 - 1 : Nat) : Int))), (4, .int (zI l2)), (5, .ref a), (6, .ref tb), (7, .int (zI (c1 + 1))), (8, .int (zI c2)), (9, .int (zI (d + 1)))]) S hl rfl (by decide) d_Ml_145 (fun ls hl => ?_)
                exact (ih _ _ _ _ _ (c1 + 1) (l1 - 1) c2 l2 (d + 1) ls locs (by omega) (by omega) (by omega) hML2 hX2 hlo (lv_sub hl [3, 4, 5, 6, 7, 8, 9, 10, 2, 1, 0] rfl)).1
              · refine z_iconst S d_Ml_513 ?_
                refine z_istore (lv' := [(10, .int (zI 0)), (0, .ref o), (2, .int (zI ((l1 - 1 : Nat) : Int))), (4, .int (zI l2)), (5, .ref a), (6, .ref tb), (7, .int (zI (c1 + 1))), (8, .int (zI c2)), (9, .int (zI (d + 1))), (11, .int (zI u1)), (12, .int (zI u2))]) S hl rfl (by decide) d_Ml_514 (fun ls hl => ?_)
                refine z_iinc (lv' := [(10, .int (zI (0 + 2))), (0, .ref o), (2, .int (zI ((l1 - 1 : Nat) : Int))), (4, .int (zI l2)), (5, .ref a), (6, .ref tb), (7, .int (zI (c1 + 1))), (8, .int (zI c2)), (9, .int (zI (d + 1))), (11, .int (zI u1)), (12, .int (zI u2))]) (q := 0) S hl rfl rfl (by decide) d_Ml_516 (fun ls hl => ?_)
                refine z_goto (tgt := 141) S (by decide) d_Ml_519 ?_
                refine z_iconst S d_Ml_141 ?_
                refine z_istore (lv' := [(11, .int (zI 0)), (10, .int (zI (0 + 2))), (0, .ref o), (2, .int (zI ((l1 - 1 : Nat) : Int))), (4, .int (zI l2)), (5, .ref a), (6, .ref tb), (7, .int (zI (c1 + 1))), (8, .int (zI c2)), (9, .int (zI (d + 1))), (12, .int (zI u2))]) S hl rfl (by decide) d_Ml_142 (fun ls hl => ?_)
                refine z_iconst S d_Ml_144 ?_
                refine z_istore (lv' := [(12, .int (zI 0)), (11, .int (zI 0)), (10, .int (zI (0 + 2))), (0, .ref o), (2, .int (zI ((l1 - 1 : Nat) : Int))), (4, .int (zI l2)), (5, .ref a), (6, .ref tb), (7, .int (zI (c1 + 1))), (8, .int (zI c2)), (9, .int (zI (d + 1)))]) S hl rfl (by decide) d_Ml_145 (fun ls hl => ?_)
                exact (ih _ _ _ _ _ (c1 + 1) (l1 - 1) c2 l2 (d + 1) ls locs (by omega) (by omega) (by omega) hML2 hX2 hlo (lv_sub hl [3, 4, 5, 6, 7, 8, 9, 10, 2, 1, 0] rfl)).1
          have t492 : ∀ x : Int32, W p l e rm_Ml s m args below meth c (X.setIfInBounds a (RA (cM_ K) n (va_up F d (some yl)))) locs 1 4000 Q (F0 m 492 ls [.int x]) := by
            intro x
            refine z_iload S (lv_at hl 10 rfl) d_Ml_492 ?_
            refine z_bipush S (by decide) d_Ml_494 ?_
            refine lv_icmp_lt (tgt := 503) S.1 S.2.1 d_Ml_496 (by decide) (fun _ => ?_) (fun _ => ?_)
            · refine z_iconst S d_Ml_503 ?_
              exact t504 x _
            · refine z_iconst S d_Ml_499 ?_
              refine z_goto (tgt := 504) S (by decide) d_Ml_500 ?_
              exact t504 x _
          refine lv_icmp_lt (tgt := 491) S.1 S.2.1 d_Ml_484 (by decide) (fun _ => ?_) (fun _ => ?_)
          · refine z_iconst S d_Ml_491 ?_
            exact t492 _
          · refine z_iconst S d_Ml_487 ?_
            refine z_goto (tgt := 492) S (by decide) d_Ml_488 ?_
            exact t492 _
        · intro hc2
          refine z_goto (tgt := 522) S (by decide) d_Ml_474 ?_
          exact ext _ _ _ _ _ _ _ _ ls locs (by omega) (by omega) hML2 hX2 hlo (lv_sub hl [0, 1, 2, 3, 4, 5, 6, 7, 8] rfl)
      -- behind the first gallop, at 356
      have t356 : ∀ (u1 u2 : Int) (F : Nat → Option Nat) (X : Heap) (c1 l1 c2 l2 d : Nat) (ls : Array Slot) (locs : List Loc), l1 + l2 < N + 1 → 2 ≤ l1 → 1 ≤ l2 → ML (kw wt) M f n b L1 L2 F c1 l1 c2 l2 d → kw wt (f c2) < kw wt (f (b + c1)) → HX K o a mg0 tb tl ss rb rl n F G H2 X → LO (N0 K) locs → lv_has ls 13 [(0, .ref o), (2, .int (zI l1)), (4, .int (zI l2)), (5, .ref a), (6, .ref tb), (7, .int (zI c1)), (8, .int (zI c2)), (9, .int (zI d)), (10, .int (zI mg)), (11, .int (zI u1)), (12, .int (zI u2))] → W p l e rm_Ml s m args below meth c X locs 1 4000 Q (F0 m 356 ls []) := by
        intro u1 u2 F X c1 l1 c2 l2 d ls locs hNm h1 h2 hML hlt hX hlo hl
        have hML0 := hML
        obtain ⟨g1, g2, g3, g4, g5, -, -, -, g9⟩ := hML0
        have hMS := hX.ms hM2 hMo hMa
        obtain ⟨yr, er, mr⟩ := hF c2 (by omega) (by omega)
        have erF : F c2 = some yr := by rw [g5 c2 (by omega)]; exact er
        refine z_aload S (lv_at hl 3 rfl) d_Ml_356 ?_
        refine z_iload S (lv_at hl 7 rfl) d_Ml_358 ?_
        refine z_iinc (lv' := [(9, .int (zI (d + 1))), (0, .ref o), (2, .int (zI l1)), (4, .int (zI l2)), (5, .ref a), (6, .ref tb), (7, .int (zI c1)), (8, .int (zI c2)), (10, .int (zI mg)), (11, .int (zI u1)), (12, .int (zI u2))]) (q := 7) S hl rfl rfl (by decide) d_Ml_360 (fun ls hl => ?_)
        refine z_aload S (lv_at hl 4 rfl) d_Ml_363 ?_
        refine z_iload S (lv_at hl 7 rfl) d_Ml_365 ?_
        refine z_iinc (lv' := [(8, .int (zI (c2 + 1))), (9, .int (zI (d + 1))), (0, .ref o), (2, .int (zI l1)), (4, .int (zI l2)), (5, .ref a), (6, .ref tb), (7, .int (zI c1)), (10, .int (zI mg)), (11, .int (zI u1)), (12, .int (zI u2))]) (q := 7) S hl rfl rfl (by decide) d_Ml_367 (fun ls hl => ?_)
        refine n_aald c2 S hG.M hX.2.1 (by omega) (by omega) (by omega) erF d_Ml_370 ?_
        refine n_aast d S hG.M hX.2.1 hlo hNa (by omega) ((hMS yr mr).anyM hG) (by omega) (by omega) d_Ml_371 (fun locs hlo => ?_)
        have hX2 := hX.set hoa hat (va_up F d (some yr))
        have hML2 := hML.right (F' := va_up F d (some yr)) (r := 1) hs hs2 hFb2 (by omega) (fun x => pt_up er.symm x) (fun _ j hj => by
          have : j = 0 := by omega
          subst this
          rw [Nat.add_zero]
          exact hlt)
        generalize va_up F d (some yr) = F1 at hX2 hML2 ⊢
        generalize X.setIfInBounds a (RA (cM_ K) n F1) = X1 at hX2 ⊢
        refine z_iinc (lv' := [(4, .int (zI (l2 + (-1)))), (8, .int (zI (c2 + 1))), (9, .int (zI (d + 1))), (0, .ref o), (2, .int (zI l1)), (5, .ref a), (6, .ref tb), (7, .int (zI c1)), (10, .int (zI mg)), (11, .int (zI u1)), (12, .int (zI u2))]) (q := 4) S hl rfl rfl (by decide) d_Ml_372 (fun ls hl => ?_)
        refine z_iload S (lv_at hl 0 rfl) d_Ml_375 ?_
        have hl : lv_has ls 13 [(0, .ref o), (2, .int (zI l1)), (4, .int (zI (l2 + (-1)))), (5, .ref a), (6, .ref tb), (7, .int (zI c1)), (8, .int (zI (c2 + 1))), (9, .int (zI (d + 1))), (10, .int (zI mg)), (11, .int (zI u1)), (12, .int (zI u2))] := lv_sub hl [3, 4, 0, 5, 6, 7, 1, 2, 8, 9, 10] rfl
        have hl : lv_has ls 13 [(0, .ref o), (2, .int (zI l1)), (4, .int (zI ((l2 - 1 : Nat) : Int))), (5, .ref a), (6, .ref tb), (7, .int (zI c1)), (8, .int (zI (c2 + 1))), (9, .int (zI (d + 1))), (10, .int (zI mg)), (11, .int (zI u1)), (12, .int (zI u2))] := by rw [show ((l2 - 1 : Nat) : Int) = (l2 + (-1)) by omega]; exact hl
        refine z_if_ne (tgt := 383) S (by decide) (by omega) d_Ml_377 ?_ ?_
        · intro hc2
          have hML20 := hML2
          obtain ⟨k1, k2, k3, k4, k5, -, -, -, k9⟩ := hML20
          have hMS1 := hX2.ms hM2 hMo hMa
          have hkX1 := hX2.keep hk2 hN hNa
          obtain ⟨yl, el, ml⟩ := hF (b + c1) (by omega) (by omega)
          have elG : G c1 = some yl := by rw [hGf c1 (by omega)]; exact el
          refine z_aload S (lv_at hl 4 rfl) d_Ml_383 ?_
          refine z_iload S (lv_at hl 5 rfl) d_Ml_385 ?_
          refine n_aald c1 S hG.O hX2.2.2.1 (by omega) rfl (by omega) elG d_Ml_387 ?_
          refine z_cast S hG (hMS1 yl ml) tcl_C69 d_Ml_388 ?_
          refine z_aload S (lv_at hl 3 rfl) d_Ml_391 ?_
          refine z_iload S (lv_at hl 6 rfl) d_Ml_393 ?_
          refine z_iload S (lv_at hl 2 rfl) d_Ml_395 ?_
          refine z_iconst S d_Ml_397 ?_
          refine z_callS (n := 5) S (ct_Gl l K false yl a n (c2 + 1) (l2 - 1) 0 F1 M wt nm (by omega) (by omega) (by omega) ml (k9.sub (by omega) (by omega)) (Srt.congr (hs2.sub (by omega) (by omega)) (fun x x1 x2 => k5 x (by omega)))) tc_Gl tm_C93 ts_Gl tn_C (by decide) (by decide) rfl hG hkX1 hlo ⟨hX2.2.1, hMS1⟩ hl rfl (by decide) (by decide) d_Ml_398 (fun v H1 locs hp hlo => ?_)
          obtain ⟨r, rfl, rfl, r1, r2, r3⟩ := hp
          refine W.cs (cells' := 1) (slots' := 4000) rfl rfl ?_
          refine z_istore (lv' := [(12, .int (zI r)), (0, .ref o), (2, .int (zI l1)), (4, .int (zI ((l2 - 1 : Nat) : Int))), (5, .ref a), (6, .ref tb), (7, .int (zI c1)), (8, .int (zI (c2 + 1))), (9, .int (zI (d + 1))), (10, .int (zI mg)), (11, .int (zI u1))]) S hl rfl (by decide) d_Ml_401 (fun ls hl => ?_)
          refine z_iload S (lv_at hl 0 rfl) d_Ml_403 ?_
          have hl : lv_has ls 13 [(0, .ref o), (2, .int (zI l1)), (4, .int (zI ((l2 - 1 : Nat) : Int))), (5, .ref a), (6, .ref tb), (7, .int (zI c1)), (8, .int (zI (c2 + 1))), (9, .int (zI (d + 1))), (10, .int (zI mg)), (11, .int (zI u1)), (12, .int (zI r))] := lv_sub hl [1, 2, 3, 4, 5, 6, 7, 8, 9, 10, 0] rfl
          refine z_if_eq (tgt := 450) S (by decide) (by omega) d_Ml_405 ?_ ?_
          · intro hc3
            have hr0 : r = 0 := by omega
            subst hr0
            refine t450 _ _ _ _ _ _ _ _ _ ls locs (by omega) (by omega) (by omega) hML2 ?_ hX2 hlo hl
            have := r3 0 (by omega) (by omega)
            rw [Nat.add_zero, k5 _ (by omega)] at this
            rw [kw_some el]
            exact this
          · intro hc3
            refine z_aload S (lv_at hl 3 rfl) d_Ml_408 ?_
            refine z_iload S (lv_at hl 6 rfl) d_Ml_410 ?_
            refine z_aload S (lv_at hl 3 rfl) d_Ml_412 ?_
            refine z_iload S (lv_at hl 7 rfl) d_Ml_414 ?_
            refine z_iload S (lv_at hl 10 rfl) d_Ml_416 ?_
            refine n_copy (c2 + 1) (d + 1) r S hG.M hG.M hX2.2.1 hX2.2.1 hlo hNa (by omega) (by omega) rfl rfl rfl (by omega) (by omega) (fun j j1 j2 => ?_) (by decide) hl (by decide) d_Ml_418 (fun locs hlo => ?_)
            · obtain ⟨y, e1, m1⟩ := k9 j (by omega) (by omega)
              exact ⟨y, e1, (hMS1 y m1).anyM hG⟩
            have hX3 := hX2.set hoa hat (va_cpy F1 F1 (c2 + 1) (d + 1) r)
            have hML3 := hML2.right (F' := va_cpy F1 F1 (c2 + 1) (d + 1) r) (r := r) hs hs2 hFb2 r1 (fun x => pt_cpy (fun j hj => k5 _ (by omega)) x) (fun _ j hj => by
              have := r2 j hj
              rw [k5 _ (by omega)] at this
              rw [kw_some el]
              exact this)
            refine z_iload S (lv_at hl 7 rfl) d_Ml_421 ?_
            refine z_iload S (lv_at hl 10 rfl) d_Ml_423 ?_
            refine z_iadd S d_Ml_425 ?_
            refine z_istore (lv' := [(9, .int (zI ((d + 1) + r))), (0, .ref o), (2, .int (zI l1)), (4, .int (zI ((l2 - 1 : Nat) : Int))), (5, .ref a), (6, .ref tb), (7, .int (zI c1)), (8, .int (zI (c2 + 1))), (10, .int (zI mg)), (11, .int (zI u1)), (12, .int (zI r))]) S hl rfl (by decide) d_Ml_426 (fun ls hl => ?_)
            refine z_iload S (lv_at hl 7 rfl) d_Ml_428 ?_
            refine z_iload S (lv_at hl 10 rfl) d_Ml_430 ?_
            refine z_iadd S d_Ml_432 ?_
            refine z_istore (lv' := [(8, .int (zI ((c2 + 1) + r))), (9, .int (zI ((d + 1) + r))), (0, .ref o), (2, .int (zI l1)), (4, .int (zI ((l2 - 1 : Nat) : Int))), (5, .ref a), (6, .ref tb), (7, .int (zI c1)), (10, .int (zI mg)), (11, .int (zI u1)), (12, .int (zI r))]) S hl rfl (by decide) d_Ml_433 (fun ls hl => ?_)
            refine z_iload S (lv_at hl 4 rfl) d_Ml_435 ?_
            refine z_iload S (lv_at hl 10 rfl) d_Ml_437 ?_
            refine z_isub S d_Ml_439 ?_
            refine z_istore (lv' := [(4, .int (zI (((l2 - 1 : Nat) : Int) - r))), (8, .int (zI ((c2 + 1) + r))), (9, .int (zI ((d + 1) + r))), (0, .ref o), (2, .int (zI l1)), (5, .ref a), (6, .ref tb), (7, .int (zI c1)), (10, .int (zI mg)), (11, .int (zI u1)), (12, .int (zI r))]) S hl rfl (by decide) d_Ml_440 (fun ls hl => ?_)
            refine z_iload S (lv_at hl 0 rfl) d_Ml_442 ?_
            have hl : lv_has ls 13 [(0, .ref o), (2, .int (zI l1)), (4, .int (zI (((l2 - 1 : Nat) : Int) - r))), (5, .ref a), (6, .ref tb), (7, .int (zI c1)), (8, .int (zI ((c2 + 1) + r))), (9, .int (zI ((d + 1) + r))), (10, .int (zI mg)), (11, .int (zI u1)), (12, .int (zI r))] := lv_sub hl [3, 4, 0, 5, 6, 7, 1, 2, 8, 9, 10] rfl
            have hl : lv_has ls 13 [(0, .ref o), (2, .int (zI l1)), (4, .int (zI ((l2 - 1 - r : Nat) : Int))), (5, .ref a), (6, .ref tb), (7, .int (zI c1)), (8, .int (zI ((c2 + 1) + r))), (9, .int (zI ((d + 1) + r))), (10, .int (zI mg)), (11, .int (zI u1)), (12, .int (zI r))] := by rw [show ((l2 - 1 - r : Nat) : Int) = (((l2 - 1 : Nat) : Int) - r) by omega]; exact hl
            refine z_if_ne (tgt := 450) S (by decide) (by omega) d_Ml_444 ?_ ?_
            · intro hc4
              refine t450 _ _ _ _ _ _ (c2 + 1 + r) (l2 - 1 - r) (d + 1 + r) ls locs (by omega) (by omega) (by omega) hML3 ?_ hX3 hlo hl
              have := r3 r (by omega) (by omega)
              rw [k5 _ (by omega)] at this
              rw [kw_some el]
              exact this
            · intro hc4
              refine z_goto (tgt := 522) S (by decide) d_Ml_447 ?_
              exact ext _ _ _ _ _ (c2 + 1 + r) (l2 - 1 - r) (d + 1 + r) ls locs (by omega) (by omega) hML3 hX3 hlo (lv_sub hl [0, 1, 2, 3, 4, 5, 6, 7, 8] rfl)
        · intro hc2
          refine z_goto (tgt := 522) S (by decide) d_Ml_380 ?_
          exact ext _ _ _ _ _ _ _ _ ls locs (by omega) (by omega) hML2 hX2 hlo (lv_sub hl [0, 1, 2, 3, 4, 5, 6, 7, 8] rfl)
      refine z_asrt (tgt := 292) S hG hkX tw_asrt (by decide) d_Ml_268 d_Ml_271 ?_
      refine z_aload S (lv_at hl 3 rfl) d_Ml_292 ?_
      refine z_iload S (lv_at hl 6 rfl) d_Ml_294 ?_
      refine n_aald c2 S hG.M hX.2.1 (by omega) rfl (by omega) erF d_Ml_296 ?_
      refine z_cast S hG (hMS yr mr) tcl_C69 d_Ml_297 ?_
      refine z_aload S (lv_at hl 4 rfl) d_Ml_300 ?_
      refine z_iload S (lv_at hl 5 rfl) d_Ml_302 ?_
      refine z_iload_n S rfl (lv_at hl 1 rfl) d_Ml_304 ?_
      refine z_iconst S d_Ml_305 ?_
      refine z_callS (n := 5) S (ct_Gr l K true yr tb tl c1 l1 0 G M wt nm (by omega) (by omega) (by omega) mr (hGF.sub (by omega) (by omega)) (hGs.sub (by omega) (by omega))) tc_Gr tm_C89 ts_Gr tn_C (by decide) (by decide) rfl hG hkX hlo ⟨hX.2.2.1, hMS⟩ hl rfl (by decide) (by decide) d_Ml_306 (fun v H1 locs hp hlo => ?_)
      obtain ⟨r, rfl, rfl, r1, r2, r3⟩ := hp
      refine W.cs (cells' := 1) (slots' := 4000) rfl rfl ?_
      have hrl : r < l1 := by
        by_cases h : r < l1
        · exact h
        · exfalso
          have q1 := r2 (l1 - 1) (by omega)
          rw [hGf _ (by omega), show b + (c1 + (l1 - 1)) = b + L1 - 1 by omega] at q1
          have q2 := hlast c2 (by omega) (by omega)
          rw [kw_some er] at q2
          omega
      refine z_istore (lv' := [(11, .int (zI r)), (0, .ref o), (2, .int (zI l1)), (4, .int (zI l2)), (5, .ref a), (6, .ref tb), (7, .int (zI c1)), (8, .int (zI c2)), (9, .int (zI d)), (10, .int (zI mg)), (12, .int (zI u2))]) S hl rfl (by decide) d_Ml_309 (fun ls hl => ?_)
      refine z_iload S (lv_at hl 0 rfl) d_Ml_311 ?_
      have hl : lv_has ls 13 [(0, .ref o), (2, .int (zI l1)), (4, .int (zI l2)), (5, .ref a), (6, .ref tb), (7, .int (zI c1)), (8, .int (zI c2)), (9, .int (zI d)), (10, .int (zI mg)), (11, .int (zI r)), (12, .int (zI u2))] := lv_sub hl [1, 2, 3, 4, 5, 6, 7, 8, 9, 0, 10] rfl
      refine z_if_eq (tgt := 356) S (by decide) (by omega) d_Ml_313 ?_ ?_
      · intro hc3
        have hr0 : r = 0 := by omega
        subst hr0
        refine t356 _ _ _ _ _ _ _ _ _ ls locs (by omega) (by omega) (by omega) hML ?_ hX hlo hl
        have := r3 0 (by omega) (by omega)
        rw [Nat.add_zero, hGf _ (by omega)] at this
        rw [kw_some er]
        exact this
      · intro hc3
        refine z_aload S (lv_at hl 4 rfl) d_Ml_316 ?_
        refine z_iload S (lv_at hl 5 rfl) d_Ml_318 ?_
        refine z_aload S (lv_at hl 3 rfl) d_Ml_320 ?_
        refine z_iload S (lv_at hl 7 rfl) d_Ml_322 ?_
        refine z_iload S (lv_at hl 9 rfl) d_Ml_324 ?_
        refine n_copy c1 d r S hG.O hG.M hX.2.2.1 hX.2.1 hlo hNa (by omega) (by omega) rfl rfl rfl (by omega) (by omega) (fun j j1 j2 => ?_) (by decide) hl (by decide) d_Ml_326 (fun locs hlo => ?_)
        · rw [hGf j (by omega)]
          obtain ⟨y, e1, m1⟩ := hF (b + j) (by omega) (by omega)
          exact ⟨y, e1, (hMS y m1).anyM hG⟩
        have hX3 := hX.set hoa hat (va_cpy G F c1 d r)
        have hML3 := hML.left (F' := va_cpy G F c1 d r) (r := r) hs hs2 hFb (by omega) (fun x => pt_cpy (fun j hj => by rw [hGf _ (by omega), Nat.add_assoc]) x) (fun _ j hj => by
          have := r2 j hj
          rw [hGf _ (by omega), ← Nat.add_assoc] at this
          rw [kw_some er]
          exact this)
        refine z_iload S (lv_at hl 7 rfl) d_Ml_329 ?_
        refine z_iload S (lv_at hl 9 rfl) d_Ml_331 ?_
        refine z_iadd S d_Ml_333 ?_
        refine z_istore (lv' := [(9, .int (zI (d + r))), (0, .ref o), (2, .int (zI l1)), (4, .int (zI l2)), (5, .ref a), (6, .ref tb), (7, .int (zI c1)), (8, .int (zI c2)), (10, .int (zI mg)), (11, .int (zI r)), (12, .int (zI u2))]) S hl rfl (by decide) d_Ml_334 (fun ls hl => ?_)
        refine z_iload S (lv_at hl 6 rfl) d_Ml_336 ?_
        refine z_iload S (lv_at hl 9 rfl) d_Ml_338 ?_
        refine z_iadd S d_Ml_340 ?_
        refine z_istore (lv' := [(7, .int (zI (c1 + r))), (9, .int (zI (d + r))), (0, .ref o), (2, .int (zI l1)), (4, .int (zI l2)), (5, .ref a), (6, .ref tb), (8, .int (zI c2)), (10, .int (zI mg)), (11, .int (zI r)), (12, .int (zI u2))]) S hl rfl (by decide) d_Ml_341 (fun ls hl => ?_)
        refine z_iload_n S rfl (lv_at hl 3 rfl) d_Ml_343 ?_
        refine z_iload S (lv_at hl 9 rfl) d_Ml_344 ?_
        refine z_isub S d_Ml_346 ?_
        refine z_istore_n (lv' := [(2, .int (zI (l1 - r))), (7, .int (zI (c1 + r))), (9, .int (zI (d + r))), (0, .ref o), (4, .int (zI l2)), (5, .ref a), (6, .ref tb), (8, .int (zI c2)), (10, .int (zI mg)), (11, .int (zI r)), (12, .int (zI u2))]) S rfl hl rfl (by decide) d_Ml_347 (fun ls hl => ?_)
        refine z_iload_n S rfl (lv_at hl 0 rfl) d_Ml_348 ?_
        refine z_iconst S d_Ml_349 ?_
        have hl : lv_has ls 13 [(0, .ref o), (2, .int (zI (l1 - r))), (4, .int (zI l2)), (5, .ref a), (6, .ref tb), (7, .int (zI (c1 + r))), (8, .int (zI c2)), (9, .int (zI (d + r))), (10, .int (zI mg)), (11, .int (zI r)), (12, .int (zI u2))] := lv_sub hl [3, 0, 4, 5, 6, 1, 7, 2, 8, 9, 10] rfl
        have hl : lv_has ls 13 [(0, .ref o), (2, .int (zI ((l1 - r : Nat) : Int))), (4, .int (zI l2)), (5, .ref a), (6, .ref tb), (7, .int (zI (c1 + r))), (8, .int (zI c2)), (9, .int (zI (d + r))), (10, .int (zI mg)), (11, .int (zI r)), (12, .int (zI u2))] := by rw [show ((l1 - r : Nat) : Int) = (l1 - r) by omega]; exact hl
        refine z_icmp_gt (tgt := 356) S (by decide) (by omega) (by omega) d_Ml_350 ?_ ?_
        · intro hc4
          refine t356 _ _ _ _ (c1 + r) (l1 - r) _ _ (d + r) ls locs (by omega) (by omega) (by omega) hML3 ?_ hX3 hlo hl
          have := r3 r (by omega) (by omega)
          rw [hGf _ (by omega)] at this
          rw [kw_some er]
          exact this
        · intro hc4
          refine z_goto (tgt := 522) S (by decide) d_Ml_353 ?_
          exact ext _ _ _ (c1 + r) (l1 - r) _ _ (d + r) ls locs (by omega) (by omega) hML3 hX3 hlo (lv_sub hl [0, 1, 2, 3, 4, 5, 6, 7, 8] rfl)
end MLO
end
section
/-! mergeLo's contract -/
set_option maxRecDepth 100000
theorem d_Ml_0 : decode b_Ml 0 = .ok (.getstatic 37, 3) := by decide +kernel
theorem d_Ml_3 : decode b_Ml 3 = .ok (.ifCond .ne 27, 3) := by decide +kernel
theorem d_Ml_30 : decode b_Ml 30 = .ok (.aload_n 0, 1) := by decide +kernel
theorem d_Ml_31 : decode b_Ml 31 = .ok (.getfield 16, 3) := by decide +kernel
theorem d_Ml_34 : decode b_Ml 34 = .ok (.astore 5, 2) := by decide +kernel
theorem d_Ml_36 : decode b_Ml 36 = .ok (.aload_n 0, 1) := by decide +kernel
theorem d_Ml_37 : decode b_Ml 37 = .ok (.iload_n 2, 1) := by decide +kernel
theorem d_Ml_38 : decode b_Ml 38 = .ok (.invokevirtual 103, 3) := by decide +kernel
theorem d_Ml_41 : decode b_Ml 41 = .ok (.astore 6, 2) := by decide +kernel
theorem d_Ml_43 : decode b_Ml 43 = .ok (.aload_n 0, 1) := by decide +kernel
theorem d_Ml_44 : decode b_Ml 44 = .ok (.getfield 23, 3) := by decide +kernel
theorem d_Ml_47 : decode b_Ml 47 = .ok (.istore 7, 2) := by decide +kernel
theorem d_Ml_49 : decode b_Ml 49 = .ok (.iload_n 3, 1) := by decide +kernel
theorem d_Ml_50 : decode b_Ml 50 = .ok (.istore 8, 2) := by decide +kernel
theorem d_Ml_52 : decode b_Ml 52 = .ok (.iload_n 1, 1) := by decide +kernel
theorem d_Ml_53 : decode b_Ml 53 = .ok (.istore 9, 2) := by decide +kernel
theorem d_Ml_55 : decode b_Ml 55 = .ok (.aload 5, 2) := by decide +kernel
theorem d_Ml_57 : decode b_Ml 57 = .ok (.iload_n 1, 1) := by decide +kernel
theorem d_Ml_58 : decode b_Ml 58 = .ok (.aload 6, 2) := by decide +kernel
theorem d_Ml_60 : decode b_Ml 60 = .ok (.iload 7, 2) := by decide +kernel
theorem d_Ml_62 : decode b_Ml 62 = .ok (.iload_n 2, 1) := by decide +kernel
theorem d_Ml_63 : decode b_Ml 63 = .ok (.invokestatic 75, 3) := by decide +kernel
theorem d_Ml_66 : decode b_Ml 66 = .ok (.aload 5, 2) := by decide +kernel
theorem d_Ml_68 : decode b_Ml 68 = .ok (.iload 9, 2) := by decide +kernel
theorem d_Ml_70 : decode b_Ml 70 = .ok (.iinc 9 1, 3) := by decide +kernel
theorem d_Ml_73 : decode b_Ml 73 = .ok (.aload 5, 2) := by decide +kernel
theorem d_Ml_75 : decode b_Ml 75 = .ok (.iload 8, 2) := by decide +kernel
theorem d_Ml_77 : decode b_Ml 77 = .ok (.iinc 8 1, 3) := by decide +kernel
theorem d_Ml_80 : decode b_Ml 80 = .ok (.aaload, 1) := by decide +kernel
theorem d_Ml_81 : decode b_Ml 81 = .ok (.aastore, 1) := by decide +kernel
theorem d_Ml_82 : decode b_Ml 82 = .ok (.iinc 4 (-1), 3) := by decide +kernel
theorem d_Ml_85 : decode b_Ml 85 = .ok (.iload 4, 2) := by decide +kernel
theorem d_Ml_87 : decode b_Ml 87 = .ok (.ifCond .ne 16, 3) := by decide +kernel
theorem d_Ml_90 : decode b_Ml 90 = .ok (.aload 6, 2) := by decide +kernel
theorem d_Ml_92 : decode b_Ml 92 = .ok (.iload 7, 2) := by decide +kernel
theorem d_Ml_94 : decode b_Ml 94 = .ok (.aload 5, 2) := by decide +kernel
theorem d_Ml_96 : decode b_Ml 96 = .ok (.iload 9, 2) := by decide +kernel
theorem d_Ml_98 : decode b_Ml 98 = .ok (.iload_n 2, 1) := by decide +kernel
theorem d_Ml_99 : decode b_Ml 99 = .ok (.invokestatic 75, 3) := by decide +kernel
theorem d_Ml_102 : decode b_Ml 102 = .ok (.return_, 1) := by decide +kernel
theorem d_Ml_103 : decode b_Ml 103 = .ok (.iload_n 2, 1) := by decide +kernel
theorem d_Ml_104 : decode b_Ml 104 = .ok (.iconst 1, 1) := by decide +kernel
theorem d_Ml_105 : decode b_Ml 105 = .ok (.if_icmp .ne 30, 3) := by decide +kernel
theorem d_Ml_108 : decode b_Ml 108 = .ok (.aload 5, 2) := by decide +kernel
theorem d_Ml_110 : decode b_Ml 110 = .ok (.iload 8, 2) := by decide +kernel
theorem d_Ml_112 : decode b_Ml 112 = .ok (.aload 5, 2) := by decide +kernel
theorem d_Ml_114 : decode b_Ml 114 = .ok (.iload 9, 2) := by decide +kernel
theorem d_Ml_116 : decode b_Ml 116 = .ok (.iload 4, 2) := by decide +kernel
theorem d_Ml_118 : decode b_Ml 118 = .ok (.invokestatic 75, 3) := by decide +kernel
theorem d_Ml_121 : decode b_Ml 121 = .ok (.aload 5, 2) := by decide +kernel
theorem d_Ml_123 : decode b_Ml 123 = .ok (.iload 9, 2) := by decide +kernel
theorem d_Ml_125 : decode b_Ml 125 = .ok (.iload 4, 2) := by decide +kernel
theorem d_Ml_127 : decode b_Ml 127 = .ok (.iadd, 1) := by decide +kernel
theorem d_Ml_128 : decode b_Ml 128 = .ok (.aload 6, 2) := by decide +kernel
theorem d_Ml_130 : decode b_Ml 130 = .ok (.iload 7, 2) := by decide +kernel
theorem d_Ml_132 : decode b_Ml 132 = .ok (.aaload, 1) := by decide +kernel
theorem d_Ml_133 : decode b_Ml 133 = .ok (.aastore, 1) := by decide +kernel
theorem d_Ml_134 : decode b_Ml 134 = .ok (.return_, 1) := by decide +kernel
theorem d_Ml_135 : decode b_Ml 135 = .ok (.aload_n 0, 1) := by decide +kernel
theorem d_Ml_136 : decode b_Ml 136 = .ok (.getfield 9, 3) := by decide +kernel
theorem d_Ml_139 : decode b_Ml 139 = .ok (.istore 10, 2) := by decide +kernel
def Wmg (K : KD) (o a : Nat) (mg : Int) (tb tl : Nat) (ss : Int) (rb rl n : Nat) (f g : Nat → Option Nat) (M : Nat → Prop) (wt nm : Nat → Int32) (H : Heap) : Prop := CO K o a mg tb tl ss rb rl H ∧ H[a]? = some (RA (cM_ K) n f) ∧ H[tb]? = some (RA (cO_ K) tl g) ∧ MS K M wt nm H
set_option maxHeartbeats 4000000 in
theorem ct_Ml (l : Launch) (K : KD) (o a : Nat) (mg : Int) (tb tl : Nat) (ss : Int) (rb rl n b L1 L2 : Nat) (f g : Nat → Option Nat) (M : Nat → Prop) (wt nm : Nat → Int32) (hn : n ≤ 8000) (htl : tl ≤ 4000) (hN : N0 K ≤ o) (hNa : N0 K ≤ a) (hNt : N0 K ≤ tb) (hoa : o ≠ a) (hot : o ≠ tb) (hat : a ≠ tb) (hMo : ¬ M o) (hMa : ¬ M a) (hMt : ¬ M tb) (h1 : 0 < L1) (h2 : 0 < L2) (hbn : b + L1 + L2 ≤ n) (hL1 : L1 ≤ n / 2) (hF : Full M f 0 n) (hs : Srt (kw wt) f b L1) (hs2 : Srt (kw wt) f (b + L1) L2) (hfirst : kw wt (f (b + L1)) < kw wt (f b)) (hlast : kw wt (f (b + L1 + L2 - 1)) < kw wt (f (b + L1 - 1))) :
    CT l K y_Ml c_Ml rm_Ml [.ref o, .int (zI b), .int (zI L1), .int (zI (b + L1 : Nat)), .int (zI L2)] (Wmg K o a mg tb tl ss rb rl n f g M wt nm) (Pmg K o a tb ss rb rl n b L1 L2 f M wt) := by
  refine z_met (by decide) (Nat.le_of_ble_eq_true rfl) ?_
  intro p e s m below meth c ls S hr hlk hnm hG hP hl
  obtain ⟨hO, ha, ht, hM⟩ := hP
  have hl : lv_has ls 13 [(0, .ref o), (1, .int (zI b)), (2, .int (zI L1)), (3, .int (zI (b + L1 : Nat))), (4, .int (zI L2))] := hl
  have hlast' : ∀ j, b + L1 ≤ j → j < b + L1 + L2 → kw wt (f j) < kw wt (f (b + L1 - 1)) := fun j j1 j2 => by
    have := hs2.le (a := j) (b := b + L1 + L2 - 1) j1 (by omega) (by omega)
    omega
  generalize hQ : MQ below (QH (Pmg K o a tb ss rb rl n b L1 L2 f M wt)) [Value.ref o, .int (zI b), .int (zI L1), .int (zI (b + L1 : Nat)), .int (zI L2)].toArray s rm_Ml.cells rm_Ml.slots (fun q => N0 K ≤ q) = Q
  generalize hargs : [Value.ref o, .int (zI b), .int (zI L1), .int (zI (b + L1 : Nat)), .int (zI L2)].toArray = args at S
  refine z_asrt (tgt := 30) S hG Keep.rf tw_asrt (by decide) d_Ml_0 d_Ml_3 ?_
  refine z_aload_n S rfl (lv_at hl 0 rfl) d_Ml_30 ?_
  refine z_get (C := "java/util/ComparableTimSort") (T := F_Cts) (N := 8) (ci := 2) S tin_Cts hG hO rfl 0 (by decide) tf_C16 rfl rfl d_Ml_31 ?_
  refine z_astore (lv' := [(5, .ref a), (0, .ref o), (1, .int (zI b)), (2, .int (zI L1)), (3, .int (zI ((b + L1 : Nat) : Int))), (4, .int (zI L2))]) S hl rfl (by decide) d_Ml_34 (fun ls hl => ?_)
  refine z_aload_n S rfl (lv_at hl 1 rfl) d_Ml_36 ?_
  refine z_iload_n S rfl (lv_at hl 3 rfl) d_Ml_37 ?_
  refine z_callV (C := "java/util/ComparableTimSort") (As := [.int (zI L1)]) (n := 1) S (ct_Ce l K o a mg tb tl ss rb rl L1 n f g hn h1 hL1 htl hN hoa hot) tc_Ce tm_C103 ti_Ce tse_Ce tn_C (by decide) (by decide) rfl hG Keep.rf LO.nil (hO.recv hG) ⟨hO, ha, ht⟩ hl rfl (by decide) (by decide) d_Ml_38 (fun v H1 locs hp hlo => ?_)
  obtain ⟨tb', tl', g', rfl, q1, q2, hO1, ht1, q3, q4, q5⟩ := hp
  refine W.cs (cells' := 1) (slots' := 4000) rfl rfl ?_
  have la := at_lt ha
  have lt := at_lt ht
  have lo := hO.lt
  have hsz := hG.2.2.2
  have hat' : a ≠ tb' := by rcases q3 with h | h <;> omega
  have hot' : o ≠ tb' := by rcases q3 with h | h <;> omega
  have hNt' : N0 K ≤ tb' := by rcases q3 with h | h <;> omega
  have hMt' : ¬ M tb' := by
    rcases q3 with h | h
    · rw [h]; exact hMt
    · intro hm
      have := (hM tb' hm).lt
      omega
  have ha1 : H1[a]? = some (RA (cM_ K) n f) := by rw [q5 a la (Ne.symm hoa)]; exact ha
  have hM1 : MS K M wt nm H1 := hM.kept (fun y hy => q5 y (hM y hy).lt (fun e => hMo (e ▸ hy)))
  have hk1 : Keep (N0 K) s.heap H1 := ⟨q4, fun q hq => q5 q (by omega) (by omega)⟩
  refine z_astore (lv' := [(6, .ref tb'), (5, .ref a), (0, .ref o), (1, .int (zI b)), (2, .int (zI L1)), (3, .int (zI ((b + L1 : Nat) : Int))), (4, .int (zI L2))]) S hl rfl (by decide) d_Ml_41 (fun ls hl => ?_)
  refine z_aload_n S rfl (lv_at hl 2 rfl) d_Ml_43 ?_
  refine z_get (C := "java/util/ComparableTimSort") (T := F_Cts) (N := 8) (ci := 2) S tin_Cts hG hO1 rfl 3 (by decide) tf_C23 rfl rfl d_Ml_44 ?_
  refine z_istore (lv' := [(7, .int (zI 0)), (6, .ref tb'), (5, .ref a), (0, .ref o), (1, .int (zI b)), (2, .int (zI L1)), (3, .int (zI ((b + L1 : Nat) : Int))), (4, .int (zI L2))]) S hl rfl (by decide) d_Ml_47 (fun ls hl => ?_)
  refine z_iload_n S rfl (lv_at hl 6 rfl) d_Ml_49 ?_
  refine z_istore (lv' := [(8, .int (zI ((b + L1 : Nat) : Int))), (7, .int (zI 0)), (6, .ref tb'), (5, .ref a), (0, .ref o), (1, .int (zI b)), (2, .int (zI L1)), (3, .int (zI ((b + L1 : Nat) : Int))), (4, .int (zI L2))]) S hl rfl (by decide) d_Ml_50 (fun ls hl => ?_)
  refine z_iload_n S rfl (lv_at hl 5 rfl) d_Ml_52 ?_
  refine z_istore (lv' := [(9, .int (zI b)), (8, .int (zI ((b + L1 : Nat) : Int))), (7, .int (zI 0)), (6, .ref tb'), (5, .ref a), (0, .ref o), (1, .int (zI b)), (2, .int (zI L1)), (3, .int (zI ((b + L1 : Nat) : Int))), (4, .int (zI L2))]) S hl rfl (by decide) d_Ml_53 (fun ls hl => ?_)
  refine z_aload S (lv_at hl 4 rfl) d_Ml_55 ?_
  refine z_iload_n S rfl (lv_at hl 6 rfl) d_Ml_57 ?_
  refine z_aload S (lv_at hl 3 rfl) d_Ml_58 ?_
  refine z_iload S (lv_at hl 2 rfl) d_Ml_60 ?_
  refine z_iload_n S rfl (lv_at hl 7 rfl) d_Ml_62 ?_
  refine n_copy b 0 L1 S hG.M hG.O ha1 ht1 hlo hNt' (by omega) (by omega) rfl rfl rfl (by omega) (by omega) (fun j j1 j2 => ?_) (by decide) hl (by decide) d_Ml_63 (fun locs hlo => ?_)
  · obtain ⟨y, e1, m1⟩ := hF j (by omega) (by omega)
    exact ⟨y, e1, (hM1 y m1).anyO hG⟩
  generalize hGe : va_cpy f g' b 0 L1 = G
  have hGf : ∀ j, j < L1 → G j = f (b + j) := fun j hj => by rw [← hGe, pk_cpy_in (by omega) (by omega), Nat.sub_zero]
  have hH2 : ∃ H2 : Heap, H2 = H1.setIfInBounds tb' (RA (cO_ K) tl' G) := ⟨_, rfl⟩
  obtain ⟨H2, eH2⟩ := hH2
  rw [← eH2]
  have hk2 : Keep (N0 K) s.heap H2 := by rw [eH2]; exact hk1.set hNt'
  have hM2 : MS K M wt nm H2 := by rw [eH2]; exact hM1.set hMt'
  have hX : HX K o a mg tb' tl' ss rb rl n f G H2 H2 := ⟨by rw [eH2]; exact hO1.kept (set_off hot'), by rw [eH2, set_off hat']; exact ha1, by rw [eH2]; exact set_at ht1, rfl, fun _ _ _ => rfl⟩
  have fin : ∀ (mg : Int) (F : Nat → Option Nat) (X : Heap) (ls : Array Slot) (locs : List Loc), HX K o a mg tb' tl' ss rb rl n F G H2 X → (∀ x, (x < b ∨ b + L1 + L2 ≤ x) → F x = f x) → Srt (kw wt) F b (L1 + L2) → Eqv (kw wt) (sg F b (L1 + L2)) (sg f b (L1 + L2)) → Full M F 0 n → LO (N0 K) locs → W p l e rm_Ml s m args below meth c X locs 1 4000 Q (F0 m 655 ls []) := by
    intro mg' F X ls locs hX r1 r2 r3 r4 hlo
    subst hQ
    subst hargs
    have z2 : H2.size = H1.size := by rw [eH2]; simp
    refine z_vret S hr hlk hlo ⟨mg', tb', tl', F, G, rfl, hX.1, hX.2.1, hX.2.2.1, q2, by omega, by rw [hX.2.2.2.1, z2]; exact q4, ?_, r1, r2, r3, r4⟩ d_Ml_655
    intro q w1 w2 w3 w4
    rw [hX.2.2.2.2 q w2 w3, eH2, set_off (by rcases q3 with h | h <;> omega)]
    exact q5 q w1 w2
  have finE : ∀ (pc : Nat), decode b_Ml pc = .ok (.return_, 1) → ∀ (mg : Int) (F : Nat → Option Nat) (X : Heap) (ls : Array Slot) (locs : List Loc), HX K o a mg tb' tl' ss rb rl n F G H2 X → (∀ x, (x < b ∨ b + L1 + L2 ≤ x) → F x = f x) → Srt (kw wt) F b (L1 + L2) → Eqv (kw wt) (sg F b (L1 + L2)) (sg f b (L1 + L2)) → Full M F 0 n → LO (N0 K) locs → W p l e rm_Ml s m args below meth c X locs 1 4000 Q (F0 m pc ls []) := by
    intro pc hdd mg' F X ls locs hX r1 r2 r3 r4 hlo
    subst hQ
    subst hargs
    have z2 : H2.size = H1.size := by rw [eH2]; simp
    refine z_vret S hr hlk hlo ⟨mg', tb', tl', F, G, rfl, hX.1, hX.2.1, hX.2.2.1, q2, by omega, by rw [hX.2.2.2.1, z2]; exact q4, ?_, r1, r2, r3, r4⟩ hdd
    intro q w1 w2 w3 w4
    rw [hX.2.2.2.2 q w2 w3, eH2, set_off (by rcases q3 with h | h <;> omega)]
    exact q5 q w1 w2
  have hFb : Full M f b L1 := hF.sub (by omega) (by omega)
  have hFb2 : Full M f (b + L1) L2 := hF.sub (by omega) (by omega)
  obtain ⟨yr, er, mr⟩ := hF (b + L1) (by omega) (by omega)
  obtain ⟨yl, el, ml⟩ := hF b (by omega) (by omega)
  have hMS := hX.ms hM2 hMo hMa
  refine z_aload S (lv_at hl 4 rfl) d_Ml_66 ?_
  refine z_iload S (lv_at hl 0 rfl) d_Ml_68 ?_
  refine z_iinc (lv' := [(9, .int (zI (b + 1))), (8, .int (zI ((b + L1 : Nat) : Int))), (7, .int (zI 0)), (6, .ref tb'), (5, .ref a), (0, .ref o), (1, .int (zI b)), (2, .int (zI L1)), (3, .int (zI ((b + L1 : Nat) : Int))), (4, .int (zI L2))]) (q := 0) S hl rfl rfl (by decide) d_Ml_70 (fun ls hl => ?_)
  refine z_aload S (lv_at hl 4 rfl) d_Ml_73 ?_
  refine z_iload S (lv_at hl 1 rfl) d_Ml_75 ?_
  refine z_iinc (lv' := [(8, .int (zI (((b + L1 : Nat) : Int) + 1))), (9, .int (zI (b + 1))), (7, .int (zI 0)), (6, .ref tb'), (5, .ref a), (0, .ref o), (1, .int (zI b)), (2, .int (zI L1)), (3, .int (zI ((b + L1 : Nat) : Int))), (4, .int (zI L2))]) (q := 1) S hl rfl rfl (by decide) d_Ml_77 (fun ls hl => ?_)
  refine n_aald (b + L1) S hG.M hX.2.1 (by omega) rfl (by omega) er d_Ml_80 ?_
  refine n_aast b S hG.M hX.2.1 hlo hNa (by omega) ((hMS yr mr).anyM hG) rfl (by omega) d_Ml_81 (fun locs hlo => ?_)
  have hX1 := hX.set hoa hat' (va_up f b (some yr))
  have hML1 := (ML.init (k := kw wt) (L1 := L1) (L2 := L2) (b := b) hF).right (F' := va_up f b (some yr)) (r := 1) hs hs2 hFb2 (by omega) (fun x => pt_up er.symm x) (fun _ j hj => by
    have : j = 0 := by omega
    subst this
    exact hfirst)
  generalize va_up f b (some yr) = F1 at hX1 hML1 ⊢
  generalize H2.setIfInBounds a (RA (cM_ K) n F1) = X1 at hX1 ⊢
  have hML10 := hML1
  obtain ⟨k1, k2, k3, k4, k5, -, -, -, k9⟩ := hML10
  have hMS1 := hX1.ms hM2 hMo hMa
  have hkX1 := hX1.keep hk2 hN hNa
  refine z_iinc (lv' := [(4, .int (zI (L2 + (-1)))), (8, .int (zI (((b + L1 : Nat) : Int) + 1))), (9, .int (zI (b + 1))), (7, .int (zI 0)), (6, .ref tb'), (5, .ref a), (0, .ref o), (1, .int (zI b)), (2, .int (zI L1)), (3, .int (zI ((b + L1 : Nat) : Int)))]) (q := 9) S hl rfl rfl (by decide) d_Ml_82 (fun ls hl => ?_)
  refine z_iload S (lv_at hl 0 rfl) d_Ml_85 ?_
  have hl : lv_has ls 13 [(0, .ref o), (2, .int (zI L1)), (4, .int (zI (L2 + (-1)))), (5, .ref a), (6, .ref tb'), (7, .int (zI 0)), (8, .int (zI (((b + L1 : Nat) : Int) + 1))), (9, .int (zI (b + 1)))] := lv_sub hl [6, 8, 0, 5, 4, 3, 1, 2] rfl
  have hl : lv_has ls 13 [(0, .ref o), (2, .int (zI L1)), (4, .int (zI ((L2 - 1 : Nat) : Int))), (5, .ref a), (6, .ref tb'), (7, .int (zI 0)), (8, .int (zI (((b + L1 : Nat) : Int) + 1))), (9, .int (zI (b + 1)))] := by rw [show ((L2 - 1 : Nat) : Int) = (L2 + (-1)) by omega]; exact hl
  refine z_if_ne (tgt := 103) S (by decide) (by omega) d_Ml_87 ?_ ?_
  · intro hc
    refine z_iload_n S rfl (lv_at hl 1 rfl) d_Ml_103 ?_
    refine z_iconst S d_Ml_104 ?_
    refine z_icmp_ne (tgt := 135) S (by decide) (by omega) (by omega) d_Ml_105 ?_ ?_
    · intro hc2
      refine z_aload_n S rfl (lv_at hl 0 rfl) d_Ml_135 ?_
      refine z_get (C := "java/util/ComparableTimSort") (T := F_Cts) (N := 8) (ci := 2) S tin_Cts hG hX1.1 rfl 1 (by decide) tf_C9 rfl rfl d_Ml_136 ?_
      refine z_istore (lv' := [(10, .int (zI mg)), (0, .ref o), (2, .int (zI L1)), (4, .int (zI ((L2 - 1 : Nat) : Int))), (5, .ref a), (6, .ref tb'), (7, .int (zI 0)), (8, .int (zI (((b + L1 : Nat) : Int) + 1))), (9, .int (zI (b + 1)))]) S hl rfl (by decide) d_Ml_139 (fun ls hl => ?_)
      refine z_iconst S d_Ml_141 ?_
      refine z_istore (lv' := [(11, .int (zI 0)), (10, .int (zI mg)), (0, .ref o), (2, .int (zI L1)), (4, .int (zI ((L2 - 1 : Nat) : Int))), (5, .ref a), (6, .ref tb'), (7, .int (zI 0)), (8, .int (zI (((b + L1 : Nat) : Int) + 1))), (9, .int (zI (b + 1)))]) S hl rfl (by decide) d_Ml_142 (fun ls hl => ?_)
      refine z_iconst S d_Ml_144 ?_
      refine z_istore (lv' := [(12, .int (zI 0)), (11, .int (zI 0)), (10, .int (zI mg)), (0, .ref o), (2, .int (zI L1)), (4, .int (zI ((L2 - 1 : Nat) : Int))), (5, .ref a), (6, .ref tb'), (7, .int (zI 0)), (8, .int (zI (((b + L1 : Nat) : Int) + 1))), (9, .int (zI (b + 1)))]) S hl rfl (by decide) d_Ml_145 (fun ls hl => ?_)
      refine (ml_loop (nm := nm) S hG hk2 hM2 hN hNa hoa hat' hMo hMa hn q2 q1 hbn hGf hF hs hs2 hlast' (ml_exit (nm := nm) S hG hk2 hM2 hN hNa hoa hat' hMo hMa hn q2 q1 hbn hGf hF hs hs2 hlast' fin) (L1 + L2 + 1) mg 0 0 F1 X1 0 L1 (b + L1 + 1) (L2 - 1) (b + 1) ls locs (by omega) (by omega) (by omega) hML1 hX1 hlo ?_).1
      exact lv_sub hl [3, 4, 5, 6, 7, 8, 9, 10, 2, 1, 0] rfl
    · intro hc2
      have e1 : L1 = 1 := by omega
      refine z_aload S (lv_at hl 3 rfl) d_Ml_108 ?_
      refine z_iload S (lv_at hl 6 rfl) d_Ml_110 ?_
      refine z_aload S (lv_at hl 3 rfl) d_Ml_112 ?_
      refine z_iload S (lv_at hl 7 rfl) d_Ml_114 ?_
      refine z_iload S (lv_at hl 2 rfl) d_Ml_116 ?_
      refine n_copy (b + L1 + 1) (b + 1) (L2 - 1) S hG.M hG.M hX1.2.1 hX1.2.1 hlo hNa (by omega) (by omega) rfl rfl rfl (by omega) (by omega) (fun j j1 j2 => ?_) (by decide) hl (by decide) d_Ml_118 (fun locs hlo => ?_)
      · obtain ⟨y, e1, m1⟩ := k9 j (by omega) (by omega)
        exact ⟨y, e1, (hMS1 y m1).anyM hG⟩
      have hML2 := hML1.right (F' := va_cpy F1 F1 (b + L1 + 1) (b + 1) (L2 - 1)) (r := L2 - 1) hs hs2 hFb2 (Nat.le_refl _) (fun x => pt_cpy (fun j hj => k5 _ (by omega)) x) (fun _ j hj => by
        rw [show b + 0 = b + L1 - 1 by omega]
        exact hlast' _ (by omega) (by omega))
      have hX4 := hX1.set hoa hat' (va_cpy F1 F1 (b + L1 + 1) (b + 1) (L2 - 1))
      have hMS4 := hX4.ms hM2 hMo hMa
      refine z_aload S (lv_at hl 3 rfl) d_Ml_121 ?_
      refine z_iload S (lv_at hl 7 rfl) d_Ml_123 ?_
      refine z_iload S (lv_at hl 2 rfl) d_Ml_125 ?_
      refine z_iadd S d_Ml_127 ?_
      refine z_aload S (lv_at hl 4 rfl) d_Ml_128 ?_
      refine z_iload S (lv_at hl 5 rfl) d_Ml_130 ?_
      refine n_aald 0 S hG.O hX4.2.2.1 (by omega) rfl (by omega) (by rw [hGf _ (by omega)]; exact el) d_Ml_132 ?_
      refine n_aast (b + 1 + (L2 - 1)) S hG.M hX4.2.1 hlo hNa (by omega) ((hMS4 yl ml).anyM hG) (by omega) (by omega) d_Ml_133 (fun locs hlo => ?_)
      obtain ⟨r1, r2, r3, r4⟩ := ML.done (by
        have := hML2.left (F' := va_up (va_cpy F1 F1 (b + L1 + 1) (b + 1) (L2 - 1)) (b + 1 + (L2 - 1)) (some yl)) (r := L1) hs hs2 hFb (Nat.le_refl _) (fun x => by rw [e1]; exact pt_up (by rw [Nat.add_zero]; exact el.symm) x) (fun h => by omega)
        rw [Nat.sub_self, Nat.sub_self] at this
        exact this)
      exact finE 134 d_Ml_134 mg _ _ ls locs (hX4.set hoa hat' _) r1 r2 r3 r4 hlo
  · intro hc
    have e2 : L2 = 1 := by omega
    refine z_aload S (lv_at hl 4 rfl) d_Ml_90 ?_
    refine z_iload S (lv_at hl 5 rfl) d_Ml_92 ?_
    refine z_aload S (lv_at hl 3 rfl) d_Ml_94 ?_
    refine z_iload S (lv_at hl 7 rfl) d_Ml_96 ?_
    refine z_iload_n S rfl (lv_at hl 1 rfl) d_Ml_98 ?_
    refine n_copy 0 (b + 1) L1 S hG.O hG.M hX1.2.2.1 hX1.2.1 hlo hNa (by omega) (by omega) rfl rfl rfl (by omega) (by omega) (fun j j1 j2 => ?_) (by decide) hl (by decide) d_Ml_99 (fun locs hlo => ?_)
    · rw [hGf j (by omega)]
      obtain ⟨y, e1, m1⟩ := hF (b + j) (by omega) (by omega)
      exact ⟨y, e1, (hMS1 y m1).anyM hG⟩
    obtain ⟨r1, r2, r3, r4⟩ := ML.done (by
      have := hML1.left (F' := va_cpy G F1 0 (b + 1) L1) (r := L1) hs hs2 hFb (Nat.le_refl _) (fun x => pt_cpy (fun j hj => by rw [hGf _ (by omega), Nat.add_assoc]) x) (fun h => by omega)
      rw [Nat.sub_self, e2] at this
      exact this)
    rw [e2] at finE
    exact finE 102 d_Ml_102 mg _ _ ls locs (hX1.set hoa hat' _) r1 r2 r3 r4 hlo
end
section
/-! mergeHi -/
set_option maxRecDepth 100000
theorem lv_ren {ls : Array Slot} {nL : Nat} {lv : List (Nat × Value)} (h : lv_has ls nL lv) (k : Nat) {i : Nat} {a b : Int} (hk : lv[k]? = some (i, .int (zI a))) (e : a = b) : lv_has ls nL (lv.set k (i, .int (zI b))) := by
  subst e
  refine ⟨h.1, h.2.1, fun q hq => ?_⟩
  rcases List.mem_or_eq_of_mem_set hq with h1 | h1
  · exact h.2.2 q h1
  · rw [h1]
    exact h.2.2 _ (List.mem_of_getElem? hk)
theorem pt_upG {F φ : Nat → Option Nat} {d lo hi : Nat} {v : Option Nat} (h1 : lo = d) (h2 : hi = d + 1) (hv : v = φ d) (x : Nat) : va_up F d v x = if lo ≤ x ∧ x < hi then φ x else F x := by
  by_cases h : x = d
  · subst h
    rw [va_up_self, if_pos (by omega), hv]
  · rw [va_up_ne _ _ h, if_neg (by omega)]
theorem pt_cpyG {src F φ : Nat → Option Nat} {sp d r lo hi : Nat} (h1 : lo = d) (h2 : hi = d + r) (h : ∀ j, j < r → src (sp + j) = φ (d + j)) (x : Nat) : va_cpy src F sp d r x = if lo ≤ x ∧ x < hi then φ x else F x := by
  by_cases hx : d ≤ x ∧ x < d + r
  · rw [pk_cpy_in hx.1 hx.2, if_pos (by omega), h _ (by omega), show d + (x - d) = x by omega]
  · rw [pk_cpy_out (by omega), if_neg (by omega)]
theorem d_Mh_179 : decode b_Mh 179 = .ok (.iconst 0, 1) := by decide +kernel
theorem d_Mh_180 : decode b_Mh 180 = .ok (.istore 12, 2) := by decide +kernel
theorem d_Mh_182 : decode b_Mh 182 = .ok (.iconst 0, 1) := by decide +kernel
theorem d_Mh_183 : decode b_Mh 183 = .ok (.istore 13, 2) := by decide +kernel
theorem d_Mh_185 : decode b_Mh 185 = .ok (.getstatic 37, 3) := by decide +kernel
theorem d_Mh_188 : decode b_Mh 188 = .ok (.ifCond .ne 21, 3) := by decide +kernel
theorem d_Mh_209 : decode b_Mh 209 = .ok (.aload 6, 2) := by decide +kernel
theorem d_Mh_211 : decode b_Mh 211 = .ok (.iload 9, 2) := by decide +kernel
theorem d_Mh_213 : decode b_Mh 213 = .ok (.aaload, 1) := by decide +kernel
theorem d_Mh_214 : decode b_Mh 214 = .ok (.checkcast 69, 3) := by decide +kernel
theorem d_Mh_217 : decode b_Mh 217 = .ok (.aload 5, 2) := by decide +kernel
theorem d_Mh_219 : decode b_Mh 219 = .ok (.iload 8, 2) := by decide +kernel
theorem d_Mh_221 : decode b_Mh 221 = .ok (.aaload, 1) := by decide +kernel
theorem d_Mh_222 : decode b_Mh 222 = .ok (.invokeinterface 71 2, 5) := by decide +kernel
theorem d_Mh_227 : decode b_Mh 227 = .ok (.ifCond .ge 35, 3) := by decide +kernel
theorem d_Mh_230 : decode b_Mh 230 = .ok (.aload 5, 2) := by decide +kernel
theorem d_Mh_232 : decode b_Mh 232 = .ok (.iload 10, 2) := by decide +kernel
theorem d_Mh_234 : decode b_Mh 234 = .ok (.iinc 10 (-1), 3) := by decide +kernel
theorem d_Mh_237 : decode b_Mh 237 = .ok (.aload 5, 2) := by decide +kernel
theorem d_Mh_239 : decode b_Mh 239 = .ok (.iload 8, 2) := by decide +kernel
theorem d_Mh_241 : decode b_Mh 241 = .ok (.iinc 8 (-1), 3) := by decide +kernel
theorem d_Mh_244 : decode b_Mh 244 = .ok (.aaload, 1) := by decide +kernel
theorem d_Mh_245 : decode b_Mh 245 = .ok (.aastore, 1) := by decide +kernel
theorem d_Mh_246 : decode b_Mh 246 = .ok (.iinc 12 1, 3) := by decide +kernel
theorem d_Mh_249 : decode b_Mh 249 = .ok (.iconst 0, 1) := by decide +kernel
theorem d_Mh_250 : decode b_Mh 250 = .ok (.istore 13, 2) := by decide +kernel
theorem d_Mh_252 : decode b_Mh 252 = .ok (.iinc 2 (-1), 3) := by decide +kernel
theorem d_Mh_255 : decode b_Mh 255 = .ok (.iload_n 2, 1) := by decide +kernel
theorem d_Mh_256 : decode b_Mh 256 = .ok (.ifCond .ne 40, 3) := by decide +kernel
theorem d_Mh_259 : decode b_Mh 259 = .ok (.goto 318, 3) := by decide +kernel
theorem d_Mh_262 : decode b_Mh 262 = .ok (.aload 5, 2) := by decide +kernel
theorem d_Mh_264 : decode b_Mh 264 = .ok (.iload 10, 2) := by decide +kernel
theorem d_Mh_266 : decode b_Mh 266 = .ok (.iinc 10 (-1), 3) := by decide +kernel
theorem d_Mh_269 : decode b_Mh 269 = .ok (.aload 6, 2) := by decide +kernel
theorem d_Mh_271 : decode b_Mh 271 = .ok (.iload 9, 2) := by decide +kernel
theorem d_Mh_273 : decode b_Mh 273 = .ok (.iinc 9 (-1), 3) := by decide +kernel
theorem d_Mh_276 : decode b_Mh 276 = .ok (.aaload, 1) := by decide +kernel
theorem d_Mh_277 : decode b_Mh 277 = .ok (.aastore, 1) := by decide +kernel
theorem d_Mh_278 : decode b_Mh 278 = .ok (.iinc 13 1, 3) := by decide +kernel
theorem d_Mh_281 : decode b_Mh 281 = .ok (.iconst 0, 1) := by decide +kernel
theorem d_Mh_282 : decode b_Mh 282 = .ok (.istore 12, 2) := by decide +kernel
theorem d_Mh_284 : decode b_Mh 284 = .ok (.iinc 4 (-1), 3) := by decide +kernel
theorem d_Mh_287 : decode b_Mh 287 = .ok (.iload 4, 2) := by decide +kernel
theorem d_Mh_289 : decode b_Mh 289 = .ok (.iconst 1, 1) := by decide +kernel
theorem d_Mh_290 : decode b_Mh 290 = .ok (.if_icmp .ne 6, 3) := by decide +kernel
theorem d_Mh_293 : decode b_Mh 293 = .ok (.goto 284, 3) := by decide +kernel
theorem d_Mh_296 : decode b_Mh 296 = .ok (.iload 12, 2) := by decide +kernel
theorem d_Mh_298 : decode b_Mh 298 = .ok (.iload 13, 2) := by decide +kernel
theorem d_Mh_300 : decode b_Mh 300 = .ok (.ior, 1) := by decide +kernel
theorem d_Mh_301 : decode b_Mh 301 = .ok (.iload 11, 2) := by decide +kernel
theorem d_Mh_303 : decode b_Mh 303 = .ok (.if_icmp .lt (-118), 3) := by decide +kernel
theorem d_Mh_306 : decode b_Mh 306 = .ok (.getstatic 37, 3) := by decide +kernel
theorem d_Mh_309 : decode b_Mh 309 = .ok (.ifCond .ne 21, 3) := by decide +kernel
theorem d_Mh_330 : decode b_Mh 330 = .ok (.iload_n 2, 1) := by decide +kernel
theorem d_Mh_331 : decode b_Mh 331 = .ok (.aload 6, 2) := by decide +kernel
theorem d_Mh_333 : decode b_Mh 333 = .ok (.iload 9, 2) := by decide +kernel
theorem d_Mh_335 : decode b_Mh 335 = .ok (.aaload, 1) := by decide +kernel
theorem d_Mh_336 : decode b_Mh 336 = .ok (.checkcast 69, 3) := by decide +kernel
theorem d_Mh_339 : decode b_Mh 339 = .ok (.aload 5, 2) := by decide +kernel
theorem d_Mh_341 : decode b_Mh 341 = .ok (.iload_n 1, 1) := by decide +kernel
theorem d_Mh_342 : decode b_Mh 342 = .ok (.iload_n 2, 1) := by decide +kernel
theorem d_Mh_343 : decode b_Mh 343 = .ok (.iload_n 2, 1) := by decide +kernel
theorem d_Mh_344 : decode b_Mh 344 = .ok (.iconst 1, 1) := by decide +kernel
theorem d_Mh_345 : decode b_Mh 345 = .ok (.isub, 1) := by decide +kernel
theorem d_Mh_346 : decode b_Mh 346 = .ok (.invokestatic 89, 3) := by decide +kernel
theorem d_Mh_349 : decode b_Mh 349 = .ok (.isub, 1) := by decide +kernel
theorem d_Mh_350 : decode b_Mh 350 = .ok (.istore 12, 2) := by decide +kernel
theorem d_Mh_352 : decode b_Mh 352 = .ok (.iload 12, 2) := by decide +kernel
theorem d_Mh_354 : decode b_Mh 354 = .ok (.ifCond .eq 46, 3) := by decide +kernel
theorem d_Mh_357 : decode b_Mh 357 = .ok (.iload 10, 2) := by decide +kernel
theorem d_Mh_359 : decode b_Mh 359 = .ok (.iload 12, 2) := by decide +kernel
theorem d_Mh_361 : decode b_Mh 361 = .ok (.isub, 1) := by decide +kernel
theorem d_Mh_362 : decode b_Mh 362 = .ok (.istore 10, 2) := by decide +kernel
theorem d_Mh_364 : decode b_Mh 364 = .ok (.iload 8, 2) := by decide +kernel
theorem d_Mh_366 : decode b_Mh 366 = .ok (.iload 12, 2) := by decide +kernel
theorem d_Mh_368 : decode b_Mh 368 = .ok (.isub, 1) := by decide +kernel
theorem d_Mh_369 : decode b_Mh 369 = .ok (.istore 8, 2) := by decide +kernel
theorem d_Mh_371 : decode b_Mh 371 = .ok (.iload_n 2, 1) := by decide +kernel
theorem d_Mh_372 : decode b_Mh 372 = .ok (.iload 12, 2) := by decide +kernel
theorem d_Mh_374 : decode b_Mh 374 = .ok (.isub, 1) := by decide +kernel
theorem d_Mh_375 : decode b_Mh 375 = .ok (.istore_n 2, 1) := by decide +kernel
theorem d_Mh_376 : decode b_Mh 376 = .ok (.aload 5, 2) := by decide +kernel
theorem d_Mh_378 : decode b_Mh 378 = .ok (.iload 8, 2) := by decide +kernel
theorem d_Mh_380 : decode b_Mh 380 = .ok (.iconst 1, 1) := by decide +kernel
theorem d_Mh_381 : decode b_Mh 381 = .ok (.iadd, 1) := by decide +kernel
theorem d_Mh_382 : decode b_Mh 382 = .ok (.aload 5, 2) := by decide +kernel
theorem d_Mh_384 : decode b_Mh 384 = .ok (.iload 10, 2) := by decide +kernel
theorem d_Mh_386 : decode b_Mh 386 = .ok (.iconst 1, 1) := by decide +kernel
theorem d_Mh_387 : decode b_Mh 387 = .ok (.iadd, 1) := by decide +kernel
theorem d_Mh_388 : decode b_Mh 388 = .ok (.iload 12, 2) := by decide +kernel
theorem d_Mh_390 : decode b_Mh 390 = .ok (.invokestatic 75, 3) := by decide +kernel
theorem d_Mh_393 : decode b_Mh 393 = .ok (.iload_n 2, 1) := by decide +kernel
theorem d_Mh_394 : decode b_Mh 394 = .ok (.ifCond .ne 6, 3) := by decide +kernel
theorem d_Mh_397 : decode b_Mh 397 = .ok (.goto 180, 3) := by decide +kernel
theorem d_Mh_400 : decode b_Mh 400 = .ok (.aload 5, 2) := by decide +kernel
theorem d_Mh_402 : decode b_Mh 402 = .ok (.iload 10, 2) := by decide +kernel
theorem d_Mh_404 : decode b_Mh 404 = .ok (.iinc 10 (-1), 3) := by decide +kernel
theorem d_Mh_407 : decode b_Mh 407 = .ok (.aload 6, 2) := by decide +kernel
theorem d_Mh_409 : decode b_Mh 409 = .ok (.iload 9, 2) := by decide +kernel
theorem d_Mh_411 : decode b_Mh 411 = .ok (.iinc 9 (-1), 3) := by decide +kernel
theorem d_Mh_414 : decode b_Mh 414 = .ok (.aaload, 1) := by decide +kernel
theorem d_Mh_415 : decode b_Mh 415 = .ok (.aastore, 1) := by decide +kernel
theorem d_Mh_416 : decode b_Mh 416 = .ok (.iinc 4 (-1), 3) := by decide +kernel
theorem d_Mh_419 : decode b_Mh 419 = .ok (.iload 4, 2) := by decide +kernel
theorem d_Mh_421 : decode b_Mh 421 = .ok (.iconst 1, 1) := by decide +kernel
theorem d_Mh_422 : decode b_Mh 422 = .ok (.if_icmp .ne 6, 3) := by decide +kernel
theorem d_Mh_425 : decode b_Mh 425 = .ok (.goto 152, 3) := by decide +kernel
theorem d_Mh_428 : decode b_Mh 428 = .ok (.iload 4, 2) := by decide +kernel
theorem d_Mh_430 : decode b_Mh 430 = .ok (.aload 5, 2) := by decide +kernel
theorem d_Mh_432 : decode b_Mh 432 = .ok (.iload 8, 2) := by decide +kernel
theorem d_Mh_434 : decode b_Mh 434 = .ok (.aaload, 1) := by decide +kernel
theorem d_Mh_435 : decode b_Mh 435 = .ok (.checkcast 69, 3) := by decide +kernel
theorem d_Mh_438 : decode b_Mh 438 = .ok (.aload 6, 2) := by decide +kernel
theorem d_Mh_440 : decode b_Mh 440 = .ok (.iload 7, 2) := by decide +kernel
theorem d_Mh_442 : decode b_Mh 442 = .ok (.iload 4, 2) := by decide +kernel
theorem d_Mh_444 : decode b_Mh 444 = .ok (.iload 4, 2) := by decide +kernel
theorem d_Mh_446 : decode b_Mh 446 = .ok (.iconst 1, 1) := by decide +kernel
theorem d_Mh_447 : decode b_Mh 447 = .ok (.isub, 1) := by decide +kernel
theorem d_Mh_448 : decode b_Mh 448 = .ok (.invokestatic 93, 3) := by decide +kernel
theorem d_Mh_451 : decode b_Mh 451 = .ok (.isub, 1) := by decide +kernel
theorem d_Mh_452 : decode b_Mh 452 = .ok (.istore 13, 2) := by decide +kernel
theorem d_Mh_454 : decode b_Mh 454 = .ok (.iload 13, 2) := by decide +kernel
theorem d_Mh_456 : decode b_Mh 456 = .ok (.ifCond .eq 50, 3) := by decide +kernel
theorem d_Mh_459 : decode b_Mh 459 = .ok (.iload 10, 2) := by decide +kernel
theorem d_Mh_461 : decode b_Mh 461 = .ok (.iload 13, 2) := by decide +kernel
theorem d_Mh_463 : decode b_Mh 463 = .ok (.isub, 1) := by decide +kernel
theorem d_Mh_464 : decode b_Mh 464 = .ok (.istore 10, 2) := by decide +kernel
theorem d_Mh_466 : decode b_Mh 466 = .ok (.iload 9, 2) := by decide +kernel
theorem d_Mh_468 : decode b_Mh 468 = .ok (.iload 13, 2) := by decide +kernel
theorem d_Mh_470 : decode b_Mh 470 = .ok (.isub, 1) := by decide +kernel
theorem d_Mh_471 : decode b_Mh 471 = .ok (.istore 9, 2) := by decide +kernel
theorem d_Mh_473 : decode b_Mh 473 = .ok (.iload 4, 2) := by decide +kernel
theorem d_Mh_475 : decode b_Mh 475 = .ok (.iload 13, 2) := by decide +kernel
theorem d_Mh_477 : decode b_Mh 477 = .ok (.isub, 1) := by decide +kernel
theorem d_Mh_478 : decode b_Mh 478 = .ok (.istore 4, 2) := by decide +kernel
theorem d_Mh_480 : decode b_Mh 480 = .ok (.aload 6, 2) := by decide +kernel
theorem d_Mh_482 : decode b_Mh 482 = .ok (.iload 9, 2) := by decide +kernel
theorem d_Mh_484 : decode b_Mh 484 = .ok (.iconst 1, 1) := by decide +kernel
theorem d_Mh_485 : decode b_Mh 485 = .ok (.iadd, 1) := by decide +kernel
theorem d_Mh_486 : decode b_Mh 486 = .ok (.aload 5, 2) := by decide +kernel
theorem d_Mh_488 : decode b_Mh 488 = .ok (.iload 10, 2) := by decide +kernel
theorem d_Mh_490 : decode b_Mh 490 = .ok (.iconst 1, 1) := by decide +kernel
theorem d_Mh_491 : decode b_Mh 491 = .ok (.iadd, 1) := by decide +kernel
theorem d_Mh_492 : decode b_Mh 492 = .ok (.iload 13, 2) := by decide +kernel
theorem d_Mh_494 : decode b_Mh 494 = .ok (.invokestatic 75, 3) := by decide +kernel
theorem d_Mh_497 : decode b_Mh 497 = .ok (.iload 4, 2) := by decide +kernel
theorem d_Mh_499 : decode b_Mh 499 = .ok (.iconst 1, 1) := by decide +kernel
theorem d_Mh_500 : decode b_Mh 500 = .ok (.if_icmp .gt 6, 3) := by decide +kernel
theorem d_Mh_503 : decode b_Mh 503 = .ok (.goto 74, 3) := by decide +kernel
theorem d_Mh_506 : decode b_Mh 506 = .ok (.aload 5, 2) := by decide +kernel
theorem d_Mh_508 : decode b_Mh 508 = .ok (.iload 10, 2) := by decide +kernel
theorem d_Mh_510 : decode b_Mh 510 = .ok (.iinc 10 (-1), 3) := by decide +kernel
theorem d_Mh_513 : decode b_Mh 513 = .ok (.aload 5, 2) := by decide +kernel
theorem d_Mh_515 : decode b_Mh 515 = .ok (.iload 8, 2) := by decide +kernel
theorem d_Mh_517 : decode b_Mh 517 = .ok (.iinc 8 (-1), 3) := by decide +kernel
theorem d_Mh_520 : decode b_Mh 520 = .ok (.aaload, 1) := by decide +kernel
theorem d_Mh_521 : decode b_Mh 521 = .ok (.aastore, 1) := by decide +kernel
theorem d_Mh_522 : decode b_Mh 522 = .ok (.iinc 2 (-1), 3) := by decide +kernel
theorem d_Mh_525 : decode b_Mh 525 = .ok (.iload_n 2, 1) := by decide +kernel
theorem d_Mh_526 : decode b_Mh 526 = .ok (.ifCond .ne 6, 3) := by decide +kernel
theorem d_Mh_529 : decode b_Mh 529 = .ok (.goto 48, 3) := by decide +kernel
theorem d_Mh_532 : decode b_Mh 532 = .ok (.iinc 11 (-1), 3) := by decide +kernel
theorem d_Mh_535 : decode b_Mh 535 = .ok (.iload 12, 2) := by decide +kernel
theorem d_Mh_537 : decode b_Mh 537 = .ok (.bipush 7, 2) := by decide +kernel
theorem d_Mh_539 : decode b_Mh 539 = .ok (.if_icmp .lt 7, 3) := by decide +kernel
theorem d_Mh_542 : decode b_Mh 542 = .ok (.iconst 1, 1) := by decide +kernel
theorem d_Mh_543 : decode b_Mh 543 = .ok (.goto 4, 3) := by decide +kernel
theorem d_Mh_546 : decode b_Mh 546 = .ok (.iconst 0, 1) := by decide +kernel
theorem d_Mh_547 : decode b_Mh 547 = .ok (.iload 13, 2) := by decide +kernel
theorem d_Mh_549 : decode b_Mh 549 = .ok (.bipush 7, 2) := by decide +kernel
theorem d_Mh_551 : decode b_Mh 551 = .ok (.if_icmp .lt 7, 3) := by decide +kernel
theorem d_Mh_554 : decode b_Mh 554 = .ok (.iconst 1, 1) := by decide +kernel
theorem d_Mh_555 : decode b_Mh 555 = .ok (.goto 4, 3) := by decide +kernel
theorem d_Mh_558 : decode b_Mh 558 = .ok (.iconst 0, 1) := by decide +kernel
theorem d_Mh_559 : decode b_Mh 559 = .ok (.ior, 1) := by decide +kernel
theorem d_Mh_560 : decode b_Mh 560 = .ok (.ifCond .ne (-254), 3) := by decide +kernel
theorem d_Mh_563 : decode b_Mh 563 = .ok (.iload 11, 2) := by decide +kernel
theorem d_Mh_565 : decode b_Mh 565 = .ok (.ifCond .ge 6, 3) := by decide +kernel
theorem d_Mh_568 : decode b_Mh 568 = .ok (.iconst 0, 1) := by decide +kernel
theorem d_Mh_569 : decode b_Mh 569 = .ok (.istore 11, 2) := by decide +kernel
theorem d_Mh_571 : decode b_Mh 571 = .ok (.iinc 11 2, 3) := by decide +kernel
theorem d_Mh_574 : decode b_Mh 574 = .ok (.goto (-395), 3) := by decide +kernel
theorem d_Mh_577 : decode b_Mh 577 = .ok (.aload_n 0, 1) := by decide +kernel
theorem d_Mh_578 : decode b_Mh 578 = .ok (.iload 11, 2) := by decide +kernel
theorem d_Mh_580 : decode b_Mh 580 = .ok (.iconst 1, 1) := by decide +kernel
theorem d_Mh_581 : decode b_Mh 581 = .ok (.if_icmp .ge 7, 3) := by decide +kernel
theorem d_Mh_584 : decode b_Mh 584 = .ok (.iconst 1, 1) := by decide +kernel
theorem d_Mh_585 : decode b_Mh 585 = .ok (.goto 5, 3) := by decide +kernel
theorem d_Mh_588 : decode b_Mh 588 = .ok (.iload 11, 2) := by decide +kernel
theorem d_Mh_590 : decode b_Mh 590 = .ok (.putfield 9, 3) := by decide +kernel
theorem d_Mh_593 : decode b_Mh 593 = .ok (.iload 4, 2) := by decide +kernel
theorem d_Mh_595 : decode b_Mh 595 = .ok (.iconst 1, 1) := by decide +kernel
theorem d_Mh_596 : decode b_Mh 596 = .ok (.if_icmp .ne 62, 3) := by decide +kernel
theorem d_Mh_599 : decode b_Mh 599 = .ok (.getstatic 37, 3) := by decide +kernel
theorem d_Mh_602 : decode b_Mh 602 = .ok (.ifCond .ne 15, 3) := by decide +kernel
theorem d_Mh_617 : decode b_Mh 617 = .ok (.iload 10, 2) := by decide +kernel
theorem d_Mh_619 : decode b_Mh 619 = .ok (.iload_n 2, 1) := by decide +kernel
theorem d_Mh_620 : decode b_Mh 620 = .ok (.isub, 1) := by decide +kernel
theorem d_Mh_621 : decode b_Mh 621 = .ok (.istore 10, 2) := by decide +kernel
theorem d_Mh_623 : decode b_Mh 623 = .ok (.iload 8, 2) := by decide +kernel
theorem d_Mh_625 : decode b_Mh 625 = .ok (.iload_n 2, 1) := by decide +kernel
theorem d_Mh_626 : decode b_Mh 626 = .ok (.isub, 1) := by decide +kernel
theorem d_Mh_627 : decode b_Mh 627 = .ok (.istore 8, 2) := by decide +kernel
theorem d_Mh_629 : decode b_Mh 629 = .ok (.aload 5, 2) := by decide +kernel
theorem d_Mh_631 : decode b_Mh 631 = .ok (.iload 8, 2) := by decide +kernel
theorem d_Mh_633 : decode b_Mh 633 = .ok (.iconst 1, 1) := by decide +kernel
theorem d_Mh_634 : decode b_Mh 634 = .ok (.iadd, 1) := by decide +kernel
theorem d_Mh_635 : decode b_Mh 635 = .ok (.aload 5, 2) := by decide +kernel
theorem d_Mh_637 : decode b_Mh 637 = .ok (.iload 10, 2) := by decide +kernel
theorem d_Mh_639 : decode b_Mh 639 = .ok (.iconst 1, 1) := by decide +kernel
theorem d_Mh_640 : decode b_Mh 640 = .ok (.iadd, 1) := by decide +kernel
theorem d_Mh_641 : decode b_Mh 641 = .ok (.iload_n 2, 1) := by decide +kernel
theorem d_Mh_642 : decode b_Mh 642 = .ok (.invokestatic 75, 3) := by decide +kernel
theorem d_Mh_645 : decode b_Mh 645 = .ok (.aload 5, 2) := by decide +kernel
theorem d_Mh_647 : decode b_Mh 647 = .ok (.iload 10, 2) := by decide +kernel
theorem d_Mh_649 : decode b_Mh 649 = .ok (.aload 6, 2) := by decide +kernel
theorem d_Mh_651 : decode b_Mh 651 = .ok (.iload 9, 2) := by decide +kernel
theorem d_Mh_653 : decode b_Mh 653 = .ok (.aaload, 1) := by decide +kernel
theorem d_Mh_654 : decode b_Mh 654 = .ok (.aastore, 1) := by decide +kernel
theorem d_Mh_655 : decode b_Mh 655 = .ok (.goto 73, 3) := by decide +kernel
theorem d_Mh_658 : decode b_Mh 658 = .ok (.iload 4, 2) := by decide +kernel
theorem d_Mh_660 : decode b_Mh 660 = .ok (.ifCond .ne 13, 3) := by decide +kernel
theorem d_Mh_673 : decode b_Mh 673 = .ok (.getstatic 37, 3) := by decide +kernel
theorem d_Mh_676 : decode b_Mh 676 = .ok (.ifCond .ne 15, 3) := by decide +kernel
theorem d_Mh_691 : decode b_Mh 691 = .ok (.getstatic 37, 3) := by decide +kernel
theorem d_Mh_694 : decode b_Mh 694 = .ok (.ifCond .ne 16, 3) := by decide +kernel
theorem d_Mh_710 : decode b_Mh 710 = .ok (.aload 6, 2) := by decide +kernel
theorem d_Mh_712 : decode b_Mh 712 = .ok (.iload 7, 2) := by decide +kernel
theorem d_Mh_714 : decode b_Mh 714 = .ok (.aload 5, 2) := by decide +kernel
theorem d_Mh_716 : decode b_Mh 716 = .ok (.iload 10, 2) := by decide +kernel
theorem d_Mh_718 : decode b_Mh 718 = .ok (.iload 4, 2) := by decide +kernel
theorem d_Mh_720 : decode b_Mh 720 = .ok (.iconst 1, 1) := by decide +kernel
theorem d_Mh_721 : decode b_Mh 721 = .ok (.isub, 1) := by decide +kernel
theorem d_Mh_722 : decode b_Mh 722 = .ok (.isub, 1) := by decide +kernel
theorem d_Mh_723 : decode b_Mh 723 = .ok (.iload 4, 2) := by decide +kernel
theorem d_Mh_725 : decode b_Mh 725 = .ok (.invokestatic 75, 3) := by decide +kernel
theorem d_Mh_728 : decode b_Mh 728 = .ok (.return_, 1) := by decide +kernel
abbrev rm_Mh : Room := { frames := 3, cells := 1, slots := 4000, locals := 70 }
section MHI
variable {p : Program} {l : Launch} {e : Env} {s : State} {m : MethodId} {args : Array Value} {below : List Frame} {meth : Method} {c : Code} {Q : State → Prop} {c0 : Cond} {K : KD} {o a tb tl rb rl n b L1 L2 : Nat} {mg0 ss : Int} {f G : Nat → Option Nat} {H2 : Heap} {M : Nat → Prop} {wt nm : Nat → Int32}
-- behind the loop: one run is all but used up
set_option maxHeartbeats 4000000 in
theorem mh_exit (S : CallFix p m c b_Mh 14 s args (c0 :: TT) "java/util/ComparableTimSort") (hG : GN K s) (hk2 : Keep (N0 K) s.heap H2) (hM2 : MS K M wt nm H2) (hN : N0 K ≤ o) (hNa : N0 K ≤ a) (hoa : o ≠ a) (hot : o ≠ tb) (hat : a ≠ tb) (hMo : ¬ M o) (hMa : ¬ M a) (hn : n ≤ 8000) (htl : tl ≤ 4000) (hLt : L2 ≤ tl) (hbn : b + L1 + L2 ≤ n) (hGf : ∀ j, j < L2 → G j = f (b + L1 + j)) (hF : Full M f 0 n) (hs : Srt (kw wt) f b L1) (hs2 : Srt (kw wt) f (b + L1) L2) (hfirst : ∀ j, b ≤ j → j < b + L1 → kw wt (f (b + L1)) < kw wt (f j))
    (fin : ∀ (mg : Int) (F : Nat → Option Nat) (X : Heap) (ls : Array Slot) (locs : List Loc), HX K o a mg tb tl ss rb rl n F G H2 X → (∀ x, (x < b ∨ b + L1 + L2 ≤ x) → F x = f x) → Srt (kw wt) F b (L1 + L2) → Eqv (kw wt) (sg F b (L1 + L2)) (sg f b (L1 + L2)) → Full M F 0 n → LO (N0 K) locs → W p l e rm_Mh s m args below meth c X locs 1 4000 Q (F0 m 728 ls [])) :
    ∀ (mg : Int) (F : Nat → Option Nat) (X : Heap) (l1 l2 : Nat) (ls : Array Slot) (locs : List Loc), 1 ≤ l2 → (l2 = 1 ∨ l1 = 0) → MH (kw wt) M f n b L1 L2 F l1 l2 → HX K o a mg0 tb tl ss rb rl n F G H2 X → LO (N0 K) locs → lv_has ls 14 [(0, .ref o), (1, .int (zI b)), (2, .int (zI l1)), (4, .int (zI l2)), (5, .ref a), (6, .ref tb), (7, .int (zI 0)), (8, .int (zI ((b : Int) + l1 - 1))), (9, .int (zI ((l2 : Int) - 1))), (10, .int (zI ((b : Int) + l1 + l2 - 1))), (11, .int (zI mg))] → W p l e rm_Mh s m args below meth c X locs 1 4000 Q (F0 m 577 ls []) := by
  intro mg F X l1 l2 ls locs h1 h2 hMH hX hlo hl
  have hFb : Full M f b L1 := hF.sub (by omega) (by omega)
  have hFb2 : Full M f (b + L1) L2 := hF.sub (by omega) (by omega)
  have hMH0 := hMH
  obtain ⟨g1, g2, g5, -, -, -, g9⟩ := hMH0
  have aft : ∀ mg2 : Int, W p l e rm_Mh s m args below meth c X locs 1 4000 Q (F0 m 590 ls [.int (zI mg2), .ref o]) := by
    intro mg2
    refine z_put (C := "java/util/ComparableTimSort") (T := F_Cts) (N := 8) (ci := 2) S tin_Cts t_Cts tok_Cts tnm_Cts hG hX.1 hlo hN rfl 1 (by decide) tf_C9 rfl rfl rfl rfl (Nat.le_of_ble_eq_true rfl) d_Mh_590 (fun H3 locs hO3 z3 o3 hlo => ?_)
    have hX3 : HX K o a mg2 tb tl ss rb rl n F G H2 H3 := ⟨hO3, by rw [o3 a (Ne.symm hoa)]; exact hX.2.1, by rw [o3 tb (Ne.symm hot)]; exact hX.2.2.1, z3.trans hX.2.2.2.1, fun q q1 q2 => by rw [o3 q q1]; exact hX.2.2.2.2 q q1 q2⟩
    have hMS := hX3.ms hM2 hMo hMa
    have hkX := hX3.keep hk2 hN hNa
    refine z_iload S (lv_at hl 3 rfl) d_Mh_593 ?_
    refine z_iconst S d_Mh_595 ?_
    refine z_icmp_ne (tgt := 658) S (by decide) (by omega) (by omega) d_Mh_596 ?_ ?_
    · intro hc
      have hl1 : l1 = 0 := by omega
      subst hl1
      refine z_iload S (lv_at hl 3 rfl) d_Mh_658 ?_
      refine z_if_ne (tgt := 673) S (by decide) (by omega) d_Mh_660 ?_ ?_
      · intro hc2
        refine z_asrt (tgt := 691) S hG hkX tw_asrt (by decide) d_Mh_673 d_Mh_676 ?_
        refine z_asrt (tgt := 710) S hG hkX tw_asrt (by decide) d_Mh_691 d_Mh_694 ?_
        refine z_aload S (lv_at hl 5 rfl) d_Mh_710 ?_
        refine z_iload S (lv_at hl 6 rfl) d_Mh_712 ?_
        refine z_aload S (lv_at hl 4 rfl) d_Mh_714 ?_
        refine z_iload S (lv_at hl 9 rfl) d_Mh_716 ?_
        refine z_iload S (lv_at hl 3 rfl) d_Mh_718 ?_
        refine z_iconst S d_Mh_720 ?_
        refine z_isub S d_Mh_721 ?_
        refine z_isub S d_Mh_722 ?_
        refine z_iload S (lv_at hl 3 rfl) d_Mh_723 ?_
        refine n_copy 0 b l2 S hG.O hG.M hX3.2.2.1 hX3.2.1 hlo hNa (by omega) (by omega) rfl (by omega) rfl (by omega) (by omega) (fun j j1 j2 => ?_) (by decide) hl (by decide) d_Mh_725 (fun locs hlo => ?_)
        · rw [hGf j (by omega)]
          obtain ⟨y, e1, m1⟩ := hF (b + L1 + j) (by omega) (by omega)
          exact ⟨y, e1, (hMS y m1).anyM hG⟩
        obtain ⟨r1, r2, r3, r4⟩ := MH.done (by
          have := hMH.right (F' := va_cpy G F 0 b l2) (r := l2) hs hs2 hFb2 (Nat.le_refl _) (fun x => pt_cpyG (φ := fun x => f (x + L1 - 0)) (by omega) (by omega) (fun j hj => by rw [hGf _ (by omega)]; congr 1; omega) x) (fun h => by omega)
          rw [Nat.sub_self] at this
          exact this)
        exact fin mg2 _ _ ls locs (hX3.set hoa hat _) r1 r2 r3 r4 hlo
      · intro hc2
        omega
    · intro hc
      have hl2 : l2 = 1 := by omega
      subst hl2
      refine z_asrt (tgt := 617) S hG hkX tw_asrt (by decide) d_Mh_599 d_Mh_602 ?_
      refine z_iload S (lv_at hl 9 rfl) d_Mh_617 ?_
      refine z_iload_n S rfl (lv_at hl 2 rfl) d_Mh_619 ?_
      refine z_isub S d_Mh_620 ?_
      refine z_istore (lv' := [(10, .int (zI (((b : Int) + l1 + (1 : Nat) - 1) - l1))), (0, .ref o), (1, .int (zI b)), (2, .int (zI l1)), (4, .int (zI (1 : Nat))), (5, .ref a), (6, .ref tb), (7, .int (zI 0)), (8, .int (zI ((b : Int) + l1 - 1))), (9, .int (zI (((1 : Nat) : Int) - 1))), (11, .int (zI mg))]) S hl rfl (by decide) d_Mh_621 (fun ls hl => ?_)
      refine z_iload S (lv_at hl 8 rfl) d_Mh_623 ?_
      refine z_iload_n S rfl (lv_at hl 3 rfl) d_Mh_625 ?_
      refine z_isub S d_Mh_626 ?_
      refine z_istore (lv' := [(8, .int (zI (((b : Int) + l1 - 1) - l1))), (10, .int (zI (((b : Int) + l1 + (1 : Nat) - 1) - l1))), (0, .ref o), (1, .int (zI b)), (2, .int (zI l1)), (4, .int (zI (1 : Nat))), (5, .ref a), (6, .ref tb), (7, .int (zI 0)), (9, .int (zI (((1 : Nat) : Int) - 1))), (11, .int (zI mg))]) S hl rfl (by decide) d_Mh_627 (fun ls hl => ?_)
      refine z_aload S (lv_at hl 6 rfl) d_Mh_629 ?_
      refine z_iload S (lv_at hl 0 rfl) d_Mh_631 ?_
      refine z_iconst S d_Mh_633 ?_
      refine z_iadd S d_Mh_634 ?_
      refine z_aload S (lv_at hl 6 rfl) d_Mh_635 ?_
      refine z_iload S (lv_at hl 1 rfl) d_Mh_637 ?_
      refine z_iconst S d_Mh_639 ?_
      refine z_iadd S d_Mh_640 ?_
      refine z_iload_n S rfl (lv_at hl 4 rfl) d_Mh_641 ?_
      refine n_copy b (b + 1) l1 S hG.M hG.M hX3.2.1 hX3.2.1 hlo hNa (by omega) (by omega) (by omega) (by omega) rfl (by omega) (by omega) (fun j j1 j2 => ?_) (by decide) hl (by decide) d_Mh_642 (fun locs hlo => ?_)
      · obtain ⟨y, e1, m1⟩ := g9 j (by omega) (by omega)
        exact ⟨y, e1, (hMS y m1).anyM hG⟩
      have hMH2 := hMH.left (F' := va_cpy F F b (b + 1) l1) (r := l1) hs hs2 hFb (Nat.le_refl _) (fun x => pt_cpyG (φ := fun x => f (x - 1)) (by omega) (by omega) (fun j hj => by rw [g5 _ (by omega)]; congr 1; omega) x) (fun _ j j1 j2 => by
        rw [show b + L1 + 1 - 1 = b + L1 by omega]
        exact hfirst _ (by omega) (by omega))
      have hX4 := hX3.set hoa hat (va_cpy F F b (b + 1) l1)
      have hMS4 := hX4.ms hM2 hMo hMa
      obtain ⟨y, e1, m1⟩ := hF (b + L1) (by omega) (by omega)
      refine z_aload S (lv_at hl 6 rfl) d_Mh_645 ?_
      refine z_iload S (lv_at hl 1 rfl) d_Mh_647 ?_
      refine z_aload S (lv_at hl 7 rfl) d_Mh_649 ?_
      refine z_iload S (lv_at hl 9 rfl) d_Mh_651 ?_
      refine n_aald 0 S hG.O hX4.2.2.1 (by omega) (by omega) (by omega) (by rw [hGf _ (by omega)]; exact e1) d_Mh_653 ?_
      refine n_aast b S hG.M hX4.2.1 hlo hNa (by omega) ((hMS4 y m1).anyM hG) (by omega) (by omega) d_Mh_654 (fun locs hlo => ?_)
      refine z_goto (tgt := 728) S (by decide) d_Mh_655 ?_
      rw [Nat.sub_self] at hMH2
      obtain ⟨r1, r2, r3, r4⟩ := MH.done (by
        have := hMH2.right (F' := va_up (va_cpy F F b (b + 1) l1) b (some y)) (r := 1) hs hs2 hFb2 (Nat.le_refl _) (fun x => pt_upG (φ := fun x => f (x + L1 - 0)) (by omega) (by omega) (by rw [Nat.sub_zero]; exact e1.symm) x) (fun h => by omega)
        exact this)
      exact fin mg2 _ _ ls locs (hX4.set hoa hat _) r1 r2 r3 r4 hlo
  refine z_aload_n S rfl (lv_at hl 0 rfl) d_Mh_577 ?_
  refine z_iload S (lv_at hl 10 rfl) d_Mh_578 ?_
  refine z_iconst S d_Mh_580 ?_
  refine lv_icmp_ge (tgt := 588) S.1 S.2.1 d_Mh_581 (by decide) (fun _ => ?_) (fun _ => ?_)
  · refine z_iload S (lv_at hl 10 rfl) d_Mh_588 ?_
    exact aft mg
  · refine z_iconst S d_Mh_584 ?_
    refine z_goto (tgt := 590) S (by decide) d_Mh_585 ?_
    exact aft 1
-- the two inner loops: one by one, and galloping
set_option maxHeartbeats 4000000 in
theorem mh_loop (S : CallFix p m c b_Mh 14 s args (c0 :: TT) "java/util/ComparableTimSort") (hG : GN K s) (hk2 : Keep (N0 K) s.heap H2) (hM2 : MS K M wt nm H2) (hN : N0 K ≤ o) (hNa : N0 K ≤ a) (hoa : o ≠ a) (hat : a ≠ tb) (hMo : ¬ M o) (hMa : ¬ M a) (hn : n ≤ 8000) (htl : tl ≤ 4000) (hLt : L2 ≤ tl) (hbn : b + L1 + L2 ≤ n) (hGf : ∀ j, j < L2 → G j = f (b + L1 + j)) (hF : Full M f 0 n) (hs : Srt (kw wt) f b L1) (hs2 : Srt (kw wt) f (b + L1) L2) (hfirst : ∀ j, b ≤ j → j < b + L1 → kw wt (f (b + L1)) < kw wt (f j))
    (ext : ∀ (mg : Int) (F : Nat → Option Nat) (X : Heap) (l1 l2 : Nat) (ls : Array Slot) (locs : List Loc), 1 ≤ l2 → (l2 = 1 ∨ l1 = 0) → MH (kw wt) M f n b L1 L2 F l1 l2 → HX K o a mg0 tb tl ss rb rl n F G H2 X → LO (N0 K) locs → lv_has ls 14 [(0, .ref o), (1, .int (zI b)), (2, .int (zI l1)), (4, .int (zI l2)), (5, .ref a), (6, .ref tb), (7, .int (zI 0)), (8, .int (zI ((b : Int) + l1 - 1))), (9, .int (zI ((l2 : Int) - 1))), (10, .int (zI ((b : Int) + l1 + l2 - 1))), (11, .int (zI mg))] → W p l e rm_Mh s m args below meth c X locs 1 4000 Q (F0 m 577 ls [])) :
    ∀ (N : Nat) (mg u1 u2 : Int) (F : Nat → Option Nat) (X : Heap) (l1 l2 : Nat) (ls : Array Slot) (locs : List Loc), l1 + l2 < N → 1 ≤ l1 → 2 ≤ l2 → MH (kw wt) M f n b L1 L2 F l1 l2 → HX K o a mg0 tb tl ss rb rl n F G H2 X → LO (N0 K) locs → lv_has ls 14 [(0, .ref o), (1, .int (zI b)), (2, .int (zI l1)), (4, .int (zI l2)), (5, .ref a), (6, .ref tb), (7, .int (zI 0)), (8, .int (zI ((b : Int) + l1 - 1))), (9, .int (zI ((l2 : Int) - 1))), (10, .int (zI ((b : Int) + l1 + l2 - 1))), (11, .int (zI mg)), (12, .int (zI u1)), (13, .int (zI u2))] → W p l e rm_Mh s m args below meth c X locs 1 4000 Q (F0 m 185 ls []) ∧ W p l e rm_Mh s m args below meth c X locs 1 4000 Q (F0 m 306 ls []) := by
  have hFb : Full M f b L1 := hF.sub (by omega) (by omega)
  have hFb2 : Full M f (b + L1) L2 := hF.sub (by omega) (by omega)
  have hGF : Full M G 0 L2 := fun j j1 j2 => by rw [hGf j (by omega)]; exact hFb2 (b + L1 + j) (by omega) (by omega)
  have hGs : Srt (kw wt) G 0 L2 := fun x y x1 x2 x3 => by rw [hGf x (by omega), hGf y (by omega)]; exact hs2 _ _ (by omega) (by omega) (by omega)
  intro N
  induction N with
  | zero => intro mg u1 u2 F X l1 l2 ls locs h; omega
  | succ N ih =>
    intro mg u1 u2 F X l1 l2 ls locs hNm h1 h2 hMH hX hlo hl
    have hMH0 := hMH
    obtain ⟨g1, g2, g5, -, -, -, g9⟩ := hMH0
    have hMS := hX.ms hM2 hMo hMa
    have hkX := hX.keep hk2 hN hNa
    obtain ⟨yl, el, ml⟩ := hF (b + l1 - 1) (by omega) (by omega)
    obtain ⟨yr, er, mr⟩ := hF (b + L1 + (l2 - 1)) (by omega) (by omega)
    have elF : F (b + l1 - 1) = some yl := by rw [g5 _ (by omega)]; exact el
    have erG : G (l2 - 1) = some yr := by rw [hGf _ (by omega)]; exact er
    constructor
    · -- one by one
      have t296 : ∀ (u1 u2 : Int) (F : Nat → Option Nat) (X : Heap) (l1 l2 : Nat) (ls : Array Slot) (locs : List Loc), l1 + l2 < N → 1 ≤ l1 → 2 ≤ l2 → MH (kw wt) M f n b L1 L2 F l1 l2 → HX K o a mg0 tb tl ss rb rl n F G H2 X → LO (N0 K) locs → lv_has ls 14 [(0, .ref o), (1, .int (zI b)), (2, .int (zI l1)), (4, .int (zI l2)), (5, .ref a), (6, .ref tb), (7, .int (zI 0)), (8, .int (zI ((b : Int) + l1 - 1))), (9, .int (zI ((l2 : Int) - 1))), (10, .int (zI ((b : Int) + l1 + l2 - 1))), (11, .int (zI mg)), (12, .int (zI u1)), (13, .int (zI u2))] → W p l e rm_Mh s m args below meth c X locs 1 4000 Q (F0 m 296 ls []) := by
        intro u1 u2 F X l1 l2 ls locs hNm h1 h2 hMH hX hlo hl
        obtain ⟨w1, w2⟩ := ih mg u1 u2 F X l1 l2 ls locs hNm h1 h2 hMH hX hlo hl
        refine z_iload S (lv_at hl 11 rfl) d_Mh_296 ?_
        refine z_iload S (lv_at hl 12 rfl) d_Mh_298 ?_
        refine lv_ior S.1 S.2.1 d_Mh_300 ?_
        refine z_iload S (lv_at hl 10 rfl) d_Mh_301 ?_
        refine lv_icmp_lt (tgt := 185) S.1 S.2.1 d_Mh_303 (by decide) (fun _ => ?_) (fun _ => ?_)
        · exact w1
        · exact w2
      refine z_asrt (tgt := 209) S hG hkX tw_asrt (by decide) d_Mh_185 d_Mh_188 ?_
      refine z_aload S (lv_at hl 5 rfl) d_Mh_209 ?_
      refine z_iload S (lv_at hl 8 rfl) d_Mh_211 ?_
      refine n_aald (l2 - 1) S hG.O hX.2.2.1 (by omega) (by omega) (by omega) erG d_Mh_213 ?_
      refine z_cast S hG (hMS yr mr) tcl_C69 d_Mh_214 ?_
      refine z_aload S (lv_at hl 4 rfl) d_Mh_217 ?_
      refine z_iload S (lv_at hl 7 rfl) d_Mh_219 ?_
      refine n_aald (b + l1 - 1) S hG.M hX.2.1 (by omega) (by omega) (by omega) elF d_Mh_221 ?_
      refine z_cmp S hG hkX hlo (hMS yr mr) (hMS yl ml) (by decide) (by decide) hl (by decide) d_Mh_222 (fun locs hlo => ?_)
      refine z_if_ge (tgt := 262) S (by decide) cmpI_in d_Mh_227 ?_ ?_
      · intro hc
        rw [cmpI_ge] at hc
        refine z_aload S (lv_at hl 4 rfl) d_Mh_262 ?_
        refine z_iload S (lv_at hl 9 rfl) d_Mh_264 ?_
        refine z_iinc (lv' := [(10, .int (zI (((b : Int) + l1 + l2 - 1) + (-1)))), (0, .ref o), (1, .int (zI b)), (2, .int (zI l1)), (4, .int (zI l2)), (5, .ref a), (6, .ref tb), (7, .int (zI 0)), (8, .int (zI ((b : Int) + l1 - 1))), (9, .int (zI ((l2 : Int) - 1))), (11, .int (zI mg)), (12, .int (zI u1)), (13, .int (zI u2))]) (q := 9) S hl rfl rfl (by decide) d_Mh_266 (fun ls hl => ?_)
        refine z_aload S (lv_at hl 6 rfl) d_Mh_269 ?_
        refine z_iload S (lv_at hl 9 rfl) d_Mh_271 ?_
        refine z_iinc (lv' := [(9, .int (zI (((l2 : Int) - 1) + (-1)))), (10, .int (zI (((b : Int) + l1 + l2 - 1) + (-1)))), (0, .ref o), (1, .int (zI b)), (2, .int (zI l1)), (4, .int (zI l2)), (5, .ref a), (6, .ref tb), (7, .int (zI 0)), (8, .int (zI ((b : Int) + l1 - 1))), (11, .int (zI mg)), (12, .int (zI u1)), (13, .int (zI u2))]) (q := 9) S hl rfl rfl (by decide) d_Mh_273 (fun ls hl => ?_)
        refine n_aald (l2 - 1) S hG.O hX.2.2.1 (by omega) (by omega) (by omega) erG d_Mh_276 ?_
        refine n_aast (b + l1 + l2 - 1) S hG.M hX.2.1 hlo hNa (by omega) ((hMS yr mr).anyM hG) (by omega) (by omega) d_Mh_277 (fun locs hlo => ?_)
        have hX2 := hX.set hoa hat (va_up F (b + l1 + l2 - 1) (some yr))
        have hMH2 := hMH.right (F' := va_up F (b + l1 + l2 - 1) (some yr)) (r := 1) hs hs2 hFb2 (by omega) (fun x => pt_upG (φ := fun x => f (x + L1 - l1)) (by omega) (by omega) (by rw [← er]; congr 1; omega) x) (fun _ j j1 j2 => by
          rw [show j = b + L1 + (l2 - 1) by omega, kw_some el, kw_some er]
          exact hc)
        refine z_iinc (lv' := [(13, .int (zI (u2 + 1))), (9, .int (zI (((l2 : Int) - 1) + (-1)))), (10, .int (zI (((b : Int) + l1 + l2 - 1) + (-1)))), (0, .ref o), (1, .int (zI b)), (2, .int (zI l1)), (4, .int (zI l2)), (5, .ref a), (6, .ref tb), (7, .int (zI 0)), (8, .int (zI ((b : Int) + l1 - 1))), (11, .int (zI mg)), (12, .int (zI u1))]) (q := 12) S hl rfl rfl (by decide) d_Mh_278 (fun ls hl => ?_)
        refine z_iconst S d_Mh_281 ?_
        refine z_istore (lv' := [(12, .int (zI 0)), (13, .int (zI (u2 + 1))), (9, .int (zI (((l2 : Int) - 1) + (-1)))), (10, .int (zI (((b : Int) + l1 + l2 - 1) + (-1)))), (0, .ref o), (1, .int (zI b)), (2, .int (zI l1)), (4, .int (zI l2)), (5, .ref a), (6, .ref tb), (7, .int (zI 0)), (8, .int (zI ((b : Int) + l1 - 1))), (11, .int (zI mg))]) S hl rfl (by decide) d_Mh_282 (fun ls hl => ?_)
        refine z_iinc (lv' := [(4, .int (zI (l2 + (-1)))), (12, .int (zI 0)), (13, .int (zI (u2 + 1))), (9, .int (zI (((l2 : Int) - 1) + (-1)))), (10, .int (zI (((b : Int) + l1 + l2 - 1) + (-1)))), (0, .ref o), (1, .int (zI b)), (2, .int (zI l1)), (5, .ref a), (6, .ref tb), (7, .int (zI 0)), (8, .int (zI ((b : Int) + l1 - 1))), (11, .int (zI mg))]) (q := 7) S hl rfl rfl (by decide) d_Mh_284 (fun ls hl => ?_)
        refine z_iload S (lv_at hl 0 rfl) d_Mh_287 ?_
        refine z_iconst S d_Mh_289 ?_
        have hl : lv_has ls 14 [(0, .ref o), (1, .int (zI b)), (2, .int (zI l1)), (4, .int (zI (l2 + (-1)))), (5, .ref a), (6, .ref tb), (7, .int (zI 0)), (8, .int (zI ((b : Int) + l1 - 1))), (9, .int (zI (((l2 : Int) - 1) + (-1)))), (10, .int (zI (((b : Int) + l1 + l2 - 1) + (-1)))), (11, .int (zI mg)), (12, .int (zI 0)), (13, .int (zI (u2 + 1)))] := lv_sub hl [5, 6, 7, 0, 8, 9, 10, 11, 3, 4, 12, 1, 2] rfl
        have hl : lv_has ls 14 [(0, .ref o), (1, .int (zI b)), (2, .int (zI l1)), (4, .int (zI ((l2 - 1 : Nat) : Int))), (5, .ref a), (6, .ref tb), (7, .int (zI 0)), (8, .int (zI ((b : Int) + l1 - 1))), (9, .int (zI (((l2 : Int) - 1) + (-1)))), (10, .int (zI (((b : Int) + l1 + l2 - 1) + (-1)))), (11, .int (zI mg)), (12, .int (zI 0)), (13, .int (zI (u2 + 1)))] := lv_ren hl 3 rfl (show (l2 + (-1)) = ((l2 - 1 : Nat) : Int) by omega)
        have hl : lv_has ls 14 [(0, .ref o), (1, .int (zI b)), (2, .int (zI l1)), (4, .int (zI ((l2 - 1 : Nat) : Int))), (5, .ref a), (6, .ref tb), (7, .int (zI 0)), (8, .int (zI ((b : Int) + l1 - 1))), (9, .int (zI (((l2 - 1 : Nat) : Int) - 1))), (10, .int (zI (((b : Int) + l1 + l2 - 1) + (-1)))), (11, .int (zI mg)), (12, .int (zI 0)), (13, .int (zI (u2 + 1)))] := lv_ren hl 8 rfl (show (((l2 : Int) - 1) + (-1)) = (((l2 - 1 : Nat) : Int) - 1) by omega)
        have hl : lv_has ls 14 [(0, .ref o), (1, .int (zI b)), (2, .int (zI l1)), (4, .int (zI ((l2 - 1 : Nat) : Int))), (5, .ref a), (6, .ref tb), (7, .int (zI 0)), (8, .int (zI ((b : Int) + l1 - 1))), (9, .int (zI (((l2 - 1 : Nat) : Int) - 1))), (10, .int (zI ((b : Int) + l1 + (l2 - 1 : Nat) - 1))), (11, .int (zI mg)), (12, .int (zI 0)), (13, .int (zI (u2 + 1)))] := lv_ren hl 9 rfl (show (((b : Int) + l1 + l2 - 1) + (-1)) = ((b : Int) + l1 + (l2 - 1 : Nat) - 1) by omega)
        refine z_icmp_ne (tgt := 296) S (by decide) (by omega) (by omega) d_Mh_290 ?_ ?_
        · intro hc2
          exact t296 _ _ _ _ _ _ ls locs (by omega) (by omega) (by omega) hMH2 hX2 hlo hl
        · intro hc2
          refine z_goto (tgt := 577) S (by decide) d_Mh_293 ?_
          exact ext _ _ _ _ _ ls locs (by omega) (by omega) hMH2 hX2 hlo (lv_sub hl [0, 1, 2, 3, 4, 5, 6, 7, 8, 9, 10] rfl)
      · intro hc
        rw [cmpI_lt] at hc
        refine z_aload S (lv_at hl 4 rfl) d_Mh_230 ?_
        refine z_iload S (lv_at hl 9 rfl) d_Mh_232 ?_
        refine z_iinc (lv' := [(10, .int (zI (((b : Int) + l1 + l2 - 1) + (-1)))), (0, .ref o), (1, .int (zI b)), (2, .int (zI l1)), (4, .int (zI l2)), (5, .ref a), (6, .ref tb), (7, .int (zI 0)), (8, .int (zI ((b : Int) + l1 - 1))), (9, .int (zI ((l2 : Int) - 1))), (11, .int (zI mg)), (12, .int (zI u1)), (13, .int (zI u2))]) (q := 9) S hl rfl rfl (by decide) d_Mh_234 (fun ls hl => ?_)
        refine z_aload S (lv_at hl 5 rfl) d_Mh_237 ?_
        refine z_iload S (lv_at hl 8 rfl) d_Mh_239 ?_
        refine z_iinc (lv' := [(8, .int (zI (((b : Int) + l1 - 1) + (-1)))), (10, .int (zI (((b : Int) + l1 + l2 - 1) + (-1)))), (0, .ref o), (1, .int (zI b)), (2, .int (zI l1)), (4, .int (zI l2)), (5, .ref a), (6, .ref tb), (7, .int (zI 0)), (9, .int (zI ((l2 : Int) - 1))), (11, .int (zI mg)), (12, .int (zI u1)), (13, .int (zI u2))]) (q := 8) S hl rfl rfl (by decide) d_Mh_241 (fun ls hl => ?_)
        refine n_aald (b + l1 - 1) S hG.M hX.2.1 (by omega) (by omega) (by omega) elF d_Mh_244 ?_
        refine n_aast (b + l1 + l2 - 1) S hG.M hX.2.1 hlo hNa (by omega) ((hMS yl ml).anyM hG) (by omega) (by omega) d_Mh_245 (fun locs hlo => ?_)
        have hX2 := hX.set hoa hat (va_up F (b + l1 + l2 - 1) (some yl))
        have hMH2 := hMH.left (F' := va_up F (b + l1 + l2 - 1) (some yl)) (r := 1) hs hs2 hFb (by omega) (fun x => pt_upG (φ := fun x => f (x - l2)) (by omega) (by omega) (by rw [← el]; congr 1; omega) x) (fun _ j j1 j2 => by
          rw [show j = b + l1 - 1 by omega, show b + L1 + l2 - 1 = b + L1 + (l2 - 1) by omega, kw_some el, kw_some er]
          exact hc)
        refine z_iinc (lv' := [(12, .int (zI (u1 + 1))), (8, .int (zI (((b : Int) + l1 - 1) + (-1)))), (10, .int (zI (((b : Int) + l1 + l2 - 1) + (-1)))), (0, .ref o), (1, .int (zI b)), (2, .int (zI l1)), (4, .int (zI l2)), (5, .ref a), (6, .ref tb), (7, .int (zI 0)), (9, .int (zI ((l2 : Int) - 1))), (11, .int (zI mg)), (13, .int (zI u2))]) (q := 11) S hl rfl rfl (by decide) d_Mh_246 (fun ls hl => ?_)
        refine z_iconst S d_Mh_249 ?_
        refine z_istore (lv' := [(13, .int (zI 0)), (12, .int (zI (u1 + 1))), (8, .int (zI (((b : Int) + l1 - 1) + (-1)))), (10, .int (zI (((b : Int) + l1 + l2 - 1) + (-1)))), (0, .ref o), (1, .int (zI b)), (2, .int (zI l1)), (4, .int (zI l2)), (5, .ref a), (6, .ref tb), (7, .int (zI 0)), (9, .int (zI ((l2 : Int) - 1))), (11, .int (zI mg))]) S hl rfl (by decide) d_Mh_250 (fun ls hl => ?_)
        refine z_iinc (lv' := [(2, .int (zI (l1 + (-1)))), (13, .int (zI 0)), (12, .int (zI (u1 + 1))), (8, .int (zI (((b : Int) + l1 - 1) + (-1)))), (10, .int (zI (((b : Int) + l1 + l2 - 1) + (-1)))), (0, .ref o), (1, .int (zI b)), (4, .int (zI l2)), (5, .ref a), (6, .ref tb), (7, .int (zI 0)), (9, .int (zI ((l2 : Int) - 1))), (11, .int (zI mg))]) (q := 6) S hl rfl rfl (by decide) d_Mh_252 (fun ls hl => ?_)
        refine z_iload_n S rfl (lv_at hl 0 rfl) d_Mh_255 ?_
        have hl : lv_has ls 14 [(0, .ref o), (1, .int (zI b)), (2, .int (zI (l1 + (-1)))), (4, .int (zI l2)), (5, .ref a), (6, .ref tb), (7, .int (zI 0)), (8, .int (zI (((b : Int) + l1 - 1) + (-1)))), (9, .int (zI ((l2 : Int) - 1))), (10, .int (zI (((b : Int) + l1 + l2 - 1) + (-1)))), (11, .int (zI mg)), (12, .int (zI (u1 + 1))), (13, .int (zI 0))] := lv_sub hl [5, 6, 0, 7, 8, 9, 10, 3, 11, 4, 12, 2, 1] rfl
        have hl : lv_has ls 14 [(0, .ref o), (1, .int (zI b)), (2, .int (zI ((l1 - 1 : Nat) : Int))), (4, .int (zI l2)), (5, .ref a), (6, .ref tb), (7, .int (zI 0)), (8, .int (zI (((b : Int) + l1 - 1) + (-1)))), (9, .int (zI ((l2 : Int) - 1))), (10, .int (zI (((b : Int) + l1 + l2 - 1) + (-1)))), (11, .int (zI mg)), (12, .int (zI (u1 + 1))), (13, .int (zI 0))] := lv_ren hl 2 rfl (show (l1 + (-1)) = ((l1 - 1 : Nat) : Int) by omega)
        have hl : lv_has ls 14 [(0, .ref o), (1, .int (zI b)), (2, .int (zI ((l1 - 1 : Nat) : Int))), (4, .int (zI l2)), (5, .ref a), (6, .ref tb), (7, .int (zI 0)), (8, .int (zI ((b : Int) + (l1 - 1 : Nat) - 1))), (9, .int (zI ((l2 : Int) - 1))), (10, .int (zI (((b : Int) + l1 + l2 - 1) + (-1)))), (11, .int (zI mg)), (12, .int (zI (u1 + 1))), (13, .int (zI 0))] := lv_ren hl 7 rfl (show (((b : Int) + l1 - 1) + (-1)) = ((b : Int) + (l1 - 1 : Nat) - 1) by omega)
        have hl : lv_has ls 14 [(0, .ref o), (1, .int (zI b)), (2, .int (zI ((l1 - 1 : Nat) : Int))), (4, .int (zI l2)), (5, .ref a), (6, .ref tb), (7, .int (zI 0)), (8, .int (zI ((b : Int) + (l1 - 1 : Nat) - 1))), (9, .int (zI ((l2 : Int) - 1))), (10, .int (zI ((b : Int) + (l1 - 1 : Nat) + l2 - 1))), (11, .int (zI mg)), (12, .int (zI (u1 + 1))), (13, .int (zI 0))] := lv_ren hl 9 rfl (show (((b : Int) + l1 + l2 - 1) + (-1)) = ((b : Int) + (l1 - 1 : Nat) + l2 - 1) by omega)
        refine z_if_ne (tgt := 296) S (by decide) (by omega) d_Mh_256 ?_ ?_
        · intro hc2
          exact t296 _ _ _ _ _ _ ls locs (by omega) (by omega) (by omega) hMH2 hX2 hlo hl
        · intro hc2
          refine z_goto (tgt := 577) S (by decide) d_Mh_259 ?_
          exact ext _ _ _ _ _ ls locs (by omega) (by omega) hMH2 hX2 hlo (lv_sub hl [0, 1, 2, 3, 4, 5, 6, 7, 8, 9, 10] rfl)
    · -- galloping
      -- behind the second gallop, at 506
      have t506 : ∀ (u1 u2 : Int) (F : Nat → Option Nat) (X : Heap) (l1 l2 : Nat) (ls : Array Slot) (locs : List Loc), l1 + l2 < N + 1 → 1 ≤ l1 → 2 ≤ l2 → MH (kw wt) M f n b L1 L2 F l1 l2 → kw wt (f (b + L1 + l2 - 1)) < kw wt (f (b + l1 - 1)) → HX K o a mg0 tb tl ss rb rl n F G H2 X → LO (N0 K) locs → lv_has ls 14 [(0, .ref o), (1, .int (zI b)), (2, .int (zI l1)), (4, .int (zI l2)), (5, .ref a), (6, .ref tb), (7, .int (zI 0)), (8, .int (zI ((b : Int) + l1 - 1))), (9, .int (zI ((l2 : Int) - 1))), (10, .int (zI ((b : Int) + l1 + l2 - 1))), (11, .int (zI mg)), (12, .int (zI u1)), (13, .int (zI u2))] → W p l e rm_Mh s m args below meth c X locs 1 4000 Q (F0 m 506 ls []) := by
        intro u1 u2 F X l1 l2 ls locs hNm h1 h2 hMH hlt hX hlo hl
        have hMH0 := hMH
        obtain ⟨g1, g2, g5, -, -, -, g9⟩ := hMH0
        have hMS := hX.ms hM2 hMo hMa
        obtain ⟨yl, el, ml⟩ := hF (b + l1 - 1) (by omega) (by omega)
        have elF : F (b + l1 - 1) = some yl := by rw [g5 _ (by omega)]; exact el
        refine z_aload S (lv_at hl 4 rfl) d_Mh_506 ?_
        refine z_iload S (lv_at hl 9 rfl) d_Mh_508 ?_
        refine z_iinc (lv' := [(10, .int (zI (((b : Int) + l1 + l2 - 1) + (-1)))), (0, .ref o), (1, .int (zI b)), (2, .int (zI l1)), (4, .int (zI l2)), (5, .ref a), (6, .ref tb), (7, .int (zI 0)), (8, .int (zI ((b : Int) + l1 - 1))), (9, .int (zI ((l2 : Int) - 1))), (11, .int (zI mg)), (12, .int (zI u1)), (13, .int (zI u2))]) (q := 9) S hl rfl rfl (by decide) d_Mh_510 (fun ls hl => ?_)
        refine z_aload S (lv_at hl 5 rfl) d_Mh_513 ?_
        refine z_iload S (lv_at hl 8 rfl) d_Mh_515 ?_
        refine z_iinc (lv' := [(8, .int (zI (((b : Int) + l1 - 1) + (-1)))), (10, .int (zI (((b : Int) + l1 + l2 - 1) + (-1)))), (0, .ref o), (1, .int (zI b)), (2, .int (zI l1)), (4, .int (zI l2)), (5, .ref a), (6, .ref tb), (7, .int (zI 0)), (9, .int (zI ((l2 : Int) - 1))), (11, .int (zI mg)), (12, .int (zI u1)), (13, .int (zI u2))]) (q := 8) S hl rfl rfl (by decide) d_Mh_517 (fun ls hl => ?_)
        refine n_aald (b + l1 - 1) S hG.M hX.2.1 (by omega) (by omega) (by omega) elF d_Mh_520 ?_
        refine n_aast (b + l1 + l2 - 1) S hG.M hX.2.1 hlo hNa (by omega) ((hMS yl ml).anyM hG) (by omega) (by omega) d_Mh_521 (fun locs hlo => ?_)
        have hX2 := hX.set hoa hat (va_up F (b + l1 + l2 - 1) (some yl))
        have hMH2 := hMH.left (F' := va_up F (b + l1 + l2 - 1) (some yl)) (r := 1) hs hs2 hFb (by omega) (fun x => pt_upG (φ := fun x => f (x - l2)) (by omega) (by omega) (by rw [← el]; congr 1; omega) x) (fun _ j j1 j2 => by
          rw [show j = b + l1 - 1 by omega]
          exact hlt)
        generalize va_up F (b + l1 + l2 - 1) (some yl) = F1 at hX2 hMH2 ⊢
        generalize X.setIfInBounds a (RA (cM_ K) n F1) = X1 at hX2 ⊢
        refine z_iinc (lv' := [(2, .int (zI (l1 + (-1)))), (8, .int (zI (((b : Int) + l1 - 1) + (-1)))), (10, .int (zI (((b : Int) + l1 + l2 - 1) + (-1)))), (0, .ref o), (1, .int (zI b)), (4, .int (zI l2)), (5, .ref a), (6, .ref tb), (7, .int (zI 0)), (9, .int (zI ((l2 : Int) - 1))), (11, .int (zI mg)), (12, .int (zI u1)), (13, .int (zI u2))]) (q := 4) S hl rfl rfl (by decide) d_Mh_522 (fun ls hl => ?_)
        refine z_iload_n S rfl (lv_at hl 0 rfl) d_Mh_525 ?_
        have hl : lv_has ls 14 [(0, .ref o), (1, .int (zI b)), (2, .int (zI (l1 + (-1)))), (4, .int (zI l2)), (5, .ref a), (6, .ref tb), (7, .int (zI 0)), (8, .int (zI (((b : Int) + l1 - 1) + (-1)))), (9, .int (zI ((l2 : Int) - 1))), (10, .int (zI (((b : Int) + l1 + l2 - 1) + (-1)))), (11, .int (zI mg)), (12, .int (zI u1)), (13, .int (zI u2))] := lv_sub hl [3, 4, 0, 5, 6, 7, 8, 1, 9, 2, 10, 11, 12] rfl
        have hl : lv_has ls 14 [(0, .ref o), (1, .int (zI b)), (2, .int (zI ((l1 - 1 : Nat) : Int))), (4, .int (zI l2)), (5, .ref a), (6, .ref tb), (7, .int (zI 0)), (8, .int (zI (((b : Int) + l1 - 1) + (-1)))), (9, .int (zI ((l2 : Int) - 1))), (10, .int (zI (((b : Int) + l1 + l2 - 1) + (-1)))), (11, .int (zI mg)), (12, .int (zI u1)), (13, .int (zI u2))] := lv_ren hl 2 rfl (show (l1 + (-1)) = ((l1 - 1 : Nat) : Int) by omega)
        have hl : lv_has ls 14 [(0, .ref o), (1, .int (zI b)), (2, .int (zI ((l1 - 1 : Nat) : Int))), (4, .int (zI l2)), (5, .ref a), (6, .ref tb), (7, .int (zI 0)), (8, .int (zI ((b : Int) + (l1 - 1 : Nat) - 1))), (9, .int (zI ((l2 : Int) - 1))), (10, .int (zI (((b : Int) + l1 + l2 - 1) + (-1)))), (11, .int (zI mg)), (12, .int (zI u1)), (13, .int (zI u2))] := lv_ren hl 7 rfl (show (((b : Int) + l1 - 1) + (-1)) = ((b : Int) + (l1 - 1 : Nat) - 1) by omega)
        have hl : lv_has ls 14 [(0, .ref o), (1, .int (zI b)), (2, .int (zI ((l1 - 1 : Nat) : Int))), (4, .int (zI l2)), (5, .ref a), (6, .ref tb), (7, .int (zI 0)), (8, .int (zI ((b : Int) + (l1 - 1 : Nat) - 1))), (9, .int (zI ((l2 : Int) - 1))), (10, .int (zI ((b : Int) + (l1 - 1 : Nat) + l2 - 1))), (11, .int (zI mg)), (12, .int (zI u1)), (13, .int (zI u2))] := lv_ren hl 9 rfl (show (((b : Int) + l1 + l2 - 1) + (-1)) = ((b : Int) + (l1 - 1 : Nat) + l2 - 1) by omega)
        refine z_if_ne (tgt := 532) S (by decide) (by omega) d_Mh_526 ?_ ?_
        · intro hc2
          refine z_iinc (lv' := [(11, .int (zI (mg + (-1)))), (0, .ref o), (1, .int (zI b)), (2, .int (zI ((l1 - 1 : Nat) : Int))), (4, .int (zI l2)), (5, .ref a), (6, .ref tb), (7, .int (zI 0)), (8, .int (zI ((b : Int) + (l1 - 1 : Nat) - 1))), (9, .int (zI ((l2 : Int) - 1))), (10, .int (zI ((b : Int) + (l1 - 1 : Nat) + l2 - 1))), (12, .int (zI u1)), (13, .int (zI u2))]) (q := 10) S hl rfl rfl (by decide) d_Mh_532 (fun ls hl => ?_)
          refine z_iload S (lv_at hl 11 rfl) d_Mh_535 ?_
          refine z_bipush S (by decide) d_Mh_537 ?_
          have hl : lv_has ls 14 [(0, .ref o), (1, .int (zI b)), (2, .int (zI ((l1 - 1 : Nat) : Int))), (4, .int (zI l2)), (5, .ref a), (6, .ref tb), (7, .int (zI 0)), (8, .int (zI ((b : Int) + (l1 - 1 : Nat) - 1))), (9, .int (zI ((l2 : Int) - 1))), (10, .int (zI ((b : Int) + (l1 - 1 : Nat) + l2 - 1))), (11, .int (zI (mg + (-1)))), (12, .int (zI u1)), (13, .int (zI u2))] := lv_sub hl [1, 2, 3, 4, 5, 6, 7, 8, 9, 10, 0, 11, 12] rfl
          have t559 : ∀ x y : Int32, W p l e rm_Mh s m args below meth c X1 locs 1 4000 Q (F0 m 559 ls [.int y, .int x]) := by
            intro x y
            refine lv_ior S.1 S.2.1 d_Mh_559 ?_
            refine lv_if_ne (tgt := 306) S.1 S.2.1 d_Mh_560 (by decide) (fun _ => ?_) (fun _ => ?_)
            · exact (ih (mg + (-1)) u1 u2 _ _ (l1 - 1) l2 ls locs (by omega) (by omega) (by omega) hMH2 hX2 hlo hl).2
            · refine z_iload S (lv_at hl 10 rfl) d_Mh_563 ?_
              refine lv_if_ge (tgt := 571) S.1 S.2.1 d_Mh_565 (by decide) (fun _ => ?_) (fun _ => ?_)
              · refine z_iinc (lv' := [(11, .int (zI ((mg + (-1)) + 2))), (0, .ref o), (1, .int (zI b)), (2, .int (zI ((l1 - 1 : Nat) : Int))), (4, .int (zI l2)), (5, .ref a), (6, .ref tb), (7, .int (zI 0)), (8, .int (zI ((b : Int) + (l1 - 1 : Nat) - 1))), (9, .int (zI ((l2 : Int) - 1))), (10, .int (zI ((b : Int) + (l1 - 1 : Nat) + l2 - 1))), (12, .int (zI u1)), (13, .int (zI u2))]) (q := 10) S hl rfl rfl (by decide) d_Mh_571 (fun ls hl => ?_)
                refine z_goto (tgt := 179) S (by decide) d_Mh_574 ?_
                refine z_iconst S d_Mh_179 ?_
                refine z_istore (lv' := [(12, .int (zI 0)), (11, .int (zI ((mg + (-1)) + 2))), (0, .ref o), (1, .int (zI b)), (2, .int (zI ((l1 - 1 : Nat) : Int))), (4, .int (zI l2)), (5, .ref a), (6, .ref tb), (7, .int (zI 0)), (8, .int (zI ((b : Int) + (l1 - 1 : Nat) - 1))), (9, .int (zI ((l2 : Int) - 1))), (10, .int (zI ((b : Int) + (l1 - 1 : Nat) + l2 - 1))), (13, .int (zI u2))]) S hl rfl (by decide) d_Mh_180 (fun ls hl => ?_)
                refine z_iconst S d_Mh_182 ?_
                refine z_istore (lv' := [(13, .int (zI 0)), (12, .int (zI 0)), (11, .int (zI ((mg + (-1)) + 2))), (0, .ref o), (1, .int (zI b)), (2, .int (zI ((l1 - 1 : Nat) : Int))), (4, .int (zI l2)), (5, .ref a), (6, .ref tb), (7, .int (zI 0)), (8, .int (zI ((b : Int) + (l1 - 1 : Nat) - 1))), (9, .int (zI ((l2 : Int) - 1))), (10, .int (zI ((b : Int) + (l1 - 1 : Nat) + l2 - 1)))]) S hl rfl (by decide) d_Mh_183 (fun ls hl => ?_)
                exact (ih _ _ _ _ _ (l1 - 1) l2 ls locs (by omega) (by omega) (by omega) hMH2 hX2 hlo (lv_sub hl [3, 4, 5, 6, 7, 8, 9, 10, 11, 12, 2, 1, 0] rfl)).1
              · refine z_iconst S d_Mh_568 ?_
                refine z_istore (lv' := [(11, .int (zI 0)), (0, .ref o), (1, .int (zI b)), (2, .int (zI ((l1 - 1 : Nat) : Int))), (4, .int (zI l2)), (5, .ref a), (6, .ref tb), (7, .int (zI 0)), (8, .int (zI ((b : Int) + (l1 - 1 : Nat) - 1))), (9, .int (zI ((l2 : Int) - 1))), (10, .int (zI ((b : Int) + (l1 - 1 : Nat) + l2 - 1))), (12, .int (zI u1)), (13, .int (zI u2))]) S hl rfl (by decide) d_Mh_569 (fun ls hl => ?_)
                refine z_iinc (lv' := [(11, .int (zI (0 + 2))), (0, .ref o), (1, .int (zI b)), (2, .int (zI ((l1 - 1 : Nat) : Int))), (4, .int (zI l2)), (5, .ref a), (6, .ref tb), (7, .int (zI 0)), (8, .int (zI ((b : Int) + (l1 - 1 : Nat) - 1))), (9, .int (zI ((l2 : Int) - 1))), (10, .int (zI ((b : Int) + (l1 - 1 : Nat) + l2 - 1))), (12, .int (zI u1)), (13, .int (zI u2))]) (q := 0) S hl rfl rfl (by decide) d_Mh_571 (fun ls hl => ?_)
                refine z_goto (tgt := 179) S (by decide) d_Mh_574 ?_
                refine z_iconst S d_Mh_179 ?_
                refine z_istore (lv' := [(12, .int (zI 0)), (11, .int (zI (0 + 2))), (0, .ref o), (1, .int (zI b)), (2, .int (zI ((l1 - 1 : Nat) : Int))), (4, .int (zI l2)), (5, .ref a), (6, .ref tb), (7, .int (zI 0)), (8, .int (zI ((b : Int) + (l1 - 1 : Nat) - 1))), (9, .int (zI ((l2 : Int) - 1))), (10, .int (zI ((b : Int) + (l1 - 1 : Nat) + l2 - 1))), (13, .int (zI u2))]) S hl rfl (by decide) d_Mh_180 (fun ls hl => ?_)
                refine z_iconst S d_Mh_182 ?_
                refine z_istore (lv' := [(13, .int (zI 0)), (12, .int (zI 0)), (11, .int (zI (0 + 2))), (0, .ref o), (1, .int (zI b)), (2, .int (zI ((l1 - 1 : Nat) : Int))), (4, .int (zI l2)), (5, .ref a), (6, .ref tb), (7, .int (zI 0)), (8, .int (zI ((b : Int) + (l1 - 1 : Nat) - 1))), (9, .int (zI ((l2 : Int) - 1))), (10, .int (zI ((b : Int) + (l1 - 1 : Nat) + l2 - 1)))]) S hl rfl (by decide) d_Mh_183 (fun ls hl => ?_)
                exact (ih _ _ _ _ _ (l1 - 1) l2 ls locs (by omega) (by omega) (by omega) hMH2 hX2 hlo (lv_sub hl [3, 4, 5, 6, 7, 8, 9, 10, 11, 12, 2, 1, 0] rfl)).1
          have t547 : ∀ x : Int32, W p l e rm_Mh s m args below meth c X1 locs 1 4000 Q (F0 m 547 ls [.int x]) := by
            intro x
            refine z_iload S (lv_at hl 12 rfl) d_Mh_547 ?_
            refine z_bipush S (by decide) d_Mh_549 ?_
            refine lv_icmp_lt (tgt := 558) S.1 S.2.1 d_Mh_551 (by decide) (fun _ => ?_) (fun _ => ?_)
            · refine z_iconst S d_Mh_558 ?_
              exact t559 x _
            · refine z_iconst S d_Mh_554 ?_
              refine z_goto (tgt := 559) S (by decide) d_Mh_555 ?_
              exact t559 x _
          refine lv_icmp_lt (tgt := 546) S.1 S.2.1 d_Mh_539 (by decide) (fun _ => ?_) (fun _ => ?_)
          · refine z_iconst S d_Mh_546 ?_
            exact t547 _
          · refine z_iconst S d_Mh_542 ?_
            refine z_goto (tgt := 547) S (by decide) d_Mh_543 ?_
            exact t547 _
        · intro hc2
          refine z_goto (tgt := 577) S (by decide) d_Mh_529 ?_
          exact ext _ _ _ _ _ ls locs (by omega) (by omega) hMH2 hX2 hlo (lv_sub hl [0, 1, 2, 3, 4, 5, 6, 7, 8, 9, 10] rfl)
      -- behind the first gallop, at 400
      have t400 : ∀ (u1 u2 : Int) (F : Nat → Option Nat) (X : Heap) (l1 l2 : Nat) (ls : Array Slot) (locs : List Loc), l1 + l2 < N + 1 → 1 ≤ l1 → 2 ≤ l2 → MH (kw wt) M f n b L1 L2 F l1 l2 → kw wt (f (b + l1 - 1)) ≤ kw wt (f (b + L1 + l2 - 1)) → HX K o a mg0 tb tl ss rb rl n F G H2 X → LO (N0 K) locs → lv_has ls 14 [(0, .ref o), (1, .int (zI b)), (2, .int (zI l1)), (4, .int (zI l2)), (5, .ref a), (6, .ref tb), (7, .int (zI 0)), (8, .int (zI ((b : Int) + l1 - 1))), (9, .int (zI ((l2 : Int) - 1))), (10, .int (zI ((b : Int) + l1 + l2 - 1))), (11, .int (zI mg)), (12, .int (zI u1)), (13, .int (zI u2))] → W p l e rm_Mh s m args below meth c X locs 1 4000 Q (F0 m 400 ls []) := by
        intro u1 u2 F X l1 l2 ls locs hNm h1 h2 hMH hle hX hlo hl
        have hMH0 := hMH
        obtain ⟨g1, g2, g5, -, -, -, g9⟩ := hMH0
        have hMS := hX.ms hM2 hMo hMa
        obtain ⟨yr, er, mr⟩ := hF (b + L1 + (l2 - 1)) (by omega) (by omega)
        have erG : G (l2 - 1) = some yr := by rw [hGf _ (by omega)]; exact er
        refine z_aload S (lv_at hl 4 rfl) d_Mh_400 ?_
        refine z_iload S (lv_at hl 9 rfl) d_Mh_402 ?_
        refine z_iinc (lv' := [(10, .int (zI (((b : Int) + l1 + l2 - 1) + (-1)))), (0, .ref o), (1, .int (zI b)), (2, .int (zI l1)), (4, .int (zI l2)), (5, .ref a), (6, .ref tb), (7, .int (zI 0)), (8, .int (zI ((b : Int) + l1 - 1))), (9, .int (zI ((l2 : Int) - 1))), (11, .int (zI mg)), (12, .int (zI u1)), (13, .int (zI u2))]) (q := 9) S hl rfl rfl (by decide) d_Mh_404 (fun ls hl => ?_)
        refine z_aload S (lv_at hl 6 rfl) d_Mh_407 ?_
        refine z_iload S (lv_at hl 9 rfl) d_Mh_409 ?_
        refine z_iinc (lv' := [(9, .int (zI (((l2 : Int) - 1) + (-1)))), (10, .int (zI (((b : Int) + l1 + l2 - 1) + (-1)))), (0, .ref o), (1, .int (zI b)), (2, .int (zI l1)), (4, .int (zI l2)), (5, .ref a), (6, .ref tb), (7, .int (zI 0)), (8, .int (zI ((b : Int) + l1 - 1))), (11, .int (zI mg)), (12, .int (zI u1)), (13, .int (zI u2))]) (q := 9) S hl rfl rfl (by decide) d_Mh_411 (fun ls hl => ?_)
        refine n_aald (l2 - 1) S hG.O hX.2.2.1 (by omega) (by omega) (by omega) erG d_Mh_414 ?_
        refine n_aast (b + l1 + l2 - 1) S hG.M hX.2.1 hlo hNa (by omega) ((hMS yr mr).anyM hG) (by omega) (by omega) d_Mh_415 (fun locs hlo => ?_)
        have hX2 := hX.set hoa hat (va_up F (b + l1 + l2 - 1) (some yr))
        have hMH2 := hMH.right (F' := va_up F (b + l1 + l2 - 1) (some yr)) (r := 1) hs hs2 hFb2 (by omega) (fun x => pt_upG (φ := fun x => f (x + L1 - l1)) (by omega) (by omega) (by rw [← er]; congr 1; omega) x) (fun _ j j1 j2 => by
          rw [show j = b + L1 + l2 - 1 by omega]
          exact hle)
        generalize va_up F (b + l1 + l2 - 1) (some yr) = F1 at hX2 hMH2 ⊢
        generalize X.setIfInBounds a (RA (cM_ K) n F1) = X1 at hX2 ⊢
        refine z_iinc (lv' := [(4, .int (zI (l2 + (-1)))), (9, .int (zI (((l2 : Int) - 1) + (-1)))), (10, .int (zI (((b : Int) + l1 + l2 - 1) + (-1)))), (0, .ref o), (1, .int (zI b)), (2, .int (zI l1)), (5, .ref a), (6, .ref tb), (7, .int (zI 0)), (8, .int (zI ((b : Int) + l1 - 1))), (11, .int (zI mg)), (12, .int (zI u1)), (13, .int (zI u2))]) (q := 5) S hl rfl rfl (by decide) d_Mh_416 (fun ls hl => ?_)
        refine z_iload S (lv_at hl 0 rfl) d_Mh_419 ?_
        refine z_iconst S d_Mh_421 ?_
        have hl : lv_has ls 14 [(0, .ref o), (1, .int (zI b)), (2, .int (zI l1)), (4, .int (zI (l2 + (-1)))), (5, .ref a), (6, .ref tb), (7, .int (zI 0)), (8, .int (zI ((b : Int) + l1 - 1))), (9, .int (zI (((l2 : Int) - 1) + (-1)))), (10, .int (zI (((b : Int) + l1 + l2 - 1) + (-1)))), (11, .int (zI mg)), (12, .int (zI u1)), (13, .int (zI u2))] := lv_sub hl [3, 4, 5, 0, 6, 7, 8, 9, 1, 2, 10, 11, 12] rfl
        have hl : lv_has ls 14 [(0, .ref o), (1, .int (zI b)), (2, .int (zI l1)), (4, .int (zI ((l2 - 1 : Nat) : Int))), (5, .ref a), (6, .ref tb), (7, .int (zI 0)), (8, .int (zI ((b : Int) + l1 - 1))), (9, .int (zI (((l2 : Int) - 1) + (-1)))), (10, .int (zI (((b : Int) + l1 + l2 - 1) + (-1)))), (11, .int (zI mg)), (12, .int (zI u1)), (13, .int (zI u2))] := lv_ren hl 3 rfl (show (l2 + (-1)) = ((l2 - 1 : Nat) : Int) by omega)
        have hl : lv_has ls 14 [(0, .ref o), (1, .int (zI b)), (2, .int (zI l1)), (4, .int (zI ((l2 - 1 : Nat) : Int))), (5, .ref a), (6, .ref tb), (7, .int (zI 0)), (8, .int (zI ((b : Int) + l1 - 1))), (9, .int (zI (((l2 - 1 : Nat) : Int) - 1))), (10, .int (zI (((b : Int) + l1 + l2 - 1) + (-1)))), (11, .int (zI mg)), (12, .int (zI u1)), (13, .int (zI u2))] := lv_ren hl 8 rfl (show (((l2 : Int) - 1) + (-1)) = (((l2 - 1 : Nat) : Int) - 1) by omega)
        have hl : lv_has ls 14 [(0, .ref o), (1, .int (zI b)), (2, .int (zI l1)), (4, .int (zI ((l2 - 1 : Nat) : Int))), (5, .ref a), (6, .ref tb), (7, .int (zI 0)), (8, .int (zI ((b : Int) + l1 - 1))), (9, .int (zI (((l2 - 1 : Nat) : Int) - 1))), (10, .int (zI ((b : Int) + l1 + (l2 - 1 : Nat) - 1))), (11, .int (zI mg)), (12, .int (zI u1)), (13, .int (zI u2))] := lv_ren hl 9 rfl (show (((b : Int) + l1 + l2 - 1) + (-1)) = ((b : Int) + l1 + (l2 - 1 : Nat) - 1) by omega)
        refine z_icmp_ne (tgt := 428) S (by decide) (by omega) (by omega) d_Mh_422 ?_ ?_
        · intro hc2
          have hMH20 := hMH2
          obtain ⟨k1, k2, k5, -, -, -, k9⟩ := hMH20
          have hMS1 := hX2.ms hM2 hMo hMa
          have hkX1 := hX2.keep hk2 hN hNa
          obtain ⟨yl, el, ml⟩ := hF (b + l1 - 1) (by omega) (by omega)
          have elF : F1 (b + l1 - 1) = some yl := by rw [k5 _ (by omega)]; exact el
          refine z_iload S (lv_at hl 3 rfl) d_Mh_428 ?_
          refine z_aload S (lv_at hl 4 rfl) d_Mh_430 ?_
          refine z_iload S (lv_at hl 7 rfl) d_Mh_432 ?_
          refine n_aald (b + l1 - 1) S hG.M hX2.2.1 (by omega) (by omega) (by omega) elF d_Mh_434 ?_
          refine z_cast S hG (hMS1 yl ml) tcl_C69 d_Mh_435 ?_
          refine z_aload S (lv_at hl 5 rfl) d_Mh_438 ?_
          refine z_iload S (lv_at hl 6 rfl) d_Mh_440 ?_
          refine z_iload S (lv_at hl 3 rfl) d_Mh_442 ?_
          refine z_iload S (lv_at hl 3 rfl) d_Mh_444 ?_
          refine z_iconst S d_Mh_446 ?_
          refine z_isub S d_Mh_447 ?_
          refine z_top (b := ((l2 - 1 - 1 : Nat) : Int)) (by omega) ?_
          refine z_callS (n := 5) S (ct_Gl l K true yl tb tl 0 (l2 - 1) (l2 - 1 - 1) G M wt nm (by omega) (by omega) (by omega) ml (hGF.sub (by omega) (by omega)) (hGs.sub (by omega) (by omega))) tc_Gl tm_C93 ts_Gl tn_C (by decide) (by decide) rfl hG hkX1 hlo ⟨hX2.2.2.1, hMS1⟩ hl rfl (Nat.le_of_ble_eq_true rfl) (by decide) d_Mh_448 (fun v H1 locs hp hlo => ?_)
          obtain ⟨r, rfl, rfl, r1, r2, r3⟩ := hp
          refine W.cs (cells' := 1) (slots' := 4000) rfl rfl ?_
          have hr1 : 1 ≤ r := by
            by_cases h : 1 ≤ r
            · exact h
            · exfalso
              have q1 := r3 0 (by omega) (by omega)
              rw [Nat.add_zero, hGf _ (by omega), Nat.add_zero] at q1
              have q2 := hfirst (b + l1 - 1) (by omega) (by omega)
              rw [kw_some el] at q2
              omega
          refine z_isub S d_Mh_451 ?_
          refine z_istore (lv' := [(13, .int (zI (((l2 - 1 : Nat) : Int) - r))), (0, .ref o), (1, .int (zI b)), (2, .int (zI l1)), (4, .int (zI ((l2 - 1 : Nat) : Int))), (5, .ref a), (6, .ref tb), (7, .int (zI 0)), (8, .int (zI ((b : Int) + l1 - 1))), (9, .int (zI (((l2 - 1 : Nat) : Int) - 1))), (10, .int (zI ((b : Int) + l1 + (l2 - 1 : Nat) - 1))), (11, .int (zI mg)), (12, .int (zI u1))]) S hl rfl (by decide) d_Mh_452 (fun ls hl => ?_)
          refine z_iload S (lv_at hl 0 rfl) d_Mh_454 ?_
          have hl : lv_has ls 14 [(0, .ref o), (1, .int (zI b)), (2, .int (zI l1)), (4, .int (zI ((l2 - 1 : Nat) : Int))), (5, .ref a), (6, .ref tb), (7, .int (zI 0)), (8, .int (zI ((b : Int) + l1 - 1))), (9, .int (zI (((l2 - 1 : Nat) : Int) - 1))), (10, .int (zI ((b : Int) + l1 + (l2 - 1 : Nat) - 1))), (11, .int (zI mg)), (12, .int (zI u1)), (13, .int (zI (((l2 - 1 : Nat) : Int) - r)))] := lv_sub hl [1, 2, 3, 4, 5, 6, 7, 8, 9, 10, 11, 12, 0] rfl
          refine z_if_eq (tgt := 506) S (by decide) (by omega) d_Mh_456 ?_ ?_
          · intro hc3
            have hr0 : r = l2 - 1 := by omega
            refine t506 _ _ _ _ _ _ ls locs (by omega) (by omega) (by omega) hMH2 ?_ hX2 hlo hl
            have := r2 (l2 - 1 - 1) (by omega)
            rw [Nat.zero_add, hGf _ (by omega)] at this
            rw [kw_some el, show b + L1 + (l2 - 1) - 1 = b + L1 + (l2 - 1 - 1) by omega]
            exact this
          · intro hc3
            refine z_iload S (lv_at hl 9 rfl) d_Mh_459 ?_
            refine z_iload S (lv_at hl 12 rfl) d_Mh_461 ?_
            refine z_isub S d_Mh_463 ?_
            refine z_istore (lv' := [(10, .int (zI (((b : Int) + l1 + (l2 - 1 : Nat) - 1) - (((l2 - 1 : Nat) : Int) - r)))), (0, .ref o), (1, .int (zI b)), (2, .int (zI l1)), (4, .int (zI ((l2 - 1 : Nat) : Int))), (5, .ref a), (6, .ref tb), (7, .int (zI 0)), (8, .int (zI ((b : Int) + l1 - 1))), (9, .int (zI (((l2 - 1 : Nat) : Int) - 1))), (11, .int (zI mg)), (12, .int (zI u1)), (13, .int (zI (((l2 - 1 : Nat) : Int) - r)))]) S hl rfl (by decide) d_Mh_464 (fun ls hl => ?_)
            refine z_iload S (lv_at hl 9 rfl) d_Mh_466 ?_
            refine z_iload S (lv_at hl 12 rfl) d_Mh_468 ?_
            refine z_isub S d_Mh_470 ?_
            refine z_istore (lv' := [(9, .int (zI ((((l2 - 1 : Nat) : Int) - 1) - (((l2 - 1 : Nat) : Int) - r)))), (10, .int (zI (((b : Int) + l1 + (l2 - 1 : Nat) - 1) - (((l2 - 1 : Nat) : Int) - r)))), (0, .ref o), (1, .int (zI b)), (2, .int (zI l1)), (4, .int (zI ((l2 - 1 : Nat) : Int))), (5, .ref a), (6, .ref tb), (7, .int (zI 0)), (8, .int (zI ((b : Int) + l1 - 1))), (11, .int (zI mg)), (12, .int (zI u1)), (13, .int (zI (((l2 - 1 : Nat) : Int) - r)))]) S hl rfl (by decide) d_Mh_471 (fun ls hl => ?_)
            refine z_iload S (lv_at hl 5 rfl) d_Mh_473 ?_
            refine z_iload S (lv_at hl 12 rfl) d_Mh_475 ?_
            refine z_isub S d_Mh_477 ?_
            refine z_istore (lv' := [(4, .int (zI (((l2 - 1 : Nat) : Int) - (((l2 - 1 : Nat) : Int) - r)))), (9, .int (zI ((((l2 - 1 : Nat) : Int) - 1) - (((l2 - 1 : Nat) : Int) - r)))), (10, .int (zI (((b : Int) + l1 + (l2 - 1 : Nat) - 1) - (((l2 - 1 : Nat) : Int) - r)))), (0, .ref o), (1, .int (zI b)), (2, .int (zI l1)), (5, .ref a), (6, .ref tb), (7, .int (zI 0)), (8, .int (zI ((b : Int) + l1 - 1))), (11, .int (zI mg)), (12, .int (zI u1)), (13, .int (zI (((l2 - 1 : Nat) : Int) - r)))]) S hl rfl (by decide) d_Mh_478 (fun ls hl => ?_)
            refine z_aload S (lv_at hl 7 rfl) d_Mh_480 ?_
            refine z_iload S (lv_at hl 1 rfl) d_Mh_482 ?_
            refine z_iconst S d_Mh_484 ?_
            refine z_iadd S d_Mh_485 ?_
            refine z_aload S (lv_at hl 6 rfl) d_Mh_486 ?_
            refine z_iload S (lv_at hl 2 rfl) d_Mh_488 ?_
            refine z_iconst S d_Mh_490 ?_
            refine z_iadd S d_Mh_491 ?_
            refine z_iload S (lv_at hl 12 rfl) d_Mh_492 ?_
            refine n_copy r (b + l1 + r) (l2 - 1 - r) S hG.O hG.M hX2.2.2.1 hX2.2.1 hlo hNa (by omega) (by omega) (by omega) (by omega) (by omega) (by omega) (by omega) (fun j j1 j2 => ?_) (by decide) hl (by decide) d_Mh_494 (fun locs hlo => ?_)
            · rw [hGf j (by omega)]
              obtain ⟨y, e1, m1⟩ := hF (b + L1 + j) (by omega) (by omega)
              exact ⟨y, e1, (hMS1 y m1).anyM hG⟩
            have hX3 := hX2.set hoa hat (va_cpy G F1 r (b + l1 + r) (l2 - 1 - r))
            have hMH3 := hMH2.right (F' := va_cpy G F1 r (b + l1 + r) (l2 - 1 - r)) (r := l2 - 1 - r) hs hs2 hFb2 (by omega) (fun x => pt_cpyG (φ := fun x => f (x + L1 - l1)) (by omega) (by omega) (fun j hj => by rw [hGf _ (by omega)]; congr 1; omega) x) (fun _ j j1 j2 => by
              have := r3 (j - (b + L1)) (by omega) (by omega)
              rw [Nat.zero_add, hGf _ (by omega), show b + L1 + (j - (b + L1)) = j by omega] at this
              rw [kw_some el]
              exact this)
            rw [show l2 - 1 - (l2 - 1 - r) = r by omega] at hMH3
            refine z_iload S (lv_at hl 0 rfl) d_Mh_497 ?_
            refine z_iconst S d_Mh_499 ?_
            have hl : lv_has ls 14 [(0, .ref o), (1, .int (zI b)), (2, .int (zI l1)), (4, .int (zI (((l2 - 1 : Nat) : Int) - (((l2 - 1 : Nat) : Int) - r)))), (5, .ref a), (6, .ref tb), (7, .int (zI 0)), (8, .int (zI ((b : Int) + l1 - 1))), (9, .int (zI ((((l2 - 1 : Nat) : Int) - 1) - (((l2 - 1 : Nat) : Int) - r)))), (10, .int (zI (((b : Int) + l1 + (l2 - 1 : Nat) - 1) - (((l2 - 1 : Nat) : Int) - r)))), (11, .int (zI mg)), (12, .int (zI u1)), (13, .int (zI (((l2 - 1 : Nat) : Int) - r)))] := lv_sub hl [3, 4, 5, 0, 6, 7, 8, 9, 1, 2, 10, 11, 12] rfl
            have hl : lv_has ls 14 [(0, .ref o), (1, .int (zI b)), (2, .int (zI l1)), (4, .int (zI (r : Int))), (5, .ref a), (6, .ref tb), (7, .int (zI 0)), (8, .int (zI ((b : Int) + l1 - 1))), (9, .int (zI ((((l2 - 1 : Nat) : Int) - 1) - (((l2 - 1 : Nat) : Int) - r)))), (10, .int (zI (((b : Int) + l1 + (l2 - 1 : Nat) - 1) - (((l2 - 1 : Nat) : Int) - r)))), (11, .int (zI mg)), (12, .int (zI u1)), (13, .int (zI (((l2 - 1 : Nat) : Int) - r)))] := lv_ren hl 3 rfl (show (((l2 - 1 : Nat) : Int) - (((l2 - 1 : Nat) : Int) - r)) = (r : Int) by omega)
            have hl : lv_has ls 14 [(0, .ref o), (1, .int (zI b)), (2, .int (zI l1)), (4, .int (zI (r : Int))), (5, .ref a), (6, .ref tb), (7, .int (zI 0)), (8, .int (zI ((b : Int) + l1 - 1))), (9, .int (zI ((r : Int) - 1))), (10, .int (zI (((b : Int) + l1 + (l2 - 1 : Nat) - 1) - (((l2 - 1 : Nat) : Int) - r)))), (11, .int (zI mg)), (12, .int (zI u1)), (13, .int (zI (((l2 - 1 : Nat) : Int) - r)))] := lv_ren hl 8 rfl (show ((((l2 - 1 : Nat) : Int) - 1) - (((l2 - 1 : Nat) : Int) - r)) = ((r : Int) - 1) by omega)
            have hl : lv_has ls 14 [(0, .ref o), (1, .int (zI b)), (2, .int (zI l1)), (4, .int (zI (r : Int))), (5, .ref a), (6, .ref tb), (7, .int (zI 0)), (8, .int (zI ((b : Int) + l1 - 1))), (9, .int (zI ((r : Int) - 1))), (10, .int (zI ((b : Int) + l1 + r - 1))), (11, .int (zI mg)), (12, .int (zI u1)), (13, .int (zI (((l2 - 1 : Nat) : Int) - r)))] := lv_ren hl 9 rfl (show (((b : Int) + l1 + (l2 - 1 : Nat) - 1) - (((l2 - 1 : Nat) : Int) - r)) = ((b : Int) + l1 + r - 1) by omega)
            refine z_icmp_gt (tgt := 506) S (by decide) (by omega) (by omega) d_Mh_500 ?_ ?_
            · intro hc4
              refine t506 _ _ _ _ _ _ ls locs (by omega) (by omega) (by omega) hMH3 ?_ hX3 hlo hl
              have := r2 (r - 1) (by omega)
              rw [Nat.zero_add, hGf _ (by omega)] at this
              rw [kw_some el, show b + L1 + r - 1 = b + L1 + (r - 1) by omega]
              exact this
            · intro hc4
              refine z_goto (tgt := 577) S (by decide) d_Mh_503 ?_
              exact ext _ _ _ _ _ ls locs (by omega) (by omega) hMH3 hX3 hlo (lv_sub hl [0, 1, 2, 3, 4, 5, 6, 7, 8, 9, 10] rfl)
        · intro hc2
          refine z_goto (tgt := 577) S (by decide) d_Mh_425 ?_
          exact ext _ _ _ _ _ ls locs (by omega) (by omega) hMH2 hX2 hlo (lv_sub hl [0, 1, 2, 3, 4, 5, 6, 7, 8, 9, 10] rfl)
      refine z_asrt (tgt := 330) S hG hkX tw_asrt (by decide) d_Mh_306 d_Mh_309 ?_
      refine z_iload_n S rfl (lv_at hl 2 rfl) d_Mh_330 ?_
      refine z_aload S (lv_at hl 5 rfl) d_Mh_331 ?_
      refine z_iload S (lv_at hl 8 rfl) d_Mh_333 ?_
      refine n_aald (l2 - 1) S hG.O hX.2.2.1 (by omega) (by omega) (by omega) erG d_Mh_335 ?_
      refine z_cast S hG (hMS yr mr) tcl_C69 d_Mh_336 ?_
      refine z_aload S (lv_at hl 4 rfl) d_Mh_339 ?_
      refine z_iload_n S rfl (lv_at hl 1 rfl) d_Mh_341 ?_
      refine z_iload_n S rfl (lv_at hl 2 rfl) d_Mh_342 ?_
      refine z_iload_n S rfl (lv_at hl 2 rfl) d_Mh_343 ?_
      refine z_iconst S d_Mh_344 ?_
      refine z_isub S d_Mh_345 ?_
      refine z_top (b := ((l1 - 1 : Nat) : Int)) (by omega) ?_
      refine z_callS (n := 5) S (ct_Gr l K false yr a n b l1 (l1 - 1) F M wt nm (by omega) (by omega) (by omega) mr (g9.sub (by omega) (by omega)) (Srt.congr (hs.sub (by omega) (by omega)) (fun x x1 x2 => g5 x (by omega)))) tc_Gr tm_C89 ts_Gr tn_C (by decide) (by decide) rfl hG hkX hlo ⟨hX.2.1, hMS⟩ hl rfl (Nat.le_of_ble_eq_true rfl) (by decide) d_Mh_346 (fun v H1 locs hp hlo => ?_)
      obtain ⟨r, rfl, rfl, r1, r2, r3⟩ := hp
      refine W.cs (cells' := 1) (slots' := 4000) rfl rfl ?_
      refine z_isub S d_Mh_349 ?_
      refine z_istore (lv' := [(12, .int (zI (l1 - r))), (0, .ref o), (1, .int (zI b)), (2, .int (zI l1)), (4, .int (zI l2)), (5, .ref a), (6, .ref tb), (7, .int (zI 0)), (8, .int (zI ((b : Int) + l1 - 1))), (9, .int (zI ((l2 : Int) - 1))), (10, .int (zI ((b : Int) + l1 + l2 - 1))), (11, .int (zI mg)), (13, .int (zI u2))]) S hl rfl (by decide) d_Mh_350 (fun ls hl => ?_)
      refine z_iload S (lv_at hl 0 rfl) d_Mh_352 ?_
      have hl : lv_has ls 14 [(0, .ref o), (1, .int (zI b)), (2, .int (zI l1)), (4, .int (zI l2)), (5, .ref a), (6, .ref tb), (7, .int (zI 0)), (8, .int (zI ((b : Int) + l1 - 1))), (9, .int (zI ((l2 : Int) - 1))), (10, .int (zI ((b : Int) + l1 + l2 - 1))), (11, .int (zI mg)), (12, .int (zI ((l1 : Int) - r))), (13, .int (zI u2))] := lv_sub hl [1, 2, 3, 4, 5, 6, 7, 8, 9, 10, 11, 0, 12] rfl
      refine z_if_eq (tgt := 400) S (by decide) (by omega) d_Mh_354 ?_ ?_
      · intro hc3
        have hr0 : r = l1 := by omega
        refine t400 _ _ _ _ _ _ ls locs (by omega) (by omega) (by omega) hMH ?_ hX hlo hl
        have := r2 (l1 - 1) (by omega)
        rw [g5 _ (by omega), show b + (l1 - 1) = b + l1 - 1 by omega] at this
        rw [show b + L1 + l2 - 1 = b + L1 + (l2 - 1) by omega, kw_some er]
        exact this
      · intro hc3
        refine z_iload S (lv_at hl 9 rfl) d_Mh_357 ?_
        refine z_iload S (lv_at hl 11 rfl) d_Mh_359 ?_
        refine z_isub S d_Mh_361 ?_
        refine z_istore (lv' := [(10, .int (zI (((b : Int) + l1 + l2 - 1) - ((l1 : Int) - r)))), (0, .ref o), (1, .int (zI b)), (2, .int (zI l1)), (4, .int (zI l2)), (5, .ref a), (6, .ref tb), (7, .int (zI 0)), (8, .int (zI ((b : Int) + l1 - 1))), (9, .int (zI ((l2 : Int) - 1))), (11, .int (zI mg)), (12, .int (zI ((l1 : Int) - r))), (13, .int (zI u2))]) S hl rfl (by decide) d_Mh_362 (fun ls hl => ?_)
        refine z_iload S (lv_at hl 8 rfl) d_Mh_364 ?_
        refine z_iload S (lv_at hl 11 rfl) d_Mh_366 ?_
        refine z_isub S d_Mh_368 ?_
        refine z_istore (lv' := [(8, .int (zI (((b : Int) + l1 - 1) - ((l1 : Int) - r)))), (10, .int (zI (((b : Int) + l1 + l2 - 1) - ((l1 : Int) - r)))), (0, .ref o), (1, .int (zI b)), (2, .int (zI l1)), (4, .int (zI l2)), (5, .ref a), (6, .ref tb), (7, .int (zI 0)), (9, .int (zI ((l2 : Int) - 1))), (11, .int (zI mg)), (12, .int (zI ((l1 : Int) - r))), (13, .int (zI u2))]) S hl rfl (by decide) d_Mh_369 (fun ls hl => ?_)
        refine z_iload_n S rfl (lv_at hl 4 rfl) d_Mh_371 ?_
        refine z_iload S (lv_at hl 11 rfl) d_Mh_372 ?_
        refine z_isub S d_Mh_374 ?_
        refine z_istore_n (lv' := [(2, .int (zI (l1 - ((l1 : Int) - r)))), (8, .int (zI (((b : Int) + l1 - 1) - ((l1 : Int) - r)))), (10, .int (zI (((b : Int) + l1 + l2 - 1) - ((l1 : Int) - r)))), (0, .ref o), (1, .int (zI b)), (4, .int (zI l2)), (5, .ref a), (6, .ref tb), (7, .int (zI 0)), (9, .int (zI ((l2 : Int) - 1))), (11, .int (zI mg)), (12, .int (zI ((l1 : Int) - r))), (13, .int (zI u2))]) S rfl hl rfl (by decide) d_Mh_375 (fun ls hl => ?_)
        refine z_aload S (lv_at hl 6 rfl) d_Mh_376 ?_
        refine z_iload S (lv_at hl 1 rfl) d_Mh_378 ?_
        refine z_iconst S d_Mh_380 ?_
        refine z_iadd S d_Mh_381 ?_
        refine z_aload S (lv_at hl 6 rfl) d_Mh_382 ?_
        refine z_iload S (lv_at hl 2 rfl) d_Mh_384 ?_
        refine z_iconst S d_Mh_386 ?_
        refine z_iadd S d_Mh_387 ?_
        refine z_iload S (lv_at hl 11 rfl) d_Mh_388 ?_
        refine n_copy (b + r) (b + r + l2) (l1 - r) S hG.M hG.M hX.2.1 hX.2.1 hlo hNa (by omega) (by omega) (by omega) (by omega) (by omega) (by omega) (by omega) (fun j j1 j2 => ?_) (by decide) hl (by decide) d_Mh_390 (fun locs hlo => ?_)
        · obtain ⟨y, e1, m1⟩ := g9 j (by omega) (by omega)
          exact ⟨y, e1, (hMS y m1).anyM hG⟩
        have hX3 := hX.set hoa hat (va_cpy F F (b + r) (b + r + l2) (l1 - r))
        have hMH3 := hMH.left (F' := va_cpy F F (b + r) (b + r + l2) (l1 - r)) (r := l1 - r) hs hs2 hFb (by omega) (fun x => pt_cpyG (φ := fun x => f (x - l2)) (by omega) (by omega) (fun j hj => by rw [g5 _ (by omega)]; congr 1; omega) x) (fun _ j j1 j2 => by
          have := r3 (j - b) (by omega) (by omega)
          rw [g5 _ (by omega), show b + (j - b) = j by omega] at this
          rw [show b + L1 + l2 - 1 = b + L1 + (l2 - 1) by omega, kw_some er]
          exact this)
        rw [show l1 - (l1 - r) = r by omega] at hMH3
        refine z_iload_n S rfl (lv_at hl 0 rfl) d_Mh_393 ?_
        have hl : lv_has ls 14 [(0, .ref o), (1, .int (zI b)), (2, .int (zI ((l1 : Int) - ((l1 : Int) - r)))), (4, .int (zI l2)), (5, .ref a), (6, .ref tb), (7, .int (zI 0)), (8, .int (zI (((b : Int) + l1 - 1) - ((l1 : Int) - r)))), (9, .int (zI ((l2 : Int) - 1))), (10, .int (zI (((b : Int) + l1 + l2 - 1) - ((l1 : Int) - r)))), (11, .int (zI mg)), (12, .int (zI ((l1 : Int) - r))), (13, .int (zI u2))] := lv_sub hl [3, 4, 0, 5, 6, 7, 8, 1, 9, 2, 10, 11, 12] rfl
        have hl : lv_has ls 14 [(0, .ref o), (1, .int (zI b)), (2, .int (zI (r : Int))), (4, .int (zI l2)), (5, .ref a), (6, .ref tb), (7, .int (zI 0)), (8, .int (zI (((b : Int) + l1 - 1) - ((l1 : Int) - r)))), (9, .int (zI ((l2 : Int) - 1))), (10, .int (zI (((b : Int) + l1 + l2 - 1) - ((l1 : Int) - r)))), (11, .int (zI mg)), (12, .int (zI ((l1 : Int) - r))), (13, .int (zI u2))] := lv_ren hl 2 rfl (show ((l1 : Int) - ((l1 : Int) - r)) = (r : Int) by omega)
        have hl : lv_has ls 14 [(0, .ref o), (1, .int (zI b)), (2, .int (zI (r : Int))), (4, .int (zI l2)), (5, .ref a), (6, .ref tb), (7, .int (zI 0)), (8, .int (zI ((b : Int) + r - 1))), (9, .int (zI ((l2 : Int) - 1))), (10, .int (zI (((b : Int) + l1 + l2 - 1) - ((l1 : Int) - r)))), (11, .int (zI mg)), (12, .int (zI ((l1 : Int) - r))), (13, .int (zI u2))] := lv_ren hl 7 rfl (show (((b : Int) + l1 - 1) - ((l1 : Int) - r)) = ((b : Int) + r - 1) by omega)
        have hl : lv_has ls 14 [(0, .ref o), (1, .int (zI b)), (2, .int (zI (r : Int))), (4, .int (zI l2)), (5, .ref a), (6, .ref tb), (7, .int (zI 0)), (8, .int (zI ((b : Int) + r - 1))), (9, .int (zI ((l2 : Int) - 1))), (10, .int (zI ((b : Int) + r + l2 - 1))), (11, .int (zI mg)), (12, .int (zI ((l1 : Int) - r))), (13, .int (zI u2))] := lv_ren hl 9 rfl (show (((b : Int) + l1 + l2 - 1) - ((l1 : Int) - r)) = ((b : Int) + r + l2 - 1) by omega)
        refine z_if_ne (tgt := 400) S (by decide) (by omega) d_Mh_394 ?_ ?_
        · intro hc4
          refine t400 _ _ _ _ _ _ ls locs (by omega) (by omega) (by omega) hMH3 ?_ hX3 hlo hl
          have := r2 (r - 1) (by omega)
          rw [g5 _ (by omega), show b + (r - 1) = b + r - 1 by omega] at this
          rw [show b + L1 + l2 - 1 = b + L1 + (l2 - 1) by omega, kw_some er]
          exact this
        · intro hc4
          refine z_goto (tgt := 577) S (by decide) d_Mh_397 ?_
          exact ext _ _ _ _ _ ls locs (by omega) (by omega) hMH3 hX3 hlo (lv_sub hl [0, 1, 2, 3, 4, 5, 6, 7, 8, 9, 10] rfl)
end MHI
end
section
/-! mergeHi's contract -/
set_option maxRecDepth 100000
theorem d_Mh_0 : decode b_Mh 0 = .ok (.getstatic 37, 3) := by decide +kernel
theorem d_Mh_3 : decode b_Mh 3 = .ok (.ifCond .ne 27, 3) := by decide +kernel
theorem d_Mh_30 : decode b_Mh 30 = .ok (.aload_n 0, 1) := by decide +kernel
theorem d_Mh_31 : decode b_Mh 31 = .ok (.getfield 16, 3) := by decide +kernel
theorem d_Mh_34 : decode b_Mh 34 = .ok (.astore 5, 2) := by decide +kernel
theorem d_Mh_36 : decode b_Mh 36 = .ok (.aload_n 0, 1) := by decide +kernel
theorem d_Mh_37 : decode b_Mh 37 = .ok (.iload 4, 2) := by decide +kernel
theorem d_Mh_39 : decode b_Mh 39 = .ok (.invokevirtual 103, 3) := by decide +kernel
theorem d_Mh_42 : decode b_Mh 42 = .ok (.astore 6, 2) := by decide +kernel
theorem d_Mh_44 : decode b_Mh 44 = .ok (.aload_n 0, 1) := by decide +kernel
theorem d_Mh_45 : decode b_Mh 45 = .ok (.getfield 23, 3) := by decide +kernel
theorem d_Mh_48 : decode b_Mh 48 = .ok (.istore 7, 2) := by decide +kernel
theorem d_Mh_50 : decode b_Mh 50 = .ok (.aload 5, 2) := by decide +kernel
theorem d_Mh_52 : decode b_Mh 52 = .ok (.iload_n 3, 1) := by decide +kernel
theorem d_Mh_53 : decode b_Mh 53 = .ok (.aload 6, 2) := by decide +kernel
theorem d_Mh_55 : decode b_Mh 55 = .ok (.iload 7, 2) := by decide +kernel
theorem d_Mh_57 : decode b_Mh 57 = .ok (.iload 4, 2) := by decide +kernel
theorem d_Mh_59 : decode b_Mh 59 = .ok (.invokestatic 75, 3) := by decide +kernel
theorem d_Mh_62 : decode b_Mh 62 = .ok (.iload_n 1, 1) := by decide +kernel
theorem d_Mh_63 : decode b_Mh 63 = .ok (.iload_n 2, 1) := by decide +kernel
theorem d_Mh_64 : decode b_Mh 64 = .ok (.iadd, 1) := by decide +kernel
theorem d_Mh_65 : decode b_Mh 65 = .ok (.iconst 1, 1) := by decide +kernel
theorem d_Mh_66 : decode b_Mh 66 = .ok (.isub, 1) := by decide +kernel
theorem d_Mh_67 : decode b_Mh 67 = .ok (.istore 8, 2) := by decide +kernel
theorem d_Mh_69 : decode b_Mh 69 = .ok (.iload 7, 2) := by decide +kernel
theorem d_Mh_71 : decode b_Mh 71 = .ok (.iload 4, 2) := by decide +kernel
theorem d_Mh_73 : decode b_Mh 73 = .ok (.iadd, 1) := by decide +kernel
theorem d_Mh_74 : decode b_Mh 74 = .ok (.iconst 1, 1) := by decide +kernel
theorem d_Mh_75 : decode b_Mh 75 = .ok (.isub, 1) := by decide +kernel
theorem d_Mh_76 : decode b_Mh 76 = .ok (.istore 9, 2) := by decide +kernel
theorem d_Mh_78 : decode b_Mh 78 = .ok (.iload_n 3, 1) := by decide +kernel
theorem d_Mh_79 : decode b_Mh 79 = .ok (.iload 4, 2) := by decide +kernel
theorem d_Mh_81 : decode b_Mh 81 = .ok (.iadd, 1) := by decide +kernel
theorem d_Mh_82 : decode b_Mh 82 = .ok (.iconst 1, 1) := by decide +kernel
theorem d_Mh_83 : decode b_Mh 83 = .ok (.isub, 1) := by decide +kernel
theorem d_Mh_84 : decode b_Mh 84 = .ok (.istore 10, 2) := by decide +kernel
theorem d_Mh_86 : decode b_Mh 86 = .ok (.aload 5, 2) := by decide +kernel
theorem d_Mh_88 : decode b_Mh 88 = .ok (.iload 10, 2) := by decide +kernel
theorem d_Mh_90 : decode b_Mh 90 = .ok (.iinc 10 (-1), 3) := by decide +kernel
theorem d_Mh_93 : decode b_Mh 93 = .ok (.aload 5, 2) := by decide +kernel
theorem d_Mh_95 : decode b_Mh 95 = .ok (.iload 8, 2) := by decide +kernel
theorem d_Mh_97 : decode b_Mh 97 = .ok (.iinc 8 (-1), 3) := by decide +kernel
theorem d_Mh_100 : decode b_Mh 100 = .ok (.aaload, 1) := by decide +kernel
theorem d_Mh_101 : decode b_Mh 101 = .ok (.aastore, 1) := by decide +kernel
theorem d_Mh_102 : decode b_Mh 102 = .ok (.iinc 2 (-1), 3) := by decide +kernel
theorem d_Mh_105 : decode b_Mh 105 = .ok (.iload_n 2, 1) := by decide +kernel
theorem d_Mh_106 : decode b_Mh 106 = .ok (.ifCond .ne 22, 3) := by decide +kernel
theorem d_Mh_109 : decode b_Mh 109 = .ok (.aload 6, 2) := by decide +kernel
theorem d_Mh_111 : decode b_Mh 111 = .ok (.iload 7, 2) := by decide +kernel
theorem d_Mh_113 : decode b_Mh 113 = .ok (.aload 5, 2) := by decide +kernel
theorem d_Mh_115 : decode b_Mh 115 = .ok (.iload 10, 2) := by decide +kernel
theorem d_Mh_117 : decode b_Mh 117 = .ok (.iload 4, 2) := by decide +kernel
theorem d_Mh_119 : decode b_Mh 119 = .ok (.iconst 1, 1) := by decide +kernel
theorem d_Mh_120 : decode b_Mh 120 = .ok (.isub, 1) := by decide +kernel
theorem d_Mh_121 : decode b_Mh 121 = .ok (.isub, 1) := by decide +kernel
theorem d_Mh_122 : decode b_Mh 122 = .ok (.iload 4, 2) := by decide +kernel
theorem d_Mh_124 : decode b_Mh 124 = .ok (.invokestatic 75, 3) := by decide +kernel
theorem d_Mh_127 : decode b_Mh 127 = .ok (.return_, 1) := by decide +kernel
theorem d_Mh_128 : decode b_Mh 128 = .ok (.iload 4, 2) := by decide +kernel
theorem d_Mh_130 : decode b_Mh 130 = .ok (.iconst 1, 1) := by decide +kernel
theorem d_Mh_131 : decode b_Mh 131 = .ok (.if_icmp .ne 42, 3) := by decide +kernel
theorem d_Mh_134 : decode b_Mh 134 = .ok (.iload 10, 2) := by decide +kernel
theorem d_Mh_136 : decode b_Mh 136 = .ok (.iload_n 2, 1) := by decide +kernel
theorem d_Mh_137 : decode b_Mh 137 = .ok (.isub, 1) := by decide +kernel
theorem d_Mh_138 : decode b_Mh 138 = .ok (.istore 10, 2) := by decide +kernel
theorem d_Mh_140 : decode b_Mh 140 = .ok (.iload 8, 2) := by decide +kernel
theorem d_Mh_142 : decode b_Mh 142 = .ok (.iload_n 2, 1) := by decide +kernel
theorem d_Mh_143 : decode b_Mh 143 = .ok (.isub, 1) := by decide +kernel
theorem d_Mh_144 : decode b_Mh 144 = .ok (.istore 8, 2) := by decide +kernel
theorem d_Mh_146 : decode b_Mh 146 = .ok (.aload 5, 2) := by decide +kernel
theorem d_Mh_148 : decode b_Mh 148 = .ok (.iload 8, 2) := by decide +kernel
theorem d_Mh_150 : decode b_Mh 150 = .ok (.iconst 1, 1) := by decide +kernel
theorem d_Mh_151 : decode b_Mh 151 = .ok (.iadd, 1) := by decide +kernel
theorem d_Mh_152 : decode b_Mh 152 = .ok (.aload 5, 2) := by decide +kernel
theorem d_Mh_154 : decode b_Mh 154 = .ok (.iload 10, 2) := by decide +kernel
theorem d_Mh_156 : decode b_Mh 156 = .ok (.iconst 1, 1) := by decide +kernel
theorem d_Mh_157 : decode b_Mh 157 = .ok (.iadd, 1) := by decide +kernel
theorem d_Mh_158 : decode b_Mh 158 = .ok (.iload_n 2, 1) := by decide +kernel
theorem d_Mh_159 : decode b_Mh 159 = .ok (.invokestatic 75, 3) := by decide +kernel
theorem d_Mh_162 : decode b_Mh 162 = .ok (.aload 5, 2) := by decide +kernel
theorem d_Mh_164 : decode b_Mh 164 = .ok (.iload 10, 2) := by decide +kernel
theorem d_Mh_166 : decode b_Mh 166 = .ok (.aload 6, 2) := by decide +kernel
theorem d_Mh_168 : decode b_Mh 168 = .ok (.iload 9, 2) := by decide +kernel
theorem d_Mh_170 : decode b_Mh 170 = .ok (.aaload, 1) := by decide +kernel
theorem d_Mh_171 : decode b_Mh 171 = .ok (.aastore, 1) := by decide +kernel
theorem d_Mh_172 : decode b_Mh 172 = .ok (.return_, 1) := by decide +kernel
theorem d_Mh_173 : decode b_Mh 173 = .ok (.aload_n 0, 1) := by decide +kernel
theorem d_Mh_174 : decode b_Mh 174 = .ok (.getfield 9, 3) := by decide +kernel
theorem d_Mh_177 : decode b_Mh 177 = .ok (.istore 11, 2) := by decide +kernel
set_option maxHeartbeats 4000000 in
theorem ct_Mh (l : Launch) (K : KD) (o a : Nat) (mg : Int) (tb tl : Nat) (ss : Int) (rb rl n b L1 L2 : Nat) (f g : Nat → Option Nat) (M : Nat → Prop) (wt nm : Nat → Int32) (hn : n ≤ 8000) (htl : tl ≤ 4000) (hN : N0 K ≤ o) (hNa : N0 K ≤ a) (hNt : N0 K ≤ tb) (hoa : o ≠ a) (hot : o ≠ tb) (hat : a ≠ tb) (hMo : ¬ M o) (hMa : ¬ M a) (hMt : ¬ M tb) (h1 : 0 < L1) (h2 : 0 < L2) (hbn : b + L1 + L2 ≤ n) (hL2 : L2 ≤ n / 2) (hF : Full M f 0 n) (hs : Srt (kw wt) f b L1) (hs2 : Srt (kw wt) f (b + L1) L2) (hfirst : kw wt (f (b + L1)) < kw wt (f b)) (hlast : kw wt (f (b + L1 + L2 - 1)) < kw wt (f (b + L1 - 1))) :
    CT l K y_Mh c_Mh rm_Mh [.ref o, .int (zI b), .int (zI L1), .int (zI (b + L1 : Nat)), .int (zI L2)] (Wmg K o a mg tb tl ss rb rl n f g M wt nm) (Pmg K o a tb ss rb rl n b L1 L2 f M wt) := by
  refine z_met (by decide) (Nat.le_of_ble_eq_true rfl) ?_
  intro p e s m below meth c ls S hr hlk hnm hG hP hl
  obtain ⟨hO, ha, ht, hM⟩ := hP
  have hl : lv_has ls 14 [(0, .ref o), (1, .int (zI b)), (2, .int (zI L1)), (3, .int (zI (b + L1 : Nat))), (4, .int (zI L2))] := hl
  have hfirst' : ∀ j, b ≤ j → j < b + L1 → kw wt (f (b + L1)) < kw wt (f j) := fun j j1 j2 => by
    have := hs.le (a := b) (b := j) (by omega) j1 (by omega)
    omega
  generalize hQ : MQ below (QH (Pmg K o a tb ss rb rl n b L1 L2 f M wt)) [Value.ref o, .int (zI b), .int (zI L1), .int (zI (b + L1 : Nat)), .int (zI L2)].toArray s rm_Mh.cells rm_Mh.slots (fun q => N0 K ≤ q) = Q
  generalize hargs : [Value.ref o, .int (zI b), .int (zI L1), .int (zI (b + L1 : Nat)), .int (zI L2)].toArray = args at S
  refine z_asrt (tgt := 30) S hG Keep.rf tw_asrt (by decide) d_Mh_0 d_Mh_3 ?_
  refine z_aload_n S rfl (lv_at hl 0 rfl) d_Mh_30 ?_
  refine z_get (C := "java/util/ComparableTimSort") (T := F_Cts) (N := 8) (ci := 2) S tin_Cts hG hO rfl 0 (by decide) tf_C16 rfl rfl d_Mh_31 ?_
  refine z_astore (lv' := [(5, .ref a), (0, .ref o), (1, .int (zI b)), (2, .int (zI L1)), (3, .int (zI ((b + L1 : Nat) : Int))), (4, .int (zI L2))]) S hl rfl (by decide) d_Mh_34 (fun ls hl => ?_)
  refine z_aload_n S rfl (lv_at hl 1 rfl) d_Mh_36 ?_
  refine z_iload S (lv_at hl 5 rfl) d_Mh_37 ?_
  refine z_callV (C := "java/util/ComparableTimSort") (As := [.int (zI L2)]) (n := 1) S (ct_Ce l K o a mg tb tl ss rb rl L2 n f g hn h2 hL2 htl hN hoa hot) tc_Ce tm_C103 ti_Ce tse_Ce tn_C (by decide) (by decide) rfl hG Keep.rf LO.nil (hO.recv hG) ⟨hO, ha, ht⟩ hl rfl (by decide) (by decide) d_Mh_39 (fun v H1 locs hp hlo => ?_)
  obtain ⟨tb', tl', g', rfl, q1, q2, hO1, ht1, q3, q4, q5⟩ := hp
  refine W.cs (cells' := 1) (slots' := 4000) rfl rfl ?_
  have la := at_lt ha
  have lt := at_lt ht
  have lo := hO.lt
  have hsz := hG.2.2.2
  have hat' : a ≠ tb' := by rcases q3 with h | h <;> omega
  have hot' : o ≠ tb' := by rcases q3 with h | h <;> omega
  have hNt' : N0 K ≤ tb' := by rcases q3 with h | h <;> omega
  have hMt' : ¬ M tb' := by
    rcases q3 with h | h
    · rw [h]; exact hMt
    · intro hm
      have := (hM tb' hm).lt
      omega
  have ha1 : H1[a]? = some (RA (cM_ K) n f) := by rw [q5 a la (Ne.symm hoa)]; exact ha
  have hM1 : MS K M wt nm H1 := hM.kept (fun y hy => q5 y (hM y hy).lt (fun e => hMo (e ▸ hy)))
  have hk1 : Keep (N0 K) s.heap H1 := ⟨q4, fun q hq => q5 q (by omega) (by omega)⟩
  refine z_astore (lv' := [(6, .ref tb'), (5, .ref a), (0, .ref o), (1, .int (zI b)), (2, .int (zI L1)), (3, .int (zI ((b + L1 : Nat) : Int))), (4, .int (zI L2))]) S hl rfl (by decide) d_Mh_42 (fun ls hl => ?_)
  refine z_aload_n S rfl (lv_at hl 2 rfl) d_Mh_44 ?_
  refine z_get (C := "java/util/ComparableTimSort") (T := F_Cts) (N := 8) (ci := 2) S tin_Cts hG hO1 rfl 3 (by decide) tf_C23 rfl rfl d_Mh_45 ?_
  refine z_istore (lv' := [(7, .int (zI 0)), (6, .ref tb'), (5, .ref a), (0, .ref o), (1, .int (zI b)), (2, .int (zI L1)), (3, .int (zI ((b + L1 : Nat) : Int))), (4, .int (zI L2))]) S hl rfl (by decide) d_Mh_48 (fun ls hl => ?_)
  refine z_aload S (lv_at hl 2 rfl) d_Mh_50 ?_
  refine z_iload_n S rfl (lv_at hl 6 rfl) d_Mh_52 ?_
  refine z_aload S (lv_at hl 1 rfl) d_Mh_53 ?_
  refine z_iload S (lv_at hl 0 rfl) d_Mh_55 ?_
  refine z_iload S (lv_at hl 7 rfl) d_Mh_57 ?_
  refine n_copy (b + L1) 0 L2 S hG.M hG.O ha1 ht1 hlo hNt' (by omega) (by omega) rfl rfl rfl (by omega) (by omega) (fun j j1 j2 => ?_) (by decide) hl (by decide) d_Mh_59 (fun locs hlo => ?_)
  · obtain ⟨y, e1, m1⟩ := hF j (by omega) (by omega)
    exact ⟨y, e1, (hM1 y m1).anyO hG⟩
  generalize hGe : va_cpy f g' (b + L1) 0 L2 = G
  have hGf : ∀ j, j < L2 → G j = f (b + L1 + j) := fun j hj => by rw [← hGe, pk_cpy_in (by omega) (by omega), Nat.sub_zero]
  have hH2 : ∃ H2 : Heap, H2 = H1.setIfInBounds tb' (RA (cO_ K) tl' G) := ⟨_, rfl⟩
  obtain ⟨H2, eH2⟩ := hH2
  rw [← eH2]
  have hk2 : Keep (N0 K) s.heap H2 := by rw [eH2]; exact hk1.set hNt'
  have hM2 : MS K M wt nm H2 := by rw [eH2]; exact hM1.set hMt'
  have hX : HX K o a mg tb' tl' ss rb rl n f G H2 H2 := ⟨by rw [eH2]; exact hO1.kept (set_off hot'), by rw [eH2, set_off hat']; exact ha1, by rw [eH2]; exact set_at ht1, rfl, fun _ _ _ => rfl⟩
  have finE : ∀ (pc : Nat), decode b_Mh pc = .ok (.return_, 1) → ∀ (mg : Int) (F : Nat → Option Nat) (X : Heap) (ls : Array Slot) (locs : List Loc), HX K o a mg tb' tl' ss rb rl n F G H2 X → (∀ x, (x < b ∨ b + L1 + L2 ≤ x) → F x = f x) → Srt (kw wt) F b (L1 + L2) → Eqv (kw wt) (sg F b (L1 + L2)) (sg f b (L1 + L2)) → Full M F 0 n → LO (N0 K) locs → W p l e rm_Mh s m args below meth c X locs 1 4000 Q (F0 m pc ls []) := by
    intro pc hdd mg' F X ls locs hX r1 r2 r3 r4 hlo
    subst hQ
    subst hargs
    have z2 : H2.size = H1.size := by rw [eH2]; simp
    refine z_vret S hr hlk hlo ⟨mg', tb', tl', F, G, rfl, hX.1, hX.2.1, hX.2.2.1, q2, by omega, by rw [hX.2.2.2.1, z2]; exact q4, ?_, r1, r2, r3, r4⟩ hdd
    intro q w1 w2 w3 w4
    rw [hX.2.2.2.2 q w2 w3, eH2, set_off (by rcases q3 with h | h <;> omega)]
    exact q5 q w1 w2
  have hFb : Full M f b L1 := hF.sub (by omega) (by omega)
  have hFb2 : Full M f (b + L1) L2 := hF.sub (by omega) (by omega)
  obtain ⟨yl, el, ml⟩ := hF (b + L1 - 1) (by omega) (by omega)
  obtain ⟨yr, er, mr⟩ := hF (b + L1) (by omega) (by omega)
  have hMS := hX.ms hM2 hMo hMa
  refine z_iload_n S rfl (lv_at hl 4 rfl) d_Mh_62 ?_
  refine z_iload_n S rfl (lv_at hl 5 rfl) d_Mh_63 ?_
  refine z_iadd S d_Mh_64 ?_
  refine z_iconst S d_Mh_65 ?_
  refine z_isub S d_Mh_66 ?_
  refine z_istore (lv' := [(8, .int (zI ((b + L1) - 1))), (7, .int (zI 0)), (6, .ref tb'), (5, .ref a), (0, .ref o), (1, .int (zI b)), (2, .int (zI L1)), (3, .int (zI ((b + L1 : Nat) : Int))), (4, .int (zI L2))]) S hl rfl (by decide) d_Mh_67 (fun ls hl => ?_)
  refine z_iload S (lv_at hl 1 rfl) d_Mh_69 ?_
  refine z_iload S (lv_at hl 8 rfl) d_Mh_71 ?_
  refine z_iadd S d_Mh_73 ?_
  refine z_iconst S d_Mh_74 ?_
  refine z_isub S d_Mh_75 ?_
  refine z_istore (lv' := [(9, .int (zI ((0 + L2) - 1))), (8, .int (zI ((b + L1) - 1))), (7, .int (zI 0)), (6, .ref tb'), (5, .ref a), (0, .ref o), (1, .int (zI b)), (2, .int (zI L1)), (3, .int (zI ((b + L1 : Nat) : Int))), (4, .int (zI L2))]) S hl rfl (by decide) d_Mh_76 (fun ls hl => ?_)
  refine z_iload_n S rfl (lv_at hl 8 rfl) d_Mh_78 ?_
  refine z_iload S (lv_at hl 9 rfl) d_Mh_79 ?_
  refine z_iadd S d_Mh_81 ?_
  refine z_iconst S d_Mh_82 ?_
  refine z_isub S d_Mh_83 ?_
  refine z_istore (lv' := [(10, .int (zI ((((b + L1 : Nat) : Int) + L2) - 1))), (9, .int (zI ((0 + L2) - 1))), (8, .int (zI ((b + L1) - 1))), (7, .int (zI 0)), (6, .ref tb'), (5, .ref a), (0, .ref o), (1, .int (zI b)), (2, .int (zI L1)), (3, .int (zI ((b + L1 : Nat) : Int))), (4, .int (zI L2))]) S hl rfl (by decide) d_Mh_84 (fun ls hl => ?_)
  refine z_aload S (lv_at hl 5 rfl) d_Mh_86 ?_
  refine z_iload S (lv_at hl 0 rfl) d_Mh_88 ?_
  refine z_iinc (lv' := [(10, .int (zI (((((b + L1 : Nat) : Int) + L2) - 1) + (-1)))), (9, .int (zI ((0 + L2) - 1))), (8, .int (zI ((b + L1) - 1))), (7, .int (zI 0)), (6, .ref tb'), (5, .ref a), (0, .ref o), (1, .int (zI b)), (2, .int (zI L1)), (3, .int (zI ((b + L1 : Nat) : Int))), (4, .int (zI L2))]) (q := 0) S hl rfl rfl (by decide) d_Mh_90 (fun ls hl => ?_)
  refine z_aload S (lv_at hl 5 rfl) d_Mh_93 ?_
  refine z_iload S (lv_at hl 2 rfl) d_Mh_95 ?_
  refine z_iinc (lv' := [(8, .int (zI (((b + L1) - 1) + (-1)))), (10, .int (zI (((((b + L1 : Nat) : Int) + L2) - 1) + (-1)))), (9, .int (zI ((0 + L2) - 1))), (7, .int (zI 0)), (6, .ref tb'), (5, .ref a), (0, .ref o), (1, .int (zI b)), (2, .int (zI L1)), (3, .int (zI ((b + L1 : Nat) : Int))), (4, .int (zI L2))]) (q := 2) S hl rfl rfl (by decide) d_Mh_97 (fun ls hl => ?_)
  refine n_aald (b + L1 - 1) S hG.M hX.2.1 (by omega) (by omega) (by omega) el d_Mh_100 ?_
  refine n_aast (b + L1 + L2 - 1) S hG.M hX.2.1 hlo hNa (by omega) ((hMS yl ml).anyM hG) (by omega) (by omega) d_Mh_101 (fun locs hlo => ?_)
  have hX1 := hX.set hoa hat' (va_up f (b + L1 + L2 - 1) (some yl))
  have hMH1 := (MH.init (k := kw wt) (L1 := L1) (L2 := L2) (b := b) hF).left (F' := va_up f (b + L1 + L2 - 1) (some yl)) (r := 1) hs hs2 hFb (by omega) (fun x => pt_upG (φ := fun x => f (x - L2)) (by omega) (by omega) (by rw [← el]; congr 1; omega) x) (fun _ j j1 j2 => by
    rw [show j = b + L1 - 1 by omega]
    exact hlast)
  generalize va_up f (b + L1 + L2 - 1) (some yl) = F1 at hX1 hMH1 ⊢
  generalize H2.setIfInBounds a (RA (cM_ K) n F1) = X1 at hX1 ⊢
  have hMH10 := hMH1
  obtain ⟨k1, k2, k5, -, -, -, k9⟩ := hMH10
  have hMS1 := hX1.ms hM2 hMo hMa
  have hkX1 := hX1.keep hk2 hN hNa
  refine z_iinc (lv' := [(2, .int (zI (L1 + (-1)))), (8, .int (zI (((b + L1) - 1) + (-1)))), (10, .int (zI (((((b + L1 : Nat) : Int) + L2) - 1) + (-1)))), (9, .int (zI ((0 + L2) - 1))), (7, .int (zI 0)), (6, .ref tb'), (5, .ref a), (0, .ref o), (1, .int (zI b)), (3, .int (zI ((b + L1 : Nat) : Int))), (4, .int (zI L2))]) (q := 8) S hl rfl rfl (by decide) d_Mh_102 (fun ls hl => ?_)
  refine z_iload_n S rfl (lv_at hl 0 rfl) d_Mh_105 ?_
  have hl : lv_has ls 14 [(0, .ref o), (1, .int (zI b)), (2, .int (zI (L1 + (-1)))), (4, .int (zI L2)), (5, .ref a), (6, .ref tb'), (7, .int (zI 0)), (8, .int (zI (((b + L1) - 1) + (-1)))), (9, .int (zI ((0 + L2) - 1))), (10, .int (zI (((((b + L1 : Nat) : Int) + L2) - 1) + (-1))))] := lv_sub hl [7, 8, 0, 10, 6, 5, 4, 1, 3, 2] rfl
  have hl : lv_has ls 14 [(0, .ref o), (1, .int (zI b)), (2, .int (zI ((L1 - 1 : Nat) : Int))), (4, .int (zI L2)), (5, .ref a), (6, .ref tb'), (7, .int (zI 0)), (8, .int (zI (((b + L1) - 1) + (-1)))), (9, .int (zI ((0 + L2) - 1))), (10, .int (zI (((((b + L1 : Nat) : Int) + L2) - 1) + (-1))))] := lv_ren hl 2 rfl (show (L1 + (-1)) = ((L1 - 1 : Nat) : Int) by omega)
  have hl : lv_has ls 14 [(0, .ref o), (1, .int (zI b)), (2, .int (zI ((L1 - 1 : Nat) : Int))), (4, .int (zI L2)), (5, .ref a), (6, .ref tb'), (7, .int (zI 0)), (8, .int (zI ((b : Int) + (L1 - 1 : Nat) - 1))), (9, .int (zI ((0 + L2) - 1))), (10, .int (zI (((((b + L1 : Nat) : Int) + L2) - 1) + (-1))))] := lv_ren hl 7 rfl (show (((b + L1) - 1) + (-1)) = ((b : Int) + (L1 - 1 : Nat) - 1) by omega)
  have hl : lv_has ls 14 [(0, .ref o), (1, .int (zI b)), (2, .int (zI ((L1 - 1 : Nat) : Int))), (4, .int (zI L2)), (5, .ref a), (6, .ref tb'), (7, .int (zI 0)), (8, .int (zI ((b : Int) + (L1 - 1 : Nat) - 1))), (9, .int (zI ((L2 : Int) - 1))), (10, .int (zI (((((b + L1 : Nat) : Int) + L2) - 1) + (-1))))] := lv_ren hl 8 rfl (show ((0 + L2) - 1) = ((L2 : Int) - 1) by omega)
  have hl : lv_has ls 14 [(0, .ref o), (1, .int (zI b)), (2, .int (zI ((L1 - 1 : Nat) : Int))), (4, .int (zI L2)), (5, .ref a), (6, .ref tb'), (7, .int (zI 0)), (8, .int (zI ((b : Int) + (L1 - 1 : Nat) - 1))), (9, .int (zI ((L2 : Int) - 1))), (10, .int (zI ((b : Int) + (L1 - 1 : Nat) + L2 - 1)))] := lv_ren hl 9 rfl (show (((((b + L1 : Nat) : Int) + L2) - 1) + (-1)) = ((b : Int) + (L1 - 1 : Nat) + L2 - 1) by omega)
  refine z_if_ne (tgt := 128) S (by decide) (by omega) d_Mh_106 ?_ ?_
  · intro hc
    refine z_iload S (lv_at hl 3 rfl) d_Mh_128 ?_
    refine z_iconst S d_Mh_130 ?_
    refine z_icmp_ne (tgt := 173) S (by decide) (by omega) (by omega) d_Mh_131 ?_ ?_
    · intro hc2
      refine z_aload_n S rfl (lv_at hl 0 rfl) d_Mh_173 ?_
      refine z_get (C := "java/util/ComparableTimSort") (T := F_Cts) (N := 8) (ci := 2) S tin_Cts hG hX1.1 rfl 1 (by decide) tf_C9 rfl rfl d_Mh_174 ?_
      refine z_istore (lv' := [(11, .int (zI mg)), (0, .ref o), (1, .int (zI b)), (2, .int (zI ((L1 - 1 : Nat) : Int))), (4, .int (zI L2)), (5, .ref a), (6, .ref tb'), (7, .int (zI 0)), (8, .int (zI ((b : Int) + (L1 - 1 : Nat) - 1))), (9, .int (zI ((L2 : Int) - 1))), (10, .int (zI ((b : Int) + (L1 - 1 : Nat) + L2 - 1)))]) S hl rfl (by decide) d_Mh_177 (fun ls hl => ?_)
      refine z_iconst S d_Mh_179 ?_
      refine z_istore (lv' := [(12, .int (zI 0)), (11, .int (zI mg)), (0, .ref o), (1, .int (zI b)), (2, .int (zI ((L1 - 1 : Nat) : Int))), (4, .int (zI L2)), (5, .ref a), (6, .ref tb'), (7, .int (zI 0)), (8, .int (zI ((b : Int) + (L1 - 1 : Nat) - 1))), (9, .int (zI ((L2 : Int) - 1))), (10, .int (zI ((b : Int) + (L1 - 1 : Nat) + L2 - 1)))]) S hl rfl (by decide) d_Mh_180 (fun ls hl => ?_)
      refine z_iconst S d_Mh_182 ?_
      refine z_istore (lv' := [(13, .int (zI 0)), (12, .int (zI 0)), (11, .int (zI mg)), (0, .ref o), (1, .int (zI b)), (2, .int (zI ((L1 - 1 : Nat) : Int))), (4, .int (zI L2)), (5, .ref a), (6, .ref tb'), (7, .int (zI 0)), (8, .int (zI ((b : Int) + (L1 - 1 : Nat) - 1))), (9, .int (zI ((L2 : Int) - 1))), (10, .int (zI ((b : Int) + (L1 - 1 : Nat) + L2 - 1)))]) S hl rfl (by decide) d_Mh_183 (fun ls hl => ?_)
      refine (mh_loop (nm := nm) S hG hk2 hM2 hN hNa hoa hat' hMo hMa hn q2 q1 hbn hGf hF hs hs2 hfirst' (mh_exit (nm := nm) S hG hk2 hM2 hN hNa hoa hot' hat' hMo hMa hn q2 q1 hbn hGf hF hs hs2 hfirst' (finE 728 d_Mh_728)) (L1 + L2 + 1) mg 0 0 F1 X1 (L1 - 1) L2 ls locs (by omega) (by omega) (by omega) hMH1 hX1 hlo ?_).1
      exact lv_sub hl [3, 4, 5, 6, 7, 8, 9, 10, 11, 12, 2, 1, 0] rfl
    · intro hc2
      have e1 : L2 = 1 := by omega
      refine z_iload S (lv_at hl 9 rfl) d_Mh_134 ?_
      refine z_iload_n S rfl (lv_at hl 2 rfl) d_Mh_136 ?_
      refine z_isub S d_Mh_137 ?_
      refine z_istore (lv' := [(10, .int (zI (((b : Int) + (L1 - 1 : Nat) + L2 - 1) - ((L1 - 1 : Nat) : Int)))), (0, .ref o), (1, .int (zI b)), (2, .int (zI ((L1 - 1 : Nat) : Int))), (4, .int (zI L2)), (5, .ref a), (6, .ref tb'), (7, .int (zI 0)), (8, .int (zI ((b : Int) + (L1 - 1 : Nat) - 1))), (9, .int (zI ((L2 : Int) - 1)))]) S hl rfl (by decide) d_Mh_138 (fun ls hl => ?_)
      refine z_iload S (lv_at hl 8 rfl) d_Mh_140 ?_
      refine z_iload_n S rfl (lv_at hl 3 rfl) d_Mh_142 ?_
      refine z_isub S d_Mh_143 ?_
      refine z_istore (lv' := [(8, .int (zI (((b : Int) + (L1 - 1 : Nat) - 1) - ((L1 - 1 : Nat) : Int)))), (10, .int (zI (((b : Int) + (L1 - 1 : Nat) + L2 - 1) - ((L1 - 1 : Nat) : Int)))), (0, .ref o), (1, .int (zI b)), (2, .int (zI ((L1 - 1 : Nat) : Int))), (4, .int (zI L2)), (5, .ref a), (6, .ref tb'), (7, .int (zI 0)), (9, .int (zI ((L2 : Int) - 1)))]) S hl rfl (by decide) d_Mh_144 (fun ls hl => ?_)
      refine z_aload S (lv_at hl 6 rfl) d_Mh_146 ?_
      refine z_iload S (lv_at hl 0 rfl) d_Mh_148 ?_
      refine z_iconst S d_Mh_150 ?_
      refine z_iadd S d_Mh_151 ?_
      refine z_aload S (lv_at hl 6 rfl) d_Mh_152 ?_
      refine z_iload S (lv_at hl 1 rfl) d_Mh_154 ?_
      refine z_iconst S d_Mh_156 ?_
      refine z_iadd S d_Mh_157 ?_
      refine z_iload_n S rfl (lv_at hl 4 rfl) d_Mh_158 ?_
      refine n_copy b (b + L2) (L1 - 1) S hG.M hG.M hX1.2.1 hX1.2.1 hlo hNa (by omega) (by omega) (by omega) (by omega) rfl (by omega) (by omega) (fun j j1 j2 => ?_) (by decide) hl (by decide) d_Mh_159 (fun locs hlo => ?_)
      · obtain ⟨y, e1, m1⟩ := k9 j (by omega) (by omega)
        exact ⟨y, e1, (hMS1 y m1).anyM hG⟩
      have hMH2 := hMH1.left (F' := va_cpy F1 F1 b (b + L2) (L1 - 1)) (r := L1 - 1) hs hs2 hFb (Nat.le_refl _) (fun x => pt_cpyG (φ := fun x => f (x - L2)) (by omega) (by omega) (fun j hj => by rw [k5 _ (by omega)]; congr 1; omega) x) (fun _ j j1 j2 => by
        rw [show b + L1 + L2 - 1 = b + L1 by omega]
        exact hfirst' _ (by omega) (by omega))
      have hX4 := hX1.set hoa hat' (va_cpy F1 F1 b (b + L2) (L1 - 1))
      have hMS4 := hX4.ms hM2 hMo hMa
      refine z_aload S (lv_at hl 6 rfl) d_Mh_162 ?_
      refine z_iload S (lv_at hl 1 rfl) d_Mh_164 ?_
      refine z_aload S (lv_at hl 7 rfl) d_Mh_166 ?_
      refine z_iload S (lv_at hl 9 rfl) d_Mh_168 ?_
      refine n_aald 0 S hG.O hX4.2.2.1 (by omega) (by omega) (by omega) (by rw [hGf _ (by omega)]; exact er) d_Mh_170 ?_
      refine n_aast b S hG.M hX4.2.1 hlo hNa (by omega) ((hMS4 yr mr).anyM hG) (by omega) (by omega) d_Mh_171 (fun locs hlo => ?_)
      rw [Nat.sub_self] at hMH2
      obtain ⟨r1, r2, r3, r4⟩ := MH.done (by
        have := hMH2.right (F' := va_up (va_cpy F1 F1 b (b + L2) (L1 - 1)) b (some yr)) (r := L2) hs hs2 hFb2 (Nat.le_refl _) (fun x => pt_upG (φ := fun x => f (x + L1 - 0)) (by omega) (by omega) (by rw [Nat.sub_zero]; exact er.symm) x) (fun h => by omega)
        rw [Nat.sub_self] at this
        exact this)
      exact finE 172 d_Mh_172 mg _ _ ls locs (hX4.set hoa hat' _) r1 r2 r3 r4 hlo
  · intro hc
    have e2 : L1 = 1 := by omega
    refine z_aload S (lv_at hl 5 rfl) d_Mh_109 ?_
    refine z_iload S (lv_at hl 6 rfl) d_Mh_111 ?_
    refine z_aload S (lv_at hl 4 rfl) d_Mh_113 ?_
    refine z_iload S (lv_at hl 9 rfl) d_Mh_115 ?_
    refine z_iload S (lv_at hl 3 rfl) d_Mh_117 ?_
    refine z_iconst S d_Mh_119 ?_
    refine z_isub S d_Mh_120 ?_
    refine z_isub S d_Mh_121 ?_
    refine z_iload S (lv_at hl 3 rfl) d_Mh_122 ?_
    refine n_copy 0 b L2 S hG.O hG.M hX1.2.2.1 hX1.2.1 hlo hNa (by omega) (by omega) rfl (by omega) rfl (by omega) (by omega) (fun j j1 j2 => ?_) (by decide) hl (by decide) d_Mh_124 (fun locs hlo => ?_)
    · rw [hGf j (by omega)]
      obtain ⟨y, e1, m1⟩ := hF (b + L1 + j) (by omega) (by omega)
      exact ⟨y, e1, (hMS1 y m1).anyM hG⟩
    obtain ⟨r1, r2, r3, r4⟩ := MH.done (by
      rw [show L1 - 1 = 0 by omega] at hMH1
      have := hMH1.right (F' := va_cpy G F1 0 b L2) (r := L2) hs hs2 hFb2 (Nat.le_refl _) (fun x => pt_cpyG (φ := fun x => f (x + L1 - 0)) (by omega) (by omega) (fun j hj => by rw [hGf _ (by omega)]; congr 1; omega) x) (fun h => by omega)
      rw [Nat.sub_self] at this
      exact this)
    exact finE 127 d_Mh_127 mg _ _ ls locs (hX1.set hoa hat' _) r1 r2 r3 r4 hlo
end
section
/-! mergeAt -/
set_option maxRecDepth 100000
/-- between two merged runs that stay at the ends -/
theorem mg_wrap {k : Option Nat → Int} {f f' : Nat → Option Nat} {b L1 L2 r r2 : Nat} (hs : Srt k f b L1) (hs2 : Srt k f (b + L1) L2) (hr : r < L1) (hr2 : r2 ≤ L2) (h0 : 0 < L2) (h1 : ∀ j, j < r → k (f (b + j)) ≤ k (f (b + L1))) (h2 : ∀ j, r2 ≤ j → j < L2 → k (f (b + L1 - 1)) ≤ k (f (b + L1 + j))) (hoff : ∀ x, (x < b + r ∨ b + L1 + r2 ≤ x) → f' x = f x) (hs' : Srt k f' (b + r) (L1 - r + r2)) (he : Eqv k (sg f' (b + r) (L1 - r + r2)) (sg f (b + r) (L1 - r + r2))) :
    Srt k f' b (L1 + L2) ∧ Eqv k (sg f' b (L1 + L2)) (sg f b (L1 + L2)) := by
  have mem : ∀ x, b + r ≤ x → x < b + L1 + r2 → ∃ j, b + r ≤ j ∧ j < b + L1 + r2 ∧ f j = f' x := fun x x1 x2 => by
    obtain ⟨j, j1, j2, j3⟩ := sg_mem.mp (he.mem (sg_mem.mpr ⟨x, x1, by omega, rfl⟩))
    exact ⟨j, j1, by omega, j3⟩
  have lowk : ∀ x j, b ≤ x → x < b + r → b + r ≤ j → j < b + L1 + L2 → k (f x) ≤ k (f j) := fun x j x1 x2 j1 j2 => by
    by_cases hj : j < b + L1
    · exact hs x j x1 (by omega) (by omega)
    · have q1 := h1 (x - b) (by omega)
      rw [show b + (x - b) = x by omega] at q1
      have q2 := hs2.le (a := b + L1) (b := j) (by omega) (by omega) (by omega)
      omega
  have highk : ∀ x j, b + L1 + r2 ≤ x → x < b + L1 + L2 → b + r ≤ j → j < b + L1 + r2 → k (f j) ≤ k (f x) := fun x j x1 x2 j1 j2 => by
    by_cases hj : j < b + L1
    · have q1 := h2 (x - (b + L1)) (by omega) (by omega)
      rw [show b + L1 + (x - (b + L1)) = x by omega] at q1
      have q2 := hs.le (a := j) (b := b + L1 - 1) (by omega) (by omega) (by omega)
      omega
    · exact hs2 j x (by omega) (by omega) (by omega)
  constructor
  · intro x y x1 xy y2
    by_cases hx : x < b + r
    · rw [hoff x (by omega)]
      by_cases hy : y < b + r
      · rw [hoff y (by omega)]
        exact hs x y x1 xy (by omega)
      · by_cases hy2 : y < b + L1 + r2
        · obtain ⟨j, j1, j2, j3⟩ := mem y (by omega) hy2
          rw [← j3]
          exact lowk x j x1 hx j1 (by omega)
        · rw [hoff y (by omega)]
          exact lowk x y x1 hx (by omega) (by omega)
    · by_cases hx2 : x < b + L1 + r2
      · by_cases hy2 : y < b + L1 + r2
        · exact hs' x y (by omega) xy (by omega)
        · obtain ⟨j, j1, j2, j3⟩ := mem x (by omega) hx2
          rw [← j3, hoff y (by omega)]
          exact highk y j (by omega) (by omega) j1 j2
      · rw [hoff x (by omega), hoff y (by omega)]
        exact hs2 x y (by omega) xy (by omega)
  · have e : ∀ φ : Nat → Option Nat, sg φ b (L1 + L2) = sg φ b r ++ (sg φ (b + r) (L1 - r + r2) ++ sg φ (b + L1 + r2) (L2 - r2)) := fun φ => by
      rw [show L1 + L2 = r + ((L1 - r + r2) + (L2 - r2)) by omega, sg_app, sg_app, show b + r + (L1 - r + r2) = b + L1 + r2 by omega]
    rw [e f', e f]
    refine (Eqv.of (sg_same (fun x x1 x2 => hoff x (by omega)))).app (he.app (Eqv.of (sg_same (fun x x1 x2 => hoff x (by omega)))))
/-- the sorter with its stack -/
def CWo (K : KD) (o a : Nat) (mg : Int) (tb tl : Nat) (ss : Int) (rb rl n sl : Nat) (f g : Nat → Option Nat) (fb fl : Nat → Int32) (M : Nat → Prop) (wt nm : Nat → Int32) (H : Heap) : Prop := Wmg K o a mg tb tl ss rb rl n f g M wt nm H ∧ H[rb]? = some (IA (cI_ K) sl fb) ∧ H[rl]? = some (IA (cI_ K) sl fl)
/-- its cells are apart, and no marks -/
def DS (K : KD) (o a tb rb rl : Nat) (M : Nat → Prop) : Prop := (N0 K ≤ o ∧ N0 K ≤ a ∧ N0 K ≤ tb ∧ N0 K ≤ rb ∧ N0 K ≤ rl) ∧ (o ≠ a ∧ o ≠ tb ∧ a ≠ tb ∧ o ≠ rb ∧ o ≠ rl ∧ a ≠ rb ∧ a ≠ rl ∧ tb ≠ rb ∧ tb ≠ rl ∧ rb ≠ rl) ∧ ¬ M o ∧ ¬ M a ∧ ¬ M tb ∧ ¬ M rb ∧ ¬ M rl
theorem CWo.rl' {K : KD} {o a : Nat} {mg : Int} {tb tl : Nat} {ss : Int} {rb rl n sl : Nat} {f g : Nat → Option Nat} {fb fl : Nat → Int32} {M : Nat → Prop} {wt nm : Nat → Int32} {H : Heap} (h : CWo K o a mg tb tl ss rb rl n sl f g fb fl M wt nm H) (hD : DS K o a tb rb rl M) (fl' : Nat → Int32) : CWo K o a mg tb tl ss rb rl n sl f g fb fl' M wt nm (H.setIfInBounds rl (IA (cI_ K) sl fl')) := by
  obtain ⟨⟨h1, h2, h3, h4⟩, h5, h6⟩ := h
  obtain ⟨-, ⟨d1, d2, d3, d4, d5, d6, d7, d8, d9, d10⟩, -, -, -, -, m5⟩ := hD
  exact ⟨⟨h1.kept (set_off d5), by rw [set_off d7]; exact h2, by rw [set_off d9]; exact h3, h4.set m5⟩, by rw [set_off d10]; exact h5, set_at h6⟩
theorem CWo.rb' {K : KD} {o a : Nat} {mg : Int} {tb tl : Nat} {ss : Int} {rb rl n sl : Nat} {f g : Nat → Option Nat} {fb fl : Nat → Int32} {M : Nat → Prop} {wt nm : Nat → Int32} {H : Heap} (h : CWo K o a mg tb tl ss rb rl n sl f g fb fl M wt nm H) (hD : DS K o a tb rb rl M) (fb' : Nat → Int32) : CWo K o a mg tb tl ss rb rl n sl f g fb' fl M wt nm (H.setIfInBounds rb (IA (cI_ K) sl fb')) := by
  obtain ⟨⟨h1, h2, h3, h4⟩, h5, h6⟩ := h
  obtain ⟨-, ⟨d1, d2, d3, d4, d5, d6, d7, d8, d9, d10⟩, -, -, -, m4, -⟩ := hD
  exact ⟨⟨h1.kept (set_off d4), by rw [set_off d6]; exact h2, by rw [set_off d8]; exact h3, h4.set m4⟩, set_at h5, by rw [set_off (Ne.symm d10)]; exact h6⟩
theorem CWo.o' {K : KD} {o a : Nat} {mg mg' : Int} {tb tl : Nat} {ss ss' : Int} {rb rl n sl : Nat} {f g : Nat → Option Nat} {fb fl : Nat → Int32} {M : Nat → Prop} {wt nm : Nat → Int32} {H H1 : Heap} (h : CWo K o a mg tb tl ss rb rl n sl f g fb fl M wt nm H) (hD : DS K o a tb rb rl M) (hO : CO K o a mg' tb tl ss' rb rl H1) (hq : ∀ q, q ≠ o → H1[q]? = H[q]?) : CWo K o a mg' tb tl ss' rb rl n sl f g fb fl M wt nm H1 := by
  obtain ⟨⟨h1, h2, h3, h4⟩, h5, h6⟩ := h
  obtain ⟨-, ⟨d1, d2, d3, d4, d5, d6, d7, d8, d9, d10⟩, m1, -⟩ := hD
  exact ⟨⟨hO, by rw [hq a (Ne.symm d1)]; exact h2, by rw [hq tb (Ne.symm d2)]; exact h3, h4.kept (fun y hy => hq y (fun e => m1 (e ▸ hy)))⟩, by rw [hq rb (Ne.symm d4)]; exact h5, by rw [hq rl (Ne.symm d5)]; exact h6⟩
def Pca (K : KD) (o a tb ss rb rl n sl i b L1 L2 : Nat) (f : Nat → Option Nat) (fb fl : Nat → Int32) (M : Nat → Prop) (wt nm : Nat → Int32) : Heap → Option Value → Heap → Prop := fun H v H' => ∃ (mg' : Int) (tb' tl' : Nat) (f' g' : Nat → Option Nat) (fb' fl' : Nat → Int32), v = none ∧ CWo K o a mg' tb' tl' ((ss - 1 : Nat) : Int) rb rl n sl f' g' fb' fl' M wt nm H' ∧ tl' ≤ 4000 ∧ (tb' = tb ∨ H.size ≤ tb') ∧ H.size ≤ H'.size ∧ (∀ q, q < H.size → q ≠ o → q ≠ a → q ≠ tb → q ≠ rb → q ≠ rl → H'[q]? = H[q]?) ∧ (∀ x, (x < b ∨ b + L1 + L2 ≤ x) → f' x = f x) ∧ Srt (kw wt) f' b (L1 + L2) ∧ Eqv (kw wt) (sg f' b (L1 + L2)) (sg f b (L1 + L2)) ∧ Full M f' 0 n ∧ (∀ j, j + 1 < ss → fb' j = if j ≤ i then fb j else fb (j + 1)) ∧ (∀ j, j + 1 < ss → fl' j = if j < i then fl j else if j = i then zI ((L1 + L2 : Nat) : Int) else fl (j + 1))
theorem d_Ca_0 : decode b_Ca 0 = .ok (.getstatic 37, 3) := by decide +kernel
theorem d_Ca_3 : decode b_Ca 3 = .ok (.ifCond .ne 19, 3) := by decide +kernel
theorem d_Ca_22 : decode b_Ca 22 = .ok (.getstatic 37, 3) := by decide +kernel
theorem d_Ca_25 : decode b_Ca 25 = .ok (.ifCond .ne 15, 3) := by decide +kernel
theorem d_Ca_40 : decode b_Ca 40 = .ok (.getstatic 37, 3) := by decide +kernel
theorem d_Ca_43 : decode b_Ca 43 = .ok (.ifCond .ne 31, 3) := by decide +kernel
theorem d_Ca_74 : decode b_Ca 74 = .ok (.aload_n 0, 1) := by decide +kernel
theorem d_Ca_75 : decode b_Ca 75 = .ok (.getfield 30, 3) := by decide +kernel
theorem d_Ca_78 : decode b_Ca 78 = .ok (.iload_n 1, 1) := by decide +kernel
theorem d_Ca_79 : decode b_Ca 79 = .ok (.iaload, 1) := by decide +kernel
theorem d_Ca_80 : decode b_Ca 80 = .ok (.istore_n 2, 1) := by decide +kernel
theorem d_Ca_81 : decode b_Ca 81 = .ok (.aload_n 0, 1) := by decide +kernel
theorem d_Ca_82 : decode b_Ca 82 = .ok (.getfield 34, 3) := by decide +kernel
theorem d_Ca_85 : decode b_Ca 85 = .ok (.iload_n 1, 1) := by decide +kernel
theorem d_Ca_86 : decode b_Ca 86 = .ok (.iaload, 1) := by decide +kernel
theorem d_Ca_87 : decode b_Ca 87 = .ok (.istore_n 3, 1) := by decide +kernel
theorem d_Ca_88 : decode b_Ca 88 = .ok (.aload_n 0, 1) := by decide +kernel
theorem d_Ca_89 : decode b_Ca 89 = .ok (.getfield 30, 3) := by decide +kernel
theorem d_Ca_92 : decode b_Ca 92 = .ok (.iload_n 1, 1) := by decide +kernel
theorem d_Ca_93 : decode b_Ca 93 = .ok (.iconst 1, 1) := by decide +kernel
theorem d_Ca_94 : decode b_Ca 94 = .ok (.iadd, 1) := by decide +kernel
theorem d_Ca_95 : decode b_Ca 95 = .ok (.iaload, 1) := by decide +kernel
theorem d_Ca_96 : decode b_Ca 96 = .ok (.istore 4, 2) := by decide +kernel
theorem d_Ca_98 : decode b_Ca 98 = .ok (.aload_n 0, 1) := by decide +kernel
theorem d_Ca_99 : decode b_Ca 99 = .ok (.getfield 34, 3) := by decide +kernel
theorem d_Ca_102 : decode b_Ca 102 = .ok (.iload_n 1, 1) := by decide +kernel
theorem d_Ca_103 : decode b_Ca 103 = .ok (.iconst 1, 1) := by decide +kernel
theorem d_Ca_104 : decode b_Ca 104 = .ok (.iadd, 1) := by decide +kernel
theorem d_Ca_105 : decode b_Ca 105 = .ok (.iaload, 1) := by decide +kernel
theorem d_Ca_106 : decode b_Ca 106 = .ok (.istore 5, 2) := by decide +kernel
theorem d_Ca_108 : decode b_Ca 108 = .ok (.getstatic 37, 3) := by decide +kernel
theorem d_Ca_111 : decode b_Ca 111 = .ok (.ifCond .ne 20, 3) := by decide +kernel
theorem d_Ca_131 : decode b_Ca 131 = .ok (.getstatic 37, 3) := by decide +kernel
theorem d_Ca_134 : decode b_Ca 134 = .ok (.ifCond .ne 19, 3) := by decide +kernel
theorem d_Ca_153 : decode b_Ca 153 = .ok (.aload_n 0, 1) := by decide +kernel
theorem d_Ca_154 : decode b_Ca 154 = .ok (.getfield 34, 3) := by decide +kernel
theorem d_Ca_157 : decode b_Ca 157 = .ok (.iload_n 1, 1) := by decide +kernel
theorem d_Ca_158 : decode b_Ca 158 = .ok (.iload_n 3, 1) := by decide +kernel
theorem d_Ca_159 : decode b_Ca 159 = .ok (.iload 5, 2) := by decide +kernel
theorem d_Ca_161 : decode b_Ca 161 = .ok (.iadd, 1) := by decide +kernel
theorem d_Ca_162 : decode b_Ca 162 = .ok (.iastore, 1) := by decide +kernel
theorem d_Ca_163 : decode b_Ca 163 = .ok (.iload_n 1, 1) := by decide +kernel
theorem d_Ca_164 : decode b_Ca 164 = .ok (.aload_n 0, 1) := by decide +kernel
theorem d_Ca_165 : decode b_Ca 165 = .ok (.getfield 13, 3) := by decide +kernel
theorem d_Ca_168 : decode b_Ca 168 = .ok (.iconst 3, 1) := by decide +kernel
theorem d_Ca_169 : decode b_Ca 169 = .ok (.isub, 1) := by decide +kernel
theorem d_Ca_170 : decode b_Ca 170 = .ok (.if_icmp .ne 35, 3) := by decide +kernel
theorem d_Ca_173 : decode b_Ca 173 = .ok (.aload_n 0, 1) := by decide +kernel
theorem d_Ca_174 : decode b_Ca 174 = .ok (.getfield 30, 3) := by decide +kernel
theorem d_Ca_177 : decode b_Ca 177 = .ok (.iload_n 1, 1) := by decide +kernel
theorem d_Ca_178 : decode b_Ca 178 = .ok (.iconst 1, 1) := by decide +kernel
theorem d_Ca_179 : decode b_Ca 179 = .ok (.iadd, 1) := by decide +kernel
theorem d_Ca_180 : decode b_Ca 180 = .ok (.aload_n 0, 1) := by decide +kernel
theorem d_Ca_181 : decode b_Ca 181 = .ok (.getfield 30, 3) := by decide +kernel
theorem d_Ca_184 : decode b_Ca 184 = .ok (.iload_n 1, 1) := by decide +kernel
theorem d_Ca_185 : decode b_Ca 185 = .ok (.iconst 2, 1) := by decide +kernel
theorem d_Ca_186 : decode b_Ca 186 = .ok (.iadd, 1) := by decide +kernel
theorem d_Ca_187 : decode b_Ca 187 = .ok (.iaload, 1) := by decide +kernel
theorem d_Ca_188 : decode b_Ca 188 = .ok (.iastore, 1) := by decide +kernel
theorem d_Ca_189 : decode b_Ca 189 = .ok (.aload_n 0, 1) := by decide +kernel
theorem d_Ca_190 : decode b_Ca 190 = .ok (.getfield 34, 3) := by decide +kernel
theorem d_Ca_193 : decode b_Ca 193 = .ok (.iload_n 1, 1) := by decide +kernel
theorem d_Ca_194 : decode b_Ca 194 = .ok (.iconst 1, 1) := by decide +kernel
theorem d_Ca_195 : decode b_Ca 195 = .ok (.iadd, 1) := by decide +kernel
theorem d_Ca_196 : decode b_Ca 196 = .ok (.aload_n 0, 1) := by decide +kernel
theorem d_Ca_197 : decode b_Ca 197 = .ok (.getfield 34, 3) := by decide +kernel
theorem d_Ca_200 : decode b_Ca 200 = .ok (.iload_n 1, 1) := by decide +kernel
theorem d_Ca_201 : decode b_Ca 201 = .ok (.iconst 2, 1) := by decide +kernel
theorem d_Ca_202 : decode b_Ca 202 = .ok (.iadd, 1) := by decide +kernel
theorem d_Ca_203 : decode b_Ca 203 = .ok (.iaload, 1) := by decide +kernel
theorem d_Ca_204 : decode b_Ca 204 = .ok (.iastore, 1) := by decide +kernel
theorem d_Ca_205 : decode b_Ca 205 = .ok (.aload_n 0, 1) := by decide +kernel
theorem d_Ca_206 : decode b_Ca 206 = .ok (.dup, 1) := by decide +kernel
theorem d_Ca_207 : decode b_Ca 207 = .ok (.getfield 13, 3) := by decide +kernel
theorem d_Ca_210 : decode b_Ca 210 = .ok (.iconst 1, 1) := by decide +kernel
theorem d_Ca_211 : decode b_Ca 211 = .ok (.isub, 1) := by decide +kernel
theorem d_Ca_212 : decode b_Ca 212 = .ok (.putfield 13, 3) := by decide +kernel
theorem d_Ca_215 : decode b_Ca 215 = .ok (.aload_n 0, 1) := by decide +kernel
theorem d_Ca_216 : decode b_Ca 216 = .ok (.getfield 16, 3) := by decide +kernel
theorem d_Ca_219 : decode b_Ca 219 = .ok (.iload 4, 2) := by decide +kernel
theorem d_Ca_221 : decode b_Ca 221 = .ok (.aaload, 1) := by decide +kernel
theorem d_Ca_222 : decode b_Ca 222 = .ok (.checkcast 69, 3) := by decide +kernel
theorem d_Ca_225 : decode b_Ca 225 = .ok (.aload_n 0, 1) := by decide +kernel
theorem d_Ca_226 : decode b_Ca 226 = .ok (.getfield 16, 3) := by decide +kernel
theorem d_Ca_229 : decode b_Ca 229 = .ok (.iload_n 2, 1) := by decide +kernel
theorem d_Ca_230 : decode b_Ca 230 = .ok (.iload_n 3, 1) := by decide +kernel
theorem d_Ca_231 : decode b_Ca 231 = .ok (.iconst 0, 1) := by decide +kernel
theorem d_Ca_232 : decode b_Ca 232 = .ok (.invokestatic 89, 3) := by decide +kernel
theorem d_Ca_235 : decode b_Ca 235 = .ok (.istore 6, 2) := by decide +kernel
theorem d_Ca_237 : decode b_Ca 237 = .ok (.getstatic 37, 3) := by decide +kernel
theorem d_Ca_240 : decode b_Ca 240 = .ok (.ifCond .ne 16, 3) := by decide +kernel
theorem d_Ca_256 : decode b_Ca 256 = .ok (.iload_n 2, 1) := by decide +kernel
theorem d_Ca_257 : decode b_Ca 257 = .ok (.iload 6, 2) := by decide +kernel
theorem d_Ca_259 : decode b_Ca 259 = .ok (.iadd, 1) := by decide +kernel
theorem d_Ca_260 : decode b_Ca 260 = .ok (.istore_n 2, 1) := by decide +kernel
theorem d_Ca_261 : decode b_Ca 261 = .ok (.iload_n 3, 1) := by decide +kernel
theorem d_Ca_262 : decode b_Ca 262 = .ok (.iload 6, 2) := by decide +kernel
theorem d_Ca_264 : decode b_Ca 264 = .ok (.isub, 1) := by decide +kernel
theorem d_Ca_265 : decode b_Ca 265 = .ok (.istore_n 3, 1) := by decide +kernel
theorem d_Ca_266 : decode b_Ca 266 = .ok (.iload_n 3, 1) := by decide +kernel
theorem d_Ca_267 : decode b_Ca 267 = .ok (.ifCond .ne 4, 3) := by decide +kernel
theorem d_Ca_270 : decode b_Ca 270 = .ok (.return_, 1) := by decide +kernel
theorem d_Ca_271 : decode b_Ca 271 = .ok (.aload_n 0, 1) := by decide +kernel
theorem d_Ca_272 : decode b_Ca 272 = .ok (.getfield 16, 3) := by decide +kernel
theorem d_Ca_275 : decode b_Ca 275 = .ok (.iload_n 2, 1) := by decide +kernel
theorem d_Ca_276 : decode b_Ca 276 = .ok (.iload_n 3, 1) := by decide +kernel
theorem d_Ca_277 : decode b_Ca 277 = .ok (.iadd, 1) := by decide +kernel
theorem d_Ca_278 : decode b_Ca 278 = .ok (.iconst 1, 1) := by decide +kernel
theorem d_Ca_279 : decode b_Ca 279 = .ok (.isub, 1) := by decide +kernel
theorem d_Ca_280 : decode b_Ca 280 = .ok (.aaload, 1) := by decide +kernel
theorem d_Ca_281 : decode b_Ca 281 = .ok (.checkcast 69, 3) := by decide +kernel
theorem d_Ca_284 : decode b_Ca 284 = .ok (.aload_n 0, 1) := by decide +kernel
theorem d_Ca_285 : decode b_Ca 285 = .ok (.getfield 16, 3) := by decide +kernel
theorem d_Ca_288 : decode b_Ca 288 = .ok (.iload 4, 2) := by decide +kernel
theorem d_Ca_290 : decode b_Ca 290 = .ok (.iload 5, 2) := by decide +kernel
theorem d_Ca_292 : decode b_Ca 292 = .ok (.iload 5, 2) := by decide +kernel
theorem d_Ca_294 : decode b_Ca 294 = .ok (.iconst 1, 1) := by decide +kernel
theorem d_Ca_295 : decode b_Ca 295 = .ok (.isub, 1) := by decide +kernel
theorem d_Ca_296 : decode b_Ca 296 = .ok (.invokestatic 93, 3) := by decide +kernel
theorem d_Ca_299 : decode b_Ca 299 = .ok (.istore 5, 2) := by decide +kernel
theorem d_Ca_301 : decode b_Ca 301 = .ok (.getstatic 37, 3) := by decide +kernel
theorem d_Ca_304 : decode b_Ca 304 = .ok (.ifCond .ne 16, 3) := by decide +kernel
theorem d_Ca_320 : decode b_Ca 320 = .ok (.iload 5, 2) := by decide +kernel
theorem d_Ca_322 : decode b_Ca 322 = .ok (.ifCond .ne 4, 3) := by decide +kernel
theorem d_Ca_326 : decode b_Ca 326 = .ok (.iload_n 3, 1) := by decide +kernel
theorem d_Ca_327 : decode b_Ca 327 = .ok (.iload 5, 2) := by decide +kernel
theorem d_Ca_329 : decode b_Ca 329 = .ok (.if_icmp .gt 16, 3) := by decide +kernel
theorem d_Ca_332 : decode b_Ca 332 = .ok (.aload_n 0, 1) := by decide +kernel
theorem d_Ca_333 : decode b_Ca 333 = .ok (.iload_n 2, 1) := by decide +kernel
theorem d_Ca_334 : decode b_Ca 334 = .ok (.iload_n 3, 1) := by decide +kernel
theorem d_Ca_335 : decode b_Ca 335 = .ok (.iload 4, 2) := by decide +kernel
theorem d_Ca_337 : decode b_Ca 337 = .ok (.iload 5, 2) := by decide +kernel
theorem d_Ca_339 : decode b_Ca 339 = .ok (.invokevirtual 96, 3) := by decide +kernel
theorem d_Ca_342 : decode b_Ca 342 = .ok (.goto 13, 3) := by decide +kernel
theorem d_Ca_345 : decode b_Ca 345 = .ok (.aload_n 0, 1) := by decide +kernel
theorem d_Ca_346 : decode b_Ca 346 = .ok (.iload_n 2, 1) := by decide +kernel
theorem d_Ca_347 : decode b_Ca 347 = .ok (.iload_n 3, 1) := by decide +kernel
theorem d_Ca_348 : decode b_Ca 348 = .ok (.iload 4, 2) := by decide +kernel
theorem d_Ca_350 : decode b_Ca 350 = .ok (.iload 5, 2) := by decide +kernel
theorem d_Ca_352 : decode b_Ca 352 = .ok (.invokevirtual 100, 3) := by decide +kernel
theorem d_Ca_355 : decode b_Ca 355 = .ok (.return_, 1) := by decide +kernel
abbrev rm_Ca : Room := { frames := 4, cells := 1, slots := 4000, locals := 103 }
set_option maxHeartbeats 4000000 in
theorem ct_Ca (l : Launch) (K : KD) (o a : Nat) (mg : Int) (tb tl ss rb rl n sl i b L1 L2 : Nat) (f g : Nat → Option Nat) (fb fl : Nat → Int32) (M : Nat → Prop) (wt nm : Nat → Int32) (hn : n ≤ 8000) (htl : tl ≤ 4000) (hsl : sl ≤ 49) (hD : DS K o a tb rb rl M) (hi : i + 2 = ss ∨ i + 3 = ss) (hss : ss ≤ sl) (h1 : 0 < L1) (h2 : 0 < L2) (hbn : b + L1 + L2 ≤ n) (eb1 : fb i = zI b) (el1 : fl i = zI L1) (eb2 : fb (i + 1) = zI ((b + L1 : Nat) : Int)) (el2 : fl (i + 1) = zI L2) (hF : Full M f 0 n) (hs : Srt (kw wt) f b L1) (hs2 : Srt (kw wt) f (b + L1) L2) :
    CT l K y_Ca c_Ca rm_Ca [.ref o, .int (zI i)] (CWo K o a mg tb tl (ss : Int) rb rl n sl f g fb fl M wt nm) (Pca K o a tb ss rb rl n sl i b L1 L2 f fb fl M wt nm) := by
  refine z_met (by decide) (Nat.le_of_ble_eq_true rfl) ?_
  intro p e s m below meth c ls S hr hlk hnm hG hP hl
  have hl : lv_has ls 7 [(0, .ref o), (1, .int (zI i))] := hl
  have hD0 := hD
  obtain ⟨⟨hN, hNa, hNt, hNb, hNl⟩, ⟨d1, d2, d3, d4, d5, d6, d7, d8, d9, d10⟩, m1, m2, m3, m4, m5⟩ := hD0
  generalize hQ : MQ below (QH (Pca K o a tb ss rb rl n sl i b L1 L2 f fb fl M wt nm)) [Value.ref o, .int (zI i)].toArray s rm_Ca.cells rm_Ca.slots (fun q => N0 K ≤ q) = Q
  generalize hargs : [Value.ref o, .int (zI i)].toArray = args at S
  -- from 205 on: the stack is in order
  have t205 : ∀ (fb' fl' : Nat → Int32) (X : Heap) (ls : Array Slot) (locs : List Loc), CWo K o a mg tb tl (ss : Int) rb rl n sl f g fb' fl' M wt nm X → X.size = s.heap.size → (∀ q, q ≠ o → q ≠ rb → q ≠ rl → X[q]? = s.heap[q]?) → (∀ j, j + 1 < ss → fb' j = if j ≤ i then fb j else fb (j + 1)) → (∀ j, j + 1 < ss → fl' j = if j < i then fl j else if j = i then zI ((L1 + L2 : Nat) : Int) else fl (j + 1)) → LO (N0 K) locs → lv_has ls 7 [(0, .ref o), (2, .int (zI b)), (3, .int (zI L1)), (4, .int (zI ((b + L1 : Nat) : Int))), (5, .int (zI L2))] → W p l e rm_Ca s m args below meth c X locs 0 0 Q (F0 m 205 ls []) := by
    intro fb' fl' X ls locs hX zX oX hfb hfl hlo hl
    refine z_aload_n S rfl (lv_at hl 0 rfl) d_Ca_205 ?_
    refine z_dup S rfl d_Ca_206 ?_
    refine z_get (C := "java/util/ComparableTimSort") (T := F_Cts) (N := 8) (ci := 2) S tin_Cts hG hX.1.1 rfl 5 (by decide) tf_C13 rfl rfl d_Ca_207 ?_
    refine z_iconst S d_Ca_210 ?_
    refine z_isub S d_Ca_211 ?_
    refine z_put (C := "java/util/ComparableTimSort") (T := F_Cts) (N := 8) (ci := 2) S tin_Cts t_Cts tok_Cts tnm_Cts hG hX.1.1 hlo hN rfl 5 (by decide) tf_C13 rfl rfl rfl rfl (Nat.le_of_ble_eq_true rfl) d_Ca_212 (fun X1 locs hO1 z1 o1 hlo => ?_)
    have hX1 : CWo K o a mg tb tl ((ss - 1 : Nat) : Int) rb rl n sl f g fb' fl' M wt nm X1 := hX.o' hD (by rw [show ((ss - 1 : Nat) : Int) = (ss : Int) - 1 by omega]; exact hO1) o1
    have zX1 : X1.size = s.heap.size := z1.trans zX
    have oX1 : ∀ q, q ≠ o → q ≠ rb → q ≠ rl → X1[q]? = s.heap[q]? := fun q q1 q2 q3 => (o1 q q1).trans (oX q q1 q2 q3)
    have hkX : Keep (N0 K) s.heap X1 := ⟨by omega, fun q hq => oX1 q (by omega) (by omega) (by omega)⟩
    clear hX zX oX
    obtain ⟨⟨hO2, ha2, ht2, hM2⟩, hb2, hl2⟩ := id hX1
    have same : ∀ (pc : Nat) (ls : Array Slot) (locs : List Loc), decode b_Ca pc = .ok (.return_, 1) → Srt (kw wt) f b (L1 + L2) → LO (N0 K) locs → W p l e rm_Ca s m args below meth c X1 locs 0 0 Q (F0 m pc ls []) := by
      intro pc ls locs hdd hsa hlo
      subst hQ
      subst hargs
      refine W.widen (k := 1) (n := 4000) (by omega) (by omega) ?_
      exact z_vret S hr hlk hlo ⟨mg, tb, tl, f, g, fb', fl', rfl, hX1, htl, Or.inl rfl, by omega, fun q _ q1 _ _ q2 q3 => oX1 q q1 q2 q3, fun _ _ => rfl, hsa, Eqv.rf, hF, hfb, hfl⟩ hdd
    obtain ⟨yr, er, mr⟩ := hF (b + L1) (by omega) (by omega)
    refine z_aload_n S rfl (lv_at hl 0 rfl) d_Ca_215 ?_
    refine z_get (C := "java/util/ComparableTimSort") (T := F_Cts) (N := 8) (ci := 2) S tin_Cts hG hO2 rfl 0 (by decide) tf_C16 rfl rfl d_Ca_216 ?_
    refine z_iload S (lv_at hl 3 rfl) d_Ca_219 ?_
    refine n_aald (b + L1) S hG.M ha2 (by omega) rfl (by omega) er d_Ca_221 ?_
    refine z_cast S hG (hM2 yr mr) tcl_C69 d_Ca_222 ?_
    refine z_aload_n S rfl (lv_at hl 0 rfl) d_Ca_225 ?_
    refine z_get (C := "java/util/ComparableTimSort") (T := F_Cts) (N := 8) (ci := 2) S tin_Cts hG hO2 rfl 0 (by decide) tf_C16 rfl rfl d_Ca_226 ?_
    refine z_iload_n S rfl (lv_at hl 1 rfl) d_Ca_229 ?_
    refine z_iload_n S rfl (lv_at hl 2 rfl) d_Ca_230 ?_
    refine z_iconst S d_Ca_231 ?_
    refine z_callS (n := 5) S (ct_Gr l K false yr a n b L1 0 f M wt nm (by omega) (by omega) (by omega) mr (hF.sub (by omega) (by omega)) hs) tc_Gr tm_C89 ts_Gr tn_C (by decide) (by decide) rfl hG hkX hlo ⟨ha2, hM2⟩ hl rfl (by decide) (by decide) d_Ca_232 (fun v H1 locs hp hlo => ?_)
    obtain ⟨r, rfl, rfl, r1, r2, r3⟩ := hp
    refine W.cs (cells' := 0) (slots' := 0) rfl rfl ?_
    rw [← kw_some (wt := wt) er] at r2 r3
    refine z_istore (lv' := [(6, .int (zI r)), (0, .ref o), (2, .int (zI b)), (3, .int (zI L1)), (4, .int (zI ((b + L1 : Nat) : Int))), (5, .int (zI L2))]) S hl rfl (by decide) d_Ca_235 (fun ls hl => ?_)
    refine z_asrt (tgt := 256) S hG hkX tw_asrt (by decide) d_Ca_237 d_Ca_240 ?_
    refine z_iload_n S rfl (lv_at hl 2 rfl) d_Ca_256 ?_
    refine z_iload S (lv_at hl 0 rfl) d_Ca_257 ?_
    refine z_iadd S d_Ca_259 ?_
    refine z_istore_n (lv' := [(2, .int (zI (b + r))), (6, .int (zI r)), (0, .ref o), (3, .int (zI L1)), (4, .int (zI ((b + L1 : Nat) : Int))), (5, .int (zI L2))]) S rfl hl rfl (by decide) d_Ca_260 (fun ls hl => ?_)
    refine z_iload_n S rfl (lv_at hl 3 rfl) d_Ca_261 ?_
    refine z_iload S (lv_at hl 1 rfl) d_Ca_262 ?_
    refine z_isub S d_Ca_264 ?_
    refine z_istore_n (lv' := [(3, .int (zI (L1 - r))), (2, .int (zI (b + r))), (6, .int (zI r)), (0, .ref o), (4, .int (zI ((b + L1 : Nat) : Int))), (5, .int (zI L2))]) S rfl hl rfl (by decide) d_Ca_265 (fun ls hl => ?_)
    refine z_iload_n S rfl (lv_at hl 0 rfl) d_Ca_266 ?_
    have hl : lv_has ls 7 [(0, .ref o), (2, .int (zI (b + r))), (3, .int (zI (L1 - r))), (4, .int (zI ((b + L1 : Nat) : Int))), (5, .int (zI L2))] := lv_sub hl [3, 1, 0, 4, 5] rfl
    have hl : lv_has ls 7 [(0, .ref o), (2, .int (zI ((b + r : Nat) : Int))), (3, .int (zI (L1 - r))), (4, .int (zI ((b + L1 : Nat) : Int))), (5, .int (zI L2))] := lv_ren hl 1 rfl (show (b + r) = ((b + r : Nat) : Int) by omega)
    have hl : lv_has ls 7 [(0, .ref o), (2, .int (zI ((b + r : Nat) : Int))), (3, .int (zI ((L1 - r : Nat) : Int))), (4, .int (zI ((b + L1 : Nat) : Int))), (5, .int (zI L2))] := lv_ren hl 2 rfl (show (L1 - r) = ((L1 - r : Nat) : Int) by omega)
    refine z_if_ne (tgt := 271) S (by decide) (by omega) d_Ca_267 ?_ ?_
    · intro hc
      have hrL : r < L1 := by omega
      obtain ⟨yl, el, ml⟩ := hF (b + L1 - 1) (by omega) (by omega)
      refine z_aload_n S rfl (lv_at hl 0 rfl) d_Ca_271 ?_
      refine z_get (C := "java/util/ComparableTimSort") (T := F_Cts) (N := 8) (ci := 2) S tin_Cts hG hO2 rfl 0 (by decide) tf_C16 rfl rfl d_Ca_272 ?_
      refine z_iload_n S rfl (lv_at hl 1 rfl) d_Ca_275 ?_
      refine z_iload_n S rfl (lv_at hl 2 rfl) d_Ca_276 ?_
      refine z_iadd S d_Ca_277 ?_
      refine z_iconst S d_Ca_278 ?_
      refine z_isub S d_Ca_279 ?_
      refine n_aald (b + L1 - 1) S hG.M ha2 (by omega) (by omega) (by omega) el d_Ca_280 ?_
      refine z_cast S hG (hM2 yl ml) tcl_C69 d_Ca_281 ?_
      refine z_aload_n S rfl (lv_at hl 0 rfl) d_Ca_284 ?_
      refine z_get (C := "java/util/ComparableTimSort") (T := F_Cts) (N := 8) (ci := 2) S tin_Cts hG hO2 rfl 0 (by decide) tf_C16 rfl rfl d_Ca_285 ?_
      refine z_iload S (lv_at hl 3 rfl) d_Ca_288 ?_
      refine z_iload S (lv_at hl 4 rfl) d_Ca_290 ?_
      refine z_iload S (lv_at hl 4 rfl) d_Ca_292 ?_
      refine z_iconst S d_Ca_294 ?_
      refine z_isub S d_Ca_295 ?_
      refine z_top (b := ((L2 - 1 : Nat) : Int)) (by omega) ?_
      refine z_callS (n := 5) S (ct_Gl l K false yl a n (b + L1) L2 (L2 - 1) f M wt nm (by omega) (by omega) (by omega) ml (hF.sub (by omega) (by omega)) hs2) tc_Gl tm_C93 ts_Gl tn_C (by decide) (by decide) rfl hG hkX hlo ⟨ha2, hM2⟩ hl rfl (by decide) (by decide) d_Ca_296 (fun v H1 locs hp hlo => ?_)
      obtain ⟨r', rfl, rfl, s1, s2, s3⟩ := hp
      refine W.cs (cells' := 0) (slots' := 0) rfl rfl ?_
      rw [← kw_some (wt := wt) el] at s2 s3
      refine z_istore (lv' := [(5, .int (zI r')), (0, .ref o), (2, .int (zI ((b + r : Nat) : Int))), (3, .int (zI ((L1 - r : Nat) : Int))), (4, .int (zI ((b + L1 : Nat) : Int)))]) S hl rfl (by decide) d_Ca_299 (fun ls hl => ?_)
      refine z_asrt (tgt := 320) S hG hkX tw_asrt (by decide) d_Ca_301 d_Ca_304 ?_
      refine z_iload S (lv_at hl 0 rfl) d_Ca_320 ?_
      have hfi : kw wt (f (b + L1)) < kw wt (f (b + r)) := r3 r (by omega) hrL
      have hlr : kw wt (f (b + r)) ≤ kw wt (f (b + L1 - 1)) := hs.le (by omega) (by omega) (by omega)
      have hr'0 : 0 < r' := by
        by_cases h : 0 < r'
        · exact h
        · exfalso
          have := s3 0 (by omega) h2
          rw [Nat.add_zero] at this
          omega
      refine z_if_ne (tgt := 326) S (by decide) (by omega) d_Ca_322 ?_ ?_
      · intro hc2
        have hla : kw wt (f (b + L1 + r' - 1)) < kw wt (f (b + L1 - 1)) := by
          have := s2 (r' - 1) (by omega)
          rw [show b + L1 + (r' - 1) = b + L1 + r' - 1 by omega] at this
          exact this
        have eLL : b + r + (L1 - r) = b + L1 := by omega
        have post : ∀ (pc : Nat) (v : Option Value) (H' : Heap) (ls : Array Slot) (locs : List Loc), decode b_Ca pc = .ok (.return_, 1) → Pmg K o a tb ((ss - 1 : Nat) : Int) rb rl n (b + r) (L1 - r) r' f M wt H1 v H' → LO (N0 K) locs → W p l e rm_Ca s m args below meth c H' locs 1 4000 Q (F0 m pc ls []) := by
          intro pc v H' ls locs hdd hp hlo
          obtain ⟨mg', tb', tl', f', g', rfl, p1, p2, p3, p4, p5, p6, p7, p8, p9, p10, p11⟩ := hp
          obtain ⟨w1, w2⟩ := mg_wrap hs hs2 hrL s1 h2 r2 s3 (fun x hx => p8 x (by omega)) p9 p10
          subst hQ
          subst hargs
          have lb := at_lt hb2
          have ll := at_lt hl2
          refine z_vret S hr hlk hlo ⟨mg', tb', tl', f', g', fb', fl', rfl, ⟨⟨p1, p2, p3, ?_⟩, ?_, ?_⟩, p4, by omega, by omega, ?_, ?_, w1, w2, p11, hfb, hfl⟩ hdd
          · exact hM2.kept (fun y hy => p7 y (hM2 y hy).lt (fun e => m1 (e ▸ hy)) (fun e => m2 (e ▸ hy)) (fun e => m3 (e ▸ hy)))
          · rw [p7 rb lb (Ne.symm d4) (Ne.symm d6) (Ne.symm d8)]; exact hb2
          · rw [p7 rl ll (Ne.symm d5) (Ne.symm d7) (Ne.symm d9)]; exact hl2
          · intro q w3 w4 w5 w6 w7 w8
            rw [p7 q (by omega) w4 w5 w6]
            exact oX1 q w4 w7 w8
          · intro x hx
            exact p8 x (by omega)
        have hl : lv_has ls 7 [(5, .int (zI r')), (0, .ref o), (2, .int (zI ((b + r : Nat) : Int))), (3, .int (zI ((L1 - r : Nat) : Int))), (4, .int (zI ((b + r + (L1 - r) : Nat) : Int)))] := lv_ren hl 4 rfl (show ((b + L1 : Nat) : Int) = ((b + r + (L1 - r) : Nat) : Int) by omega)
        refine z_iload_n S rfl (lv_at hl 3 rfl) d_Ca_326 ?_
        refine z_iload S (lv_at hl 0 rfl) d_Ca_327 ?_
        refine z_icmp_gt (tgt := 345) S (by decide) (by omega) (by omega) d_Ca_329 ?_ ?_
        · intro hc3
          refine z_aload_n S rfl (lv_at hl 1 rfl) d_Ca_345 ?_
          refine z_iload_n S rfl (lv_at hl 2 rfl) d_Ca_346 ?_
          refine z_iload_n S rfl (lv_at hl 3 rfl) d_Ca_347 ?_
          refine z_iload S (lv_at hl 4 rfl) d_Ca_348 ?_
          refine z_iload S (lv_at hl 0 rfl) d_Ca_350 ?_
          refine z_callV (C := "java/util/ComparableTimSort") (As := [.int (zI (b + r : Nat)), .int (zI (L1 - r : Nat)), .int (zI (b + r + (L1 - r) : Nat)), .int (zI r')]) (n := 4) S (ct_Mh l K o a mg tb tl ((ss - 1 : Nat) : Int) rb rl n (b + r) (L1 - r) r' f g M wt nm hn htl hN hNa hNt d1 d2 d3 m1 m2 m3 (by omega) hr'0 (by omega) (by omega) hF (hs.sub (by omega) (by omega)) (by rw [eLL]; exact hs2.sub (by omega) (by omega)) (by rw [eLL]; exact hfi) (by rw [eLL]; exact hla)) tc_Mh tm_C100 ti_Mh tse_Mh tn_C (by decide) (by decide) rfl hG hkX hlo (hO2.recv hG) ⟨hO2, ha2, ht2, hM2⟩ hl rfl (by decide) (by decide) d_Ca_352 (fun v H1 locs hp hlo => ?_)
          have ev : v = none := by obtain ⟨_, _, _, _, _, h, _⟩ := hp; exact h
          subst ev
          refine W.cs (cells' := 1) (slots' := 4000) rfl rfl ?_
          exact post 355 none H1 ls locs d_Ca_355 hp hlo
        · intro hc3
          refine z_aload_n S rfl (lv_at hl 1 rfl) d_Ca_332 ?_
          refine z_iload_n S rfl (lv_at hl 2 rfl) d_Ca_333 ?_
          refine z_iload_n S rfl (lv_at hl 3 rfl) d_Ca_334 ?_
          refine z_iload S (lv_at hl 4 rfl) d_Ca_335 ?_
          refine z_iload S (lv_at hl 0 rfl) d_Ca_337 ?_
          refine z_callV (C := "java/util/ComparableTimSort") (As := [.int (zI (b + r : Nat)), .int (zI (L1 - r : Nat)), .int (zI (b + r + (L1 - r) : Nat)), .int (zI r')]) (n := 4) S (ct_Ml l K o a mg tb tl ((ss - 1 : Nat) : Int) rb rl n (b + r) (L1 - r) r' f g M wt nm hn htl hN hNa hNt d1 d2 d3 m1 m2 m3 (by omega) hr'0 (by omega) (by omega) hF (hs.sub (by omega) (by omega)) (by rw [eLL]; exact hs2.sub (by omega) (by omega)) (by rw [eLL]; exact hfi) (by rw [eLL]; exact hla)) tc_Ml tm_C96 ti_Ml tse_Ml tn_C (by decide) (by decide) rfl hG hkX hlo (hO2.recv hG) ⟨hO2, ha2, ht2, hM2⟩ hl rfl (by decide) (by decide) d_Ca_339 (fun v H1 locs hp hlo => ?_)
          have ev : v = none := by obtain ⟨_, _, _, _, _, h, _⟩ := hp; exact h
          subst ev
          refine W.cs (cells' := 1) (slots' := 4000) rfl rfl ?_
          refine z_goto (tgt := 355) S (by decide) d_Ca_342 ?_
          exact post 355 none H1 ls locs d_Ca_355 hp hlo
      · intro hc2
        omega
    · intro hc
      have hrL : r = L1 := by omega
      refine same 270 ls locs d_Ca_270 ?_ hlo
      refine Srt.join hs hs2 (fun x y x1 x2 y1 y2 => ?_)
      have q1 := r2 (x - b) (by omega)
      rw [show b + (x - b) = x by omega] at q1
      have q2 := hs2.le (a := b + L1) (b := y) (by omega) y1 (by omega)
      omega
  obtain ⟨⟨hO, ha, ht, hM⟩, hb, hlr⟩ := id hP
  refine z_asrt (tgt := 22) S hG Keep.rf tw_asrt (by decide) d_Ca_0 d_Ca_3 ?_
  refine z_asrt (tgt := 40) S hG Keep.rf tw_asrt (by decide) d_Ca_22 d_Ca_25 ?_
  refine z_asrt (tgt := 74) S hG Keep.rf tw_asrt (by decide) d_Ca_40 d_Ca_43 ?_
  refine z_aload_n S rfl (lv_at hl 0 rfl) d_Ca_74 ?_
  refine z_get (C := "java/util/ComparableTimSort") (T := F_Cts) (N := 8) (ci := 2) S tin_Cts hG hO rfl 6 (by decide) tf_C30 rfl rfl d_Ca_75 ?_
  refine z_iload_n S rfl (lv_at hl 1 rfl) d_Ca_78 ?_
  refine n_iald i S hG.I hb (by omega) (by omega) (by omega) eb1 d_Ca_79 ?_
  refine z_istore_n (lv' := [(2, .int (zI b)), (0, .ref o), (1, .int (zI i))]) S rfl hl rfl (by decide) d_Ca_80 (fun ls hl => ?_)
  refine z_aload_n S rfl (lv_at hl 1 rfl) d_Ca_81 ?_
  refine z_get (C := "java/util/ComparableTimSort") (T := F_Cts) (N := 8) (ci := 2) S tin_Cts hG hO rfl 7 (by decide) tf_C34 rfl rfl d_Ca_82 ?_
  refine z_iload_n S rfl (lv_at hl 2 rfl) d_Ca_85 ?_
  refine n_iald i S hG.I hlr (by omega) (by omega) (by omega) el1 d_Ca_86 ?_
  refine z_istore_n (lv' := [(3, .int (zI L1)), (2, .int (zI b)), (0, .ref o), (1, .int (zI i))]) S rfl hl rfl (by decide) d_Ca_87 (fun ls hl => ?_)
  refine z_aload_n S rfl (lv_at hl 2 rfl) d_Ca_88 ?_
  refine z_get (C := "java/util/ComparableTimSort") (T := F_Cts) (N := 8) (ci := 2) S tin_Cts hG hO rfl 6 (by decide) tf_C30 rfl rfl d_Ca_89 ?_
  refine z_iload_n S rfl (lv_at hl 3 rfl) d_Ca_92 ?_
  refine z_iconst S d_Ca_93 ?_
  refine z_iadd S d_Ca_94 ?_
  refine n_iald (i + 1) S hG.I hb (by omega) (by omega) (by omega) eb2 d_Ca_95 ?_
  refine z_istore (lv' := [(4, .int (zI ((b + L1 : Nat) : Int))), (3, .int (zI L1)), (2, .int (zI b)), (0, .ref o), (1, .int (zI i))]) S hl rfl (by decide) d_Ca_96 (fun ls hl => ?_)
  refine z_aload_n S rfl (lv_at hl 3 rfl) d_Ca_98 ?_
  refine z_get (C := "java/util/ComparableTimSort") (T := F_Cts) (N := 8) (ci := 2) S tin_Cts hG hO rfl 7 (by decide) tf_C34 rfl rfl d_Ca_99 ?_
  refine z_iload_n S rfl (lv_at hl 4 rfl) d_Ca_102 ?_
  refine z_iconst S d_Ca_103 ?_
  refine z_iadd S d_Ca_104 ?_
  refine n_iald (i + 1) S hG.I hlr (by omega) (by omega) (by omega) el2 d_Ca_105 ?_
  refine z_istore (lv' := [(5, .int (zI L2)), (4, .int (zI ((b + L1 : Nat) : Int))), (3, .int (zI L1)), (2, .int (zI b)), (0, .ref o), (1, .int (zI i))]) S hl rfl (by decide) d_Ca_106 (fun ls hl => ?_)
  refine z_asrt (tgt := 131) S hG Keep.rf tw_asrt (by decide) d_Ca_108 d_Ca_111 ?_
  refine z_asrt (tgt := 153) S hG Keep.rf tw_asrt (by decide) d_Ca_131 d_Ca_134 ?_
  refine z_aload_n S rfl (lv_at hl 4 rfl) d_Ca_153 ?_
  refine z_get (C := "java/util/ComparableTimSort") (T := F_Cts) (N := 8) (ci := 2) S tin_Cts hG hO rfl 7 (by decide) tf_C34 rfl rfl d_Ca_154 ?_
  refine z_iload_n S rfl (lv_at hl 5 rfl) d_Ca_157 ?_
  refine z_iload_n S rfl (lv_at hl 2 rfl) d_Ca_158 ?_
  refine z_iload S (lv_at hl 0 rfl) d_Ca_159 ?_
  refine z_iadd S d_Ca_161 ?_
  refine z_top (b := ((L1 + L2 : Nat) : Int)) (by omega) ?_
  refine n_iast i S hG.I hlr LO.nil hNl (by omega) (by omega) (by omega) d_Ca_162 (fun locs hlo => ?_)
  have hX := CWo.rl' hP hD (va_up fl i (zI ((L1 + L2 : Nat) : Int)))
  have zX : (s.heap.setIfInBounds rl (IA (cI_ K) sl (va_up fl i (zI ((L1 + L2 : Nat) : Int))))).size = s.heap.size := by simp
  have oX : ∀ q, q ≠ o → q ≠ rb → q ≠ rl → (s.heap.setIfInBounds rl (IA (cI_ K) sl (va_up fl i (zI ((L1 + L2 : Nat) : Int)))))[q]? = s.heap[q]? := fun q _ _ h => set_off h
  generalize s.heap.setIfInBounds rl (IA (cI_ K) sl (va_up fl i (zI ((L1 + L2 : Nat) : Int)))) = X at hX zX oX ⊢
  refine z_iload_n S rfl (lv_at hl 5 rfl) d_Ca_163 ?_
  refine z_aload_n S rfl (lv_at hl 4 rfl) d_Ca_164 ?_
  refine z_get (C := "java/util/ComparableTimSort") (T := F_Cts) (N := 8) (ci := 2) S tin_Cts hG hX.1.1 rfl 5 (by decide) tf_C13 rfl rfl d_Ca_165 ?_
  refine z_iconst S d_Ca_168 ?_
  refine z_isub S d_Ca_169 ?_
  refine z_icmp_ne (tgt := 205) S (by decide) (by omega) (by omega) d_Ca_170 ?_ ?_
  · intro hc
    refine t205 _ _ X ls locs hX zX oX ?_ ?_ hlo (lv_sub hl [4, 3, 2, 1, 0] rfl)
    · intro j hj
      rw [if_pos (by omega)]
    · intro j hj
      by_cases e1 : j = i
      · subst e1
        rw [va_up_self, if_neg (by omega), if_pos rfl]
      · rw [va_up_ne _ _ e1, if_pos (by omega)]
  · intro hc
    have h3 : i + 3 = ss := by omega
    refine z_aload_n S rfl (lv_at hl 4 rfl) d_Ca_173 ?_
    refine z_get (C := "java/util/ComparableTimSort") (T := F_Cts) (N := 8) (ci := 2) S tin_Cts hG hX.1.1 rfl 6 (by decide) tf_C30 rfl rfl d_Ca_174 ?_
    refine z_iload_n S rfl (lv_at hl 5 rfl) d_Ca_177 ?_
    refine z_iconst S d_Ca_178 ?_
    refine z_iadd S d_Ca_179 ?_
    refine z_aload_n S rfl (lv_at hl 4 rfl) d_Ca_180 ?_
    refine z_get (C := "java/util/ComparableTimSort") (T := F_Cts) (N := 8) (ci := 2) S tin_Cts hG hX.1.1 rfl 6 (by decide) tf_C30 rfl rfl d_Ca_181 ?_
    refine z_iload_n S rfl (lv_at hl 5 rfl) d_Ca_184 ?_
    refine z_iconst S d_Ca_185 ?_
    refine z_iadd S d_Ca_186 ?_
    refine n_iald (i + 2) S hG.I hX.2.1 (by omega) (by omega) (by omega) rfl d_Ca_187 ?_
    refine n_iast (i + 1) S hG.I hX.2.1 hlo hNb (by omega) (by omega) (by omega) d_Ca_188 (fun locs hlo => ?_)
    have hX1 := CWo.rb' hX hD (va_up fb (i + 1) (fb (i + 2)))
    have zX1 : (X.setIfInBounds rb (IA (cI_ K) sl (va_up fb (i + 1) (fb (i + 2))))).size = s.heap.size := by simp; exact zX
    have oX1 : ∀ q, q ≠ o → q ≠ rb → q ≠ rl → (X.setIfInBounds rb (IA (cI_ K) sl (va_up fb (i + 1) (fb (i + 2)))))[q]? = s.heap[q]? := fun q q1 q2 q3 => (set_off q2).trans (oX q q1 q2 q3)
    generalize X.setIfInBounds rb (IA (cI_ K) sl (va_up fb (i + 1) (fb (i + 2)))) = X1 at hX1 zX1 oX1 ⊢
    refine z_aload_n S rfl (lv_at hl 4 rfl) d_Ca_189 ?_
    refine z_get (C := "java/util/ComparableTimSort") (T := F_Cts) (N := 8) (ci := 2) S tin_Cts hG hX1.1.1 rfl 7 (by decide) tf_C34 rfl rfl d_Ca_190 ?_
    refine z_iload_n S rfl (lv_at hl 5 rfl) d_Ca_193 ?_
    refine z_iconst S d_Ca_194 ?_
    refine z_iadd S d_Ca_195 ?_
    refine z_aload_n S rfl (lv_at hl 4 rfl) d_Ca_196 ?_
    refine z_get (C := "java/util/ComparableTimSort") (T := F_Cts) (N := 8) (ci := 2) S tin_Cts hG hX1.1.1 rfl 7 (by decide) tf_C34 rfl rfl d_Ca_197 ?_
    refine z_iload_n S rfl (lv_at hl 5 rfl) d_Ca_200 ?_
    refine z_iconst S d_Ca_201 ?_
    refine z_iadd S d_Ca_202 ?_
    refine n_iald (i + 2) S hG.I hX1.2.2 (by omega) (by omega) (by omega) (va_up_ne _ _ (by omega)) d_Ca_203 ?_
    refine n_iast (i + 1) S hG.I hX1.2.2 hlo hNl (by omega) (by omega) (by omega) d_Ca_204 (fun locs hlo => ?_)
    refine t205 _ _ _ ls locs (CWo.rl' hX1 hD _) (by simp; exact zX1) (fun q q1 q2 q3 => (set_off q3).trans (oX1 q q1 q2 q3)) ?_ ?_ hlo (lv_sub hl [4, 3, 2, 1, 0] rfl)
    · intro j hj
      by_cases e1 : j = i + 1
      · subst e1
        rw [va_up_self, if_neg (by omega)]
      · rw [va_up_ne _ _ e1, if_pos (by omega)]
    · intro j hj
      by_cases e1 : j = i + 1
      · subst e1
        rw [va_up_self, if_neg (by omega), if_neg (by omega)]
      · rw [va_up_ne _ _ e1]
        by_cases e2 : j = i
        · subst e2
          rw [va_up_self, if_neg (by omega), if_pos rfl]
        · rw [va_up_ne _ _ e2, if_pos (by omega)]
end
section
/-! the stack of runs: where they begin, which are merged, how many there can be -/
def SB (lo : Nat) (L : Nat → Nat) : Nat → Nat
  | 0 => lo
  | j + 1 => SB lo L j + L j
def mL (L : Nat → Nat) (i j : Nat) : Nat := if j < i then L j else if j = i then L i + L (i + 1) else L (j + 1)
theorem SB_le {lo : Nat} {L : Nat → Nat} : ∀ (d j : Nat), SB lo L j ≤ SB lo L (j + d)
  | 0, j => Nat.le_refl _
  | d + 1, j => Nat.le_trans (SB_le d j) (by show _ ≤ SB lo L (j + d) + L (j + d); omega)
theorem SB_mono {lo : Nat} {L : Nat → Nat} {i j : Nat} (h : i ≤ j) : SB lo L i ≤ SB lo L j := by
  have := SB_le (lo := lo) (L := L) (j - i) i
  rw [show i + (j - i) = j by omega] at this
  exact this
theorem SB_lo {lo : Nat} {L : Nat → Nat} (j : Nat) : lo ≤ SB lo L j := SB_mono (lo := lo) (L := L) (i := 0) (by omega)
theorem SB_congr {lo : Nat} {L L' : Nat → Nat} : ∀ {s : Nat}, (∀ j, j < s → L' j = L j) → SB lo L' s = SB lo L s
  | 0, _ => rfl
  | s + 1, h => by
    show SB lo L' s + L' s = SB lo L s + L s
    rw [SB_congr (fun j hj => h j (by omega)), h s (by omega)]
theorem SB_mL_low {lo : Nat} {L : Nat → Nat} {i j : Nat} (h : j ≤ i) : SB lo (mL L i) j = SB lo L j := SB_congr (fun x hx => by unfold mL; rw [if_pos (by omega)])
theorem SB_mL {lo : Nat} {L : Nat → Nat} {i : Nat} : ∀ {d : Nat}, SB lo (mL L i) (i + 1 + d) = SB lo L (i + 2 + d)
  | 0 => by
    show SB lo (mL L i) i + mL L i i = SB lo L i + L i + L (i + 1)
    rw [SB_mL_low (Nat.le_refl _)]
    unfold mL
    rw [if_neg (by omega), if_pos rfl]
    omega
  | d + 1 => by
    show SB lo (mL L i) (i + 1 + d) + mL L i (i + 1 + d) = SB lo L (i + 2 + d) + L (i + 2 + d)
    rw [SB_mL]
    unfold mL
    rw [if_neg (by omega), if_neg (by omega), show i + 1 + d + 1 = i + 2 + d by omega]
theorem SB_mL_high {lo : Nat} {L : Nat → Nat} {i j : Nat} (h : i < j) : SB lo (mL L i) j = SB lo L (j + 1) := by
  have := SB_mL (lo := lo) (L := L) (i := i) (d := j - i - 1)
  rw [show i + 1 + (j - i - 1) = j by omega, show i + 2 + (j - i - 1) = j + 1 by omega] at this
  exact this
def cpick (L : Nat → Nat) (ss : Nat) : Option Nat :=
  if ss ≤ 1 then none
  else if (2 < ss ∧ L (ss - 3) ≤ L (ss - 2) + L (ss - 1)) ∨ (3 < ss ∧ L (ss - 4) ≤ L (ss - 2) + L (ss - 3)) then (if L (ss - 3) < L (ss - 1) then some (ss - 3) else some (ss - 2))
  else if L (ss - 1) < L (ss - 2) then none else some (ss - 2)
def colx : Nat → (Nat → Nat) → Nat → (Nat → Nat) × Nat
  | 0, L, ss => (L, ss)
  | m + 1, L, ss => match cpick L ss with
    | none => (L, ss)
    | some i => colx m (mL L i) (ss - 1)
theorem cpick_in {L : Nat → Nat} {ss i : Nat} (h : cpick L ss = some i) : 2 ≤ ss ∧ (i + 2 = ss ∨ (i + 3 = ss)) := by
  unfold cpick at h
  by_cases h1 : ss ≤ 1
  · rw [if_pos h1] at h; cases h
  · rw [if_neg h1] at h
    by_cases h2 : (2 < ss ∧ L (ss - 3) ≤ L (ss - 2) + L (ss - 1)) ∨ (3 < ss ∧ L (ss - 4) ≤ L (ss - 2) + L (ss - 3))
    · rw [if_pos h2] at h
      by_cases h3 : L (ss - 3) < L (ss - 1)
      · rw [if_pos h3] at h
        cases h
        omega
      · rw [if_neg h3] at h
        cases h
        omega
    · rw [if_neg h2] at h
      by_cases h3 : L (ss - 1) < L (ss - 2)
      · rw [if_pos h3] at h; cases h
      · rw [if_neg h3] at h
        cases h
        omega
theorem cpick_none {L : Nat → Nat} {ss : Nat} (h : cpick L ss = none) (h2 : 2 ≤ ss) : L (ss - 1) < L (ss - 2) ∧ (3 ≤ ss → L (ss - 2) + L (ss - 1) < L (ss - 3)) ∧ (4 ≤ ss → L (ss - 2) + L (ss - 3) < L (ss - 4)) := by
  unfold cpick at h
  rw [if_neg (by omega)] at h
  by_cases h2 : (2 < ss ∧ L (ss - 3) ≤ L (ss - 2) + L (ss - 1)) ∨ (3 < ss ∧ L (ss - 4) ≤ L (ss - 2) + L (ss - 3))
  · rw [if_pos h2] at h
    by_cases h3 : L (ss - 3) < L (ss - 1)
    · rw [if_pos h3] at h; cases h
    · rw [if_neg h3] at h; cases h
  · rw [if_neg h2] at h
    by_cases h3 : L (ss - 1) < L (ss - 2)
    · exact ⟨h3, by omega, by omega⟩
    · rw [if_neg h3] at h; cases h
theorem col_le : ∀ (m : Nat) (L : Nat → Nat) (ss : Nat), (colx m L ss).2 ≤ ss
  | 0, L, ss => Nat.le_refl _
  | m + 1, L, ss => by
    unfold colx
    cases h : cpick L ss with
    | none => exact Nat.le_refl _
    | some i => exact Nat.le_trans (col_le m _ _) (by omega)
theorem col_pos : ∀ (m : Nat) (L : Nat → Nat) (ss : Nat), 1 ≤ ss → 1 ≤ (colx m L ss).2
  | 0, L, ss, h0 => h0
  | m + 1, L, ss, h0 => by
    unfold colx
    cases h : cpick L ss with
    | none => exact h0
    | some i =>
      have := cpick_in h
      exact col_pos m _ _ (by omega)
theorem col_sum (lo : Nat) : ∀ (m : Nat) (L : Nat → Nat) (ss : Nat), SB lo (colx m L ss).1 (colx m L ss).2 = SB lo L ss
  | 0, L, ss => rfl
  | m + 1, L, ss => by
    unfold colx
    cases h : cpick L ss with
    | none => rfl
    | some i =>
      have := cpick_in h
      show SB lo (colx m (mL L i) (ss - 1)).1 (colx m (mL L i) (ss - 1)).2 = _
      rw [col_sum lo m, SB_mL_high (by omega), show ss - 1 + 1 = ss by omega]
theorem col_min (q : Nat) : ∀ (m : Nat) (L : Nat → Nat) (ss : Nat), (∀ j, j < ss → q ≤ L j) → ∀ j, j < (colx m L ss).2 → q ≤ (colx m L ss).1 j
  | 0, L, ss, h0 => h0
  | m + 1, L, ss, h0 => by
    unfold colx
    cases h : cpick L ss with
    | none => exact h0
    | some i =>
      have := cpick_in h
      refine col_min q m _ _ (fun j hj => ?_)
      unfold mL
      by_cases h1 : j < i
      · rw [if_pos h1]; exact h0 j (by omega)
      · rw [if_neg h1]
        by_cases h2 : j = i
        · rw [if_pos h2]
          have := h0 i (by omega)
          omega
        · rw [if_neg h2]; exact h0 _ (by omega)
theorem col_fib : ∀ (m : Nat) (L : Nat → Nat) (ss : Nat), ss ≤ m → (∀ i, i + 5 ≤ ss → L (i + 1) + L (i + 2) < L i) → (∀ i, i + 3 ≤ (colx m L ss).2 → (colx m L ss).1 (i + 1) + (colx m L ss).1 (i + 2) < (colx m L ss).1 i) ∧ (2 ≤ (colx m L ss).2 → (colx m L ss).1 ((colx m L ss).2 - 1) < (colx m L ss).1 ((colx m L ss).2 - 2))
  | 0, L, ss, h0, hJ => by
    show (∀ i, i + 3 ≤ ss → L (i + 1) + L (i + 2) < L i) ∧ (2 ≤ ss → L (ss - 1) < L (ss - 2))
    exact ⟨fun i hi => by omega, fun h => by omega⟩
  | m + 1, L, ss, h0, hJ => by
    unfold colx
    cases h : cpick L ss with
    | none =>
      show (∀ i, i + 3 ≤ ss → L (i + 1) + L (i + 2) < L i) ∧ (2 ≤ ss → L (ss - 1) < L (ss - 2))
      by_cases h2 : 2 ≤ ss
      · obtain ⟨c1, c2, c3⟩ := cpick_none h h2
        refine ⟨fun i hi => ?_, fun _ => c1⟩
        by_cases e1 : i + 3 = ss
        · have := c2 (by omega)
          rw [show i + 1 = ss - 2 by omega, show i + 2 = ss - 1 by omega, show i = ss - 3 by omega]
          exact this
        · by_cases e2 : i + 4 = ss
          · have := c3 (by omega)
            rw [show i + 1 = ss - 3 by omega, show i + 2 = ss - 2 by omega, show i = ss - 4 by omega]
            omega
          · exact hJ i (by omega)
      · exact ⟨fun i hi => by omega, fun h => by omega⟩
    | some i =>
      have := cpick_in h
      refine col_fib m _ _ (by omega) (fun j hj => ?_)
      unfold mL
      rw [if_pos (by omega), if_pos (by omega), if_pos (by omega)]
      exact hJ j (by omega)
/-- the least lengths from the top of a stack in order -/
def phi : Nat → Nat
  | 0 => 16
  | 1 => 17
  | t + 2 => phi (t + 1) + phi t + 1
def Phi : Nat → Nat
  | 0 => 0
  | t + 1 => Phi t + phi t
theorem phi_le {L : Nat → Nat} {ss : Nat} (hm : ∀ j, j < ss → 16 ≤ L j) (hf : ∀ i, i + 3 ≤ ss → L (i + 1) + L (i + 2) < L i) (h2 : 2 ≤ ss → L (ss - 1) < L (ss - 2)) : ∀ t, t < ss → phi t ≤ L (ss - 1 - t)
  | 0, h => hm _ (by omega)
  | 1, h => by
    have a1 := h2 (by omega)
    have a2 := hm (ss - 1) (by omega)
    show 17 ≤ _
    rw [show ss - 1 - 1 = ss - 2 by omega]
    omega
  | t + 2, h => by
    have a1 := phi_le hm hf h2 (t + 1) (by omega)
    have a2 := phi_le hm hf h2 t (by omega)
    have a3 := hf (ss - 1 - (t + 2)) (by omega)
    show phi (t + 1) + phi t + 1 ≤ _
    rw [show ss - 1 - (t + 2) + 1 = ss - 1 - (t + 1) by omega, show ss - 1 - (t + 2) + 2 = ss - 1 - t by omega] at a3
    omega
theorem Phi_le {lo : Nat} {L : Nat → Nat} {ss : Nat} (hm : ∀ j, j < ss → 16 ≤ L j) (hf : ∀ i, i + 3 ≤ ss → L (i + 1) + L (i + 2) < L i) (h2 : 2 ≤ ss → L (ss - 1) < L (ss - 2)) : ∀ t, t ≤ ss → SB lo L (ss - t) + Phi t ≤ SB lo L ss
  | 0, _ => by show SB lo L ss + 0 ≤ _; omega
  | t + 1, h => by
    have a1 := Phi_le (lo := lo) hm hf h2 t (by omega)
    have a2 := phi_le hm hf h2 t (by omega)
    have e : SB lo L (ss - t) = SB lo L (ss - (t + 1)) + L (ss - (t + 1)) := by
      rw [show ss - t = (ss - (t + 1)) + 1 by omega]
      rfl
    rw [show ss - 1 - t = ss - (t + 1) by omega] at a2
    show SB lo L (ss - (t + 1)) + (Phi t + phi t) ≤ _
    omega
/-- how many places the stack has, for a row of n -/
def slen (n : Nat) : Nat := if n < 120 then 5 else if n < 1542 then 10 else 24
theorem slen_ok {lo : Nat} {L : Nat → Nat} {ss n : Nat} (hm : ∀ j, j < ss → 16 ≤ L j) (hf : ∀ i, i + 3 ≤ ss → L (i + 1) + L (i + 2) < L i) (h2 : 2 ≤ ss → L (ss - 1) < L (ss - 2)) (hn : n ≤ 8000) (ht : SB lo L ss < n) : ss < slen n := by
  have e5 : Phi 5 = 206 := by decide
  have e10 : Phi 10 = 2509 := by decide
  have e13 : Phi 13 = 10700 ∨ 8001 ≤ Phi 13 := Or.inr (by decide)
  unfold slen
  by_cases h1 : n < 120
  · rw [if_pos h1]
    by_cases h : ss < 5
    · exact h
    · have := Phi_le (lo := lo) hm hf h2 5 (by omega)
      omega
  · rw [if_neg h1]
    by_cases h3 : n < 1542
    · rw [if_pos h3]
      by_cases h : ss < 10
      · exact h
      · have := Phi_le (lo := lo) hm hf h2 10 (by omega)
        omega
    · rw [if_neg h3]
      by_cases h : ss < 13
      · omega
      · have := Phi_le (lo := lo) hm hf h2 13 (by omega)
        rcases e13 with e | e <;> omega
theorem slen_le (n : Nat) : slen n ≤ 24 := by unfold slen; split <;> (try split) <;> omega
/-- the runs on the stack, and what they hold: f0 is the row before -/
def STK (M : Nat → Prop) (wt : Nat → Int32) (n lo T : Nat) (f0 f : Nat → Option Nat) (fb fl : Nat → Int32) (L : Nat → Nat) (ss : Nat) : Prop :=
  (∀ j, j < ss → fb j = zI (SB lo L j) ∧ fl j = zI (L j) ∧ 0 < L j ∧ Srt (kw wt) f (SB lo L j) (L j)) ∧ SB lo L ss = T ∧ T ≤ n ∧ (∀ x, (x < lo ∨ T ≤ x) → f x = f0 x) ∧ Eqv (kw wt) (sg f lo (T - lo)) (sg f0 lo (T - lo)) ∧ Full M f 0 n
theorem STK.merge {M : Nat → Prop} {wt : Nat → Int32} {n lo T : Nat} {f0 f f' : Nat → Option Nat} {fb fl fb' fl' : Nat → Int32} {L : Nat → Nat} {ss i : Nat} (h : STK M wt n lo T f0 f fb fl L ss) (hi : i + 1 < ss) (hoff : ∀ x, (x < SB lo L i ∨ SB lo L i + L i + L (i + 1) ≤ x) → f' x = f x) (hs : Srt (kw wt) f' (SB lo L i) (L i + L (i + 1))) (he : Eqv (kw wt) (sg f' (SB lo L i) (L i + L (i + 1))) (sg f (SB lo L i) (L i + L (i + 1)))) (hF : Full M f' 0 n)
    (hfb : ∀ j, j + 1 < ss → fb' j = if j ≤ i then fb j else fb (j + 1)) (hfl : ∀ j, j + 1 < ss → fl' j = if j < i then fl j else if j = i then zI ((L i + L (i + 1) : Nat) : Int) else fl (j + 1)) : STK M wt n lo T f0 f' fb' fl' (mL L i) (ss - 1) := by
  obtain ⟨h1, h2, h3, h4, h5, h6⟩ := h
  have i1 : SB lo L (i + 1) = SB lo L i + L i := rfl
  have i2 : SB lo L (i + 2) = SB lo L i + L i + L (i + 1) := rfl
  have hT : SB lo L (i + 2) ≤ T := by rw [← h2]; exact SB_mono (by omega)
  have hlo : lo ≤ SB lo L i := SB_lo i
  refine ⟨fun j hj => ?_, ?_, h3, fun x hx => ?_, ?_, hF⟩
  · rw [hfb j (by omega), hfl j (by omega)]
    by_cases c1 : j < i
    · have e : mL L i j = L j := by unfold mL; rw [if_pos c1]
      rw [if_pos (by omega), if_pos c1, SB_mL_low (by omega), e]
      obtain ⟨a1, a2, a3, a4⟩ := h1 j (by omega)
      have b1 : SB lo L (j + 1) ≤ SB lo L i := SB_mono (by omega)
      have b2 : SB lo L (j + 1) = SB lo L j + L j := rfl
      exact ⟨a1, a2, a3, a4.congr (fun x x1 x2 => hoff x (by omega))⟩
    · rw [if_neg c1]
      by_cases c2 : j = i
      · subst c2
        have e : mL L j j = L j + L (j + 1) := by unfold mL; rw [if_neg (by omega), if_pos rfl]
        rw [if_pos (by omega), if_pos rfl, SB_mL_low (by omega), e]
        obtain ⟨a1, a2, a3, a4⟩ := h1 j (by omega)
        exact ⟨a1, rfl, by omega, hs⟩
      · have e : mL L i j = L (j + 1) := by unfold mL; rw [if_neg c1, if_neg c2]
        rw [if_neg (by omega), if_neg c2, SB_mL_high (by omega), e]
        obtain ⟨a1, a2, a3, a4⟩ := h1 (j + 1) (by omega)
        have b1 : SB lo L (i + 2) ≤ SB lo L (j + 1) := SB_mono (by omega)
        exact ⟨a1, a2, a3, a4.congr (fun x x1 x2 => hoff x (by omega))⟩
  · rw [SB_mL_high (by omega), show ss - 1 + 1 = ss by omega]
    exact h2
  · rw [hoff x (by omega)]
    exact h4 x hx
  · refine Eqv.tr ?_ h5
    have e : ∀ φ : Nat → Option Nat, sg φ lo (T - lo) = sg φ lo (SB lo L i - lo) ++ (sg φ (SB lo L i) (L i + L (i + 1)) ++ sg φ (SB lo L i + L i + L (i + 1)) (T - (SB lo L i + L i + L (i + 1)))) := fun φ => by
      rw [show T - lo = (SB lo L i - lo) + ((L i + L (i + 1)) + (T - (SB lo L i + L i + L (i + 1)))) by omega, sg_app, sg_app, show lo + (SB lo L i - lo) = SB lo L i by omega, show SB lo L i + (L i + L (i + 1)) = SB lo L i + L i + L (i + 1) by omega]
    rw [e f', e f]
    exact (Eqv.of (sg_same (fun x x1 x2 => hoff x (by omega)))).app (he.app (Eqv.of (sg_same (fun x x1 x2 => hoff x (by omega)))))
end
section
/-! pushRun, mergeCollapse, mergeForceCollapse -/
set_option maxRecDepth 100000
theorem DS.tb' {K : KD} {o a tb tb' rb rl : Nat} {M : Nat → Prop} {z : Nat} (h : DS K o a tb rb rl M) (ht : tb' = tb ∨ z ≤ tb') (h1 : o < z) (h2 : a < z) (h3 : rb < z) (h4 : rl < z) (hm : ∀ y, M y → y < z) (hN : N0 K ≤ z) : DS K o a tb' rb rl M := by
  rcases ht with rfl | ht
  · exact h
  · obtain ⟨⟨n1, n2, n3, n4, n5⟩, ⟨d1, d2, d3, d4, d5, d6, d7, d8, d9, d10⟩, m1, m2, m3, m4, m5⟩ := h
    exact ⟨⟨n1, n2, by omega, n4, n5⟩, ⟨d1, by omega, by omega, d4, d5, d6, d7, by omega, by omega, d10⟩, m1, m2, fun hy => by have := hm _ hy; omega, m4, m5⟩
theorem CWo.lts {K : KD} {o a : Nat} {mg : Int} {tb tl : Nat} {ss : Int} {rb rl n sl : Nat} {f g : Nat → Option Nat} {fb fl : Nat → Int32} {M : Nat → Prop} {wt nm : Nat → Int32} {H : Heap} (h : CWo K o a mg tb tl ss rb rl n sl f g fb fl M wt nm H) : o < H.size ∧ a < H.size ∧ tb < H.size ∧ rb < H.size ∧ rl < H.size ∧ ∀ y, M y → y < H.size := ⟨h.1.1.lt, at_lt h.1.2.1, at_lt h.1.2.2.1, at_lt h.2.1, at_lt h.2.2, fun y hy => (h.1.2.2.2 y hy).lt⟩
theorem d_Cp_0 : decode b_Cp 0 = .ok (.aload_n 0, 1) := by decide +kernel
theorem d_Cp_1 : decode b_Cp 1 = .ok (.getfield 30, 3) := by decide +kernel
theorem d_Cp_4 : decode b_Cp 4 = .ok (.aload_n 0, 1) := by decide +kernel
theorem d_Cp_5 : decode b_Cp 5 = .ok (.getfield 13, 3) := by decide +kernel
theorem d_Cp_8 : decode b_Cp 8 = .ok (.iload_n 1, 1) := by decide +kernel
theorem d_Cp_9 : decode b_Cp 9 = .ok (.iastore, 1) := by decide +kernel
theorem d_Cp_10 : decode b_Cp 10 = .ok (.aload_n 0, 1) := by decide +kernel
theorem d_Cp_11 : decode b_Cp 11 = .ok (.getfield 34, 3) := by decide +kernel
theorem d_Cp_14 : decode b_Cp 14 = .ok (.aload_n 0, 1) := by decide +kernel
theorem d_Cp_15 : decode b_Cp 15 = .ok (.getfield 13, 3) := by decide +kernel
theorem d_Cp_18 : decode b_Cp 18 = .ok (.iload_n 2, 1) := by decide +kernel
theorem d_Cp_19 : decode b_Cp 19 = .ok (.iastore, 1) := by decide +kernel
theorem d_Cp_20 : decode b_Cp 20 = .ok (.aload_n 0, 1) := by decide +kernel
theorem d_Cp_21 : decode b_Cp 21 = .ok (.dup, 1) := by decide +kernel
theorem d_Cp_22 : decode b_Cp 22 = .ok (.getfield 13, 3) := by decide +kernel
theorem d_Cp_25 : decode b_Cp 25 = .ok (.iconst 1, 1) := by decide +kernel
theorem d_Cp_26 : decode b_Cp 26 = .ok (.iadd, 1) := by decide +kernel
theorem d_Cp_27 : decode b_Cp 27 = .ok (.putfield 13, 3) := by decide +kernel
theorem d_Cp_30 : decode b_Cp 30 = .ok (.return_, 1) := by decide +kernel
theorem d_Cl_0 : decode b_Cl 0 = .ok (.aload_n 0, 1) := by decide +kernel
theorem d_Cl_1 : decode b_Cl 1 = .ok (.getfield 13, 3) := by decide +kernel
theorem d_Cl_4 : decode b_Cl 4 = .ok (.iconst 1, 1) := by decide +kernel
theorem d_Cl_5 : decode b_Cl 5 = .ok (.if_icmp .le 128, 3) := by decide +kernel
theorem d_Cl_8 : decode b_Cl 8 = .ok (.aload_n 0, 1) := by decide +kernel
theorem d_Cl_9 : decode b_Cl 9 = .ok (.getfield 13, 3) := by decide +kernel
theorem d_Cl_12 : decode b_Cl 12 = .ok (.iconst 2, 1) := by decide +kernel
theorem d_Cl_13 : decode b_Cl 13 = .ok (.isub, 1) := by decide +kernel
theorem d_Cl_14 : decode b_Cl 14 = .ok (.istore_n 1, 1) := by decide +kernel
theorem d_Cl_15 : decode b_Cl 15 = .ok (.iload_n 1, 1) := by decide +kernel
theorem d_Cl_16 : decode b_Cl 16 = .ok (.ifCond .le 29, 3) := by decide +kernel
theorem d_Cl_19 : decode b_Cl 19 = .ok (.aload_n 0, 1) := by decide +kernel
theorem d_Cl_20 : decode b_Cl 20 = .ok (.getfield 34, 3) := by decide +kernel
theorem d_Cl_23 : decode b_Cl 23 = .ok (.iload_n 1, 1) := by decide +kernel
theorem d_Cl_24 : decode b_Cl 24 = .ok (.iconst 1, 1) := by decide +kernel
theorem d_Cl_25 : decode b_Cl 25 = .ok (.isub, 1) := by decide +kernel
theorem d_Cl_26 : decode b_Cl 26 = .ok (.iaload, 1) := by decide +kernel
theorem d_Cl_27 : decode b_Cl 27 = .ok (.aload_n 0, 1) := by decide +kernel
theorem d_Cl_28 : decode b_Cl 28 = .ok (.getfield 34, 3) := by decide +kernel
theorem d_Cl_31 : decode b_Cl 31 = .ok (.iload_n 1, 1) := by decide +kernel
theorem d_Cl_32 : decode b_Cl 32 = .ok (.iaload, 1) := by decide +kernel
theorem d_Cl_33 : decode b_Cl 33 = .ok (.aload_n 0, 1) := by decide +kernel
theorem d_Cl_34 : decode b_Cl 34 = .ok (.getfield 34, 3) := by decide +kernel
theorem d_Cl_37 : decode b_Cl 37 = .ok (.iload_n 1, 1) := by decide +kernel
theorem d_Cl_38 : decode b_Cl 38 = .ok (.iconst 1, 1) := by decide +kernel
theorem d_Cl_39 : decode b_Cl 39 = .ok (.iadd, 1) := by decide +kernel
theorem d_Cl_40 : decode b_Cl 40 = .ok (.iaload, 1) := by decide +kernel
theorem d_Cl_41 : decode b_Cl 41 = .ok (.iadd, 1) := by decide +kernel
theorem d_Cl_42 : decode b_Cl 42 = .ok (.if_icmp .le 34, 3) := by decide +kernel
theorem d_Cl_45 : decode b_Cl 45 = .ok (.iload_n 1, 1) := by decide +kernel
theorem d_Cl_46 : decode b_Cl 46 = .ok (.iconst 1, 1) := by decide +kernel
theorem d_Cl_47 : decode b_Cl 47 = .ok (.if_icmp .le 54, 3) := by decide +kernel
theorem d_Cl_50 : decode b_Cl 50 = .ok (.aload_n 0, 1) := by decide +kernel
theorem d_Cl_51 : decode b_Cl 51 = .ok (.getfield 34, 3) := by decide +kernel
theorem d_Cl_54 : decode b_Cl 54 = .ok (.iload_n 1, 1) := by decide +kernel
theorem d_Cl_55 : decode b_Cl 55 = .ok (.iconst 2, 1) := by decide +kernel
theorem d_Cl_56 : decode b_Cl 56 = .ok (.isub, 1) := by decide +kernel
theorem d_Cl_57 : decode b_Cl 57 = .ok (.iaload, 1) := by decide +kernel
theorem d_Cl_58 : decode b_Cl 58 = .ok (.aload_n 0, 1) := by decide +kernel
theorem d_Cl_59 : decode b_Cl 59 = .ok (.getfield 34, 3) := by decide +kernel
theorem d_Cl_62 : decode b_Cl 62 = .ok (.iload_n 1, 1) := by decide +kernel
theorem d_Cl_63 : decode b_Cl 63 = .ok (.iaload, 1) := by decide +kernel
theorem d_Cl_64 : decode b_Cl 64 = .ok (.aload_n 0, 1) := by decide +kernel
theorem d_Cl_65 : decode b_Cl 65 = .ok (.getfield 34, 3) := by decide +kernel
theorem d_Cl_68 : decode b_Cl 68 = .ok (.iload_n 1, 1) := by decide +kernel
theorem d_Cl_69 : decode b_Cl 69 = .ok (.iconst 1, 1) := by decide +kernel
theorem d_Cl_70 : decode b_Cl 70 = .ok (.isub, 1) := by decide +kernel
theorem d_Cl_71 : decode b_Cl 71 = .ok (.iaload, 1) := by decide +kernel
theorem d_Cl_72 : decode b_Cl 72 = .ok (.iadd, 1) := by decide +kernel
theorem d_Cl_73 : decode b_Cl 73 = .ok (.if_icmp .gt 28, 3) := by decide +kernel
theorem d_Cl_76 : decode b_Cl 76 = .ok (.aload_n 0, 1) := by decide +kernel
theorem d_Cl_77 : decode b_Cl 77 = .ok (.getfield 34, 3) := by decide +kernel
theorem d_Cl_80 : decode b_Cl 80 = .ok (.iload_n 1, 1) := by decide +kernel
theorem d_Cl_81 : decode b_Cl 81 = .ok (.iconst 1, 1) := by decide +kernel
theorem d_Cl_82 : decode b_Cl 82 = .ok (.isub, 1) := by decide +kernel
theorem d_Cl_83 : decode b_Cl 83 = .ok (.iaload, 1) := by decide +kernel
theorem d_Cl_84 : decode b_Cl 84 = .ok (.aload_n 0, 1) := by decide +kernel
theorem d_Cl_85 : decode b_Cl 85 = .ok (.getfield 34, 3) := by decide +kernel
theorem d_Cl_88 : decode b_Cl 88 = .ok (.iload_n 1, 1) := by decide +kernel
theorem d_Cl_89 : decode b_Cl 89 = .ok (.iconst 1, 1) := by decide +kernel
theorem d_Cl_90 : decode b_Cl 90 = .ok (.iadd, 1) := by decide +kernel
theorem d_Cl_91 : decode b_Cl 91 = .ok (.iaload, 1) := by decide +kernel
theorem d_Cl_92 : decode b_Cl 92 = .ok (.if_icmp .ge 33, 3) := by decide +kernel
theorem d_Cl_95 : decode b_Cl 95 = .ok (.iinc 1 (-1), 3) := by decide +kernel
theorem d_Cl_98 : decode b_Cl 98 = .ok (.goto 27, 3) := by decide +kernel
theorem d_Cl_101 : decode b_Cl 101 = .ok (.iload_n 1, 1) := by decide +kernel
theorem d_Cl_102 : decode b_Cl 102 = .ok (.ifCond .lt 31, 3) := by decide +kernel
theorem d_Cl_105 : decode b_Cl 105 = .ok (.aload_n 0, 1) := by decide +kernel
theorem d_Cl_106 : decode b_Cl 106 = .ok (.getfield 34, 3) := by decide +kernel
theorem d_Cl_109 : decode b_Cl 109 = .ok (.iload_n 1, 1) := by decide +kernel
theorem d_Cl_110 : decode b_Cl 110 = .ok (.iaload, 1) := by decide +kernel
theorem d_Cl_111 : decode b_Cl 111 = .ok (.aload_n 0, 1) := by decide +kernel
theorem d_Cl_112 : decode b_Cl 112 = .ok (.getfield 34, 3) := by decide +kernel
theorem d_Cl_115 : decode b_Cl 115 = .ok (.iload_n 1, 1) := by decide +kernel
theorem d_Cl_116 : decode b_Cl 116 = .ok (.iconst 1, 1) := by decide +kernel
theorem d_Cl_117 : decode b_Cl 117 = .ok (.iadd, 1) := by decide +kernel
theorem d_Cl_118 : decode b_Cl 118 = .ok (.iaload, 1) := by decide +kernel
theorem d_Cl_119 : decode b_Cl 119 = .ok (.if_icmp .le 6, 3) := by decide +kernel
theorem d_Cl_122 : decode b_Cl 122 = .ok (.goto 11, 3) := by decide +kernel
theorem d_Cl_125 : decode b_Cl 125 = .ok (.aload_n 0, 1) := by decide +kernel
theorem d_Cl_126 : decode b_Cl 126 = .ok (.iload_n 1, 1) := by decide +kernel
theorem d_Cl_127 : decode b_Cl 127 = .ok (.invokevirtual 85, 3) := by decide +kernel
theorem d_Cl_130 : decode b_Cl 130 = .ok (.goto (-130), 3) := by decide +kernel
theorem d_Cl_133 : decode b_Cl 133 = .ok (.return_, 1) := by decide +kernel
theorem d_Cf_0 : decode b_Cf 0 = .ok (.aload_n 0, 1) := by decide +kernel
theorem d_Cf_1 : decode b_Cf 1 = .ok (.getfield 13, 3) := by decide +kernel
theorem d_Cf_4 : decode b_Cf 4 = .ok (.iconst 1, 1) := by decide +kernel
theorem d_Cf_5 : decode b_Cf 5 = .ok (.if_icmp .le 44, 3) := by decide +kernel
theorem d_Cf_8 : decode b_Cf 8 = .ok (.aload_n 0, 1) := by decide +kernel
theorem d_Cf_9 : decode b_Cf 9 = .ok (.getfield 13, 3) := by decide +kernel
theorem d_Cf_12 : decode b_Cf 12 = .ok (.iconst 2, 1) := by decide +kernel
theorem d_Cf_13 : decode b_Cf 13 = .ok (.isub, 1) := by decide +kernel
theorem d_Cf_14 : decode b_Cf 14 = .ok (.istore_n 1, 1) := by decide +kernel
theorem d_Cf_15 : decode b_Cf 15 = .ok (.iload_n 1, 1) := by decide +kernel
theorem d_Cf_16 : decode b_Cf 16 = .ok (.ifCond .le 25, 3) := by decide +kernel
theorem d_Cf_19 : decode b_Cf 19 = .ok (.aload_n 0, 1) := by decide +kernel
theorem d_Cf_20 : decode b_Cf 20 = .ok (.getfield 34, 3) := by decide +kernel
theorem d_Cf_23 : decode b_Cf 23 = .ok (.iload_n 1, 1) := by decide +kernel
theorem d_Cf_24 : decode b_Cf 24 = .ok (.iconst 1, 1) := by decide +kernel
theorem d_Cf_25 : decode b_Cf 25 = .ok (.isub, 1) := by decide +kernel
theorem d_Cf_26 : decode b_Cf 26 = .ok (.iaload, 1) := by decide +kernel
theorem d_Cf_27 : decode b_Cf 27 = .ok (.aload_n 0, 1) := by decide +kernel
theorem d_Cf_28 : decode b_Cf 28 = .ok (.getfield 34, 3) := by decide +kernel
theorem d_Cf_31 : decode b_Cf 31 = .ok (.iload_n 1, 1) := by decide +kernel
theorem d_Cf_32 : decode b_Cf 32 = .ok (.iconst 1, 1) := by decide +kernel
theorem d_Cf_33 : decode b_Cf 33 = .ok (.iadd, 1) := by decide +kernel
theorem d_Cf_34 : decode b_Cf 34 = .ok (.iaload, 1) := by decide +kernel
theorem d_Cf_35 : decode b_Cf 35 = .ok (.if_icmp .ge 6, 3) := by decide +kernel
theorem d_Cf_38 : decode b_Cf 38 = .ok (.iinc 1 (-1), 3) := by decide +kernel
theorem d_Cf_41 : decode b_Cf 41 = .ok (.aload_n 0, 1) := by decide +kernel
theorem d_Cf_42 : decode b_Cf 42 = .ok (.iload_n 1, 1) := by decide +kernel
theorem d_Cf_43 : decode b_Cf 43 = .ok (.invokevirtual 85, 3) := by decide +kernel
theorem d_Cf_46 : decode b_Cf 46 = .ok (.goto (-46), 3) := by decide +kernel
theorem d_Cf_49 : decode b_Cf 49 = .ok (.return_, 1) := by decide +kernel
set_option maxHeartbeats 4000000 in
theorem ct_Cp (l : Launch) (K : KD) (o a : Nat) (mg : Int) (tb tl ss rb rl n sl b L1 : Nat) (f g : Nat → Option Nat) (fb fl : Nat → Int32) (M : Nat → Prop) (wt nm : Nat → Int32) (hsl : sl ≤ 49) (hD : DS K o a tb rb rl M) (hss : ss < sl) :
    CT l K y_Cp c_Cp rm_0 [.ref o, .int (zI b), .int (zI L1)] (CWo K o a mg tb tl (ss : Int) rb rl n sl f g fb fl M wt nm) (fun H v H' => v = none ∧ CWo K o a mg tb tl ((ss + 1 : Nat) : Int) rb rl n sl f g (va_up fb ss (zI b)) (va_up fl ss (zI L1)) M wt nm H' ∧ H'.size = H.size ∧ ∀ q, q ≠ o → q ≠ rb → q ≠ rl → H'[q]? = H[q]?) := by
  refine z_met (by decide) (Nat.le_of_ble_eq_true rfl) ?_
  intro p e s m below meth c ls S hr hlk hnm hG hP hl
  have hl : lv_has ls 3 [(0, .ref o), (1, .int (zI b)), (2, .int (zI L1))] := hl
  obtain ⟨⟨hN, hNa, hNt, hNb, hNl⟩, -⟩ := id hD
  refine z_aload_n S rfl (lv_at hl 0 rfl) d_Cp_0 ?_
  refine z_get (C := "java/util/ComparableTimSort") (T := F_Cts) (N := 8) (ci := 2) S tin_Cts hG hP.1.1 rfl 6 (by decide) tf_C30 rfl rfl d_Cp_1 ?_
  refine z_aload_n S rfl (lv_at hl 0 rfl) d_Cp_4 ?_
  refine z_get (C := "java/util/ComparableTimSort") (T := F_Cts) (N := 8) (ci := 2) S tin_Cts hG hP.1.1 rfl 5 (by decide) tf_C13 rfl rfl d_Cp_5 ?_
  refine z_iload_n S rfl (lv_at hl 1 rfl) d_Cp_8 ?_
  refine n_iast ss S hG.I hP.2.1 LO.nil hNb (by omega) rfl hss d_Cp_9 (fun locs hlo => ?_)
  have hX := CWo.rb' hP hD (va_up fb ss (zI b))
  have zX : (s.heap.setIfInBounds rb (IA (cI_ K) sl (va_up fb ss (zI b)))).size = s.heap.size := by simp
  have oX : ∀ q, q ≠ o → q ≠ rb → q ≠ rl → (s.heap.setIfInBounds rb (IA (cI_ K) sl (va_up fb ss (zI b))))[q]? = s.heap[q]? := fun q _ h _ => set_off h
  generalize s.heap.setIfInBounds rb (IA (cI_ K) sl (va_up fb ss (zI b))) = X at hX zX oX ⊢
  refine z_aload_n S rfl (lv_at hl 0 rfl) d_Cp_10 ?_
  refine z_get (C := "java/util/ComparableTimSort") (T := F_Cts) (N := 8) (ci := 2) S tin_Cts hG hX.1.1 rfl 7 (by decide) tf_C34 rfl rfl d_Cp_11 ?_
  refine z_aload_n S rfl (lv_at hl 0 rfl) d_Cp_14 ?_
  refine z_get (C := "java/util/ComparableTimSort") (T := F_Cts) (N := 8) (ci := 2) S tin_Cts hG hX.1.1 rfl 5 (by decide) tf_C13 rfl rfl d_Cp_15 ?_
  refine z_iload_n S rfl (lv_at hl 2 rfl) d_Cp_18 ?_
  refine n_iast ss S hG.I hX.2.2 hlo hNl (by omega) rfl hss d_Cp_19 (fun locs hlo => ?_)
  have hX1 := CWo.rl' hX hD (va_up fl ss (zI L1))
  have zX1 : (X.setIfInBounds rl (IA (cI_ K) sl (va_up fl ss (zI L1)))).size = s.heap.size := by simp; exact zX
  have oX1 : ∀ q, q ≠ o → q ≠ rb → q ≠ rl → (X.setIfInBounds rl (IA (cI_ K) sl (va_up fl ss (zI L1))))[q]? = s.heap[q]? := fun q q1 q2 q3 => (set_off q3).trans (oX q q1 q2 q3)
  generalize X.setIfInBounds rl (IA (cI_ K) sl (va_up fl ss (zI L1))) = X1 at hX1 zX1 oX1 ⊢
  refine z_aload_n S rfl (lv_at hl 0 rfl) d_Cp_20 ?_
  refine z_dup S rfl d_Cp_21 ?_
  refine z_get (C := "java/util/ComparableTimSort") (T := F_Cts) (N := 8) (ci := 2) S tin_Cts hG hX1.1.1 rfl 5 (by decide) tf_C13 rfl rfl d_Cp_22 ?_
  refine z_iconst S d_Cp_25 ?_
  refine z_iadd S d_Cp_26 ?_
  refine z_put (C := "java/util/ComparableTimSort") (T := F_Cts) (N := 8) (ci := 2) S tin_Cts t_Cts tok_Cts tnm_Cts hG hX1.1.1 hlo hN rfl 5 (by decide) tf_C13 rfl rfl rfl rfl (Nat.le_of_ble_eq_true rfl) d_Cp_27 (fun X2 locs hO2 z2 o2 hlo => ?_)
  exact z_vret S hr hlk hlo ⟨rfl, hX1.o' hD hO2 o2, z2.trans zX1, fun q q1 q2 q3 => (o2 q q1).trans (oX1 q q1 q2 q3)⟩ d_Cp_30
abbrev rm_Cl (k : Nat) : Room := { frames := 5, cells := k, slots := 4000 * k, locals := 129 }
/-- behind a number of merges: L and ss say what lies on the stack now -/
def Pcl (K : KD) (o a tb rb rl n sl lo T : Nat) (L : Nat → Nat) (ss : Nat) (f : Nat → Option Nat) (M : Nat → Prop) (wt nm : Nat → Int32) : Heap → Option Value → Heap → Prop := fun H v H' => ∃ (mg' : Int) (tb' tl' : Nat) (f' g' : Nat → Option Nat) (fb' fl' : Nat → Int32), v = none ∧ CWo K o a mg' tb' tl' (ss : Int) rb rl n sl f' g' fb' fl' M wt nm H' ∧ tl' ≤ 4000 ∧ (tb' = tb ∨ H.size ≤ tb') ∧ H.size ≤ H'.size ∧ (∀ q, q < H.size → q ≠ o → q ≠ a → q ≠ tb → q ≠ rb → q ≠ rl → H'[q]? = H[q]?) ∧ STK M wt n lo T f f' fb' fl' L ss
section CLP
variable {p : Program} {l : Launch} {e : Env} {R : Room} {s : State} {m : MethodId} {args : Array Value} {below : List Frame} {meth : Method} {c : Code} {Q : State → Prop} {c0 : Cond} {K : KD} {cc : ByteArray} {o a tb0 rb rl n sl lo T : Nat} {f0 : Nat → Option Nat} {M : Nat → Prop} {wt nm : Nat → Int32}
/-- where a loop of merges stands -/
def LPq (K : KD) (s : State) (o a tb0 rb rl n sl lo T : Nat) (f0 : Nat → Option Nat) (M : Nat → Prop) (wt nm : Nat → Int32) (L : Nat → Nat) (ss : Nat) (X : Heap) : Prop := ∃ (mg : Int) (tb tl : Nat) (f g : Nat → Option Nat) (fb fl : Nat → Int32), CWo K o a mg tb tl (ss : Int) rb rl n sl f g fb fl M wt nm X ∧ tl ≤ 4000 ∧ (tb = tb0 ∨ s.heap.size ≤ tb) ∧ s.heap.size ≤ X.size ∧ (∀ q, q < s.heap.size → q ≠ o → q ≠ a → q ≠ tb0 → q ≠ rb → q ≠ rl → X[q]? = s.heap[q]?) ∧ STK M wt n lo T f0 f fb fl L ss ∧ DS K o a tb rb rl M
theorem LPq.keep {L : Nat → Nat} {ss : Nat} {X : Heap} (h : LPq K s o a tb0 rb rl n sl lo T f0 M wt nm L ss X) (hD : DS K o a tb0 rb rl M) (hG : GN K s) : Keep (N0 K) s.heap X := by
  obtain ⟨mg, tb, tl, f, g, fb, fl, h1, h2, h3, h4, h5, h6, h7⟩ := h
  obtain ⟨⟨n1, n2, n3, n4, n5⟩, -⟩ := hD
  have := hG.2.2.2
  exact ⟨h4, fun q hq => h5 q (by omega) (by omega) (by omega) (by omega) (by omega) (by omega)⟩
-- one merge, at i
set_option maxHeartbeats 4000000 in
theorem lp_merge {nL pc : Nat} {ls : Array Slot} {lv : List (Nat × Value)} {locs : List Loc} {cl sl0 : Nat} {L : Nat → Nat} {ss i : Nat} {X : Heap} (S : CallFix p m c cc nL s args (c0 :: TT) "java/util/ComparableTimSort") (hG : GN K s) (hD : DS K o a tb0 rb rl M) (hn : n ≤ 8000) (hsl : sl ≤ 49) (hss : ss ≤ sl) (hi : i + 2 = ss ∨ i + 3 = ss) (hX : LPq K s o a tb0 rb rl n sl lo T f0 M wt nm L ss X) (hlo : LO (N0 K) locs) (hl : lv_has ls nL lv) (hR : 5 ≤ R.frames ∧ 129 ≤ R.locals) (hf : cl + 1 ≤ R.cells ∧ sl0 + 4000 ≤ R.slots) (hd : decode cc pc = .ok (.invokevirtual 85, 3))
    (kk : ∀ (X1 : Heap) (locs : List Loc), LPq K s o a tb0 rb rl n sl lo T f0 M wt nm (mL L i) (ss - 1) X1 → LO (N0 K) locs → W p l e R s m args below meth c X1 locs (cl + 1) (sl0 + 4000) Q (F0 m (pc + 3) ls [])) : W p l e R s m args below meth c X locs cl sl0 Q (F0 m pc ls [.int (zI i), .ref o]) := by
  have hkX := hX.keep hD hG
  obtain ⟨mg, tb, tl, f, g, fb, fl, h1, h2, h3, h4, h5, h6, h7⟩ := hX
  obtain ⟨k1, k2, k3, k4, k5, k6⟩ := id h6
  obtain ⟨a1, a2, a3, a4⟩ := k1 i (by omega)
  obtain ⟨b1, b2, b3, b4⟩ := k1 (i + 1) (by omega)
  have e2 : SB lo L (i + 2) ≤ T := by rw [← k2]; exact SB_mono (by omega)
  have e3 : SB lo L (i + 2) = SB lo L i + L i + L (i + 1) := rfl
  refine z_callV (C := "java/util/ComparableTimSort") (As := [.int (zI i)]) (n := 1) (rest := []) S (ct_Ca l K o a mg tb tl ss rb rl n sl i (SB lo L i) (L i) (L (i + 1)) f g fb fl M wt nm hn h2 hsl h7 hi hss a3 b3 (by omega) a1 a2 b1 b2 k6 a4 b4) tc_Ca tm_C85 ti_Ca tse_Ca tn_C (by decide) ⟨hR.1, hR.2⟩ rfl hG hkX hlo (h1.1.1.recv hG) h1 hl rfl (by decide) hf hd (fun v X1 locs hp hlo => ?_)
  obtain ⟨mg', tb', tl', f', g', fb', fl', rfl, p1, p2, p3, p4, p5, p6, p7, p8, p9, p10, p11⟩ := hp
  obtain ⟨l1, l2, l3, l4, l5, l6⟩ := h1.lts
  have hz := hG.2.2.2
  refine kk X1 locs ⟨mg', tb', tl', f', g', fb', fl', p1, p2, by omega, by omega, ?_, h6.merge (by omega) p6 p7 p8 p9 p10 p11, h7.tb' p3 l1 l2 l4 l5 l6 (by omega)⟩ hlo
  intro q q1 q2 q3 q4 q5 q6
  rw [p5 q (by omega) q2 q3 (by omega) q5 q6]
  exact h5 q q1 q2 q3 q4 q5 q6
end CLP
set_option maxHeartbeats 4000000 in
theorem ct_Cl (l : Launch) (K : KD) (o a : Nat) (mg : Int) (tb tl ss rb rl n sl lo T : Nat) (L : Nat → Nat) (f0 f g : Nat → Option Nat) (fb fl : Nat → Int32) (M : Nat → Prop) (wt nm : Nat → Int32) (hn : n ≤ 8000) (htl : tl ≤ 4000) (hsl : sl ≤ 49) (hD : DS K o a tb rb rl M) (hss : ss ≤ sl) (hST : STK M wt n lo T f0 f fb fl L ss) :
    CT l K y_Cl c_Cl (rm_Cl (ss - (colx (ss + 1) L ss).2)) [.ref o] (CWo K o a mg tb tl (ss : Int) rb rl n sl f g fb fl M wt nm) (Pcl K o a tb rb rl n sl lo T (colx (ss + 1) L ss).1 (colx (ss + 1) L ss).2 f0 M wt nm) := by
  refine z_met (by decide) (Nat.le_of_ble_eq_true rfl) ?_
  intro p e s m below meth c ls S hr hlk hnm hG hP hl
  have hl : lv_has ls 2 [(0, .ref o)] := hl
  generalize hfin : colx (ss + 1) L ss = fin
  generalize hk : ss - fin.2 = k
  generalize hQ : MQ below (QH (Pcl K o a tb rb rl n sl lo T fin.1 fin.2 f0 M wt nm)) [Value.ref o].toArray s (rm_Cl k).cells (rm_Cl k).slots (fun q => N0 K ≤ q) = Q
  generalize hargs : [Value.ref o].toArray = args at S
  have loop : ∀ (w : Nat) (L : Nat → Nat) (ss cl : Nat) (X : Heap) (ls : Array Slot) (locs : List Loc), ss < w → ss ≤ sl → colx w L ss = fin → cl + (ss - fin.2) = k → LPq K s o a tb rb rl n sl lo T f0 M wt nm L ss X → LO (N0 K) locs → lv_has ls 2 [(0, .ref o)] → W p l e (rm_Cl k) s m args below meth c X locs cl (4000 * cl) Q (F0 m 0 ls []) := by
    intro w
    induction w with
    | zero => intro L ss cl X ls locs h; omega
    | succ w ih =>
      intro L ss cl X ls locs hw hssl hcol hcl hX hlo hl
      obtain ⟨mg, tb', tl', f, g, fb, fl, h1, h2, h3, h4, h5, h6, h7⟩ := id hX
      obtain ⟨k1, k2, k3, k4, k5, k6⟩ := id h6
      have hL : ∀ j, j < ss → L j ≤ 8000 := fun j hj => by
        have q1 : SB lo L (j + 1) ≤ T := by rw [← k2]; exact SB_mono (by omega)
        have q2 : SB lo L (j + 1) = SB lo L j + L j := rfl
        omega
      have hlr : X[rl]? = some (IA (cI_ K) sl fl) := h1.2.2
      have t133 : ∀ ls : Array Slot, cpick L ss = none → W p l e (rm_Cl k) s m args below meth c X locs cl (4000 * cl) Q (F0 m 133 ls []) := by
        intro ls hc
        have hfin2 : fin = (L, ss) := by
          rw [← hcol]
          unfold colx
          rw [hc]
        have e1 : fin.2 = ss := by rw [hfin2]
        have e2 : fin.1 = L := by rw [hfin2]
        have e3 : cl = k := by omega
        subst e3
        subst hQ
        subst hargs
        refine z_vret S hr hlk hlo ⟨mg, tb', tl', f, g, fb, fl, rfl, by rw [e1]; exact h1, h2, h3, h4, h5, by rw [e1, e2]; exact h6⟩ d_Cl_133
      have t125 : ∀ (i : Nat) (ls : Array Slot), cpick L ss = some i → lv_has ls 2 [(1, .int (zI i)), (0, .ref o)] → W p l e (rm_Cl k) s m args below meth c X locs cl (4000 * cl) Q (F0 m 125 ls []) := by
        intro i ls hc hl
        have hin := cpick_in hc
        have hcol2 : colx w (mL L i) (ss - 1) = fin := by
          rw [← hcol]
          conv => rhs; unfold colx
          rw [hc]
        have hle : fin.2 ≤ ss - 1 := by rw [← hcol2]; exact col_le _ _ _
        refine z_aload_n S rfl (lv_at hl 1 rfl) d_Cl_125 ?_
        refine z_iload_n S rfl (lv_at hl 0 rfl) d_Cl_126 ?_
        refine lp_merge S hG hD hn hsl hssl hin.2 hX hlo hl ⟨Nat.le_refl _, Nat.le_refl _⟩ ⟨by show cl + 1 ≤ k; omega, by show 4000 * cl + 4000 ≤ 4000 * k; omega⟩ d_Cl_127 (fun X1 locs hX1 hlo => ?_)
        refine z_goto (tgt := 0) S (by decide) d_Cl_130 ?_
        refine W.cs (cells' := cl + 1) (slots' := 4000 * (cl + 1)) rfl (by omega) ?_
        exact ih (mL L i) (ss - 1) (cl + 1) X1 ls locs (by omega) (by omega) hcol2 (by omega) hX1 hlo (lv_sub hl [1] rfl)
      have t101 : ∀ (ls : Array Slot), 2 ≤ ss → ¬ ((2 < ss ∧ L (ss - 3) ≤ L (ss - 2) + L (ss - 1)) ∨ (3 < ss ∧ L (ss - 4) ≤ L (ss - 2) + L (ss - 3))) → lv_has ls 2 [(1, .int (zI (ss - 2 : Nat))), (0, .ref o)] → W p l e (rm_Cl k) s m args below meth c X locs cl (4000 * cl) Q (F0 m 101 ls []) := by
        intro ls h2s hno hl
        have a1 := hL (ss - 1) (by omega)
        have a2 := hL (ss - 2) (by omega)
        refine z_iload_n S rfl (lv_at hl 0 rfl) d_Cl_101 ?_
        refine z_if_lt (tgt := 133) S (by decide) (by omega) d_Cl_102 ?_ ?_
        · intro hc
          omega
        · intro hc
          refine z_aload_n S rfl (lv_at hl 1 rfl) d_Cl_105 ?_
          refine z_get (C := "java/util/ComparableTimSort") (T := F_Cts) (N := 8) (ci := 2) S tin_Cts hG h1.1.1 rfl 7 (by decide) tf_C34 rfl rfl d_Cl_106 ?_
          refine z_iload_n S rfl (lv_at hl 0 rfl) d_Cl_109 ?_
          refine n_iald (ss - 2) S hG.I hlr (by omega) rfl (by omega) (k1 (ss - 2) (by omega)).2.1 d_Cl_110 ?_
          refine z_aload_n S rfl (lv_at hl 1 rfl) d_Cl_111 ?_
          refine z_get (C := "java/util/ComparableTimSort") (T := F_Cts) (N := 8) (ci := 2) S tin_Cts hG h1.1.1 rfl 7 (by decide) tf_C34 rfl rfl d_Cl_112 ?_
          refine z_iload_n S rfl (lv_at hl 0 rfl) d_Cl_115 ?_
          refine z_iconst S d_Cl_116 ?_
          refine z_iadd S d_Cl_117 ?_
          refine n_iald (ss - 1) S hG.I hlr (by omega) (by omega) (by omega) (k1 (ss - 1) (by omega)).2.1 d_Cl_118 ?_
          refine z_icmp_le (tgt := 125) S (by decide) (by omega) (by omega) d_Cl_119 ?_ ?_
          · intro hc2
            exact t125 (ss - 2) ls (by unfold cpick; rw [if_neg (by omega), if_neg hno, if_neg (by omega)]) hl
          · intro hc2
            refine z_goto (tgt := 133) S (by decide) d_Cl_122 ?_
            exact t133 ls (by unfold cpick; rw [if_neg (by omega), if_neg hno, if_pos (by omega)])
      have t76 : ∀ (ls : Array Slot), 3 ≤ ss → ((2 < ss ∧ L (ss - 3) ≤ L (ss - 2) + L (ss - 1)) ∨ (3 < ss ∧ L (ss - 4) ≤ L (ss - 2) + L (ss - 3))) → lv_has ls 2 [(1, .int (zI (ss - 2 : Nat))), (0, .ref o)] → W p l e (rm_Cl k) s m args below meth c X locs cl (4000 * cl) Q (F0 m 76 ls []) := by
        intro ls h3s hyes hl
        have a1 := hL (ss - 1) (by omega)
        have a3 := hL (ss - 3) (by omega)
        refine z_aload_n S rfl (lv_at hl 1 rfl) d_Cl_76 ?_
        refine z_get (C := "java/util/ComparableTimSort") (T := F_Cts) (N := 8) (ci := 2) S tin_Cts hG h1.1.1 rfl 7 (by decide) tf_C34 rfl rfl d_Cl_77 ?_
        refine z_iload_n S rfl (lv_at hl 0 rfl) d_Cl_80 ?_
        refine z_iconst S d_Cl_81 ?_
        refine z_isub S d_Cl_82 ?_
        refine n_iald (ss - 3) S hG.I hlr (by omega) (by omega) (by omega) (k1 (ss - 3) (by omega)).2.1 d_Cl_83 ?_
        refine z_aload_n S rfl (lv_at hl 1 rfl) d_Cl_84 ?_
        refine z_get (C := "java/util/ComparableTimSort") (T := F_Cts) (N := 8) (ci := 2) S tin_Cts hG h1.1.1 rfl 7 (by decide) tf_C34 rfl rfl d_Cl_85 ?_
        refine z_iload_n S rfl (lv_at hl 0 rfl) d_Cl_88 ?_
        refine z_iconst S d_Cl_89 ?_
        refine z_iadd S d_Cl_90 ?_
        refine n_iald (ss - 1) S hG.I hlr (by omega) (by omega) (by omega) (k1 (ss - 1) (by omega)).2.1 d_Cl_91 ?_
        refine z_icmp_ge (tgt := 125) S (by decide) (by omega) (by omega) d_Cl_92 ?_ ?_
        · intro hc2
          exact t125 (ss - 2) ls (by unfold cpick; rw [if_neg (by omega), if_pos hyes, if_neg (by omega)]) hl
        · intro hc2
          refine z_iinc (lv' := [(1, .int (zI (((ss - 2 : Nat) : Int) + (-1)))), (0, .ref o)]) (q := 0) S hl rfl rfl (by decide) d_Cl_95 (fun ls hl => ?_)
          refine z_goto (tgt := 125) S (by decide) d_Cl_98 ?_
          have hl : lv_has ls 2 [(1, .int (zI ((ss - 3 : Nat) : Int))), (0, .ref o)] := lv_ren hl 0 rfl (show (((ss - 2 : Nat) : Int) + (-1)) = ((ss - 3 : Nat) : Int) by omega)
          exact t125 (ss - 3) ls (by unfold cpick; rw [if_neg (by omega), if_pos hyes, if_pos (by omega)]) hl
      have t45 : ∀ (ls : Array Slot), 2 ≤ ss → ¬ (2 < ss ∧ L (ss - 3) ≤ L (ss - 2) + L (ss - 1)) → lv_has ls 2 [(1, .int (zI (ss - 2 : Nat))), (0, .ref o)] → W p l e (rm_Cl k) s m args below meth c X locs cl (4000 * cl) Q (F0 m 45 ls []) := by
        intro ls h2s hno hl
        refine z_iload_n S rfl (lv_at hl 0 rfl) d_Cl_45 ?_
        refine z_iconst S d_Cl_46 ?_
        refine z_icmp_le (tgt := 101) S (by decide) (by omega) (by omega) d_Cl_47 ?_ ?_
        · intro hc
          exact t101 ls h2s (by omega) hl
        · intro hc
          have a2 := hL (ss - 2) (by omega)
          have a3 := hL (ss - 3) (by omega)
          have a4 := hL (ss - 4) (by omega)
          refine z_aload_n S rfl (lv_at hl 1 rfl) d_Cl_50 ?_
          refine z_get (C := "java/util/ComparableTimSort") (T := F_Cts) (N := 8) (ci := 2) S tin_Cts hG h1.1.1 rfl 7 (by decide) tf_C34 rfl rfl d_Cl_51 ?_
          refine z_iload_n S rfl (lv_at hl 0 rfl) d_Cl_54 ?_
          refine z_iconst S d_Cl_55 ?_
          refine z_isub S d_Cl_56 ?_
          refine n_iald (ss - 4) S hG.I hlr (by omega) (by omega) (by omega) (k1 (ss - 4) (by omega)).2.1 d_Cl_57 ?_
          refine z_aload_n S rfl (lv_at hl 1 rfl) d_Cl_58 ?_
          refine z_get (C := "java/util/ComparableTimSort") (T := F_Cts) (N := 8) (ci := 2) S tin_Cts hG h1.1.1 rfl 7 (by decide) tf_C34 rfl rfl d_Cl_59 ?_
          refine z_iload_n S rfl (lv_at hl 0 rfl) d_Cl_62 ?_
          refine n_iald (ss - 2) S hG.I hlr (by omega) (by omega) (by omega) (k1 (ss - 2) (by omega)).2.1 d_Cl_63 ?_
          refine z_aload_n S rfl (lv_at hl 1 rfl) d_Cl_64 ?_
          refine z_get (C := "java/util/ComparableTimSort") (T := F_Cts) (N := 8) (ci := 2) S tin_Cts hG h1.1.1 rfl 7 (by decide) tf_C34 rfl rfl d_Cl_65 ?_
          refine z_iload_n S rfl (lv_at hl 0 rfl) d_Cl_68 ?_
          refine z_iconst S d_Cl_69 ?_
          refine z_isub S d_Cl_70 ?_
          refine n_iald (ss - 3) S hG.I hlr (by omega) (by omega) (by omega) (k1 (ss - 3) (by omega)).2.1 d_Cl_71 ?_
          refine z_iadd S d_Cl_72 ?_
          refine z_icmp_gt (tgt := 101) S (by decide) (by omega) (by omega) d_Cl_73 ?_ ?_
          · intro hc2
            exact t101 ls h2s (by omega) hl
          · intro hc2
            exact t76 ls (by omega) (by omega) hl
      refine z_aload_n S rfl (lv_at hl 0 rfl) d_Cl_0 ?_
      refine z_get (C := "java/util/ComparableTimSort") (T := F_Cts) (N := 8) (ci := 2) S tin_Cts hG h1.1.1 rfl 5 (by decide) tf_C13 rfl rfl d_Cl_1 ?_
      refine z_iconst S d_Cl_4 ?_
      refine z_icmp_le (tgt := 133) S (by decide) (by omega) (by omega) d_Cl_5 ?_ ?_
      · intro hc
        exact t133 ls (by unfold cpick; rw [if_pos (by omega)])
      · intro hc
        refine z_aload_n S rfl (lv_at hl 0 rfl) d_Cl_8 ?_
        refine z_get (C := "java/util/ComparableTimSort") (T := F_Cts) (N := 8) (ci := 2) S tin_Cts hG h1.1.1 rfl 5 (by decide) tf_C13 rfl rfl d_Cl_9 ?_
        refine z_iconst S d_Cl_12 ?_
        refine z_isub S d_Cl_13 ?_
        refine z_istore_n (lv' := [(1, .int (zI (ss - 2))), (0, .ref o)]) S rfl hl rfl (by decide) d_Cl_14 (fun ls hl => ?_)
        refine z_iload_n S rfl (lv_at hl 0 rfl) d_Cl_15 ?_
        have hl : lv_has ls 2 [(1, .int (zI ((ss - 2 : Nat) : Int))), (0, .ref o)] := lv_ren hl 0 rfl (show (ss - 2) = ((ss - 2 : Nat) : Int) by omega)
        refine z_if_le (tgt := 45) S (by decide) (by omega) d_Cl_16 ?_ ?_
        · intro hc2
          exact t45 ls (by omega) (by omega) hl
        · intro hc2
          have a1 := hL (ss - 1) (by omega)
          have a2 := hL (ss - 2) (by omega)
          have a3 := hL (ss - 3) (by omega)
          refine z_aload_n S rfl (lv_at hl 1 rfl) d_Cl_19 ?_
          refine z_get (C := "java/util/ComparableTimSort") (T := F_Cts) (N := 8) (ci := 2) S tin_Cts hG h1.1.1 rfl 7 (by decide) tf_C34 rfl rfl d_Cl_20 ?_
          refine z_iload_n S rfl (lv_at hl 0 rfl) d_Cl_23 ?_
          refine z_iconst S d_Cl_24 ?_
          refine z_isub S d_Cl_25 ?_
          refine n_iald (ss - 3) S hG.I hlr (by omega) (by omega) (by omega) (k1 (ss - 3) (by omega)).2.1 d_Cl_26 ?_
          refine z_aload_n S rfl (lv_at hl 1 rfl) d_Cl_27 ?_
          refine z_get (C := "java/util/ComparableTimSort") (T := F_Cts) (N := 8) (ci := 2) S tin_Cts hG h1.1.1 rfl 7 (by decide) tf_C34 rfl rfl d_Cl_28 ?_
          refine z_iload_n S rfl (lv_at hl 0 rfl) d_Cl_31 ?_
          refine n_iald (ss - 2) S hG.I hlr (by omega) (by omega) (by omega) (k1 (ss - 2) (by omega)).2.1 d_Cl_32 ?_
          refine z_aload_n S rfl (lv_at hl 1 rfl) d_Cl_33 ?_
          refine z_get (C := "java/util/ComparableTimSort") (T := F_Cts) (N := 8) (ci := 2) S tin_Cts hG h1.1.1 rfl 7 (by decide) tf_C34 rfl rfl d_Cl_34 ?_
          refine z_iload_n S rfl (lv_at hl 0 rfl) d_Cl_37 ?_
          refine z_iconst S d_Cl_38 ?_
          refine z_iadd S d_Cl_39 ?_
          refine n_iald (ss - 1) S hG.I hlr (by omega) (by omega) (by omega) (k1 (ss - 1) (by omega)).2.1 d_Cl_40 ?_
          refine z_iadd S d_Cl_41 ?_
          refine z_icmp_le (tgt := 76) S (by decide) (by omega) (by omega) d_Cl_42 ?_ ?_
          · intro hc3
            exact t76 ls (by omega) (by omega) hl
          · intro hc3
            exact t45 ls (by omega) (by omega) hl
  subst hk
  exact loop (ss + 1) L ss 0 s.heap ls [] (by omega) hss hfin (by omega) ⟨mg, tb, tl, f, g, fb, fl, hP, htl, Or.inl rfl, Nat.le_refl _, fun _ _ _ _ _ _ _ => rfl, hST, hD⟩ LO.nil hl
set_option maxHeartbeats 4000000 in
theorem ct_Cf (l : Launch) (K : KD) (o a : Nat) (mg : Int) (tb tl ss rb rl n sl lo T : Nat) (L : Nat → Nat) (f0 f g : Nat → Option Nat) (fb fl : Nat → Int32) (M : Nat → Prop) (wt nm : Nat → Int32) (hn : n ≤ 8000) (htl : tl ≤ 4000) (hsl : sl ≤ 49) (hD : DS K o a tb rb rl M) (hss : ss ≤ sl) (hss1 : 1 ≤ ss) (hST : STK M wt n lo T f0 f fb fl L ss) :
    CT l K y_Cf c_Cf (rm_Cl (ss - 1)) [.ref o] (CWo K o a mg tb tl (ss : Int) rb rl n sl f g fb fl M wt nm) (fun H v H' => ∃ L' : Nat → Nat, Pcl K o a tb rb rl n sl lo T L' 1 f0 M wt nm H v H') := by
  refine z_met (by decide) (Nat.le_of_ble_eq_true rfl) ?_
  intro p e s m below meth c ls S hr hlk hnm hG hP hl
  have hl : lv_has ls 2 [(0, .ref o)] := hl
  generalize hk : ss - 1 = k
  generalize hQ : MQ below (QH (fun H v H' => ∃ L' : Nat → Nat, Pcl K o a tb rb rl n sl lo T L' 1 f0 M wt nm H v H')) [Value.ref o].toArray s (rm_Cl k).cells (rm_Cl k).slots (fun q => N0 K ≤ q) = Q
  generalize hargs : [Value.ref o].toArray = args at S
  have loop : ∀ (w : Nat) (L : Nat → Nat) (ss cl : Nat) (X : Heap) (ls : Array Slot) (locs : List Loc), ss < w → ss ≤ sl → 1 ≤ ss → cl + (ss - 1) = k → LPq K s o a tb rb rl n sl lo T f0 M wt nm L ss X → LO (N0 K) locs → lv_has ls 2 [(0, .ref o)] → W p l e (rm_Cl k) s m args below meth c X locs cl (4000 * cl) Q (F0 m 0 ls []) := by
    intro w
    induction w with
    | zero => intro L ss cl X ls locs h; omega
    | succ w ih =>
      intro L ss cl X ls locs hw hssl hs1 hcl hX hlo hl
      obtain ⟨mg, tb', tl', f, g, fb, fl, h1, h2, h3, h4, h5, h6, h7⟩ := id hX
      obtain ⟨k1, k2, k3, k4, k5, k6⟩ := id h6
      have hL : ∀ j, j < ss → L j ≤ 8000 := fun j hj => by
        have q1 : SB lo L (j + 1) ≤ T := by rw [← k2]; exact SB_mono (by omega)
        have q2 : SB lo L (j + 1) = SB lo L j + L j := rfl
        omega
      have hlr : X[rl]? = some (IA (cI_ K) sl fl) := h1.2.2
      have t41 : ∀ (i : Nat) (ls : Array Slot), 2 ≤ ss → (i + 2 = ss ∨ i + 3 = ss) → lv_has ls 2 [(1, .int (zI i)), (0, .ref o)] → W p l e (rm_Cl k) s m args below meth c X locs cl (4000 * cl) Q (F0 m 41 ls []) := by
        intro i ls h2s hin hl
        refine z_aload_n S rfl (lv_at hl 1 rfl) d_Cf_41 ?_
        refine z_iload_n S rfl (lv_at hl 0 rfl) d_Cf_42 ?_
        refine lp_merge S hG hD hn hsl hssl hin hX hlo hl ⟨Nat.le_refl _, Nat.le_refl _⟩ ⟨by show cl + 1 ≤ k; omega, by show 4000 * cl + 4000 ≤ 4000 * k; omega⟩ d_Cf_43 (fun X1 locs hX1 hlo => ?_)
        refine z_goto (tgt := 0) S (by decide) d_Cf_46 ?_
        refine W.cs (cells' := cl + 1) (slots' := 4000 * (cl + 1)) rfl (by omega) ?_
        exact ih (mL L i) (ss - 1) (cl + 1) X1 ls locs (by omega) (by omega) (by omega) (by omega) hX1 hlo (lv_sub hl [1] rfl)
      refine z_aload_n S rfl (lv_at hl 0 rfl) d_Cf_0 ?_
      refine z_get (C := "java/util/ComparableTimSort") (T := F_Cts) (N := 8) (ci := 2) S tin_Cts hG h1.1.1 rfl 5 (by decide) tf_C13 rfl rfl d_Cf_1 ?_
      refine z_iconst S d_Cf_4 ?_
      refine z_icmp_le (tgt := 49) S (by decide) (by omega) (by omega) d_Cf_5 ?_ ?_
      · intro hc
        have e1 : ss = 1 := by omega
        have e3 : cl = k := by omega
        subst e3
        subst e1
        subst hQ
        subst hargs
        exact z_vret S hr hlk hlo ⟨L, mg, tb', tl', f, g, fb, fl, rfl, h1, h2, h3, h4, h5, h6⟩ d_Cf_49
      · intro hc
        refine z_aload_n S rfl (lv_at hl 0 rfl) d_Cf_8 ?_
        refine z_get (C := "java/util/ComparableTimSort") (T := F_Cts) (N := 8) (ci := 2) S tin_Cts hG h1.1.1 rfl 5 (by decide) tf_C13 rfl rfl d_Cf_9 ?_
        refine z_iconst S d_Cf_12 ?_
        refine z_isub S d_Cf_13 ?_
        refine z_istore_n (lv' := [(1, .int (zI (ss - 2))), (0, .ref o)]) S rfl hl rfl (by decide) d_Cf_14 (fun ls hl => ?_)
        refine z_iload_n S rfl (lv_at hl 0 rfl) d_Cf_15 ?_
        have hl : lv_has ls 2 [(1, .int (zI ((ss - 2 : Nat) : Int))), (0, .ref o)] := lv_ren hl 0 rfl (show (ss - 2) = ((ss - 2 : Nat) : Int) by omega)
        refine z_if_le (tgt := 41) S (by decide) (by omega) d_Cf_16 ?_ ?_
        · intro hc2
          exact t41 (ss - 2) ls (by omega) (by omega) hl
        · intro hc2
          have a1 := hL (ss - 1) (by omega)
          have a3 := hL (ss - 3) (by omega)
          refine z_aload_n S rfl (lv_at hl 1 rfl) d_Cf_19 ?_
          refine z_get (C := "java/util/ComparableTimSort") (T := F_Cts) (N := 8) (ci := 2) S tin_Cts hG h1.1.1 rfl 7 (by decide) tf_C34 rfl rfl d_Cf_20 ?_
          refine z_iload_n S rfl (lv_at hl 0 rfl) d_Cf_23 ?_
          refine z_iconst S d_Cf_24 ?_
          refine z_isub S d_Cf_25 ?_
          refine n_iald (ss - 3) S hG.I hlr (by omega) (by omega) (by omega) (k1 (ss - 3) (by omega)).2.1 d_Cf_26 ?_
          refine z_aload_n S rfl (lv_at hl 1 rfl) d_Cf_27 ?_
          refine z_get (C := "java/util/ComparableTimSort") (T := F_Cts) (N := 8) (ci := 2) S tin_Cts hG h1.1.1 rfl 7 (by decide) tf_C34 rfl rfl d_Cf_28 ?_
          refine z_iload_n S rfl (lv_at hl 0 rfl) d_Cf_31 ?_
          refine z_iconst S d_Cf_32 ?_
          refine z_iadd S d_Cf_33 ?_
          refine n_iald (ss - 1) S hG.I hlr (by omega) (by omega) (by omega) (k1 (ss - 1) (by omega)).2.1 d_Cf_34 ?_
          refine z_icmp_ge (tgt := 41) S (by decide) (by omega) (by omega) d_Cf_35 ?_ ?_
          · intro hc3
            exact t41 (ss - 2) ls (by omega) (by omega) hl
          · intro hc3
            refine z_iinc (lv' := [(1, .int (zI (((ss - 2 : Nat) : Int) + (-1)))), (0, .ref o)]) (q := 0) S hl rfl rfl (by decide) d_Cf_38 (fun ls hl => ?_)
            have hl : lv_has ls 2 [(1, .int (zI ((ss - 3 : Nat) : Int))), (0, .ref o)] := lv_ren hl 0 rfl (show (((ss - 2 : Nat) : Int) + (-1)) = ((ss - 3 : Nat) : Int) by omega)
            exact t41 (ss - 3) ls (by omega) (by omega) hl
  subst hk
  exact loop (ss + 1) L ss 0 s.heap ls [] (by omega) hss hss1 (by omega) ⟨mg, tb, tl, f, g, fb, fl, hP, htl, Or.inl rfl, Nat.le_refl _, fun _ _ _ _ _ _ _ => rfl, hST, hD⟩ LO.nil hl
end
section
/-! the sorter's constructor -/
set_option maxRecDepth 100000
theorem d_Ci_0 : decode b_Ci 0 = .ok (.aload_n 0, 1) := by decide +kernel
theorem d_Ci_1 : decode b_Ci 1 = .ok (.invokespecial 1, 3) := by decide +kernel
theorem d_Ci_4 : decode b_Ci 4 = .ok (.aload_n 0, 1) := by decide +kernel
theorem d_Ci_5 : decode b_Ci 5 = .ok (.bipush 7, 2) := by decide +kernel
theorem d_Ci_7 : decode b_Ci 7 = .ok (.putfield 9, 3) := by decide +kernel
theorem d_Ci_10 : decode b_Ci 10 = .ok (.aload_n 0, 1) := by decide +kernel
theorem d_Ci_11 : decode b_Ci 11 = .ok (.iconst 0, 1) := by decide +kernel
theorem d_Ci_12 : decode b_Ci 12 = .ok (.putfield 13, 3) := by decide +kernel
theorem d_Ci_15 : decode b_Ci 15 = .ok (.aload_n 0, 1) := by decide +kernel
theorem d_Ci_16 : decode b_Ci 16 = .ok (.aload_n 1, 1) := by decide +kernel
theorem d_Ci_17 : decode b_Ci 17 = .ok (.putfield 16, 3) := by decide +kernel
theorem d_Ci_20 : decode b_Ci 20 = .ok (.aload_n 1, 1) := by decide +kernel
theorem d_Ci_21 : decode b_Ci 21 = .ok (.arraylength, 1) := by decide +kernel
theorem d_Ci_22 : decode b_Ci 22 = .ok (.istore 5, 2) := by decide +kernel
theorem d_Ci_24 : decode b_Ci 24 = .ok (.iload 5, 2) := by decide +kernel
theorem d_Ci_26 : decode b_Ci 26 = .ok (.sipush 512, 3) := by decide +kernel
theorem d_Ci_29 : decode b_Ci 29 = .ok (.if_icmp .ge 10, 3) := by decide +kernel
theorem d_Ci_32 : decode b_Ci 32 = .ok (.iload 5, 2) := by decide +kernel
theorem d_Ci_34 : decode b_Ci 34 = .ok (.iconst 1, 1) := by decide +kernel
theorem d_Ci_35 : decode b_Ci 35 = .ok (.iushr, 1) := by decide +kernel
theorem d_Ci_36 : decode b_Ci 36 = .ok (.goto 6, 3) := by decide +kernel
theorem d_Ci_39 : decode b_Ci 39 = .ok (.sipush 256, 3) := by decide +kernel
theorem d_Ci_42 : decode b_Ci 42 = .ok (.istore 6, 2) := by decide +kernel
theorem d_Ci_44 : decode b_Ci 44 = .ok (.aload_n 2, 1) := by decide +kernel
theorem d_Ci_45 : decode b_Ci 45 = .ok (.ifnull 19, 3) := by decide +kernel
theorem d_Ci_64 : decode b_Ci 64 = .ok (.aload_n 0, 1) := by decide +kernel
theorem d_Ci_65 : decode b_Ci 65 = .ok (.iload 6, 2) := by decide +kernel
theorem d_Ci_67 : decode b_Ci 67 = .ok (.anewarray 2, 3) := by decide +kernel
theorem d_Ci_70 : decode b_Ci 70 = .ok (.putfield 20, 3) := by decide +kernel
theorem d_Ci_73 : decode b_Ci 73 = .ok (.aload_n 0, 1) := by decide +kernel
theorem d_Ci_74 : decode b_Ci 74 = .ok (.iconst 0, 1) := by decide +kernel
theorem d_Ci_75 : decode b_Ci 75 = .ok (.putfield 23, 3) := by decide +kernel
theorem d_Ci_78 : decode b_Ci 78 = .ok (.aload_n 0, 1) := by decide +kernel
theorem d_Ci_79 : decode b_Ci 79 = .ok (.iload 6, 2) := by decide +kernel
theorem d_Ci_81 : decode b_Ci 81 = .ok (.putfield 26, 3) := by decide +kernel
theorem d_Ci_84 : decode b_Ci 84 = .ok (.goto 19, 3) := by decide +kernel
theorem d_Ci_103 : decode b_Ci 103 = .ok (.iload 5, 2) := by decide +kernel
theorem d_Ci_105 : decode b_Ci 105 = .ok (.bipush 120, 2) := by decide +kernel
theorem d_Ci_107 : decode b_Ci 107 = .ok (.if_icmp .ge 7, 3) := by decide +kernel
theorem d_Ci_110 : decode b_Ci 110 = .ok (.iconst 5, 1) := by decide +kernel
theorem d_Ci_111 : decode b_Ci 111 = .ok (.goto 30, 3) := by decide +kernel
theorem d_Ci_114 : decode b_Ci 114 = .ok (.iload 5, 2) := by decide +kernel
theorem d_Ci_116 : decode b_Ci 116 = .ok (.sipush 1542, 3) := by decide +kernel
theorem d_Ci_119 : decode b_Ci 119 = .ok (.if_icmp .ge 8, 3) := by decide +kernel
theorem d_Ci_122 : decode b_Ci 122 = .ok (.bipush 10, 2) := by decide +kernel
theorem d_Ci_124 : decode b_Ci 124 = .ok (.goto 17, 3) := by decide +kernel
theorem d_Ci_127 : decode b_Ci 127 = .ok (.iload 5, 2) := by decide +kernel
theorem d_Ci_129 : decode b_Ci 129 = .ok (.ldc 29, 2) := by decide +kernel
theorem d_Ci_131 : decode b_Ci 131 = .ok (.if_icmp .ge 8, 3) := by decide +kernel
theorem d_Ci_134 : decode b_Ci 134 = .ok (.bipush 24, 2) := by decide +kernel
theorem d_Ci_136 : decode b_Ci 136 = .ok (.goto 5, 3) := by decide +kernel
theorem d_Ci_141 : decode b_Ci 141 = .ok (.istore 7, 2) := by decide +kernel
theorem d_Ci_143 : decode b_Ci 143 = .ok (.aload_n 0, 1) := by decide +kernel
theorem d_Ci_144 : decode b_Ci 144 = .ok (.iload 7, 2) := by decide +kernel
theorem d_Ci_146 : decode b_Ci 146 = .ok (.newarray .int, 2) := by decide +kernel
theorem d_Ci_148 : decode b_Ci 148 = .ok (.putfield 30, 3) := by decide +kernel
theorem d_Ci_151 : decode b_Ci 151 = .ok (.aload_n 0, 1) := by decide +kernel
theorem d_Ci_152 : decode b_Ci 152 = .ok (.iload 7, 2) := by decide +kernel
theorem d_Ci_154 : decode b_Ci 154 = .ok (.newarray .int, 2) := by decide +kernel
theorem d_Ci_156 : decode b_Ci 156 = .ok (.putfield 34, 3) := by decide +kernel
theorem d_Ci_159 : decode b_Ci 159 = .ok (.return_, 1) := by decide +kernel
abbrev rm_Ci : Room := { frames := 1, cells := 3, slots := 400, locals := 12 }
set_option maxHeartbeats 4000000 in
theorem ct_Ci (l : Launch) (K : KD) (o a n : Nat) (f : Nat → Option Nat) (hn : n ≤ 8000) (hN : N0 K ≤ o) (hoa : o ≠ a) :
    CT l K y_Ci c_Ci rm_Ci [.ref o, .ref a, .null, .int (zI 0), .int (zI 0)] (fun H => va_at K.1 classes (o, .inr (2, [.null, .int 0, .null, .int 0, .int 0, .int 0, .null, .null])) H ∧ H[a]? = some (RA (cM_ K) n f))
      (fun H v H' => ∃ tl : Nat, v = none ∧ tl ≤ 256 ∧ CO K o a 7 H.size tl 0 (H.size + 1) (H.size + 2) H' ∧ H'[H.size]? = some (RA (cO_ K) tl (fun _ => none)) ∧ H'[H.size + 1]? = some (IA (cI_ K) (slen n) (fun _ => 0)) ∧ H'[H.size + 2]? = some (IA (cI_ K) (slen n) (fun _ => 0)) ∧ H'.size = H.size + 3 ∧ ∀ q, q < H.size → q ≠ o → H'[q]? = H[q]?) := by
  refine z_met (by decide) (Nat.le_of_ble_eq_true rfl) ?_
  intro p e s m below meth c ls S hr hlk hnm hG hP hl
  obtain ⟨hO, ha⟩ := hP
  have hl : lv_has ls 8 [(0, .ref o), (1, .ref a), (2, .null), (3, .int (zI 0)), (4, .int (zI 0))] := hl
  have lo := va_at.lt hO
  have la := at_lt ha
  have hslen := slen_le n
  have lo' : o < s.heap.size := lo
  generalize hQ : MQ below (QH (fun H v H' => ∃ tl : Nat, v = none ∧ tl ≤ 256 ∧ CO K o a 7 H.size tl 0 (H.size + 1) (H.size + 2) H' ∧ H'[H.size]? = some (RA (cO_ K) tl (fun _ => none)) ∧ H'[H.size + 1]? = some (IA (cI_ K) (slen n) (fun _ => 0)) ∧ H'[H.size + 2]? = some (IA (cI_ K) (slen n) (fun _ => 0)) ∧ H'.size = H.size + 3 ∧ ∀ q, q < H.size → q ≠ o → H'[q]? = H[q]?)) [Value.ref o, .ref a, .null, .int (zI 0), .int (zI 0)].toArray s rm_Ci.cells rm_Ci.slots (fun q => N0 K ≤ q) = Q
  generalize hargs : [Value.ref o, .ref a, .null, .int (zI 0), .int (zI 0)].toArray = args at S
  -- from 141 on
  have t141 : ∀ (tl : Nat) (X : Heap) (ls : Array Slot) (locs : List Loc), tl ≤ 256 → va_at K.1 classes (o, .inr (2, [.ref a, .int (zI 7), .ref s.heap.size, .int (zI 0), .int (zI tl), .int (zI 0), .null, .null])) X → X[s.heap.size]? = some (RA (cO_ K) tl (fun _ => none)) → X.size = s.heap.size + 1 → (∀ q, q < s.heap.size → q ≠ o → X[q]? = s.heap[q]?) → LO (N0 K) locs → lv_has ls 8 [(0, .ref o)] → W p l e rm_Ci s m args below meth c X locs 1 tl Q (F0 m 141 ls [.int (zI (slen n))]) := by
    intro tl X ls locs htl hX hXt hz hq hlo hl
    refine z_istore (lv' := [(7, .int (zI (slen n))), (0, .ref o)]) S hl rfl (by decide) d_Ci_141 (fun ls hl => ?_)
    refine z_aload_n S rfl (lv_at hl 1 rfl) d_Ci_143 ?_
    refine z_iload S (lv_at hl 0 rfl) d_Ci_144 ?_
    refine z_newi S hG tar_int (by omega) (by omega) (by decide) (by show tl + _ ≤ 400; omega) d_Ci_146 ?_
    rw [Int.toNat_natCast]
    have hX1 : va_at K.1 classes (o, .inr (2, [.ref a, .int (zI 7), .ref s.heap.size, .int (zI 0), .int (zI tl), .int (zI 0), .null, .null])) (X.push (IA (cI_ K) (slen n) (fun _ => 0))) := va_at.kept hX (push_off (va_at.lt hX))
    have hz1 : (X.push (IA (cI_ K) (slen n) (fun _ => 0))).size = s.heap.size + 2 := by rw [Array.size_push]; omega
    have hn1 : (X.push (IA (cI_ K) (slen n) (fun _ => 0)))[X.size]? = some (IA (cI_ K) (slen n) (fun _ => 0)) := push_at
    have hq1 : ∀ q, q < X.size → (X.push (IA (cI_ K) (slen n) (fun _ => 0)))[q]? = X[q]? := fun q h => push_off h
    generalize X.push (IA (cI_ K) (slen n) (fun _ => 0)) = X1 at hX1 hz1 hn1 hq1 ⊢
    refine z_putF (C := "java/util/ComparableTimSort") (T := F_Cts) (N := 8) (ci := 2) S tin_Cts t_Cts tok_Cts tnm_Cts hG hX1 hlo hN rfl 6 (by decide) tf_C30 rfl rfl hnm rfl rfl rfl (Nat.le_of_ble_eq_true rfl) d_Ci_148 (fun X2 locs hX2 z2 o2 hlo => ?_)
    refine z_aload_n S rfl (lv_at hl 1 rfl) d_Ci_151 ?_
    refine z_iload S (lv_at hl 0 rfl) d_Ci_152 ?_
    refine z_newi S hG tar_int (by omega) (by omega) (by decide) (by show tl + ((slen n : Nat) : Nat) + _ ≤ 400; omega) d_Ci_154 ?_
    rw [Int.toNat_natCast]
    have hX3 : va_at K.1 classes (o, .inr (2, [.ref a, .int (zI 7), .ref s.heap.size, .int (zI 0), .int (zI tl), .int (zI 0), .ref X.size, .null])) (X2.push (IA (cI_ K) (slen n) (fun _ => 0))) := va_at.kept hX2 (push_off (va_at.lt hX2))
    have hz3 : (X2.push (IA (cI_ K) (slen n) (fun _ => 0))).size = s.heap.size + 3 := by rw [Array.size_push]; omega
    have hn3 : (X2.push (IA (cI_ K) (slen n) (fun _ => 0)))[X2.size]? = some (IA (cI_ K) (slen n) (fun _ => 0)) := push_at
    have hq3 : ∀ q, q < X2.size → (X2.push (IA (cI_ K) (slen n) (fun _ => 0)))[q]? = X2[q]? := fun q h => push_off h
    generalize X2.push (IA (cI_ K) (slen n) (fun _ => 0)) = X3 at hX3 hz3 hn3 hq3 ⊢
    refine z_putF (C := "java/util/ComparableTimSort") (T := F_Cts) (N := 8) (ci := 2) S tin_Cts t_Cts tok_Cts tnm_Cts hG hX3 hlo hN rfl 7 (by decide) tf_C34 rfl rfl hnm rfl rfl rfl (Nat.le_of_ble_eq_true rfl) d_Ci_156 (fun X4 locs hX4 z4 o4 hlo => ?_)
    refine W.widen (k := 3) (n := 400) (by omega) (by show tl + slen n + slen n ≤ 400; omega) ?_
    subst hQ
    subst hargs
    have e1 : X.size = s.heap.size + 1 := hz
    have e2 : X2.size = s.heap.size + 2 := by omega
    refine z_vret S hr hlk hlo ⟨tl, rfl, htl, ?_, ?_, ?_, ?_, by omega, ?_⟩ d_Ci_159
    · have h9 := hX4
      rw [e1, e2] at h9
      exact h9
    · rw [o4 _ (by omega), hq3 _ (by omega), o2 _ (by omega), hq1 _ (by omega)]
      exact hXt
    · rw [o4 _ (by omega), hq3 _ (by omega), o2 _ (by omega), ← e1]
      exact hn1
    · rw [o4 _ (by omega), ← e2]
      exact hn3
    · intro q q1 q2
      rw [o4 _ q2, hq3 _ (by omega), o2 _ q2, hq1 _ (by omega)]
      exact hq q q1 q2
  -- from 42 on
  have t42 : ∀ (tl : Nat) (X : Heap) (ls : Array Slot) (locs : List Loc), tl ≤ 256 → va_at K.1 classes (o, .inr (2, [.ref a, .int (zI 7), .null, .int 0, .int 0, .int (zI 0), .null, .null])) X → X.size = s.heap.size → (∀ q, q ≠ o → X[q]? = s.heap[q]?) → LO (N0 K) locs → lv_has ls 8 [(5, .int (zI n)), (0, .ref o), (2, .null)] → W p l e rm_Ci s m args below meth c X locs 0 0 Q (F0 m 42 ls [.int (zI tl)]) := by
    intro tl X ls locs htl hX hz hq hlo hl
    refine z_istore (lv' := [(6, .int (zI tl)), (5, .int (zI n)), (0, .ref o), (2, .null)]) S hl rfl (by decide) d_Ci_42 (fun ls hl => ?_)
    refine lv_aload_nN S.1 S.2.1 d_Ci_44 rfl (lv_at hl 3 rfl) ?_
    refine lv_ifnullN (tgt := 64) S.1 S.2.1 d_Ci_45 (by decide) ?_
    refine z_aload_n S rfl (lv_at hl 2 rfl) d_Ci_64 ?_
    refine z_iload S (lv_at hl 0 rfl) d_Ci_65 ?_
    refine z_anew S hG.O hG.1.2.2.2.2.1 tcl_C2 (by omega) (by omega) (by decide) (by show 0 + _ ≤ 400; omega) d_Ci_67 ?_
    rw [Int.toNat_natCast]
    have hX1 : va_at K.1 classes (o, .inr (2, [.ref a, .int (zI 7), .null, .int 0, .int 0, .int (zI 0), .null, .null])) (X.push (RA (cO_ K) tl (fun _ => none))) := va_at.kept hX (push_off (va_at.lt hX))
    have hz1 : (X.push (RA (cO_ K) tl (fun _ => none))).size = s.heap.size + 1 := by rw [Array.size_push]; omega
    have hn1 : (X.push (RA (cO_ K) tl (fun _ => none)))[X.size]? = some (RA (cO_ K) tl (fun _ => none)) := push_at
    have hq1 : ∀ q, q < X.size → (X.push (RA (cO_ K) tl (fun _ => none)))[q]? = X[q]? := fun q h => push_off h
    generalize X.push (RA (cO_ K) tl (fun _ => none)) = X1 at hX1 hz1 hn1 hq1 ⊢
    refine z_put (C := "java/util/ComparableTimSort") (T := F_Cts) (N := 8) (ci := 2) S tin_Cts t_Cts tok_Cts tnm_Cts hG hX1 hlo hN rfl 2 (by decide) tf_C20 rfl rfl rfl rfl (Nat.le_of_ble_eq_true rfl) d_Ci_70 (fun X2 locs hX2 z2 o2 hlo => ?_)
    refine z_aload_n S rfl (lv_at hl 2 rfl) d_Ci_73 ?_
    refine z_iconst S d_Ci_74 ?_
    refine z_put (C := "java/util/ComparableTimSort") (T := F_Cts) (N := 8) (ci := 2) S tin_Cts t_Cts tok_Cts tnm_Cts hG hX2 hlo hN rfl 3 (by decide) tf_C23 rfl rfl rfl rfl (Nat.le_of_ble_eq_true rfl) d_Ci_75 (fun X3 locs hX3 z3 o3 hlo => ?_)
    refine z_aload_n S rfl (lv_at hl 2 rfl) d_Ci_78 ?_
    refine z_iload S (lv_at hl 0 rfl) d_Ci_79 ?_
    refine z_put (C := "java/util/ComparableTimSort") (T := F_Cts) (N := 8) (ci := 2) S tin_Cts t_Cts tok_Cts tnm_Cts hG hX3 hlo hN rfl 4 (by decide) tf_C26 rfl rfl rfl rfl (Nat.le_of_ble_eq_true rfl) d_Ci_81 (fun X4 locs hX4 z4 o4 hlo => ?_)
    rw [hz] at hn1 hX4
    have fin : ∀ (z : Nat) (ls : Array Slot), z = slen n → lv_has ls 8 [(0, .ref o)] → W p l e rm_Ci s m args below meth c X4 locs (0 + 1) (0 + tl) Q (F0 m 141 ls [.int (zI z)]) := by
      intro z ls ez hl
      subst ez
      refine W.cs (cells' := 1) (slots' := tl) rfl (by omega) ?_
      refine t141 tl X4 ls locs htl hX4 ?_ (by omega) ?_ hlo hl
      · rw [o4 _ (by omega), o3 _ (by omega), o2 _ (by omega)]
        exact hn1
      · intro q q1 q2
        rw [o4 _ q2, o3 _ q2, o2 _ q2, hq1 _ (by omega)]
        exact hq q q2
    refine z_goto (tgt := 103) S (by decide) d_Ci_84 ?_
    refine z_iload S (lv_at hl 1 rfl) d_Ci_103 ?_
    refine z_bipush S (by decide) d_Ci_105 ?_
    refine z_icmp_ge (tgt := 114) S (by decide) (by omega) (by omega) d_Ci_107 ?_ ?_
    · intro hc
      refine z_iload S (lv_at hl 1 rfl) d_Ci_114 ?_
      refine z_sipush S (by decide) d_Ci_116 ?_
      refine z_icmp_ge (tgt := 127) S (by decide) (by omega) (by omega) d_Ci_119 ?_ ?_
      · intro hc2
        refine z_iload S (lv_at hl 1 rfl) d_Ci_127 ?_
        refine lv_ldc (v := zI 119151) S.1 S.2.1 S.2.2.2.1 (wt S.2.2.2.2 tk_C29) d_Ci_129 ?_
        refine z_icmp_ge (tgt := 139) S (by decide) (by omega) (by omega) d_Ci_131 ?_ ?_
        · intro hc3
          omega
        · intro hc3
          refine z_bipush S (by decide) d_Ci_134 ?_
          refine z_goto (tgt := 141) S (by decide) d_Ci_136 ?_
          exact fin 24 ls (by unfold slen; rw [if_neg (by omega), if_neg (by omega)]) (lv_sub hl [2] rfl)
      · intro hc2
        refine z_bipush S (by decide) d_Ci_122 ?_
        refine z_goto (tgt := 141) S (by decide) d_Ci_124 ?_
        exact fin 10 ls (by unfold slen; rw [if_neg (by omega), if_pos (by omega)]) (lv_sub hl [2] rfl)
    · intro hc
      refine z_iconst S d_Ci_110 ?_
      refine z_goto (tgt := 141) S (by decide) d_Ci_111 ?_
      exact fin 5 ls (by unfold slen; rw [if_pos (by omega)]) (lv_sub hl [2] rfl)
  refine z_aload_n S rfl (lv_at hl 0 rfl) d_Ci_0 ?_
  refine W.objInit S.1 S.2.1 S.2.2.2.1 (wt S.2.2.2.2 tm_C1) (wt S.2.2.2.2 ti_objectInit) (wt S.2.2.2.2 tobj) rfl (by rw [S.2.2.1]; exact hl.1) rfl d_Ci_1 (Nat.le_of_ble_eq_true rfl) (Nat.le_of_ble_eq_true rfl) ?_
  refine W.eq (g2 := F0 m 4 ls []) rfl ?_
  refine z_aload_n S rfl (lv_at hl 0 rfl) d_Ci_4 ?_
  refine z_bipush S (by decide) d_Ci_5 ?_
  refine z_put (C := "java/util/ComparableTimSort") (T := F_Cts) (N := 8) (ci := 2) S tin_Cts t_Cts tok_Cts tnm_Cts hG hO LO.nil hN rfl 1 (by decide) tf_C9 rfl rfl rfl rfl (Nat.le_of_ble_eq_true rfl) d_Ci_7 (fun X1 locs hX1 z1 o1 hlo => ?_)
  refine z_aload_n S rfl (lv_at hl 0 rfl) d_Ci_10 ?_
  refine z_iconst S d_Ci_11 ?_
  refine z_put (C := "java/util/ComparableTimSort") (T := F_Cts) (N := 8) (ci := 2) S tin_Cts t_Cts tok_Cts tnm_Cts hG hX1 hlo hN rfl 5 (by decide) tf_C13 rfl rfl rfl rfl (Nat.le_of_ble_eq_true rfl) d_Ci_12 (fun X2 locs hX2 z2 o2 hlo => ?_)
  refine z_aload_n S rfl (lv_at hl 0 rfl) d_Ci_15 ?_
  refine z_aload_n S rfl (lv_at hl 1 rfl) d_Ci_16 ?_
  refine z_putF (C := "java/util/ComparableTimSort") (T := F_Cts) (N := 8) (ci := 2) S tin_Cts t_Cts tok_Cts tnm_Cts hG hX2 hlo hN rfl 0 (by decide) tf_C16 rfl rfl hnm rfl rfl rfl (Nat.le_of_ble_eq_true rfl) d_Ci_17 (fun X3 locs hX3 z3 o3 hlo => ?_)
  have hz3 : X3.size = s.heap.size := by omega
  have hq3 : ∀ q, q ≠ o → X3[q]? = s.heap[q]? := fun q h => by rw [o3 q h, o2 q h, o1 q h]
  have ha3 : X3[a]? = some (RA (cM_ K) n f) := by rw [hq3 a (Ne.symm hoa)]; exact ha
  refine z_aload_n S rfl (lv_at hl 1 rfl) d_Ci_20 ?_
  refine z_alen S hG.M ha3 d_Ci_21 ?_
  refine z_istore (lv' := [(5, .int (zI n)), (0, .ref o), (1, .ref a), (2, .null), (3, .int (zI 0)), (4, .int (zI 0))]) S hl rfl (by decide) d_Ci_22 (fun ls hl => ?_)
  refine z_iload S (lv_at hl 0 rfl) d_Ci_24 ?_
  refine z_sipush S (by decide) d_Ci_26 ?_
  refine z_icmp_ge (tgt := 39) S (by decide) (by omega) (by omega) d_Ci_29 ?_ ?_
  · intro hc
    refine z_sipush S (by decide) d_Ci_39 ?_
    exact t42 256 X3 ls locs (by omega) hX3 hz3 hq3 hlo (lv_sub hl [0, 1, 3] rfl)
  · intro hc
    refine z_iload S (lv_at hl 0 rfl) d_Ci_32 ?_
    refine z_iconst S d_Ci_34 ?_
    refine z_iushr1 S (by omega) (by omega) d_Ci_35 ?_
    refine z_top (b := ((n / 2 : Nat) : Int)) (by omega) ?_
    refine z_goto (tgt := 42) S (by decide) d_Ci_36 ?_
    exact t42 (n / 2) X3 ls locs (by omega) hX3 hz3 hq3 hlo (lv_sub hl [0, 1, 3] rfl)
end
section
/-! ComparableTimSort.sort -/
set_option maxRecDepth 100000
def upN (L : Nat → Nat) (k v : Nat) : Nat → Nat := fun j => if j = k then v else L j
theorem upN_self {L : Nat → Nat} {k v : Nat} : upN L k v k = v := by unfold upN; rw [if_pos rfl]
theorem upN_ne {L : Nat → Nat} {k v j : Nat} (h : j ≠ k) : upN L k v j = L j := by unfold upN; rw [if_neg h]
theorem SB_upN {lo : Nat} {L : Nat → Nat} {k v j : Nat} (h : j ≤ k) : SB lo (upN L k v) j = SB lo L j := SB_congr (fun x hx => upN_ne (by omega))
theorem STK.push {M : Nat → Prop} {wt : Nat → Int32} {n lo T r : Nat} {f0 f f' : Nat → Option Nat} {fb fl : Nat → Int32} {L : Nat → Nat} {ss : Nat} (h : STK M wt n lo T f0 f fb fl L ss) (hr : 0 < r) (hn : T + r ≤ n) (hoff : ∀ x, (x < T ∨ T + r ≤ x) → f' x = f x) (hs : Srt (kw wt) f' T r) (he : Eqv (kw wt) (sg f' T r) (sg f T r)) (hF : Full M f' 0 n) : STK M wt n lo (T + r) f0 f' (va_up fb ss (zI T)) (va_up fl ss (zI r)) (upN L ss r) (ss + 1) := by
  obtain ⟨h1, h2, h3, h4, h5, h6⟩ := h
  have hloT : lo ≤ T := by rw [← h2]; exact SB_lo ss
  refine ⟨fun j hj => ?_, ?_, hn, fun x hx => ?_, ?_, hF⟩
  · by_cases c1 : j = ss
    · subst c1
      rw [va_up_self, va_up_self, SB_upN (Nat.le_refl _), upN_self, h2]
      exact ⟨rfl, rfl, hr, hs⟩
    · rw [va_up_ne _ _ c1, va_up_ne _ _ c1, SB_upN (by omega), upN_ne c1]
      obtain ⟨a1, a2, a3, a4⟩ := h1 j (by omega)
      have b1 : SB lo L (j + 1) ≤ T := by rw [← h2]; exact SB_mono (by omega)
      have b2 : SB lo L (j + 1) = SB lo L j + L j := rfl
      exact ⟨a1, a2, a3, a4.congr (fun x x1 x2 => hoff x (by omega))⟩
  · show SB lo (upN L ss r) ss + upN L ss r ss = T + r
    rw [SB_upN (Nat.le_refl _), upN_self, h2]
  · rw [hoff x (by omega)]
    exact h4 x (by omega)
  · have e : ∀ φ : Nat → Option Nat, sg φ lo (T + r - lo) = sg φ lo (T - lo) ++ sg φ T r := fun φ => by
      rw [show T + r - lo = (T - lo) + r by omega, sg_app, show lo + (T - lo) = T by omega]
    rw [e f', e f0]
    refine ((Eqv.of (sg_same (fun x x1 x2 => hoff x (by omega)))).tr h5).app (he.tr (Eqv.of (sg_same (fun x x1 x2 => h4 x (by omega)))))
theorem CWo.a' {K : KD} {o a : Nat} {mg : Int} {tb tl : Nat} {ss : Int} {rb rl n sl : Nat} {f g : Nat → Option Nat} {fb fl : Nat → Int32} {M : Nat → Prop} {wt nm : Nat → Int32} {H : Heap} (h : CWo K o a mg tb tl ss rb rl n sl f g fb fl M wt nm H) (hD : DS K o a tb rb rl M) (f' : Nat → Option Nat) : CWo K o a mg tb tl ss rb rl n sl f' g fb fl M wt nm (H.setIfInBounds a (RA (cM_ K) n f')) := by
  obtain ⟨⟨h1, h2, h3, h4⟩, h5, h6⟩ := h
  obtain ⟨-, ⟨d1, d2, d3, d4, d5, d6, d7, d8, d9, d10⟩, -, m2, -⟩ := hD
  exact ⟨⟨h1.kept (set_off d1), set_at h2, by rw [set_off (Ne.symm d3)]; exact h3, h4.set m2⟩, by rw [set_off (Ne.symm d6)]; exact h5, by rw [set_off (Ne.symm d7)]; exact h6⟩
/-- a run counted, then filled up -/
theorem run_fill {k : Option Nat → Int} {f f1 f2 : Nat → Option Nat} {P r q : Nat} (hrq : r ≤ q) (h1 : ∀ x, (x < P ∨ P + r ≤ x) → f1 x = f x) (e1 : Eqv k (sg f1 P r) (sg f P r)) (e2 : Eqv k (sg f2 P q) (sg f1 P q)) : Eqv k (sg f2 P q) (sg f P q) := by
  refine e2.tr ?_
  rw [show q = r + (q - r) by omega, sg_app, sg_app]
  exact e1.app (Eqv.of (sg_same (fun x x1 x2 => h1 x (by omega))))
theorem full_run {M : Nat → Prop} {k : Option Nat → Int} {f f' : Nat → Option Nat} {P q n : Nat} (hF : Full M f 0 n) (hq : P + q ≤ n) (h1 : ∀ x, (x < P ∨ P + q ≤ x) → f' x = f x) (e : Eqv k (sg f' P q) (sg f P q)) : Full M f' 0 n := by
  intro j j1 j2
  by_cases h : P ≤ j ∧ j < P + q
  · obtain ⟨i, i1, i2, i3⟩ := sg_mem.mp (e.mem (sg_mem.mpr ⟨j, h.1, h.2, rfl⟩))
    rw [← i3]
    exact hF i (by omega) (by omega)
  · rw [h1 j (by omega)]
    exact hF j j1 j2
theorem d_Cs_0 : decode b_Cs 0 = .ok (.getstatic 37, 3) := by decide +kernel
theorem d_Cs_3 : decode b_Cs 3 = .ok (.ifCond .ne 30, 3) := by decide +kernel
theorem d_Cs_33 : decode b_Cs 33 = .ok (.iload_n 2, 1) := by decide +kernel
theorem d_Cs_34 : decode b_Cs 34 = .ok (.iload_n 1, 1) := by decide +kernel
theorem d_Cs_35 : decode b_Cs 35 = .ok (.isub, 1) := by decide +kernel
theorem d_Cs_36 : decode b_Cs 36 = .ok (.istore 6, 2) := by decide +kernel
theorem d_Cs_38 : decode b_Cs 38 = .ok (.iload 6, 2) := by decide +kernel
theorem d_Cs_40 : decode b_Cs 40 = .ok (.iconst 2, 1) := by decide +kernel
theorem d_Cs_41 : decode b_Cs 41 = .ok (.if_icmp .ge 4, 3) := by decide +kernel
theorem d_Cs_44 : decode b_Cs 44 = .ok (.return_, 1) := by decide +kernel
theorem d_Cs_45 : decode b_Cs 45 = .ok (.iload 6, 2) := by decide +kernel
theorem d_Cs_47 : decode b_Cs 47 = .ok (.bipush 32, 2) := by decide +kernel
theorem d_Cs_49 : decode b_Cs 49 = .ok (.if_icmp .ge 22, 3) := by decide +kernel
theorem d_Cs_52 : decode b_Cs 52 = .ok (.aload_n 0, 1) := by decide +kernel
theorem d_Cs_53 : decode b_Cs 53 = .ok (.iload_n 1, 1) := by decide +kernel
theorem d_Cs_54 : decode b_Cs 54 = .ok (.iload_n 2, 1) := by decide +kernel
theorem d_Cs_55 : decode b_Cs 55 = .ok (.invokestatic 44, 3) := by decide +kernel
theorem d_Cs_58 : decode b_Cs 58 = .ok (.istore 7, 2) := by decide +kernel
theorem d_Cs_60 : decode b_Cs 60 = .ok (.aload_n 0, 1) := by decide +kernel
theorem d_Cs_61 : decode b_Cs 61 = .ok (.iload_n 1, 1) := by decide +kernel
theorem d_Cs_62 : decode b_Cs 62 = .ok (.iload_n 2, 1) := by decide +kernel
theorem d_Cs_63 : decode b_Cs 63 = .ok (.iload_n 1, 1) := by decide +kernel
theorem d_Cs_64 : decode b_Cs 64 = .ok (.iload 7, 2) := by decide +kernel
theorem d_Cs_66 : decode b_Cs 66 = .ok (.iadd, 1) := by decide +kernel
theorem d_Cs_67 : decode b_Cs 67 = .ok (.invokestatic 48, 3) := by decide +kernel
theorem d_Cs_70 : decode b_Cs 70 = .ok (.return_, 1) := by decide +kernel
theorem d_Cs_71 : decode b_Cs 71 = .ok (.new 7, 3) := by decide +kernel
theorem d_Cs_74 : decode b_Cs 74 = .ok (.dup, 1) := by decide +kernel
theorem d_Cs_75 : decode b_Cs 75 = .ok (.aload_n 0, 1) := by decide +kernel
theorem d_Cs_76 : decode b_Cs 76 = .ok (.aload_n 3, 1) := by decide +kernel
theorem d_Cs_77 : decode b_Cs 77 = .ok (.iload 4, 2) := by decide +kernel
theorem d_Cs_79 : decode b_Cs 79 = .ok (.iload 5, 2) := by decide +kernel
theorem d_Cs_81 : decode b_Cs 81 = .ok (.invokespecial 52, 3) := by decide +kernel
theorem d_Cs_84 : decode b_Cs 84 = .ok (.astore 7, 2) := by decide +kernel
theorem d_Cs_86 : decode b_Cs 86 = .ok (.iload 6, 2) := by decide +kernel
theorem d_Cs_88 : decode b_Cs 88 = .ok (.invokestatic 55, 3) := by decide +kernel
theorem d_Cs_91 : decode b_Cs 91 = .ok (.istore 8, 2) := by decide +kernel
theorem d_Cs_93 : decode b_Cs 93 = .ok (.aload_n 0, 1) := by decide +kernel
theorem d_Cs_94 : decode b_Cs 94 = .ok (.iload_n 1, 1) := by decide +kernel
theorem d_Cs_95 : decode b_Cs 95 = .ok (.iload_n 2, 1) := by decide +kernel
theorem d_Cs_96 : decode b_Cs 96 = .ok (.invokestatic 44, 3) := by decide +kernel
theorem d_Cs_99 : decode b_Cs 99 = .ok (.istore 9, 2) := by decide +kernel
theorem d_Cs_101 : decode b_Cs 101 = .ok (.iload 9, 2) := by decide +kernel
theorem d_Cs_103 : decode b_Cs 103 = .ok (.iload 8, 2) := by decide +kernel
theorem d_Cs_105 : decode b_Cs 105 = .ok (.if_icmp .ge 36, 3) := by decide +kernel
theorem d_Cs_108 : decode b_Cs 108 = .ok (.iload 6, 2) := by decide +kernel
theorem d_Cs_110 : decode b_Cs 110 = .ok (.iload 8, 2) := by decide +kernel
theorem d_Cs_112 : decode b_Cs 112 = .ok (.if_icmp .gt 8, 3) := by decide +kernel
theorem d_Cs_115 : decode b_Cs 115 = .ok (.iload 6, 2) := by decide +kernel
theorem d_Cs_117 : decode b_Cs 117 = .ok (.goto 5, 3) := by decide +kernel
theorem d_Cs_120 : decode b_Cs 120 = .ok (.iload 8, 2) := by decide +kernel
theorem d_Cs_122 : decode b_Cs 122 = .ok (.istore 10, 2) := by decide +kernel
theorem d_Cs_124 : decode b_Cs 124 = .ok (.aload_n 0, 1) := by decide +kernel
theorem d_Cs_125 : decode b_Cs 125 = .ok (.iload_n 1, 1) := by decide +kernel
theorem d_Cs_126 : decode b_Cs 126 = .ok (.iload_n 1, 1) := by decide +kernel
theorem d_Cs_127 : decode b_Cs 127 = .ok (.iload 10, 2) := by decide +kernel
theorem d_Cs_129 : decode b_Cs 129 = .ok (.iadd, 1) := by decide +kernel
theorem d_Cs_130 : decode b_Cs 130 = .ok (.iload_n 1, 1) := by decide +kernel
theorem d_Cs_131 : decode b_Cs 131 = .ok (.iload 9, 2) := by decide +kernel
theorem d_Cs_133 : decode b_Cs 133 = .ok (.iadd, 1) := by decide +kernel
theorem d_Cs_134 : decode b_Cs 134 = .ok (.invokestatic 48, 3) := by decide +kernel
theorem d_Cs_137 : decode b_Cs 137 = .ok (.iload 10, 2) := by decide +kernel
theorem d_Cs_139 : decode b_Cs 139 = .ok (.istore 9, 2) := by decide +kernel
theorem d_Cs_141 : decode b_Cs 141 = .ok (.aload 7, 2) := by decide +kernel
theorem d_Cs_143 : decode b_Cs 143 = .ok (.iload_n 1, 1) := by decide +kernel
theorem d_Cs_144 : decode b_Cs 144 = .ok (.iload 9, 2) := by decide +kernel
theorem d_Cs_146 : decode b_Cs 146 = .ok (.invokevirtual 59, 3) := by decide +kernel
theorem d_Cs_149 : decode b_Cs 149 = .ok (.aload 7, 2) := by decide +kernel
theorem d_Cs_151 : decode b_Cs 151 = .ok (.invokevirtual 63, 3) := by decide +kernel
theorem d_Cs_154 : decode b_Cs 154 = .ok (.iload_n 1, 1) := by decide +kernel
theorem d_Cs_155 : decode b_Cs 155 = .ok (.iload 9, 2) := by decide +kernel
theorem d_Cs_157 : decode b_Cs 157 = .ok (.iadd, 1) := by decide +kernel
theorem d_Cs_158 : decode b_Cs 158 = .ok (.istore_n 1, 1) := by decide +kernel
theorem d_Cs_159 : decode b_Cs 159 = .ok (.iload 6, 2) := by decide +kernel
theorem d_Cs_161 : decode b_Cs 161 = .ok (.iload 9, 2) := by decide +kernel
theorem d_Cs_163 : decode b_Cs 163 = .ok (.isub, 1) := by decide +kernel
theorem d_Cs_164 : decode b_Cs 164 = .ok (.istore 6, 2) := by decide +kernel
theorem d_Cs_166 : decode b_Cs 166 = .ok (.iload 6, 2) := by decide +kernel
theorem d_Cs_168 : decode b_Cs 168 = .ok (.ifCond .ne (-75), 3) := by decide +kernel
theorem d_Cs_171 : decode b_Cs 171 = .ok (.getstatic 37, 3) := by decide +kernel
theorem d_Cs_174 : decode b_Cs 174 = .ok (.ifCond .ne 16, 3) := by decide +kernel
theorem d_Cs_190 : decode b_Cs 190 = .ok (.aload 7, 2) := by decide +kernel
theorem d_Cs_192 : decode b_Cs 192 = .ok (.invokevirtual 66, 3) := by decide +kernel
theorem d_Cs_195 : decode b_Cs 195 = .ok (.getstatic 37, 3) := by decide +kernel
theorem d_Cs_198 : decode b_Cs 198 = .ok (.ifCond .ne 20, 3) := by decide +kernel
theorem d_Cs_218 : decode b_Cs 218 = .ok (.return_, 1) := by decide +kernel
abbrev rm_Cs : Room := { frames := 6, cells := 600, slots := 2100000, locals := 150 }
def Psort (K : KD) (a n lo hi : Nat) (f : Nat → Option Nat) (M : Nat → Prop) (wt : Nat → Int32) : Heap → Option Value → Heap → Prop := fun H v H' => ∃ f' : Nat → Option Nat, v = none ∧ H'[a]? = some (RA (cM_ K) n f') ∧ H.size ≤ H'.size ∧ (∀ q, q < H.size → q ≠ a → H'[q]? = H[q]?) ∧ (∀ x, (x < lo ∨ hi ≤ x) → f' x = f x) ∧ Srt (kw wt) f' lo (hi - lo) ∧ Eqv (kw wt) (sg f' lo (hi - lo)) (sg f lo (hi - lo)) ∧ Full M f' 0 n
set_option maxHeartbeats 8000000 in
theorem ct_Cs (l : Launch) (K : KD) (a n lo hi : Nat) (f : Nat → Option Nat) (M : Nat → Prop) (wt nm : Nat → Int32) (hn : n ≤ 8000) (hlh : lo ≤ hi) (hhn : hi ≤ n) (hNa : N0 K ≤ a) (hMa : ¬ M a) (hF : Full M f 0 n) :
    CT l K y_Cs c_Cs rm_Cs [.ref a, .int (zI lo), .int (zI hi), .null, .int (zI 0), .int (zI 0)] (fun H => H[a]? = some (RA (cM_ K) n f) ∧ MS K M wt nm H) (Psort K a n lo hi f M wt) := by
  refine z_met (by decide) (Nat.le_of_ble_eq_true rfl) ?_
  intro p e s m below meth c ls S hr hlk hnm hG hP hl
  obtain ⟨ha, hM⟩ := hP
  have hl : lv_has ls 11 [(0, .ref a), (1, .int (zI lo)), (2, .int (zI hi)), (3, .null), (4, .int (zI 0)), (5, .int (zI 0))] := hl
  have la := at_lt ha
  have hz0 := hG.2.2.2
  have hslen := slen_le n
  generalize hQ : MQ below (QH (Psort K a n lo hi f M wt)) [Value.ref a, .int (zI lo), .int (zI hi), .null, .int (zI 0), .int (zI 0)].toArray s rm_Cs.cells rm_Cs.slots (fun q => N0 K ≤ q) = Q
  generalize hargs : [Value.ref a, .int (zI lo), .int (zI hi), .null, .int (zI 0), .int (zI 0)].toArray = args at S
  -- the loop, with the sorter at o
  have loop : ∀ (o rb rl minr : Nat), s.heap.size ≤ o → s.heap.size ≤ rb → s.heap.size ≤ rl → 16 ≤ minr → minr ≤ 32 → ∀ (w P ss mm np : Nat) (L : Nat → Nat) (mg : Int) (tb tl : Nat) (fc g : Nat → Option Nat) (fb fl : Nat → Int32) (X : Heap) (ls : Array Slot) (locs : List Loc), hi - P < w → P < hi → lo ≤ P → s.heap.size ≤ tb → tl ≤ 4000 → CWo K o a mg tb tl (ss : Int) rb rl n (slen n) fc g fb fl M wt nm X → DS K o a tb rb rl M → s.heap.size ≤ X.size → (∀ q, q < s.heap.size → q ≠ a → X[q]? = s.heap[q]?) → STK M wt n lo P f fc fb fl L ss → (∀ j, j < ss → 16 ≤ L j) → (∀ i, i + 3 ≤ ss → L (i + 1) + L (i + 2) < L i) → (2 ≤ ss → L (ss - 1) < L (ss - 2)) → mm + ss = np → 16 * np ≤ P - lo → LO (N0 K) locs → lv_has ls 11 [(0, .ref a), (1, .int (zI P)), (2, .int (zI hi)), (6, .int (zI (hi - P : Nat))), (7, .ref o), (8, .int (zI minr))] → W p l e rm_Cs s m args below meth c X locs (4 + mm) (408 + 4000 * mm) Q (F0 m 93 ls []) := by
    intro o rb rl minr zo zb zl hm1 hm2 w
    induction w with
    | zero => intro P ss mm np L mg tb tl fc g fb fl X ls locs h; omega
    | succ w ih =>
      intro P ss mm np L mg tb tl fc g fb fl X ls locs hw hPhi hloP ztb htl hX hD zX oX hST hmin hfib hmono hmm hnp hlo hl
      have hkX : Keep (N0 K) s.heap X := ⟨zX, fun q hq => oX q (by omega) (by omega)⟩
      obtain ⟨k1, k2, k3, k4, k5, k6⟩ := id hST
      have hssl : ss < slen n := slen_ok (lo := lo) hmin hfib hmono hn (by omega)
      -- behind the run: it is of length q, and in order
      have t141 : ∀ (q : Nat) (f2 : Nat → Option Nat) (X : Heap) (ls : Array Slot) (locs : List Loc), 0 < q → P + q ≤ hi → (16 ≤ q ∨ P + q = hi) → CWo K o a mg tb tl (ss : Int) rb rl n (slen n) f2 g fb fl M wt nm X → s.heap.size ≤ X.size → (∀ q, q < s.heap.size → q ≠ a → X[q]? = s.heap[q]?) → (∀ x, (x < P ∨ P + q ≤ x) → f2 x = fc x) → Srt (kw wt) f2 P q → Eqv (kw wt) (sg f2 P q) (sg fc P q) → LO (N0 K) locs → lv_has ls 11 [(9, .int (zI q)), (0, .ref a), (1, .int (zI P)), (2, .int (zI hi)), (6, .int (zI (hi - P : Nat))), (7, .ref o), (8, .int (zI minr))] → W p l e rm_Cs s m args below meth c X locs (4 + mm) (408 + 4000 * mm) Q (F0 m 141 ls []) := by
        intro q f2 X ls locs q1 q2 q3 hX zX oX hoff hsr hev hlo hl
        have hkX : Keep (N0 K) s.heap X := ⟨zX, fun q hq => oX q (by omega) (by omega)⟩
        have hF2 := full_run k6 (by omega) hoff hev
        have hST2 := hST.push q1 (by omega) hoff hsr hev hF2
        refine z_aload S (lv_at hl 5 rfl) d_Cs_141 ?_
        refine z_iload_n S rfl (lv_at hl 2 rfl) d_Cs_143 ?_
        refine z_iload S (lv_at hl 0 rfl) d_Cs_144 ?_
        refine z_callV (C := "java/util/ComparableTimSort") (As := [.int (zI P), .int (zI q)]) (n := 2) S (ct_Cp l K o a mg tb tl ss rb rl n (slen n) P q f2 g fb fl M wt nm (by omega) hD hssl) tc_Cp tm_C59 ti_Cp tse_Cp tn_C (by decide) (by decide) rfl hG hkX hlo (hX.1.1.recv hG) hX hl rfl (by decide) ⟨by show 4 + mm + 0 ≤ 600; omega, by show 408 + 4000 * mm + 0 ≤ 2100000; omega⟩ d_Cs_146 (fun v X1 locs hp hlo => ?_)
        obtain ⟨rfl, hX1, z1, o1⟩ := hp
        refine W.cs (cells' := 4 + mm) (slots' := 408 + 4000 * mm) rfl rfl ?_
        have zX1 : s.heap.size ≤ X1.size := by omega
        have oX1 : ∀ q, q < s.heap.size → q ≠ a → X1[q]? = s.heap[q]? := fun q w1 w2 => by rw [o1 q (by omega) (by omega) (by omega)]; exact oX q w1 w2
        have hkX1 : Keep (N0 K) s.heap X1 := ⟨zX1, fun q hq => oX1 q (by omega) (by omega)⟩
        refine z_aload S (lv_at hl 5 rfl) d_Cs_149 ?_
        generalize hcl : colx (ss + 1 + 1) (upN L ss q) (ss + 1) = fin
        have hle : fin.2 ≤ ss + 1 := by rw [← hcl]; exact col_le _ _ _
        have hge : 1 ≤ fin.2 := by rw [← hcl]; exact col_pos _ _ _ (by omega)
        have hcf := col_fib (ss + 1 + 1) (upN L ss q) (ss + 1) (by omega) (fun i hi => by
          rw [upN_ne (by omega), upN_ne (by omega), upN_ne (by omega)]
          exact hfib i (by omega))
        have hcm : 16 ≤ q → ∀ j, j < fin.2 → 16 ≤ fin.1 j := fun h16 => by
          have := col_min 16 (ss + 1 + 1) (upN L ss q) (ss + 1) (fun j hj => by
            by_cases c1 : j = ss
            · subst c1; rw [upN_self]; exact h16
            · rw [upN_ne c1]; exact hmin j (by omega))
          rw [hcl] at this
          exact this
        rw [hcl] at hcf
        have hCl := ct_Cl l K o a mg tb tl (ss + 1) rb rl n (slen n) lo (P + q) (upN L ss q) f f2 g (va_up fb ss (zI P)) (va_up fl ss (zI q)) M wt nm hn htl (by omega) hD (by omega) hST2
        rw [hcl] at hCl
        generalize hkk : ss + 1 - fin.2 = k at hCl
        refine z_callV (C := "java/util/ComparableTimSort") (As := []) (n := 0) S hCl tc_Cl tm_C63 ti_Cl tse_Cl tn_C (by decide) ⟨by show 5 + 1 ≤ 6; omega, by show 8 + (2 + 11) + 129 ≤ 150; omega⟩ rfl hG hkX1 hlo (hX1.1.1.recv hG) hX1 hl rfl (by decide) ⟨by show 4 + mm + k ≤ 600; omega, by show 408 + 4000 * mm + 4000 * k ≤ 2100000; omega⟩ d_Cs_151 (fun v X2 locs hp hlo => ?_)
        obtain ⟨mg', tb', tl', f3, g3, fb3, fl3, rfl, hX2, htl', htb', zX2, oX2, hST3⟩ := hp
        refine W.cs (cells' := 4 + (mm + k)) (slots' := 408 + 4000 * (mm + k)) (by show 4 + mm + k = _; omega) (by show 408 + 4000 * mm + 4000 * k = _; omega) ?_
        obtain ⟨l1, l2, l3, l4, l5, l6⟩ := hX1.lts
        have hD2 := hD.tb' htb' l1 l2 l4 l5 l6 (by omega)
        have zX2' : s.heap.size ≤ X2.size := by omega
        have oX2' : ∀ q, q < s.heap.size → q ≠ a → X2[q]? = s.heap[q]? := fun q w1 w2 => by rw [oX2 q (by omega) (by omega) w2 (by omega) (by omega) (by omega)]; exact oX1 q w1 w2
        have hkX2 : Keep (N0 K) s.heap X2 := ⟨zX2', fun q hq => oX2' q (by omega) (by omega)⟩
        refine z_iload_n S rfl (lv_at hl 2 rfl) d_Cs_154 ?_
        refine z_iload S (lv_at hl 0 rfl) d_Cs_155 ?_
        refine z_iadd S d_Cs_157 ?_
        refine z_istore_n (lv' := [(1, .int (zI (P + q))), (9, .int (zI q)), (0, .ref a), (2, .int (zI hi)), (6, .int (zI ((hi - P : Nat) : Int))), (7, .ref o), (8, .int (zI minr))]) S rfl hl rfl (by decide) d_Cs_158 (fun ls hl => ?_)
        refine z_iload S (lv_at hl 4 rfl) d_Cs_159 ?_
        refine z_iload S (lv_at hl 1 rfl) d_Cs_161 ?_
        refine z_isub S d_Cs_163 ?_
        refine z_istore (lv' := [(6, .int (zI (((hi - P : Nat) : Int) - q))), (1, .int (zI (P + q))), (9, .int (zI q)), (0, .ref a), (2, .int (zI hi)), (7, .ref o), (8, .int (zI minr))]) S hl rfl (by decide) d_Cs_164 (fun ls hl => ?_)
        refine z_iload S (lv_at hl 0 rfl) d_Cs_166 ?_
        have hl : lv_has ls 11 [(0, .ref a), (1, .int (zI (P + q))), (2, .int (zI hi)), (6, .int (zI (((hi - P : Nat) : Int) - q))), (7, .ref o), (8, .int (zI minr))] := lv_sub hl [3, 1, 4, 0, 5, 6] rfl
        have hl : lv_has ls 11 [(0, .ref a), (1, .int (zI ((P + q : Nat) : Int))), (2, .int (zI hi)), (6, .int (zI (((hi - P : Nat) : Int) - q))), (7, .ref o), (8, .int (zI minr))] := lv_ren hl 1 rfl (show (P + q) = ((P + q : Nat) : Int) by omega)
        have hl : lv_has ls 11 [(0, .ref a), (1, .int (zI ((P + q : Nat) : Int))), (2, .int (zI hi)), (6, .int (zI ((hi - (P + q) : Nat) : Int))), (7, .ref o), (8, .int (zI minr))] := lv_ren hl 3 rfl (show (((hi - P : Nat) : Int) - q) = ((hi - (P + q) : Nat) : Int) by omega)
        refine z_if_ne (tgt := 93) S (by decide) (by omega) d_Cs_168 ?_ ?_
        · intro hc
          refine ih (P + q) fin.2 (mm + k) (np + 1) fin.1 mg' tb' tl' f3 g3 fb3 fl3 X2 ls locs (by omega) (by omega) (by omega) (by omega) htl' hX2 hD2 zX2' oX2' hST3 (hcm (by omega)) hcf.1 hcf.2 (by omega) (by omega) hlo hl
        · intro hc
          have ehi : P + q = hi := by omega
          refine z_asrt (tgt := 190) S hG hkX2 tw_asrt (by decide) d_Cs_171 d_Cs_174 ?_
          refine z_aload S (lv_at hl 4 rfl) d_Cs_190 ?_
          refine z_callV (C := "java/util/ComparableTimSort") (As := []) (n := 0) S (ct_Cf l K o a mg' tb' tl' fin.2 rb rl n (slen n) lo (P + q) fin.1 f f3 g3 fb3 fl3 M wt nm hn htl' (by omega) hD2 (by omega) hge hST3) tc_Cf tm_C66 ti_Cf tse_Cf tn_C (by decide) ⟨by show 5 + 1 ≤ 6; omega, by show 8 + (2 + 11) + 129 ≤ 150; omega⟩ rfl hG hkX2 hlo (hX2.1.1.recv hG) hX2 hl rfl (by decide) ⟨by show 4 + (mm + k) + (fin.2 - 1) ≤ 600; omega, by show 408 + 4000 * (mm + k) + 4000 * (fin.2 - 1) ≤ 2100000; omega⟩ d_Cs_192 (fun v X3 locs hp hlo => ?_)
          obtain ⟨L4, mg4, tb4, tl4, f4, g4, fb4, fl4, rfl, hX3, htl4, htb4, zX3, oX3, hST4⟩ := hp
          obtain ⟨l1, l2, l3, l4, l5, l6⟩ := hX2.lts
          have oX3' : ∀ q, q < s.heap.size → q ≠ a → X3[q]? = s.heap[q]? := fun q w1 w2 => by rw [oX3 q (by omega) (by omega) w2 (by omega) (by omega) (by omega)]; exact oX2' q w1 w2
          have hkX3 : Keep (N0 K) s.heap X3 := ⟨by omega, fun q hq => oX3' q (by omega) (by omega)⟩
          refine W.widen (k := 600) (n := 2100000) (by show 4 + (mm + k) + (fin.2 - 1) ≤ 600; omega) (by show 408 + 4000 * (mm + k) + 4000 * (fin.2 - 1) ≤ 2100000; omega) ?_
          refine z_asrt (tgt := 218) S hG hkX3 tw_asrt (by decide) d_Cs_195 d_Cs_198 ?_
          obtain ⟨j1, j2, j3, j4, j5, j6⟩ := hST4
          have js := (j1 0 (by omega)).2.2.2
          have e5 : SB lo L4 1 = lo + L4 0 := rfl
          have e6 : SB lo L4 0 = lo := rfl
          rw [e6, show L4 0 = hi - lo by omega] at js
          rw [ehi] at j4 j5
          subst hQ
          subst hargs
          exact z_vret S hr hlk hlo ⟨f4, rfl, hX3.1.2.1, by omega, oX3', j4, js, j5, j6⟩ d_Cs_218
      refine z_aload_n S rfl (lv_at hl 0 rfl) d_Cs_93 ?_
      refine z_iload_n S rfl (lv_at hl 1 rfl) d_Cs_94 ?_
      refine z_iload_n S rfl (lv_at hl 2 rfl) d_Cs_95 ?_
      refine z_callS (n := 3) S (ct_Cc l K a n P hi fc M wt nm (by omega) hPhi hhn hNa hMa k6) tc_Cc tm_C44 ts_Cc tn_C (by decide) (by decide) rfl hG hkX hlo ⟨hX.1.2.1, hX.1.2.2.2⟩ hl rfl (by decide) ⟨by show 4 + mm + 0 ≤ 600; omega, by show 408 + 4000 * mm + 0 ≤ 2100000; omega⟩ d_Cs_96 (fun v X1 locs hp hlo => ?_)
      obtain ⟨r, f1, rfl, rfl, r1, r2, r3, r4, r5⟩ := hp
      refine W.cs (cells' := 4 + mm) (slots' := 408 + 4000 * mm) rfl rfl ?_
      have hX1 := hX.a' hD f1
      have zX1 : s.heap.size ≤ (X.setIfInBounds a (RA (cM_ K) n f1)).size := by simp; exact zX
      have oX1 : ∀ q, q < s.heap.size → q ≠ a → (X.setIfInBounds a (RA (cM_ K) n f1))[q]? = s.heap[q]? := fun q w1 w2 => by rw [set_off w2]; exact oX q w1 w2
      have hkX1 : Keep (N0 K) s.heap (X.setIfInBounds a (RA (cM_ K) n f1)) := hkX.set hNa
      refine z_istore (lv' := [(9, .int (zI r)), (0, .ref a), (1, .int (zI P)), (2, .int (zI hi)), (6, .int (zI ((hi - P : Nat) : Int))), (7, .ref o), (8, .int (zI minr))]) S hl rfl (by decide) d_Cs_99 (fun ls hl => ?_)
      refine z_iload S (lv_at hl 0 rfl) d_Cs_101 ?_
      refine z_iload S (lv_at hl 6 rfl) d_Cs_103 ?_
      have hl : lv_has ls 11 [(9, .int (zI r)), (0, .ref a), (1, .int (zI P)), (2, .int (zI hi)), (6, .int (zI ((hi - P : Nat) : Int))), (7, .ref o), (8, .int (zI minr))] := lv_sub hl [0, 1, 2, 3, 4, 5, 6] rfl
      refine z_icmp_ge (tgt := 141) S (by decide) (by omega) (by omega) d_Cs_105 ?_ ?_
      · intro hc
        exact t141 r f1 _ ls locs (by omega) r2 (by omega) hX1 zX1 oX1 r3 r4 r5 hlo hl
      · intro hc
        have hF1 := full_run k6 (by omega) r3 r5
        -- from 122 on: force is q
        have t122 : ∀ (q : Nat) (ls : Array Slot), r ≤ q → P + q ≤ hi → (16 ≤ q ∨ P + q = hi) → lv_has ls 11 [(9, .int (zI r)), (0, .ref a), (1, .int (zI P)), (2, .int (zI hi)), (6, .int (zI (hi - P : Nat))), (7, .ref o), (8, .int (zI minr))] → W p l e rm_Cs s m args below meth c (X.setIfInBounds a (RA (cM_ K) n f1)) locs (4 + mm) (408 + 4000 * mm) Q (F0 m 122 ls [.int (zI q)]) := by
          intro q ls c1 c2 c3 hl
          refine z_istore (lv' := [(10, .int (zI q)), (9, .int (zI r)), (0, .ref a), (1, .int (zI P)), (2, .int (zI hi)), (6, .int (zI ((hi - P : Nat) : Int))), (7, .ref o), (8, .int (zI minr))]) S hl rfl (by decide) d_Cs_122 (fun ls hl => ?_)
          refine z_aload_n S rfl (lv_at hl 2 rfl) d_Cs_124 ?_
          refine z_iload_n S rfl (lv_at hl 3 rfl) d_Cs_125 ?_
          refine z_iload_n S rfl (lv_at hl 3 rfl) d_Cs_126 ?_
          refine z_iload S (lv_at hl 0 rfl) d_Cs_127 ?_
          refine z_iadd S d_Cs_129 ?_
          refine z_iload_n S rfl (lv_at hl 3 rfl) d_Cs_130 ?_
          refine z_iload S (lv_at hl 1 rfl) d_Cs_131 ?_
          refine z_iadd S d_Cs_133 ?_
          refine z_top (b := ((P + r : Nat) : Int)) (by omega) ?_
          refine W.eq (g2 := F0 m 134 ls [.int (zI (P + r : Nat)), .int (zI (P + q : Nat)), .int (zI P), .ref a]) (by rw [show ((P + q : Nat) : Int) = (P : Int) + q by omega]) ?_
          refine z_callS (n := 4) S (ct_Cb l K a n P (P + q) (P + r) f1 M wt nm (by omega) (by omega) (by omega) (by omega) (by omega) hNa hMa hF1 (by rw [show P + r - P = r by omega]; exact r4)) tc_Cb tm_C48 ts_Cb tn_C (by decide) (by decide) rfl hG hkX1 hlo ⟨hX1.1.2.1, hX1.1.2.2.2⟩ hl rfl (by decide) ⟨by show 4 + mm + 0 ≤ 600; omega, by show 408 + 4000 * mm + 0 ≤ 2100000; omega⟩ d_Cs_134 (fun v X2 locs hp hlo => ?_)
          obtain ⟨f2, rfl, rfl, s1, s2, s3⟩ := hp
          refine W.cs (cells' := 4 + mm) (slots' := 408 + 4000 * mm) rfl rfl ?_
          rw [show P + q - P = q by omega] at s2 s3
          rw [set_set]
          refine z_iload S (lv_at hl 0 rfl) d_Cs_137 ?_
          refine z_istore (lv' := [(9, .int (zI q)), (10, .int (zI q)), (0, .ref a), (1, .int (zI P)), (2, .int (zI hi)), (6, .int (zI ((hi - P : Nat) : Int))), (7, .ref o), (8, .int (zI minr))]) S hl rfl (by decide) d_Cs_139 (fun ls hl => ?_)
          have hl : lv_has ls 11 [(9, .int (zI q)), (0, .ref a), (1, .int (zI P)), (2, .int (zI hi)), (6, .int (zI ((hi - P : Nat) : Int))), (7, .ref o), (8, .int (zI minr))] := lv_sub hl [0, 2, 3, 4, 5, 6, 7] rfl
          refine t141 q f2 _ ls locs (by omega) c2 c3 (hX.a' hD f2) (by simp; exact zX) (fun q w1 w2 => by rw [set_off w2]; exact oX q w1 w2) (fun x hx => by rw [s1 x (by omega)]; exact r3 x (by omega)) s2 (run_fill c1 r3 r5 s3) hlo hl
        refine z_iload S (lv_at hl 4 rfl) d_Cs_108 ?_
        refine z_iload S (lv_at hl 6 rfl) d_Cs_110 ?_
        refine z_icmp_gt (tgt := 120) S (by decide) (by omega) (by omega) d_Cs_112 ?_ ?_
        · intro hc5
          refine z_iload S (lv_at hl 6 rfl) d_Cs_120 ?_
          exact t122 minr ls (by omega) (by omega) (by omega) hl
        · intro hc5
          refine z_iload S (lv_at hl 4 rfl) d_Cs_115 ?_
          refine z_goto (tgt := 122) S (by decide) d_Cs_117 ?_
          exact t122 (hi - P) ls (by omega) (by omega) (by omega) hl
  refine z_asrt (tgt := 33) S hG Keep.rf tw_asrt (by decide) d_Cs_0 d_Cs_3 ?_
  refine z_iload_n S rfl (lv_at hl 2 rfl) d_Cs_33 ?_
  refine z_iload_n S rfl (lv_at hl 1 rfl) d_Cs_34 ?_
  refine z_isub S d_Cs_35 ?_
  refine z_istore (lv' := [(6, .int (zI (hi - lo))), (0, .ref a), (1, .int (zI lo)), (2, .int (zI hi)), (3, .null), (4, .int (zI 0)), (5, .int (zI 0))]) S hl rfl (by decide) d_Cs_36 (fun ls hl => ?_)
  refine z_iload S (lv_at hl 0 rfl) d_Cs_38 ?_
  refine z_iconst S d_Cs_40 ?_
  have hl : lv_has ls 11 [(6, .int (zI ((hi - lo : Nat) : Int))), (0, .ref a), (1, .int (zI lo)), (2, .int (zI hi)), (3, .null), (4, .int (zI 0)), (5, .int (zI 0))] := lv_ren hl 0 rfl (show (hi - lo) = ((hi - lo : Nat) : Int) by omega)
  refine z_icmp_ge (tgt := 45) S (by decide) (by omega) (by omega) d_Cs_41 ?_ ?_
  · intro hc
    refine z_iload S (lv_at hl 0 rfl) d_Cs_45 ?_
    refine z_bipush S (by decide) d_Cs_47 ?_
    refine z_icmp_ge (tgt := 71) S (by decide) (by omega) (by omega) d_Cs_49 ?_ ?_
    · intro hc2
      have hz := hG.2.2.2
      refine z_new (C := "java/util/ComparableTimSort") (T := F_Cts) (N := 8) (ci := 2) (fs := [.null, .int 0, .null, .int 0, .int 0, .int 0, .null, .null]) S tin_Cts t_Cts tok_Cts hG tcl_C7 tins_C tn_C rfl (fun j hj => by rcases (show j = 0 ∨ j = 1 ∨ j = 2 ∨ j = 3 ∨ j = 4 ∨ j = 5 ∨ j = 6 ∨ j = 7 by omega) with rfl | rfl | rfl | rfl | rfl | rfl | rfl | rfl <;> rfl) (by decide) (by decide) d_Cs_71 (fun H1 hO1 z1 o1 => ?_)
      have hk1 : Keep (N0 K) s.heap H1 := ⟨by omega, fun q hq => o1 q (by omega)⟩
      have ha1 : H1[a]? = some (RA (cM_ K) n f) := by rw [o1 a la]; exact ha
      refine z_dup S rfl d_Cs_74 ?_
      refine z_aload_n S rfl (lv_at hl 1 rfl) d_Cs_75 ?_
      refine lv_aload_nN S.1 S.2.1 d_Cs_76 rfl (lv_at hl 4 rfl) ?_
      refine z_iload S (lv_at hl 5 rfl) d_Cs_77 ?_
      refine z_iload S (lv_at hl 6 rfl) d_Cs_79 ?_
      refine z_callI (As := [.ref a, .null, .int (zI 0), .int (zI 0)]) (n := 4) S (ct_Ci l K s.heap.size a n f hn hz (by omega)) tc_Ci tm_C52 ti_Ci tn_C rfl (by decide) (by decide) rfl hG hk1 LO.nil ⟨hO1, ha1⟩ hl rfl (Nat.le_of_ble_eq_true rfl) (by decide) d_Cs_81 (fun v H2 locs hp hlo => ?_)
      obtain ⟨tl, rfl, c1, c2, c3, c4, c5, c6, c7⟩ := hp
      refine W.cs (cells' := 4) (slots' := 408) rfl rfl ?_
      rw [z1] at c2 c3 c4 c5 c6 c7
      have ha2 : H2[a]? = some (RA (cM_ K) n f) := by rw [c7 a (by omega) (by omega)]; exact ha1
      have hM2 : MS K M wt nm H2 := hM.kept (fun y hy => by
        have := (hM y hy).lt
        rw [c7 y (by omega) (by omega)]
        exact o1 y this)
      have hX : CWo K s.heap.size a 7 (s.heap.size + 1) tl ((0 : Nat) : Int) (s.heap.size + 1 + 1) (s.heap.size + 1 + 2) n (slen n) f (fun _ => none) (fun _ => 0) (fun _ => 0) M wt nm H2 := ⟨⟨c2, ha2, c3, hM2⟩, c4, c5⟩
      have nm' : ∀ q, s.heap.size ≤ q → ¬ M q := fun q hq hm => by have := (hM q hm).lt; omega
      have hD : DS K s.heap.size a (s.heap.size + 1) (s.heap.size + 1 + 1) (s.heap.size + 1 + 2) M := ⟨⟨by omega, hNa, by omega, by omega, by omega⟩, ⟨by omega, by omega, by omega, by omega, by omega, by omega, by omega, by omega, by omega, by omega⟩, nm' _ (by omega), hMa, nm' _ (by omega), nm' _ (by omega), nm' _ (by omega)⟩
      have oX : ∀ q, q < s.heap.size → q ≠ a → H2[q]? = s.heap[q]? := fun q w1 w2 => by rw [c7 q (by omega) (by omega)]; exact o1 q w1
      have hk2 : Keep (N0 K) s.heap H2 := ⟨by omega, fun q hq => oX q (by omega) (by omega)⟩
      refine z_astore (lv' := [(7, .ref (Array.size s.heap)), (6, .int (zI ((hi - lo : Nat) : Int))), (0, .ref a), (1, .int (zI lo)), (2, .int (zI hi)), (3, .null), (4, .int (zI 0)), (5, .int (zI 0))]) S hl rfl (by decide) d_Cs_84 (fun ls hl => ?_)
      refine z_iload S (lv_at hl 1 rfl) d_Cs_86 ?_
      refine z_callS (n := 1) S (ct_Cm l K (hi - lo) (by omega) (by omega)) tc_Cm tm_C55 ts_Cm tn_C (by decide) (by decide) rfl hG hk2 hlo trivial hl rfl (by decide) (by decide) d_Cs_88 (fun v H3 locs hp hlo => ?_)
      obtain ⟨minr, rfl, e1, e2, rfl⟩ := hp
      refine W.cs (cells' := 4 + 0) (slots' := 408 + 4000 * 0) rfl rfl ?_
      refine z_istore (lv' := [(8, .int (zI minr)), (7, .ref (Array.size s.heap)), (6, .int (zI ((hi - lo : Nat) : Int))), (0, .ref a), (1, .int (zI lo)), (2, .int (zI hi)), (3, .null), (4, .int (zI 0)), (5, .int (zI 0))]) S hl rfl (by decide) d_Cs_91 (fun ls hl => ?_)
      have hl : lv_has ls 11 [(0, .ref a), (1, .int (zI lo)), (2, .int (zI hi)), (6, .int (zI ((hi - lo : Nat) : Int))), (7, .ref (Array.size s.heap)), (8, .int (zI minr))] := lv_sub hl [3, 4, 5, 2, 1, 0] rfl
      exact loop s.heap.size (s.heap.size + 1 + 1) (s.heap.size + 1 + 2) minr (by omega) (by omega) (by omega) e1 e2 (hi + 1) lo 0 0 0 (fun _ => 0) 7 (s.heap.size + 1) tl f (fun _ => none) (fun _ => 0) (fun _ => 0) _ ls locs (by omega) (by omega) (by omega) (by omega) (by omega) hX hD (by omega) oX ⟨fun j hj => by omega, rfl, by omega, fun _ _ => rfl, Eqv.rf, hF⟩ (fun j hj => by omega) (fun i hi => by omega) (fun h => by omega) rfl (by omega) hlo hl
    · intro hc2
      refine z_aload_n S rfl (lv_at hl 1 rfl) d_Cs_52 ?_
      refine z_iload_n S rfl (lv_at hl 2 rfl) d_Cs_53 ?_
      refine z_iload_n S rfl (lv_at hl 3 rfl) d_Cs_54 ?_
      refine z_callS (n := 3) S (ct_Cc l K a n lo hi f M wt nm (by omega) (by omega) hhn hNa hMa hF) tc_Cc tm_C44 ts_Cc tn_C (by decide) (by decide) rfl hG Keep.rf LO.nil ⟨ha, hM⟩ hl rfl (by decide) (by decide) d_Cs_55 (fun v X1 locs hp hlo => ?_)
      obtain ⟨r, f1, rfl, rfl, r1, r2, r3, r4, r5⟩ := hp
      refine W.cs (cells' := 0) (slots' := 0) rfl rfl ?_
      have hF1 := full_run hF (by omega) r3 r5
      refine z_istore (lv' := [(7, .int (zI r)), (6, .int (zI ((hi - lo : Nat) : Int))), (0, .ref a), (1, .int (zI lo)), (2, .int (zI hi)), (3, .null), (4, .int (zI 0)), (5, .int (zI 0))]) S hl rfl (by decide) d_Cs_58 (fun ls hl => ?_)
      refine z_aload_n S rfl (lv_at hl 2 rfl) d_Cs_60 ?_
      refine z_iload_n S rfl (lv_at hl 3 rfl) d_Cs_61 ?_
      refine z_iload_n S rfl (lv_at hl 4 rfl) d_Cs_62 ?_
      refine z_iload_n S rfl (lv_at hl 3 rfl) d_Cs_63 ?_
      refine z_iload S (lv_at hl 0 rfl) d_Cs_64 ?_
      refine z_iadd S d_Cs_66 ?_
      refine z_top (b := ((lo + r : Nat) : Int)) (by omega) ?_
      refine z_callS (n := 4) S (ct_Cb l K a n lo hi (lo + r) f1 M wt nm (by omega) (by omega) (by omega) (by omega) (by omega) hNa hMa hF1 (by rw [show lo + r - lo = r by omega]; exact r4)) tc_Cb tm_C48 ts_Cb tn_C (by decide) (by decide) rfl hG (Keep.rf.set hNa) hlo ⟨set_at ha, hM.set hMa⟩ hl rfl (by decide) (by decide) d_Cs_67 (fun v X2 locs hp hlo => ?_)
      obtain ⟨f2, rfl, rfl, s1, s2, s3⟩ := hp
      refine W.widen (k := 600) (n := 2100000) (by decide) (by decide) ?_
      have hoff : ∀ x, (x < lo ∨ hi ≤ x) → f2 x = f x := fun x hx => by rw [s1 x hx]; exact r3 x (by omega)
      have hev := run_fill (q := hi - lo) (by omega) r3 r5 s3
      subst hQ
      subst hargs
      exact z_vret S hr hlk hlo ⟨f2, rfl, by rw [set_set]; exact set_at ha, by simp, fun q w1 w2 => by rw [set_set, set_off w2], hoff, s2, hev, full_run (P := lo) (q := hi - lo) hF (by omega) (fun x hx => hoff x (by omega)) hev⟩ d_Cs_70
  · intro hc
    refine W.widen (k := 600) (n := 2100000) (by decide) (by decide) ?_
    subst hQ
    subst hargs
    exact z_vret S hr hlk LO.nil ⟨f, rfl, ha, Nat.le_refl _, fun _ _ _ => rfl, fun _ _ => rfl, Srt.small (by omega), Eqv.rf, hF⟩ d_Cs_44
end
section
/-! Arrays.sort, and the class TimDrill -/
set_option maxRecDepth 100000
theorem d_As_0 : decode b_As 0 = .ok (.aload_n 0, 1) := by decide +kernel
theorem d_As_1 : decode b_As 1 = .ok (.arraylength, 1) := by decide +kernel
theorem d_As_2 : decode b_As 2 = .ok (.iload_n 1, 1) := by decide +kernel
theorem d_As_3 : decode b_As 3 = .ok (.iload_n 2, 1) := by decide +kernel
theorem d_As_4 : decode b_As 4 = .ok (.invokestatic 13, 3) := by decide +kernel
theorem d_As_7 : decode b_As 7 = .ok (.getstatic 112, 3) := by decide +kernel
theorem d_As_10 : decode b_As 10 = .ok (.ifCond .eq 12, 3) := by decide +kernel
theorem d_As_22 : decode b_As 22 = .ok (.aload_n 0, 1) := by decide +kernel
theorem d_As_23 : decode b_As 23 = .ok (.iload_n 1, 1) := by decide +kernel
theorem d_As_24 : decode b_As 24 = .ok (.iload_n 2, 1) := by decide +kernel
theorem d_As_25 : decode b_As 25 = .ok (.aconst_null, 1) := by decide +kernel
theorem d_As_26 : decode b_As 26 = .ok (.iconst 0, 1) := by decide +kernel
theorem d_As_27 : decode b_As 27 = .ok (.iconst 0, 1) := by decide +kernel
theorem d_As_28 : decode b_As 28 = .ok (.invokestatic 122, 3) := by decide +kernel
theorem d_As_31 : decode b_As 31 = .ok (.return_, 1) := by decide +kernel
theorem d_Ds_0 : decode b_Ds 0 = .ok (.aload_n 0, 1) := by decide +kernel
theorem d_Ds_1 : decode b_Ds 1 = .ok (.getfield 9, 3) := by decide +kernel
theorem d_Ds_4 : decode b_Ds 4 = .ok (.iload_n 1, 1) := by decide +kernel
theorem d_Ds_5 : decode b_Ds 5 = .ok (.iload_n 2, 1) := by decide +kernel
theorem d_Ds_6 : decode b_Ds 6 = .ok (.invokestatic 18, 3) := by decide +kernel
theorem d_Ds_9 : decode b_Ds 9 = .ok (.return_, 1) := by decide +kernel
theorem d_Dn_0 : decode b_Dn 0 = .ok (.aload_n 0, 1) := by decide +kernel
theorem d_Dn_1 : decode b_Dn 1 = .ok (.getfield 9, 3) := by decide +kernel
theorem d_Dn_4 : decode b_Dn 4 = .ok (.iload_n 1, 1) := by decide +kernel
theorem d_Dn_5 : decode b_Dn 5 = .ok (.aaload, 1) := by decide +kernel
theorem d_Dn_6 : decode b_Dn 6 = .ok (.getfield 24, 3) := by decide +kernel
theorem d_Dn_9 : decode b_Dn 9 = .ok (.ireturn, 1) := by decide +kernel
theorem d_Dt_0 : decode b_Dt 0 = .ok (.aload_n 0, 1) := by decide +kernel
theorem d_Dt_1 : decode b_Dt 1 = .ok (.getfield 9, 3) := by decide +kernel
theorem d_Dt_4 : decode b_Dt 4 = .ok (.iload_n 1, 1) := by decide +kernel
theorem d_Dt_5 : decode b_Dt 5 = .ok (.new 7, 3) := by decide +kernel
theorem d_Dt_8 : decode b_Dt 8 = .ok (.dup, 1) := by decide +kernel
theorem d_Dt_9 : decode b_Dt 9 = .ok (.iload_n 2, 1) := by decide +kernel
theorem d_Dt_10 : decode b_Dt 10 = .ok (.iload_n 3, 1) := by decide +kernel
theorem d_Dt_11 : decode b_Dt 11 = .ok (.invokespecial 15, 3) := by decide +kernel
theorem d_Dt_14 : decode b_Dt 14 = .ok (.aastore, 1) := by decide +kernel
theorem d_Dt_15 : decode b_Dt 15 = .ok (.return_, 1) := by decide +kernel
theorem d_Di_0 : decode b_Di 0 = .ok (.aload_n 0, 1) := by decide +kernel
theorem d_Di_1 : decode b_Di 1 = .ok (.invokespecial 1, 3) := by decide +kernel
theorem d_Di_4 : decode b_Di 4 = .ok (.aload_n 0, 1) := by decide +kernel
theorem d_Di_5 : decode b_Di 5 = .ok (.aload_n 1, 1) := by decide +kernel
theorem d_Di_6 : decode b_Di 6 = .ok (.arraylength, 1) := by decide +kernel
theorem d_Di_7 : decode b_Di 7 = .ok (.anewarray 7, 3) := by decide +kernel
theorem d_Di_10 : decode b_Di 10 = .ok (.putfield 9, 3) := by decide +kernel
theorem d_Di_13 : decode b_Di 13 = .ok (.iconst 0, 1) := by decide +kernel
theorem d_Di_14 : decode b_Di 14 = .ok (.istore_n 2, 1) := by decide +kernel
theorem d_Di_15 : decode b_Di 15 = .ok (.iload_n 2, 1) := by decide +kernel
theorem d_Di_16 : decode b_Di 16 = .ok (.aload_n 0, 1) := by decide +kernel
theorem d_Di_17 : decode b_Di 17 = .ok (.getfield 9, 3) := by decide +kernel
theorem d_Di_20 : decode b_Di 20 = .ok (.arraylength, 1) := by decide +kernel
theorem d_Di_21 : decode b_Di 21 = .ok (.if_icmp .ge 26, 3) := by decide +kernel
theorem d_Di_24 : decode b_Di 24 = .ok (.aload_n 0, 1) := by decide +kernel
theorem d_Di_25 : decode b_Di 25 = .ok (.getfield 9, 3) := by decide +kernel
theorem d_Di_28 : decode b_Di 28 = .ok (.iload_n 2, 1) := by decide +kernel
theorem d_Di_29 : decode b_Di 29 = .ok (.new 7, 3) := by decide +kernel
theorem d_Di_32 : decode b_Di 32 = .ok (.dup, 1) := by decide +kernel
theorem d_Di_33 : decode b_Di 33 = .ok (.aload_n 1, 1) := by decide +kernel
theorem d_Di_34 : decode b_Di 34 = .ok (.iload_n 2, 1) := by decide +kernel
theorem d_Di_35 : decode b_Di 35 = .ok (.iaload, 1) := by decide +kernel
theorem d_Di_36 : decode b_Di 36 = .ok (.iload_n 2, 1) := by decide +kernel
theorem d_Di_37 : decode b_Di 37 = .ok (.invokespecial 15, 3) := by decide +kernel
theorem d_Di_40 : decode b_Di 40 = .ok (.aastore, 1) := by decide +kernel
theorem d_Di_41 : decode b_Di 41 = .ok (.iinc 2 1, 3) := by decide +kernel
theorem d_Di_44 : decode b_Di 44 = .ok (.goto (-29), 3) := by decide +kernel
theorem d_Di_47 : decode b_Di 47 = .ok (.return_, 1) := by decide +kernel
abbrev rm_As : Room := { frames := 7, cells := 600, slots := 2100000, locals := 180 }
set_option maxHeartbeats 4000000 in
theorem ct_As (l : Launch) (K : KD) (a n lo hi : Nat) (f : Nat → Option Nat) (M : Nat → Prop) (wt nm : Nat → Int32) (hn : n ≤ 8000) (hlh : lo ≤ hi) (hhn : hi ≤ n) (hNa : N0 K ≤ a) (hMa : ¬ M a) (hF : Full M f 0 n) :
    CT l K y_As c_As rm_As [.ref a, .int (zI lo), .int (zI hi)] (fun H => H[a]? = some (RA (cM_ K) n f) ∧ MS K M wt nm H) (Psort K a n lo hi f M wt) := by
  refine z_met (by decide) (Nat.le_of_ble_eq_true rfl) ?_
  intro p e s m below meth c ls S hr hlk hnm hG hP hl
  obtain ⟨ha, hM⟩ := hP
  have hl : lv_has ls 3 [(0, .ref a), (1, .int (zI lo)), (2, .int (zI hi))] := hl
  refine z_aload_n S rfl (lv_at hl 0 rfl) d_As_0 ?_
  refine z_alen S hG.M ha d_As_1 ?_
  refine z_iload_n S rfl (lv_at hl 1 rfl) d_As_2 ?_
  refine z_iload_n S rfl (lv_at hl 2 rfl) d_As_3 ?_
  refine z_callS (n := 3) S (ct_Ar l K n lo hi (by omega) hlh hhn) tc_Ar tm_A13 ts_Ar tn_A (by decide) (by decide) rfl hG Keep.rf LO.nil trivial hl rfl (by decide) (by decide) d_As_4 (fun v H1 locs hp hlo => ?_)
  obtain ⟨rfl, rfl⟩ := hp
  refine W.cs (cells' := 0) (slots' := 0) rfl rfl ?_
  obtain ⟨cf, kf, fi, fd, z, cell, w1, w2, w3, w4, w5, w6, w7, w8⟩ := hG.2.2.1
  refine va_WgetsN S.1 S.2.1 S.2.2.2.1 (va_Nw.use rfl hG.1.2.2.2.2.2) w1 w2 w3 w4 w5 (fun e => by rw [e] at w6; cases w6) w7 rfl d_As_7 ?_
  refine W.eq (g2 := F0 m 10 ls [.int 0]) rfl ?_
  refine lv_if_eq (tgt := 22) (x := 0) S.1 S.2.1 d_As_10 (by decide) (fun _ => ?_) (fun h => absurd rfl h)
  refine z_aload_n S rfl (lv_at hl 0 rfl) d_As_22 ?_
  refine z_iload_n S rfl (lv_at hl 1 rfl) d_As_23 ?_
  refine z_iload_n S rfl (lv_at hl 2 rfl) d_As_24 ?_
  refine lv_null S.1 S.2.1 d_As_25 ?_
  refine z_iconst S d_As_26 ?_
  refine z_iconst S d_As_27 ?_
  refine z_callS (n := 6) S (ct_Cs l K a n lo hi f M wt nm hn hlh hhn hNa hMa hF) tc_Cs tm_A122 ts_Cs tn_C (by decide) (by decide) rfl hG Keep.rf hlo ⟨ha, hM⟩ hl rfl (by decide) (by decide) d_As_28 (fun v H1 locs hp hlo => ?_)
  have ev : v = none := by obtain ⟨_, h, _⟩ := hp; exact h
  subst ev
  refine W.cs (cells' := 600) (slots' := 2100000) rfl rfl ?_
  exact z_vret S hr hlk hlo hp d_As_31
/-- the drill at x, over the row a -/
def DR (K : KD) (x a : Nat) (H : Heap) : Prop := va_at K.1 classes (x, .inr (1, [.ref a])) H
theorem DR.kept {K : KD} {x a : Nat} {H H1 : Heap} (h : DR K x a H) (hq : H1[x]? = H[x]?) : DR K x a H1 := va_at.kept h hq
theorem DR.lt {K : KD} {x a : Nat} {H : Heap} (h : DR K x a H) : x < H.size := va_at.lt h
theorem DR.recv {K : KD} {x a : Nat} {H : Heap} {s : State} (hG : GN K s) (h : DR K x a H) : ∃ cell : Cell, H[x]? = some cell ∧ cell.vm.isStatics = false ∧ s.vm.findClass "TimDrill" = some cell.cls := ob_recv (q := ("TimDrill", F_Drill, 1)) hG.1.1 h rfl
abbrev rm_Ds : Room := { frames := 8, cells := 600, slots := 2100000, locals := 202 }
set_option maxHeartbeats 4000000 in
theorem ct_Ds (l : Launch) (K : KD) (x a n lo hi : Nat) (f : Nat → Option Nat) (M : Nat → Prop) (wt nm : Nat → Int32) (hn : n ≤ 8000) (hlh : lo ≤ hi) (hhn : hi ≤ n) (hNa : N0 K ≤ a) (hMa : ¬ M a) (hF : Full M f 0 n) :
    CT l K y_Ds c_Ds rm_Ds [.ref x, .int (zI lo), .int (zI hi)] (fun H => DR K x a H ∧ H[a]? = some (RA (cM_ K) n f) ∧ MS K M wt nm H) (Psort K a n lo hi f M wt) := by
  refine z_met (by decide) (Nat.le_of_ble_eq_true rfl) ?_
  intro p e s m below meth c ls S hr hlk hnm hG hP hl
  obtain ⟨hO, ha, hM⟩ := hP
  have hl : lv_has ls 3 [(0, .ref x), (1, .int (zI lo)), (2, .int (zI hi))] := hl
  refine z_aload_n S rfl (lv_at hl 0 rfl) d_Ds_0 ?_
  refine z_get (C := "TimDrill") (T := F_Drill) (N := 1) (ci := 1) S tin_Drill hG hO rfl 0 (by decide) tf_D9 rfl rfl d_Ds_1 ?_
  refine z_iload_n S rfl (lv_at hl 1 rfl) d_Ds_4 ?_
  refine z_iload_n S rfl (lv_at hl 2 rfl) d_Ds_5 ?_
  refine z_callS (n := 3) S (ct_As l K a n lo hi f M wt nm hn hlh hhn hNa hMa hF) tc_As tm_D18 ts_As tn_A (by decide) (by decide) rfl hG Keep.rf LO.nil ⟨ha, hM⟩ hl rfl (by decide) (by decide) d_Ds_6 (fun v H1 locs hp hlo => ?_)
  have ev : v = none := by obtain ⟨_, h, _⟩ := hp; exact h
  subst ev
  refine W.cs (cells' := 600) (slots' := 2100000) rfl rfl ?_
  exact z_vret S hr hlk hlo hp d_Ds_9
set_option maxHeartbeats 4000000 in
theorem ct_Dn (l : Launch) (K : KD) (x a n i y : Nat) (f : Nat → Option Nat) (w nm : Int32) (hn : n ≤ 8000) (hi : i < n) (hy : f i = some y) :
    CT l K y_Dn c_Dn rm_0 [.ref x, .int (zI i)] (fun H => DR K x a H ∧ H[a]? = some (RA (cM_ K) n f) ∧ MkAt K y w nm H) (fun H v H' => v = some (.int nm) ∧ H' = H) := by
  refine z_met (by decide) (Nat.le_of_ble_eq_true rfl) ?_
  intro p e s m below meth c ls S hr hlk hnm hG hP hl
  obtain ⟨hO, ha, hM⟩ := hP
  have hl : lv_has ls 2 [(0, .ref x), (1, .int (zI i))] := hl
  refine z_aload_n S rfl (lv_at hl 0 rfl) d_Dn_0 ?_
  refine z_get (C := "TimDrill") (T := F_Drill) (N := 1) (ci := 1) S tin_Drill hG hO rfl 0 (by decide) tf_D9 rfl rfl d_Dn_1 ?_
  refine z_iload_n S rfl (lv_at hl 1 rfl) d_Dn_4 ?_
  refine n_aald i S hG.M ha (by omega) rfl hi hy d_Dn_5 ?_
  refine z_get (C := "TimDrill$Mark") (T := F_Mark) (N := 2) (ci := 0) S tin_Mark hG hM rfl 1 (by decide) tf_D24 rfl rfl d_Dn_6 ?_
  exact z_iret S hr hlk LO.nil ⟨rfl, rfl⟩ d_Dn_9
abbrev rm_Dt : Room := { frames := 2, cells := 1, slots := 2, locals := 34 }
set_option maxHeartbeats 4000000 in
theorem ct_Dt (l : Launch) (K : KD) (x a n i : Nat) (f : Nat → Option Nat) (w nm : Int32) (hn : n ≤ 8000) (hi : i < n) (hNa : N0 K ≤ a) :
    CT l K y_Dt c_Dt rm_Dt [.ref x, .int (zI i), .int w, .int nm] (fun H => DR K x a H ∧ H[a]? = some (RA (cM_ K) n f)) (fun H v H' => v = none ∧ H'[a]? = some (RA (cM_ K) n (va_up f i (some H.size))) ∧ MkAt K H.size w nm H' ∧ H'.size = H.size + 1 ∧ ∀ q, q < H.size → q ≠ a → H'[q]? = H[q]?) := by
  refine z_met (by decide) (Nat.le_of_ble_eq_true rfl) ?_
  intro p e s m below meth c ls S hr hlk hnm hG hP hl
  obtain ⟨hO, ha⟩ := hP
  have hl : lv_has ls 4 [(0, .ref x), (1, .int (zI i)), (2, .int w), (3, .int nm)] := hl
  have la := at_lt ha
  have hz := hG.2.2.2
  refine z_aload_n S rfl (lv_at hl 0 rfl) d_Dt_0 ?_
  refine z_get (C := "TimDrill") (T := F_Drill) (N := 1) (ci := 1) S tin_Drill hG hO rfl 0 (by decide) tf_D9 rfl rfl d_Dt_1 ?_
  refine z_iload_n S rfl (lv_at hl 1 rfl) d_Dt_4 ?_
  refine z_new (C := "TimDrill$Mark") (T := F_Mark) (N := 2) (ci := 0) (fs := [.int 0, .int 0]) S tin_Mark t_Mark tok_Mark hG tcl_D7 tins_M tn_M rfl (fun j hj => by rcases (show j = 0 ∨ j = 1 by omega) with rfl | rfl <;> rfl) (by decide) (by decide) d_Dt_5 (fun H1 hO1 z1 o1 => ?_)
  refine z_dup S rfl d_Dt_8 ?_
  refine z_iload_n S rfl (lv_at hl 2 rfl) d_Dt_9 ?_
  refine z_iload_n S rfl (lv_at hl 3 rfl) d_Dt_10 ?_
  have hk1 : Keep (N0 K) s.heap H1 := ⟨by omega, fun q hq => o1 q (by omega)⟩
  refine z_callI (As := [.int w, .int nm]) (n := 2) S (ct_Mi l K s.heap.size w nm) tc_Mi tm_D15 ti_Mi tn_M rfl (by decide) (by decide) rfl hG hk1 LO.nil ⟨hO1, hz⟩ hl rfl (Nat.le_of_ble_eq_true rfl) (by decide) d_Dt_11 (fun v H2 locs hp hlo => ?_)
  obtain ⟨rfl, hM2, z2, o2⟩ := hp
  refine W.cs (cells' := 1) (slots' := 2) rfl rfl ?_
  have ha2 : H2[a]? = some (RA (cM_ K) n f) := by rw [o2 a (by omega), o1 a la]; exact ha
  refine n_aast i S hG.M ha2 hlo hNa (by omega) (hM2.anyM hG) rfl hi d_Dt_14 (fun locs hlo => ?_)
  exact z_vret S hr hlk hlo ⟨rfl, set_at ha2, hM2.kept (set_off (by omega)), by simp; omega, fun q q1 q2 => by rw [set_off q2, o2 q (by omega)]; exact o1 q q1⟩ d_Dt_15
abbrev rm_Di (n : Nat) : Room := { frames := 2, cells := 1 + n, slots := n + 2 * n, locals := 34 }
def rowF (b n : Nat) : Nat → Option Nat := fun j => if j < n then some (b + 1 + j) else none
set_option maxHeartbeats 4000000 in
theorem ct_Di (l : Launch) (K : KD) (x wA n : Nat) (fw : Nat → Int32) (hn : n ≤ 8000) (hN : N0 K ≤ x) (hxw : x ≠ wA) :
    CT l K y_Di c_Di (rm_Di n) [.ref x, .ref wA] (fun H => va_at K.1 classes (x, .inr (1, [.null])) H ∧ H[wA]? = some (IA (cI_ K) n fw)) (fun H v H' => v = none ∧ DR K x H.size H' ∧ H'[H.size]? = some (RA (cM_ K) n (rowF H.size n)) ∧ (∀ j, j < n → MkAt K (H.size + 1 + j) (fw j) (zI j) H') ∧ H'.size = H.size + 1 + n ∧ ∀ q, q < H.size → q ≠ x → H'[q]? = H[q]?) := by
  refine z_met (by decide) (Nat.le_of_ble_eq_true rfl) ?_
  intro p e s m below meth c ls S hr hlk hnm hG hP hl
  obtain ⟨hO, hw⟩ := hP
  have hl : lv_has ls 3 [(0, .ref x), (1, .ref wA)] := hl
  have lx := va_at.lt hO
  have lx' : x < s.heap.size := lx
  have lw := at_lt hw
  have hz := hG.2.2.2
  generalize hQ : MQ below (QH (fun H v H' => v = none ∧ DR K x H.size H' ∧ H'[H.size]? = some (RA (cM_ K) n (rowF H.size n)) ∧ (∀ j, j < n → MkAt K (H.size + 1 + j) (fw j) (zI j) H') ∧ H'.size = H.size + 1 + n ∧ ∀ q, q < H.size → q ≠ x → H'[q]? = H[q]?)) [Value.ref x, .ref wA].toArray s (rm_Di n).cells (rm_Di n).slots (fun q => N0 K ≤ q) = Q
  generalize hargs : [Value.ref x, .ref wA].toArray = args at S
  have loop : ∀ (w i : Nat) (X : Heap) (ls : Array Slot) (locs : List Loc), n - i < w → i ≤ n → DR K x s.heap.size X → X[s.heap.size]? = some (RA (cM_ K) n (rowF s.heap.size i)) → (∀ j, j < i → MkAt K (s.heap.size + 1 + j) (fw j) (zI j) X) → X.size = s.heap.size + 1 + i → (∀ q, q < s.heap.size → q ≠ x → X[q]? = s.heap[q]?) → LO (N0 K) locs → lv_has ls 3 [(2, .int (zI i)), (0, .ref x), (1, .ref wA)] → W p l e (rm_Di n) s m args below meth c X locs (1 + i) (n + 2 * i) Q (F0 m 15 ls []) := by
    intro w
    induction w with
    | zero => intro i X ls locs h; omega
    | succ w ih =>
      intro i X ls locs hw' hin hD ha hM zX oX hlo hl
      refine z_iload_n S rfl (lv_at hl 0 rfl) d_Di_15 ?_
      refine z_aload_n S rfl (lv_at hl 1 rfl) d_Di_16 ?_
      refine z_get (C := "TimDrill") (T := F_Drill) (N := 1) (ci := 1) S tin_Drill hG hD rfl 0 (by decide) tf_D9 rfl rfl d_Di_17 ?_
      refine z_alen S hG.M ha d_Di_20 ?_
      refine z_icmp_ge (tgt := 47) S (by decide) (by omega) (by omega) d_Di_21 ?_ ?_
      · intro hc
        have e : i = n := by omega
        subst e
        subst hQ
        subst hargs
        exact z_vret S hr hlk hlo ⟨rfl, hD, ha, hM, zX, oX⟩ d_Di_47
      · intro hc
        have hwX : X[wA]? = some (IA (cI_ K) n fw) := by rw [oX wA lw (Ne.symm hxw)]; exact hw
        have hkX : Keep (N0 K) s.heap X := ⟨by omega, fun q hq => oX q (by omega) (by omega)⟩
        refine z_aload_n S rfl (lv_at hl 1 rfl) d_Di_24 ?_
        refine z_get (C := "TimDrill") (T := F_Drill) (N := 1) (ci := 1) S tin_Drill hG hD rfl 0 (by decide) tf_D9 rfl rfl d_Di_25 ?_
        refine z_iload_n S rfl (lv_at hl 0 rfl) d_Di_28 ?_
        refine z_new (C := "TimDrill$Mark") (T := F_Mark) (N := 2) (ci := 0) (fs := [.int 0, .int 0]) S tin_Mark t_Mark tok_Mark hG tcl_D7 tins_M tn_M rfl (fun j hj => by rcases (show j = 0 ∨ j = 1 by omega) with rfl | rfl <;> rfl) (by show 1 + i + 1 ≤ 1 + n; omega) (by show n + 2 * i + 2 ≤ n + 2 * n; omega) d_Di_29 (fun H1 hO1 z1 o1 => ?_)
        have hk1 : Keep (N0 K) s.heap H1 := ⟨by omega, fun q hq => by rw [o1 q (by omega)]; exact oX q (by omega) (by omega)⟩
        have hw1 : H1[wA]? = some (IA (cI_ K) n fw) := by rw [o1 wA (by omega)]; exact hwX
        refine z_dup S rfl d_Di_32 ?_
        refine z_aload_n S rfl (lv_at hl 2 rfl) d_Di_33 ?_
        refine z_iload_n S rfl (lv_at hl 0 rfl) d_Di_34 ?_
        refine n_iald i S hG.I hw1 (by omega) rfl (by omega) rfl d_Di_35 ?_
        refine z_iload_n S rfl (lv_at hl 0 rfl) d_Di_36 ?_
        refine z_callI (As := [.int (fw i), .int (zI i)]) (n := 2) S (ct_Mi l K X.size (fw i) (zI i)) tc_Mi tm_D15 ti_Mi tn_M rfl (by decide) ⟨by show 1 + 1 ≤ 2; omega, by show 8 + (3 + 11) + 12 ≤ 34; omega⟩ rfl hG hk1 hlo ⟨hO1, by omega⟩ hl rfl (Nat.le_of_ble_eq_true rfl) ⟨by show 1 + i + 1 + 0 ≤ 1 + n; omega, by show n + 2 * i + 2 + 0 ≤ n + 2 * n; omega⟩ d_Di_37 (fun v H2 locs hp hlo => ?_)
        obtain ⟨rfl, hM2, z2, o2⟩ := hp
        refine W.cs (cells' := 1 + (i + 1)) (slots' := n + 2 * (i + 1)) (by show 1 + i + 1 + 0 = _; omega) (by show n + 2 * i + 2 + 0 = _; omega) ?_
        have ha2 : H2[s.heap.size]? = some (RA (cM_ K) n (rowF s.heap.size i)) := by rw [o2 _ (by omega), o1 _ (by omega)]; exact ha
        refine n_aast i S hG.M ha2 hlo hz (by omega) (hM2.anyM hG) rfl (by omega) d_Di_40 (fun locs hlo => ?_)
        refine z_iinc (lv' := [(2, .int (zI (i + 1))), (0, .ref x), (1, .ref wA)]) (q := 0) S hl rfl rfl (by decide) d_Di_41 (fun ls hl => ?_)
        refine z_goto (tgt := 15) S (by decide) d_Di_44 ?_
        have hl : lv_has ls 3 [(2, .int (zI (i + 1))), (0, .ref x), (1, .ref wA)] := lv_sub hl [0, 1, 2] rfl
        have eF : va_up (rowF s.heap.size i) i (some X.size) = rowF s.heap.size (i + 1) := by
          funext j
          unfold rowF
          by_cases c1 : j = i
          · subst c1
            rw [va_up_self, if_pos (by omega)]
            congr 1
          · rw [va_up_ne _ _ c1]
            by_cases c2 : j < i
            · rw [if_pos c2, if_pos (by omega)]
            · rw [if_neg c2, if_neg (by omega)]
        rw [eF]
        refine ih (i + 1) _ ls locs (by omega) (by omega) ?_ (set_at ha2) ?_ (by simp; omega) ?_ hlo hl
        · refine DR.kept (DR.kept (DR.kept hD (o1 x (by omega))) (o2 x (by omega))) (set_off (by omega))
        · intro j hj
          by_cases c1 : j = i
          · subst c1
            rw [show s.heap.size + 1 + j = X.size by omega]
            exact hM2.kept (set_off (by omega))
          · refine (hM j (by omega)).kept ?_
            rw [set_off (by omega), o2 _ (by omega), o1 _ (by omega)]
        · intro q q1 q2
          rw [set_off (by omega), o2 _ (by omega), o1 _ (by omega)]
          exact oX q q1 q2
  refine z_aload_n S rfl (lv_at hl 0 rfl) d_Di_0 ?_
  refine W.objInit S.1 S.2.1 S.2.2.2.1 (wt S.2.2.2.2 tm_D1) (wt S.2.2.2.2 ti_objectInit) (wt S.2.2.2.2 tobj) rfl (by rw [S.2.2.1]; exact hl.1) rfl d_Di_1 (Nat.le_of_ble_eq_true rfl) (Nat.le_of_ble_eq_true rfl) ?_
  refine W.eq (g2 := F0 m 4 ls []) rfl ?_
  refine z_aload_n S rfl (lv_at hl 0 rfl) d_Di_4 ?_
  refine z_aload_n S rfl (lv_at hl 1 rfl) d_Di_5 ?_
  refine z_alen S hG.I hw d_Di_6 ?_
  refine z_anew S hG.M hG.1.2.2.2.1 tcl_D7 (by omega) (by omega) (by show 0 + 1 ≤ 1 + n; omega) (by show 0 + ((n : Nat) : Int).toNat ≤ n + 2 * n; omega) d_Di_7 ?_
  rw [Int.toNat_natCast]
  have hO1 : va_at K.1 classes (x, .inr (1, [.null])) (s.heap.push (RA (cM_ K) n (fun _ => none))) := va_at.kept hO (push_off lx')
  have hz1 : (s.heap.push (RA (cM_ K) n (fun _ => none))).size = s.heap.size + 1 := Array.size_push _
  have hn1 : (s.heap.push (RA (cM_ K) n (fun _ => none)))[s.heap.size]? = some (RA (cM_ K) n (fun _ => none)) := push_at
  have hq1 : ∀ q, q < s.heap.size → (s.heap.push (RA (cM_ K) n (fun _ => none)))[q]? = s.heap[q]? := fun q h => push_off h
  generalize s.heap.push (RA (cM_ K) n (fun _ => none)) = X1 at hO1 hz1 hn1 hq1 ⊢
  refine z_putF (C := "TimDrill") (T := F_Drill) (N := 1) (ci := 1) S tin_Drill t_Drill tok_Drill tnm_Drill hG hO1 LO.nil hN rfl 0 (by decide) tf_D9 rfl rfl hnm rfl rfl rfl (Nat.le_of_ble_eq_true rfl) d_Di_10 (fun X2 locs hO2 z2 o2 hlo => ?_)
  refine z_iconst S d_Di_13 ?_
  refine z_istore_n (lv' := [(2, .int (zI 0)), (0, .ref x), (1, .ref wA)]) S rfl hl rfl (by decide) d_Di_14 (fun ls hl => ?_)
  refine W.cs (cells' := 1 + 0) (slots' := n + 2 * 0) rfl (by omega) ?_
  have e0 : (fun _ => none) = rowF s.heap.size 0 := by
    funext j
    unfold rowF
    rw [if_neg (by omega)]
  refine loop (n + 1) 0 X2 ls locs (by omega) (by omega) hO2 ?_ (fun j hj => by omega) (by omega) ?_ hlo hl
  · rw [o2 _ (by omega), ← e0]
    exact hn1
  · intro q q1 q2
    rw [o2 _ q2]
    exact hq1 q q1
end
section
/-! the law's own sort: order -/
set_option maxRecDepth 100000
section OP
variable {α : Type}
def OM (k : α → Int) (f V : Nat → α) (lo mid hi p q d : Nat) : Prop := lo ≤ p ∧ p ≤ mid ∧ mid ≤ q ∧ q ≤ hi ∧ d + mid = p + q ∧ Eqv k (sg V lo (d - lo) ++ (sg f p (mid - p) ++ sg f q (hi - q))) (sg f lo (hi - lo)) ∧ Srt k V lo (d - lo) ∧ (∀ x, lo ≤ x → x < d → ∀ j, (p ≤ j ∧ j < mid) ∨ (q ≤ j ∧ j < hi) → k (V x) ≤ k (f j))
theorem OM.init {k : α → Int} {f V : Nat → α} {lo mid hi : Nat} (h1 : lo ≤ mid) (h2 : mid ≤ hi) : OM k f V lo mid hi lo mid lo := by
  refine ⟨Nat.le_refl _, h1, Nat.le_refl _, h2, by omega, ?_, Srt.small (by omega), fun x x1 x2 => by omega⟩
  rw [Nat.sub_self, sg_0, List.nil_append, show hi - lo = (mid - lo) + (hi - mid) by omega, sg_app, show lo + (mid - lo) = mid by omega]
  exact Eqv.rf
theorem OM.left {k : α → Int} {f V : Nat → α} {lo mid hi p q d : Nat} (h : OM k f V lo mid hi p q d) (hs : Srt k f lo (mid - lo)) (hs2 : Srt k f mid (hi - mid)) (hp : p < mid) (hk : q < hi → k (f p) ≤ k (f q)) : OM k f (va_up V d (f p)) lo mid hi (p + 1) q (d + 1) := by
  obtain ⟨h1, h2, h3, h4, h5, h6, h7, h8⟩ := h
  have old : ∀ x, x < d → va_up V d (f p) x = V x := fun x hx => va_up_ne _ _ (by omega)
  refine ⟨by omega, by omega, h3, h4, by omega, ?_, ?_, ?_⟩
  · have e1 : sg (va_up V d (f p)) lo (d + 1 - lo) = sg V lo (d - lo) ++ [f p] := by
      rw [show d + 1 - lo = (d - lo) + 1 by omega, sg_snoc, show lo + (d - lo) = d by omega, va_up_self]
      congr 1
      exact sg_same (fun x x1 x2 => old x (by omega))
    have e2 : sg f p (mid - p) = f p :: sg f (p + 1) (mid - (p + 1)) := by rw [show mid - p = (mid - (p + 1)) + 1 by omega, sg_cons]
    rw [e1]
    rw [e2] at h6
    simpa only [List.append_assoc, List.cons_append, List.nil_append] using h6
  · rw [show d + 1 - lo = (d - lo) + 1 by omega]
    refine Srt.join (h7.congr (fun x x1 x2 => old x (by omega))) (Srt.small (by omega)) ?_
    intro x y x1 x2 y1 y2
    rw [old x (by omega), show y = d by omega, va_up_self]
    exact h8 x x1 (by omega) p (Or.inl ⟨by omega, hp⟩)
  · intro x x1 x2 j hj
    by_cases hx : x < d
    · rw [old x hx]
      exact h8 x x1 hx j (by omega)
    · rw [show x = d by omega, va_up_self]
      rcases hj with hj | hj
      · exact hs p j (by omega) (by omega) (by omega)
      · have q1 := hk (by omega)
        have q2 := hs2.le (a := q) (b := j) (by omega) (by omega) (by omega)
        omega
theorem OM.right {k : α → Int} {f V : Nat → α} {lo mid hi p q d : Nat} (h : OM k f V lo mid hi p q d) (hs : Srt k f lo (mid - lo)) (hs2 : Srt k f mid (hi - mid)) (hq : q < hi) (hk : p < mid → k (f q) < k (f p)) : OM k f (va_up V d (f q)) lo mid hi p (q + 1) (d + 1) := by
  obtain ⟨h1, h2, h3, h4, h5, h6, h7, h8⟩ := h
  have old : ∀ x, x < d → va_up V d (f q) x = V x := fun x hx => va_up_ne _ _ (by omega)
  refine ⟨h1, h2, by omega, by omega, by omega, ?_, ?_, ?_⟩
  · have e1 : sg (va_up V d (f q)) lo (d + 1 - lo) = sg V lo (d - lo) ++ [f q] := by
      rw [show d + 1 - lo = (d - lo) + 1 by omega, sg_snoc, show lo + (d - lo) = d by omega, va_up_self]
      congr 1
      exact sg_same (fun x x1 x2 => old x (by omega))
    have e2 : sg f q (hi - q) = [f q] ++ sg f (q + 1) (hi - (q + 1)) := by rw [show hi - q = (hi - (q + 1)) + 1 by omega, sg_cons]; rfl
    have e3 : Eqv k ([f q] ++ sg f p (mid - p)) (sg f p (mid - p) ++ [f q]) := Eqv.comm (by
      intro x hx y hy
      rw [List.mem_singleton] at hx
      subst hx
      obtain ⟨j, j1, j2, rfl⟩ := sg_mem.mp hy
      have q1 := hk (by omega)
      have q2 := hs.le (a := p) (b := j) (by omega) (by omega) (by omega)
      omega)
    rw [e1]
    rw [e2] at h6
    refine Eqv.tr ?_ h6
    have e4 := (Eqv.rf (k := k) (l := sg V lo (d - lo))).app (e3.app (Eqv.rf (l := sg f (q + 1) (hi - (q + 1)))))
    simpa only [List.append_assoc] using e4
  · rw [show d + 1 - lo = (d - lo) + 1 by omega]
    refine Srt.join (h7.congr (fun x x1 x2 => old x (by omega))) (Srt.small (by omega)) ?_
    intro x y x1 x2 y1 y2
    rw [old x (by omega), show y = d by omega, va_up_self]
    exact h8 x x1 (by omega) q (Or.inr ⟨by omega, hq⟩)
  · intro x x1 x2 j hj
    by_cases hx : x < d
    · rw [old x hx]
      exact h8 x x1 hx j (by omega)
    · rw [show x = d by omega, va_up_self]
      rcases hj with hj | hj
      · have q1 := hk (by omega)
        have q2 := hs.le (a := p) (b := j) (by omega) (by omega) (by omega)
        omega
      · exact hs2 q j (by omega) (by omega) (by omega)
theorem OM.done {k : α → Int} {f V : Nat → α} {lo mid hi p q d : Nat} (h : OM k f V lo mid hi p q d) (hd : hi ≤ d) : Srt k V lo (hi - lo) ∧ Eqv k (sg V lo (hi - lo)) (sg f lo (hi - lo)) := by
  obtain ⟨h1, h2, h3, h4, h5, h6, h7, h8⟩ := h
  rw [show mid - p = 0 by omega, show hi - q = 0 by omega, sg_0, sg_0, List.append_nil, List.append_nil, show d - lo = hi - lo by omega] at h6
  rw [show d - lo = hi - lo by omega] at h7
  exact ⟨h7, h6⟩
def Blk (k : α → Int) (f : Nat → α) (s lo t : Nat) : Prop := ∀ i, Srt k f (lo + i * s) (min s (t - (lo + i * s)))
def Dn2 (k : α → Int) (f : Nat → α) (s fr t c : Nat) : Prop := ∀ i, i < c → Srt k f (fr + i * (2 * s)) (min (2 * s) (t - (fr + i * (2 * s))))
theorem Blk.one {k : α → Int} {f : Nat → α} {lo t : Nat} : Blk k f 1 lo t := fun i => Srt.small (by omega)
theorem Blk.shift {k : α → Int} {f f' : Nat → α} {s lo t : Nat} (h : Blk k f s lo t) (hf : ∀ x, lo + 2 * s ≤ x → f' x = f x) : Blk k f' s (lo + 2 * s) t := by
  intro i
  have := h (i + 2)
  rw [show lo + (i + 2) * s = lo + 2 * s + i * s by rw [Nat.add_mul]; omega] at this
  exact this.congr (fun x x1 x2 => hf x (by omega))
theorem Dn2.step {k : α → Int} {f f' : Nat → α} {s fr t c : Nat} (h : Dn2 k f s fr t c) (hf : ∀ x, x < fr + c * (2 * s) → f' x = f x) (hs : Srt k f' (fr + c * (2 * s)) (min (2 * s) (t - (fr + c * (2 * s))))) : Dn2 k f' s fr t (c + 1) := by
  intro i hi
  by_cases e : i = c
  · subst e; exact hs
  · have h1 : (i + 1) * (2 * s) ≤ c * (2 * s) := Nat.mul_le_mul_right _ (by omega)
    rw [Nat.add_mul] at h1
    exact (h i (by omega)).congr (fun x x1 x2 => hf x (by omega))
theorem Dn2.all {k : α → Int} {f : Nat → α} {s fr t c : Nat} (h : Dn2 k f s fr t c) (hc : t ≤ fr + c * (2 * s)) : Blk k f (s + s) fr t := by
  rw [show s + s = 2 * s by omega]
  intro i
  by_cases e : i < c
  · exact h i e
  · have h1 : c * (2 * s) ≤ i * (2 * s) := Nat.mul_le_mul_right _ (by omega)
    exact Srt.small (by omega)
end OP
abbrev pr (fw fn : Nat → Int32) : Nat → Int32 × Int32 := fun j => (fw j, fn j)
abbrev kp : Int32 × Int32 → Int := fun z => z.1.toInt
theorem pr_up (fv fm : Nat → Int32) (d : Nat) (x y : Int32) : pr (va_up fv d x) (va_up fm d y) = va_up (pr fv fm) d (x, y) := by
  funext j
  by_cases h : j = d
  · subst h
    rw [va_up_self]
    show (va_up fv j x j, va_up fm j y j) = _
    rw [va_up_self, va_up_self]
  · rw [va_up_ne _ _ h]
    show (va_up fv d x j, va_up fm d y j) = _
    rw [va_up_ne _ _ h, va_up_ne _ _ h]
/-- the heap while order works -/
def OHq (K : KD) (n wA nA : Nat) (fw fn fv fm : Nat → Int32) (H0 X : Heap) : Prop := X[wA]? = some (IA (cI_ K) n fw) ∧ X[nA]? = some (IA (cI_ K) n fn) ∧ X[H0.size]? = some (IA (cI_ K) n fv) ∧ X[H0.size + 1]? = some (IA (cI_ K) n fm) ∧ X.size = H0.size + 2 ∧ ∀ q, q < H0.size → q ≠ wA → q ≠ nA → X[q]? = H0[q]?
section OHS
variable {K : KD} {n wA nA : Nat} {fw fn fv fm : Nat → Int32} {H0 X : Heap}
theorem OHq.w' (h : OHq K n wA nA fw fn fv fm H0 X) (h1 : wA ≠ nA) (h2 : wA < H0.size) (g : Nat → Int32) : OHq K n wA nA g fn fv fm H0 (X.setIfInBounds wA (IA (cI_ K) n g)) := by
  obtain ⟨a1, a2, a3, a4, a5, a6⟩ := h
  exact ⟨set_at a1, by rw [set_off (by omega)]; exact a2, by rw [set_off (by omega)]; exact a3, by rw [set_off (by omega)]; exact a4, by simp; exact a5, fun q q1 q2 q3 => by rw [set_off q2]; exact a6 q q1 q2 q3⟩
theorem OHq.n' (h : OHq K n wA nA fw fn fv fm H0 X) (h1 : wA ≠ nA) (h2 : nA < H0.size) (g : Nat → Int32) : OHq K n wA nA fw g fv fm H0 (X.setIfInBounds nA (IA (cI_ K) n g)) := by
  obtain ⟨a1, a2, a3, a4, a5, a6⟩ := h
  exact ⟨by rw [set_off (by omega)]; exact a1, set_at a2, by rw [set_off (by omega)]; exact a3, by rw [set_off (by omega)]; exact a4, by simp; exact a5, fun q q1 q2 q3 => by rw [set_off q3]; exact a6 q q1 q2 q3⟩
theorem OHq.v' (h : OHq K n wA nA fw fn fv fm H0 X) (h1 : wA < H0.size) (h2 : nA < H0.size) (g : Nat → Int32) : OHq K n wA nA fw fn g fm H0 (X.setIfInBounds H0.size (IA (cI_ K) n g)) := by
  obtain ⟨a1, a2, a3, a4, a5, a6⟩ := h
  exact ⟨by rw [set_off (by omega)]; exact a1, by rw [set_off (by omega)]; exact a2, set_at a3, by rw [set_off (by omega)]; exact a4, by simp; exact a5, fun q q1 q2 q3 => by rw [set_off (by omega)]; exact a6 q q1 q2 q3⟩
theorem OHq.m' (h : OHq K n wA nA fw fn fv fm H0 X) (h1 : wA < H0.size) (h2 : nA < H0.size) (g : Nat → Int32) : OHq K n wA nA fw fn fv g H0 (X.setIfInBounds (H0.size + 1) (IA (cI_ K) n g)) := by
  obtain ⟨a1, a2, a3, a4, a5, a6⟩ := h
  exact ⟨by rw [set_off (by omega)]; exact a1, by rw [set_off (by omega)]; exact a2, by rw [set_off (by omega)]; exact a3, set_at a4, by simp; exact a5, fun q q1 q2 q3 => by rw [set_off (by omega)]; exact a6 q q1 q2 q3⟩
end OHS
theorem d_Lo_0 : decode b_Lo 0 = .ok (.aload_n 0, 1) := by decide +kernel
theorem d_Lo_1 : decode b_Lo 1 = .ok (.arraylength, 1) := by decide +kernel
theorem d_Lo_2 : decode b_Lo 2 = .ok (.newarray .int, 2) := by decide +kernel
theorem d_Lo_4 : decode b_Lo 4 = .ok (.astore 4, 2) := by decide +kernel
theorem d_Lo_6 : decode b_Lo 6 = .ok (.aload_n 0, 1) := by decide +kernel
theorem d_Lo_7 : decode b_Lo 7 = .ok (.arraylength, 1) := by decide +kernel
theorem d_Lo_8 : decode b_Lo 8 = .ok (.newarray .int, 2) := by decide +kernel
theorem d_Lo_10 : decode b_Lo 10 = .ok (.astore 5, 2) := by decide +kernel
theorem d_Lo_12 : decode b_Lo 12 = .ok (.iconst 1, 1) := by decide +kernel
theorem d_Lo_13 : decode b_Lo 13 = .ok (.istore 6, 2) := by decide +kernel
theorem d_Lo_15 : decode b_Lo 15 = .ok (.iload 6, 2) := by decide +kernel
theorem d_Lo_17 : decode b_Lo 17 = .ok (.iload_n 3, 1) := by decide +kernel
theorem d_Lo_18 : decode b_Lo 18 = .ok (.iload_n 2, 1) := by decide +kernel
theorem d_Lo_19 : decode b_Lo 19 = .ok (.isub, 1) := by decide +kernel
theorem d_Lo_20 : decode b_Lo 20 = .ok (.if_icmp .ge 196, 3) := by decide +kernel
theorem d_Lo_23 : decode b_Lo 23 = .ok (.iload_n 2, 1) := by decide +kernel
theorem d_Lo_24 : decode b_Lo 24 = .ok (.istore 7, 2) := by decide +kernel
theorem d_Lo_26 : decode b_Lo 26 = .ok (.iload 7, 2) := by decide +kernel
theorem d_Lo_28 : decode b_Lo 28 = .ok (.iload_n 3, 1) := by decide +kernel
theorem d_Lo_29 : decode b_Lo 29 = .ok (.if_icmp .ge 177, 3) := by decide +kernel
theorem d_Lo_32 : decode b_Lo 32 = .ok (.iload 7, 2) := by decide +kernel
theorem d_Lo_34 : decode b_Lo 34 = .ok (.iload 6, 2) := by decide +kernel
theorem d_Lo_36 : decode b_Lo 36 = .ok (.iadd, 1) := by decide +kernel
theorem d_Lo_37 : decode b_Lo 37 = .ok (.iload_n 3, 1) := by decide +kernel
theorem d_Lo_38 : decode b_Lo 38 = .ok (.invokestatic 7, 3) := by decide +kernel
theorem d_Lo_41 : decode b_Lo 41 = .ok (.istore 8, 2) := by decide +kernel
theorem d_Lo_43 : decode b_Lo 43 = .ok (.iload 8, 2) := by decide +kernel
theorem d_Lo_45 : decode b_Lo 45 = .ok (.iload 6, 2) := by decide +kernel
theorem d_Lo_47 : decode b_Lo 47 = .ok (.iadd, 1) := by decide +kernel
theorem d_Lo_48 : decode b_Lo 48 = .ok (.iload_n 3, 1) := by decide +kernel
theorem d_Lo_49 : decode b_Lo 49 = .ok (.invokestatic 7, 3) := by decide +kernel
theorem d_Lo_52 : decode b_Lo 52 = .ok (.istore 9, 2) := by decide +kernel
theorem d_Lo_54 : decode b_Lo 54 = .ok (.iload 7, 2) := by decide +kernel
theorem d_Lo_56 : decode b_Lo 56 = .ok (.istore 10, 2) := by decide +kernel
theorem d_Lo_58 : decode b_Lo 58 = .ok (.iload 8, 2) := by decide +kernel
theorem d_Lo_60 : decode b_Lo 60 = .ok (.istore 11, 2) := by decide +kernel
theorem d_Lo_62 : decode b_Lo 62 = .ok (.iload 7, 2) := by decide +kernel
theorem d_Lo_64 : decode b_Lo 64 = .ok (.istore 12, 2) := by decide +kernel
theorem d_Lo_66 : decode b_Lo 66 = .ok (.iload 12, 2) := by decide +kernel
theorem d_Lo_68 : decode b_Lo 68 = .ok (.iload 9, 2) := by decide +kernel
theorem d_Lo_70 : decode b_Lo 70 = .ok (.if_icmp .ge 89, 3) := by decide +kernel
theorem d_Lo_73 : decode b_Lo 73 = .ok (.iload 11, 2) := by decide +kernel
theorem d_Lo_75 : decode b_Lo 75 = .ok (.iload 9, 2) := by decide +kernel
theorem d_Lo_77 : decode b_Lo 77 = .ok (.if_icmp .ge 21, 3) := by decide +kernel
theorem d_Lo_80 : decode b_Lo 80 = .ok (.iload 10, 2) := by decide +kernel
theorem d_Lo_82 : decode b_Lo 82 = .ok (.iload 8, 2) := by decide +kernel
theorem d_Lo_84 : decode b_Lo 84 = .ok (.if_icmp .ge 18, 3) := by decide +kernel
theorem d_Lo_87 : decode b_Lo 87 = .ok (.aload_n 0, 1) := by decide +kernel
theorem d_Lo_88 : decode b_Lo 88 = .ok (.iload 10, 2) := by decide +kernel
theorem d_Lo_90 : decode b_Lo 90 = .ok (.iaload, 1) := by decide +kernel
theorem d_Lo_91 : decode b_Lo 91 = .ok (.aload_n 0, 1) := by decide +kernel
theorem d_Lo_92 : decode b_Lo 92 = .ok (.iload 11, 2) := by decide +kernel
theorem d_Lo_94 : decode b_Lo 94 = .ok (.iaload, 1) := by decide +kernel
theorem d_Lo_95 : decode b_Lo 95 = .ok (.if_icmp .gt 7, 3) := by decide +kernel
theorem d_Lo_98 : decode b_Lo 98 = .ok (.iconst 1, 1) := by decide +kernel
theorem d_Lo_99 : decode b_Lo 99 = .ok (.goto 4, 3) := by decide +kernel
theorem d_Lo_102 : decode b_Lo 102 = .ok (.iconst 0, 1) := by decide +kernel
theorem d_Lo_103 : decode b_Lo 103 = .ok (.istore 13, 2) := by decide +kernel
theorem d_Lo_105 : decode b_Lo 105 = .ok (.aload 4, 2) := by decide +kernel
theorem d_Lo_107 : decode b_Lo 107 = .ok (.iload 12, 2) := by decide +kernel
theorem d_Lo_109 : decode b_Lo 109 = .ok (.iload 13, 2) := by decide +kernel
theorem d_Lo_111 : decode b_Lo 111 = .ok (.ifCond .eq 10, 3) := by decide +kernel
theorem d_Lo_114 : decode b_Lo 114 = .ok (.aload_n 0, 1) := by decide +kernel
theorem d_Lo_115 : decode b_Lo 115 = .ok (.iload 10, 2) := by decide +kernel
theorem d_Lo_117 : decode b_Lo 117 = .ok (.iaload, 1) := by decide +kernel
theorem d_Lo_118 : decode b_Lo 118 = .ok (.goto 7, 3) := by decide +kernel
theorem d_Lo_121 : decode b_Lo 121 = .ok (.aload_n 0, 1) := by decide +kernel
theorem d_Lo_122 : decode b_Lo 122 = .ok (.iload 11, 2) := by decide +kernel
theorem d_Lo_124 : decode b_Lo 124 = .ok (.iaload, 1) := by decide +kernel
theorem d_Lo_125 : decode b_Lo 125 = .ok (.iastore, 1) := by decide +kernel
theorem d_Lo_126 : decode b_Lo 126 = .ok (.aload 5, 2) := by decide +kernel
theorem d_Lo_128 : decode b_Lo 128 = .ok (.iload 12, 2) := by decide +kernel
theorem d_Lo_130 : decode b_Lo 130 = .ok (.iload 13, 2) := by decide +kernel
theorem d_Lo_132 : decode b_Lo 132 = .ok (.ifCond .eq 13, 3) := by decide +kernel
theorem d_Lo_135 : decode b_Lo 135 = .ok (.aload_n 1, 1) := by decide +kernel
theorem d_Lo_136 : decode b_Lo 136 = .ok (.iload 10, 2) := by decide +kernel
theorem d_Lo_138 : decode b_Lo 138 = .ok (.iinc 10 1, 3) := by decide +kernel
theorem d_Lo_141 : decode b_Lo 141 = .ok (.iaload, 1) := by decide +kernel
theorem d_Lo_142 : decode b_Lo 142 = .ok (.goto 10, 3) := by decide +kernel
theorem d_Lo_145 : decode b_Lo 145 = .ok (.aload_n 1, 1) := by decide +kernel
theorem d_Lo_146 : decode b_Lo 146 = .ok (.iload 11, 2) := by decide +kernel
theorem d_Lo_148 : decode b_Lo 148 = .ok (.iinc 11 1, 3) := by decide +kernel
theorem d_Lo_151 : decode b_Lo 151 = .ok (.iaload, 1) := by decide +kernel
theorem d_Lo_152 : decode b_Lo 152 = .ok (.iastore, 1) := by decide +kernel
theorem d_Lo_153 : decode b_Lo 153 = .ok (.iinc 12 1, 3) := by decide +kernel
theorem d_Lo_156 : decode b_Lo 156 = .ok (.goto (-90), 3) := by decide +kernel
theorem d_Lo_159 : decode b_Lo 159 = .ok (.iload 7, 2) := by decide +kernel
theorem d_Lo_161 : decode b_Lo 161 = .ok (.istore 12, 2) := by decide +kernel
theorem d_Lo_163 : decode b_Lo 163 = .ok (.iload 12, 2) := by decide +kernel
theorem d_Lo_165 : decode b_Lo 165 = .ok (.iload 9, 2) := by decide +kernel
theorem d_Lo_167 : decode b_Lo 167 = .ok (.if_icmp .ge 27, 3) := by decide +kernel
theorem d_Lo_170 : decode b_Lo 170 = .ok (.aload_n 0, 1) := by decide +kernel
theorem d_Lo_171 : decode b_Lo 171 = .ok (.iload 12, 2) := by decide +kernel
theorem d_Lo_173 : decode b_Lo 173 = .ok (.aload 4, 2) := by decide +kernel
theorem d_Lo_175 : decode b_Lo 175 = .ok (.iload 12, 2) := by decide +kernel
theorem d_Lo_177 : decode b_Lo 177 = .ok (.iaload, 1) := by decide +kernel
theorem d_Lo_178 : decode b_Lo 178 = .ok (.iastore, 1) := by decide +kernel
theorem d_Lo_179 : decode b_Lo 179 = .ok (.aload_n 1, 1) := by decide +kernel
theorem d_Lo_180 : decode b_Lo 180 = .ok (.iload 12, 2) := by decide +kernel
theorem d_Lo_182 : decode b_Lo 182 = .ok (.aload 5, 2) := by decide +kernel
theorem d_Lo_184 : decode b_Lo 184 = .ok (.iload 12, 2) := by decide +kernel
theorem d_Lo_186 : decode b_Lo 186 = .ok (.iaload, 1) := by decide +kernel
theorem d_Lo_187 : decode b_Lo 187 = .ok (.iastore, 1) := by decide +kernel
theorem d_Lo_188 : decode b_Lo 188 = .ok (.iinc 12 1, 3) := by decide +kernel
theorem d_Lo_191 : decode b_Lo 191 = .ok (.goto (-28), 3) := by decide +kernel
theorem d_Lo_194 : decode b_Lo 194 = .ok (.iload 7, 2) := by decide +kernel
theorem d_Lo_196 : decode b_Lo 196 = .ok (.iconst 2, 1) := by decide +kernel
theorem d_Lo_197 : decode b_Lo 197 = .ok (.iload 6, 2) := by decide +kernel
theorem d_Lo_199 : decode b_Lo 199 = .ok (.imul, 1) := by decide +kernel
theorem d_Lo_200 : decode b_Lo 200 = .ok (.iadd, 1) := by decide +kernel
theorem d_Lo_201 : decode b_Lo 201 = .ok (.istore 7, 2) := by decide +kernel
theorem d_Lo_203 : decode b_Lo 203 = .ok (.goto (-177), 3) := by decide +kernel
theorem d_Lo_206 : decode b_Lo 206 = .ok (.iload 6, 2) := by decide +kernel
theorem d_Lo_208 : decode b_Lo 208 = .ok (.iload 6, 2) := by decide +kernel
theorem d_Lo_210 : decode b_Lo 210 = .ok (.iadd, 1) := by decide +kernel
theorem d_Lo_211 : decode b_Lo 211 = .ok (.istore 6, 2) := by decide +kernel
theorem d_Lo_213 : decode b_Lo 213 = .ok (.goto (-198), 3) := by decide +kernel
theorem d_Lo_216 : decode b_Lo 216 = .ok (.return_, 1) := by decide +kernel
abbrev rm_Lo (n : Nat) : Room := { frames := 1, cells := 2, slots := n + n, locals := 21 }
def Plo (K : KD) (n wA nA fr t : Nat) (fw fn : Nat → Int32) : Heap → Option Value → Heap → Prop := fun H v H' => ∃ fw' fn' : Nat → Int32, v = none ∧ H'[wA]? = some (IA (cI_ K) n fw') ∧ H'[nA]? = some (IA (cI_ K) n fn') ∧ H.size ≤ H'.size ∧ (∀ q, q < H.size → q ≠ wA → q ≠ nA → H'[q]? = H[q]?) ∧ (∀ x, (x < fr ∨ t ≤ x) → pr fw' fn' x = pr fw fn x) ∧ Srt kp (pr fw' fn') fr (t - fr) ∧ Eqv kp (sg (pr fw' fn') fr (t - fr)) (sg (pr fw fn) fr (t - fr))
set_option maxHeartbeats 8000000 in
theorem ct_Lo (l : Launch) (K : KD) (n wA nA fr t : Nat) (fw0 fn0 : Nat → Int32) (hn : n ≤ 8000) (hft : fr ≤ t) (htn : t ≤ n) (hNw : N0 K ≤ wA) (hNn : N0 K ≤ nA) (hwn : wA ≠ nA) :
    CT l K y_Lo c_Lo (rm_Lo n) [.ref wA, .ref nA, .int (zI fr), .int (zI t)] (fun H => H[wA]? = some (IA (cI_ K) n fw0) ∧ H[nA]? = some (IA (cI_ K) n fn0)) (Plo K n wA nA fr t fw0 fn0) := by
  refine z_met (by decide) (Nat.le_of_ble_eq_true rfl) ?_
  intro p e s m below meth c ls S hr hlk hnm hG hP hl
  obtain ⟨hw, hnm0⟩ := hP
  have hl : lv_has ls 14 [(0, .ref wA), (1, .ref nA), (2, .int (zI fr)), (3, .int (zI t))] := hl
  have lw := at_lt hw
  have ln := at_lt hnm0
  have hz := hG.2.2.2
  generalize hQ : MQ below (QH (Plo K n wA nA fr t fw0 fn0)) [Value.ref wA, .ref nA, .int (zI fr), .int (zI t)].toArray s (rm_Lo n).cells (rm_Lo n).slots (fun q => N0 K ≤ q) = Q
  generalize hargs : [Value.ref wA, .ref nA, .int (zI fr), .int (zI t)].toArray = args at S
  have keep : ∀ {fw fn fv fm : Nat → Int32} {X : Heap}, OHq K n wA nA fw fn fv fm s.heap X → Keep (N0 K) s.heap X := fun h => ⟨by rw [h.2.2.2.2.1]; omega, fun q hq => h.2.2.2.2.2 q (by omega) (by omega) (by omega)⟩
  -- copying back, at 163
  have cpb : ∀ (sz lo mid hi : Nat) (fw fn fv fm : Nat → Int32), lo ≤ hi → hi ≤ n → (∀ (fw' fn' : Nat → Int32) (X : Heap) (ls : Array Slot) (locs : List Loc), OHq K n wA nA fw' fn' fv fm s.heap X → (∀ x, pr fw' fn' x = if lo ≤ x ∧ x < hi then pr fv fm x else pr fw fn x) → LO (N0 K) locs → lv_has ls 14 [(0, .ref wA), (1, .ref nA), (2, .int (zI fr)), (3, .int (zI t)), (4, .ref s.heap.size), (5, .ref (s.heap.size + 1)), (6, .int (zI sz)), (7, .int (zI lo))] → W p l e (rm_Lo n) s m args below meth c X locs 2 (n + n) Q (F0 m 194 ls [])) →
      ∀ (w k : Nat) (fw' fn' : Nat → Int32) (X : Heap) (ls : Array Slot) (locs : List Loc), hi - k < w → lo ≤ k → k ≤ hi → OHq K n wA nA fw' fn' fv fm s.heap X → (∀ x, pr fw' fn' x = if lo ≤ x ∧ x < k then pr fv fm x else pr fw fn x) → LO (N0 K) locs → lv_has ls 14 [(12, .int (zI k)), (0, .ref wA), (1, .ref nA), (2, .int (zI fr)), (3, .int (zI t)), (4, .ref s.heap.size), (5, .ref (s.heap.size + 1)), (6, .int (zI sz)), (7, .int (zI lo)), (9, .int (zI hi))] → W p l e (rm_Lo n) s m args below meth c X locs 2 (n + n) Q (F0 m 163 ls []) := by
    intro sz lo mid hi fw fn fv fm c1 c2 nxt w
    induction w with
    | zero => intro k fw' fn' X ls locs h; omega
    | succ w ih =>
      intro k fw' fn' X ls locs hw' c3 c4 hX hpt hlo hl
      refine z_iload S (lv_at hl 0 rfl) d_Lo_163 ?_
      refine z_iload S (lv_at hl 9 rfl) d_Lo_165 ?_
      refine z_icmp_ge (tgt := 194) S (by decide) (by omega) (by omega) d_Lo_167 ?_ ?_
      · intro hc
        have ek : k = hi := by omega
        subst ek
        exact nxt fw' fn' X ls locs hX hpt hlo (lv_sub hl [1, 2, 3, 4, 5, 6, 7, 8] rfl)
      · intro hc
        refine z_aload_n S rfl (lv_at hl 1 rfl) d_Lo_170 ?_
        refine z_iload S (lv_at hl 0 rfl) d_Lo_171 ?_
        refine z_aload S (lv_at hl 5 rfl) d_Lo_173 ?_
        refine z_iload S (lv_at hl 0 rfl) d_Lo_175 ?_
        refine n_iald k S hG.I hX.2.2.1 (by omega) rfl (by omega) rfl d_Lo_177 ?_
        refine n_iast k S hG.I hX.1 hlo hNw (by omega) rfl (by omega) d_Lo_178 (fun locs hlo => ?_)
        have hX1 := hX.w' hwn lw (va_up fw' k (fv k))
        generalize X.setIfInBounds wA (IA (cI_ K) n (va_up fw' k (fv k))) = X1 at hX1 ⊢
        refine z_aload_n S rfl (lv_at hl 2 rfl) d_Lo_179 ?_
        refine z_iload S (lv_at hl 0 rfl) d_Lo_180 ?_
        refine z_aload S (lv_at hl 6 rfl) d_Lo_182 ?_
        refine z_iload S (lv_at hl 0 rfl) d_Lo_184 ?_
        refine n_iald k S hG.I hX1.2.2.2.1 (by omega) rfl (by omega) rfl d_Lo_186 ?_
        refine n_iast k S hG.I hX1.2.1 hlo hNn (by omega) rfl (by omega) d_Lo_187 (fun locs hlo => ?_)
        have hX2 := hX1.n' hwn ln (va_up fn' k (fm k))
        refine z_iinc (lv' := [(12, .int (zI (k + 1))), (0, .ref wA), (1, .ref nA), (2, .int (zI fr)), (3, .int (zI t)), (4, .ref (Array.size s.heap)), (5, .ref (Array.size s.heap + 1)), (6, .int (zI sz)), (7, .int (zI lo)), (9, .int (zI hi))]) (q := 0) S hl rfl rfl (by decide) d_Lo_188 (fun ls hl => ?_)
        refine z_goto (tgt := 163) S (by decide) d_Lo_191 ?_
        have hl : lv_has ls 14 [(12, .int (zI (k + 1))), (0, .ref wA), (1, .ref nA), (2, .int (zI fr)), (3, .int (zI t)), (4, .ref (Array.size s.heap)), (5, .ref (Array.size s.heap + 1)), (6, .int (zI sz)), (7, .int (zI lo)), (9, .int (zI hi))] := lv_sub hl [0, 1, 2, 3, 4, 5, 6, 7, 8, 9] rfl
        refine ih (k + 1) _ _ _ ls locs (by omega) (by omega) (by omega) hX2 ?_ hlo hl
        intro x
        rw [pr_up]
        by_cases h : x = k
        · subst h
          rw [va_up_self, if_pos (by omega)]
        · rw [va_up_ne _ _ h, hpt x]
          by_cases h2 : lo ≤ x ∧ x < k
          · rw [if_pos h2, if_pos (by omega)]
          · rw [if_neg h2, if_neg (by omega)]
  -- one merge, at 66
  have mrg : ∀ (sz lo mid hi : Nat) (fw fn : Nat → Int32), lo ≤ mid → mid ≤ hi → hi ≤ n → Srt kp (pr fw fn) lo (mid - lo) → Srt kp (pr fw fn) mid (hi - mid) → (∀ (fw' fn' fv fm : Nat → Int32) (X : Heap) (ls : Array Slot) (locs : List Loc), OHq K n wA nA fw' fn' fv fm s.heap X → (∀ x, (x < lo ∨ hi ≤ x) → pr fw' fn' x = pr fw fn x) → Srt kp (pr fw' fn') lo (hi - lo) → Eqv kp (sg (pr fw' fn') lo (hi - lo)) (sg (pr fw fn) lo (hi - lo)) → LO (N0 K) locs → lv_has ls 14 [(0, .ref wA), (1, .ref nA), (2, .int (zI fr)), (3, .int (zI t)), (4, .ref s.heap.size), (5, .ref (s.heap.size + 1)), (6, .int (zI sz)), (7, .int (zI lo))] → W p l e (rm_Lo n) s m args below meth c X locs 2 (n + n) Q (F0 m 194 ls [])) →
      ∀ (w u q d : Nat) (fv fm : Nat → Int32) (X : Heap) (ls : Array Slot) (locs : List Loc), hi - d < w → OM kp (pr fw fn) (pr fv fm) lo mid hi u q d → OHq K n wA nA fw fn fv fm s.heap X → LO (N0 K) locs → lv_has ls 14 [(12, .int (zI d)), (11, .int (zI q)), (10, .int (zI u)), (9, .int (zI hi)), (8, .int (zI mid)), (0, .ref wA), (1, .ref nA), (2, .int (zI fr)), (3, .int (zI t)), (4, .ref s.heap.size), (5, .ref (s.heap.size + 1)), (6, .int (zI sz)), (7, .int (zI lo))] → W p l e (rm_Lo n) s m args below meth c X locs 2 (n + n) Q (F0 m 66 ls []) := by
    intro sz lo mid hi fw fn c1 c2 c3 hs1 hs2 nxt w
    induction w with
    | zero => intro u q d fv fm X ls locs h; omega
    | succ w ih =>
      intro u q d fv fm X ls locs hw' hOM hX hlo hl
      have hOM0 := hOM
      obtain ⟨g1, g2, g3, g4, g5, -, -, -⟩ := hOM0
      refine z_iload S (lv_at hl 0 rfl) d_Lo_66 ?_
      refine z_iload S (lv_at hl 3 rfl) d_Lo_68 ?_
      refine z_icmp_ge (tgt := 159) S (by decide) (by omega) (by omega) d_Lo_70 ?_ ?_
      · intro hc
        refine z_iload S (lv_at hl 12 rfl) d_Lo_159 ?_
        refine z_istore (lv' := [(12, .int (zI lo)), (11, .int (zI q)), (10, .int (zI u)), (9, .int (zI hi)), (8, .int (zI mid)), (0, .ref wA), (1, .ref nA), (2, .int (zI fr)), (3, .int (zI t)), (4, .ref (Array.size s.heap)), (5, .ref (Array.size s.heap + 1)), (6, .int (zI sz)), (7, .int (zI lo))]) S hl rfl (by decide) d_Lo_161 (fun ls hl => ?_)
        have hl : lv_has ls 14 [(12, .int (zI lo)), (0, .ref wA), (1, .ref nA), (2, .int (zI fr)), (3, .int (zI t)), (4, .ref (Array.size s.heap)), (5, .ref (Array.size s.heap + 1)), (6, .int (zI sz)), (7, .int (zI lo)), (9, .int (zI hi))] := lv_sub hl [0, 5, 6, 7, 8, 9, 10, 11, 12, 3] rfl
        obtain ⟨z1, z2⟩ := hOM.done (by omega)
        refine cpb sz lo mid hi fw fn fv fm (by omega) c3 (fun fw' fn' X ls locs hX hpt hlo hl => ?_) (hi + 1) lo fw fn X ls locs (by omega) (by omega) (by omega) hX (fun x => by rw [if_neg (by omega)]) hlo hl
        refine nxt fw' fn' fv fm X ls locs hX (fun x hx => by rw [hpt x, if_neg (by omega)]) (z1.congr (fun x x1 x2 => by rw [hpt x, if_pos (by omega)])) ?_ hlo hl
        rw [sg_same (g := pr fv fm) (fun x x1 x2 => by rw [hpt x, if_pos (by omega)])]
        exact z2
      · intro hc
        -- the left one is taken
        have tL : u < mid → (q < hi → kp (pr fw fn u) ≤ kp (pr fw fn q)) → W p l e (rm_Lo n) s m args below meth c X locs 2 (n + n) Q (F0 m 98 ls []) := by
          intro hu hk
          refine z_iconst S d_Lo_98 ?_
          refine z_goto (tgt := 103) S (by decide) d_Lo_99 ?_
          refine z_istore (lv' := [(13, .int (zI 1)), (12, .int (zI d)), (11, .int (zI q)), (10, .int (zI u)), (9, .int (zI hi)), (8, .int (zI mid)), (0, .ref wA), (1, .ref nA), (2, .int (zI fr)), (3, .int (zI t)), (4, .ref (Array.size s.heap)), (5, .ref (Array.size s.heap + 1)), (6, .int (zI sz)), (7, .int (zI lo))]) S hl rfl (by decide) d_Lo_103 (fun ls hl => ?_)
          refine z_aload S (lv_at hl 10 rfl) d_Lo_105 ?_
          refine z_iload S (lv_at hl 1 rfl) d_Lo_107 ?_
          refine z_iload S (lv_at hl 0 rfl) d_Lo_109 ?_
          refine z_if_eq (tgt := 121) S (by decide) (by omega) d_Lo_111 ?_ ?_
          · intro hc9
            omega
          · intro hc9
            refine z_aload_n S rfl (lv_at hl 6 rfl) d_Lo_114 ?_
            refine z_iload S (lv_at hl 3 rfl) d_Lo_115 ?_
            refine n_iald u S hG.I hX.1 (by omega) rfl (by omega) rfl d_Lo_117 ?_
            refine z_goto (tgt := 125) S (by decide) d_Lo_118 ?_
            refine n_iast d S hG.I hX.2.2.1 hlo hz (by omega) rfl (by omega) d_Lo_125 (fun locs hlo => ?_)
            have hX1 := hX.v' lw ln (va_up fv d (fw u))
            generalize X.setIfInBounds s.heap.size (IA (cI_ K) n (va_up fv d (fw u))) = X1 at hX1 ⊢
            refine z_aload S (lv_at hl 11 rfl) d_Lo_126 ?_
            refine z_iload S (lv_at hl 1 rfl) d_Lo_128 ?_
            refine z_iload S (lv_at hl 0 rfl) d_Lo_130 ?_
            refine z_if_eq (tgt := 145) S (by decide) (by omega) d_Lo_132 ?_ ?_
            · intro hc9
              omega
            · intro hc9
              refine z_aload_n S rfl (lv_at hl 7 rfl) d_Lo_135 ?_
              refine z_iload S (lv_at hl 3 rfl) d_Lo_136 ?_
              refine z_iinc (lv' := [(10, .int (zI (u + 1))), (13, .int (zI 1)), (12, .int (zI d)), (11, .int (zI q)), (9, .int (zI hi)), (8, .int (zI mid)), (0, .ref wA), (1, .ref nA), (2, .int (zI fr)), (3, .int (zI t)), (4, .ref (Array.size s.heap)), (5, .ref (Array.size s.heap + 1)), (6, .int (zI sz)), (7, .int (zI lo))]) (q := 3) S hl rfl rfl (by decide) d_Lo_138 (fun ls hl => ?_)
              refine n_iald u S hG.I hX1.2.1 (by omega) rfl (by omega) rfl d_Lo_141 ?_
              refine z_goto (tgt := 152) S (by decide) d_Lo_142 ?_
              refine n_iast d S hG.I hX1.2.2.2.1 hlo (by omega) (by omega) rfl (by omega) d_Lo_152 (fun locs hlo => ?_)
              have hX2 := hX1.m' lw ln (va_up fm d (fn u))
              refine z_iinc (lv' := [(12, .int (zI (d + 1))), (10, .int (zI (u + 1))), (13, .int (zI 1)), (11, .int (zI q)), (9, .int (zI hi)), (8, .int (zI mid)), (0, .ref wA), (1, .ref nA), (2, .int (zI fr)), (3, .int (zI t)), (4, .ref (Array.size s.heap)), (5, .ref (Array.size s.heap + 1)), (6, .int (zI sz)), (7, .int (zI lo))]) (q := 2) S hl rfl rfl (by decide) d_Lo_153 (fun ls hl => ?_)
              refine z_goto (tgt := 66) S (by decide) d_Lo_156 ?_
              have hl : lv_has ls 14 [(12, .int (zI (d + 1))), (11, .int (zI q)), (10, .int (zI (u + 1))), (9, .int (zI hi)), (8, .int (zI mid)), (0, .ref wA), (1, .ref nA), (2, .int (zI fr)), (3, .int (zI t)), (4, .ref (Array.size s.heap)), (5, .ref (Array.size s.heap + 1)), (6, .int (zI sz)), (7, .int (zI lo))] := lv_sub hl [0, 3, 1, 4, 5, 6, 7, 8, 9, 10, 11, 12, 13] rfl
              refine ih (u + 1) q (d + 1) _ _ _ ls locs (by omega) ?_ hX2 hlo hl
              rw [pr_up]
              exact hOM.left hs1 hs2 hu hk
        have tR : q < hi → (u < mid → kp (pr fw fn q) < kp (pr fw fn u)) → W p l e (rm_Lo n) s m args below meth c X locs 2 (n + n) Q (F0 m 102 ls []) := by
          intro hq hk
          refine z_iconst S d_Lo_102 ?_
          refine z_istore (lv' := [(13, .int (zI 0)), (12, .int (zI d)), (11, .int (zI q)), (10, .int (zI u)), (9, .int (zI hi)), (8, .int (zI mid)), (0, .ref wA), (1, .ref nA), (2, .int (zI fr)), (3, .int (zI t)), (4, .ref (Array.size s.heap)), (5, .ref (Array.size s.heap + 1)), (6, .int (zI sz)), (7, .int (zI lo))]) S hl rfl (by decide) d_Lo_103 (fun ls hl => ?_)
          refine z_aload S (lv_at hl 10 rfl) d_Lo_105 ?_
          refine z_iload S (lv_at hl 1 rfl) d_Lo_107 ?_
          refine z_iload S (lv_at hl 0 rfl) d_Lo_109 ?_
          refine z_if_eq (tgt := 121) S (by decide) (by omega) d_Lo_111 ?_ ?_
          · intro hc9
            refine z_aload_n S rfl (lv_at hl 6 rfl) d_Lo_121 ?_
            refine z_iload S (lv_at hl 2 rfl) d_Lo_122 ?_
            refine n_iald q S hG.I hX.1 (by omega) rfl (by omega) rfl d_Lo_124 ?_
            refine n_iast d S hG.I hX.2.2.1 hlo hz (by omega) rfl (by omega) d_Lo_125 (fun locs hlo => ?_)
            have hX1 := hX.v' lw ln (va_up fv d (fw q))
            generalize X.setIfInBounds s.heap.size (IA (cI_ K) n (va_up fv d (fw q))) = X1 at hX1 ⊢
            refine z_aload S (lv_at hl 11 rfl) d_Lo_126 ?_
            refine z_iload S (lv_at hl 1 rfl) d_Lo_128 ?_
            refine z_iload S (lv_at hl 0 rfl) d_Lo_130 ?_
            refine z_if_eq (tgt := 145) S (by decide) (by omega) d_Lo_132 ?_ ?_
            · intro hc9
              refine z_aload_n S rfl (lv_at hl 7 rfl) d_Lo_145 ?_
              refine z_iload S (lv_at hl 2 rfl) d_Lo_146 ?_
              refine z_iinc (lv' := [(11, .int (zI (q + 1))), (13, .int (zI 0)), (12, .int (zI d)), (10, .int (zI u)), (9, .int (zI hi)), (8, .int (zI mid)), (0, .ref wA), (1, .ref nA), (2, .int (zI fr)), (3, .int (zI t)), (4, .ref (Array.size s.heap)), (5, .ref (Array.size s.heap + 1)), (6, .int (zI sz)), (7, .int (zI lo))]) (q := 2) S hl rfl rfl (by decide) d_Lo_148 (fun ls hl => ?_)
              refine n_iald q S hG.I hX1.2.1 (by omega) rfl (by omega) rfl d_Lo_151 ?_
              refine n_iast d S hG.I hX1.2.2.2.1 hlo (by omega) (by omega) rfl (by omega) d_Lo_152 (fun locs hlo => ?_)
              have hX2 := hX1.m' lw ln (va_up fm d (fn q))
              refine z_iinc (lv' := [(12, .int (zI (d + 1))), (11, .int (zI (q + 1))), (13, .int (zI 0)), (10, .int (zI u)), (9, .int (zI hi)), (8, .int (zI mid)), (0, .ref wA), (1, .ref nA), (2, .int (zI fr)), (3, .int (zI t)), (4, .ref (Array.size s.heap)), (5, .ref (Array.size s.heap + 1)), (6, .int (zI sz)), (7, .int (zI lo))]) (q := 2) S hl rfl rfl (by decide) d_Lo_153 (fun ls hl => ?_)
              refine z_goto (tgt := 66) S (by decide) d_Lo_156 ?_
              have hl : lv_has ls 14 [(12, .int (zI (d + 1))), (11, .int (zI (q + 1))), (10, .int (zI u)), (9, .int (zI hi)), (8, .int (zI mid)), (0, .ref wA), (1, .ref nA), (2, .int (zI fr)), (3, .int (zI t)), (4, .ref (Array.size s.heap)), (5, .ref (Array.size s.heap + 1)), (6, .int (zI sz)), (7, .int (zI lo))] := lv_sub hl [0, 1, 3, 4, 5, 6, 7, 8, 9, 10, 11, 12, 13] rfl
              refine ih u (q + 1) (d + 1) _ _ _ ls locs (by omega) ?_ hX2 hlo hl
              rw [pr_up]
              exact hOM.right hs1 hs2 hq hk
            · intro hc9
              omega
          · intro hc9
            omega
        refine z_iload S (lv_at hl 1 rfl) d_Lo_73 ?_
        refine z_iload S (lv_at hl 3 rfl) d_Lo_75 ?_
        refine z_icmp_ge (tgt := 98) S (by decide) (by omega) (by omega) d_Lo_77 ?_ ?_
        · intro hc1
          exact tL (by omega) (fun h => by omega)
        · intro hc1
          refine z_iload S (lv_at hl 2 rfl) d_Lo_80 ?_
          refine z_iload S (lv_at hl 4 rfl) d_Lo_82 ?_
          refine z_icmp_ge (tgt := 102) S (by decide) (by omega) (by omega) d_Lo_84 ?_ ?_
          · intro hc2
            exact tR (by omega) (fun h => by omega)
          · intro hc2
            refine z_aload_n S rfl (lv_at hl 5 rfl) d_Lo_87 ?_
            refine z_iload S (lv_at hl 2 rfl) d_Lo_88 ?_
            refine n_iald u S hG.I hX.1 (by omega) rfl (by omega) rfl d_Lo_90 ?_
            refine z_aload_n S rfl (lv_at hl 5 rfl) d_Lo_91 ?_
            refine z_iload S (lv_at hl 1 rfl) d_Lo_92 ?_
            refine n_iald q S hG.I hX.1 (by omega) rfl (by omega) rfl d_Lo_94 ?_
            refine lv_icmp_gt (tgt := 102) S.1 S.2.1 d_Lo_95 (by decide) (fun h => ?_) (fun h => ?_)
            · rw [Int32.lt_iff_toInt_lt] at h
              exact tR (by omega) (fun _ => h)
            · rw [Int32.lt_iff_toInt_lt] at h
              exact tL (by omega) (fun _ => by show (fw u).toInt ≤ (fw q).toInt; omega)
  -- one pass, at 26
  have pass : ∀ (sz : Nat), 1 ≤ sz → sz < t - fr → (∀ (fw fn fv fm : Nat → Int32) (X : Heap) (ls : Array Slot) (locs : List Loc), OHq K n wA nA fw fn fv fm s.heap X → (∀ x, (x < fr ∨ t ≤ x) → pr fw fn x = pr fw0 fn0 x) → Eqv kp (sg (pr fw fn) fr (t - fr)) (sg (pr fw0 fn0) fr (t - fr)) → Blk kp (pr fw fn) (sz + sz) fr t → LO (N0 K) locs → lv_has ls 14 [(6, .int (zI (sz + sz : Nat))), (0, .ref wA), (1, .ref nA), (2, .int (zI fr)), (3, .int (zI t)), (4, .ref s.heap.size), (5, .ref (s.heap.size + 1))] → W p l e (rm_Lo n) s m args below meth c X locs 2 (n + n) Q (F0 m 15 ls [])) →
      ∀ (w c9 lo : Nat) (fw fn fv fm : Nat → Int32) (X : Heap) (ls : Array Slot) (locs : List Loc), t + sz + sz - lo < w → lo = fr + c9 * (2 * sz) → lo ≤ t + sz + sz → OHq K n wA nA fw fn fv fm s.heap X → (∀ x, (x < fr ∨ t ≤ x) → pr fw fn x = pr fw0 fn0 x) → Eqv kp (sg (pr fw fn) fr (t - fr)) (sg (pr fw0 fn0) fr (t - fr)) → Dn2 kp (pr fw fn) sz fr t c9 → Blk kp (pr fw fn) sz lo t → LO (N0 K) locs → lv_has ls 14 [(7, .int (zI lo)), (6, .int (zI sz)), (0, .ref wA), (1, .ref nA), (2, .int (zI fr)), (3, .int (zI t)), (4, .ref s.heap.size), (5, .ref (s.heap.size + 1))] → W p l e (rm_Lo n) s m args below meth c X locs 2 (n + n) Q (F0 m 26 ls []) := by
    intro sz s1 s2 nxt w
    induction w with
    | zero => intro c9 lo fw fn fv fm X ls locs h; omega
    | succ w ih =>
      intro c9 lo fw fn fv fm X ls locs hw' elo hlo9 hX hoff hev hdn hblk hlo hl
      have hfl : fr ≤ lo := by omega
      refine z_iload S (lv_at hl 0 rfl) d_Lo_26 ?_
      refine z_iload_n S rfl (lv_at hl 5 rfl) d_Lo_28 ?_
      refine z_icmp_ge (tgt := 206) S (by decide) (by omega) (by omega) d_Lo_29 ?_ ?_
      · intro hc
        refine z_iload S (lv_at hl 1 rfl) d_Lo_206 ?_
        refine z_iload S (lv_at hl 1 rfl) d_Lo_208 ?_
        refine z_iadd S d_Lo_210 ?_
        refine z_istore (lv' := [(6, .int (zI (sz + sz))), (7, .int (zI lo)), (0, .ref wA), (1, .ref nA), (2, .int (zI fr)), (3, .int (zI t)), (4, .ref (Array.size s.heap)), (5, .ref (Array.size s.heap + 1))]) S hl rfl (by decide) d_Lo_211 (fun ls hl => ?_)
        refine z_goto (tgt := 15) S (by decide) d_Lo_213 ?_
        have hl : lv_has ls 14 [(6, .int (zI ((sz + sz : Nat) : Int))), (7, .int (zI lo)), (0, .ref wA), (1, .ref nA), (2, .int (zI fr)), (3, .int (zI t)), (4, .ref (Array.size s.heap)), (5, .ref (Array.size s.heap + 1))] := lv_ren hl 0 rfl (show (sz + sz) = ((sz + sz : Nat) : Int) by omega)
        exact nxt fw fn fv fm X ls locs hX hoff hev (hdn.all (by omega)) hlo (lv_sub hl [0, 2, 3, 4, 5, 6, 7] rfl)
      · intro hc
        refine z_iload S (lv_at hl 0 rfl) d_Lo_32 ?_
        refine z_iload S (lv_at hl 1 rfl) d_Lo_34 ?_
        refine z_iadd S d_Lo_36 ?_
        refine z_iload_n S rfl (lv_at hl 5 rfl) d_Lo_37 ?_
        refine z_callS (n := 2) S (ct_Mn l K _ _ (by omega) (by omega)) tc_Mn tm_L7 ts_Mn tn_H (by decide) ⟨by show 0 + 1 ≤ 1; omega, by show 8 + (2 + 11) + 0 ≤ 21; omega⟩ rfl hG (keep hX) hlo trivial hl rfl (by decide) ⟨by show 2 + 0 ≤ 2; omega, by show n + n + 0 ≤ n + n; omega⟩ d_Lo_38 (fun v H1 locs hp hlo => ?_)
        obtain ⟨rfl, eH⟩ := hp
        rw [eH]
        refine W.cs (cells' := 2) (slots' := n + n) rfl rfl ?_
        have hmid : ∃ mid : Nat, (if (lo : Int) + sz ≤ t then (lo : Int) + sz else (t : Int)) = (mid : Int) ∧ mid = min (lo + sz) t := by
          by_cases h : (lo : Int) + sz ≤ t
          · rw [if_pos h]; exact ⟨lo + sz, by omega, by omega⟩
          · rw [if_neg h]; exact ⟨t, rfl, by omega⟩
        obtain ⟨mid, em, emid⟩ := hmid
        rw [em]
        refine z_istore (lv' := [(8, .int (zI mid)), (7, .int (zI lo)), (6, .int (zI sz)), (0, .ref wA), (1, .ref nA), (2, .int (zI fr)), (3, .int (zI t)), (4, .ref (Array.size s.heap)), (5, .ref (Array.size s.heap + 1))]) S hl rfl (by decide) d_Lo_41 (fun ls hl => ?_)
        refine z_iload S (lv_at hl 0 rfl) d_Lo_43 ?_
        refine z_iload S (lv_at hl 2 rfl) d_Lo_45 ?_
        refine z_iadd S d_Lo_47 ?_
        refine z_iload_n S rfl (lv_at hl 6 rfl) d_Lo_48 ?_
        refine z_callS (n := 2) S (ct_Mn l K _ _ (by omega) (by omega)) tc_Mn tm_L7 ts_Mn tn_H (by decide) ⟨by show 0 + 1 ≤ 1; omega, by show 8 + (2 + 11) + 0 ≤ 21; omega⟩ rfl hG (keep hX) hlo trivial hl rfl (by decide) ⟨by show 2 + 0 ≤ 2; omega, by show n + n + 0 ≤ n + n; omega⟩ d_Lo_49 (fun v H1 locs hp hlo => ?_)
        obtain ⟨rfl, eH⟩ := hp
        rw [eH]
        refine W.cs (cells' := 2) (slots' := n + n) rfl rfl ?_
        have hhi : ∃ hi : Nat, (if (mid : Int) + sz ≤ t then (mid : Int) + sz else (t : Int)) = (hi : Int) ∧ hi = min (mid + sz) t := by
          by_cases h : (mid : Int) + sz ≤ t
          · rw [if_pos h]; exact ⟨mid + sz, by omega, by omega⟩
          · rw [if_neg h]; exact ⟨t, rfl, by omega⟩
        obtain ⟨hi, eh, ehi⟩ := hhi
        rw [eh]
        refine z_istore (lv' := [(9, .int (zI hi)), (8, .int (zI mid)), (7, .int (zI lo)), (6, .int (zI sz)), (0, .ref wA), (1, .ref nA), (2, .int (zI fr)), (3, .int (zI t)), (4, .ref (Array.size s.heap)), (5, .ref (Array.size s.heap + 1))]) S hl rfl (by decide) d_Lo_52 (fun ls hl => ?_)
        refine z_iload S (lv_at hl 2 rfl) d_Lo_54 ?_
        refine z_istore (lv' := [(10, .int (zI lo)), (9, .int (zI hi)), (8, .int (zI mid)), (7, .int (zI lo)), (6, .int (zI sz)), (0, .ref wA), (1, .ref nA), (2, .int (zI fr)), (3, .int (zI t)), (4, .ref (Array.size s.heap)), (5, .ref (Array.size s.heap + 1))]) S hl rfl (by decide) d_Lo_56 (fun ls hl => ?_)
        refine z_iload S (lv_at hl 2 rfl) d_Lo_58 ?_
        refine z_istore (lv' := [(11, .int (zI mid)), (10, .int (zI lo)), (9, .int (zI hi)), (8, .int (zI mid)), (7, .int (zI lo)), (6, .int (zI sz)), (0, .ref wA), (1, .ref nA), (2, .int (zI fr)), (3, .int (zI t)), (4, .ref (Array.size s.heap)), (5, .ref (Array.size s.heap + 1))]) S hl rfl (by decide) d_Lo_60 (fun ls hl => ?_)
        refine z_iload S (lv_at hl 4 rfl) d_Lo_62 ?_
        refine z_istore (lv' := [(12, .int (zI lo)), (11, .int (zI mid)), (10, .int (zI lo)), (9, .int (zI hi)), (8, .int (zI mid)), (7, .int (zI lo)), (6, .int (zI sz)), (0, .ref wA), (1, .ref nA), (2, .int (zI fr)), (3, .int (zI t)), (4, .ref (Array.size s.heap)), (5, .ref (Array.size s.heap + 1))]) S hl rfl (by decide) d_Lo_64 (fun ls hl => ?_)
        have hl : lv_has ls 14 [(12, .int (zI lo)), (11, .int (zI mid)), (10, .int (zI lo)), (9, .int (zI hi)), (8, .int (zI mid)), (0, .ref wA), (1, .ref nA), (2, .int (zI fr)), (3, .int (zI t)), (4, .ref (Array.size s.heap)), (5, .ref (Array.size s.heap + 1)), (6, .int (zI sz)), (7, .int (zI lo))] := lv_sub hl [0, 1, 2, 3, 4, 7, 8, 9, 10, 11, 12, 6, 5] rfl
        have b0 := hblk 0
        have b1 := hblk 1
        rw [Nat.zero_mul, Nat.add_zero] at b0
        rw [Nat.one_mul] at b1
        refine mrg sz lo mid hi fw fn (by omega) (by omega) (by omega) (b0.sub (by omega) (by omega)) ?_ ?_ (hi + 1) lo mid lo fv fm X ls locs (by omega) (OM.init (by omega) (by omega)) hX hlo hl
        · by_cases h : lo + sz ≤ t
          · rw [show mid = lo + sz by omega]
            exact b1.sub (by omega) (by omega)
          · exact Srt.small (by omega)
        · intro fw' fn' fv' fm' X ls locs hX2 hoff2 hs2 hev2 hlo hl
          refine z_iload S (lv_at hl 7 rfl) d_Lo_194 ?_
          refine z_iconst S d_Lo_196 ?_
          refine z_iload S (lv_at hl 6 rfl) d_Lo_197 ?_
          refine z_imul S d_Lo_199 ?_
          refine z_iadd S d_Lo_200 ?_
          refine z_istore (lv' := [(7, .int (zI (lo + (2 * sz)))), (0, .ref wA), (1, .ref nA), (2, .int (zI fr)), (3, .int (zI t)), (4, .ref (Array.size s.heap)), (5, .ref (Array.size s.heap + 1)), (6, .int (zI sz))]) S hl rfl (by decide) d_Lo_201 (fun ls hl => ?_)
          refine z_goto (tgt := 26) S (by decide) d_Lo_203 ?_
          have hl : lv_has ls 14 [(7, .int (zI (lo + (2 * sz)))), (6, .int (zI sz)), (0, .ref wA), (1, .ref nA), (2, .int (zI fr)), (3, .int (zI t)), (4, .ref (Array.size s.heap)), (5, .ref (Array.size s.heap + 1))] := lv_sub hl [0, 7, 1, 2, 3, 4, 5, 6] rfl
          have hl : lv_has ls 14 [(7, .int (zI ((lo + 2 * sz : Nat) : Int))), (6, .int (zI sz)), (0, .ref wA), (1, .ref nA), (2, .int (zI fr)), (3, .int (zI t)), (4, .ref (Array.size s.heap)), (5, .ref (Array.size s.heap + 1))] := lv_ren hl 0 rfl (show (lo + (2 * sz)) = ((lo + 2 * sz : Nat) : Int) by omega)
          refine ih (c9 + 1) (lo + 2 * sz) fw' fn' fv' fm' X ls locs (by omega) (by rw [Nat.add_mul]; omega) (by omega) hX2 (fun x hx => by rw [hoff2 x (by omega)]; exact hoff x hx) ?_ ?_ ?_ hlo hl
          · refine Eqv.tr ?_ hev
            have e : ∀ φ : Nat → Int32 × Int32, sg φ fr (t - fr) = sg φ fr (lo - fr) ++ (sg φ lo (hi - lo) ++ sg φ hi (t - hi)) := fun φ => by
              rw [show t - fr = (lo - fr) + ((hi - lo) + (t - hi)) by omega, sg_app, sg_app, show fr + (lo - fr) = lo by omega, show lo + (hi - lo) = hi by omega]
            rw [e (pr fw' fn'), e (pr fw fn)]
            exact (Eqv.of (sg_same (fun x x1 x2 => hoff2 x (by omega)))).app (hev2.app (Eqv.of (sg_same (fun x x1 x2 => hoff2 x (by omega)))))
          · refine hdn.step (fun x hx => hoff2 x (by omega)) ?_
            rw [← elo]
            exact hs2.sub (by omega) (by omega)
          · exact hblk.shift (fun x hx => hoff2 x (by omega))
  -- all passes, at 15
  have outer : ∀ (w sz : Nat) (fw fn fv fm : Nat → Int32) (X : Heap) (ls : Array Slot) (locs : List Loc), t - fr - sz < w → 1 ≤ sz → sz ≤ 16000 → OHq K n wA nA fw fn fv fm s.heap X → (∀ x, (x < fr ∨ t ≤ x) → pr fw fn x = pr fw0 fn0 x) → Eqv kp (sg (pr fw fn) fr (t - fr)) (sg (pr fw0 fn0) fr (t - fr)) → Blk kp (pr fw fn) sz fr t → LO (N0 K) locs → lv_has ls 14 [(6, .int (zI sz)), (0, .ref wA), (1, .ref nA), (2, .int (zI fr)), (3, .int (zI t)), (4, .ref s.heap.size), (5, .ref (s.heap.size + 1))] → W p l e (rm_Lo n) s m args below meth c X locs 2 (n + n) Q (F0 m 15 ls []) := by
    intro w
    induction w with
    | zero => intro sz fw fn fv fm X ls locs h; omega
    | succ w ih =>
      intro sz fw fn fv fm X ls locs hw' s1 s2 hX hoff hev hblk hlo hl
      refine z_iload S (lv_at hl 0 rfl) d_Lo_15 ?_
      refine z_iload_n S rfl (lv_at hl 4 rfl) d_Lo_17 ?_
      refine z_iload_n S rfl (lv_at hl 3 rfl) d_Lo_18 ?_
      refine z_isub S d_Lo_19 ?_
      refine z_icmp_ge (tgt := 216) S (by decide) (by omega) (by omega) d_Lo_20 ?_ ?_
      · intro hc
        have b0 := hblk 0
        rw [Nat.zero_mul, Nat.add_zero] at b0
        subst hQ
        subst hargs
        exact z_vret S hr hlk hlo ⟨fw, fn, rfl, hX.1, hX.2.1, by rw [hX.2.2.2.2.1]; omega, hX.2.2.2.2.2, hoff, b0.sub (by omega) (by omega), hev⟩ d_Lo_216
      · intro hc
        refine z_iload_n S rfl (lv_at hl 3 rfl) d_Lo_23 ?_
        refine z_istore (lv' := [(7, .int (zI fr)), (6, .int (zI sz)), (0, .ref wA), (1, .ref nA), (2, .int (zI fr)), (3, .int (zI t)), (4, .ref (Array.size s.heap)), (5, .ref (Array.size s.heap + 1))]) S hl rfl (by decide) d_Lo_24 (fun ls hl => ?_)
        refine pass sz s1 (by omega) (fun fw fn fv fm X ls locs hX hoff hev hblk hlo hl => ih (sz + sz) fw fn fv fm X ls locs (by omega) (by omega) (by omega) hX hoff hev hblk hlo hl) (t + sz + sz + 1) 0 fr fw fn fv fm X ls locs (by omega) (by omega) (by omega) hX hoff hev (fun i hi => by omega) hblk hlo hl
  refine z_aload_n S rfl (lv_at hl 0 rfl) d_Lo_0 ?_
  refine z_alen S hG.I hw d_Lo_1 ?_
  refine z_newi S hG tar_int (by omega) (by omega) (by show 0 + 1 ≤ 2; omega) (by show 0 + ((n : Nat) : Int).toNat ≤ n + n; omega) d_Lo_2 ?_
  rw [Int.toNat_natCast]
  have hw1 : (s.heap.push (IA (cI_ K) n (fun _ => 0)))[wA]? = some (IA (cI_ K) n fw0) := by rw [push_off lw]; exact hw
  have hn1 : (s.heap.push (IA (cI_ K) n (fun _ => 0)))[nA]? = some (IA (cI_ K) n fn0) := by rw [push_off ln]; exact hnm0
  have hv1 : (s.heap.push (IA (cI_ K) n (fun _ => 0)))[s.heap.size]? = some (IA (cI_ K) n (fun _ => 0)) := push_at
  have hz1 : (s.heap.push (IA (cI_ K) n (fun _ => 0))).size = s.heap.size + 1 := Array.size_push _
  have hq1 : ∀ q, q < s.heap.size → (s.heap.push (IA (cI_ K) n (fun _ => 0)))[q]? = s.heap[q]? := fun q h => push_off h
  generalize s.heap.push (IA (cI_ K) n (fun _ => 0)) = X1 at hw1 hn1 hv1 hz1 hq1 ⊢
  refine z_astore (lv' := [(4, .ref (Array.size s.heap)), (0, .ref wA), (1, .ref nA), (2, .int (zI fr)), (3, .int (zI t))]) S hl rfl (by decide) d_Lo_4 (fun ls hl => ?_)
  refine z_aload_n S rfl (lv_at hl 1 rfl) d_Lo_6 ?_
  refine z_alen S hG.I hw1 d_Lo_7 ?_
  refine z_newi S hG tar_int (by omega) (by omega) (by show 0 + 1 + 1 ≤ 2; omega) (by show 0 + n + ((n : Nat) : Int).toNat ≤ n + n; omega) d_Lo_8 ?_
  rw [Int.toNat_natCast]
  have hX : OHq K n wA nA fw0 fn0 (fun _ => 0) (fun _ => 0) s.heap (X1.push (IA (cI_ K) n (fun _ => 0))) := ⟨by rw [push_off (by omega)]; exact hw1, by rw [push_off (by omega)]; exact hn1, by rw [push_off (by omega)]; exact hv1, by rw [← hz1]; exact push_at, by rw [Array.size_push]; omega, fun q q1 q2 q3 => by rw [push_off (by omega)]; exact hq1 q q1⟩
  generalize X1.push (IA (cI_ K) n (fun _ => 0)) = X2 at hX ⊢
  rw [hz1]
  refine z_astore (lv' := [(5, .ref (Array.size s.heap + 1)), (4, .ref (Array.size s.heap)), (0, .ref wA), (1, .ref nA), (2, .int (zI fr)), (3, .int (zI t))]) S hl rfl (by decide) d_Lo_10 (fun ls hl => ?_)
  refine z_iconst S d_Lo_12 ?_
  refine z_istore (lv' := [(6, .int (zI 1)), (5, .ref (Array.size s.heap + 1)), (4, .ref (Array.size s.heap)), (0, .ref wA), (1, .ref nA), (2, .int (zI fr)), (3, .int (zI t))]) S hl rfl (by decide) d_Lo_13 (fun ls hl => ?_)
  refine W.cs (cells' := 2) (slots' := n + n) rfl (by omega) ?_
  exact outer (t + 1) 1 fw0 fn0 (fun _ => 0) (fun _ => 0) X2 ls [] (by omega) (by omega) (by omega) hX (fun _ _ => rfl) Eqv.rf Blk.one LO.nil (lv_sub hl [0, 3, 4, 5, 6, 2, 1] rfl)
end
section
/-! THE CLAIM OUT OF ONE WALK OF THE LAW'S BODY (the skeleton's head), and what the law's start gives -/
set_option maxRecDepth 100000
def R_law : String := "TimDrillLaw"
def lw_P (b : Addr) (xs : List Int32) (args : Array Value) (s : State) : Prop := args = #[.ref b] ∧ s.IntsAt b xs ∧ xs.length ≤ 8000 ∧ (Jvm.Cond.and given_1 narrow_1).before args s = true
def lw_Q (_ : Array Value) (s : State) (o : Outcome) (t : State) : Prop := o = .returned (some (.int 1)) ∧ Framed s o t [] 683594 7051467
def lw_Z (below : List Frame) (a : Array Value) (s : State) : State → Prop := fun t => ∃ o, t.status = .running ∧ Ended t below o ∧ lw_Q a s o t
/-- the law's own end, with 1 on the stack, nothing written that was there before, its room as the claim has it -/
theorem lw_ret {p : Program} {l : Launch} {e : Env} {s : State} {m : MethodId} {below : List Frame} {meth : Method} {c : Code} {b : Nat} (hx : p.tables.exec = Jvm.exec) (hb : c.code = code) (hr : meth.sig.returnType = ret) (hlocks : meth.locks = false) {pc : Nat} {H : Heap} {ls : Array Slot} (hdg : decode code pc = .ok (.ireturn, 1)) : W p l e room_1 s m #[Value.ref b] below meth c H [] 683594 7051467 (lw_Z below #[Value.ref b] s) (F0 m pc ls [.int 1]) := by
  intro T hT X
  obtain ⟨fs, hret, hrun, hended, hW, hframe⟩ := X.leave (v := some (.int 1)) (hlocks := hlocks) (fun h => by rw [hr] at h; cases h)
  have hmeth' : T.vm.method? m = some meth := X.method'
  refine ⟨T.setFrames fs, ?_, .returned (some (.int 1)), hrun, hended, rfl, ⟨_, rfl⟩, hW, hframe⟩
  jvm_step X.here [X.here.top, hx, hb, hdg, hmeth', hr, ret, narrow_b1]
  (try refine ⟨rfl, ?_⟩); (try refine ⟨rfl, ?_⟩)
  first | (intro acts; rw [hret _ acts rfl rfl rfl]) | rw [hret _ _ rfl rfl rfl]
  exact Steps.refl _
/-- what holds at the law's entry: the machine, the code, the tables' words (any of lw_tbl by 'hts w (by decide +kernel)'), the script of L ints xs at the cell b, what the Statement gives of the start (any of its parts by flat_of_before) -/
def lw_At (p : Program) (s : State) (m : MethodId) (meth : Method) (c : Code) (b L : Nat) (xs : Nat → Int32) : Prop :=
  p.tables.exec = Jvm.exec ∧ c.code = code ∧ meth.sig.returnType = ret ∧ c.maxLocals = 10 ∧ s.vm.findClass R_law = some m.cls ∧ (∀ w ∈ lw_tbl, w.before #[Value.ref b] s = true) ∧ va_X b L xs s s.heap ∧ b < s.heap.size ∧ meth.locks = false ∧ (Jvm.Cond.and given_1 narrow_1).before #[Value.ref b] s = true
-- words that no contract carries
theorem tl_1 : Cond.declares y_cmp ∈ lw_tbl := by decide +kernel
theorem tl_2 : Cond.interfaceMethod y_cmp.cls y_cmp.cls y_cmp.name y_cmp.desc ∈ lw_tbl := by decide +kernel
theorem tl_3 : Cond.publicMethod y_Mo ∈ lw_tbl := by decide +kernel
theorem tl_4 : Cond.unhidden "TimDrill$Mark" y_cmp.name y_cmp.desc ∈ lw_tbl := by decide +kernel
theorem tl_5 : Cond.castable "TimDrill$Mark" y_cmp.cls ∈ lw_tbl := by decide +kernel
theorem tl_6 : Cond.castable "TimDrill$Mark" "java/lang/Object" ∈ lw_tbl := by decide +kernel
theorem tl_7 : Cond.arrayOver (.object "TimDrill$Mark") ∈ lw_tbl := by decide +kernel
theorem tl_8 : Cond.arrayOver (.object "java/lang/Object") ∈ lw_tbl := by decide +kernel
theorem tl_9 : Cond.fieldLinkNest "java/util/Arrays" 112 "java/util/Arrays$LegacyMergeSort" "userRequested" "Z" "java/util/Arrays" ∈ lw_tbl := by decide +kernel
theorem tl_10 : Cond.laysStatic "java/util/ComparableTimSort" "$assertionsDisabled" "Z" ∈ lw_tbl := by decide +kernel
theorem tl_11 : Cond.laysStatic "java/util/Arrays$LegacyMergeSort" "userRequested" "Z" ∈ lw_tbl := by decide +kernel
theorem tl_12 : Cond.eq (.static "java/util/ComparableTimSort" "$assertionsDisabled" "Z") (.int 1) ∈ flatC (Jvm.Cond.and given_1 narrow_1) := by decide +kernel
theorem tl_13 : Cond.eq (.static "java/util/Arrays$LegacyMergeSort" "userRequested" "Z") (.int 0) ∈ flatC (Jvm.Cond.and given_1 narrow_1) := by decide +kernel
/-- what the law's start gives -/
theorem gn_start {p : Program} {s : State} {m : MethodId} {meth : Method} {c : Code} {b L : Nat} {xs : Nat → Int32} (C0 : lw_At p s m meth c b L xs) : ∃ K : KD, N0 K = s.heap.size ∧ GN K s := by
  obtain ⟨-, -, -, -, -, hts, -, -, -, hgv⟩ := C0
  have hTT : ∀ w ∈ TT, w.before #[Value.ref b] s = true := fun w h => hts w (TT_in w h)
  obtain ⟨c1, i1, k1⟩ := u_known hTT tin_Mark (hTT _ tins_M)
  obtain ⟨c2, i2, k2⟩ := u_known hTT tin_Drill (hTT _ tins_D)
  obtain ⟨c3, i3, k3⟩ := u_known hTT tin_Cts (hTT _ tins_C)
  obtain ⟨cI, kI, pI, a1, a2, a3⟩ := Cond.arrayClass_spec (hTT _ tar_int)
  obtain ⟨pM, cM, kM, m1, -, m2, m3, m4⟩ := Cond.arrayOver_spec (hts _ tl_7)
  obtain ⟨pO, cO, kO, o1, -, o2, o3, o4⟩ := Cond.arrayOver_spec (hts _ tl_8)
  have hfl := flat_of_before _ hgv
  refine ⟨((fun i => match i with | 0 => c1 | 1 => c2 | _ => c3, fun i => match i with | 0 => i1 | 1 => i2 | _ => i3), cI, cM, cO, s.heap.size), rfl, ⟨⟨?_, ?_⟩, va_Fw.of (hts _ tl_1) (hts _ tl_2) (hts _ tl_3) (hts _ tl_4) (hts _ tl_5), va_Nw.of rfl (hts _ tl_6), va_AO.of (hts _ tl_7), va_AO.of (hts _ tl_8), va_Nw.of rfl (hts _ tl_9)⟩, ?_, ?_, Nat.le_refl _⟩
  · intro k q hq
    have hk : k < 3 := (List.getElem?_eq_some_iff.mp hq).1
    rcases (show k = 0 ∨ k = 1 ∨ k = 2 by omega) with rfl | rfl | rfl
    · cases hq; exact k1
    · cases hq; exact k2
    · cases hq; exact k3
  · intro k q hq
    have hk : k < 3 := (List.getElem?_eq_some_iff.mp hq).1
    rcases (show k = 0 ∨ k = 1 ∨ k = 2 by omega) with rfl | rfl | rfl
    · cases hq
      exact ⟨fun N z => ⟨(fun k h => by cases h), kI, a2, pI, a3⟩, a1⟩
    · cases hq
      exact ⟨fun N z => ⟨(fun k h => by cases h), kM, m2, pM, m3⟩, kM, pM, m2, m3, m1, m4⟩
    · cases hq
      exact ⟨fun N z => ⟨(fun k h => by cases h), kO, o2, pO, o3⟩, kO, pO, o2, o3, o1, o4⟩
  · exact va_Zof (hts _ tl_10) (hTT _ tn_C) (va_eqi (hfl _ tl_12)) (fun a ha h => by have : s.heap.size ≤ a := h; omega)
  · exact va_Zof (hts _ tl_11) (hTT _ tn_G) (va_eqi (hfl _ tl_13)) (fun a ha h => by have : s.heap.size ≤ a := h; omega)
section ZS
variable {p : Program} {l : Launch} {e : Env} {R : Room} {s : State} {m : MethodId} {args : Array Value} {below : List Frame} {meth : Method} {c : Code} {H : Heap} {locs : List Loc} {cells slots : Nat} {Q : State → Prop}
variable {cc : ByteArray} {pc nL : Nat} {ls : Array Slot} {rest : List Value} {c0 : Cond} {own : String} {b L : Nat} {xs : Nat → Int32}
theorem z_sld {i : Int} (j : Nat) (S : CallFix p m c cc nL s args (c0 :: TT) own) (hX : va_X b L xs s s.heap) (hb : H[b]? = s.heap[b]?) (hL : L < 2147483648) (hi : i = (j : Int)) (h1 : j < L) (hd : decode cc pc = .ok (.iaload, 1))
    (kk : W p l e R s m args below meth c H locs cells slots Q (F0 m (pc + 1) ls (.int (xs j) :: rest))) : W p l e R s m args below meth c H locs cells slots Q (F0 m pc ls (.int (zI i) :: .ref b :: rest)) := by
  subst hi
  obtain ⟨scr, h2, h3, h4, h5, h6⟩ := hX
  exact W.iald (v := .int (xs j)) S.1 S.2.1 (by rw [hb]; exact h2) h3 h4 (by rw [h5]; exact z_ix (by omega) (by omega) hL) (by rw [zI_cl (by omega) (by omega), Int.toNat_natCast]; exact h6 j h1) rfl rfl hd kk
theorem z_slen (S : CallFix p m c cc nL s args (c0 :: TT) own) (hX : va_X b L xs s s.heap) (hb : H[b]? = s.heap[b]?) (hd : decode cc pc = .ok (.arraylength, 1))
    (kk : W p l e R s m args below meth c H locs cells slots Q (F0 m (pc + 1) ls (.int (zI L) :: rest))) : W p l e R s m args below meth c H locs cells slots Q (F0 m pc ls (.ref b :: rest)) := by
  obtain ⟨scr, h2, h3, h4, h5, h6⟩ := hX
  rw [← zI_nat] at kk
  exact W.alen (n := Int32.ofNat L) S.1 S.2.1 (by rw [hb]; exact h2) h3 (by rw [h5] <;> rfl) rfl rfl hd kk
end ZS
/-- a mark's weight and name, by its reference -/
def phi_ (wt nm : Nat → Int32) (o : Option Nat) : Int32 × Int32 := match o with
  | some y => (wt y, nm y)
  | none => (0, 0)
theorem phi_key {wt nm : Nat → Int32} (o : Option Nat) : kp (phi_ wt nm o) = kw wt o := by
  cases o <;> rfl
/-- the drill's row and the law's two arrays say the same -/
def REL (wt nm : Nat → Int32) (n : Nat) (f : Nat → Option Nat) (fw fn : Nat → Int32) : Prop := ∀ j, j < n → phi_ wt nm (f j) = pr fw fn j
theorem REL.sort {wt nm : Nat → Int32} {n fr t : Nat} {f f' : Nat → Option Nat} {fw fn fw' fn' : Nat → Int32} (h : REL wt nm n f fw fn) (hft : fr ≤ t) (htn : t ≤ n) (h1 : ∀ x, (x < fr ∨ t ≤ x) → f' x = f x) (h2 : Srt (kw wt) f' fr (t - fr)) (h3 : Eqv (kw wt) (sg f' fr (t - fr)) (sg f fr (t - fr))) (g1 : ∀ x, (x < fr ∨ t ≤ x) → pr fw' fn' x = pr fw fn x) (g2 : Srt kp (pr fw' fn') fr (t - fr)) (g3 : Eqv kp (sg (pr fw' fn') fr (t - fr)) (sg (pr fw fn) fr (t - fr))) : REL wt nm n f' fw' fn' := by
  have e1 : sg (fun j => phi_ wt nm (f j)) fr (t - fr) = sg (pr fw fn) fr (t - fr) := sg_same (fun x x1 x2 => h x (by omega))
  have m3 := h3.map (k2 := kp) (phi_ wt nm) (fun x => phi_key x)
  rw [sg_map, sg_map, e1] at m3
  have m2 : Srt kp (fun j => phi_ wt nm (f' j)) fr (t - fr) := fun x y x1 x2 x3 => by
    show kp (phi_ wt nm (f' x)) ≤ kp (phi_ wt nm (f' y))
    rw [phi_key, phi_key]
    exact h2 x y x1 x2 x3
  have eq := Eqv.uniq m2.up g2.up (m3.tr g3.sy)
  intro j hj
  by_cases hx : fr ≤ j ∧ j < t
  · have := sg_inj eq (j - fr) (by omega)
    rw [show fr + (j - fr) = j by omega] at this
    exact this
  · rw [h1 j (by omega), g1 j (by omega)]
    exact h j hj
end
section
/-! the walk of the law's body -/
set_option maxRecDepth 100000
/-- the law's heap: its two arrays at N, N + 1, the drill at N + 2, the drill's row at N + 3, marks behind -/
def LSq (K : KD) (N n : Nat) (f : Nat → Option Nat) (fw fn : Nat → Int32) (M : Nat → Prop) (wt nm : Nat → Int32) (H0 X : Heap) : Prop := DR K (N + 2) (N + 3) X ∧ X[N + 3]? = some (RA (cM_ K) n f) ∧ MS K M wt nm X ∧ X[N]? = some (IA (cI_ K) n fw) ∧ X[N + 1]? = some (IA (cI_ K) n fn) ∧ Full M f 0 n ∧ REL wt nm n f fw fn ∧ (∀ y, M y → N + 4 ≤ y) ∧ N + 4 ≤ X.size ∧ ∀ q, q < N → X[q]? = H0[q]?
theorem ls_sort {K : KD} {N n fr t : Nat} {f : Nat → Option Nat} {fw fn : Nat → Int32} {M : Nat → Prop} {wt nm : Nat → Int32} {H0 X X1 : Heap} {v : Option Value} (h : LSq K N n f fw fn M wt nm H0 X) (hft : fr ≤ t) (htn : t ≤ n) (hp : Psort K (N + 3) n fr t f M wt X v X1) :
    v = none ∧ X1[N]? = some (IA (cI_ K) n fw) ∧ X1[N + 1]? = some (IA (cI_ K) n fn) ∧ N + 4 ≤ X1.size ∧ (∀ q, q < N → X1[q]? = H0[q]?) ∧ ∀ (v2 : Option Value) (X2 : Heap), Plo K n N (N + 1) fr t fw fn X1 v2 X2 → v2 = none ∧ ∃ (f' : Nat → Option Nat) (fw' fn' : Nat → Int32), LSq K N n f' fw' fn' M wt nm H0 X2 := by
  obtain ⟨h1, h2, h3, h4, h5, h6, h7, h8, h9, h10⟩ := h
  obtain ⟨f', rfl, p1, p2, p3, p4, p5, p6, p7⟩ := hp
  have hm : ∀ y, M y → X1[y]? = X[y]? := fun y hy => p3 y (h3 y hy).lt (by have := h8 y hy; omega)
  refine ⟨rfl, by rw [p3 _ (by omega) (by omega)]; exact h4, by rw [p3 _ (by omega) (by omega)]; exact h5, by omega, fun q hq => by rw [p3 q (by omega) (by omega)]; exact h10 q hq, ?_⟩
  intro v2 X2 hq
  obtain ⟨fw', fn', rfl, q1, q2, q3, q4, q5, q6, q7⟩ := hq
  refine ⟨rfl, f', fw', fn', ?_, ?_, ?_, q1, q2, p7, h7.sort hft htn p4 p5 p6 q5 q6 q7, h8, by omega, ?_⟩
  · exact (h1.kept (p3 _ (by omega) (by omega))).kept (q4 _ (by omega) (by omega) (by omega))
  · rw [q4 _ (by omega) (by omega) (by omega)]; exact p1
  · refine (h3.kept hm).kept (fun y hy => ?_)
    have := h8 y hy
    have := (h3 y hy).lt
    exact q4 y (by omega) (by omega) (by omega)
  · intro q hq
    rw [q4 q (by omega) (by omega) (by omega), p3 q (by omega) (by omega)]
    exact h10 q hq
theorem d_Lw_0 : decode code 0 = .ok (.aload_n 0, 1) := by decide +kernel
theorem d_Lw_1 : decode code 1 = .ok (.arraylength, 1) := by decide +kernel
theorem d_Lw_2 : decode code 2 = .ok (.istore_n 1, 1) := by decide +kernel
theorem d_Lw_3 : decode code 3 = .ok (.iload_n 1, 1) := by decide +kernel
theorem d_Lw_4 : decode code 4 = .ok (.iconst 2, 1) := by decide +kernel
theorem d_Lw_5 : decode code 5 = .ok (.if_icmp .ge 5, 3) := by decide +kernel
theorem d_Lw_8 : decode code 8 = .ok (.iconst 1, 1) := by decide +kernel
theorem d_Lw_9 : decode code 9 = .ok (.ireturn, 1) := by decide +kernel
theorem d_Lw_10 : decode code 10 = .ok (.aload_n 0, 1) := by decide +kernel
theorem d_Lw_11 : decode code 11 = .ok (.iconst 0, 1) := by decide +kernel
theorem d_Lw_12 : decode code 12 = .ok (.iaload, 1) := by decide +kernel
theorem d_Lw_13 : decode code 13 = .ok (.bipush 7, 2) := by decide +kernel
theorem d_Lw_15 : decode code 15 = .ok (.iand, 1) := by decide +kernel
theorem d_Lw_16 : decode code 16 = .ok (.istore_n 2, 1) := by decide +kernel
theorem d_Lw_17 : decode code 17 = .ok (.aload_n 0, 1) := by decide +kernel
theorem d_Lw_18 : decode code 18 = .ok (.iconst 1, 1) := by decide +kernel
theorem d_Lw_19 : decode code 19 = .ok (.iaload, 1) := by decide +kernel
theorem d_Lw_20 : decode code 20 = .ok (.istore_n 3, 1) := by decide +kernel
theorem d_Lw_21 : decode code 21 = .ok (.iload_n 1, 1) := by decide +kernel
theorem d_Lw_22 : decode code 22 = .ok (.newarray .int, 2) := by decide +kernel
theorem d_Lw_24 : decode code 24 = .ok (.astore 4, 2) := by decide +kernel
theorem d_Lw_26 : decode code 26 = .ok (.iload_n 1, 1) := by decide +kernel
theorem d_Lw_27 : decode code 27 = .ok (.newarray .int, 2) := by decide +kernel
theorem d_Lw_29 : decode code 29 = .ok (.astore 5, 2) := by decide +kernel
theorem d_Lw_31 : decode code 31 = .ok (.iconst 0, 1) := by decide +kernel
theorem d_Lw_32 : decode code 32 = .ok (.istore 6, 2) := by decide +kernel
theorem d_Lw_34 : decode code 34 = .ok (.iload 6, 2) := by decide +kernel
theorem d_Lw_36 : decode code 36 = .ok (.iload_n 1, 1) := by decide +kernel
theorem d_Lw_37 : decode code 37 = .ok (.if_icmp .ge 153, 3) := by decide +kernel
theorem d_Lw_40 : decode code 40 = .ok (.aload_n 0, 1) := by decide +kernel
theorem d_Lw_41 : decode code 41 = .ok (.iload 6, 2) := by decide +kernel
theorem d_Lw_43 : decode code 43 = .ok (.iaload, 1) := by decide +kernel
theorem d_Lw_44 : decode code 44 = .ok (.istore 7, 2) := by decide +kernel
theorem d_Lw_46 : decode code 46 = .ok (.aload 4, 2) := by decide +kernel
theorem d_Lw_48 : decode code 48 = .ok (.iload 6, 2) := by decide +kernel
theorem d_Lw_50 : decode code 50 = .ok (.iload_n 2, 1) := by decide +kernel
theorem d_Lw_51 : decode code 51 = .ok (.iconst 2, 1) := by decide +kernel
theorem d_Lw_52 : decode code 52 = .ok (.if_icmp .ge 8, 3) := by decide +kernel
theorem d_Lw_55 : decode code 55 = .ok (.iload 7, 2) := by decide +kernel
theorem d_Lw_57 : decode code 57 = .ok (.goto 119, 3) := by decide +kernel
theorem d_Lw_60 : decode code 60 = .ok (.iload_n 2, 1) := by decide +kernel
theorem d_Lw_61 : decode code 61 = .ok (.iconst 2, 1) := by decide +kernel
theorem d_Lw_62 : decode code 62 = .ok (.if_icmp .ne 11, 3) := by decide +kernel
theorem d_Lw_65 : decode code 65 = .ok (.iload 7, 2) := by decide +kernel
theorem d_Lw_67 : decode code 67 = .ok (.bipush 7, 2) := by decide +kernel
theorem d_Lw_69 : decode code 69 = .ok (.iand, 1) := by decide +kernel
theorem d_Lw_70 : decode code 70 = .ok (.goto 106, 3) := by decide +kernel
theorem d_Lw_73 : decode code 73 = .ok (.iload_n 2, 1) := by decide +kernel
theorem d_Lw_74 : decode code 74 = .ok (.iconst 3, 1) := by decide +kernel
theorem d_Lw_75 : decode code 75 = .ok (.if_icmp .ne 25, 3) := by decide +kernel
theorem d_Lw_78 : decode code 78 = .ok (.iload 6, 2) := by decide +kernel
theorem d_Lw_80 : decode code 80 = .ok (.sipush 211, 3) := by decide +kernel
theorem d_Lw_83 : decode code 83 = .ok (.idiv, 1) := by decide +kernel
theorem d_Lw_84 : decode code 84 = .ok (.iconst 1, 1) := by decide +kernel
theorem d_Lw_85 : decode code 85 = .ok (.iand, 1) := by decide +kernel
theorem d_Lw_86 : decode code 86 = .ok (.ifCond .ne 8, 3) := by decide +kernel
theorem d_Lw_89 : decode code 89 = .ok (.iload 6, 2) := by decide +kernel
theorem d_Lw_91 : decode code 91 = .ok (.goto 85, 3) := by decide +kernel
theorem d_Lw_94 : decode code 94 = .ok (.iload 6, 2) := by decide +kernel
theorem d_Lw_96 : decode code 96 = .ok (.ineg, 1) := by decide +kernel
theorem d_Lw_97 : decode code 97 = .ok (.goto 79, 3) := by decide +kernel
theorem d_Lw_100 : decode code 100 = .ok (.iload_n 2, 1) := by decide +kernel
theorem d_Lw_101 : decode code 101 = .ok (.iconst 4, 1) := by decide +kernel
theorem d_Lw_102 : decode code 102 = .ok (.if_icmp .ne 14, 3) := by decide +kernel
theorem d_Lw_105 : decode code 105 = .ok (.iload 6, 2) := by decide +kernel
theorem d_Lw_107 : decode code 107 = .ok (.iload 7, 2) := by decide +kernel
theorem d_Lw_109 : decode code 109 = .ok (.bipush 7, 2) := by decide +kernel
theorem d_Lw_111 : decode code 111 = .ok (.iand, 1) := by decide +kernel
theorem d_Lw_112 : decode code 112 = .ok (.iadd, 1) := by decide +kernel
theorem d_Lw_113 : decode code 113 = .ok (.goto 63, 3) := by decide +kernel
theorem d_Lw_116 : decode code 116 = .ok (.iload_n 2, 1) := by decide +kernel
theorem d_Lw_117 : decode code 117 = .ok (.iconst 5, 1) := by decide +kernel
theorem d_Lw_118 : decode code 118 = .ok (.if_icmp .ne 11, 3) := by decide +kernel
theorem d_Lw_121 : decode code 121 = .ok (.iload 6, 2) := by decide +kernel
theorem d_Lw_123 : decode code 123 = .ok (.ineg, 1) := by decide +kernel
theorem d_Lw_124 : decode code 124 = .ok (.iconst 3, 1) := by decide +kernel
theorem d_Lw_125 : decode code 125 = .ok (.idiv, 1) := by decide +kernel
theorem d_Lw_126 : decode code 126 = .ok (.goto 50, 3) := by decide +kernel
theorem d_Lw_129 : decode code 129 = .ok (.iload_n 2, 1) := by decide +kernel
theorem d_Lw_130 : decode code 130 = .ok (.bipush 6, 2) := by decide +kernel
theorem d_Lw_132 : decode code 132 = .ok (.if_icmp .ne 30, 3) := by decide +kernel
theorem d_Lw_135 : decode code 135 = .ok (.iload 6, 2) := by decide +kernel
theorem d_Lw_137 : decode code 137 = .ok (.sipush 500, 3) := by decide +kernel
theorem d_Lw_140 : decode code 140 = .ok (.idiv, 1) := by decide +kernel
theorem d_Lw_141 : decode code 141 = .ok (.sipush 500, 3) := by decide +kernel
theorem d_Lw_144 : decode code 144 = .ok (.imul, 1) := by decide +kernel
theorem d_Lw_145 : decode code 145 = .ok (.iload 6, 2) := by decide +kernel
theorem d_Lw_147 : decode code 147 = .ok (.sipush 500, 3) := by decide +kernel
theorem d_Lw_150 : decode code 150 = .ok (.irem, 1) := by decide +kernel
theorem d_Lw_151 : decode code 151 = .ok (.bipush 16, 2) := by decide +kernel
theorem d_Lw_153 : decode code 153 = .ok (.imul, 1) := by decide +kernel
theorem d_Lw_154 : decode code 154 = .ok (.sipush 8000, 3) := by decide +kernel
theorem d_Lw_157 : decode code 157 = .ok (.irem, 1) := by decide +kernel
theorem d_Lw_158 : decode code 158 = .ok (.iadd, 1) := by decide +kernel
theorem d_Lw_159 : decode code 159 = .ok (.goto 17, 3) := by decide +kernel
theorem d_Lw_162 : decode code 162 = .ok (.iload 6, 2) := by decide +kernel
theorem d_Lw_164 : decode code 164 = .ok (.bipush 31, 2) := by decide +kernel
theorem d_Lw_166 : decode code 166 = .ok (.imul, 1) := by decide +kernel
theorem d_Lw_167 : decode code 167 = .ok (.sipush 1023, 3) := by decide +kernel
theorem d_Lw_170 : decode code 170 = .ok (.iand, 1) := by decide +kernel
theorem d_Lw_171 : decode code 171 = .ok (.iload 7, 2) := by decide +kernel
theorem d_Lw_173 : decode code 173 = .ok (.iconst 1, 1) := by decide +kernel
theorem d_Lw_174 : decode code 174 = .ok (.iand, 1) := by decide +kernel
theorem d_Lw_175 : decode code 175 = .ok (.iadd, 1) := by decide +kernel
theorem d_Lw_176 : decode code 176 = .ok (.iastore, 1) := by decide +kernel
theorem d_Lw_177 : decode code 177 = .ok (.aload 5, 2) := by decide +kernel
theorem d_Lw_179 : decode code 179 = .ok (.iload 6, 2) := by decide +kernel
theorem d_Lw_181 : decode code 181 = .ok (.iload 6, 2) := by decide +kernel
theorem d_Lw_183 : decode code 183 = .ok (.iastore, 1) := by decide +kernel
theorem d_Lw_184 : decode code 184 = .ok (.iinc 6 1, 3) := by decide +kernel
theorem d_Lw_187 : decode code 187 = .ok (.goto (-153), 3) := by decide +kernel
theorem d_Lw_190 : decode code 190 = .ok (.new 13, 3) := by decide +kernel
theorem d_Lw_193 : decode code 193 = .ok (.dup, 1) := by decide +kernel
theorem d_Lw_194 : decode code 194 = .ok (.aload 4, 2) := by decide +kernel
theorem d_Lw_196 : decode code 196 = .ok (.invokespecial 15, 3) := by decide +kernel
theorem d_Lw_199 : decode code 199 = .ok (.astore 6, 2) := by decide +kernel
theorem d_Lw_201 : decode code 201 = .ok (.iload_n 3, 1) := by decide +kernel
theorem d_Lw_202 : decode code 202 = .ok (.iload_n 1, 1) := by decide +kernel
theorem d_Lw_203 : decode code 203 = .ok (.invokestatic 18, 3) := by decide +kernel
theorem d_Lw_206 : decode code 206 = .ok (.istore 7, 2) := by decide +kernel
theorem d_Lw_208 : decode code 208 = .ok (.iload 7, 2) := by decide +kernel
theorem d_Lw_210 : decode code 210 = .ok (.iload_n 3, 1) := by decide +kernel
theorem d_Lw_211 : decode code 211 = .ok (.bipush 7, 2) := by decide +kernel
theorem d_Lw_213 : decode code 213 = .ok (.iushr, 1) := by decide +kernel
theorem d_Lw_214 : decode code 214 = .ok (.iload_n 1, 1) := by decide +kernel
theorem d_Lw_215 : decode code 215 = .ok (.iload 7, 2) := by decide +kernel
theorem d_Lw_217 : decode code 217 = .ok (.isub, 1) := by decide +kernel
theorem d_Lw_218 : decode code 218 = .ok (.iconst 1, 1) := by decide +kernel
theorem d_Lw_219 : decode code 219 = .ok (.iadd, 1) := by decide +kernel
theorem d_Lw_220 : decode code 220 = .ok (.invokestatic 18, 3) := by decide +kernel
theorem d_Lw_223 : decode code 223 = .ok (.iadd, 1) := by decide +kernel
theorem d_Lw_224 : decode code 224 = .ok (.istore 8, 2) := by decide +kernel
theorem d_Lw_226 : decode code 226 = .ok (.aload 6, 2) := by decide +kernel
theorem d_Lw_228 : decode code 228 = .ok (.iload 7, 2) := by decide +kernel
theorem d_Lw_230 : decode code 230 = .ok (.iload 8, 2) := by decide +kernel
theorem d_Lw_232 : decode code 232 = .ok (.invokevirtual 21, 3) := by decide +kernel
theorem d_Lw_235 : decode code 235 = .ok (.aload 4, 2) := by decide +kernel
theorem d_Lw_237 : decode code 237 = .ok (.aload 5, 2) := by decide +kernel
theorem d_Lw_239 : decode code 239 = .ok (.iload 7, 2) := by decide +kernel
theorem d_Lw_241 : decode code 241 = .ok (.iload 8, 2) := by decide +kernel
theorem d_Lw_243 : decode code 243 = .ok (.invokestatic 25, 3) := by decide +kernel
theorem d_Lw_246 : decode code 246 = .ok (.iconst 0, 1) := by decide +kernel
theorem d_Lw_247 : decode code 247 = .ok (.istore 9, 2) := by decide +kernel
theorem d_Lw_249 : decode code 249 = .ok (.iload 9, 2) := by decide +kernel
theorem d_Lw_251 : decode code 251 = .ok (.iload_n 1, 1) := by decide +kernel
theorem d_Lw_252 : decode code 252 = .ok (.if_icmp .ge 26, 3) := by decide +kernel
theorem d_Lw_255 : decode code 255 = .ok (.aload 6, 2) := by decide +kernel
theorem d_Lw_257 : decode code 257 = .ok (.iload 9, 2) := by decide +kernel
theorem d_Lw_259 : decode code 259 = .ok (.invokevirtual 31, 3) := by decide +kernel
theorem d_Lw_262 : decode code 262 = .ok (.aload 5, 2) := by decide +kernel
theorem d_Lw_264 : decode code 264 = .ok (.iload 9, 2) := by decide +kernel
theorem d_Lw_266 : decode code 266 = .ok (.iaload, 1) := by decide +kernel
theorem d_Lw_267 : decode code 267 = .ok (.if_icmp .eq 5, 3) := by decide +kernel
theorem d_Lw_272 : decode code 272 = .ok (.iinc 9 1, 3) := by decide +kernel
theorem d_Lw_275 : decode code 275 = .ok (.goto (-26), 3) := by decide +kernel
theorem d_Lw_278 : decode code 278 = .ok (.iconst 0, 1) := by decide +kernel
theorem d_Lw_279 : decode code 279 = .ok (.istore 9, 2) := by decide +kernel
theorem d_Lw_281 : decode code 281 = .ok (.iload 9, 2) := by decide +kernel
theorem d_Lw_283 : decode code 283 = .ok (.iload_n 1, 1) := by decide +kernel
theorem d_Lw_284 : decode code 284 = .ok (.if_icmp .ge 47, 3) := by decide +kernel
theorem d_Lw_287 : decode code 287 = .ok (.aload 4, 2) := by decide +kernel
theorem d_Lw_289 : decode code 289 = .ok (.iload 9, 2) := by decide +kernel
theorem d_Lw_291 : decode code 291 = .ok (.aload_n 0, 1) := by decide +kernel
theorem d_Lw_292 : decode code 292 = .ok (.iload_n 1, 1) := by decide +kernel
theorem d_Lw_293 : decode code 293 = .ok (.iconst 1, 1) := by decide +kernel
theorem d_Lw_294 : decode code 294 = .ok (.isub, 1) := by decide +kernel
theorem d_Lw_295 : decode code 295 = .ok (.iload 9, 2) := by decide +kernel
theorem d_Lw_297 : decode code 297 = .ok (.isub, 1) := by decide +kernel
theorem d_Lw_298 : decode code 298 = .ok (.iaload, 1) := by decide +kernel
theorem d_Lw_299 : decode code 299 = .ok (.iastore, 1) := by decide +kernel
theorem d_Lw_300 : decode code 300 = .ok (.aload 5, 2) := by decide +kernel
theorem d_Lw_302 : decode code 302 = .ok (.iload 9, 2) := by decide +kernel
theorem d_Lw_304 : decode code 304 = .ok (.iload_n 1, 1) := by decide +kernel
theorem d_Lw_305 : decode code 305 = .ok (.iload 9, 2) := by decide +kernel
theorem d_Lw_307 : decode code 307 = .ok (.iadd, 1) := by decide +kernel
theorem d_Lw_308 : decode code 308 = .ok (.iastore, 1) := by decide +kernel
theorem d_Lw_309 : decode code 309 = .ok (.aload 6, 2) := by decide +kernel
theorem d_Lw_311 : decode code 311 = .ok (.iload 9, 2) := by decide +kernel
theorem d_Lw_313 : decode code 313 = .ok (.aload 4, 2) := by decide +kernel
theorem d_Lw_315 : decode code 315 = .ok (.iload 9, 2) := by decide +kernel
theorem d_Lw_317 : decode code 317 = .ok (.iaload, 1) := by decide +kernel
theorem d_Lw_318 : decode code 318 = .ok (.iload_n 1, 1) := by decide +kernel
theorem d_Lw_319 : decode code 319 = .ok (.iload 9, 2) := by decide +kernel
theorem d_Lw_321 : decode code 321 = .ok (.iadd, 1) := by decide +kernel
theorem d_Lw_322 : decode code 322 = .ok (.invokevirtual 35, 3) := by decide +kernel
theorem d_Lw_325 : decode code 325 = .ok (.iinc 9 89, 3) := by decide +kernel
theorem d_Lw_328 : decode code 328 = .ok (.goto (-47), 3) := by decide +kernel
theorem d_Lw_331 : decode code 331 = .ok (.aload 6, 2) := by decide +kernel
theorem d_Lw_333 : decode code 333 = .ok (.iconst 0, 1) := by decide +kernel
theorem d_Lw_334 : decode code 334 = .ok (.iload_n 1, 1) := by decide +kernel
theorem d_Lw_335 : decode code 335 = .ok (.invokevirtual 21, 3) := by decide +kernel
theorem d_Lw_338 : decode code 338 = .ok (.aload 4, 2) := by decide +kernel
theorem d_Lw_340 : decode code 340 = .ok (.aload 5, 2) := by decide +kernel
theorem d_Lw_342 : decode code 342 = .ok (.iconst 0, 1) := by decide +kernel
theorem d_Lw_343 : decode code 343 = .ok (.iload_n 1, 1) := by decide +kernel
theorem d_Lw_344 : decode code 344 = .ok (.invokestatic 25, 3) := by decide +kernel
theorem d_Lw_347 : decode code 347 = .ok (.iconst 0, 1) := by decide +kernel
theorem d_Lw_348 : decode code 348 = .ok (.istore 9, 2) := by decide +kernel
theorem d_Lw_350 : decode code 350 = .ok (.iload 9, 2) := by decide +kernel
theorem d_Lw_352 : decode code 352 = .ok (.iload_n 1, 1) := by decide +kernel
theorem d_Lw_353 : decode code 353 = .ok (.if_icmp .ge 26, 3) := by decide +kernel
theorem d_Lw_356 : decode code 356 = .ok (.aload 6, 2) := by decide +kernel
theorem d_Lw_358 : decode code 358 = .ok (.iload 9, 2) := by decide +kernel
theorem d_Lw_360 : decode code 360 = .ok (.invokevirtual 31, 3) := by decide +kernel
theorem d_Lw_363 : decode code 363 = .ok (.aload 5, 2) := by decide +kernel
theorem d_Lw_365 : decode code 365 = .ok (.iload 9, 2) := by decide +kernel
theorem d_Lw_367 : decode code 367 = .ok (.iaload, 1) := by decide +kernel
theorem d_Lw_368 : decode code 368 = .ok (.if_icmp .eq 5, 3) := by decide +kernel
theorem d_Lw_373 : decode code 373 = .ok (.iinc 9 1, 3) := by decide +kernel
theorem d_Lw_376 : decode code 376 = .ok (.goto (-26), 3) := by decide +kernel
theorem d_Lw_379 : decode code 379 = .ok (.iconst 1, 1) := by decide +kernel
theorem d_Lw_380 : decode code 380 = .ok (.ireturn, 1) := by decide +kernel
set_option maxHeartbeats 8000000 in
theorem whole_start {p : Program} {e : Env} {s : State} {m : MethodId} {below : List Frame} {meth : Method} {c : Code} (l : Launch) {b L : Nat} {xs : Nat → Int32} (hL : L ≤ 8000) (C0 : lw_At p s m meth c b L xs) : W p l e room_1 s m #[Value.ref b] below meth c s.heap [] 0 0 (lw_Z below #[Value.ref b] s) (entryFrame m ([Value.ref b] : List Value).toArray 10) := by
  obtain ⟨K, eN, hG⟩ := gn_start C0
  obtain ⟨hx, hbc, hrt, hml, hown, hts, hXs, hbl, hlk, hgv⟩ := C0
  rw [lg_entry_eq]
  have hl := lv_entry ([.ref b]) (n := 10) (Nat.le_of_ble_eq_true rfl)
  generalize (lg_sl ([.ref b]) ++ List.replicate (10 - (lg_sl ([.ref b])).length) Slot.unset).toArray = ls at hl ⊢
  have hl : lv_has ls 10 [(0, .ref b)] := hl
  generalize hQ : lw_Z below #[Value.ref b] s = Q
  generalize hargs : #[Value.ref b] = args at hts ⊢
  have S : CallFix p m c code 10 s args (c_Mi :: TT) "TimDrillLaw" := ⟨hx, hbc, hml, hown, fun w hw => by
    rcases List.mem_cons.mp hw with h | h
    · rw [h]; exact hts _ (TT_in _ tc_Mi)
    · exact hts w (TT_in w h)⟩
  clear hts
  obtain ⟨n, en⟩ : ∃ n, n = L := ⟨_, rfl⟩
  subst en
  have done : ∀ (pc : Nat) (X : Heap) (ls : Array Slot) (locs : List Loc) (k1 k2 : Nat), decode code pc = .ok (.ireturn, 1) → LO (N0 K) locs → k1 ≤ 683594 → k2 ≤ 7051467 → W p l e room_1 s m args below meth c X locs k1 k2 Q (F0 m pc ls [.int (zI 1)]) := by
    intro pc X ls locs k1 k2 hd hlo h1 h2
    subst hQ
    subst hargs
    rw [eN] at hlo
    refine va_forget hlo ?_
    refine W.widen (k := 683594) (n := 7051467) h1 h2 ?_
    rw [show zI 1 = (1 : Int32) by decide]
    exact lw_ret hx hbc hrt hlk hd
  have kp9 : ∀ X : Heap, s.heap.size ≤ X.size → (∀ q, q < s.heap.size → X[q]? = s.heap[q]?) → Keep (N0 K) s.heap X := fun X h1 h2 => ⟨h1, fun q hq => h2 q (by omega)⟩
  -- the second comparison, at 350
  have cmp2 : ∀ (w i : Nat) (f : Nat → Option Nat) (fw fn : Nat → Int32) (M : Nat → Prop) (wt nm : Nat → Int32) (X : Heap) (ls : Array Slot) (locs : List Loc), n - i < w → i ≤ n → LSq K s.heap.size n f fw fn M wt nm s.heap X → LO (N0 K) locs → lv_has ls 10 [(9, .int (zI i)), (0, .ref b), (1, .int (zI n)), (4, .ref s.heap.size), (5, .ref (s.heap.size + 1)), (6, .ref (s.heap.size + 2))] → W p l e room_1 s m args below meth c X locs 30000 5000000 Q (F0 m 350 ls []) := by
    intro w
    induction w with
    | zero => intro i f fw fn M wt nm X ls locs h; omega
    | succ w ih =>
      intro i f fw fn M wt nm X ls locs hw hi hX hlo hl
      obtain ⟨h1, h2, h3, h4, h5, h6, h7, h8, h9, h10⟩ := id hX
      refine z_iload S (lv_at hl 0 rfl) d_Lw_350 ?_
      refine z_iload_n S rfl (lv_at hl 2 rfl) d_Lw_352 ?_
      refine z_icmp_ge (tgt := 379) S (by decide) (by omega) (by omega) d_Lw_353 ?_ ?_
      · intro hc
        refine z_iconst S d_Lw_379 ?_
        exact done 380 X ls locs _ _ d_Lw_380 hlo (by omega) (by omega)
      · intro hc
        obtain ⟨y, ey, my⟩ := h6 i (by omega) (by omega)
        refine z_aload S (lv_at hl 5 rfl) d_Lw_356 ?_
        refine z_iload S (lv_at hl 0 rfl) d_Lw_358 ?_
        refine z_callV (C := "TimDrill") (As := [.int (zI i)]) (n := 1) S (ct_Dn l K (s.heap.size + 2) (s.heap.size + 3) n i y f (wt y) (nm y) hL (by omega) ey) tc_Dn tm_L31 ti_Dn tse_Dn tn_D (by decide) (by decide) rfl hG (kp9 X (by omega) h10) hlo (h1.recv hG) ⟨h1, h2, h3 y my⟩ hl rfl (by decide) (by decide) d_Lw_360 (fun v X1 locs hp hlo => ?_)
        obtain ⟨rfl, rfl⟩ := hp
        refine W.cs (cells' := 30000) (slots' := 5000000) rfl rfl ?_
        have er : nm y = fn i := by
          have := h7 i (by omega)
          rw [ey] at this
          exact congrArg Prod.snd this
        refine z_aload S (lv_at hl 4 rfl) d_Lw_363 ?_
        refine z_iload S (lv_at hl 0 rfl) d_Lw_365 ?_
        refine n_iald i S hG.I h5 (by omega) rfl (by omega) rfl d_Lw_367 ?_
        refine lv_icmp_eq (tgt := 373) S.1 S.2.1 d_Lw_368 (by decide) (fun _ => ?_) (fun h => absurd er h)
        refine z_iinc (lv' := [(9, .int (zI (i + 1))), (0, .ref b), (1, .int (zI n)), (4, .ref (Array.size s.heap)), (5, .ref (Array.size s.heap + 1)), (6, .ref (Array.size s.heap + 2))]) (q := 0) S hl rfl rfl (by decide) d_Lw_373 (fun ls hl => ?_)
        refine z_goto (tgt := 350) S (by decide) d_Lw_376 ?_
        have hl : lv_has ls 10 [(9, .int (zI (i + 1))), (0, .ref b), (1, .int (zI n)), (4, .ref (Array.size s.heap)), (5, .ref (Array.size s.heap + 1)), (6, .ref (Array.size s.heap + 2))] := lv_sub hl [0, 1, 2, 3, 4, 5] rfl
        exact ih (i + 1) f fw fn M wt nm _ ls locs (by omega) (by omega) hX hlo hl
  -- setting new marks, at 281
  have sets : ∀ (w i k : Nat) (f : Nat → Option Nat) (fw fn : Nat → Int32) (M : Nat → Prop) (wt nm : Nat → Int32) (X : Heap) (ls : Array Slot) (locs : List Loc), n - i < w → k ≤ i → i ≤ n + 89 → LSq K s.heap.size n f fw fn M wt nm s.heap X → LO (N0 K) locs → lv_has ls 10 [(9, .int (zI i)), (0, .ref b), (1, .int (zI n)), (4, .ref s.heap.size), (5, .ref (s.heap.size + 1)), (6, .ref (s.heap.size + 2))] → W p l e room_1 s m args below meth c X locs (11000 + k) (2200000 + 2 * k) Q (F0 m 281 ls []) := by
    intro w
    induction w with
    | zero =>
      intro i k f fw fn M wt nm X ls locs h
      omega
    | succ w ih =>
      intro i k f fw fn M wt nm X ls locs hw hk hi hX hlo hl
      obtain ⟨h1, h2, h3, h4, h5, h6, h7, h8, h9, h10⟩ := id hX
      refine z_iload S (lv_at hl 0 rfl) d_Lw_281 ?_
      refine z_iload_n S rfl (lv_at hl 2 rfl) d_Lw_283 ?_
      refine z_icmp_ge (tgt := 331) S (by decide) (by omega) (by omega) d_Lw_284 ?_ ?_
      · intro hc
        refine W.widen (k := 20000) (n := 2300000) (by omega) (by omega) ?_
        refine z_aload S (lv_at hl 5 rfl) d_Lw_331 ?_
        refine z_iconst S d_Lw_333 ?_
        refine z_iload_n S rfl (lv_at hl 2 rfl) d_Lw_334 ?_
        have hma : ¬ M (s.heap.size + 3) := fun h => by have := h8 _ h; omega
        refine z_callV (C := "TimDrill") (As := [.int (zI 0), .int (zI n)]) (n := 2) S (ct_Ds l K (s.heap.size + 2) (s.heap.size + 3) n 0 n f M wt nm hL (by omega) (by omega) (by omega) hma h6) tc_Ds tm_L21 ti_Ds tse_Ds tn_D (by decide) (by decide) rfl hG (kp9 X (by omega) h10) hlo (h1.recv hG) ⟨h1, h2, h3⟩ hl rfl (by decide) (by decide) d_Lw_335 (fun v X1 locs hp hlo => ?_)
        obtain ⟨rfl, a1, a2, a3, a4, a5⟩ := ls_sort hX (by omega) (by omega) hp
        refine W.cs (cells' := 20600) (slots' := 4400000) rfl rfl ?_
        refine z_aload S (lv_at hl 3 rfl) d_Lw_338 ?_
        refine z_aload S (lv_at hl 4 rfl) d_Lw_340 ?_
        refine z_iconst S d_Lw_342 ?_
        refine z_iload_n S rfl (lv_at hl 2 rfl) d_Lw_343 ?_
        refine z_callS (n := 4) S (ct_Lo l K n s.heap.size (s.heap.size + 1) 0 n fw fn hL (by omega) (by omega) (by omega) (by omega) (by omega)) tc_Lo tm_L25 ts_Lo tn_L (by decide) ⟨by show 1 + 1 ≤ 12; omega, by show 8 + (14 + 11) + 21 ≤ 490; omega⟩ rfl hG (kp9 X1 (by omega) a4) hlo ⟨a1, a2⟩ hl rfl (by decide) ⟨by show 20600 + 2 ≤ 683594; omega, by show 4400000 + (n + n) ≤ 7051467; omega⟩ d_Lw_344 (fun v X2 locs hp2 hlo => ?_)
        obtain ⟨rfl, f', fw', fn', hX2⟩ := a5 v X2 hp2
        refine W.widen (k := 30000) (n := 5000000) (by show 20600 + 2 ≤ _; omega) (by show 4400000 + (n + n) ≤ _; omega) ?_
        refine z_iconst S d_Lw_347 ?_
        refine z_istore (lv' := [(9, .int (zI 0)), (0, .ref b), (1, .int (zI n)), (4, .ref (Array.size s.heap)), (5, .ref (Array.size s.heap + 1)), (6, .ref (Array.size s.heap + 2))]) S hl rfl (by decide) d_Lw_348 (fun ls hl => ?_)
        have hl : lv_has ls 10 [(9, .int (zI 0)), (0, .ref b), (1, .int (zI n)), (4, .ref (Array.size s.heap)), (5, .ref (Array.size s.heap + 1)), (6, .ref (Array.size s.heap + 2))] := lv_sub hl [0, 1, 2, 3, 4, 5] rfl
        exact cmp2 (n + 1) 0 f' fw' fn' M wt nm X2 ls locs (by omega) (by omega) hX2 hlo hl
      · intro hc
        have hkX := kp9 X (by omega) h10
        refine z_aload S (lv_at hl 3 rfl) d_Lw_287 ?_
        refine z_iload S (lv_at hl 0 rfl) d_Lw_289 ?_
        refine z_aload_n S rfl (lv_at hl 1 rfl) d_Lw_291 ?_
        refine z_iload_n S rfl (lv_at hl 2 rfl) d_Lw_292 ?_
        refine z_iconst S d_Lw_293 ?_
        refine z_isub S d_Lw_294 ?_
        refine z_iload S (lv_at hl 0 rfl) d_Lw_295 ?_
        refine z_isub S d_Lw_297 ?_
        refine z_sld (n - 1 - i) S hXs (h10 b hbl) (by omega) (by omega) (by omega) d_Lw_298 ?_
        refine n_iast i S hG.I h4 hlo (by omega) (by omega) rfl (by omega) d_Lw_299 (fun locs hlo => ?_)
        have e4 := set_at (x := IA (cI_ K) n (va_up fw i (xs (n - 1 - i)))) h4
        have z1 : (X.setIfInBounds s.heap.size (IA (cI_ K) n (va_up fw i (xs (n - 1 - i))))).size = X.size := by simp
        have o1 : ∀ q, q ≠ s.heap.size → (X.setIfInBounds s.heap.size (IA (cI_ K) n (va_up fw i (xs (n - 1 - i)))))[q]? = X[q]? := fun q h => set_off h
        generalize X.setIfInBounds s.heap.size (IA (cI_ K) n (va_up fw i (xs (n - 1 - i)))) = X1 at e4 z1 o1 ⊢
        refine z_aload S (lv_at hl 4 rfl) d_Lw_300 ?_
        refine z_iload S (lv_at hl 0 rfl) d_Lw_302 ?_
        refine z_iload_n S rfl (lv_at hl 2 rfl) d_Lw_304 ?_
        refine z_iload S (lv_at hl 0 rfl) d_Lw_305 ?_
        refine z_iadd S d_Lw_307 ?_
        refine n_iast i S hG.I (by rw [o1 _ (by omega)]; exact h5) hlo (by omega) (by omega) rfl (by omega) d_Lw_308 (fun locs hlo => ?_)
        have e5 := set_at (x := IA (cI_ K) n (va_up fn i (zI ((n : Int) + i)))) (show X1[s.heap.size + 1]? = _ by rw [o1 _ (by omega)]; exact h5)
        have z2 : (X1.setIfInBounds (s.heap.size + 1) (IA (cI_ K) n (va_up fn i (zI ((n : Int) + i))))).size = X.size := by simp; exact z1
        have o2 : ∀ q, q ≠ s.heap.size + 1 → (X1.setIfInBounds (s.heap.size + 1) (IA (cI_ K) n (va_up fn i (zI ((n : Int) + i)))))[q]? = X1[q]? := fun q h => set_off h
        generalize X1.setIfInBounds (s.heap.size + 1) (IA (cI_ K) n (va_up fn i (zI ((n : Int) + i)))) = X2 at e5 z2 o2 ⊢
        have e42 : X2[s.heap.size]? = some (IA (cI_ K) n (va_up fw i (xs (n - 1 - i)))) := by rw [o2 _ (by omega)]; exact e4
        have o3 : ∀ q, q ≠ s.heap.size → q ≠ s.heap.size + 1 → X2[q]? = X[q]? := fun q w1 w2 => by rw [o2 q w2, o1 q w1]
        have d2 : DR K (s.heap.size + 2) (s.heap.size + 3) X2 := h1.kept (o3 _ (by omega) (by omega))
        have a2 : X2[s.heap.size + 3]? = some (RA (cM_ K) n f) := by rw [o3 _ (by omega) (by omega)]; exact h2
        refine z_aload S (lv_at hl 5 rfl) d_Lw_309 ?_
        refine z_iload S (lv_at hl 0 rfl) d_Lw_311 ?_
        refine z_aload S (lv_at hl 3 rfl) d_Lw_313 ?_
        refine z_iload S (lv_at hl 0 rfl) d_Lw_315 ?_
        refine n_iald i S hG.I e42 (by omega) rfl (by omega) (va_up_self fw i (xs (n - 1 - i))) d_Lw_317 ?_
        refine z_iload_n S rfl (lv_at hl 2 rfl) d_Lw_318 ?_
        refine z_iload S (lv_at hl 0 rfl) d_Lw_319 ?_
        refine z_iadd S d_Lw_321 ?_
        refine z_callV (C := "TimDrill") (As := [.int (zI i), .int (xs (n - 1 - i)), .int (zI ((n : Int) + i))]) (n := 3) S (ct_Dt l K (s.heap.size + 2) (s.heap.size + 3) n i f (xs (n - 1 - i)) (zI ((n : Int) + i)) hL (by omega) (by omega)) tc_Dt tm_L35 ti_Dt tse_Dt tn_D (by decide) (by decide) rfl hG (kp9 X2 (by omega) (fun q hq => by rw [o3 q (by omega) (by omega)]; exact h10 q hq)) hlo (d2.recv hG) ⟨d2, a2⟩ hl rfl (by decide) ⟨by show 11000 + k + 1 ≤ 683594; omega, by show 2200000 + 2 * k + 2 ≤ 7051467; omega⟩ d_Lw_322 (fun v X3 locs hp hlo => ?_)
        obtain ⟨rfl, p1, p2, p3, p4⟩ := hp
        refine W.cs (cells' := 11000 + (k + 1)) (slots' := 2200000 + 2 * (k + 1)) (by show 11000 + k + 1 = _; omega) (by show 2200000 + 2 * k + 2 = _; omega) ?_
        refine z_iinc (lv' := [(9, .int (zI (i + 89))), (0, .ref b), (1, .int (zI n)), (4, .ref (Array.size s.heap)), (5, .ref (Array.size s.heap + 1)), (6, .ref (Array.size s.heap + 2))]) (q := 0) S hl rfl rfl (by decide) d_Lw_325 (fun ls hl => ?_)
        refine z_goto (tgt := 281) S (by decide) d_Lw_328 ?_
        have hl : lv_has ls 10 [(9, .int (zI (i + 89))), (0, .ref b), (1, .int (zI n)), (4, .ref (Array.size s.heap)), (5, .ref (Array.size s.heap + 1)), (6, .ref (Array.size s.heap + 2))] := lv_sub hl [0, 1, 2, 3, 4, 5] rfl
        have hnew : ∀ y, M y → y ≠ X2.size := fun y hy => by have := (h3 y hy).lt; omega
        refine ih (i + 89) (k + 1) (va_up f i (some X2.size)) (va_up fw i (xs (n - 1 - i))) (va_up fn i (zI ((n : Int) + i))) (fun y => M y ∨ y = X2.size) (va_up wt X2.size (xs (n - 1 - i))) (va_up nm X2.size (zI ((n : Int) + i))) X3 ls locs (by omega) (by omega) (by omega) ⟨d2.kept (p4 _ (by omega) (by omega)), p1, ?_, ?_, ?_, ?_, ?_, ?_, by omega, ?_⟩ hlo hl
        · intro y hy
          rcases hy with hy | hy
          · rw [va_up_ne _ _ (hnew y hy), va_up_ne _ _ (hnew y hy)]
            have q1 := h8 y hy
            have q2 := (h3 y hy).lt
            exact ((h3 y hy).kept (o3 y (by omega) (by omega))).kept (p4 y (by omega) (by omega))
          · subst hy
            rw [va_up_self, va_up_self]
            exact p2
        · rw [p4 _ (by omega) (by omega)]; exact e42
        · rw [p4 _ (by omega) (by omega)]; exact e5
        · intro j j1 j2
          by_cases hj : j = i
          · subst hj
            exact ⟨X2.size, va_up_self _ _ _, Or.inr rfl⟩
          · rw [va_up_ne _ _ hj]
            obtain ⟨y, e1, m1⟩ := h6 j j1 j2
            exact ⟨y, e1, Or.inl m1⟩
        · intro j hj
          rw [pr_up]
          by_cases hji : j = i
          · subst hji
            rw [va_up_self, va_up_self]
            show (va_up wt X2.size _ X2.size, va_up nm X2.size _ X2.size) = _
            rw [va_up_self, va_up_self]
          · rw [va_up_ne _ _ hji, va_up_ne _ _ hji]
            obtain ⟨y, e1, m1⟩ := h6 j (by omega) (by omega)
            have q1 := h7 j hj
            rw [e1] at q1 ⊢
            show (va_up wt X2.size _ y, va_up nm X2.size _ y) = _
            rw [va_up_ne _ _ (hnew y m1), va_up_ne _ _ (hnew y m1)]
            exact q1
        · intro y hy
          rcases hy with hy | hy
          · exact h8 y hy
          · omega
        · intro q hq
          rw [p4 q (by omega) (by omega), o3 q (by omega) (by omega)]
          exact h10 q hq
  -- the first comparison, at 249
  have cmp1 : ∀ (w i : Nat) (f : Nat → Option Nat) (fw fn : Nat → Int32) (M : Nat → Prop) (wt nm : Nat → Int32) (X : Heap) (ls : Array Slot) (locs : List Loc), n - i < w → i ≤ n → LSq K s.heap.size n f fw fn M wt nm s.heap X → LO (N0 K) locs → lv_has ls 10 [(9, .int (zI i)), (0, .ref b), (1, .int (zI n)), (4, .ref s.heap.size), (5, .ref (s.heap.size + 1)), (6, .ref (s.heap.size + 2))] → W p l e room_1 s m args below meth c X locs 11000 2200000 Q (F0 m 249 ls []) := by
    intro w
    induction w with
    | zero => intro i f fw fn M wt nm X ls locs h; omega
    | succ w ih =>
      intro i f fw fn M wt nm X ls locs hw hi hX hlo hl
      obtain ⟨h1, h2, h3, h4, h5, h6, h7, h8, h9, h10⟩ := id hX
      refine z_iload S (lv_at hl 0 rfl) d_Lw_249 ?_
      refine z_iload_n S rfl (lv_at hl 2 rfl) d_Lw_251 ?_
      refine z_icmp_ge (tgt := 278) S (by decide) (by omega) (by omega) d_Lw_252 ?_ ?_
      · intro hc
        refine z_iconst S d_Lw_278 ?_
        refine z_istore (lv' := [(9, .int (zI 0)), (0, .ref b), (1, .int (zI n)), (4, .ref (Array.size s.heap)), (5, .ref (Array.size s.heap + 1)), (6, .ref (Array.size s.heap + 2))]) S hl rfl (by decide) d_Lw_279 (fun ls hl => ?_)
        have hl : lv_has ls 10 [(9, .int (zI 0)), (0, .ref b), (1, .int (zI n)), (4, .ref (Array.size s.heap)), (5, .ref (Array.size s.heap + 1)), (6, .ref (Array.size s.heap + 2))] := lv_sub hl [0, 1, 2, 3, 4, 5] rfl
        exact sets (n + 1) 0 0 f fw fn M wt nm X ls locs (by omega) (by omega) (by omega) hX hlo hl
      · intro hc
        obtain ⟨y, ey, my⟩ := h6 i (by omega) (by omega)
        refine z_aload S (lv_at hl 5 rfl) d_Lw_255 ?_
        refine z_iload S (lv_at hl 0 rfl) d_Lw_257 ?_
        refine z_callV (C := "TimDrill") (As := [.int (zI i)]) (n := 1) S (ct_Dn l K (s.heap.size + 2) (s.heap.size + 3) n i y f (wt y) (nm y) hL (by omega) ey) tc_Dn tm_L31 ti_Dn tse_Dn tn_D (by decide) (by decide) rfl hG (kp9 X (by omega) h10) hlo (h1.recv hG) ⟨h1, h2, h3 y my⟩ hl rfl (by decide) (by decide) d_Lw_259 (fun v X1 locs hp hlo => ?_)
        obtain ⟨rfl, rfl⟩ := hp
        refine W.cs (cells' := 11000) (slots' := 2200000) rfl rfl ?_
        have er : nm y = fn i := by
          have := h7 i (by omega)
          rw [ey] at this
          exact congrArg Prod.snd this
        refine z_aload S (lv_at hl 4 rfl) d_Lw_262 ?_
        refine z_iload S (lv_at hl 0 rfl) d_Lw_264 ?_
        refine n_iald i S hG.I h5 (by omega) rfl (by omega) rfl d_Lw_266 ?_
        refine lv_icmp_eq (tgt := 272) S.1 S.2.1 d_Lw_267 (by decide) (fun _ => ?_) (fun h => absurd er h)
        refine z_iinc (lv' := [(9, .int (zI (i + 1))), (0, .ref b), (1, .int (zI n)), (4, .ref (Array.size s.heap)), (5, .ref (Array.size s.heap + 1)), (6, .ref (Array.size s.heap + 2))]) (q := 0) S hl rfl rfl (by decide) d_Lw_272 (fun ls hl => ?_)
        refine z_goto (tgt := 249) S (by decide) d_Lw_275 ?_
        have hl : lv_has ls 10 [(9, .int (zI (i + 1))), (0, .ref b), (1, .int (zI n)), (4, .ref (Array.size s.heap)), (5, .ref (Array.size s.heap + 1)), (6, .ref (Array.size s.heap + 2))] := lv_sub hl [0, 1, 2, 3, 4, 5] rfl
        exact ih (i + 1) f fw fn M wt nm _ ls locs (by omega) (by omega) hX hlo hl
  -- behind the first loop, at 190
  have t190 : ∀ (P : Int) (fw fn : Nat → Int32) (X : Heap) (ls : Array Slot) (locs : List Loc), 2 ≤ n → inR P → (∀ j, j < n → fn j = zI j) → X[s.heap.size]? = some (IA (cI_ K) n fw) → X[s.heap.size + 1]? = some (IA (cI_ K) n fn) → X.size = s.heap.size + 2 → (∀ q, q < s.heap.size → X[q]? = s.heap[q]?) → LO (N0 K) locs → lv_has ls 10 [(0, .ref b), (1, .int (zI n)), (3, .int (zI P)), (4, .ref s.heap.size), (5, .ref (s.heap.size + 1))] → W p l e room_1 s m args below meth c X locs 2 (n + n) Q (F0 m 190 ls []) := by
    intro P fw fn X ls locs hn2 hP hfn hw hn zX oX hlo hl
    refine z_new (C := "TimDrill") (T := F_Drill) (N := 1) (ci := 1) (fs := [.null]) S tin_Drill t_Drill tok_Drill hG tcl_L13 tins_D tn_D rfl (fun j hj => by rcases (show j = 0 by omega) with rfl; rfl) (by decide) (by show n + n + 1 ≤ 7051467; omega) d_Lw_190 (fun H1 hO1 z1 o1 => ?_)
    rw [zX] at hO1 z1 o1 ⊢
    have hw1 : H1[s.heap.size]? = some (IA (cI_ K) n fw) := by rw [o1 _ (by omega)]; exact hw
    have hk1 : Keep (N0 K) s.heap H1 := kp9 H1 (by omega) (fun q hq => by rw [o1 q (by omega)]; exact oX q hq)
    refine z_dup S rfl d_Lw_193 ?_
    refine z_aload S (lv_at hl 3 rfl) d_Lw_194 ?_
    refine z_callI (As := [.ref s.heap.size]) (n := 1) S (ct_Di l K (s.heap.size + 2) s.heap.size n fw hL (by omega) (by omega)) tc_Di tm_L15 ti_Di tn_D rfl (by decide) ⟨by show 2 + 1 ≤ 12; omega, by show 8 + (3 + 11) + 34 ≤ 490; omega⟩ rfl hG hk1 hlo ⟨hO1, hw1⟩ hl rfl (Nat.le_of_ble_eq_true rfl) ⟨by show 2 + 1 + (1 + n) ≤ 683594; omega, by show n + n + 1 + (n + 2 * n) ≤ 7051467; omega⟩ d_Lw_196 (fun v H2 locs hp hlo => ?_)
    obtain ⟨rfl, p1, p2, p3, p4, p5⟩ := hp
    rw [z1] at p1 p2 p3 p4 p5
    refine W.widen (k := 10000) (n := 60000) (by show 2 + 1 + (1 + n) ≤ _; omega) (by show n + n + 1 + (n + 2 * n) ≤ _; omega) ?_
    have hX : LSq K s.heap.size n (rowF (s.heap.size + 3) n) fw fn (fun y => s.heap.size + 4 ≤ y ∧ y < s.heap.size + 4 + n) (fun y => fw (y - (s.heap.size + 4))) (fun y => zI ((y - (s.heap.size + 4) : Nat) : Int)) s.heap H2 := by
      refine ⟨p1, p2, ?_, by rw [p5 _ (by omega) (by omega)]; exact hw1, by rw [p5 _ (by omega) (by omega), o1 _ (by omega)]; exact hn, ?_, ?_, fun y hy => hy.1, by omega, fun q hq => by rw [p5 q (by omega) (by omega), o1 q (by omega)]; exact oX q hq⟩
      · intro y hy
        have := p3 (y - (s.heap.size + 4)) (by omega)
        rw [show s.heap.size + 2 + 1 + 1 + (y - (s.heap.size + 4)) = y by omega] at this
        exact this
      · intro j j1 j2
        exact ⟨s.heap.size + 3 + 1 + j, by unfold rowF; rw [if_pos (by omega)], by omega, by omega⟩
      · intro j hj
        have e1 : rowF (s.heap.size + 3) n j = some (s.heap.size + 3 + 1 + j) := by unfold rowF; rw [if_pos hj]
        rw [e1]
        show (fw (s.heap.size + 3 + 1 + j - (s.heap.size + 4)), zI ((s.heap.size + 3 + 1 + j - (s.heap.size + 4) : Nat) : Int)) = (fw j, fn j)
        rw [show s.heap.size + 3 + 1 + j - (s.heap.size + 4) = j by omega, hfn j hj]
    generalize rowF (s.heap.size + 3) n = f at hX
    generalize (fun y => s.heap.size + 4 ≤ y ∧ y < s.heap.size + 4 + n) = M at hX
    generalize (fun y => fw (y - (s.heap.size + 4))) = wt at hX
    generalize (fun y => zI ((y - (s.heap.size + 4) : Nat) : Int)) = nm at hX
    clear p1 p2 p3 p4 p5
    obtain ⟨h1, h2, h3, h4, h5, h6, h7, h8, h9, h10⟩ := id hX
    have hkX := kp9 H2 (by omega) h10
    refine z_astore (lv' := [(6, .ref (Array.size s.heap + 2)), (0, .ref b), (1, .int (zI n)), (3, .int (zI P)), (4, .ref (Array.size s.heap)), (5, .ref (Array.size s.heap + 1))]) S hl rfl (by decide) d_Lw_199 (fun ls hl => ?_)
    refine z_iload_n S rfl (lv_at hl 3 rfl) d_Lw_201 ?_
    refine z_iload_n S rfl (lv_at hl 2 rfl) d_Lw_202 ?_
    refine z_callS (n := 2) S (ct_Fm l K P n hP (by omega) (by omega)) tc_Fm tm_L18 ts_Fm tn_H (by decide) (by decide) rfl hG hkX hlo trivial hl rfl (by decide) (by decide) d_Lw_203 (fun v H3 locs hp hlo => ?_)
    obtain ⟨rfl, eH⟩ := hp
    rw [eH]
    refine W.cs (cells' := 10000) (slots' := 60000) rfl rfl ?_
    have b1 := Int.emod_nonneg P (show (n : Int) ≠ 0 by omega)
    have b2 := Int.emod_lt_of_pos P (show (0 : Int) < n by omega)
    obtain ⟨fr, efr⟩ := Int.eq_ofNat_of_zero_le b1
    rw [efr] at b2 ⊢
    refine z_istore (lv' := [(7, .int (zI fr)), (6, .ref (Array.size s.heap + 2)), (0, .ref b), (1, .int (zI n)), (3, .int (zI P)), (4, .ref (Array.size s.heap)), (5, .ref (Array.size s.heap + 1))]) S hl rfl (by decide) d_Lw_206 (fun ls hl => ?_)
    refine z_iload S (lv_at hl 0 rfl) d_Lw_208 ?_
    refine z_iload_n S rfl (lv_at hl 4 rfl) d_Lw_210 ?_
    refine z_bipush S (by decide) d_Lw_211 ?_
    refine lv_iushr (v := zI (((zI P).toUInt32 >>> ((zI 7).toUInt32 &&& Int32.toUInt32 31)).toInt32).toInt) S.1 S.2.1 d_Lw_213 (zI_of _) ?_
    have hu := zI_rng ((zI P).toUInt32 >>> ((zI 7).toUInt32 &&& Int32.toUInt32 31)).toInt32
    generalize (((zI P).toUInt32 >>> ((zI 7).toUInt32 &&& Int32.toUInt32 31)).toInt32).toInt = u at hu ⊢
    refine z_iload_n S rfl (lv_at hl 3 rfl) d_Lw_214 ?_
    refine z_iload S (lv_at hl 0 rfl) d_Lw_215 ?_
    refine z_isub S d_Lw_217 ?_
    refine z_iconst S d_Lw_218 ?_
    refine z_iadd S d_Lw_219 ?_
    refine z_callS (n := 2) S (ct_Fm l K u (((n : Int) - fr) + 1) hu (by omega) (by omega)) tc_Fm tm_L18 ts_Fm tn_H (by decide) (by decide) rfl hG hkX hlo trivial hl rfl (Nat.le_of_ble_eq_true rfl) (by decide) d_Lw_220 (fun v H4 locs hp hlo => ?_)
    obtain ⟨rfl, eH⟩ := hp
    rw [eH]
    refine W.cs (cells' := 10000) (slots' := 60000) rfl rfl ?_
    have b3 := Int.emod_nonneg u (show ((n : Int) - fr) + 1 ≠ 0 by omega)
    have b4 := Int.emod_lt_of_pos u (show (0 : Int) < ((n : Int) - fr) + 1 by omega)
    obtain ⟨dt, edt⟩ := Int.eq_ofNat_of_zero_le b3
    rw [edt] at b4 ⊢
    refine z_iadd S d_Lw_223 ?_
    refine z_istore (lv' := [(8, .int (zI (fr + dt))), (7, .int (zI fr)), (6, .ref (Array.size s.heap + 2)), (0, .ref b), (1, .int (zI n)), (3, .int (zI P)), (4, .ref (Array.size s.heap)), (5, .ref (Array.size s.heap + 1))]) S hl rfl (by decide) d_Lw_224 (fun ls hl => ?_)
    have hma : ¬ M (s.heap.size + 3) := fun h => by have := h8 _ h; omega
    have hl : lv_has ls 10 [(8, .int (zI (fr + dt))), (7, .int (zI fr)), (0, .ref b), (1, .int (zI n)), (4, .ref (Array.size s.heap)), (5, .ref (Array.size s.heap + 1)), (6, .ref (Array.size s.heap + 2))] := lv_sub hl [0, 1, 3, 4, 6, 7, 2] rfl
    have hl : lv_has ls 10 [(8, .int (zI ((fr + dt : Nat) : Int))), (7, .int (zI fr)), (0, .ref b), (1, .int (zI n)), (4, .ref (Array.size s.heap)), (5, .ref (Array.size s.heap + 1)), (6, .ref (Array.size s.heap + 2))] := lv_ren hl 0 rfl (show (fr + dt) = ((fr + dt : Nat) : Int) by omega)
    refine z_aload S (lv_at hl 6 rfl) d_Lw_226 ?_
    refine z_iload S (lv_at hl 1 rfl) d_Lw_228 ?_
    refine z_iload S (lv_at hl 0 rfl) d_Lw_230 ?_
    refine z_callV (C := "TimDrill") (As := [.int (zI fr), .int (zI (fr + dt : Nat))]) (n := 2) S (ct_Ds l K (s.heap.size + 2) (s.heap.size + 3) n fr (fr + dt) f M wt nm hL (by omega) (by omega) (by omega) hma h6) tc_Ds tm_L21 ti_Ds tse_Ds tn_D (by decide) (by decide) rfl hG hkX hlo (h1.recv hG) ⟨h1, h2, h3⟩ hl rfl (by decide) (by decide) d_Lw_232 (fun v X1 locs hp hlo => ?_)
    obtain ⟨rfl, a1, a2, a3, a4, a5⟩ := ls_sort hX (by omega) (by omega) hp
    refine W.cs (cells' := 10600) (slots' := 2160000) rfl rfl ?_
    refine z_aload S (lv_at hl 4 rfl) d_Lw_235 ?_
    refine z_aload S (lv_at hl 5 rfl) d_Lw_237 ?_
    refine z_iload S (lv_at hl 1 rfl) d_Lw_239 ?_
    refine z_iload S (lv_at hl 0 rfl) d_Lw_241 ?_
    refine z_callS (n := 4) S (ct_Lo l K n s.heap.size (s.heap.size + 1) fr (fr + dt) fw fn hL (by omega) (by omega) (by omega) (by omega) (by omega)) tc_Lo tm_L25 ts_Lo tn_L (by decide) ⟨by show 1 + 1 ≤ 12; omega, by show 8 + (14 + 11) + 21 ≤ 490; omega⟩ rfl hG (kp9 X1 (by omega) a4) hlo ⟨a1, a2⟩ hl rfl (by decide) ⟨by show 10600 + 2 ≤ 683594; omega, by show 2160000 + (n + n) ≤ 7051467; omega⟩ d_Lw_243 (fun v X2 locs hp2 hlo => ?_)
    obtain ⟨rfl, f', fw', fn', hX2⟩ := a5 v X2 hp2
    refine W.widen (k := 11000) (n := 2200000) (by show 10600 + 2 ≤ _; omega) (by show 2160000 + (n + n) ≤ _; omega) ?_
    refine z_iconst S d_Lw_246 ?_
    refine z_istore (lv' := [(9, .int (zI 0)), (8, .int (zI ((fr + dt : Nat) : Int))), (7, .int (zI fr)), (0, .ref b), (1, .int (zI n)), (4, .ref (Array.size s.heap)), (5, .ref (Array.size s.heap + 1)), (6, .ref (Array.size s.heap + 2))]) S hl rfl (by decide) d_Lw_247 (fun ls hl => ?_)
    have hl : lv_has ls 10 [(9, .int (zI 0)), (0, .ref b), (1, .int (zI n)), (4, .ref (Array.size s.heap)), (5, .ref (Array.size s.heap + 1)), (6, .ref (Array.size s.heap + 2))] := lv_sub hl [0, 3, 4, 5, 6, 7] rfl
    exact cmp1 (n + 1) 0 f' fw' fn' M wt nm X2 ls locs (by omega) (by omega) hX2 hlo hl
  -- the first loop, at 34
  have init : ∀ (P : Int) (kd : Int32), 2 ≤ n → inR P → ∀ (w i : Nat) (fw fn : Nat → Int32) (X : Heap) (ls : Array Slot) (locs : List Loc), n - i < w → i ≤ n → (∀ j, j < i → fn j = zI j) → X[s.heap.size]? = some (IA (cI_ K) n fw) → X[s.heap.size + 1]? = some (IA (cI_ K) n fn) → X.size = s.heap.size + 2 → (∀ q, q < s.heap.size → X[q]? = s.heap[q]?) → LO (N0 K) locs → lv_has ls 10 [(6, .int (zI i)), (5, .ref (s.heap.size + 1)), (4, .ref s.heap.size), (3, .int (zI P)), (2, .int kd), (1, .int (zI n)), (0, .ref b)] → W p l e room_1 s m args below meth c X locs 2 (n + n) Q (F0 m 34 ls []) := by
    intro P kd hn2 hP w
    induction w with
    | zero => intro i fw fn X ls locs h; omega
    | succ w ih =>
      intro i fw fn X ls locs hw hi hfn hwA hnA zX oX hlo hl
      refine z_iload S (lv_at hl 0 rfl) d_Lw_34 ?_
      refine z_iload_n S rfl (lv_at hl 5 rfl) d_Lw_36 ?_
      refine z_icmp_ge (tgt := 190) S (by decide) (by omega) (by omega) d_Lw_37 ?_ ?_
      · intro hc
        have ei : i = n := by omega
        subst ei
        exact t190 P fw fn X ls locs hn2 hP hfn hwA hnA zX oX hlo (lv_sub hl [6, 5, 3, 2, 1] rfl)
      · intro hc
        refine z_aload_n S rfl (lv_at hl 6 rfl) d_Lw_40 ?_
        refine z_iload S (lv_at hl 0 rfl) d_Lw_41 ?_
        refine z_sld i S hXs (oX b hbl) (by omega) rfl (by omega) d_Lw_43 ?_
        refine z_istore (lv' := [(7, .int (xs i)), (6, .int (zI i)), (5, .ref (Array.size s.heap + 1)), (4, .ref (Array.size s.heap)), (3, .int (zI P)), (2, .int kd), (1, .int (zI n)), (0, .ref b)]) S hl rfl (by decide) d_Lw_44 (fun ls hl => ?_)
        refine z_aload S (lv_at hl 3 rfl) d_Lw_46 ?_
        refine z_iload S (lv_at hl 1 rfl) d_Lw_48 ?_
        refine z_iload_n S rfl (lv_at hl 5 rfl) d_Lw_50 ?_
        refine z_iconst S d_Lw_51 ?_
        have t176 : ∀ (z : Int32), W p l e room_1 s m args below meth c X locs 2 (n + n) Q (F0 m 176 ls [.int z, .int (zI i), .ref s.heap.size]) := by
          intro z
          refine n_iast i S hG.I hwA hlo (by omega) (by omega) rfl (by omega) d_Lw_176 (fun locs hlo => ?_)
          have hn1 : (X.setIfInBounds s.heap.size (IA (cI_ K) n (va_up fw i z)))[s.heap.size + 1]? = some (IA (cI_ K) n fn) := by rw [set_off (by omega)]; exact hnA
          refine z_aload S (lv_at hl 2 rfl) d_Lw_177 ?_
          refine z_iload S (lv_at hl 1 rfl) d_Lw_179 ?_
          refine z_iload S (lv_at hl 1 rfl) d_Lw_181 ?_
          refine n_iast i S hG.I hn1 hlo (by omega) (by omega) rfl (by omega) d_Lw_183 (fun locs hlo => ?_)
          refine z_iinc (lv' := [(6, .int (zI (i + 1))), (7, .int (xs i)), (5, .ref (Array.size s.heap + 1)), (4, .ref (Array.size s.heap)), (3, .int (zI P)), (2, .int kd), (1, .int (zI n)), (0, .ref b)]) (q := 1) S hl rfl rfl (by decide) d_Lw_184 (fun ls hl => ?_)
          refine z_goto (tgt := 34) S (by decide) d_Lw_187 ?_
          have hl : lv_has ls 10 [(6, .int (zI (i + 1))), (5, .ref (Array.size s.heap + 1)), (4, .ref (Array.size s.heap)), (3, .int (zI P)), (2, .int kd), (1, .int (zI n)), (0, .ref b)] := lv_sub hl [0, 2, 3, 4, 5, 6, 7] rfl
          refine ih (i + 1) (va_up fw i z) (va_up fn i (zI i)) _ ls locs (by omega) (by omega) ?_ (by rw [set_off (by omega)]; exact set_at hwA) (set_at hn1) (by simp; exact zX) (fun q hq => by rw [set_off (by omega), set_off (by omega)]; exact oX q hq) hlo hl
          intro j hj
          by_cases h : j = i
          · subst h; rw [va_up_self]
          · rw [va_up_ne _ _ h]; exact hfn j (by omega)
        refine lv_icmp_ge (tgt := 60) S.1 S.2.1 d_Lw_52 (by decide) (fun _ => ?_) (fun _ => ?_)
        · refine z_iload_n S rfl (lv_at hl 5 rfl) d_Lw_60 ?_
          refine z_iconst S d_Lw_61 ?_
          refine lv_icmp_ne (tgt := 73) S.1 S.2.1 d_Lw_62 (by decide) (fun _ => ?_) (fun _ => ?_)
          · refine z_iload_n S rfl (lv_at hl 5 rfl) d_Lw_73 ?_
            refine z_iconst S d_Lw_74 ?_
            refine lv_icmp_ne (tgt := 100) S.1 S.2.1 d_Lw_75 (by decide) (fun _ => ?_) (fun _ => ?_)
            · refine z_iload_n S rfl (lv_at hl 5 rfl) d_Lw_100 ?_
              refine z_iconst S d_Lw_101 ?_
              refine lv_icmp_ne (tgt := 116) S.1 S.2.1 d_Lw_102 (by decide) (fun _ => ?_) (fun _ => ?_)
              · refine z_iload_n S rfl (lv_at hl 5 rfl) d_Lw_116 ?_
                refine z_iconst S d_Lw_117 ?_
                refine lv_icmp_ne (tgt := 129) S.1 S.2.1 d_Lw_118 (by decide) (fun _ => ?_) (fun _ => ?_)
                · refine z_iload_n S rfl (lv_at hl 5 rfl) d_Lw_129 ?_
                  refine z_bipush S (by decide) d_Lw_130 ?_
                  refine lv_icmp_ne (tgt := 162) S.1 S.2.1 d_Lw_132 (by decide) (fun _ => ?_) (fun _ => ?_)
                  · refine z_iload S (lv_at hl 1 rfl) d_Lw_162 ?_
                    refine z_bipush S (by decide) d_Lw_164 ?_
                    refine lv_imul S.1 S.2.1 d_Lw_166 ?_
                    refine z_sipush S (by decide) d_Lw_167 ?_
                    refine lv_iand S.1 S.2.1 d_Lw_170 ?_
                    refine z_iload S (lv_at hl 0 rfl) d_Lw_171 ?_
                    refine z_iconst S d_Lw_173 ?_
                    refine lv_iand S.1 S.2.1 d_Lw_174 ?_
                    refine lv_iadd S.1 S.2.1 d_Lw_175 ?_
                    exact t176 _
                  · refine z_iload S (lv_at hl 1 rfl) d_Lw_135 ?_
                    refine z_sipush S (by decide) d_Lw_137 ?_
                    refine lv_idiv S.1 S.2.1 d_Lw_140 (by decide) ?_
                    refine z_sipush S (by decide) d_Lw_141 ?_
                    refine lv_imul S.1 S.2.1 d_Lw_144 ?_
                    refine z_iload S (lv_at hl 1 rfl) d_Lw_145 ?_
                    refine z_sipush S (by decide) d_Lw_147 ?_
                    refine lv_irem S.1 S.2.1 d_Lw_150 (by decide) ?_
                    refine z_bipush S (by decide) d_Lw_151 ?_
                    refine lv_imul S.1 S.2.1 d_Lw_153 ?_
                    refine z_sipush S (by decide) d_Lw_154 ?_
                    refine lv_irem S.1 S.2.1 d_Lw_157 (by decide) ?_
                    refine lv_iadd S.1 S.2.1 d_Lw_158 ?_
                    refine z_goto (tgt := 176) S (by decide) d_Lw_159 ?_
                    exact t176 _
                · refine z_iload S (lv_at hl 1 rfl) d_Lw_121 ?_
                  refine lv_ineg S.1 S.2.1 d_Lw_123 ?_
                  refine z_iconst S d_Lw_124 ?_
                  refine lv_idiv S.1 S.2.1 d_Lw_125 (by decide) ?_
                  refine z_goto (tgt := 176) S (by decide) d_Lw_126 ?_
                  exact t176 _
              · refine z_iload S (lv_at hl 1 rfl) d_Lw_105 ?_
                refine z_iload S (lv_at hl 0 rfl) d_Lw_107 ?_
                refine z_bipush S (by decide) d_Lw_109 ?_
                refine lv_iand S.1 S.2.1 d_Lw_111 ?_
                refine lv_iadd S.1 S.2.1 d_Lw_112 ?_
                refine z_goto (tgt := 176) S (by decide) d_Lw_113 ?_
                exact t176 _
            · refine z_iload S (lv_at hl 1 rfl) d_Lw_78 ?_
              refine z_sipush S (by decide) d_Lw_80 ?_
              refine lv_idiv S.1 S.2.1 d_Lw_83 (by decide) ?_
              refine z_iconst S d_Lw_84 ?_
              refine lv_iand S.1 S.2.1 d_Lw_85 ?_
              refine lv_if_ne (tgt := 94) S.1 S.2.1 d_Lw_86 (by decide) (fun _ => ?_) (fun _ => ?_)
              · refine z_iload S (lv_at hl 1 rfl) d_Lw_94 ?_
                refine lv_ineg S.1 S.2.1 d_Lw_96 ?_
                refine z_goto (tgt := 176) S (by decide) d_Lw_97 ?_
                exact t176 _
              · refine z_iload S (lv_at hl 1 rfl) d_Lw_89 ?_
                refine z_goto (tgt := 176) S (by decide) d_Lw_91 ?_
                exact t176 _
          · refine z_iload S (lv_at hl 0 rfl) d_Lw_65 ?_
            refine z_bipush S (by decide) d_Lw_67 ?_
            refine lv_iand S.1 S.2.1 d_Lw_69 ?_
            refine z_goto (tgt := 176) S (by decide) d_Lw_70 ?_
            exact t176 _
        · refine z_iload S (lv_at hl 0 rfl) d_Lw_55 ?_
          refine z_goto (tgt := 176) S (by decide) d_Lw_57 ?_
          exact t176 _
  refine z_aload_n S rfl (lv_at hl 0 rfl) d_Lw_0 ?_
  refine z_slen S hXs rfl d_Lw_1 ?_
  refine z_istore_n (lv' := [(1, .int (zI n)), (0, .ref b)]) S rfl hl rfl (by decide) d_Lw_2 (fun ls hl => ?_)
  refine z_iload_n S rfl (lv_at hl 0 rfl) d_Lw_3 ?_
  refine z_iconst S d_Lw_4 ?_
  refine z_icmp_ge (tgt := 10) S (by decide) (by omega) (by omega) d_Lw_5 ?_ ?_
  · intro hc
    refine z_aload_n S rfl (lv_at hl 1 rfl) d_Lw_10 ?_
    refine z_iconst S d_Lw_11 ?_
    refine z_sld 0 S hXs rfl (by omega) rfl (by omega) d_Lw_12 ?_
    refine z_bipush S (by decide) d_Lw_13 ?_
    refine lv_iand S.1 S.2.1 d_Lw_15 ?_
    generalize (xs 0 &&& zI 7) = kd
    refine z_istore_n (lv' := [(2, .int kd), (1, .int (zI n)), (0, .ref b)]) S rfl hl rfl (by decide) d_Lw_16 (fun ls hl => ?_)
    refine z_aload_n S rfl (lv_at hl 2 rfl) d_Lw_17 ?_
    refine z_iconst S d_Lw_18 ?_
    refine z_sld 1 S hXs rfl (by omega) rfl (by omega) d_Lw_19 ?_
    refine z_topI (zI_of (xs 1)) ?_
    have hP := zI_rng (xs 1)
    generalize (xs 1).toInt = P at hP ⊢
    refine z_istore_n (lv' := [(3, .int (zI P)), (2, .int kd), (1, .int (zI n)), (0, .ref b)]) S rfl hl rfl (by decide) d_Lw_20 (fun ls hl => ?_)
    refine z_iload_n S rfl (lv_at hl 2 rfl) d_Lw_21 ?_
    refine z_newi S hG tar_int (by omega) (by omega) (by decide) (by show 0 + ((n : Nat) : Int).toNat ≤ 7051467; omega) d_Lw_22 ?_
    rw [Int.toNat_natCast]
    have hw1 : (s.heap.push (IA (cI_ K) n (fun _ => 0)))[s.heap.size]? = some (IA (cI_ K) n (fun _ => 0)) := push_at
    have hz1 : (s.heap.push (IA (cI_ K) n (fun _ => 0))).size = s.heap.size + 1 := Array.size_push _
    have hq1 : ∀ q, q < s.heap.size → (s.heap.push (IA (cI_ K) n (fun _ => 0)))[q]? = s.heap[q]? := fun q h => push_off h
    generalize s.heap.push (IA (cI_ K) n (fun _ => 0)) = X1 at hw1 hz1 hq1 ⊢
    refine z_astore (lv' := [(4, .ref (Array.size s.heap)), (3, .int (zI P)), (2, .int kd), (1, .int (zI n)), (0, .ref b)]) S hl rfl (by decide) d_Lw_24 (fun ls hl => ?_)
    refine z_iload_n S rfl (lv_at hl 3 rfl) d_Lw_26 ?_
    refine z_newi S hG tar_int (by omega) (by omega) (by decide) (by show 0 + n + ((n : Nat) : Int).toNat ≤ 7051467; omega) d_Lw_27 ?_
    rw [Int.toNat_natCast, hz1]
    refine z_astore (lv' := [(5, .ref (Array.size s.heap + 1)), (4, .ref (Array.size s.heap)), (3, .int (zI P)), (2, .int kd), (1, .int (zI n)), (0, .ref b)]) S hl rfl (by decide) d_Lw_29 (fun ls hl => ?_)
    refine z_iconst S d_Lw_31 ?_
    refine z_istore (lv' := [(6, .int (zI 0)), (5, .ref (Array.size s.heap + 1)), (4, .ref (Array.size s.heap)), (3, .int (zI P)), (2, .int kd), (1, .int (zI n)), (0, .ref b)]) S hl rfl (by decide) d_Lw_32 (fun ls hl => ?_)
    refine W.cs (cells' := 2) (slots' := n + n) rfl (by omega) ?_
    refine init P kd (by omega) hP (n + 1) 0 (fun _ => 0) (fun _ => 0) _ ls [] (by omega) (by omega) (fun j hj => by omega) (by rw [push_off (by omega)]; exact hw1) (by rw [← hz1]; exact push_at) (by rw [Array.size_push]; omega) (fun q hq => by rw [push_off (by omega)]; exact hq1 q hq) LO.nil hl
  · intro hc
    refine z_iconst S d_Lw_8 ?_
    exact done 9 _ ls [] _ _ d_Lw_9 LO.nil (by omega) (by omega)
end
section
/-! the claim (the skeleton's end) -/
set_option maxHeartbeats 4000000 in
theorem lw_walk (l : Launch) (b : Addr) (xs : List Int32) : MetFree l x (headSpec (Jvm.Cond.code x code maxLocals ret :: tables_1) room_1) (lw_P b xs) (fun _ _ _ _ _ => True) lw_Q := by
  refine MetFree.of_bodyS (code := code) (maxLocals := maxLocals) (ret := ret) (by decide) ?_ ?_
  · intro args s m h hn
    obtain ⟨meth, c, h1, h2, h3, h4, h5, h6, -, -⟩ := Cond.code_spec hn (atoms_spec (ws := Jvm.Cond.code x code maxLocals ret :: tables_1) h _ List.mem_cons_self)
    exact ⟨meth, c, h1, h2, h3, h4, h5, h6⟩
  · intro p e s m args below meth c s₁ B hml0 hP _
    obtain ⟨rfl, hx, hbd, hgv⟩ := hP
    obtain ⟨scr, harrAt, hlist, hof, hsmall⟩ := hx
    obtain ⟨hcb, hkn, -, -⟩ := State.arrayAt?_spec harrAt
    have hown : s.vm.findClass R_law = some m.cls := findClass_of_methodNamed B.named
    have hts0 : ∀ c ∈ (Jvm.Cond.code x code maxLocals ret :: tables_1), c.before #[Value.ref b] s = true := atoms_spec (ws := Jvm.Cond.code x code maxLocals ret :: tables_1) B.pre
    have hts : ∀ w ∈ lw_tbl, w.before #[Value.ref b] s = true := k2_hts_sels lw_privs (fun w hw => hts0 w (List.mem_cons_of_mem _ hw)) lw_privs_ok
    have hml : c.maxLocals = 10 := B.maxLocals_eq (hts0 _ List.mem_cons_self)
    have X₀ : Stand p l e room_1 s m #[Value.ref b] below meth c s₁ [] 0 0 := Stand.of_body B
    have hh0 : s₁.heap = s.heap := by rw [B.state]; rfl
    have hsz : scr.slots.size = xs.length := by rw [← Array.length_toList, hlist, List.length_map]
    have hval : ∀ j : Nat, j < xs.length → scr.slots[j]? = some (.int (xs.getD j 0)) := fun j hj => by
      rw [← Array.getElem?_toList, hlist]
      simp [hj]
    have hbl : b < s.heap.size := (Array.getElem?_eq_some_iff.mp hcb).1
    have hX : va_X b xs.length (fun j => xs.getD j 0) s s.heap := ⟨scr, hcb, hof, hkn, hsz, hval⟩
    have K : W p l e room_1 s m #[Value.ref b] below meth c s₁.heap [] 0 0 (lw_Z below #[Value.ref b] s) (entryFrame m ([Value.ref b] : List Value).toArray 10) := by
      rw [hh0]
      exact whole_start l hbd ⟨B.exec, B.bytes, B.returns, hml, hown, hts, hX, hbl, B.notSynchronized, hgv⟩
    obtain ⟨t, a1, o, b1, b2, b3⟩ := K s₁ rfl X₀
    exact ⟨t, o, a1, b1, b2, b3⟩
theorem lw_pre_spec {args : Array Value} {s : State} (h : (Jvm.Cond.and given_1 narrow_1).before args s = true) (hr : rest_1_c.before args s = true) : ∃ (b : Addr) (xs : List Int32), lw_P b xs args s := by
  have hs := flat_of_before _ h
  have hq := flat_of_before _ hr
  have hc : (Cond.count 1).before args s = true := hs _ (by decide +kernel)
  have harr : (Cond.arrayOf (.arg 0) .int).before args s = true := hs _ (by decide +kernel)
  have hle : (Cond.le (.length (.arg 0)) (.int 8000)).before args s = true := hs _ (by decide +kernel)
  have hlen : (Cond.isInt (.length (.arg 0))).before args s = true := hq _ (by decide +kernel)
  have hall : (Cond.all (.arg 0) (.isInt (.elem (.arg 0) (.index 0)))).before args s = true := hq _ (by decide +kernel)
  obtain ⟨b, xs, hb, hx⟩ := State.ints_of_pre rfl harr hlen hall
  have hsm : xs.length < 2 ^ 31 := hx.choose_spec.2.2.2
  have hev : (Term.length (.arg 0)).eval args s none [] s = some (.int xs.length.toInt32) := hx.length_eval hb
  have hv := Cond.le_ints hev (show (Term.int 8000).eval args s none [] s = some (.int 8000) from rfl)
  have hd : xs.length.toInt32 ≤ 8000 := by
    simpa [Cond.before, Cond.holds, hv] using hle
  have hN : xs.length ≤ 8000 := (Int32.ofNat_le_ofNat hsm (by decide)).mp (show Int32.ofNat xs.length ≤ Int32.ofNat 8000 from hd)
  exact ⟨b, xs, Cond.one_arg hc (show args[0]? = some (.ref b) from hb), hx, hN, h⟩
theorem lw_comes (l : Launch) : Comes l x (Jvm.Cond.code x code maxLocals ret :: tables_1) room_1 (fun tb e args s => Calls_1 tb e args s ∧ rest_1 tb e args s ∧ Pre_1 tb e args s)
    (fun _ _ args s o t => lw_Q args s o t) := by
  intro p e ha hc hk s m args below hf hfit hheap happ hpre
  obtain ⟨b, xs, hP⟩ := lw_pre_spec hpre.2.2 hpre.2.1
  obtain ⟨k, o, h1, h2, h3, hQ⟩ := lw_walk l b xs p e ha hc hk s m args below hf ((Spec.applies_iff_loose hf).mp happ).1 hP trivial
  exact ⟨k, o, h1, h2, h3, hQ⟩
theorem lw_frame {s t : State} {o : Outcome} {args : Array Value} (h : Framed s o t [] 683594 7051467) :
    Framed s o t (fieldLocs frame_1_writes args s ++ arrayLocs frame_1_arrays args s ++ staticLocs frame_1_statics s) 683594 7051467 := h
theorem lw_limb (L : Cond) (hL : ∀ (args : Array Value) (s t : State), L.after args s (.returned (some (.int 1))) t = true) :
    ArmFor flags0 classFile x code maxLocals ret World_1 tables_1 room_1 Calls_1 rest_1 Pre_1
      (fun tb e a s o t => postC L tb e a s o t ∧ Framed s o t (fieldLocs frame_1_writes a s ++ arrayLocs frame_1_arrays a s ++ staticLocs frame_1_statics s) 683594 7051467) := by
  intro l _ _ _ p e ha hc hk s m args below hf hfit hheap happ hpre
  obtain ⟨k, o, h1, h2, h3, rfl, hF⟩ := lw_comes l p e ha hc hk s m args below hf hfit hheap happ hpre
  exact ⟨k, _, h1, h2, h3, hL args s _, lw_frame hF⟩
theorem i_vc : Claimed_1_1 ∧ Claimed_1_2 := ⟨lw_limb limb_1_1 (fun args s t => by simp [limb_1_1, Cond.after, Cond.holds, Cond.value]), lw_limb limb_1_2 (fun args s t => Cond.after_iff.mpr (by
  first | (rw [show limb_1_2 = Cond.eq .result (.int 1) from rfl, Cond.eq_ints (x := 1) (y := 1) rfl rfl]; simp; done) | (simp [limb_1_2, Cond.value, Term.eval]; done)))⟩
end
