section
-- ===== PART A: goes FIRST, ahead of the names: the tables' words, and 'selects' of the private methods out of them =====
/-- a private method of a class that the tables say can be made, by its rows of tables_1 -/
def lw_okq (q : MethodName × Nat) : Prop := (q.1.cls ≠ "java/lang/invoke/MethodHandle" ∧ q.1.cls ≠ "java/lang/invoke/VarHandle") ∧ Cond.instantiable q.1.cls q.2 ∈ tables_1 ∧ Cond.privateMethod q.1 ∈ tables_1 ∧ Cond.instanceMethod q.1 ∈ tables_1
set_option maxRecDepth 100000
theorem lw_t1 {w : Cond} (h : w ∈ tables_1_1) : w ∈ tables_1 := List.mem_append_left _ h
theorem lw_t2 {w : Cond} (h : w ∈ tables_1_2) : w ∈ tables_1 := List.mem_append_right _ h
theorem lw_p0 : lw_okq (⟨"GasRows", "before", "(D)LGasRows$Line;"⟩, 2) := ⟨⟨by decide +kernel, by decide +kernel⟩, lw_t1 (List.mem_of_getElem? (i := 6) rfl), lw_t1 (List.mem_of_getElem? (i := 37) rfl), lw_t1 (List.mem_of_getElem? (i := 38) rfl)⟩
theorem lw_p1 : lw_okq (⟨"GasRows$Line", "before", "(D)LGasRows$Row;"⟩, 3) := ⟨⟨by decide +kernel, by decide +kernel⟩, lw_t1 (List.mem_of_getElem? (i := 47) rfl), lw_t1 (List.mem_of_getElem? (i := 45) rfl), lw_t1 (List.mem_of_getElem? (i := 46) rfl)⟩
theorem lw_p2 : lw_okq (⟨"GasRows", "at", "(DD)D"⟩, 2) := ⟨⟨by decide +kernel, by decide +kernel⟩, lw_t1 (List.mem_of_getElem? (i := 6) rfl), lw_t1 (List.mem_of_getElem? (i := 94) rfl), lw_t1 (List.mem_of_getElem? (i := 95) rfl)⟩
theorem lw_p3 : lw_okq (⟨"GasRowsModel", "reckon", "(DD)D"⟩, 4) := ⟨⟨by decide +kernel, by decide +kernel⟩, lw_t1 (List.mem_of_getElem? (i := 159) rfl), lw_t1 (List.mem_of_getElem? (i := 196) rfl), lw_t1 (List.mem_of_getElem? (i := 197) rfl)⟩
theorem lw_p4 : lw_okq (⟨"GasRowsModel", "line", "(DD)D"⟩, 4) := ⟨⟨by decide +kernel, by decide +kernel⟩, lw_t1 (List.mem_of_getElem? (i := 159) rfl), lw_t1 (List.mem_of_getElem? (i := 200) rfl), lw_t1 (List.mem_of_getElem? (i := 201) rfl)⟩
def lw_privs_1 : List (MethodName × Nat) := [(⟨"GasRows", "before", "(D)LGasRows$Line;"⟩, 2), (⟨"GasRows$Line", "before", "(D)LGasRows$Row;"⟩, 3), (⟨"GasRows", "at", "(DD)D"⟩, 2), (⟨"GasRowsModel", "reckon", "(DD)D"⟩, 4), (⟨"GasRowsModel", "line", "(DD)D"⟩, 4)]
theorem lw_r1 : ∀ q ∈ lw_privs_1, lw_okq q := List.forall_mem_cons.mpr ⟨lw_p0, List.forall_mem_cons.mpr ⟨lw_p1, List.forall_mem_cons.mpr ⟨lw_p2, List.forall_mem_cons.mpr ⟨lw_p3, List.forall_mem_cons.mpr ⟨lw_p4, fun _ h => absurd h List.not_mem_nil⟩⟩⟩⟩⟩
def lw_privs : List (MethodName × Nat) := lw_privs_1
def lw_tbl : List Cond := k2_sels lw_privs ++ tables_1
theorem lw_privs_ok : ∀ q ∈ lw_privs, lw_okq q := lw_r1
-- ===== ONE list of words for every method: the tables' words that hold all through a run =====
def lw_all : List Cond := lw_tbl.filter goodWord
/-- a word of the tables by its place: claim/WORDS.tsv -/
theorem lw_w {w : Cond} (i : Nat) (h : lw_tbl[i]? = some w) (g : goodWord w = true) : w ∈ lw_all := List.mem_filter.mpr ⟨List.mem_of_getElem? h, g⟩
theorem lw_all_tbl {w : Cond} (h : w ∈ lw_all) : w ∈ lw_tbl := (List.mem_filter.mp h).1
theorem lw_self : GoodIn lw_all lw_all := fun w h => ⟨h, good_of_word (List.mem_filter.mp h).2⟩
/-- a class's field words, by their places -/
theorem lw_in (ws : List Cond) (ps : List Nat) (hp : ws = ps.filterMap (fun i => lw_tbl[i]?)) (hg : ws.all goodWord = true) : ∀ w ∈ ws, w ∈ lw_all := by
  intro w h
  have h1 := List.all_eq_true.mp hg w h
  rw [hp] at h
  obtain ⟨i, -, hi⟩ := List.mem_filterMap.mp h
  exact lw_w i hi h1
/-- the words of a contract for the method y with code b, L locals, answer r -/
abbrev ws_ (y : MethodName) (b : ByteArray) (L : Nat) (r : Option FieldType) : List Cond := Cond.code y b L r :: lw_all
theorem lw_meth {y : MethodName} {b : ByteArray} {L : Nat} {r : Option FieldType} (h : Cond.code y b L r ∈ lw_all) : GoodIn lw_all (ws_ y b L r) := by
  intro w hw
  rcases List.mem_cons.mp hw with e | e
  · rw [e]
    exact lw_self _ h
  · exact lw_self _ e
theorem lw_app {a c : List Cond} (ha : ∀ w ∈ a, w ∈ lw_all) (hc : GoodIn lw_all c) : GoodIn lw_all (a ++ c) := by
  intro w hw
  rcases List.mem_append.mp hw with e | e
  · exact lw_self w (ha w e)
  · exact hc w e
/-- what a call through an object asks: cwV n hts (lw_V ..) -/
theorem lw_V {own : String} {idx : Nat} {C : String} {y : MethodName} {b : ByteArray} {L : Nat} {r : Option FieldType} (h1 : Cond.methodLink own idx y ∈ lw_all) (h2 : Cond.instanceMethod y ∈ lw_all) (h3 : Cond.selects C y y ∈ lw_all) (h4 : Cond.initialized C ∈ lw_all) (h5 : Cond.code y b L r ∈ lw_all) : GoodIn lw_all (wsV own idx C y (ws_ y b L r)) := by
  refine lw_app ?_ (lw_meth h5)
  intro w hw
  simp only [List.mem_cons, List.not_mem_nil, or_false] at hw
  rcases hw with e | e | e | e
  · rw [e]; exact h1
  · rw [e]; exact h2
  · rw [e]; exact h3
  · rw [e]; exact h4
/-- what a static call asks: va_cwS n hts (lw_S ..) -/
theorem lw_S {own : String} {idx : Nat} {y : MethodName} {b : ByteArray} {L : Nat} {r : Option FieldType} (h1 : Cond.methodLink own idx y ∈ lw_all) (h2 : Cond.static y ∈ lw_all) (h3 : Cond.initialized y.cls ∈ lw_all) (h4 : Cond.code y b L r ∈ lw_all) : GoodIn lw_all (va_wsS own idx y (ws_ y b L r)) := by
  refine lw_app ?_ (lw_meth h4)
  intro w hw
  simp only [List.mem_cons, List.not_mem_nil, or_false] at hw
  rcases hw with e | e | e
  · rw [e]; exact h1
  · rw [e]; exact h2
  · rw [e]; exact h3
/-- the words of a contract for a method WITH HANDLERS (hh: its table) -/
abbrev wsW_ (y : MethodName) (b : ByteArray) (L : Nat) (r : Option FieldType) (hh : List (Nat × Nat × Nat × Nat)) : List Cond := Cond.codeWith y b L r hh :: lw_all
theorem lw_methW {y : MethodName} {b : ByteArray} {L : Nat} {r : Option FieldType} {hh : List (Nat × Nat × Nat × Nat)} (h : Cond.codeWith y b L r hh ∈ lw_all) : GoodIn lw_all (wsW_ y b L r hh) := by
  intro w hw
  rcases List.mem_cons.mp hw with e | e
  · rw [e]
    exact lw_self _ h
  · exact lw_self _ e
/-- any list of words by their places (lw_in), good -/
theorem lw_good {ws : List Cond} (h : ∀ w ∈ ws, w ∈ lw_all) : GoodIn lw_all ws := fun w hw => lw_self w (h w hw)
/-- what a call of a method with handlers asks: vx_cwVW n hts (lw_VW ..), vx_cwSW n hts (lw_SW ..) -/
theorem lw_VW {own : String} {idx : Nat} {C : String} {y : MethodName} {b : ByteArray} {L : Nat} {r : Option FieldType} {hh : List (Nat × Nat × Nat × Nat)} (h1 : Cond.methodLink own idx y ∈ lw_all) (h2 : Cond.instanceMethod y ∈ lw_all) (h3 : Cond.selects C y y ∈ lw_all) (h4 : Cond.initialized C ∈ lw_all) (h5 : Cond.codeWith y b L r hh ∈ lw_all) : GoodIn lw_all (wsV own idx C y (wsW_ y b L r hh)) := by
  refine lw_app ?_ (lw_methW h5)
  intro w hw
  simp only [List.mem_cons, List.not_mem_nil, or_false] at hw
  rcases hw with e | e | e | e
  · rw [e]; exact h1
  · rw [e]; exact h2
  · rw [e]; exact h3
  · rw [e]; exact h4
theorem lw_SW {own : String} {idx : Nat} {y : MethodName} {b : ByteArray} {L : Nat} {r : Option FieldType} {hh : List (Nat × Nat × Nat × Nat)} (h1 : Cond.methodLink own idx y ∈ lw_all) (h2 : Cond.static y ∈ lw_all) (h3 : Cond.initialized y.cls ∈ lw_all) (h4 : Cond.codeWith y b L r hh ∈ lw_all) : GoodIn lw_all (va_wsS own idx y (wsW_ y b L r hh)) := by
  refine lw_app ?_ (lw_methW h4)
  intro w hw
  simp only [List.mem_cons, List.not_mem_nil, or_false] at hw
  rcases hw with e | e | e
  · rw [e]; exact h1
  · rw [e]; exact h2
  · rw [e]; exact h3
/-- a word by its place in its run of the tables -/
theorem lw_at {r : List Cond} (hr : ∀ w ∈ r, w ∈ lw_tbl) {w : Cond} (i : Nat) (h : r[i]? = some w) : w ∈ lw_tbl := hr w (List.mem_of_getElem? h)
theorem lw_g {w : Cond} (h : w ∈ lw_tbl) (g : goodWord w = true) : w ∈ lw_all := List.mem_filter.mpr ⟨h, g⟩
theorem lw_ms : ∀ w ∈ k2_sels lw_privs, w ∈ lw_tbl := fun w h => show w ∈ k2_sels lw_privs ++ tables_1 from List.mem_append_left _ h
theorem lw_m1 : ∀ w ∈ tables_1_1, w ∈ lw_tbl := fun w h => show w ∈ k2_sels lw_privs ++ tables_1 from List.mem_append_right (k2_sels lw_privs) (show w ∈ tables_1 from List.mem_append_left _ h)
theorem lw_m2 : ∀ w ∈ tables_1_2, w ∈ lw_tbl := fun w h => show w ∈ k2_sels lw_privs ++ tables_1 from List.mem_append_right (k2_sels lw_privs) (show w ∈ tables_1 from List.mem_append_right _ h)
theorem qs0 : (Cond.selects "GasRows" ⟨"GasRows", "before", "(D)LGasRows$Line;"⟩ ⟨"GasRows", "before", "(D)LGasRows$Line;"⟩) ∈ lw_all := lw_g (lw_at lw_ms 0 rfl) rfl
theorem qs1 : (Cond.selects "GasRows$Line" ⟨"GasRows$Line", "before", "(D)LGasRows$Row;"⟩ ⟨"GasRows$Line", "before", "(D)LGasRows$Row;"⟩) ∈ lw_all := lw_g (lw_at lw_ms 1 rfl) rfl
theorem qs2 : (Cond.selects "GasRows" ⟨"GasRows", "at", "(DD)D"⟩ ⟨"GasRows", "at", "(DD)D"⟩) ∈ lw_all := lw_g (lw_at lw_ms 2 rfl) rfl
theorem qs3 : (Cond.selects "GasRowsModel" ⟨"GasRowsModel", "reckon", "(DD)D"⟩ ⟨"GasRowsModel", "reckon", "(DD)D"⟩) ∈ lw_all := lw_g (lw_at lw_ms 3 rfl) rfl
theorem qs4 : (Cond.selects "GasRowsModel" ⟨"GasRowsModel", "line", "(DD)D"⟩ ⟨"GasRowsModel", "line", "(DD)D"⟩) ∈ lw_all := lw_g (lw_at lw_ms 4 rfl) rfl
end
section
/-! GasRows -/
set_option maxRecDepth 100000
def RX0 : String := "GasRows"
def TX0 : u_T := fun k => match k with
  | 0 => ("GasRows", "first", "LGasRows$Line;", false)
  | _ => ("GasRows", "count", "I", false)
def tyX0 : Nat → FieldType := fun k => match k with
  | 0 => .object "GasRows$Line"
  | _ => .int
abbrev wsX00 : List Cond := u_ws RX0 TX0 2
theorem nmX0 : ∀ a, a < 2 → ∀ b, b < 2 → a ≠ b → (TX0 a).2.1 ≠ (TX0 b).2.1 := by decide +kernel
theorem tyX0_ok : ∀ k, k < 2 → parseFieldDescriptor (TX0 k).2.2.1 = some (tyX0 k) := by decide +kernel
abbrev cX0_init : ByteArray := prog_1_method_1_code
def yX0_init : MethodName := ⟨RX0, "<init>", "()V"⟩
theorem dX0_init_0 : decode cX0_init 0 = .ok (.aload_n 0, 1) := by decide +kernel
theorem dX0_init_1 : decode cX0_init 1 = .ok (.invokespecial 1, 3) := by decide +kernel
theorem dX0_init_4 : decode cX0_init 4 = .ok (.return_, 1) := by decide +kernel
abbrev cX0_row : ByteArray := prog_1_method_7_code
def yX0_row : MethodName := ⟨RX0, "row", "(DDD)Z"⟩
theorem dX0_row_0 : decode cX0_row 0 = .ok (.dload_n 1, 1) := by decide +kernel
theorem dX0_row_1 : decode cX0_row 1 = .ok (.dload_n 3, 1) := by decide +kernel
theorem dX0_row_2 : decode cX0_row 2 = .ok (.invokestatic 32, 3) := by decide +kernel
theorem dX0_row_5 : decode cX0_row 5 = .ok (.ifCond .eq 11, 3) := by decide +kernel
theorem dX0_row_8 : decode cX0_row 8 = .ok (.dload 5, 2) := by decide +kernel
theorem dX0_row_10 : decode cX0_row 10 = .ok (.invokestatic 36, 3) := by decide +kernel
theorem dX0_row_13 : decode cX0_row 13 = .ok (.ifCond .ne 5, 3) := by decide +kernel
theorem dX0_row_16 : decode cX0_row 16 = .ok (.iconst 0, 1) := by decide +kernel
theorem dX0_row_17 : decode cX0_row 17 = .ok (.ireturn, 1) := by decide +kernel
theorem dX0_row_18 : decode cX0_row 18 = .ok (.aload_n 0, 1) := by decide +kernel
theorem dX0_row_19 : decode cX0_row 19 = .ok (.dload_n 1, 1) := by decide +kernel
theorem dX0_row_20 : decode cX0_row 20 = .ok (.invokevirtual 40, 3) := by decide +kernel
theorem dX0_row_23 : decode cX0_row 23 = .ok (.astore 7, 2) := by decide +kernel
theorem dX0_row_25 : decode cX0_row 25 = .ok (.aload 7, 2) := by decide +kernel
theorem dX0_row_27 : decode cX0_row 27 = .ok (.ifnull 17, 3) := by decide +kernel
theorem dX0_row_30 : decode cX0_row 30 = .ok (.aload 7, 2) := by decide +kernel
theorem dX0_row_32 : decode cX0_row 32 = .ok (.getfield 23, 3) := by decide +kernel
theorem dX0_row_35 : decode cX0_row 35 = .ok (.dload_n 1, 1) := by decide +kernel
theorem dX0_row_36 : decode cX0_row 36 = .ok (.dcmp .l, 1) := by decide +kernel
theorem dX0_row_37 : decode cX0_row 37 = .ok (.ifCond .ne 7, 3) := by decide +kernel
theorem dX0_row_40 : decode cX0_row 40 = .ok (.iconst 1, 1) := by decide +kernel
theorem dX0_row_41 : decode cX0_row 41 = .ok (.goto 4, 3) := by decide +kernel
theorem dX0_row_44 : decode cX0_row 44 = .ok (.iconst 0, 1) := by decide +kernel
theorem dX0_row_45 : decode cX0_row 45 = .ok (.istore 8, 2) := by decide +kernel
theorem dX0_row_47 : decode cX0_row 47 = .ok (.iload 8, 2) := by decide +kernel
theorem dX0_row_49 : decode cX0_row 49 = .ok (.ifCond .eq 22, 3) := by decide +kernel
theorem dX0_row_52 : decode cX0_row 52 = .ok (.aload 7, 2) := by decide +kernel
theorem dX0_row_54 : decode cX0_row 54 = .ok (.dload_n 3, 1) := by decide +kernel
theorem dX0_row_55 : decode cX0_row 55 = .ok (.invokevirtual 44, 3) := by decide +kernel
theorem dX0_row_58 : decode cX0_row 58 = .ok (.ifCond .eq 13, 3) := by decide +kernel
theorem dX0_row_61 : decode cX0_row 61 = .ok (.aload 7, 2) := by decide +kernel
theorem dX0_row_63 : decode cX0_row 63 = .ok (.dload_n 3, 1) := by decide +kernel
theorem dX0_row_64 : decode cX0_row 64 = .ok (.dload 5, 2) := by decide +kernel
theorem dX0_row_66 : decode cX0_row 66 = .ok (.invokevirtual 47, 3) := by decide +kernel
theorem dX0_row_69 : decode cX0_row 69 = .ok (.iconst 1, 1) := by decide +kernel
theorem dX0_row_70 : decode cX0_row 70 = .ok (.ireturn, 1) := by decide +kernel
theorem dX0_row_71 : decode cX0_row 71 = .ok (.aload_n 0, 1) := by decide +kernel
theorem dX0_row_72 : decode cX0_row 72 = .ok (.getfield 51, 3) := by decide +kernel
theorem dX0_row_75 : decode cX0_row 75 = .ok (.bipush 30, 2) := by decide +kernel
theorem dX0_row_77 : decode cX0_row 77 = .ok (.if_icmp .ne 5, 3) := by decide +kernel
theorem dX0_row_80 : decode cX0_row 80 = .ok (.iconst 0, 1) := by decide +kernel
theorem dX0_row_81 : decode cX0_row 81 = .ok (.ireturn, 1) := by decide +kernel
theorem dX0_row_82 : decode cX0_row 82 = .ok (.aload_n 0, 1) := by decide +kernel
theorem dX0_row_83 : decode cX0_row 83 = .ok (.dup, 1) := by decide +kernel
theorem dX0_row_84 : decode cX0_row 84 = .ok (.getfield 51, 3) := by decide +kernel
theorem dX0_row_87 : decode cX0_row 87 = .ok (.iconst 1, 1) := by decide +kernel
theorem dX0_row_88 : decode cX0_row 88 = .ok (.iadd, 1) := by decide +kernel
theorem dX0_row_89 : decode cX0_row 89 = .ok (.putfield 51, 3) := by decide +kernel
theorem dX0_row_92 : decode cX0_row 92 = .ok (.iload 8, 2) := by decide +kernel
theorem dX0_row_94 : decode cX0_row 94 = .ok (.ifCond .ne 55, 3) := by decide +kernel
theorem dX0_row_97 : decode cX0_row 97 = .ok (.new 24, 3) := by decide +kernel
theorem dX0_row_100 : decode cX0_row 100 = .ok (.dup, 1) := by decide +kernel
theorem dX0_row_101 : decode cX0_row 101 = .ok (.dload_n 1, 1) := by decide +kernel
theorem dX0_row_102 : decode cX0_row 102 = .ok (.aload 7, 2) := by decide +kernel
theorem dX0_row_104 : decode cX0_row 104 = .ok (.ifnonnull 10, 3) := by decide +kernel
theorem dX0_row_107 : decode cX0_row 107 = .ok (.aload_n 0, 1) := by decide +kernel
theorem dX0_row_108 : decode cX0_row 108 = .ok (.getfield 19, 3) := by decide +kernel
theorem dX0_row_111 : decode cX0_row 111 = .ok (.goto 8, 3) := by decide +kernel
theorem dX0_row_114 : decode cX0_row 114 = .ok (.aload 7, 2) := by decide +kernel
theorem dX0_row_116 : decode cX0_row 116 = .ok (.getfield 29, 3) := by decide +kernel
theorem dX0_row_119 : decode cX0_row 119 = .ok (.invokespecial 55, 3) := by decide +kernel
theorem dX0_row_122 : decode cX0_row 122 = .ok (.astore 9, 2) := by decide +kernel
theorem dX0_row_124 : decode cX0_row 124 = .ok (.aload 7, 2) := by decide +kernel
theorem dX0_row_126 : decode cX0_row 126 = .ok (.ifnonnull 12, 3) := by decide +kernel
theorem dX0_row_129 : decode cX0_row 129 = .ok (.aload_n 0, 1) := by decide +kernel
theorem dX0_row_130 : decode cX0_row 130 = .ok (.aload 9, 2) := by decide +kernel
theorem dX0_row_132 : decode cX0_row 132 = .ok (.putfield 19, 3) := by decide +kernel
theorem dX0_row_135 : decode cX0_row 135 = .ok (.goto 10, 3) := by decide +kernel
theorem dX0_row_138 : decode cX0_row 138 = .ok (.aload 7, 2) := by decide +kernel
theorem dX0_row_140 : decode cX0_row 140 = .ok (.aload 9, 2) := by decide +kernel
theorem dX0_row_142 : decode cX0_row 142 = .ok (.putfield 29, 3) := by decide +kernel
theorem dX0_row_145 : decode cX0_row 145 = .ok (.aload 9, 2) := by decide +kernel
theorem dX0_row_147 : decode cX0_row 147 = .ok (.astore 7, 2) := by decide +kernel
theorem dX0_row_149 : decode cX0_row 149 = .ok (.aload 7, 2) := by decide +kernel
theorem dX0_row_151 : decode cX0_row 151 = .ok (.dload_n 3, 1) := by decide +kernel
theorem dX0_row_152 : decode cX0_row 152 = .ok (.dload 5, 2) := by decide +kernel
theorem dX0_row_154 : decode cX0_row 154 = .ok (.invokevirtual 47, 3) := by decide +kernel
theorem dX0_row_157 : decode cX0_row 157 = .ok (.iconst 1, 1) := by decide +kernel
theorem dX0_row_158 : decode cX0_row 158 = .ok (.ireturn, 1) := by decide +kernel
abbrev cX0_isPlace : ByteArray := prog_1_method_4_code
def yX0_isPlace : MethodName := ⟨RX0, "isPlace", "(DD)Z"⟩
theorem dX0_isPlace_0 : decode cX0_isPlace 0 = .ok (.dload_n 0, 1) := by decide +kernel
theorem dX0_isPlace_1 : decode cX0_isPlace 1 = .ok (.ldc2_w 7, 3) := by decide +kernel
theorem dX0_isPlace_4 : decode cX0_isPlace 4 = .ok (.ldc2_w 9, 3) := by decide +kernel
theorem dX0_isPlace_7 : decode cX0_isPlace 7 = .ok (.invokestatic 11, 3) := by decide +kernel
theorem dX0_isPlace_10 : decode cX0_isPlace 10 = .ok (.ifCond .eq 18, 3) := by decide +kernel
theorem dX0_isPlace_13 : decode cX0_isPlace 13 = .ok (.dload_n 2, 1) := by decide +kernel
theorem dX0_isPlace_14 : decode cX0_isPlace 14 = .ok (.dconst 0, 1) := by decide +kernel
theorem dX0_isPlace_15 : decode cX0_isPlace 15 = .ok (.ldc2_w 17, 3) := by decide +kernel
theorem dX0_isPlace_18 : decode cX0_isPlace 18 = .ok (.invokestatic 11, 3) := by decide +kernel
theorem dX0_isPlace_21 : decode cX0_isPlace 21 = .ok (.ifCond .eq 7, 3) := by decide +kernel
theorem dX0_isPlace_24 : decode cX0_isPlace 24 = .ok (.iconst 1, 1) := by decide +kernel
theorem dX0_isPlace_25 : decode cX0_isPlace 25 = .ok (.goto 4, 3) := by decide +kernel
theorem dX0_isPlace_28 : decode cX0_isPlace 28 = .ok (.iconst 0, 1) := by decide +kernel
theorem dX0_isPlace_29 : decode cX0_isPlace 29 = .ok (.ireturn, 1) := by decide +kernel
abbrev cX0_isWithin : ByteArray := prog_1_method_3_code
def yX0_isWithin : MethodName := ⟨RX0, "isWithin", "(DDD)Z"⟩
theorem dX0_isWithin_0 : decode cX0_isWithin 0 = .ok (.dload_n 0, 1) := by decide +kernel
theorem dX0_isWithin_1 : decode cX0_isWithin 1 = .ok (.dload_n 2, 1) := by decide +kernel
theorem dX0_isWithin_2 : decode cX0_isWithin 2 = .ok (.dcmp .l, 1) := by decide +kernel
theorem dX0_isWithin_3 : decode cX0_isWithin 3 = .ok (.ifCond .lt 14, 3) := by decide +kernel
theorem dX0_isWithin_6 : decode cX0_isWithin 6 = .ok (.dload_n 0, 1) := by decide +kernel
theorem dX0_isWithin_7 : decode cX0_isWithin 7 = .ok (.dload 4, 2) := by decide +kernel
theorem dX0_isWithin_9 : decode cX0_isWithin 9 = .ok (.dcmp .g, 1) := by decide +kernel
theorem dX0_isWithin_10 : decode cX0_isWithin 10 = .ok (.ifCond .gt 7, 3) := by decide +kernel
theorem dX0_isWithin_13 : decode cX0_isWithin 13 = .ok (.iconst 1, 1) := by decide +kernel
theorem dX0_isWithin_14 : decode cX0_isWithin 14 = .ok (.goto 4, 3) := by decide +kernel
theorem dX0_isWithin_17 : decode cX0_isWithin 17 = .ok (.iconst 0, 1) := by decide +kernel
theorem dX0_isWithin_18 : decode cX0_isWithin 18 = .ok (.ireturn, 1) := by decide +kernel
abbrev cX0_isGas : ByteArray := prog_1_method_5_code
def yX0_isGas : MethodName := ⟨RX0, "isGas", "(D)Z"⟩
theorem dX0_isGas_0 : decode cX0_isGas 0 = .ok (.dload_n 0, 1) := by decide +kernel
theorem dX0_isGas_1 : decode cX0_isGas 1 = .ok (.dconst 0, 1) := by decide +kernel
theorem dX0_isGas_2 : decode cX0_isGas 2 = .ok (.ldc2_w 9, 3) := by decide +kernel
theorem dX0_isGas_5 : decode cX0_isGas 5 = .ok (.invokestatic 11, 3) := by decide +kernel
theorem dX0_isGas_8 : decode cX0_isGas 8 = .ok (.ireturn, 1) := by decide +kernel
abbrev cX0_before : ByteArray := prog_1_method_6_code
def yX0_before : MethodName := ⟨RX0, "before", "(D)LGasRows$Line;"⟩
theorem dX0_before_0 : decode cX0_before 0 = .ok (.aconst_null, 1) := by decide +kernel
theorem dX0_before_1 : decode cX0_before 1 = .ok (.astore_n 3, 1) := by decide +kernel
theorem dX0_before_2 : decode cX0_before 2 = .ok (.aload_n 0, 1) := by decide +kernel
theorem dX0_before_3 : decode cX0_before 3 = .ok (.getfield 19, 3) := by decide +kernel
theorem dX0_before_6 : decode cX0_before 6 = .ok (.astore 4, 2) := by decide +kernel
theorem dX0_before_8 : decode cX0_before 8 = .ok (.aload 4, 2) := by decide +kernel
theorem dX0_before_10 : decode cX0_before 10 = .ok (.ifnull 26, 3) := by decide +kernel
theorem dX0_before_13 : decode cX0_before 13 = .ok (.aload 4, 2) := by decide +kernel
theorem dX0_before_15 : decode cX0_before 15 = .ok (.getfield 23, 3) := by decide +kernel
theorem dX0_before_18 : decode cX0_before 18 = .ok (.dload_n 1, 1) := by decide +kernel
theorem dX0_before_19 : decode cX0_before 19 = .ok (.dcmp .g, 1) := by decide +kernel
theorem dX0_before_20 : decode cX0_before 20 = .ok (.ifCond .gt 16, 3) := by decide +kernel
theorem dX0_before_23 : decode cX0_before 23 = .ok (.aload 4, 2) := by decide +kernel
theorem dX0_before_25 : decode cX0_before 25 = .ok (.astore_n 3, 1) := by decide +kernel
theorem dX0_before_26 : decode cX0_before 26 = .ok (.aload 4, 2) := by decide +kernel
theorem dX0_before_28 : decode cX0_before 28 = .ok (.getfield 29, 3) := by decide +kernel
theorem dX0_before_31 : decode cX0_before 31 = .ok (.astore 4, 2) := by decide +kernel
theorem dX0_before_33 : decode cX0_before 33 = .ok (.goto (-25), 3) := by decide +kernel
theorem dX0_before_36 : decode cX0_before 36 = .ok (.aload_n 3, 1) := by decide +kernel
theorem dX0_before_37 : decode cX0_before 37 = .ok (.areturn, 1) := by decide +kernel
abbrev cX0_balance : ByteArray := prog_1_method_9_code
def yX0_balance : MethodName := ⟨RX0, "balance", "(DD)D"⟩
theorem dX0_balance_0 : decode cX0_balance 0 = .ok (.dload_n 1, 1) := by decide +kernel
theorem dX0_balance_1 : decode cX0_balance 1 = .ok (.dload_n 3, 1) := by decide +kernel
theorem dX0_balance_2 : decode cX0_balance 2 = .ok (.invokestatic 32, 3) := by decide +kernel
theorem dX0_balance_5 : decode cX0_balance 5 = .ok (.ifCond .eq 12, 3) := by decide +kernel
theorem dX0_balance_8 : decode cX0_balance 8 = .ok (.aload_n 0, 1) := by decide +kernel
theorem dX0_balance_9 : decode cX0_balance 9 = .ok (.dload_n 1, 1) := by decide +kernel
theorem dX0_balance_10 : decode cX0_balance 10 = .ok (.dload_n 3, 1) := by decide +kernel
theorem dX0_balance_11 : decode cX0_balance 11 = .ok (.invokevirtual 66, 3) := by decide +kernel
theorem dX0_balance_14 : decode cX0_balance 14 = .ok (.goto 6, 3) := by decide +kernel
theorem dX0_balance_17 : decode cX0_balance 17 = .ok (.ldc2_w 69, 3) := by decide +kernel
theorem dX0_balance_20 : decode cX0_balance 20 = .ok (.dreturn, 1) := by decide +kernel
abbrev cX0_at : ByteArray := prog_1_method_8_code
def yX0_at : MethodName := ⟨RX0, "at", "(DD)D"⟩
theorem dX0_at_0 : decode cX0_at 0 = .ok (.aload_n 0, 1) := by decide +kernel
theorem dX0_at_1 : decode cX0_at 1 = .ok (.getfield 19, 3) := by decide +kernel
theorem dX0_at_4 : decode cX0_at 4 = .ok (.ifnonnull 5, 3) := by decide +kernel
theorem dX0_at_7 : decode cX0_at 7 = .ok (.dconst 0, 1) := by decide +kernel
theorem dX0_at_8 : decode cX0_at 8 = .ok (.dreturn, 1) := by decide +kernel
theorem dX0_at_9 : decode cX0_at 9 = .ok (.aload_n 0, 1) := by decide +kernel
theorem dX0_at_10 : decode cX0_at 10 = .ok (.dload_n 1, 1) := by decide +kernel
theorem dX0_at_11 : decode cX0_at 11 = .ok (.invokevirtual 40, 3) := by decide +kernel
theorem dX0_at_14 : decode cX0_at 14 = .ok (.astore 5, 2) := by decide +kernel
theorem dX0_at_16 : decode cX0_at 16 = .ok (.aload 5, 2) := by decide +kernel
theorem dX0_at_18 : decode cX0_at 18 = .ok (.ifnonnull 12, 3) := by decide +kernel
theorem dX0_at_21 : decode cX0_at 21 = .ok (.aload_n 0, 1) := by decide +kernel
theorem dX0_at_22 : decode cX0_at 22 = .ok (.getfield 19, 3) := by decide +kernel
theorem dX0_at_25 : decode cX0_at 25 = .ok (.dload_n 3, 1) := by decide +kernel
theorem dX0_at_26 : decode cX0_at 26 = .ok (.invokevirtual 58, 3) := by decide +kernel
theorem dX0_at_29 : decode cX0_at 29 = .ok (.dreturn, 1) := by decide +kernel
theorem dX0_at_30 : decode cX0_at 30 = .ok (.aload 5, 2) := by decide +kernel
theorem dX0_at_32 : decode cX0_at 32 = .ok (.getfield 29, 3) := by decide +kernel
theorem dX0_at_35 : decode cX0_at 35 = .ok (.astore 6, 2) := by decide +kernel
theorem dX0_at_37 : decode cX0_at 37 = .ok (.aload 6, 2) := by decide +kernel
theorem dX0_at_39 : decode cX0_at 39 = .ok (.ifnull 13, 3) := by decide +kernel
theorem dX0_at_42 : decode cX0_at 42 = .ok (.aload 5, 2) := by decide +kernel
theorem dX0_at_44 : decode cX0_at 44 = .ok (.getfield 23, 3) := by decide +kernel
theorem dX0_at_47 : decode cX0_at 47 = .ok (.dload_n 1, 1) := by decide +kernel
theorem dX0_at_48 : decode cX0_at 48 = .ok (.dcmp .l, 1) := by decide +kernel
theorem dX0_at_49 : decode cX0_at 49 = .ok (.ifCond .ne 12, 3) := by decide +kernel
theorem dX0_at_52 : decode cX0_at 52 = .ok (.aload 5, 2) := by decide +kernel
theorem dX0_at_54 : decode cX0_at 54 = .ok (.dload_n 3, 1) := by decide +kernel
theorem dX0_at_55 : decode cX0_at 55 = .ok (.invokevirtual 58, 3) := by decide +kernel
theorem dX0_at_58 : decode cX0_at 58 = .ok (.goto 29, 3) := by decide +kernel
theorem dX0_at_61 : decode cX0_at 61 = .ok (.aload 5, 2) := by decide +kernel
theorem dX0_at_63 : decode cX0_at 63 = .ok (.getfield 23, 3) := by decide +kernel
theorem dX0_at_66 : decode cX0_at 66 = .ok (.aload 5, 2) := by decide +kernel
theorem dX0_at_68 : decode cX0_at 68 = .ok (.dload_n 3, 1) := by decide +kernel
theorem dX0_at_69 : decode cX0_at 69 = .ok (.invokevirtual 58, 3) := by decide +kernel
theorem dX0_at_72 : decode cX0_at 72 = .ok (.aload 6, 2) := by decide +kernel
theorem dX0_at_74 : decode cX0_at 74 = .ok (.getfield 23, 3) := by decide +kernel
theorem dX0_at_77 : decode cX0_at 77 = .ok (.aload 6, 2) := by decide +kernel
theorem dX0_at_79 : decode cX0_at 79 = .ok (.dload_n 3, 1) := by decide +kernel
theorem dX0_at_80 : decode cX0_at 80 = .ok (.invokevirtual 58, 3) := by decide +kernel
theorem dX0_at_83 : decode cX0_at 83 = .ok (.dload_n 1, 1) := by decide +kernel
theorem dX0_at_84 : decode cX0_at 84 = .ok (.invokestatic 62, 3) := by decide +kernel
theorem dX0_at_87 : decode cX0_at 87 = .ok (.dreturn, 1) := by decide +kernel
abbrev cX0_join : ByteArray := prog_1_method_2_code
def yX0_join : MethodName := ⟨RX0, "join", "(DDDDD)D"⟩
theorem dX0_join_0 : decode cX0_join 0 = .ok (.dload_n 2, 1) := by decide +kernel
theorem dX0_join_1 : decode cX0_join 1 = .ok (.dload 6, 2) := by decide +kernel
theorem dX0_join_3 : decode cX0_join 3 = .ok (.dload_n 2, 1) := by decide +kernel
theorem dX0_join_4 : decode cX0_join 4 = .ok (.dsub, 1) := by decide +kernel
theorem dX0_join_5 : decode cX0_join 5 = .ok (.dload 8, 2) := by decide +kernel
theorem dX0_join_7 : decode cX0_join 7 = .ok (.dload_n 0, 1) := by decide +kernel
theorem dX0_join_8 : decode cX0_join 8 = .ok (.dsub, 1) := by decide +kernel
theorem dX0_join_9 : decode cX0_join 9 = .ok (.dmul, 1) := by decide +kernel
theorem dX0_join_10 : decode cX0_join 10 = .ok (.dload 4, 2) := by decide +kernel
theorem dX0_join_12 : decode cX0_join 12 = .ok (.dload_n 0, 1) := by decide +kernel
theorem dX0_join_13 : decode cX0_join 13 = .ok (.dsub, 1) := by decide +kernel
theorem dX0_join_14 : decode cX0_join 14 = .ok (.ddiv, 1) := by decide +kernel
theorem dX0_join_15 : decode cX0_join 15 = .ok (.dadd, 1) := by decide +kernel
theorem dX0_join_16 : decode cX0_join 16 = .ok (.dreturn, 1) := by decide +kernel
abbrev cX0_after : ByteArray := prog_1_method_11_code
def yX0_after : MethodName := ⟨RX0, "after", "(DDDI)D"⟩
theorem dX0_after_0 : decode cX0_after 0 = .ok (.dload_n 1, 1) := by decide +kernel
theorem dX0_after_1 : decode cX0_after 1 = .ok (.invokestatic 36, 3) := by decide +kernel
theorem dX0_after_4 : decode cX0_after 4 = .ok (.ifCond .eq 20, 3) := by decide +kernel
theorem dX0_after_7 : decode cX0_after 7 = .ok (.dload_n 3, 1) := by decide +kernel
theorem dX0_after_8 : decode cX0_after 8 = .ok (.dload 5, 2) := by decide +kernel
theorem dX0_after_10 : decode cX0_after 10 = .ok (.invokestatic 32, 3) := by decide +kernel
theorem dX0_after_13 : decode cX0_after 13 = .ok (.ifCond .eq 11, 3) := by decide +kernel
theorem dX0_after_16 : decode cX0_after 16 = .ok (.iload 7, 2) := by decide +kernel
theorem dX0_after_18 : decode cX0_after 18 = .ok (.invokestatic 72, 3) := by decide +kernel
theorem dX0_after_21 : decode cX0_after 21 = .ok (.ifCond .ne 7, 3) := by decide +kernel
theorem dX0_after_24 : decode cX0_after 24 = .ok (.ldc2_w 69, 3) := by decide +kernel
theorem dX0_after_27 : decode cX0_after 27 = .ok (.dreturn, 1) := by decide +kernel
theorem dX0_after_28 : decode cX0_after 28 = .ok (.aload_n 0, 1) := by decide +kernel
theorem dX0_after_29 : decode cX0_after 29 = .ok (.dload_n 3, 1) := by decide +kernel
theorem dX0_after_30 : decode cX0_after 30 = .ok (.dload 5, 2) := by decide +kernel
theorem dX0_after_32 : decode cX0_after 32 = .ok (.invokevirtual 66, 3) := by decide +kernel
theorem dX0_after_35 : decode cX0_after 35 = .ok (.dstore 8, 2) := by decide +kernel
theorem dX0_after_37 : decode cX0_after 37 = .ok (.dload_n 1, 1) := by decide +kernel
theorem dX0_after_38 : decode cX0_after 38 = .ok (.dstore 10, 2) := by decide +kernel
theorem dX0_after_40 : decode cX0_after 40 = .ok (.iconst 0, 1) := by decide +kernel
theorem dX0_after_41 : decode cX0_after 41 = .ok (.istore 12, 2) := by decide +kernel
theorem dX0_after_43 : decode cX0_after 43 = .ok (.iload 12, 2) := by decide +kernel
theorem dX0_after_45 : decode cX0_after 45 = .ok (.iload 7, 2) := by decide +kernel
theorem dX0_after_47 : decode cX0_after 47 = .ok (.if_icmp .ge 23, 3) := by decide +kernel
theorem dX0_after_50 : decode cX0_after 50 = .ok (.dload 10, 2) := by decide +kernel
theorem dX0_after_52 : decode cX0_after 52 = .ok (.dload 8, 2) := by decide +kernel
theorem dX0_after_54 : decode cX0_after 54 = .ok (.dload 10, 2) := by decide +kernel
theorem dX0_after_56 : decode cX0_after 56 = .ok (.dsub, 1) := by decide +kernel
theorem dX0_after_57 : decode cX0_after 57 = .ok (.ldc2_w 76, 3) := by decide +kernel
theorem dX0_after_60 : decode cX0_after 60 = .ok (.dmul, 1) := by decide +kernel
theorem dX0_after_61 : decode cX0_after 61 = .ok (.dadd, 1) := by decide +kernel
theorem dX0_after_62 : decode cX0_after 62 = .ok (.dstore 10, 2) := by decide +kernel
theorem dX0_after_64 : decode cX0_after 64 = .ok (.iinc 12 1, 3) := by decide +kernel
theorem dX0_after_67 : decode cX0_after 67 = .ok (.goto (-24), 3) := by decide +kernel
theorem dX0_after_70 : decode cX0_after 70 = .ok (.dload 10, 2) := by decide +kernel
theorem dX0_after_72 : decode cX0_after 72 = .ok (.dreturn, 1) := by decide +kernel
abbrev cX0_isTime : ByteArray := prog_1_method_10_code
def yX0_isTime : MethodName := ⟨RX0, "isTime", "(I)Z"⟩
theorem dX0_isTime_0 : decode cX0_isTime 0 = .ok (.iload_n 0, 1) := by decide +kernel
theorem dX0_isTime_1 : decode cX0_isTime 1 = .ok (.ifCond .lt 13, 3) := by decide +kernel
theorem dX0_isTime_4 : decode cX0_isTime 4 = .ok (.iload_n 0, 1) := by decide +kernel
theorem dX0_isTime_5 : decode cX0_isTime 5 = .ok (.ldc 71, 2) := by decide +kernel
theorem dX0_isTime_7 : decode cX0_isTime 7 = .ok (.if_icmp .gt 7, 3) := by decide +kernel
theorem dX0_isTime_10 : decode cX0_isTime 10 = .ok (.iconst 1, 1) := by decide +kernel
theorem dX0_isTime_11 : decode cX0_isTime 11 = .ok (.goto 4, 3) := by decide +kernel
theorem dX0_isTime_14 : decode cX0_isTime 14 = .ok (.iconst 0, 1) := by decide +kernel
theorem dX0_isTime_15 : decode cX0_isTime 15 = .ok (.ireturn, 1) := by decide +kernel
abbrev cX0_fill : ByteArray := prog_1_method_12_code
def yX0_fill : MethodName := ⟨RX0, "fill", "(DD)D"⟩
theorem dX0_fill_0 : decode cX0_fill 0 = .ok (.dload_n 1, 1) := by decide +kernel
theorem dX0_fill_1 : decode cX0_fill 1 = .ok (.invokestatic 36, 3) := by decide +kernel
theorem dX0_fill_4 : decode cX0_fill 4 = .ok (.ifCond .eq 14, 3) := by decide +kernel
theorem dX0_fill_7 : decode cX0_fill 7 = .ok (.dload_n 3, 1) := by decide +kernel
theorem dX0_fill_8 : decode cX0_fill 8 = .ok (.dconst 0, 1) := by decide +kernel
theorem dX0_fill_9 : decode cX0_fill 9 = .ok (.ldc2_w 78, 3) := by decide +kernel
theorem dX0_fill_12 : decode cX0_fill 12 = .ok (.invokestatic 11, 3) := by decide +kernel
theorem dX0_fill_15 : decode cX0_fill 15 = .ok (.ifCond .ne 7, 3) := by decide +kernel
theorem dX0_fill_18 : decode cX0_fill 18 = .ok (.ldc2_w 69, 3) := by decide +kernel
theorem dX0_fill_21 : decode cX0_fill 21 = .ok (.dreturn, 1) := by decide +kernel
theorem dX0_fill_22 : decode cX0_fill 22 = .ok (.dload_n 3, 1) := by decide +kernel
theorem dX0_fill_23 : decode cX0_fill 23 = .ok (.ldc2_w 80, 3) := by decide +kernel
theorem dX0_fill_26 : decode cX0_fill 26 = .ok (.dmul, 1) := by decide +kernel
theorem dX0_fill_27 : decode cX0_fill 27 = .ok (.dstore 5, 2) := by decide +kernel
theorem dX0_fill_29 : decode cX0_fill 29 = .ok (.dload_n 1, 1) := by decide +kernel
theorem dX0_fill_30 : decode cX0_fill 30 = .ok (.dload_n 1, 1) := by decide +kernel
theorem dX0_fill_31 : decode cX0_fill 31 = .ok (.dload 5, 2) := by decide +kernel
theorem dX0_fill_33 : decode cX0_fill 33 = .ok (.dmul, 1) := by decide +kernel
theorem dX0_fill_34 : decode cX0_fill 34 = .ok (.dconst 1, 1) := by decide +kernel
theorem dX0_fill_35 : decode cX0_fill 35 = .ok (.dload 5, 2) := by decide +kernel
theorem dX0_fill_37 : decode cX0_fill 37 = .ok (.dadd, 1) := by decide +kernel
theorem dX0_fill_38 : decode cX0_fill 38 = .ok (.ddiv, 1) := by decide +kernel
theorem dX0_fill_39 : decode cX0_fill 39 = .ok (.dsub, 1) := by decide +kernel
theorem dX0_fill_40 : decode cX0_fill 40 = .ok (.dreturn, 1) := by decide +kernel
abbrev cX0_bunging : ByteArray := prog_1_method_15_code
def yX0_bunging : MethodName := ⟨RX0, "bunging", "(JJI)J"⟩
theorem dX0_bunging_0 : decode cX0_bunging 0 = .ok (.lload_n 1, 1) := by decide +kernel
theorem dX0_bunging_1 : decode cX0_bunging 1 = .ok (.lload_n 3, 1) := by decide +kernel
theorem dX0_bunging_2 : decode cX0_bunging 2 = .ok (.invokestatic 88, 3) := by decide +kernel
theorem dX0_bunging_5 : decode cX0_bunging 5 = .ok (.ifCond .eq 14, 3) := by decide +kernel
theorem dX0_bunging_8 : decode cX0_bunging 8 = .ok (.iload 5, 2) := by decide +kernel
theorem dX0_bunging_10 : decode cX0_bunging 10 = .ok (.ifCond .lt 9, 3) := by decide +kernel
theorem dX0_bunging_13 : decode cX0_bunging 13 = .ok (.iload 5, 2) := by decide +kernel
theorem dX0_bunging_15 : decode cX0_bunging 15 = .ok (.iconst 1, 1) := by decide +kernel
theorem dX0_bunging_16 : decode cX0_bunging 16 = .ok (.if_icmp .le 7, 3) := by decide +kernel
theorem dX0_bunging_19 : decode cX0_bunging 19 = .ok (.ldc2_w 92, 3) := by decide +kernel
theorem dX0_bunging_22 : decode cX0_bunging 22 = .ok (.lreturn, 1) := by decide +kernel
theorem dX0_bunging_23 : decode cX0_bunging 23 = .ok (.ldc2_w 94, 3) := by decide +kernel
theorem dX0_bunging_26 : decode cX0_bunging 26 = .ok (.lload_n 1, 1) := by decide +kernel
theorem dX0_bunging_27 : decode cX0_bunging 27 = .ok (.lmul, 1) := by decide +kernel
theorem dX0_bunging_28 : decode cX0_bunging 28 = .ok (.lstore 6, 2) := by decide +kernel
theorem dX0_bunging_30 : decode cX0_bunging 30 = .ok (.ldc2_w 96, 3) := by decide +kernel
theorem dX0_bunging_33 : decode cX0_bunging 33 = .ok (.lload_n 3, 1) := by decide +kernel
theorem dX0_bunging_34 : decode cX0_bunging 34 = .ok (.lmul, 1) := by decide +kernel
theorem dX0_bunging_35 : decode cX0_bunging 35 = .ok (.lstore 8, 2) := by decide +kernel
theorem dX0_bunging_37 : decode cX0_bunging 37 = .ok (.lload 6, 2) := by decide +kernel
theorem dX0_bunging_39 : decode cX0_bunging 39 = .ok (.lload 8, 2) := by decide +kernel
theorem dX0_bunging_41 : decode cX0_bunging 41 = .ok (.invokestatic 84, 3) := by decide +kernel
theorem dX0_bunging_44 : decode cX0_bunging 44 = .ok (.lstore 10, 2) := by decide +kernel
theorem dX0_bunging_46 : decode cX0_bunging 46 = .ok (.iload 5, 2) := by decide +kernel
theorem dX0_bunging_48 : decode cX0_bunging 48 = .ok (.ifCond .ne 11, 3) := by decide +kernel
theorem dX0_bunging_51 : decode cX0_bunging 51 = .ok (.lload 6, 2) := by decide +kernel
theorem dX0_bunging_53 : decode cX0_bunging 53 = .ok (.lload 10, 2) := by decide +kernel
theorem dX0_bunging_55 : decode cX0_bunging 55 = .ok (.ldiv, 1) := by decide +kernel
theorem dX0_bunging_56 : decode cX0_bunging 56 = .ok (.goto 8, 3) := by decide +kernel
theorem dX0_bunging_59 : decode cX0_bunging 59 = .ok (.lload 8, 2) := by decide +kernel
theorem dX0_bunging_61 : decode cX0_bunging 61 = .ok (.lload 10, 2) := by decide +kernel
theorem dX0_bunging_63 : decode cX0_bunging 63 = .ok (.ldiv, 1) := by decide +kernel
theorem dX0_bunging_64 : decode cX0_bunging 64 = .ok (.lreturn, 1) := by decide +kernel
abbrev cX0_isPart : ByteArray := prog_1_method_13_code
def yX0_isPart : MethodName := ⟨RX0, "isPart", "(JJ)Z"⟩
theorem dX0_isPart_0 : decode cX0_isPart 0 = .ok (.lload_n 0, 1) := by decide +kernel
theorem dX0_isPart_1 : decode cX0_isPart 1 = .ok (.lconst 1, 1) := by decide +kernel
theorem dX0_isPart_2 : decode cX0_isPart 2 = .ok (.lcmp, 1) := by decide +kernel
theorem dX0_isPart_3 : decode cX0_isPart 3 = .ok (.ifCond .lt 29, 3) := by decide +kernel
theorem dX0_isPart_6 : decode cX0_isPart 6 = .ok (.lload_n 0, 1) := by decide +kernel
theorem dX0_isPart_7 : decode cX0_isPart 7 = .ok (.ldc2_w 82, 3) := by decide +kernel
theorem dX0_isPart_10 : decode cX0_isPart 10 = .ok (.lcmp, 1) := by decide +kernel
theorem dX0_isPart_11 : decode cX0_isPart 11 = .ok (.ifCond .gt 21, 3) := by decide +kernel
theorem dX0_isPart_14 : decode cX0_isPart 14 = .ok (.lload_n 2, 1) := by decide +kernel
theorem dX0_isPart_15 : decode cX0_isPart 15 = .ok (.lconst 1, 1) := by decide +kernel
theorem dX0_isPart_16 : decode cX0_isPart 16 = .ok (.lcmp, 1) := by decide +kernel
theorem dX0_isPart_17 : decode cX0_isPart 17 = .ok (.ifCond .lt 15, 3) := by decide +kernel
theorem dX0_isPart_20 : decode cX0_isPart 20 = .ok (.lload_n 2, 1) := by decide +kernel
theorem dX0_isPart_21 : decode cX0_isPart 21 = .ok (.ldc2_w 82, 3) := by decide +kernel
theorem dX0_isPart_24 : decode cX0_isPart 24 = .ok (.lcmp, 1) := by decide +kernel
theorem dX0_isPart_25 : decode cX0_isPart 25 = .ok (.ifCond .gt 7, 3) := by decide +kernel
theorem dX0_isPart_28 : decode cX0_isPart 28 = .ok (.iconst 1, 1) := by decide +kernel
theorem dX0_isPart_29 : decode cX0_isPart 29 = .ok (.goto 4, 3) := by decide +kernel
theorem dX0_isPart_32 : decode cX0_isPart 32 = .ok (.iconst 0, 1) := by decide +kernel
theorem dX0_isPart_33 : decode cX0_isPart 33 = .ok (.ireturn, 1) := by decide +kernel
abbrev cX0_divisor : ByteArray := prog_1_method_14_code
def yX0_divisor : MethodName := ⟨RX0, "divisor", "(JJ)J"⟩
theorem dX0_divisor_0 : decode cX0_divisor 0 = .ok (.lload_n 2, 1) := by decide +kernel
theorem dX0_divisor_1 : decode cX0_divisor 1 = .ok (.lconst 0, 1) := by decide +kernel
theorem dX0_divisor_2 : decode cX0_divisor 2 = .ok (.lcmp, 1) := by decide +kernel
theorem dX0_divisor_3 : decode cX0_divisor 3 = .ok (.ifCond .ne 7, 3) := by decide +kernel
theorem dX0_divisor_6 : decode cX0_divisor 6 = .ok (.lload_n 0, 1) := by decide +kernel
theorem dX0_divisor_7 : decode cX0_divisor 7 = .ok (.goto 10, 3) := by decide +kernel
theorem dX0_divisor_10 : decode cX0_divisor 10 = .ok (.lload_n 2, 1) := by decide +kernel
theorem dX0_divisor_11 : decode cX0_divisor 11 = .ok (.lload_n 0, 1) := by decide +kernel
theorem dX0_divisor_12 : decode cX0_divisor 12 = .ok (.lload_n 2, 1) := by decide +kernel
theorem dX0_divisor_13 : decode cX0_divisor 13 = .ok (.lrem, 1) := by decide +kernel
theorem dX0_divisor_14 : decode cX0_divisor 14 = .ok (.invokestatic 84, 3) := by decide +kernel
theorem dX0_divisor_17 : decode cX0_divisor 17 = .ok (.lreturn, 1) := by decide +kernel
abbrev cX0_sugar : ByteArray := prog_1_method_16_code
def yX0_sugar : MethodName := ⟨RX0, "sugar", "(JJI)J"⟩
theorem dX0_sugar_0 : decode cX0_sugar 0 = .ok (.lload_n 1, 1) := by decide +kernel
theorem dX0_sugar_1 : decode cX0_sugar 1 = .ok (.lload_n 3, 1) := by decide +kernel
theorem dX0_sugar_2 : decode cX0_sugar 2 = .ok (.invokestatic 88, 3) := by decide +kernel
theorem dX0_sugar_5 : decode cX0_sugar 5 = .ok (.ifCond .eq 14, 3) := by decide +kernel
theorem dX0_sugar_8 : decode cX0_sugar 8 = .ok (.iload 5, 2) := by decide +kernel
theorem dX0_sugar_10 : decode cX0_sugar 10 = .ok (.ifCond .lt 9, 3) := by decide +kernel
theorem dX0_sugar_13 : decode cX0_sugar 13 = .ok (.iload 5, 2) := by decide +kernel
theorem dX0_sugar_15 : decode cX0_sugar 15 = .ok (.iconst 2, 1) := by decide +kernel
theorem dX0_sugar_16 : decode cX0_sugar 16 = .ok (.if_icmp .le 7, 3) := by decide +kernel
theorem dX0_sugar_19 : decode cX0_sugar 19 = .ok (.ldc2_w 92, 3) := by decide +kernel
theorem dX0_sugar_22 : decode cX0_sugar 22 = .ok (.lreturn, 1) := by decide +kernel
theorem dX0_sugar_23 : decode cX0_sugar 23 = .ok (.ldc2_w 98, 3) := by decide +kernel
theorem dX0_sugar_26 : decode cX0_sugar 26 = .ok (.lload_n 1, 1) := by decide +kernel
theorem dX0_sugar_27 : decode cX0_sugar 27 = .ok (.lmul, 1) := by decide +kernel
theorem dX0_sugar_28 : decode cX0_sugar 28 = .ok (.lstore 6, 2) := by decide +kernel
theorem dX0_sugar_30 : decode cX0_sugar 30 = .ok (.ldc2_w 100, 3) := by decide +kernel
theorem dX0_sugar_33 : decode cX0_sugar 33 = .ok (.lload_n 3, 1) := by decide +kernel
theorem dX0_sugar_34 : decode cX0_sugar 34 = .ok (.lmul, 1) := by decide +kernel
theorem dX0_sugar_35 : decode cX0_sugar 35 = .ok (.lstore 8, 2) := by decide +kernel
theorem dX0_sugar_37 : decode cX0_sugar 37 = .ok (.iload 5, 2) := by decide +kernel
theorem dX0_sugar_39 : decode cX0_sugar 39 = .ok (.iconst 2, 1) := by decide +kernel
theorem dX0_sugar_40 : decode cX0_sugar 40 = .ok (.if_icmp .ne 14, 3) := by decide +kernel
theorem dX0_sugar_43 : decode cX0_sugar 43 = .ok (.lload 6, 2) := by decide +kernel
theorem dX0_sugar_45 : decode cX0_sugar 45 = .ok (.lload 8, 2) := by decide +kernel
theorem dX0_sugar_47 : decode cX0_sugar 47 = .ok (.ladd, 1) := by decide +kernel
theorem dX0_sugar_48 : decode cX0_sugar 48 = .ok (.lconst 1, 1) := by decide +kernel
theorem dX0_sugar_49 : decode cX0_sugar 49 = .ok (.lsub, 1) := by decide +kernel
theorem dX0_sugar_50 : decode cX0_sugar 50 = .ok (.lload 8, 2) := by decide +kernel
theorem dX0_sugar_52 : decode cX0_sugar 52 = .ok (.ldiv, 1) := by decide +kernel
theorem dX0_sugar_53 : decode cX0_sugar 53 = .ok (.lreturn, 1) := by decide +kernel
theorem dX0_sugar_54 : decode cX0_sugar 54 = .ok (.lload 6, 2) := by decide +kernel
theorem dX0_sugar_56 : decode cX0_sugar 56 = .ok (.lload 8, 2) := by decide +kernel
theorem dX0_sugar_58 : decode cX0_sugar 58 = .ok (.invokestatic 84, 3) := by decide +kernel
theorem dX0_sugar_61 : decode cX0_sugar 61 = .ok (.lstore 10, 2) := by decide +kernel
theorem dX0_sugar_63 : decode cX0_sugar 63 = .ok (.iload 5, 2) := by decide +kernel
theorem dX0_sugar_65 : decode cX0_sugar 65 = .ok (.ifCond .ne 11, 3) := by decide +kernel
theorem dX0_sugar_68 : decode cX0_sugar 68 = .ok (.lload 6, 2) := by decide +kernel
theorem dX0_sugar_70 : decode cX0_sugar 70 = .ok (.lload 10, 2) := by decide +kernel
theorem dX0_sugar_72 : decode cX0_sugar 72 = .ok (.ldiv, 1) := by decide +kernel
theorem dX0_sugar_73 : decode cX0_sugar 73 = .ok (.goto 8, 3) := by decide +kernel
theorem dX0_sugar_76 : decode cX0_sugar 76 = .ok (.lload 8, 2) := by decide +kernel
theorem dX0_sugar_78 : decode cX0_sugar 78 = .ok (.lload 10, 2) := by decide +kernel
theorem dX0_sugar_80 : decode cX0_sugar 80 = .ok (.ldiv, 1) := by decide +kernel
theorem dX0_sugar_81 : decode cX0_sugar 81 = .ok (.lreturn, 1) := by decide +kernel
abbrev cX0_burst : ByteArray := prog_1_method_17_code
def yX0_burst : MethodName := ⟨RX0, "burst", "(DDD)I"⟩
theorem dX0_burst_0 : decode cX0_burst 0 = .ok (.dload_n 1, 1) := by decide +kernel
theorem dX0_burst_1 : decode cX0_burst 1 = .ok (.invokestatic 36, 3) := by decide +kernel
theorem dX0_burst_4 : decode cX0_burst 4 = .ok (.ifCond .eq 28, 3) := by decide +kernel
theorem dX0_burst_7 : decode cX0_burst 7 = .ok (.dload_n 3, 1) := by decide +kernel
theorem dX0_burst_8 : decode cX0_burst 8 = .ok (.ldc2_w 7, 3) := by decide +kernel
theorem dX0_burst_11 : decode cX0_burst 11 = .ok (.ldc2_w 9, 3) := by decide +kernel
theorem dX0_burst_14 : decode cX0_burst 14 = .ok (.invokestatic 11, 3) := by decide +kernel
theorem dX0_burst_17 : decode cX0_burst 17 = .ok (.ifCond .eq 15, 3) := by decide +kernel
theorem dX0_burst_20 : decode cX0_burst 20 = .ok (.dload 5, 2) := by decide +kernel
theorem dX0_burst_22 : decode cX0_burst 22 = .ok (.dconst 0, 1) := by decide +kernel
theorem dX0_burst_23 : decode cX0_burst 23 = .ok (.ldc2_w 17, 3) := by decide +kernel
theorem dX0_burst_26 : decode cX0_burst 26 = .ok (.invokestatic 11, 3) := by decide +kernel
theorem dX0_burst_29 : decode cX0_burst 29 = .ok (.ifCond .ne 6, 3) := by decide +kernel
theorem dX0_burst_32 : decode cX0_burst 32 = .ok (.bipush (-2), 2) := by decide +kernel
theorem dX0_burst_34 : decode cX0_burst 34 = .ok (.ireturn, 1) := by decide +kernel
theorem dX0_burst_35 : decode cX0_burst 35 = .ok (.iconst 0, 1) := by decide +kernel
theorem dX0_burst_36 : decode cX0_burst 36 = .ok (.istore 7, 2) := by decide +kernel
theorem dX0_burst_38 : decode cX0_burst 38 = .ok (.iload 7, 2) := by decide +kernel
theorem dX0_burst_40 : decode cX0_burst 40 = .ok (.sipush 160, 3) := by decide +kernel
theorem dX0_burst_43 : decode cX0_burst 43 = .ok (.if_icmp .gt 44, 3) := by decide +kernel
theorem dX0_burst_46 : decode cX0_burst 46 = .ok (.iload 7, 2) := by decide +kernel
theorem dX0_burst_48 : decode cX0_burst 48 = .ok (.i2d, 1) := by decide +kernel
theorem dX0_burst_49 : decode cX0_burst 49 = .ok (.ldc2_w 102, 3) := by decide +kernel
theorem dX0_burst_52 : decode cX0_burst 52 = .ok (.dmul, 1) := by decide +kernel
theorem dX0_burst_53 : decode cX0_burst 53 = .ok (.dstore 8, 2) := by decide +kernel
theorem dX0_burst_55 : decode cX0_burst 55 = .ok (.aload_n 0, 1) := by decide +kernel
theorem dX0_burst_56 : decode cX0_burst 56 = .ok (.dload_n 3, 1) := by decide +kernel
theorem dX0_burst_57 : decode cX0_burst 57 = .ok (.dload 8, 2) := by decide +kernel
theorem dX0_burst_59 : decode cX0_burst 59 = .ok (.invokevirtual 66, 3) := by decide +kernel
theorem dX0_burst_62 : decode cX0_burst 62 = .ok (.dload_n 1, 1) := by decide +kernel
theorem dX0_burst_63 : decode cX0_burst 63 = .ok (.dcmp .l, 1) := by decide +kernel
theorem dX0_burst_64 : decode cX0_burst 64 = .ok (.ifCond .lt 17, 3) := by decide +kernel
theorem dX0_burst_67 : decode cX0_burst 67 = .ok (.dload 8, 2) := by decide +kernel
theorem dX0_burst_69 : decode cX0_burst 69 = .ok (.dload 5, 2) := by decide +kernel
theorem dX0_burst_71 : decode cX0_burst 71 = .ok (.dcmp .l, 1) := by decide +kernel
theorem dX0_burst_72 : decode cX0_burst 72 = .ok (.ifCond .le 7, 3) := by decide +kernel
theorem dX0_burst_75 : decode cX0_burst 75 = .ok (.iconst 1, 1) := by decide +kernel
theorem dX0_burst_76 : decode cX0_burst 76 = .ok (.goto 4, 3) := by decide +kernel
theorem dX0_burst_79 : decode cX0_burst 79 = .ok (.iconst 0, 1) := by decide +kernel
theorem dX0_burst_80 : decode cX0_burst 80 = .ok (.ireturn, 1) := by decide +kernel
theorem dX0_burst_81 : decode cX0_burst 81 = .ok (.iinc 7 1, 3) := by decide +kernel
theorem dX0_burst_84 : decode cX0_burst 84 = .ok (.goto (-46), 3) := by decide +kernel
theorem dX0_burst_87 : decode cX0_burst 87 = .ok (.iconst 1, 1) := by decide +kernel
theorem dX0_burst_88 : decode cX0_burst 88 = .ok (.ireturn, 1) := by decide +kernel
abbrev cX0_foam : ByteArray := prog_1_method_18_code
def yX0_foam : MethodName := ⟨RX0, "foam", "(ID)D"⟩
theorem dX0_foam_0 : decode cX0_foam 0 = .ok (.iload_n 1, 1) := by decide +kernel
theorem dX0_foam_1 : decode cX0_foam 1 = .ok (.invokestatic 72, 3) := by decide +kernel
theorem dX0_foam_4 : decode cX0_foam 4 = .ok (.ifCond .eq 14, 3) := by decide +kernel
theorem dX0_foam_7 : decode cX0_foam 7 = .ok (.dload_n 2, 1) := by decide +kernel
theorem dX0_foam_8 : decode cX0_foam 8 = .ok (.dconst 0, 1) := by decide +kernel
theorem dX0_foam_9 : decode cX0_foam 9 = .ok (.ldc2_w 78, 3) := by decide +kernel
theorem dX0_foam_12 : decode cX0_foam 12 = .ok (.invokestatic 11, 3) := by decide +kernel
theorem dX0_foam_15 : decode cX0_foam 15 = .ok (.ifCond .ne 7, 3) := by decide +kernel
theorem dX0_foam_18 : decode cX0_foam 18 = .ok (.ldc2_w 69, 3) := by decide +kernel
theorem dX0_foam_21 : decode cX0_foam 21 = .ok (.dreturn, 1) := by decide +kernel
theorem dX0_foam_22 : decode cX0_foam 22 = .ok (.dload_n 2, 1) := by decide +kernel
theorem dX0_foam_23 : decode cX0_foam 23 = .ok (.dstore 4, 2) := by decide +kernel
theorem dX0_foam_25 : decode cX0_foam 25 = .ok (.iconst 0, 1) := by decide +kernel
theorem dX0_foam_26 : decode cX0_foam 26 = .ok (.istore 6, 2) := by decide +kernel
theorem dX0_foam_28 : decode cX0_foam 28 = .ok (.iload 6, 2) := by decide +kernel
theorem dX0_foam_30 : decode cX0_foam 30 = .ok (.iload_n 1, 1) := by decide +kernel
theorem dX0_foam_31 : decode cX0_foam 31 = .ok (.if_icmp .ge 41, 3) := by decide +kernel
theorem dX0_foam_34 : decode cX0_foam 34 = .ok (.dload 4, 2) := by decide +kernel
theorem dX0_foam_36 : decode cX0_foam 36 = .ok (.dconst 0, 1) := by decide +kernel
theorem dX0_foam_37 : decode cX0_foam 37 = .ok (.dcmp .l, 1) := by decide +kernel
theorem dX0_foam_38 : decode cX0_foam 38 = .ok (.ifCond .le 34, 3) := by decide +kernel
theorem dX0_foam_41 : decode cX0_foam 41 = .ok (.dload 4, 2) := by decide +kernel
theorem dX0_foam_43 : decode cX0_foam 43 = .ok (.dload 4, 2) := by decide +kernel
theorem dX0_foam_45 : decode cX0_foam 45 = .ok (.ldc2_w 104, 3) := by decide +kernel
theorem dX0_foam_48 : decode cX0_foam 48 = .ok (.dmul, 1) := by decide +kernel
theorem dX0_foam_49 : decode cX0_foam 49 = .ok (.ldc2_w 106, 3) := by decide +kernel
theorem dX0_foam_52 : decode cX0_foam 52 = .ok (.dadd, 1) := by decide +kernel
theorem dX0_foam_53 : decode cX0_foam 53 = .ok (.dsub, 1) := by decide +kernel
theorem dX0_foam_54 : decode cX0_foam 54 = .ok (.dstore 4, 2) := by decide +kernel
theorem dX0_foam_56 : decode cX0_foam 56 = .ok (.dload 4, 2) := by decide +kernel
theorem dX0_foam_58 : decode cX0_foam 58 = .ok (.dconst 0, 1) := by decide +kernel
theorem dX0_foam_59 : decode cX0_foam 59 = .ok (.dcmp .g, 1) := by decide +kernel
theorem dX0_foam_60 : decode cX0_foam 60 = .ok (.ifCond .ge 6, 3) := by decide +kernel
theorem dX0_foam_63 : decode cX0_foam 63 = .ok (.dconst 0, 1) := by decide +kernel
theorem dX0_foam_64 : decode cX0_foam 64 = .ok (.dstore 4, 2) := by decide +kernel
theorem dX0_foam_66 : decode cX0_foam 66 = .ok (.iinc 6 1, 3) := by decide +kernel
theorem dX0_foam_69 : decode cX0_foam 69 = .ok (.goto (-41), 3) := by decide +kernel
theorem dX0_foam_72 : decode cX0_foam 72 = .ok (.dload 4, 2) := by decide +kernel
theorem dX0_foam_74 : decode cX0_foam 74 = .ok (.dreturn, 1) := by decide +kernel
abbrev cX0_mixed : ByteArray := prog_1_method_19_code
def yX0_mixed : MethodName := ⟨RX0, "mixed", "(DDDI)D"⟩
theorem dX0_mixed_0 : decode cX0_mixed 0 = .ok (.dload_n 1, 1) := by decide +kernel
theorem dX0_mixed_1 : decode cX0_mixed 1 = .ok (.dconst 0, 1) := by decide +kernel
theorem dX0_mixed_2 : decode cX0_mixed 2 = .ok (.dconst 1, 1) := by decide +kernel
theorem dX0_mixed_3 : decode cX0_mixed 3 = .ok (.invokestatic 11, 3) := by decide +kernel
theorem dX0_mixed_6 : decode cX0_mixed 6 = .ok (.ifCond .eq 23, 3) := by decide +kernel
theorem dX0_mixed_9 : decode cX0_mixed 9 = .ok (.dload_n 3, 1) := by decide +kernel
theorem dX0_mixed_10 : decode cX0_mixed 10 = .ok (.dload 5, 2) := by decide +kernel
theorem dX0_mixed_12 : decode cX0_mixed 12 = .ok (.invokestatic 32, 3) := by decide +kernel
theorem dX0_mixed_15 : decode cX0_mixed 15 = .ok (.ifCond .eq 14, 3) := by decide +kernel
theorem dX0_mixed_18 : decode cX0_mixed 18 = .ok (.iload 7, 2) := by decide +kernel
theorem dX0_mixed_20 : decode cX0_mixed 20 = .ok (.ifCond .lt 9, 3) := by decide +kernel
theorem dX0_mixed_23 : decode cX0_mixed 23 = .ok (.iload 7, 2) := by decide +kernel
theorem dX0_mixed_25 : decode cX0_mixed 25 = .ok (.iconst 1, 1) := by decide +kernel
theorem dX0_mixed_26 : decode cX0_mixed 26 = .ok (.if_icmp .le 7, 3) := by decide +kernel
theorem dX0_mixed_29 : decode cX0_mixed 29 = .ok (.ldc2_w 69, 3) := by decide +kernel
theorem dX0_mixed_32 : decode cX0_mixed 32 = .ok (.dreturn, 1) := by decide +kernel
theorem dX0_mixed_33 : decode cX0_mixed 33 = .ok (.iload 7, 2) := by decide +kernel
theorem dX0_mixed_35 : decode cX0_mixed 35 = .ok (.iconst 1, 1) := by decide +kernel
theorem dX0_mixed_36 : decode cX0_mixed 36 = .ok (.if_icmp .ne 15, 3) := by decide +kernel
theorem dX0_mixed_39 : decode cX0_mixed 39 = .ok (.aload_n 0, 1) := by decide +kernel
theorem dX0_mixed_40 : decode cX0_mixed 40 = .ok (.dload_n 3, 1) := by decide +kernel
theorem dX0_mixed_41 : decode cX0_mixed 41 = .ok (.dload 5, 2) := by decide +kernel
theorem dX0_mixed_43 : decode cX0_mixed 43 = .ok (.dconst 1, 1) := by decide +kernel
theorem dX0_mixed_44 : decode cX0_mixed 44 = .ok (.dload_n 1, 1) := by decide +kernel
theorem dX0_mixed_45 : decode cX0_mixed 45 = .ok (.dsub, 1) := by decide +kernel
theorem dX0_mixed_46 : decode cX0_mixed 46 = .ok (.dmul, 1) := by decide +kernel
theorem dX0_mixed_47 : decode cX0_mixed 47 = .ok (.invokevirtual 66, 3) := by decide +kernel
theorem dX0_mixed_50 : decode cX0_mixed 50 = .ok (.dreturn, 1) := by decide +kernel
theorem dX0_mixed_51 : decode cX0_mixed 51 = .ok (.dload 5, 2) := by decide +kernel
theorem dX0_mixed_53 : decode cX0_mixed 53 = .ok (.dload_n 1, 1) := by decide +kernel
theorem dX0_mixed_54 : decode cX0_mixed 54 = .ok (.dmul, 1) := by decide +kernel
theorem dX0_mixed_55 : decode cX0_mixed 55 = .ok (.ldc2_w 108, 3) := by decide +kernel
theorem dX0_mixed_58 : decode cX0_mixed 58 = .ok (.dmul, 1) := by decide +kernel
theorem dX0_mixed_59 : decode cX0_mixed 59 = .ok (.dstore 8, 2) := by decide +kernel
theorem dX0_mixed_61 : decode cX0_mixed 61 = .ok (.dload_n 3, 1) := by decide +kernel
theorem dX0_mixed_62 : decode cX0_mixed 62 = .ok (.ldc2_w 17, 3) := by decide +kernel
theorem dX0_mixed_65 : decode cX0_mixed 65 = .ok (.dcmp .l, 1) := by decide +kernel
theorem dX0_mixed_66 : decode cX0_mixed 66 = .ok (.ifCond .le 12, 3) := by decide +kernel
theorem dX0_mixed_69 : decode cX0_mixed 69 = .ok (.dload 8, 2) := by decide +kernel
theorem dX0_mixed_71 : decode cX0_mixed 71 = .ok (.ldc2_w 110, 3) := by decide +kernel
theorem dX0_mixed_74 : decode cX0_mixed 74 = .ok (.dmul, 1) := by decide +kernel
theorem dX0_mixed_75 : decode cX0_mixed 75 = .ok (.goto 5, 3) := by decide +kernel
theorem dX0_mixed_78 : decode cX0_mixed 78 = .ok (.dload 8, 2) := by decide +kernel
theorem dX0_mixed_80 : decode cX0_mixed 80 = .ok (.dreturn, 1) := by decide +kernel
theorem q6 : (Jvm.Cond.initialized "GasRows") ∈ lw_all := lw_g (lw_at lw_m1 1 rfl) rfl
theorem q11 : (Jvm.Cond.instantiable "GasRows" (2 : Nat)) ∈ lw_all := lw_g (lw_at lw_m1 6 rfl) rfl
theorem q13 : (Jvm.Cond.instanceMethod ({ cls := "GasRows", name := "<init>", desc := "()V" } : Jvm.MethodName)) ∈ lw_all := lw_g (lw_at lw_m1 8 rfl) rfl
theorem q14 : (Jvm.Cond.code ({ cls := "GasRows", name := "<init>", desc := "()V" } : Jvm.MethodName) prog_1_method_1_code (1 : Nat) (Option.none : Option Jvm.ClassFile.FieldType)) ∈ lw_all := lw_g (lw_at lw_m1 9 rfl) rfl
theorem q15 : (Jvm.Cond.methodLink "GasRows" (1 : Nat) ({ cls := "java/lang/Object", name := "<init>", desc := "()V" } : Jvm.MethodName)) ∈ lw_all := lw_g (lw_at lw_m1 10 rfl) rfl
theorem q18 : (Jvm.Cond.fieldLink "GasRows" (19 : Nat) "GasRows" "first" "LGasRows$Line;") ∈ lw_all := lw_g (lw_at lw_m1 13 rfl) rfl
theorem q19 : (Jvm.Cond.fieldLink "GasRows" (51 : Nat) "GasRows" "count" "I") ∈ lw_all := lw_g (lw_at lw_m1 14 rfl) rfl
theorem q20 : (Jvm.Cond.lays "GasRows" "GasRows" "first" "LGasRows$Line;") ∈ lw_all := lw_g (lw_at lw_m1 15 rfl) rfl
theorem q21 : (Jvm.Cond.soleField "GasRows" "first") ∈ lw_all := lw_g (lw_at lw_m1 16 rfl) rfl
theorem q22 : (Jvm.Cond.lays "GasRows" "GasRows" "count" "I") ∈ lw_all := lw_g (lw_at lw_m1 17 rfl) rfl
theorem q23 : (Jvm.Cond.soleField "GasRows" "count") ∈ lw_all := lw_g (lw_at lw_m1 18 rfl) rfl
theorem q24 : (Jvm.Cond.superclass "GasRows" "java/lang/Object") ∈ lw_all := lw_g (lw_at lw_m1 19 rfl) rfl
theorem q26 : (Jvm.Cond.instanceMethod ({ cls := "GasRows", name := "row", desc := "(DDD)Z" } : Jvm.MethodName)) ∈ lw_all := lw_g (lw_at lw_m1 21 rfl) rfl
theorem q27 : (Jvm.Cond.selects "GasRows" ({ cls := "GasRows", name := "row", desc := "(DDD)Z" } : Jvm.MethodName) ({ cls := "GasRows", name := "row", desc := "(DDD)Z" } : Jvm.MethodName)) ∈ lw_all := lw_g (lw_at lw_m1 22 rfl) rfl
theorem q28 : (Jvm.Cond.code ({ cls := "GasRows", name := "row", desc := "(DDD)Z" } : Jvm.MethodName) prog_1_method_7_code (10 : Nat) (Option.some Jvm.ClassFile.FieldType.boolean)) ∈ lw_all := lw_g (lw_at lw_m1 23 rfl) rfl
theorem q29 : (Jvm.Cond.methodLink "GasRows" (32 : Nat) ({ cls := "GasRows", name := "isPlace", desc := "(DD)Z" } : Jvm.MethodName)) ∈ lw_all := lw_g (lw_at lw_m1 24 rfl) rfl
theorem q30 : (Jvm.Cond.static ({ cls := "GasRows", name := "isPlace", desc := "(DD)Z" } : Jvm.MethodName)) ∈ lw_all := lw_g (lw_at lw_m1 25 rfl) rfl
theorem q31 : (Jvm.Cond.code ({ cls := "GasRows", name := "isPlace", desc := "(DD)Z" } : Jvm.MethodName) prog_1_method_4_code (4 : Nat) (Option.some Jvm.ClassFile.FieldType.boolean)) ∈ lw_all := lw_g (lw_at lw_m1 26 rfl) rfl
theorem q32 : (Jvm.Cond.constantDouble "GasRows" (7 : Nat) (13845191154443747328 : UInt64)) ∈ lw_all := lw_g (lw_at lw_m1 27 rfl) rfl
theorem q33 : (Jvm.Cond.constantDouble "GasRows" (9 : Nat) (4636737291354636288 : UInt64)) ∈ lw_all := lw_g (lw_at lw_m1 28 rfl) rfl
theorem q34 : (Jvm.Cond.methodLink "GasRows" (11 : Nat) ({ cls := "GasRows", name := "isWithin", desc := "(DDD)Z" } : Jvm.MethodName)) ∈ lw_all := lw_g (lw_at lw_m1 29 rfl) rfl
theorem q35 : (Jvm.Cond.static ({ cls := "GasRows", name := "isWithin", desc := "(DDD)Z" } : Jvm.MethodName)) ∈ lw_all := lw_g (lw_at lw_m1 30 rfl) rfl
theorem q36 : (Jvm.Cond.code ({ cls := "GasRows", name := "isWithin", desc := "(DDD)Z" } : Jvm.MethodName) prog_1_method_3_code (6 : Nat) (Option.some Jvm.ClassFile.FieldType.boolean)) ∈ lw_all := lw_g (lw_at lw_m1 31 rfl) rfl
theorem q37 : (Jvm.Cond.constantDouble "GasRows" (17 : Nat) (4626322717216342016 : UInt64)) ∈ lw_all := lw_g (lw_at lw_m1 32 rfl) rfl
theorem q38 : (Jvm.Cond.methodLink "GasRows" (36 : Nat) ({ cls := "GasRows", name := "isGas", desc := "(D)Z" } : Jvm.MethodName)) ∈ lw_all := lw_g (lw_at lw_m1 33 rfl) rfl
theorem q39 : (Jvm.Cond.static ({ cls := "GasRows", name := "isGas", desc := "(D)Z" } : Jvm.MethodName)) ∈ lw_all := lw_g (lw_at lw_m1 34 rfl) rfl
theorem q40 : (Jvm.Cond.code ({ cls := "GasRows", name := "isGas", desc := "(D)Z" } : Jvm.MethodName) prog_1_method_5_code (2 : Nat) (Option.some Jvm.ClassFile.FieldType.boolean)) ∈ lw_all := lw_g (lw_at lw_m1 35 rfl) rfl
theorem q41 : (Jvm.Cond.methodLink "GasRows" (40 : Nat) ({ cls := "GasRows", name := "before", desc := "(D)LGasRows$Line;" } : Jvm.MethodName)) ∈ lw_all := lw_g (lw_at lw_m1 36 rfl) rfl
theorem q42 : (Jvm.Cond.privateMethod ({ cls := "GasRows", name := "before", desc := "(D)LGasRows$Line;" } : Jvm.MethodName)) ∈ lw_tbl := lw_at lw_m1 37 rfl
theorem q43 : (Jvm.Cond.instanceMethod ({ cls := "GasRows", name := "before", desc := "(D)LGasRows$Line;" } : Jvm.MethodName)) ∈ lw_all := lw_g (lw_at lw_m1 38 rfl) rfl
theorem q44 : (Jvm.Cond.code ({ cls := "GasRows", name := "before", desc := "(D)LGasRows$Line;" } : Jvm.MethodName) prog_1_method_6_code (5 : Nat) (Option.some (Jvm.ClassFile.FieldType.object "GasRows$Line"))) ∈ lw_all := lw_g (lw_at lw_m1 39 rfl) rfl
theorem q45 : (Jvm.Cond.methodLink "GasRows" (44 : Nat) ({ cls := "GasRows$Line", name := "has", desc := "(D)Z" } : Jvm.MethodName)) ∈ lw_all := lw_g (lw_at lw_m1 40 rfl) rfl
theorem q54 : (Jvm.Cond.methodLink "GasRows" (47 : Nat) ({ cls := "GasRows$Line", name := "put", desc := "(DD)V" } : Jvm.MethodName)) ∈ lw_all := lw_g (lw_at lw_m1 49 rfl) rfl
theorem q77 : (Jvm.Cond.classLink "GasRows" (24 : Nat) "GasRows$Line") ∈ lw_all := lw_g (lw_at lw_m1 72 rfl) rfl
theorem q78 : (Jvm.Cond.methodLink "GasRows" (55 : Nat) ({ cls := "GasRows$Line", name := "<init>", desc := "(DLGasRows$Line;)V" } : Jvm.MethodName)) ∈ lw_all := lw_g (lw_at lw_m1 73 rfl) rfl
theorem q83 : (Jvm.Cond.fieldLinkNest "GasRows" (23 : Nat) "GasRows$Line" "degrees" "D" "GasRows") ∈ lw_tbl := lw_at lw_m1 78 rfl
theorem q86 : (Jvm.Cond.fieldLinkNest "GasRows" (29 : Nat) "GasRows$Line" "next" "LGasRows$Line;" "GasRows") ∈ lw_tbl := lw_at lw_m1 81 rfl
theorem q95 : (Jvm.Cond.instanceMethod ({ cls := "GasRows", name := "balance", desc := "(DD)D" } : Jvm.MethodName)) ∈ lw_all := lw_g (lw_at lw_m1 90 rfl) rfl
theorem q96 : (Jvm.Cond.selects "GasRows" ({ cls := "GasRows", name := "balance", desc := "(DD)D" } : Jvm.MethodName) ({ cls := "GasRows", name := "balance", desc := "(DD)D" } : Jvm.MethodName)) ∈ lw_all := lw_g (lw_at lw_m1 91 rfl) rfl
theorem q97 : (Jvm.Cond.code ({ cls := "GasRows", name := "balance", desc := "(DD)D" } : Jvm.MethodName) prog_1_method_9_code (5 : Nat) (Option.some Jvm.ClassFile.FieldType.double)) ∈ lw_all := lw_g (lw_at lw_m1 92 rfl) rfl
theorem q98 : (Jvm.Cond.methodLink "GasRows" (66 : Nat) ({ cls := "GasRows", name := "at", desc := "(DD)D" } : Jvm.MethodName)) ∈ lw_all := lw_g (lw_at lw_m1 93 rfl) rfl
theorem q99 : (Jvm.Cond.privateMethod ({ cls := "GasRows", name := "at", desc := "(DD)D" } : Jvm.MethodName)) ∈ lw_tbl := lw_at lw_m1 94 rfl
theorem q100 : (Jvm.Cond.instanceMethod ({ cls := "GasRows", name := "at", desc := "(DD)D" } : Jvm.MethodName)) ∈ lw_all := lw_g (lw_at lw_m1 95 rfl) rfl
theorem q101 : (Jvm.Cond.code ({ cls := "GasRows", name := "at", desc := "(DD)D" } : Jvm.MethodName) prog_1_method_8_code (7 : Nat) (Option.some Jvm.ClassFile.FieldType.double)) ∈ lw_all := lw_g (lw_at lw_m1 96 rfl) rfl
theorem q102 : (Jvm.Cond.methodLink "GasRows" (58 : Nat) ({ cls := "GasRows$Line", name := "at", desc := "(D)D" } : Jvm.MethodName)) ∈ lw_all := lw_g (lw_at lw_m1 97 rfl) rfl
theorem q107 : (Jvm.Cond.static ({ cls := "GasRows", name := "join", desc := "(DDDDD)D" } : Jvm.MethodName)) ∈ lw_all := lw_g (lw_at lw_m1 102 rfl) rfl
theorem q108 : (Jvm.Cond.code ({ cls := "GasRows", name := "join", desc := "(DDDDD)D" } : Jvm.MethodName) prog_1_method_2_code (10 : Nat) (Option.some Jvm.ClassFile.FieldType.double)) ∈ lw_all := lw_g (lw_at lw_m1 103 rfl) rfl
theorem q109 : (Jvm.Cond.methodLink "GasRows" (62 : Nat) ({ cls := "GasRows", name := "join", desc := "(DDDDD)D" } : Jvm.MethodName)) ∈ lw_all := lw_g (lw_at lw_m1 104 rfl) rfl
theorem q110 : (Jvm.Cond.constantDouble "GasRows" (69 : Nat) (13830554455654793216 : UInt64)) ∈ lw_all := lw_g (lw_at lw_m1 105 rfl) rfl
theorem q112 : (Jvm.Cond.instanceMethod ({ cls := "GasRows", name := "after", desc := "(DDDI)D" } : Jvm.MethodName)) ∈ lw_all := lw_g (lw_at lw_m1 107 rfl) rfl
theorem q113 : (Jvm.Cond.selects "GasRows" ({ cls := "GasRows", name := "after", desc := "(DDDI)D" } : Jvm.MethodName) ({ cls := "GasRows", name := "after", desc := "(DDDI)D" } : Jvm.MethodName)) ∈ lw_all := lw_g (lw_at lw_m1 108 rfl) rfl
theorem q114 : (Jvm.Cond.code ({ cls := "GasRows", name := "after", desc := "(DDDI)D" } : Jvm.MethodName) prog_1_method_11_code (13 : Nat) (Option.some Jvm.ClassFile.FieldType.double)) ∈ lw_all := lw_g (lw_at lw_m1 109 rfl) rfl
theorem q115 : (Jvm.Cond.methodLink "GasRows" (72 : Nat) ({ cls := "GasRows", name := "isTime", desc := "(I)Z" } : Jvm.MethodName)) ∈ lw_all := lw_g (lw_at lw_m1 110 rfl) rfl
theorem q116 : (Jvm.Cond.static ({ cls := "GasRows", name := "isTime", desc := "(I)Z" } : Jvm.MethodName)) ∈ lw_all := lw_g (lw_at lw_m1 111 rfl) rfl
theorem q117 : (Jvm.Cond.code ({ cls := "GasRows", name := "isTime", desc := "(I)Z" } : Jvm.MethodName) prog_1_method_10_code (1 : Nat) (Option.some Jvm.ClassFile.FieldType.boolean)) ∈ lw_all := lw_g (lw_at lw_m1 112 rfl) rfl
theorem q118 : (Jvm.Cond.constant "GasRows" (71 : Nat) (100000 : Int32)) ∈ lw_all := lw_g (lw_at lw_m1 113 rfl) rfl
theorem q119 : (Jvm.Cond.constantDouble "GasRows" (76 : Nat) (4562146422526312448 : UInt64)) ∈ lw_all := lw_g (lw_at lw_m1 114 rfl) rfl
theorem q121 : (Jvm.Cond.instanceMethod ({ cls := "GasRows", name := "fill", desc := "(DD)D" } : Jvm.MethodName)) ∈ lw_all := lw_g (lw_at lw_m1 116 rfl) rfl
theorem q122 : (Jvm.Cond.selects "GasRows" ({ cls := "GasRows", name := "fill", desc := "(DD)D" } : Jvm.MethodName) ({ cls := "GasRows", name := "fill", desc := "(DD)D" } : Jvm.MethodName)) ∈ lw_all := lw_g (lw_at lw_m1 117 rfl) rfl
theorem q123 : (Jvm.Cond.code ({ cls := "GasRows", name := "fill", desc := "(DD)D" } : Jvm.MethodName) prog_1_method_12_code (7 : Nat) (Option.some Jvm.ClassFile.FieldType.double)) ∈ lw_all := lw_g (lw_at lw_m1 118 rfl) rfl
theorem q124 : (Jvm.Cond.constantDouble "GasRows" (78 : Nat) (4652007308841189376 : UInt64)) ∈ lw_all := lw_g (lw_at lw_m1 119 rfl) rfl
theorem q125 : (Jvm.Cond.constantDouble "GasRows" (80 : Nat) (4580160821035794432 : UInt64)) ∈ lw_all := lw_g (lw_at lw_m1 120 rfl) rfl
theorem q127 : (Jvm.Cond.instanceMethod ({ cls := "GasRows", name := "bunging", desc := "(JJI)J" } : Jvm.MethodName)) ∈ lw_all := lw_g (lw_at lw_m1 122 rfl) rfl
theorem q128 : (Jvm.Cond.selects "GasRows" ({ cls := "GasRows", name := "bunging", desc := "(JJI)J" } : Jvm.MethodName) ({ cls := "GasRows", name := "bunging", desc := "(JJI)J" } : Jvm.MethodName)) ∈ lw_all := lw_g (lw_at lw_m1 123 rfl) rfl
theorem q129 : (Jvm.Cond.code ({ cls := "GasRows", name := "bunging", desc := "(JJI)J" } : Jvm.MethodName) prog_1_method_15_code (12 : Nat) (Option.some Jvm.ClassFile.FieldType.long)) ∈ lw_all := lw_g (lw_at lw_m1 124 rfl) rfl
theorem q130 : (Jvm.Cond.methodLink "GasRows" (88 : Nat) ({ cls := "GasRows", name := "isPart", desc := "(JJ)Z" } : Jvm.MethodName)) ∈ lw_all := lw_g (lw_at lw_m1 125 rfl) rfl
theorem q131 : (Jvm.Cond.static ({ cls := "GasRows", name := "isPart", desc := "(JJ)Z" } : Jvm.MethodName)) ∈ lw_all := lw_g (lw_at lw_m1 126 rfl) rfl
theorem q132 : (Jvm.Cond.code ({ cls := "GasRows", name := "isPart", desc := "(JJ)Z" } : Jvm.MethodName) prog_1_method_13_code (4 : Nat) (Option.some Jvm.ClassFile.FieldType.boolean)) ∈ lw_all := lw_g (lw_at lw_m1 127 rfl) rfl
theorem q133 : (Jvm.Cond.constantLong "GasRows" (82 : Nat) (1000000 : Int64)) ∈ lw_all := lw_g (lw_at lw_m1 128 rfl) rfl
theorem q134 : (Jvm.Cond.constantLong "GasRows" (92 : Nat) (-1 : Int64)) ∈ lw_all := lw_g (lw_at lw_m1 129 rfl) rfl
theorem q135 : (Jvm.Cond.constantLong "GasRows" (94 : Nat) (1029 : Int64)) ∈ lw_all := lw_g (lw_at lw_m1 130 rfl) rfl
theorem q136 : (Jvm.Cond.constantLong "GasRows" (96 : Nat) (2143 : Int64)) ∈ lw_all := lw_g (lw_at lw_m1 131 rfl) rfl
theorem q137 : (Jvm.Cond.methodLink "GasRows" (84 : Nat) ({ cls := "GasRows", name := "divisor", desc := "(JJ)J" } : Jvm.MethodName)) ∈ lw_all := lw_g (lw_at lw_m1 132 rfl) rfl
theorem q138 : (Jvm.Cond.static ({ cls := "GasRows", name := "divisor", desc := "(JJ)J" } : Jvm.MethodName)) ∈ lw_all := lw_g (lw_at lw_m1 133 rfl) rfl
theorem q139 : (Jvm.Cond.code ({ cls := "GasRows", name := "divisor", desc := "(JJ)J" } : Jvm.MethodName) prog_1_method_14_code (4 : Nat) (Option.some Jvm.ClassFile.FieldType.long)) ∈ lw_all := lw_g (lw_at lw_m1 134 rfl) rfl
theorem q141 : (Jvm.Cond.instanceMethod ({ cls := "GasRows", name := "sugar", desc := "(JJI)J" } : Jvm.MethodName)) ∈ lw_all := lw_g (lw_at lw_m1 136 rfl) rfl
theorem q142 : (Jvm.Cond.selects "GasRows" ({ cls := "GasRows", name := "sugar", desc := "(JJI)J" } : Jvm.MethodName) ({ cls := "GasRows", name := "sugar", desc := "(JJI)J" } : Jvm.MethodName)) ∈ lw_all := lw_g (lw_at lw_m1 137 rfl) rfl
theorem q143 : (Jvm.Cond.code ({ cls := "GasRows", name := "sugar", desc := "(JJI)J" } : Jvm.MethodName) prog_1_method_16_code (12 : Nat) (Option.some Jvm.ClassFile.FieldType.long)) ∈ lw_all := lw_g (lw_at lw_m1 138 rfl) rfl
theorem q144 : (Jvm.Cond.constantLong "GasRows" (98 : Nat) (2057 : Int64)) ∈ lw_all := lw_g (lw_at lw_m1 139 rfl) rfl
theorem q145 : (Jvm.Cond.constantLong "GasRows" (100 : Nat) (1000 : Int64)) ∈ lw_all := lw_g (lw_at lw_m1 140 rfl) rfl
theorem q147 : (Jvm.Cond.instanceMethod ({ cls := "GasRows", name := "burst", desc := "(DDD)I" } : Jvm.MethodName)) ∈ lw_all := lw_g (lw_at lw_m1 142 rfl) rfl
theorem q148 : (Jvm.Cond.selects "GasRows" ({ cls := "GasRows", name := "burst", desc := "(DDD)I" } : Jvm.MethodName) ({ cls := "GasRows", name := "burst", desc := "(DDD)I" } : Jvm.MethodName)) ∈ lw_all := lw_g (lw_at lw_m1 143 rfl) rfl
theorem q149 : (Jvm.Cond.code ({ cls := "GasRows", name := "burst", desc := "(DDD)I" } : Jvm.MethodName) prog_1_method_17_code (10 : Nat) (Option.some Jvm.ClassFile.FieldType.int)) ∈ lw_all := lw_g (lw_at lw_m1 144 rfl) rfl
theorem q150 : (Jvm.Cond.constantDouble "GasRows" (102 : Nat) (4593671619917905920 : UInt64)) ∈ lw_all := lw_g (lw_at lw_m1 145 rfl) rfl
theorem q152 : (Jvm.Cond.instanceMethod ({ cls := "GasRows", name := "foam", desc := "(ID)D" } : Jvm.MethodName)) ∈ lw_all := lw_g (lw_at lw_m1 147 rfl) rfl
theorem q153 : (Jvm.Cond.selects "GasRows" ({ cls := "GasRows", name := "foam", desc := "(ID)D" } : Jvm.MethodName) ({ cls := "GasRows", name := "foam", desc := "(ID)D" } : Jvm.MethodName)) ∈ lw_all := lw_g (lw_at lw_m1 148 rfl) rfl
theorem q154 : (Jvm.Cond.code ({ cls := "GasRows", name := "foam", desc := "(ID)D" } : Jvm.MethodName) prog_1_method_18_code (7 : Nat) (Option.some Jvm.ClassFile.FieldType.double)) ∈ lw_all := lw_g (lw_at lw_m1 149 rfl) rfl
theorem q155 : (Jvm.Cond.constantDouble "GasRows" (104 : Nat) (4571153621781053440 : UInt64)) ∈ lw_all := lw_g (lw_at lw_m1 150 rfl) rfl
theorem q156 : (Jvm.Cond.constantDouble "GasRows" (106 : Nat) (4566650022153682944 : UInt64)) ∈ lw_all := lw_g (lw_at lw_m1 151 rfl) rfl
theorem q158 : (Jvm.Cond.instanceMethod ({ cls := "GasRows", name := "mixed", desc := "(DDDI)D" } : Jvm.MethodName)) ∈ lw_all := lw_g (lw_at lw_m1 153 rfl) rfl
theorem q159 : (Jvm.Cond.selects "GasRows" ({ cls := "GasRows", name := "mixed", desc := "(DDDI)D" } : Jvm.MethodName) ({ cls := "GasRows", name := "mixed", desc := "(DDDI)D" } : Jvm.MethodName)) ∈ lw_all := lw_g (lw_at lw_m1 154 rfl) rfl
theorem q160 : (Jvm.Cond.code ({ cls := "GasRows", name := "mixed", desc := "(DDDI)D" } : Jvm.MethodName) prog_1_method_19_code (10 : Nat) (Option.some Jvm.ClassFile.FieldType.double)) ∈ lw_all := lw_g (lw_at lw_m1 155 rfl) rfl
theorem q161 : (Jvm.Cond.constantDouble "GasRows" (108 : Nat) (4581005245965926400 : UInt64)) ∈ lw_all := lw_g (lw_at lw_m1 156 rfl) rfl
theorem q162 : (Jvm.Cond.constantDouble "GasRows" (110 : Nat) (4602678819172646912 : UInt64)) ∈ lw_all := lw_g (lw_at lw_m1 157 rfl) rfl
theorem in_X0 : ∀ w ∈ wsX00, w ∈ lw_all := lw_in wsX00 [20, 22] (by decide +kernel) (by decide +kernel)
end
section
/-! GasRowsModel -/
set_option maxRecDepth 100000
def RX1 : String := "GasRowsModel"
def TX1 : u_T := fun k => match k with
  | 0 => ("GasRowsModel", "rows", "I", false)
  | 1 => ("GasRowsModel", "warmths", "[D", true)
  | 2 => ("GasRowsModel", "bars", "[D", true)
  | _ => ("GasRowsModel", "amounts", "[D", true)
def tyX1 : Nat → FieldType := fun k => match k with
  | 0 => .int
  | 1 => .array .double
  | 2 => .array .double
  | _ => .array .double
abbrev wsX10 : List Cond := u_ws RX1 TX1 4
theorem nmX1 : ∀ a, a < 4 → ∀ b, b < 4 → a ≠ b → (TX1 a).2.1 ≠ (TX1 b).2.1 := by decide +kernel
theorem tyX1_ok : ∀ k, k < 4 → parseFieldDescriptor (TX1 k).2.2.1 = some (tyX1 k) := by decide +kernel
abbrev cX1_init : ByteArray := prog_5_method_1_code
def yX1_init : MethodName := ⟨RX1, "<init>", "()V"⟩
theorem dX1_init_0 : decode cX1_init 0 = .ok (.aload_n 0, 1) := by decide +kernel
theorem dX1_init_1 : decode cX1_init 1 = .ok (.invokespecial 1, 3) := by decide +kernel
theorem dX1_init_4 : decode cX1_init 4 = .ok (.aload_n 0, 1) := by decide +kernel
theorem dX1_init_5 : decode cX1_init 5 = .ok (.bipush 30, 2) := by decide +kernel
theorem dX1_init_7 : decode cX1_init 7 = .ok (.newarray .double, 2) := by decide +kernel
theorem dX1_init_9 : decode cX1_init 9 = .ok (.putfield 9, 3) := by decide +kernel
theorem dX1_init_12 : decode cX1_init 12 = .ok (.aload_n 0, 1) := by decide +kernel
theorem dX1_init_13 : decode cX1_init 13 = .ok (.bipush 30, 2) := by decide +kernel
theorem dX1_init_15 : decode cX1_init 15 = .ok (.newarray .double, 2) := by decide +kernel
theorem dX1_init_17 : decode cX1_init 17 = .ok (.putfield 13, 3) := by decide +kernel
theorem dX1_init_20 : decode cX1_init 20 = .ok (.aload_n 0, 1) := by decide +kernel
theorem dX1_init_21 : decode cX1_init 21 = .ok (.bipush 30, 2) := by decide +kernel
theorem dX1_init_23 : decode cX1_init 23 = .ok (.newarray .double, 2) := by decide +kernel
theorem dX1_init_25 : decode cX1_init 25 = .ok (.putfield 16, 3) := by decide +kernel
theorem dX1_init_28 : decode cX1_init 28 = .ok (.return_, 1) := by decide +kernel
abbrev cX1_row : ByteArray := prog_5_method_4_code
def yX1_row : MethodName := ⟨RX1, "row", "(DDD)Z"⟩
theorem dX1_row_0 : decode cX1_row 0 = .ok (.dload_n 1, 1) := by decide +kernel
theorem dX1_row_1 : decode cX1_row 1 = .ok (.dload_n 3, 1) := by decide +kernel
theorem dX1_row_2 : decode cX1_row 2 = .ok (.invokestatic 29, 3) := by decide +kernel
theorem dX1_row_5 : decode cX1_row 5 = .ok (.ifCond .eq 15, 3) := by decide +kernel
theorem dX1_row_8 : decode cX1_row 8 = .ok (.dload 5, 2) := by decide +kernel
theorem dX1_row_10 : decode cX1_row 10 = .ok (.dconst 0, 1) := by decide +kernel
theorem dX1_row_11 : decode cX1_row 11 = .ok (.ldc2_w 21, 3) := by decide +kernel
theorem dX1_row_14 : decode cX1_row 14 = .ok (.invokestatic 23, 3) := by decide +kernel
theorem dX1_row_17 : decode cX1_row 17 = .ok (.ifCond .ne 5, 3) := by decide +kernel
theorem dX1_row_20 : decode cX1_row 20 = .ok (.iconst 0, 1) := by decide +kernel
theorem dX1_row_21 : decode cX1_row 21 = .ok (.ireturn, 1) := by decide +kernel
theorem dX1_row_22 : decode cX1_row 22 = .ok (.aload_n 0, 1) := by decide +kernel
theorem dX1_row_23 : decode cX1_row 23 = .ok (.getfield 33, 3) := by decide +kernel
theorem dX1_row_26 : decode cX1_row 26 = .ok (.istore 7, 2) := by decide +kernel
theorem dX1_row_28 : decode cX1_row 28 = .ok (.iconst 0, 1) := by decide +kernel
theorem dX1_row_29 : decode cX1_row 29 = .ok (.istore 8, 2) := by decide +kernel
theorem dX1_row_31 : decode cX1_row 31 = .ok (.iload 8, 2) := by decide +kernel
theorem dX1_row_33 : decode cX1_row 33 = .ok (.aload_n 0, 1) := by decide +kernel
theorem dX1_row_34 : decode cX1_row 34 = .ok (.getfield 33, 3) := by decide +kernel
theorem dX1_row_37 : decode cX1_row 37 = .ok (.if_icmp .ge 42, 3) := by decide +kernel
theorem dX1_row_40 : decode cX1_row 40 = .ok (.aload_n 0, 1) := by decide +kernel
theorem dX1_row_41 : decode cX1_row 41 = .ok (.getfield 9, 3) := by decide +kernel
theorem dX1_row_44 : decode cX1_row 44 = .ok (.iload 8, 2) := by decide +kernel
theorem dX1_row_46 : decode cX1_row 46 = .ok (.daload, 1) := by decide +kernel
theorem dX1_row_47 : decode cX1_row 47 = .ok (.dload_n 1, 1) := by decide +kernel
theorem dX1_row_48 : decode cX1_row 48 = .ok (.dcmp .l, 1) := by decide +kernel
theorem dX1_row_49 : decode cX1_row 49 = .ok (.ifCond .ne 20, 3) := by decide +kernel
theorem dX1_row_52 : decode cX1_row 52 = .ok (.aload_n 0, 1) := by decide +kernel
theorem dX1_row_53 : decode cX1_row 53 = .ok (.getfield 13, 3) := by decide +kernel
theorem dX1_row_56 : decode cX1_row 56 = .ok (.iload 8, 2) := by decide +kernel
theorem dX1_row_58 : decode cX1_row 58 = .ok (.daload, 1) := by decide +kernel
theorem dX1_row_59 : decode cX1_row 59 = .ok (.dload_n 3, 1) := by decide +kernel
theorem dX1_row_60 : decode cX1_row 60 = .ok (.dcmp .l, 1) := by decide +kernel
theorem dX1_row_61 : decode cX1_row 61 = .ok (.ifCond .ne 8, 3) := by decide +kernel
theorem dX1_row_64 : decode cX1_row 64 = .ok (.iload 8, 2) := by decide +kernel
theorem dX1_row_66 : decode cX1_row 66 = .ok (.goto 5, 3) := by decide +kernel
theorem dX1_row_69 : decode cX1_row 69 = .ok (.iload 7, 2) := by decide +kernel
theorem dX1_row_71 : decode cX1_row 71 = .ok (.istore 7, 2) := by decide +kernel
theorem dX1_row_73 : decode cX1_row 73 = .ok (.iinc 8 1, 3) := by decide +kernel
theorem dX1_row_76 : decode cX1_row 76 = .ok (.goto (-45), 3) := by decide +kernel
theorem dX1_row_79 : decode cX1_row 79 = .ok (.iload 7, 2) := by decide +kernel
theorem dX1_row_81 : decode cX1_row 81 = .ok (.bipush 30, 2) := by decide +kernel
theorem dX1_row_83 : decode cX1_row 83 = .ok (.if_icmp .ne 5, 3) := by decide +kernel
theorem dX1_row_86 : decode cX1_row 86 = .ok (.iconst 0, 1) := by decide +kernel
theorem dX1_row_87 : decode cX1_row 87 = .ok (.ireturn, 1) := by decide +kernel
theorem dX1_row_88 : decode cX1_row 88 = .ok (.aload_n 0, 1) := by decide +kernel
theorem dX1_row_89 : decode cX1_row 89 = .ok (.getfield 9, 3) := by decide +kernel
theorem dX1_row_92 : decode cX1_row 92 = .ok (.iload 7, 2) := by decide +kernel
theorem dX1_row_94 : decode cX1_row 94 = .ok (.dload_n 1, 1) := by decide +kernel
theorem dX1_row_95 : decode cX1_row 95 = .ok (.dastore, 1) := by decide +kernel
theorem dX1_row_96 : decode cX1_row 96 = .ok (.aload_n 0, 1) := by decide +kernel
theorem dX1_row_97 : decode cX1_row 97 = .ok (.getfield 13, 3) := by decide +kernel
theorem dX1_row_100 : decode cX1_row 100 = .ok (.iload 7, 2) := by decide +kernel
theorem dX1_row_102 : decode cX1_row 102 = .ok (.dload_n 3, 1) := by decide +kernel
theorem dX1_row_103 : decode cX1_row 103 = .ok (.dastore, 1) := by decide +kernel
theorem dX1_row_104 : decode cX1_row 104 = .ok (.aload_n 0, 1) := by decide +kernel
theorem dX1_row_105 : decode cX1_row 105 = .ok (.getfield 16, 3) := by decide +kernel
theorem dX1_row_108 : decode cX1_row 108 = .ok (.iload 7, 2) := by decide +kernel
theorem dX1_row_110 : decode cX1_row 110 = .ok (.dload 5, 2) := by decide +kernel
theorem dX1_row_112 : decode cX1_row 112 = .ok (.dastore, 1) := by decide +kernel
theorem dX1_row_113 : decode cX1_row 113 = .ok (.aload_n 0, 1) := by decide +kernel
theorem dX1_row_114 : decode cX1_row 114 = .ok (.dup, 1) := by decide +kernel
theorem dX1_row_115 : decode cX1_row 115 = .ok (.getfield 33, 3) := by decide +kernel
theorem dX1_row_118 : decode cX1_row 118 = .ok (.iload 7, 2) := by decide +kernel
theorem dX1_row_120 : decode cX1_row 120 = .ok (.aload_n 0, 1) := by decide +kernel
theorem dX1_row_121 : decode cX1_row 121 = .ok (.getfield 33, 3) := by decide +kernel
theorem dX1_row_124 : decode cX1_row 124 = .ok (.if_icmp .ne 7, 3) := by decide +kernel
theorem dX1_row_127 : decode cX1_row 127 = .ok (.iconst 1, 1) := by decide +kernel
theorem dX1_row_128 : decode cX1_row 128 = .ok (.goto 4, 3) := by decide +kernel
theorem dX1_row_131 : decode cX1_row 131 = .ok (.iconst 0, 1) := by decide +kernel
theorem dX1_row_132 : decode cX1_row 132 = .ok (.iadd, 1) := by decide +kernel
theorem dX1_row_133 : decode cX1_row 133 = .ok (.putfield 33, 3) := by decide +kernel
theorem dX1_row_136 : decode cX1_row 136 = .ok (.iconst 1, 1) := by decide +kernel
theorem dX1_row_137 : decode cX1_row 137 = .ok (.ireturn, 1) := by decide +kernel
abbrev cX1_isPlace : ByteArray := prog_5_method_3_code
def yX1_isPlace : MethodName := ⟨RX1, "isPlace", "(DD)Z"⟩
theorem dX1_isPlace_0 : decode cX1_isPlace 0 = .ok (.dload_n 0, 1) := by decide +kernel
theorem dX1_isPlace_1 : decode cX1_isPlace 1 = .ok (.ldc2_w 19, 3) := by decide +kernel
theorem dX1_isPlace_4 : decode cX1_isPlace 4 = .ok (.ldc2_w 21, 3) := by decide +kernel
theorem dX1_isPlace_7 : decode cX1_isPlace 7 = .ok (.invokestatic 23, 3) := by decide +kernel
theorem dX1_isPlace_10 : decode cX1_isPlace 10 = .ok (.ifCond .eq 18, 3) := by decide +kernel
theorem dX1_isPlace_13 : decode cX1_isPlace 13 = .ok (.dload_n 2, 1) := by decide +kernel
theorem dX1_isPlace_14 : decode cX1_isPlace 14 = .ok (.dconst 0, 1) := by decide +kernel
theorem dX1_isPlace_15 : decode cX1_isPlace 15 = .ok (.ldc2_w 27, 3) := by decide +kernel
theorem dX1_isPlace_18 : decode cX1_isPlace 18 = .ok (.invokestatic 23, 3) := by decide +kernel
theorem dX1_isPlace_21 : decode cX1_isPlace 21 = .ok (.ifCond .eq 7, 3) := by decide +kernel
theorem dX1_isPlace_24 : decode cX1_isPlace 24 = .ok (.iconst 1, 1) := by decide +kernel
theorem dX1_isPlace_25 : decode cX1_isPlace 25 = .ok (.goto 4, 3) := by decide +kernel
theorem dX1_isPlace_28 : decode cX1_isPlace 28 = .ok (.iconst 0, 1) := by decide +kernel
theorem dX1_isPlace_29 : decode cX1_isPlace 29 = .ok (.ireturn, 1) := by decide +kernel
abbrev cX1_isIn : ByteArray := prog_5_method_2_code
def yX1_isIn : MethodName := ⟨RX1, "isIn", "(DDD)Z"⟩
theorem dX1_isIn_0 : decode cX1_isIn 0 = .ok (.dload_n 0, 1) := by decide +kernel
theorem dX1_isIn_1 : decode cX1_isIn 1 = .ok (.dload_n 2, 1) := by decide +kernel
theorem dX1_isIn_2 : decode cX1_isIn 2 = .ok (.dcmp .l, 1) := by decide +kernel
theorem dX1_isIn_3 : decode cX1_isIn 3 = .ok (.ifCond .lt 14, 3) := by decide +kernel
theorem dX1_isIn_6 : decode cX1_isIn 6 = .ok (.dload_n 0, 1) := by decide +kernel
theorem dX1_isIn_7 : decode cX1_isIn 7 = .ok (.dload 4, 2) := by decide +kernel
theorem dX1_isIn_9 : decode cX1_isIn 9 = .ok (.dcmp .g, 1) := by decide +kernel
theorem dX1_isIn_10 : decode cX1_isIn 10 = .ok (.ifCond .gt 7, 3) := by decide +kernel
theorem dX1_isIn_13 : decode cX1_isIn 13 = .ok (.iconst 1, 1) := by decide +kernel
theorem dX1_isIn_14 : decode cX1_isIn 14 = .ok (.goto 4, 3) := by decide +kernel
theorem dX1_isIn_17 : decode cX1_isIn 17 = .ok (.iconst 0, 1) := by decide +kernel
theorem dX1_isIn_18 : decode cX1_isIn 18 = .ok (.ireturn, 1) := by decide +kernel
abbrev cX1_balance : ByteArray := prog_5_method_7_code
def yX1_balance : MethodName := ⟨RX1, "balance", "(DD)D"⟩
theorem dX1_balance_0 : decode cX1_balance 0 = .ok (.dload_n 1, 1) := by decide +kernel
theorem dX1_balance_1 : decode cX1_balance 1 = .ok (.dload_n 3, 1) := by decide +kernel
theorem dX1_balance_2 : decode cX1_balance 2 = .ok (.invokestatic 29, 3) := by decide +kernel
theorem dX1_balance_5 : decode cX1_balance 5 = .ok (.ifCond .eq 12, 3) := by decide +kernel
theorem dX1_balance_8 : decode cX1_balance 8 = .ok (.aload_n 0, 1) := by decide +kernel
theorem dX1_balance_9 : decode cX1_balance 9 = .ok (.dload_n 1, 1) := by decide +kernel
theorem dX1_balance_10 : decode cX1_balance 10 = .ok (.dload_n 3, 1) := by decide +kernel
theorem dX1_balance_11 : decode cX1_balance 11 = .ok (.invokevirtual 41, 3) := by decide +kernel
theorem dX1_balance_14 : decode cX1_balance 14 = .ok (.goto 6, 3) := by decide +kernel
theorem dX1_balance_17 : decode cX1_balance 17 = .ok (.ldc2_w 44, 3) := by decide +kernel
theorem dX1_balance_20 : decode cX1_balance 20 = .ok (.dreturn, 1) := by decide +kernel
abbrev cX1_reckon : ByteArray := prog_5_method_6_code
def yX1_reckon : MethodName := ⟨RX1, "reckon", "(DD)D"⟩
theorem dX1_reckon_0 : decode cX1_reckon 0 = .ok (.iconst (-1), 1) := by decide +kernel
theorem dX1_reckon_1 : decode cX1_reckon 1 = .ok (.istore 5, 2) := by decide +kernel
theorem dX1_reckon_3 : decode cX1_reckon 3 = .ok (.iconst (-1), 1) := by decide +kernel
theorem dX1_reckon_4 : decode cX1_reckon 4 = .ok (.istore 6, 2) := by decide +kernel
theorem dX1_reckon_6 : decode cX1_reckon 6 = .ok (.iconst 0, 1) := by decide +kernel
theorem dX1_reckon_7 : decode cX1_reckon 7 = .ok (.istore 7, 2) := by decide +kernel
theorem dX1_reckon_9 : decode cX1_reckon 9 = .ok (.iload 7, 2) := by decide +kernel
theorem dX1_reckon_11 : decode cX1_reckon 11 = .ok (.aload_n 0, 1) := by decide +kernel
theorem dX1_reckon_12 : decode cX1_reckon 12 = .ok (.getfield 33, 3) := by decide +kernel
theorem dX1_reckon_15 : decode cX1_reckon 15 = .ok (.if_icmp .ge 97, 3) := by decide +kernel
theorem dX1_reckon_18 : decode cX1_reckon 18 = .ok (.aload_n 0, 1) := by decide +kernel
theorem dX1_reckon_19 : decode cX1_reckon 19 = .ok (.getfield 9, 3) := by decide +kernel
theorem dX1_reckon_22 : decode cX1_reckon 22 = .ok (.iload 7, 2) := by decide +kernel
theorem dX1_reckon_24 : decode cX1_reckon 24 = .ok (.daload, 1) := by decide +kernel
theorem dX1_reckon_25 : decode cX1_reckon 25 = .ok (.dload_n 1, 1) := by decide +kernel
theorem dX1_reckon_26 : decode cX1_reckon 26 = .ok (.dcmp .g, 1) := by decide +kernel
theorem dX1_reckon_27 : decode cX1_reckon 27 = .ok (.ifCond .gt 31, 3) := by decide +kernel
theorem dX1_reckon_30 : decode cX1_reckon 30 = .ok (.iload 5, 2) := by decide +kernel
theorem dX1_reckon_32 : decode cX1_reckon 32 = .ok (.ifCond .lt 21, 3) := by decide +kernel
theorem dX1_reckon_35 : decode cX1_reckon 35 = .ok (.aload_n 0, 1) := by decide +kernel
theorem dX1_reckon_36 : decode cX1_reckon 36 = .ok (.getfield 9, 3) := by decide +kernel
theorem dX1_reckon_39 : decode cX1_reckon 39 = .ok (.iload 7, 2) := by decide +kernel
theorem dX1_reckon_41 : decode cX1_reckon 41 = .ok (.daload, 1) := by decide +kernel
theorem dX1_reckon_42 : decode cX1_reckon 42 = .ok (.aload_n 0, 1) := by decide +kernel
theorem dX1_reckon_43 : decode cX1_reckon 43 = .ok (.getfield 9, 3) := by decide +kernel
theorem dX1_reckon_46 : decode cX1_reckon 46 = .ok (.iload 5, 2) := by decide +kernel
theorem dX1_reckon_48 : decode cX1_reckon 48 = .ok (.daload, 1) := by decide +kernel
theorem dX1_reckon_49 : decode cX1_reckon 49 = .ok (.dcmp .l, 1) := by decide +kernel
theorem dX1_reckon_50 : decode cX1_reckon 50 = .ok (.ifCond .le 8, 3) := by decide +kernel
theorem dX1_reckon_53 : decode cX1_reckon 53 = .ok (.iload 7, 2) := by decide +kernel
theorem dX1_reckon_55 : decode cX1_reckon 55 = .ok (.goto 5, 3) := by decide +kernel
theorem dX1_reckon_58 : decode cX1_reckon 58 = .ok (.iload 5, 2) := by decide +kernel
theorem dX1_reckon_60 : decode cX1_reckon 60 = .ok (.istore 5, 2) := by decide +kernel
theorem dX1_reckon_62 : decode cX1_reckon 62 = .ok (.aload_n 0, 1) := by decide +kernel
theorem dX1_reckon_63 : decode cX1_reckon 63 = .ok (.getfield 9, 3) := by decide +kernel
theorem dX1_reckon_66 : decode cX1_reckon 66 = .ok (.iload 7, 2) := by decide +kernel
theorem dX1_reckon_68 : decode cX1_reckon 68 = .ok (.daload, 1) := by decide +kernel
theorem dX1_reckon_69 : decode cX1_reckon 69 = .ok (.dload_n 1, 1) := by decide +kernel
theorem dX1_reckon_70 : decode cX1_reckon 70 = .ok (.dcmp .l, 1) := by decide +kernel
theorem dX1_reckon_71 : decode cX1_reckon 71 = .ok (.ifCond .le 31, 3) := by decide +kernel
theorem dX1_reckon_74 : decode cX1_reckon 74 = .ok (.iload 6, 2) := by decide +kernel
theorem dX1_reckon_76 : decode cX1_reckon 76 = .ok (.ifCond .lt 21, 3) := by decide +kernel
theorem dX1_reckon_79 : decode cX1_reckon 79 = .ok (.aload_n 0, 1) := by decide +kernel
theorem dX1_reckon_80 : decode cX1_reckon 80 = .ok (.getfield 9, 3) := by decide +kernel
theorem dX1_reckon_83 : decode cX1_reckon 83 = .ok (.iload 7, 2) := by decide +kernel
theorem dX1_reckon_85 : decode cX1_reckon 85 = .ok (.daload, 1) := by decide +kernel
theorem dX1_reckon_86 : decode cX1_reckon 86 = .ok (.aload_n 0, 1) := by decide +kernel
theorem dX1_reckon_87 : decode cX1_reckon 87 = .ok (.getfield 9, 3) := by decide +kernel
theorem dX1_reckon_90 : decode cX1_reckon 90 = .ok (.iload 6, 2) := by decide +kernel
theorem dX1_reckon_92 : decode cX1_reckon 92 = .ok (.daload, 1) := by decide +kernel
theorem dX1_reckon_93 : decode cX1_reckon 93 = .ok (.dcmp .g, 1) := by decide +kernel
theorem dX1_reckon_94 : decode cX1_reckon 94 = .ok (.ifCond .ge 8, 3) := by decide +kernel
theorem dX1_reckon_97 : decode cX1_reckon 97 = .ok (.iload 7, 2) := by decide +kernel
theorem dX1_reckon_99 : decode cX1_reckon 99 = .ok (.goto 5, 3) := by decide +kernel
theorem dX1_reckon_102 : decode cX1_reckon 102 = .ok (.iload 6, 2) := by decide +kernel
theorem dX1_reckon_104 : decode cX1_reckon 104 = .ok (.istore 6, 2) := by decide +kernel
theorem dX1_reckon_106 : decode cX1_reckon 106 = .ok (.iinc 7 1, 3) := by decide +kernel
theorem dX1_reckon_109 : decode cX1_reckon 109 = .ok (.goto (-100), 3) := by decide +kernel
theorem dX1_reckon_112 : decode cX1_reckon 112 = .ok (.iload 5, 2) := by decide +kernel
theorem dX1_reckon_114 : decode cX1_reckon 114 = .ok (.ifCond .ge 10, 3) := by decide +kernel
theorem dX1_reckon_117 : decode cX1_reckon 117 = .ok (.iload 6, 2) := by decide +kernel
theorem dX1_reckon_119 : decode cX1_reckon 119 = .ok (.ifCond .ge 5, 3) := by decide +kernel
theorem dX1_reckon_122 : decode cX1_reckon 122 = .ok (.dconst 0, 1) := by decide +kernel
theorem dX1_reckon_123 : decode cX1_reckon 123 = .ok (.dreturn, 1) := by decide +kernel
theorem dX1_reckon_124 : decode cX1_reckon 124 = .ok (.iload 5, 2) := by decide +kernel
theorem dX1_reckon_126 : decode cX1_reckon 126 = .ok (.ifCond .lt 20, 3) := by decide +kernel
theorem dX1_reckon_129 : decode cX1_reckon 129 = .ok (.iload 6, 2) := by decide +kernel
theorem dX1_reckon_131 : decode cX1_reckon 131 = .ok (.ifCond .lt 15, 3) := by decide +kernel
theorem dX1_reckon_134 : decode cX1_reckon 134 = .ok (.aload_n 0, 1) := by decide +kernel
theorem dX1_reckon_135 : decode cX1_reckon 135 = .ok (.getfield 9, 3) := by decide +kernel
theorem dX1_reckon_138 : decode cX1_reckon 138 = .ok (.iload 5, 2) := by decide +kernel
theorem dX1_reckon_140 : decode cX1_reckon 140 = .ok (.daload, 1) := by decide +kernel
theorem dX1_reckon_141 : decode cX1_reckon 141 = .ok (.dload_n 1, 1) := by decide +kernel
theorem dX1_reckon_142 : decode cX1_reckon 142 = .ok (.dcmp .l, 1) := by decide +kernel
theorem dX1_reckon_143 : decode cX1_reckon 143 = .ok (.ifCond .ne 26, 3) := by decide +kernel
theorem dX1_reckon_146 : decode cX1_reckon 146 = .ok (.aload_n 0, 1) := by decide +kernel
theorem dX1_reckon_147 : decode cX1_reckon 147 = .ok (.aload_n 0, 1) := by decide +kernel
theorem dX1_reckon_148 : decode cX1_reckon 148 = .ok (.getfield 9, 3) := by decide +kernel
theorem dX1_reckon_151 : decode cX1_reckon 151 = .ok (.iload 5, 2) := by decide +kernel
theorem dX1_reckon_153 : decode cX1_reckon 153 = .ok (.ifCond .ge 8, 3) := by decide +kernel
theorem dX1_reckon_156 : decode cX1_reckon 156 = .ok (.iload 6, 2) := by decide +kernel
theorem dX1_reckon_158 : decode cX1_reckon 158 = .ok (.goto 5, 3) := by decide +kernel
theorem dX1_reckon_161 : decode cX1_reckon 161 = .ok (.iload 5, 2) := by decide +kernel
theorem dX1_reckon_163 : decode cX1_reckon 163 = .ok (.daload, 1) := by decide +kernel
theorem dX1_reckon_164 : decode cX1_reckon 164 = .ok (.dload_n 3, 1) := by decide +kernel
theorem dX1_reckon_165 : decode cX1_reckon 165 = .ok (.invokevirtual 37, 3) := by decide +kernel
theorem dX1_reckon_168 : decode cX1_reckon 168 = .ok (.dreturn, 1) := by decide +kernel
theorem dX1_reckon_169 : decode cX1_reckon 169 = .ok (.aload_n 0, 1) := by decide +kernel
theorem dX1_reckon_170 : decode cX1_reckon 170 = .ok (.aload_n 0, 1) := by decide +kernel
theorem dX1_reckon_171 : decode cX1_reckon 171 = .ok (.getfield 9, 3) := by decide +kernel
theorem dX1_reckon_174 : decode cX1_reckon 174 = .ok (.iload 5, 2) := by decide +kernel
theorem dX1_reckon_176 : decode cX1_reckon 176 = .ok (.daload, 1) := by decide +kernel
theorem dX1_reckon_177 : decode cX1_reckon 177 = .ok (.dload_n 3, 1) := by decide +kernel
theorem dX1_reckon_178 : decode cX1_reckon 178 = .ok (.invokevirtual 37, 3) := by decide +kernel
theorem dX1_reckon_181 : decode cX1_reckon 181 = .ok (.dstore 7, 2) := by decide +kernel
theorem dX1_reckon_183 : decode cX1_reckon 183 = .ok (.aload_n 0, 1) := by decide +kernel
theorem dX1_reckon_184 : decode cX1_reckon 184 = .ok (.aload_n 0, 1) := by decide +kernel
theorem dX1_reckon_185 : decode cX1_reckon 185 = .ok (.getfield 9, 3) := by decide +kernel
theorem dX1_reckon_188 : decode cX1_reckon 188 = .ok (.iload 6, 2) := by decide +kernel
theorem dX1_reckon_190 : decode cX1_reckon 190 = .ok (.daload, 1) := by decide +kernel
theorem dX1_reckon_191 : decode cX1_reckon 191 = .ok (.dload_n 3, 1) := by decide +kernel
theorem dX1_reckon_192 : decode cX1_reckon 192 = .ok (.invokevirtual 37, 3) := by decide +kernel
theorem dX1_reckon_195 : decode cX1_reckon 195 = .ok (.dstore 9, 2) := by decide +kernel
theorem dX1_reckon_197 : decode cX1_reckon 197 = .ok (.dload 7, 2) := by decide +kernel
theorem dX1_reckon_199 : decode cX1_reckon 199 = .ok (.dload 9, 2) := by decide +kernel
theorem dX1_reckon_201 : decode cX1_reckon 201 = .ok (.dload 7, 2) := by decide +kernel
theorem dX1_reckon_203 : decode cX1_reckon 203 = .ok (.dsub, 1) := by decide +kernel
theorem dX1_reckon_204 : decode cX1_reckon 204 = .ok (.dload_n 1, 1) := by decide +kernel
theorem dX1_reckon_205 : decode cX1_reckon 205 = .ok (.aload_n 0, 1) := by decide +kernel
theorem dX1_reckon_206 : decode cX1_reckon 206 = .ok (.getfield 9, 3) := by decide +kernel
theorem dX1_reckon_209 : decode cX1_reckon 209 = .ok (.iload 5, 2) := by decide +kernel
theorem dX1_reckon_211 : decode cX1_reckon 211 = .ok (.daload, 1) := by decide +kernel
theorem dX1_reckon_212 : decode cX1_reckon 212 = .ok (.dsub, 1) := by decide +kernel
theorem dX1_reckon_213 : decode cX1_reckon 213 = .ok (.dmul, 1) := by decide +kernel
theorem dX1_reckon_214 : decode cX1_reckon 214 = .ok (.aload_n 0, 1) := by decide +kernel
theorem dX1_reckon_215 : decode cX1_reckon 215 = .ok (.getfield 9, 3) := by decide +kernel
theorem dX1_reckon_218 : decode cX1_reckon 218 = .ok (.iload 6, 2) := by decide +kernel
theorem dX1_reckon_220 : decode cX1_reckon 220 = .ok (.daload, 1) := by decide +kernel
theorem dX1_reckon_221 : decode cX1_reckon 221 = .ok (.aload_n 0, 1) := by decide +kernel
theorem dX1_reckon_222 : decode cX1_reckon 222 = .ok (.getfield 9, 3) := by decide +kernel
theorem dX1_reckon_225 : decode cX1_reckon 225 = .ok (.iload 5, 2) := by decide +kernel
theorem dX1_reckon_227 : decode cX1_reckon 227 = .ok (.daload, 1) := by decide +kernel
theorem dX1_reckon_228 : decode cX1_reckon 228 = .ok (.dsub, 1) := by decide +kernel
theorem dX1_reckon_229 : decode cX1_reckon 229 = .ok (.ddiv, 1) := by decide +kernel
theorem dX1_reckon_230 : decode cX1_reckon 230 = .ok (.dadd, 1) := by decide +kernel
theorem dX1_reckon_231 : decode cX1_reckon 231 = .ok (.dreturn, 1) := by decide +kernel
abbrev cX1_line : ByteArray := prog_5_method_5_code
def yX1_line : MethodName := ⟨RX1, "line", "(DD)D"⟩
theorem dX1_line_0 : decode cX1_line 0 = .ok (.iconst (-1), 1) := by decide +kernel
theorem dX1_line_1 : decode cX1_line 1 = .ok (.istore 5, 2) := by decide +kernel
theorem dX1_line_3 : decode cX1_line 3 = .ok (.iconst (-1), 1) := by decide +kernel
theorem dX1_line_4 : decode cX1_line 4 = .ok (.istore 6, 2) := by decide +kernel
theorem dX1_line_6 : decode cX1_line 6 = .ok (.iconst 0, 1) := by decide +kernel
theorem dX1_line_7 : decode cX1_line 7 = .ok (.istore 7, 2) := by decide +kernel
theorem dX1_line_9 : decode cX1_line 9 = .ok (.iload 7, 2) := by decide +kernel
theorem dX1_line_11 : decode cX1_line 11 = .ok (.aload_n 0, 1) := by decide +kernel
theorem dX1_line_12 : decode cX1_line 12 = .ok (.getfield 33, 3) := by decide +kernel
theorem dX1_line_15 : decode cX1_line 15 = .ok (.if_icmp .ge 109, 3) := by decide +kernel
theorem dX1_line_18 : decode cX1_line 18 = .ok (.aload_n 0, 1) := by decide +kernel
theorem dX1_line_19 : decode cX1_line 19 = .ok (.getfield 9, 3) := by decide +kernel
theorem dX1_line_22 : decode cX1_line 22 = .ok (.iload 7, 2) := by decide +kernel
theorem dX1_line_24 : decode cX1_line 24 = .ok (.daload, 1) := by decide +kernel
theorem dX1_line_25 : decode cX1_line 25 = .ok (.dload_n 1, 1) := by decide +kernel
theorem dX1_line_26 : decode cX1_line 26 = .ok (.dcmp .l, 1) := by decide +kernel
theorem dX1_line_27 : decode cX1_line 27 = .ok (.ifCond .ne 91, 3) := by decide +kernel
theorem dX1_line_30 : decode cX1_line 30 = .ok (.aload_n 0, 1) := by decide +kernel
theorem dX1_line_31 : decode cX1_line 31 = .ok (.getfield 13, 3) := by decide +kernel
theorem dX1_line_34 : decode cX1_line 34 = .ok (.iload 7, 2) := by decide +kernel
theorem dX1_line_36 : decode cX1_line 36 = .ok (.daload, 1) := by decide +kernel
theorem dX1_line_37 : decode cX1_line 37 = .ok (.dload_n 3, 1) := by decide +kernel
theorem dX1_line_38 : decode cX1_line 38 = .ok (.dcmp .g, 1) := by decide +kernel
theorem dX1_line_39 : decode cX1_line 39 = .ok (.ifCond .gt 31, 3) := by decide +kernel
theorem dX1_line_42 : decode cX1_line 42 = .ok (.iload 5, 2) := by decide +kernel
theorem dX1_line_44 : decode cX1_line 44 = .ok (.ifCond .lt 21, 3) := by decide +kernel
theorem dX1_line_47 : decode cX1_line 47 = .ok (.aload_n 0, 1) := by decide +kernel
theorem dX1_line_48 : decode cX1_line 48 = .ok (.getfield 13, 3) := by decide +kernel
theorem dX1_line_51 : decode cX1_line 51 = .ok (.iload 7, 2) := by decide +kernel
theorem dX1_line_53 : decode cX1_line 53 = .ok (.daload, 1) := by decide +kernel
theorem dX1_line_54 : decode cX1_line 54 = .ok (.aload_n 0, 1) := by decide +kernel
theorem dX1_line_55 : decode cX1_line 55 = .ok (.getfield 13, 3) := by decide +kernel
theorem dX1_line_58 : decode cX1_line 58 = .ok (.iload 5, 2) := by decide +kernel
theorem dX1_line_60 : decode cX1_line 60 = .ok (.daload, 1) := by decide +kernel
theorem dX1_line_61 : decode cX1_line 61 = .ok (.dcmp .l, 1) := by decide +kernel
theorem dX1_line_62 : decode cX1_line 62 = .ok (.ifCond .le 8, 3) := by decide +kernel
theorem dX1_line_65 : decode cX1_line 65 = .ok (.iload 7, 2) := by decide +kernel
theorem dX1_line_67 : decode cX1_line 67 = .ok (.goto 5, 3) := by decide +kernel
theorem dX1_line_70 : decode cX1_line 70 = .ok (.iload 5, 2) := by decide +kernel
theorem dX1_line_72 : decode cX1_line 72 = .ok (.istore 5, 2) := by decide +kernel
theorem dX1_line_74 : decode cX1_line 74 = .ok (.aload_n 0, 1) := by decide +kernel
theorem dX1_line_75 : decode cX1_line 75 = .ok (.getfield 13, 3) := by decide +kernel
theorem dX1_line_78 : decode cX1_line 78 = .ok (.iload 7, 2) := by decide +kernel
theorem dX1_line_80 : decode cX1_line 80 = .ok (.daload, 1) := by decide +kernel
theorem dX1_line_81 : decode cX1_line 81 = .ok (.dload_n 3, 1) := by decide +kernel
theorem dX1_line_82 : decode cX1_line 82 = .ok (.dcmp .l, 1) := by decide +kernel
theorem dX1_line_83 : decode cX1_line 83 = .ok (.ifCond .le 31, 3) := by decide +kernel
theorem dX1_line_86 : decode cX1_line 86 = .ok (.iload 6, 2) := by decide +kernel
theorem dX1_line_88 : decode cX1_line 88 = .ok (.ifCond .lt 21, 3) := by decide +kernel
theorem dX1_line_91 : decode cX1_line 91 = .ok (.aload_n 0, 1) := by decide +kernel
theorem dX1_line_92 : decode cX1_line 92 = .ok (.getfield 13, 3) := by decide +kernel
theorem dX1_line_95 : decode cX1_line 95 = .ok (.iload 7, 2) := by decide +kernel
theorem dX1_line_97 : decode cX1_line 97 = .ok (.daload, 1) := by decide +kernel
theorem dX1_line_98 : decode cX1_line 98 = .ok (.aload_n 0, 1) := by decide +kernel
theorem dX1_line_99 : decode cX1_line 99 = .ok (.getfield 13, 3) := by decide +kernel
theorem dX1_line_102 : decode cX1_line 102 = .ok (.iload 6, 2) := by decide +kernel
theorem dX1_line_104 : decode cX1_line 104 = .ok (.daload, 1) := by decide +kernel
theorem dX1_line_105 : decode cX1_line 105 = .ok (.dcmp .g, 1) := by decide +kernel
theorem dX1_line_106 : decode cX1_line 106 = .ok (.ifCond .ge 8, 3) := by decide +kernel
theorem dX1_line_109 : decode cX1_line 109 = .ok (.iload 7, 2) := by decide +kernel
theorem dX1_line_111 : decode cX1_line 111 = .ok (.goto 5, 3) := by decide +kernel
theorem dX1_line_114 : decode cX1_line 114 = .ok (.iload 6, 2) := by decide +kernel
theorem dX1_line_116 : decode cX1_line 116 = .ok (.istore 6, 2) := by decide +kernel
theorem dX1_line_118 : decode cX1_line 118 = .ok (.iinc 7 1, 3) := by decide +kernel
theorem dX1_line_121 : decode cX1_line 121 = .ok (.goto (-112), 3) := by decide +kernel
theorem dX1_line_124 : decode cX1_line 124 = .ok (.iload 5, 2) := by decide +kernel
theorem dX1_line_126 : decode cX1_line 126 = .ok (.ifCond .lt 8, 3) := by decide +kernel
theorem dX1_line_129 : decode cX1_line 129 = .ok (.iload 6, 2) := by decide +kernel
theorem dX1_line_131 : decode cX1_line 131 = .ok (.ifCond .ge 21, 3) := by decide +kernel
theorem dX1_line_134 : decode cX1_line 134 = .ok (.aload_n 0, 1) := by decide +kernel
theorem dX1_line_135 : decode cX1_line 135 = .ok (.getfield 16, 3) := by decide +kernel
theorem dX1_line_138 : decode cX1_line 138 = .ok (.iload 5, 2) := by decide +kernel
theorem dX1_line_140 : decode cX1_line 140 = .ok (.ifCond .ge 8, 3) := by decide +kernel
theorem dX1_line_143 : decode cX1_line 143 = .ok (.iload 6, 2) := by decide +kernel
theorem dX1_line_145 : decode cX1_line 145 = .ok (.goto 5, 3) := by decide +kernel
theorem dX1_line_148 : decode cX1_line 148 = .ok (.iload 5, 2) := by decide +kernel
theorem dX1_line_150 : decode cX1_line 150 = .ok (.daload, 1) := by decide +kernel
theorem dX1_line_151 : decode cX1_line 151 = .ok (.dreturn, 1) := by decide +kernel
theorem dX1_line_152 : decode cX1_line 152 = .ok (.aload_n 0, 1) := by decide +kernel
theorem dX1_line_153 : decode cX1_line 153 = .ok (.getfield 16, 3) := by decide +kernel
theorem dX1_line_156 : decode cX1_line 156 = .ok (.iload 5, 2) := by decide +kernel
theorem dX1_line_158 : decode cX1_line 158 = .ok (.daload, 1) := by decide +kernel
theorem dX1_line_159 : decode cX1_line 159 = .ok (.aload_n 0, 1) := by decide +kernel
theorem dX1_line_160 : decode cX1_line 160 = .ok (.getfield 16, 3) := by decide +kernel
theorem dX1_line_163 : decode cX1_line 163 = .ok (.iload 6, 2) := by decide +kernel
theorem dX1_line_165 : decode cX1_line 165 = .ok (.daload, 1) := by decide +kernel
theorem dX1_line_166 : decode cX1_line 166 = .ok (.aload_n 0, 1) := by decide +kernel
theorem dX1_line_167 : decode cX1_line 167 = .ok (.getfield 16, 3) := by decide +kernel
theorem dX1_line_170 : decode cX1_line 170 = .ok (.iload 5, 2) := by decide +kernel
theorem dX1_line_172 : decode cX1_line 172 = .ok (.daload, 1) := by decide +kernel
theorem dX1_line_173 : decode cX1_line 173 = .ok (.dsub, 1) := by decide +kernel
theorem dX1_line_174 : decode cX1_line 174 = .ok (.dload_n 3, 1) := by decide +kernel
theorem dX1_line_175 : decode cX1_line 175 = .ok (.aload_n 0, 1) := by decide +kernel
theorem dX1_line_176 : decode cX1_line 176 = .ok (.getfield 13, 3) := by decide +kernel
theorem dX1_line_179 : decode cX1_line 179 = .ok (.iload 5, 2) := by decide +kernel
theorem dX1_line_181 : decode cX1_line 181 = .ok (.daload, 1) := by decide +kernel
theorem dX1_line_182 : decode cX1_line 182 = .ok (.dsub, 1) := by decide +kernel
theorem dX1_line_183 : decode cX1_line 183 = .ok (.dmul, 1) := by decide +kernel
theorem dX1_line_184 : decode cX1_line 184 = .ok (.aload_n 0, 1) := by decide +kernel
theorem dX1_line_185 : decode cX1_line 185 = .ok (.getfield 13, 3) := by decide +kernel
theorem dX1_line_188 : decode cX1_line 188 = .ok (.iload 6, 2) := by decide +kernel
theorem dX1_line_190 : decode cX1_line 190 = .ok (.daload, 1) := by decide +kernel
theorem dX1_line_191 : decode cX1_line 191 = .ok (.aload_n 0, 1) := by decide +kernel
theorem dX1_line_192 : decode cX1_line 192 = .ok (.getfield 13, 3) := by decide +kernel
theorem dX1_line_195 : decode cX1_line 195 = .ok (.iload 5, 2) := by decide +kernel
theorem dX1_line_197 : decode cX1_line 197 = .ok (.daload, 1) := by decide +kernel
theorem dX1_line_198 : decode cX1_line 198 = .ok (.dsub, 1) := by decide +kernel
theorem dX1_line_199 : decode cX1_line 199 = .ok (.ddiv, 1) := by decide +kernel
theorem dX1_line_200 : decode cX1_line 200 = .ok (.dadd, 1) := by decide +kernel
theorem dX1_line_201 : decode cX1_line 201 = .ok (.dreturn, 1) := by decide +kernel
abbrev cX1_after : ByteArray := prog_5_method_8_code
def yX1_after : MethodName := ⟨RX1, "after", "(DDDI)D"⟩
theorem dX1_after_0 : decode cX1_after 0 = .ok (.dload_n 1, 1) := by decide +kernel
theorem dX1_after_1 : decode cX1_after 1 = .ok (.dconst 0, 1) := by decide +kernel
theorem dX1_after_2 : decode cX1_after 2 = .ok (.ldc2_w 21, 3) := by decide +kernel
theorem dX1_after_5 : decode cX1_after 5 = .ok (.invokestatic 23, 3) := by decide +kernel
theorem dX1_after_8 : decode cX1_after 8 = .ok (.ifCond .eq 24, 3) := by decide +kernel
theorem dX1_after_11 : decode cX1_after 11 = .ok (.dload_n 3, 1) := by decide +kernel
theorem dX1_after_12 : decode cX1_after 12 = .ok (.dload 5, 2) := by decide +kernel
theorem dX1_after_14 : decode cX1_after 14 = .ok (.invokestatic 29, 3) := by decide +kernel
theorem dX1_after_17 : decode cX1_after 17 = .ok (.ifCond .eq 15, 3) := by decide +kernel
theorem dX1_after_20 : decode cX1_after 20 = .ok (.iload 7, 2) := by decide +kernel
theorem dX1_after_22 : decode cX1_after 22 = .ok (.ifCond .lt 10, 3) := by decide +kernel
theorem dX1_after_25 : decode cX1_after 25 = .ok (.iload 7, 2) := by decide +kernel
theorem dX1_after_27 : decode cX1_after 27 = .ok (.ldc 46, 2) := by decide +kernel
theorem dX1_after_29 : decode cX1_after 29 = .ok (.if_icmp .le 7, 3) := by decide +kernel
theorem dX1_after_32 : decode cX1_after 32 = .ok (.ldc2_w 44, 3) := by decide +kernel
theorem dX1_after_35 : decode cX1_after 35 = .ok (.dreturn, 1) := by decide +kernel
theorem dX1_after_36 : decode cX1_after 36 = .ok (.aload_n 0, 1) := by decide +kernel
theorem dX1_after_37 : decode cX1_after 37 = .ok (.dload_n 3, 1) := by decide +kernel
theorem dX1_after_38 : decode cX1_after 38 = .ok (.dload 5, 2) := by decide +kernel
theorem dX1_after_40 : decode cX1_after 40 = .ok (.invokevirtual 41, 3) := by decide +kernel
theorem dX1_after_43 : decode cX1_after 43 = .ok (.dstore 8, 2) := by decide +kernel
theorem dX1_after_45 : decode cX1_after 45 = .ok (.dload_n 1, 1) := by decide +kernel
theorem dX1_after_46 : decode cX1_after 46 = .ok (.dstore 10, 2) := by decide +kernel
theorem dX1_after_48 : decode cX1_after 48 = .ok (.iconst 0, 1) := by decide +kernel
theorem dX1_after_49 : decode cX1_after 49 = .ok (.istore 12, 2) := by decide +kernel
theorem dX1_after_51 : decode cX1_after 51 = .ok (.iload 12, 2) := by decide +kernel
theorem dX1_after_53 : decode cX1_after 53 = .ok (.iload 7, 2) := by decide +kernel
theorem dX1_after_55 : decode cX1_after 55 = .ok (.if_icmp .ge 23, 3) := by decide +kernel
theorem dX1_after_58 : decode cX1_after 58 = .ok (.dload 10, 2) := by decide +kernel
theorem dX1_after_60 : decode cX1_after 60 = .ok (.dload 8, 2) := by decide +kernel
theorem dX1_after_62 : decode cX1_after 62 = .ok (.dload 10, 2) := by decide +kernel
theorem dX1_after_64 : decode cX1_after 64 = .ok (.dsub, 1) := by decide +kernel
theorem dX1_after_65 : decode cX1_after 65 = .ok (.ldc2_w 47, 3) := by decide +kernel
theorem dX1_after_68 : decode cX1_after 68 = .ok (.dmul, 1) := by decide +kernel
theorem dX1_after_69 : decode cX1_after 69 = .ok (.dadd, 1) := by decide +kernel
theorem dX1_after_70 : decode cX1_after 70 = .ok (.dstore 10, 2) := by decide +kernel
theorem dX1_after_72 : decode cX1_after 72 = .ok (.iinc 12 1, 3) := by decide +kernel
theorem dX1_after_75 : decode cX1_after 75 = .ok (.goto (-24), 3) := by decide +kernel
theorem dX1_after_78 : decode cX1_after 78 = .ok (.dload 10, 2) := by decide +kernel
theorem dX1_after_80 : decode cX1_after 80 = .ok (.dreturn, 1) := by decide +kernel
abbrev cX1_fill : ByteArray := prog_5_method_9_code
def yX1_fill : MethodName := ⟨RX1, "fill", "(DD)D"⟩
theorem dX1_fill_0 : decode cX1_fill 0 = .ok (.dload_n 1, 1) := by decide +kernel
theorem dX1_fill_1 : decode cX1_fill 1 = .ok (.dconst 0, 1) := by decide +kernel
theorem dX1_fill_2 : decode cX1_fill 2 = .ok (.ldc2_w 21, 3) := by decide +kernel
theorem dX1_fill_5 : decode cX1_fill 5 = .ok (.invokestatic 23, 3) := by decide +kernel
theorem dX1_fill_8 : decode cX1_fill 8 = .ok (.ifCond .eq 14, 3) := by decide +kernel
theorem dX1_fill_11 : decode cX1_fill 11 = .ok (.dload_n 3, 1) := by decide +kernel
theorem dX1_fill_12 : decode cX1_fill 12 = .ok (.dconst 0, 1) := by decide +kernel
theorem dX1_fill_13 : decode cX1_fill 13 = .ok (.ldc2_w 49, 3) := by decide +kernel
theorem dX1_fill_16 : decode cX1_fill 16 = .ok (.invokestatic 23, 3) := by decide +kernel
theorem dX1_fill_19 : decode cX1_fill 19 = .ok (.ifCond .ne 7, 3) := by decide +kernel
theorem dX1_fill_22 : decode cX1_fill 22 = .ok (.ldc2_w 44, 3) := by decide +kernel
theorem dX1_fill_25 : decode cX1_fill 25 = .ok (.dreturn, 1) := by decide +kernel
theorem dX1_fill_26 : decode cX1_fill 26 = .ok (.dload_n 1, 1) := by decide +kernel
theorem dX1_fill_27 : decode cX1_fill 27 = .ok (.dload_n 1, 1) := by decide +kernel
theorem dX1_fill_28 : decode cX1_fill 28 = .ok (.dload_n 3, 1) := by decide +kernel
theorem dX1_fill_29 : decode cX1_fill 29 = .ok (.ldc2_w 51, 3) := by decide +kernel
theorem dX1_fill_32 : decode cX1_fill 32 = .ok (.dmul, 1) := by decide +kernel
theorem dX1_fill_33 : decode cX1_fill 33 = .ok (.dmul, 1) := by decide +kernel
theorem dX1_fill_34 : decode cX1_fill 34 = .ok (.dconst 1, 1) := by decide +kernel
theorem dX1_fill_35 : decode cX1_fill 35 = .ok (.dload_n 3, 1) := by decide +kernel
theorem dX1_fill_36 : decode cX1_fill 36 = .ok (.ldc2_w 51, 3) := by decide +kernel
theorem dX1_fill_39 : decode cX1_fill 39 = .ok (.dmul, 1) := by decide +kernel
theorem dX1_fill_40 : decode cX1_fill 40 = .ok (.dadd, 1) := by decide +kernel
theorem dX1_fill_41 : decode cX1_fill 41 = .ok (.ddiv, 1) := by decide +kernel
theorem dX1_fill_42 : decode cX1_fill 42 = .ok (.dsub, 1) := by decide +kernel
theorem dX1_fill_43 : decode cX1_fill 43 = .ok (.dreturn, 1) := by decide +kernel
abbrev cX1_bunging : ByteArray := prog_5_method_12_code
def yX1_bunging : MethodName := ⟨RX1, "bunging", "(JJI)J"⟩
theorem dX1_bunging_0 : decode cX1_bunging 0 = .ok (.lload_n 1, 1) := by decide +kernel
theorem dX1_bunging_1 : decode cX1_bunging 1 = .ok (.lload_n 3, 1) := by decide +kernel
theorem dX1_bunging_2 : decode cX1_bunging 2 = .ok (.invokestatic 55, 3) := by decide +kernel
theorem dX1_bunging_5 : decode cX1_bunging 5 = .ok (.ifCond .eq 14, 3) := by decide +kernel
theorem dX1_bunging_8 : decode cX1_bunging 8 = .ok (.iload 5, 2) := by decide +kernel
theorem dX1_bunging_10 : decode cX1_bunging 10 = .ok (.ifCond .lt 9, 3) := by decide +kernel
theorem dX1_bunging_13 : decode cX1_bunging 13 = .ok (.iload 5, 2) := by decide +kernel
theorem dX1_bunging_15 : decode cX1_bunging 15 = .ok (.iconst 1, 1) := by decide +kernel
theorem dX1_bunging_16 : decode cX1_bunging 16 = .ok (.if_icmp .le 9, 3) := by decide +kernel
theorem dX1_bunging_19 : decode cX1_bunging 19 = .ok (.ldc2_w 59, 3) := by decide +kernel
theorem dX1_bunging_22 : decode cX1_bunging 22 = .ok (.goto 18, 3) := by decide +kernel
theorem dX1_bunging_25 : decode cX1_bunging 25 = .ok (.ldc2_w 61, 3) := by decide +kernel
theorem dX1_bunging_28 : decode cX1_bunging 28 = .ok (.lload_n 1, 1) := by decide +kernel
theorem dX1_bunging_29 : decode cX1_bunging 29 = .ok (.lmul, 1) := by decide +kernel
theorem dX1_bunging_30 : decode cX1_bunging 30 = .ok (.ldc2_w 63, 3) := by decide +kernel
theorem dX1_bunging_33 : decode cX1_bunging 33 = .ok (.lload_n 3, 1) := by decide +kernel
theorem dX1_bunging_34 : decode cX1_bunging 34 = .ok (.lmul, 1) := by decide +kernel
theorem dX1_bunging_35 : decode cX1_bunging 35 = .ok (.iload 5, 2) := by decide +kernel
theorem dX1_bunging_37 : decode cX1_bunging 37 = .ok (.invokestatic 65, 3) := by decide +kernel
theorem dX1_bunging_40 : decode cX1_bunging 40 = .ok (.lreturn, 1) := by decide +kernel
abbrev cX1_isPart : ByteArray := prog_5_method_10_code
def yX1_isPart : MethodName := ⟨RX1, "isPart", "(JJ)Z"⟩
theorem dX1_isPart_0 : decode cX1_isPart 0 = .ok (.lload_n 0, 1) := by decide +kernel
theorem dX1_isPart_1 : decode cX1_isPart 1 = .ok (.lconst 1, 1) := by decide +kernel
theorem dX1_isPart_2 : decode cX1_isPart 2 = .ok (.lcmp, 1) := by decide +kernel
theorem dX1_isPart_3 : decode cX1_isPart 3 = .ok (.ifCond .lt 29, 3) := by decide +kernel
theorem dX1_isPart_6 : decode cX1_isPart 6 = .ok (.lload_n 0, 1) := by decide +kernel
theorem dX1_isPart_7 : decode cX1_isPart 7 = .ok (.ldc2_w 53, 3) := by decide +kernel
theorem dX1_isPart_10 : decode cX1_isPart 10 = .ok (.lcmp, 1) := by decide +kernel
theorem dX1_isPart_11 : decode cX1_isPart 11 = .ok (.ifCond .gt 21, 3) := by decide +kernel
theorem dX1_isPart_14 : decode cX1_isPart 14 = .ok (.lload_n 2, 1) := by decide +kernel
theorem dX1_isPart_15 : decode cX1_isPart 15 = .ok (.lconst 1, 1) := by decide +kernel
theorem dX1_isPart_16 : decode cX1_isPart 16 = .ok (.lcmp, 1) := by decide +kernel
theorem dX1_isPart_17 : decode cX1_isPart 17 = .ok (.ifCond .lt 15, 3) := by decide +kernel
theorem dX1_isPart_20 : decode cX1_isPart 20 = .ok (.lload_n 2, 1) := by decide +kernel
theorem dX1_isPart_21 : decode cX1_isPart 21 = .ok (.ldc2_w 53, 3) := by decide +kernel
theorem dX1_isPart_24 : decode cX1_isPart 24 = .ok (.lcmp, 1) := by decide +kernel
theorem dX1_isPart_25 : decode cX1_isPart 25 = .ok (.ifCond .gt 7, 3) := by decide +kernel
theorem dX1_isPart_28 : decode cX1_isPart 28 = .ok (.iconst 1, 1) := by decide +kernel
theorem dX1_isPart_29 : decode cX1_isPart 29 = .ok (.goto 4, 3) := by decide +kernel
theorem dX1_isPart_32 : decode cX1_isPart 32 = .ok (.iconst 0, 1) := by decide +kernel
theorem dX1_isPart_33 : decode cX1_isPart 33 = .ok (.ireturn, 1) := by decide +kernel
abbrev cX1_reduced : ByteArray := prog_5_method_11_code
def yX1_reduced : MethodName := ⟨RX1, "reduced", "(JJI)J"⟩
theorem dX1_reduced_0 : decode cX1_reduced 0 = .ok (.lload_n 2, 1) := by decide +kernel
theorem dX1_reduced_1 : decode cX1_reduced 1 = .ok (.lstore 5, 2) := by decide +kernel
theorem dX1_reduced_3 : decode cX1_reduced 3 = .ok (.lload_n 0, 1) := by decide +kernel
theorem dX1_reduced_4 : decode cX1_reduced 4 = .ok (.lstore 7, 2) := by decide +kernel
theorem dX1_reduced_6 : decode cX1_reduced 6 = .ok (.lload 7, 2) := by decide +kernel
theorem dX1_reduced_8 : decode cX1_reduced 8 = .ok (.lconst 0, 1) := by decide +kernel
theorem dX1_reduced_9 : decode cX1_reduced 9 = .ok (.lcmp, 1) := by decide +kernel
theorem dX1_reduced_10 : decode cX1_reduced 10 = .ok (.ifCond .le 21, 3) := by decide +kernel
theorem dX1_reduced_13 : decode cX1_reduced 13 = .ok (.lload 5, 2) := by decide +kernel
theorem dX1_reduced_15 : decode cX1_reduced 15 = .ok (.lload 7, 2) := by decide +kernel
theorem dX1_reduced_17 : decode cX1_reduced 17 = .ok (.lrem, 1) := by decide +kernel
theorem dX1_reduced_18 : decode cX1_reduced 18 = .ok (.lstore 9, 2) := by decide +kernel
theorem dX1_reduced_20 : decode cX1_reduced 20 = .ok (.lload 7, 2) := by decide +kernel
theorem dX1_reduced_22 : decode cX1_reduced 22 = .ok (.lstore 5, 2) := by decide +kernel
theorem dX1_reduced_24 : decode cX1_reduced 24 = .ok (.lload 9, 2) := by decide +kernel
theorem dX1_reduced_26 : decode cX1_reduced 26 = .ok (.lstore 7, 2) := by decide +kernel
theorem dX1_reduced_28 : decode cX1_reduced 28 = .ok (.goto (-22), 3) := by decide +kernel
theorem dX1_reduced_31 : decode cX1_reduced 31 = .ok (.iload 4, 2) := by decide +kernel
theorem dX1_reduced_33 : decode cX1_reduced 33 = .ok (.ifCond .ne 10, 3) := by decide +kernel
theorem dX1_reduced_36 : decode cX1_reduced 36 = .ok (.lload_n 0, 1) := by decide +kernel
theorem dX1_reduced_37 : decode cX1_reduced 37 = .ok (.lload 5, 2) := by decide +kernel
theorem dX1_reduced_39 : decode cX1_reduced 39 = .ok (.ldiv, 1) := by decide +kernel
theorem dX1_reduced_40 : decode cX1_reduced 40 = .ok (.goto 7, 3) := by decide +kernel
theorem dX1_reduced_43 : decode cX1_reduced 43 = .ok (.lload_n 2, 1) := by decide +kernel
theorem dX1_reduced_44 : decode cX1_reduced 44 = .ok (.lload 5, 2) := by decide +kernel
theorem dX1_reduced_46 : decode cX1_reduced 46 = .ok (.ldiv, 1) := by decide +kernel
theorem dX1_reduced_47 : decode cX1_reduced 47 = .ok (.lreturn, 1) := by decide +kernel
abbrev cX1_sugar : ByteArray := prog_5_method_13_code
def yX1_sugar : MethodName := ⟨RX1, "sugar", "(JJI)J"⟩
theorem dX1_sugar_0 : decode cX1_sugar 0 = .ok (.lload_n 1, 1) := by decide +kernel
theorem dX1_sugar_1 : decode cX1_sugar 1 = .ok (.lload_n 3, 1) := by decide +kernel
theorem dX1_sugar_2 : decode cX1_sugar 2 = .ok (.invokestatic 55, 3) := by decide +kernel
theorem dX1_sugar_5 : decode cX1_sugar 5 = .ok (.ifCond .eq 14, 3) := by decide +kernel
theorem dX1_sugar_8 : decode cX1_sugar 8 = .ok (.iload 5, 2) := by decide +kernel
theorem dX1_sugar_10 : decode cX1_sugar 10 = .ok (.ifCond .lt 9, 3) := by decide +kernel
theorem dX1_sugar_13 : decode cX1_sugar 13 = .ok (.iload 5, 2) := by decide +kernel
theorem dX1_sugar_15 : decode cX1_sugar 15 = .ok (.iconst 2, 1) := by decide +kernel
theorem dX1_sugar_16 : decode cX1_sugar 16 = .ok (.if_icmp .le 7, 3) := by decide +kernel
theorem dX1_sugar_19 : decode cX1_sugar 19 = .ok (.ldc2_w 59, 3) := by decide +kernel
theorem dX1_sugar_22 : decode cX1_sugar 22 = .ok (.lreturn, 1) := by decide +kernel
theorem dX1_sugar_23 : decode cX1_sugar 23 = .ok (.ldc2_w 69, 3) := by decide +kernel
theorem dX1_sugar_26 : decode cX1_sugar 26 = .ok (.lload_n 1, 1) := by decide +kernel
theorem dX1_sugar_27 : decode cX1_sugar 27 = .ok (.lmul, 1) := by decide +kernel
theorem dX1_sugar_28 : decode cX1_sugar 28 = .ok (.lstore 6, 2) := by decide +kernel
theorem dX1_sugar_30 : decode cX1_sugar 30 = .ok (.ldc2_w 71, 3) := by decide +kernel
theorem dX1_sugar_33 : decode cX1_sugar 33 = .ok (.lload_n 3, 1) := by decide +kernel
theorem dX1_sugar_34 : decode cX1_sugar 34 = .ok (.lmul, 1) := by decide +kernel
theorem dX1_sugar_35 : decode cX1_sugar 35 = .ok (.lstore 8, 2) := by decide +kernel
theorem dX1_sugar_37 : decode cX1_sugar 37 = .ok (.iload 5, 2) := by decide +kernel
theorem dX1_sugar_39 : decode cX1_sugar 39 = .ok (.iconst 2, 1) := by decide +kernel
theorem dX1_sugar_40 : decode cX1_sugar 40 = .ok (.if_icmp .ge 15, 3) := by decide +kernel
theorem dX1_sugar_43 : decode cX1_sugar 43 = .ok (.lload 6, 2) := by decide +kernel
theorem dX1_sugar_45 : decode cX1_sugar 45 = .ok (.lload 8, 2) := by decide +kernel
theorem dX1_sugar_47 : decode cX1_sugar 47 = .ok (.iload 5, 2) := by decide +kernel
theorem dX1_sugar_49 : decode cX1_sugar 49 = .ok (.invokestatic 65, 3) := by decide +kernel
theorem dX1_sugar_52 : decode cX1_sugar 52 = .ok (.goto 24, 3) := by decide +kernel
theorem dX1_sugar_55 : decode cX1_sugar 55 = .ok (.lload 6, 2) := by decide +kernel
theorem dX1_sugar_57 : decode cX1_sugar 57 = .ok (.lload 8, 2) := by decide +kernel
theorem dX1_sugar_59 : decode cX1_sugar 59 = .ok (.ldiv, 1) := by decide +kernel
theorem dX1_sugar_60 : decode cX1_sugar 60 = .ok (.lload 6, 2) := by decide +kernel
theorem dX1_sugar_62 : decode cX1_sugar 62 = .ok (.lload 8, 2) := by decide +kernel
theorem dX1_sugar_64 : decode cX1_sugar 64 = .ok (.lrem, 1) := by decide +kernel
theorem dX1_sugar_65 : decode cX1_sugar 65 = .ok (.lconst 0, 1) := by decide +kernel
theorem dX1_sugar_66 : decode cX1_sugar 66 = .ok (.lcmp, 1) := by decide +kernel
theorem dX1_sugar_67 : decode cX1_sugar 67 = .ok (.ifCond .le 7, 3) := by decide +kernel
theorem dX1_sugar_70 : decode cX1_sugar 70 = .ok (.lconst 1, 1) := by decide +kernel
theorem dX1_sugar_71 : decode cX1_sugar 71 = .ok (.goto 4, 3) := by decide +kernel
theorem dX1_sugar_74 : decode cX1_sugar 74 = .ok (.lconst 0, 1) := by decide +kernel
theorem dX1_sugar_75 : decode cX1_sugar 75 = .ok (.ladd, 1) := by decide +kernel
theorem dX1_sugar_76 : decode cX1_sugar 76 = .ok (.lreturn, 1) := by decide +kernel
abbrev cX1_burst : ByteArray := prog_5_method_14_code
def yX1_burst : MethodName := ⟨RX1, "burst", "(DDD)I"⟩
theorem dX1_burst_0 : decode cX1_burst 0 = .ok (.dload_n 1, 1) := by decide +kernel
theorem dX1_burst_1 : decode cX1_burst 1 = .ok (.dconst 0, 1) := by decide +kernel
theorem dX1_burst_2 : decode cX1_burst 2 = .ok (.ldc2_w 21, 3) := by decide +kernel
theorem dX1_burst_5 : decode cX1_burst 5 = .ok (.invokestatic 23, 3) := by decide +kernel
theorem dX1_burst_8 : decode cX1_burst 8 = .ok (.ifCond .eq 28, 3) := by decide +kernel
theorem dX1_burst_11 : decode cX1_burst 11 = .ok (.dload_n 3, 1) := by decide +kernel
theorem dX1_burst_12 : decode cX1_burst 12 = .ok (.ldc2_w 19, 3) := by decide +kernel
theorem dX1_burst_15 : decode cX1_burst 15 = .ok (.ldc2_w 21, 3) := by decide +kernel
theorem dX1_burst_18 : decode cX1_burst 18 = .ok (.invokestatic 23, 3) := by decide +kernel
theorem dX1_burst_21 : decode cX1_burst 21 = .ok (.ifCond .eq 15, 3) := by decide +kernel
theorem dX1_burst_24 : decode cX1_burst 24 = .ok (.dload 5, 2) := by decide +kernel
theorem dX1_burst_26 : decode cX1_burst 26 = .ok (.dconst 0, 1) := by decide +kernel
theorem dX1_burst_27 : decode cX1_burst 27 = .ok (.ldc2_w 27, 3) := by decide +kernel
theorem dX1_burst_30 : decode cX1_burst 30 = .ok (.invokestatic 23, 3) := by decide +kernel
theorem dX1_burst_33 : decode cX1_burst 33 = .ok (.ifCond .ne 6, 3) := by decide +kernel
theorem dX1_burst_36 : decode cX1_burst 36 = .ok (.bipush (-2), 2) := by decide +kernel
theorem dX1_burst_38 : decode cX1_burst 38 = .ok (.ireturn, 1) := by decide +kernel
theorem dX1_burst_39 : decode cX1_burst 39 = .ok (.iconst 0, 1) := by decide +kernel
theorem dX1_burst_40 : decode cX1_burst 40 = .ok (.istore 7, 2) := by decide +kernel
theorem dX1_burst_42 : decode cX1_burst 42 = .ok (.iload 7, 2) := by decide +kernel
theorem dX1_burst_44 : decode cX1_burst 44 = .ok (.sipush 160, 3) := by decide +kernel
theorem dX1_burst_47 : decode cX1_burst 47 = .ok (.if_icmp .gt 26, 3) := by decide +kernel
theorem dX1_burst_50 : decode cX1_burst 50 = .ok (.aload_n 0, 1) := by decide +kernel
theorem dX1_burst_51 : decode cX1_burst 51 = .ok (.dload_n 3, 1) := by decide +kernel
theorem dX1_burst_52 : decode cX1_burst 52 = .ok (.iload 7, 2) := by decide +kernel
theorem dX1_burst_54 : decode cX1_burst 54 = .ok (.i2d, 1) := by decide +kernel
theorem dX1_burst_55 : decode cX1_burst 55 = .ok (.ldc2_w 73, 3) := by decide +kernel
theorem dX1_burst_58 : decode cX1_burst 58 = .ok (.dmul, 1) := by decide +kernel
theorem dX1_burst_59 : decode cX1_burst 59 = .ok (.invokevirtual 41, 3) := by decide +kernel
theorem dX1_burst_62 : decode cX1_burst 62 = .ok (.dload_n 1, 1) := by decide +kernel
theorem dX1_burst_63 : decode cX1_burst 63 = .ok (.dcmp .g, 1) := by decide +kernel
theorem dX1_burst_64 : decode cX1_burst 64 = .ok (.ifCond .ge 9, 3) := by decide +kernel
theorem dX1_burst_67 : decode cX1_burst 67 = .ok (.iinc 7 1, 3) := by decide +kernel
theorem dX1_burst_70 : decode cX1_burst 70 = .ok (.goto (-28), 3) := by decide +kernel
theorem dX1_burst_73 : decode cX1_burst 73 = .ok (.iload 7, 2) := by decide +kernel
theorem dX1_burst_75 : decode cX1_burst 75 = .ok (.sipush 160, 3) := by decide +kernel
theorem dX1_burst_78 : decode cX1_burst 78 = .ok (.if_icmp .gt 16, 3) := by decide +kernel
theorem dX1_burst_81 : decode cX1_burst 81 = .ok (.iload 7, 2) := by decide +kernel
theorem dX1_burst_83 : decode cX1_burst 83 = .ok (.i2d, 1) := by decide +kernel
theorem dX1_burst_84 : decode cX1_burst 84 = .ok (.ldc2_w 73, 3) := by decide +kernel
theorem dX1_burst_87 : decode cX1_burst 87 = .ok (.dmul, 1) := by decide +kernel
theorem dX1_burst_88 : decode cX1_burst 88 = .ok (.dload 5, 2) := by decide +kernel
theorem dX1_burst_90 : decode cX1_burst 90 = .ok (.dcmp .l, 1) := by decide +kernel
theorem dX1_burst_91 : decode cX1_burst 91 = .ok (.ifCond .le 7, 3) := by decide +kernel
theorem dX1_burst_94 : decode cX1_burst 94 = .ok (.iconst 1, 1) := by decide +kernel
theorem dX1_burst_95 : decode cX1_burst 95 = .ok (.goto 4, 3) := by decide +kernel
theorem dX1_burst_98 : decode cX1_burst 98 = .ok (.iconst 0, 1) := by decide +kernel
theorem dX1_burst_99 : decode cX1_burst 99 = .ok (.ireturn, 1) := by decide +kernel
abbrev cX1_foam : ByteArray := prog_5_method_15_code
def yX1_foam : MethodName := ⟨RX1, "foam", "(ID)D"⟩
theorem dX1_foam_0 : decode cX1_foam 0 = .ok (.dload_n 2, 1) := by decide +kernel
theorem dX1_foam_1 : decode cX1_foam 1 = .ok (.dconst 0, 1) := by decide +kernel
theorem dX1_foam_2 : decode cX1_foam 2 = .ok (.ldc2_w 49, 3) := by decide +kernel
theorem dX1_foam_5 : decode cX1_foam 5 = .ok (.invokestatic 23, 3) := by decide +kernel
theorem dX1_foam_8 : decode cX1_foam 8 = .ok (.ifCond .eq 13, 3) := by decide +kernel
theorem dX1_foam_11 : decode cX1_foam 11 = .ok (.iload_n 1, 1) := by decide +kernel
theorem dX1_foam_12 : decode cX1_foam 12 = .ok (.ifCond .lt 9, 3) := by decide +kernel
theorem dX1_foam_15 : decode cX1_foam 15 = .ok (.iload_n 1, 1) := by decide +kernel
theorem dX1_foam_16 : decode cX1_foam 16 = .ok (.ldc 46, 2) := by decide +kernel
theorem dX1_foam_18 : decode cX1_foam 18 = .ok (.if_icmp .le 7, 3) := by decide +kernel
theorem dX1_foam_21 : decode cX1_foam 21 = .ok (.ldc2_w 44, 3) := by decide +kernel
theorem dX1_foam_24 : decode cX1_foam 24 = .ok (.dreturn, 1) := by decide +kernel
theorem dX1_foam_25 : decode cX1_foam 25 = .ok (.dload_n 2, 1) := by decide +kernel
theorem dX1_foam_26 : decode cX1_foam 26 = .ok (.dstore 4, 2) := by decide +kernel
theorem dX1_foam_28 : decode cX1_foam 28 = .ok (.iconst 0, 1) := by decide +kernel
theorem dX1_foam_29 : decode cX1_foam 29 = .ok (.istore 6, 2) := by decide +kernel
theorem dX1_foam_31 : decode cX1_foam 31 = .ok (.iload 6, 2) := by decide +kernel
theorem dX1_foam_33 : decode cX1_foam 33 = .ok (.iload_n 1, 1) := by decide +kernel
theorem dX1_foam_34 : decode cX1_foam 34 = .ok (.if_icmp .ge 42, 3) := by decide +kernel
theorem dX1_foam_37 : decode cX1_foam 37 = .ok (.dload 4, 2) := by decide +kernel
theorem dX1_foam_39 : decode cX1_foam 39 = .ok (.ldc2_w 75, 3) := by decide +kernel
theorem dX1_foam_42 : decode cX1_foam 42 = .ok (.dmul, 1) := by decide +kernel
theorem dX1_foam_43 : decode cX1_foam 43 = .ok (.ldc2_w 77, 3) := by decide +kernel
theorem dX1_foam_46 : decode cX1_foam 46 = .ok (.dadd, 1) := by decide +kernel
theorem dX1_foam_47 : decode cX1_foam 47 = .ok (.dstore 7, 2) := by decide +kernel
theorem dX1_foam_49 : decode cX1_foam 49 = .ok (.dload 4, 2) := by decide +kernel
theorem dX1_foam_51 : decode cX1_foam 51 = .ok (.dload 7, 2) := by decide +kernel
theorem dX1_foam_53 : decode cX1_foam 53 = .ok (.dsub, 1) := by decide +kernel
theorem dX1_foam_54 : decode cX1_foam 54 = .ok (.dconst 0, 1) := by decide +kernel
theorem dX1_foam_55 : decode cX1_foam 55 = .ok (.dcmp .g, 1) := by decide +kernel
theorem dX1_foam_56 : decode cX1_foam 56 = .ok (.ifCond .ge 7, 3) := by decide +kernel
theorem dX1_foam_59 : decode cX1_foam 59 = .ok (.dconst 0, 1) := by decide +kernel
theorem dX1_foam_60 : decode cX1_foam 60 = .ok (.goto 8, 3) := by decide +kernel
theorem dX1_foam_63 : decode cX1_foam 63 = .ok (.dload 4, 2) := by decide +kernel
theorem dX1_foam_65 : decode cX1_foam 65 = .ok (.dload 7, 2) := by decide +kernel
theorem dX1_foam_67 : decode cX1_foam 67 = .ok (.dsub, 1) := by decide +kernel
theorem dX1_foam_68 : decode cX1_foam 68 = .ok (.dstore 4, 2) := by decide +kernel
theorem dX1_foam_70 : decode cX1_foam 70 = .ok (.iinc 6 1, 3) := by decide +kernel
theorem dX1_foam_73 : decode cX1_foam 73 = .ok (.goto (-42), 3) := by decide +kernel
theorem dX1_foam_76 : decode cX1_foam 76 = .ok (.dload 4, 2) := by decide +kernel
theorem dX1_foam_78 : decode cX1_foam 78 = .ok (.dreturn, 1) := by decide +kernel
abbrev cX1_mixed : ByteArray := prog_5_method_16_code
def yX1_mixed : MethodName := ⟨RX1, "mixed", "(DDDI)D"⟩
theorem dX1_mixed_0 : decode cX1_mixed 0 = .ok (.dload_n 1, 1) := by decide +kernel
theorem dX1_mixed_1 : decode cX1_mixed 1 = .ok (.dconst 0, 1) := by decide +kernel
theorem dX1_mixed_2 : decode cX1_mixed 2 = .ok (.dconst 1, 1) := by decide +kernel
theorem dX1_mixed_3 : decode cX1_mixed 3 = .ok (.invokestatic 23, 3) := by decide +kernel
theorem dX1_mixed_6 : decode cX1_mixed 6 = .ok (.ifCond .eq 23, 3) := by decide +kernel
theorem dX1_mixed_9 : decode cX1_mixed 9 = .ok (.dload_n 3, 1) := by decide +kernel
theorem dX1_mixed_10 : decode cX1_mixed 10 = .ok (.dload 5, 2) := by decide +kernel
theorem dX1_mixed_12 : decode cX1_mixed 12 = .ok (.invokestatic 29, 3) := by decide +kernel
theorem dX1_mixed_15 : decode cX1_mixed 15 = .ok (.ifCond .eq 14, 3) := by decide +kernel
theorem dX1_mixed_18 : decode cX1_mixed 18 = .ok (.iload 7, 2) := by decide +kernel
theorem dX1_mixed_20 : decode cX1_mixed 20 = .ok (.ifCond .lt 9, 3) := by decide +kernel
theorem dX1_mixed_23 : decode cX1_mixed 23 = .ok (.iload 7, 2) := by decide +kernel
theorem dX1_mixed_25 : decode cX1_mixed 25 = .ok (.iconst 1, 1) := by decide +kernel
theorem dX1_mixed_26 : decode cX1_mixed 26 = .ok (.if_icmp .le 7, 3) := by decide +kernel
theorem dX1_mixed_29 : decode cX1_mixed 29 = .ok (.ldc2_w 44, 3) := by decide +kernel
theorem dX1_mixed_32 : decode cX1_mixed 32 = .ok (.dreturn, 1) := by decide +kernel
theorem dX1_mixed_33 : decode cX1_mixed 33 = .ok (.iload 7, 2) := by decide +kernel
theorem dX1_mixed_35 : decode cX1_mixed 35 = .ok (.iconst 1, 1) := by decide +kernel
theorem dX1_mixed_36 : decode cX1_mixed 36 = .ok (.if_icmp .ne 15, 3) := by decide +kernel
theorem dX1_mixed_39 : decode cX1_mixed 39 = .ok (.aload_n 0, 1) := by decide +kernel
theorem dX1_mixed_40 : decode cX1_mixed 40 = .ok (.dload_n 3, 1) := by decide +kernel
theorem dX1_mixed_41 : decode cX1_mixed 41 = .ok (.dload 5, 2) := by decide +kernel
theorem dX1_mixed_43 : decode cX1_mixed 43 = .ok (.dconst 1, 1) := by decide +kernel
theorem dX1_mixed_44 : decode cX1_mixed 44 = .ok (.dload_n 1, 1) := by decide +kernel
theorem dX1_mixed_45 : decode cX1_mixed 45 = .ok (.dsub, 1) := by decide +kernel
theorem dX1_mixed_46 : decode cX1_mixed 46 = .ok (.dmul, 1) := by decide +kernel
theorem dX1_mixed_47 : decode cX1_mixed 47 = .ok (.invokevirtual 41, 3) := by decide +kernel
theorem dX1_mixed_50 : decode cX1_mixed 50 = .ok (.dreturn, 1) := by decide +kernel
theorem dX1_mixed_51 : decode cX1_mixed 51 = .ok (.dload 5, 2) := by decide +kernel
theorem dX1_mixed_53 : decode cX1_mixed 53 = .ok (.dload_n 1, 1) := by decide +kernel
theorem dX1_mixed_54 : decode cX1_mixed 54 = .ok (.dmul, 1) := by decide +kernel
theorem dX1_mixed_55 : decode cX1_mixed 55 = .ok (.ldc2_w 79, 3) := by decide +kernel
theorem dX1_mixed_58 : decode cX1_mixed 58 = .ok (.dmul, 1) := by decide +kernel
theorem dX1_mixed_59 : decode cX1_mixed 59 = .ok (.dstore 8, 2) := by decide +kernel
theorem dX1_mixed_61 : decode cX1_mixed 61 = .ok (.dload_n 3, 1) := by decide +kernel
theorem dX1_mixed_62 : decode cX1_mixed 62 = .ok (.ldc2_w 27, 3) := by decide +kernel
theorem dX1_mixed_65 : decode cX1_mixed 65 = .ok (.dcmp .l, 1) := by decide +kernel
theorem dX1_mixed_66 : decode cX1_mixed 66 = .ok (.ifCond .le 12, 3) := by decide +kernel
theorem dX1_mixed_69 : decode cX1_mixed 69 = .ok (.dload 8, 2) := by decide +kernel
theorem dX1_mixed_71 : decode cX1_mixed 71 = .ok (.ldc2_w 81, 3) := by decide +kernel
theorem dX1_mixed_74 : decode cX1_mixed 74 = .ok (.dmul, 1) := by decide +kernel
theorem dX1_mixed_75 : decode cX1_mixed 75 = .ok (.goto 5, 3) := by decide +kernel
theorem dX1_mixed_78 : decode cX1_mixed 78 = .ok (.dload 8, 2) := by decide +kernel
theorem dX1_mixed_80 : decode cX1_mixed 80 = .ok (.dreturn, 1) := by decide +kernel
theorem q7 : (Jvm.Cond.initialized "GasRowsModel") ∈ lw_all := lw_g (lw_at lw_m1 2 rfl) rfl
theorem q164 : (Jvm.Cond.instantiable "GasRowsModel" (4 : Nat)) ∈ lw_all := lw_g (lw_at lw_m1 159 rfl) rfl
theorem q166 : (Jvm.Cond.instanceMethod ({ cls := "GasRowsModel", name := "<init>", desc := "()V" } : Jvm.MethodName)) ∈ lw_all := lw_g (lw_at lw_m1 161 rfl) rfl
theorem q167 : (Jvm.Cond.code ({ cls := "GasRowsModel", name := "<init>", desc := "()V" } : Jvm.MethodName) prog_5_method_1_code (1 : Nat) (Option.none : Option Jvm.ClassFile.FieldType)) ∈ lw_all := lw_g (lw_at lw_m1 162 rfl) rfl
theorem q168 : (Jvm.Cond.methodLink "GasRowsModel" (1 : Nat) ({ cls := "java/lang/Object", name := "<init>", desc := "()V" } : Jvm.MethodName)) ∈ lw_all := lw_g (lw_at lw_m1 163 rfl) rfl
theorem q169 : (Jvm.Cond.fieldLink "GasRowsModel" (33 : Nat) "GasRowsModel" "rows" "I") ∈ lw_all := lw_g (lw_at lw_m1 164 rfl) rfl
theorem q170 : (Jvm.Cond.fieldLink "GasRowsModel" (9 : Nat) "GasRowsModel" "warmths" "[D") ∈ lw_all := lw_g (lw_at lw_m1 165 rfl) rfl
theorem q171 : (Jvm.Cond.fieldLink "GasRowsModel" (13 : Nat) "GasRowsModel" "bars" "[D") ∈ lw_all := lw_g (lw_at lw_m1 166 rfl) rfl
theorem q172 : (Jvm.Cond.fieldLink "GasRowsModel" (16 : Nat) "GasRowsModel" "amounts" "[D") ∈ lw_all := lw_g (lw_at lw_m1 167 rfl) rfl
theorem q173 : (Jvm.Cond.lays "GasRowsModel" "GasRowsModel" "rows" "I") ∈ lw_all := lw_g (lw_at lw_m1 168 rfl) rfl
theorem q174 : (Jvm.Cond.soleField "GasRowsModel" "rows") ∈ lw_all := lw_g (lw_at lw_m1 169 rfl) rfl
theorem q175 : (Jvm.Cond.laysFinal "GasRowsModel" "GasRowsModel" "warmths" "[D") ∈ lw_all := lw_g (lw_at lw_m1 170 rfl) rfl
theorem q176 : (Jvm.Cond.soleField "GasRowsModel" "warmths") ∈ lw_all := lw_g (lw_at lw_m1 171 rfl) rfl
theorem q177 : (Jvm.Cond.laysFinal "GasRowsModel" "GasRowsModel" "bars" "[D") ∈ lw_all := lw_g (lw_at lw_m1 172 rfl) rfl
theorem q178 : (Jvm.Cond.soleField "GasRowsModel" "bars") ∈ lw_all := lw_g (lw_at lw_m1 173 rfl) rfl
theorem q179 : (Jvm.Cond.laysFinal "GasRowsModel" "GasRowsModel" "amounts" "[D") ∈ lw_all := lw_g (lw_at lw_m1 174 rfl) rfl
theorem q180 : (Jvm.Cond.soleField "GasRowsModel" "amounts") ∈ lw_all := lw_g (lw_at lw_m1 175 rfl) rfl
theorem q181 : (Jvm.Cond.superclass "GasRowsModel" "java/lang/Object") ∈ lw_all := lw_g (lw_at lw_m1 176 rfl) rfl
theorem q184 : (Jvm.Cond.instanceMethod ({ cls := "GasRowsModel", name := "row", desc := "(DDD)Z" } : Jvm.MethodName)) ∈ lw_all := lw_g (lw_at lw_m1 179 rfl) rfl
theorem q185 : (Jvm.Cond.selects "GasRowsModel" ({ cls := "GasRowsModel", name := "row", desc := "(DDD)Z" } : Jvm.MethodName) ({ cls := "GasRowsModel", name := "row", desc := "(DDD)Z" } : Jvm.MethodName)) ∈ lw_all := lw_g (lw_at lw_m1 180 rfl) rfl
theorem q186 : (Jvm.Cond.code ({ cls := "GasRowsModel", name := "row", desc := "(DDD)Z" } : Jvm.MethodName) prog_5_method_4_code (9 : Nat) (Option.some Jvm.ClassFile.FieldType.boolean)) ∈ lw_all := lw_g (lw_at lw_m1 181 rfl) rfl
theorem q187 : (Jvm.Cond.methodLink "GasRowsModel" (29 : Nat) ({ cls := "GasRowsModel", name := "isPlace", desc := "(DD)Z" } : Jvm.MethodName)) ∈ lw_all := lw_g (lw_at lw_m1 182 rfl) rfl
theorem q188 : (Jvm.Cond.static ({ cls := "GasRowsModel", name := "isPlace", desc := "(DD)Z" } : Jvm.MethodName)) ∈ lw_all := lw_g (lw_at lw_m1 183 rfl) rfl
theorem q189 : (Jvm.Cond.code ({ cls := "GasRowsModel", name := "isPlace", desc := "(DD)Z" } : Jvm.MethodName) prog_5_method_3_code (4 : Nat) (Option.some Jvm.ClassFile.FieldType.boolean)) ∈ lw_all := lw_g (lw_at lw_m1 184 rfl) rfl
theorem q190 : (Jvm.Cond.constantDouble "GasRowsModel" (19 : Nat) (13845191154443747328 : UInt64)) ∈ lw_all := lw_g (lw_at lw_m1 185 rfl) rfl
theorem q191 : (Jvm.Cond.constantDouble "GasRowsModel" (21 : Nat) (4636737291354636288 : UInt64)) ∈ lw_all := lw_g (lw_at lw_m1 186 rfl) rfl
theorem q192 : (Jvm.Cond.methodLink "GasRowsModel" (23 : Nat) ({ cls := "GasRowsModel", name := "isIn", desc := "(DDD)Z" } : Jvm.MethodName)) ∈ lw_all := lw_g (lw_at lw_m1 187 rfl) rfl
theorem q193 : (Jvm.Cond.static ({ cls := "GasRowsModel", name := "isIn", desc := "(DDD)Z" } : Jvm.MethodName)) ∈ lw_all := lw_g (lw_at lw_m1 188 rfl) rfl
theorem q194 : (Jvm.Cond.code ({ cls := "GasRowsModel", name := "isIn", desc := "(DDD)Z" } : Jvm.MethodName) prog_5_method_2_code (6 : Nat) (Option.some Jvm.ClassFile.FieldType.boolean)) ∈ lw_all := lw_g (lw_at lw_m1 189 rfl) rfl
theorem q195 : (Jvm.Cond.constantDouble "GasRowsModel" (27 : Nat) (4626322717216342016 : UInt64)) ∈ lw_all := lw_g (lw_at lw_m1 190 rfl) rfl
theorem q197 : (Jvm.Cond.instanceMethod ({ cls := "GasRowsModel", name := "balance", desc := "(DD)D" } : Jvm.MethodName)) ∈ lw_all := lw_g (lw_at lw_m1 192 rfl) rfl
theorem q198 : (Jvm.Cond.selects "GasRowsModel" ({ cls := "GasRowsModel", name := "balance", desc := "(DD)D" } : Jvm.MethodName) ({ cls := "GasRowsModel", name := "balance", desc := "(DD)D" } : Jvm.MethodName)) ∈ lw_all := lw_g (lw_at lw_m1 193 rfl) rfl
theorem q199 : (Jvm.Cond.code ({ cls := "GasRowsModel", name := "balance", desc := "(DD)D" } : Jvm.MethodName) prog_5_method_7_code (5 : Nat) (Option.some Jvm.ClassFile.FieldType.double)) ∈ lw_all := lw_g (lw_at lw_m1 194 rfl) rfl
theorem q200 : (Jvm.Cond.methodLink "GasRowsModel" (41 : Nat) ({ cls := "GasRowsModel", name := "reckon", desc := "(DD)D" } : Jvm.MethodName)) ∈ lw_all := lw_g (lw_at lw_m1 195 rfl) rfl
theorem q201 : (Jvm.Cond.privateMethod ({ cls := "GasRowsModel", name := "reckon", desc := "(DD)D" } : Jvm.MethodName)) ∈ lw_tbl := lw_at lw_m1 196 rfl
theorem q202 : (Jvm.Cond.instanceMethod ({ cls := "GasRowsModel", name := "reckon", desc := "(DD)D" } : Jvm.MethodName)) ∈ lw_all := lw_g (lw_at lw_m1 197 rfl) rfl
theorem q203 : (Jvm.Cond.code ({ cls := "GasRowsModel", name := "reckon", desc := "(DD)D" } : Jvm.MethodName) prog_5_method_6_code (11 : Nat) (Option.some Jvm.ClassFile.FieldType.double)) ∈ lw_all := lw_g (lw_at lw_m1 198 rfl) rfl
theorem q204 : (Jvm.Cond.methodLink "GasRowsModel" (37 : Nat) ({ cls := "GasRowsModel", name := "line", desc := "(DD)D" } : Jvm.MethodName)) ∈ lw_all := lw_g (lw_at lw_m1 199 rfl) rfl
theorem q205 : (Jvm.Cond.privateMethod ({ cls := "GasRowsModel", name := "line", desc := "(DD)D" } : Jvm.MethodName)) ∈ lw_tbl := lw_at lw_m1 200 rfl
theorem q206 : (Jvm.Cond.instanceMethod ({ cls := "GasRowsModel", name := "line", desc := "(DD)D" } : Jvm.MethodName)) ∈ lw_all := lw_g (lw_at lw_m1 201 rfl) rfl
theorem q207 : (Jvm.Cond.code ({ cls := "GasRowsModel", name := "line", desc := "(DD)D" } : Jvm.MethodName) prog_5_method_5_code (8 : Nat) (Option.some Jvm.ClassFile.FieldType.double)) ∈ lw_all := lw_g (lw_at lw_m1 202 rfl) rfl
theorem q208 : (Jvm.Cond.constantDouble "GasRowsModel" (44 : Nat) (13830554455654793216 : UInt64)) ∈ lw_all := lw_g (lw_at lw_m1 203 rfl) rfl
theorem q210 : (Jvm.Cond.instanceMethod ({ cls := "GasRowsModel", name := "after", desc := "(DDDI)D" } : Jvm.MethodName)) ∈ lw_all := lw_g (lw_at lw_m1 205 rfl) rfl
theorem q211 : (Jvm.Cond.selects "GasRowsModel" ({ cls := "GasRowsModel", name := "after", desc := "(DDDI)D" } : Jvm.MethodName) ({ cls := "GasRowsModel", name := "after", desc := "(DDDI)D" } : Jvm.MethodName)) ∈ lw_all := lw_g (lw_at lw_m1 206 rfl) rfl
theorem q212 : (Jvm.Cond.code ({ cls := "GasRowsModel", name := "after", desc := "(DDDI)D" } : Jvm.MethodName) prog_5_method_8_code (13 : Nat) (Option.some Jvm.ClassFile.FieldType.double)) ∈ lw_all := lw_g (lw_at lw_m1 207 rfl) rfl
theorem q213 : (Jvm.Cond.constant "GasRowsModel" (46 : Nat) (100000 : Int32)) ∈ lw_all := lw_g (lw_at lw_m1 208 rfl) rfl
theorem q214 : (Jvm.Cond.constantDouble "GasRowsModel" (47 : Nat) (4562146422526312448 : UInt64)) ∈ lw_all := lw_g (lw_at lw_m1 209 rfl) rfl
theorem q216 : (Jvm.Cond.instanceMethod ({ cls := "GasRowsModel", name := "fill", desc := "(DD)D" } : Jvm.MethodName)) ∈ lw_all := lw_g (lw_at lw_m1 211 rfl) rfl
theorem q217 : (Jvm.Cond.selects "GasRowsModel" ({ cls := "GasRowsModel", name := "fill", desc := "(DD)D" } : Jvm.MethodName) ({ cls := "GasRowsModel", name := "fill", desc := "(DD)D" } : Jvm.MethodName)) ∈ lw_all := lw_g (lw_at lw_m1 212 rfl) rfl
theorem q218 : (Jvm.Cond.code ({ cls := "GasRowsModel", name := "fill", desc := "(DD)D" } : Jvm.MethodName) prog_5_method_9_code (5 : Nat) (Option.some Jvm.ClassFile.FieldType.double)) ∈ lw_all := lw_g (lw_at lw_m1 213 rfl) rfl
theorem q219 : (Jvm.Cond.constantDouble "GasRowsModel" (49 : Nat) (4652007308841189376 : UInt64)) ∈ lw_all := lw_g (lw_at lw_m1 214 rfl) rfl
theorem q220 : (Jvm.Cond.constantDouble "GasRowsModel" (51 : Nat) (4580160821035794432 : UInt64)) ∈ lw_all := lw_g (lw_at lw_m1 215 rfl) rfl
theorem q222 : (Jvm.Cond.instanceMethod ({ cls := "GasRowsModel", name := "bunging", desc := "(JJI)J" } : Jvm.MethodName)) ∈ lw_all := lw_g (lw_at lw_m1 217 rfl) rfl
theorem q223 : (Jvm.Cond.selects "GasRowsModel" ({ cls := "GasRowsModel", name := "bunging", desc := "(JJI)J" } : Jvm.MethodName) ({ cls := "GasRowsModel", name := "bunging", desc := "(JJI)J" } : Jvm.MethodName)) ∈ lw_all := lw_g (lw_at lw_m1 218 rfl) rfl
theorem q224 : (Jvm.Cond.code ({ cls := "GasRowsModel", name := "bunging", desc := "(JJI)J" } : Jvm.MethodName) prog_5_method_12_code (6 : Nat) (Option.some Jvm.ClassFile.FieldType.long)) ∈ lw_all := lw_g (lw_at lw_m1 219 rfl) rfl
theorem q225 : (Jvm.Cond.methodLink "GasRowsModel" (55 : Nat) ({ cls := "GasRowsModel", name := "isPart", desc := "(JJ)Z" } : Jvm.MethodName)) ∈ lw_all := lw_g (lw_at lw_m1 220 rfl) rfl
theorem q226 : (Jvm.Cond.static ({ cls := "GasRowsModel", name := "isPart", desc := "(JJ)Z" } : Jvm.MethodName)) ∈ lw_all := lw_g (lw_at lw_m1 221 rfl) rfl
theorem q227 : (Jvm.Cond.code ({ cls := "GasRowsModel", name := "isPart", desc := "(JJ)Z" } : Jvm.MethodName) prog_5_method_10_code (4 : Nat) (Option.some Jvm.ClassFile.FieldType.boolean)) ∈ lw_all := lw_g (lw_at lw_m1 222 rfl) rfl
theorem q228 : (Jvm.Cond.constantLong "GasRowsModel" (53 : Nat) (1000000 : Int64)) ∈ lw_all := lw_g (lw_at lw_m1 223 rfl) rfl
theorem q229 : (Jvm.Cond.constantLong "GasRowsModel" (59 : Nat) (-1 : Int64)) ∈ lw_all := lw_g (lw_at lw_m1 224 rfl) rfl
theorem q230 : (Jvm.Cond.constantLong "GasRowsModel" (61 : Nat) (1029 : Int64)) ∈ lw_all := lw_g (lw_at lw_m1 225 rfl) rfl
theorem q231 : (Jvm.Cond.constantLong "GasRowsModel" (63 : Nat) (2143 : Int64)) ∈ lw_all := lw_g (lw_at lw_m1 226 rfl) rfl
theorem q232 : (Jvm.Cond.methodLink "GasRowsModel" (65 : Nat) ({ cls := "GasRowsModel", name := "reduced", desc := "(JJI)J" } : Jvm.MethodName)) ∈ lw_all := lw_g (lw_at lw_m1 227 rfl) rfl
theorem q233 : (Jvm.Cond.static ({ cls := "GasRowsModel", name := "reduced", desc := "(JJI)J" } : Jvm.MethodName)) ∈ lw_all := lw_g (lw_at lw_m1 228 rfl) rfl
theorem q234 : (Jvm.Cond.code ({ cls := "GasRowsModel", name := "reduced", desc := "(JJI)J" } : Jvm.MethodName) prog_5_method_11_code (11 : Nat) (Option.some Jvm.ClassFile.FieldType.long)) ∈ lw_all := lw_g (lw_at lw_m1 229 rfl) rfl
theorem q236 : (Jvm.Cond.instanceMethod ({ cls := "GasRowsModel", name := "sugar", desc := "(JJI)J" } : Jvm.MethodName)) ∈ lw_all := lw_g (lw_at lw_m1 231 rfl) rfl
theorem q237 : (Jvm.Cond.selects "GasRowsModel" ({ cls := "GasRowsModel", name := "sugar", desc := "(JJI)J" } : Jvm.MethodName) ({ cls := "GasRowsModel", name := "sugar", desc := "(JJI)J" } : Jvm.MethodName)) ∈ lw_all := lw_g (lw_at lw_m1 232 rfl) rfl
theorem q238 : (Jvm.Cond.code ({ cls := "GasRowsModel", name := "sugar", desc := "(JJI)J" } : Jvm.MethodName) prog_5_method_13_code (10 : Nat) (Option.some Jvm.ClassFile.FieldType.long)) ∈ lw_all := lw_g (lw_at lw_m1 233 rfl) rfl
theorem q239 : (Jvm.Cond.constantLong "GasRowsModel" (69 : Nat) (2057 : Int64)) ∈ lw_all := lw_g (lw_at lw_m1 234 rfl) rfl
theorem q240 : (Jvm.Cond.constantLong "GasRowsModel" (71 : Nat) (1000 : Int64)) ∈ lw_all := lw_g (lw_at lw_m1 235 rfl) rfl
theorem q242 : (Jvm.Cond.instanceMethod ({ cls := "GasRowsModel", name := "burst", desc := "(DDD)I" } : Jvm.MethodName)) ∈ lw_all := lw_g (lw_at lw_m1 237 rfl) rfl
theorem q243 : (Jvm.Cond.selects "GasRowsModel" ({ cls := "GasRowsModel", name := "burst", desc := "(DDD)I" } : Jvm.MethodName) ({ cls := "GasRowsModel", name := "burst", desc := "(DDD)I" } : Jvm.MethodName)) ∈ lw_all := lw_g (lw_at lw_m1 238 rfl) rfl
theorem q244 : (Jvm.Cond.code ({ cls := "GasRowsModel", name := "burst", desc := "(DDD)I" } : Jvm.MethodName) prog_5_method_14_code (8 : Nat) (Option.some Jvm.ClassFile.FieldType.int)) ∈ lw_all := lw_g (lw_at lw_m1 239 rfl) rfl
theorem q245 : (Jvm.Cond.constantDouble "GasRowsModel" (73 : Nat) (4593671619917905920 : UInt64)) ∈ lw_all := lw_g (lw_at lw_m2 0 rfl) rfl
theorem q247 : (Jvm.Cond.instanceMethod ({ cls := "GasRowsModel", name := "foam", desc := "(ID)D" } : Jvm.MethodName)) ∈ lw_all := lw_g (lw_at lw_m2 2 rfl) rfl
theorem q248 : (Jvm.Cond.selects "GasRowsModel" ({ cls := "GasRowsModel", name := "foam", desc := "(ID)D" } : Jvm.MethodName) ({ cls := "GasRowsModel", name := "foam", desc := "(ID)D" } : Jvm.MethodName)) ∈ lw_all := lw_g (lw_at lw_m2 3 rfl) rfl
theorem q249 : (Jvm.Cond.code ({ cls := "GasRowsModel", name := "foam", desc := "(ID)D" } : Jvm.MethodName) prog_5_method_15_code (9 : Nat) (Option.some Jvm.ClassFile.FieldType.double)) ∈ lw_all := lw_g (lw_at lw_m2 4 rfl) rfl
theorem q250 : (Jvm.Cond.constantDouble "GasRowsModel" (75 : Nat) (4571153621781053440 : UInt64)) ∈ lw_all := lw_g (lw_at lw_m2 5 rfl) rfl
theorem q251 : (Jvm.Cond.constantDouble "GasRowsModel" (77 : Nat) (4566650022153682944 : UInt64)) ∈ lw_all := lw_g (lw_at lw_m2 6 rfl) rfl
theorem q253 : (Jvm.Cond.instanceMethod ({ cls := "GasRowsModel", name := "mixed", desc := "(DDDI)D" } : Jvm.MethodName)) ∈ lw_all := lw_g (lw_at lw_m2 8 rfl) rfl
theorem q254 : (Jvm.Cond.selects "GasRowsModel" ({ cls := "GasRowsModel", name := "mixed", desc := "(DDDI)D" } : Jvm.MethodName) ({ cls := "GasRowsModel", name := "mixed", desc := "(DDDI)D" } : Jvm.MethodName)) ∈ lw_all := lw_g (lw_at lw_m2 9 rfl) rfl
theorem q255 : (Jvm.Cond.code ({ cls := "GasRowsModel", name := "mixed", desc := "(DDDI)D" } : Jvm.MethodName) prog_5_method_16_code (10 : Nat) (Option.some Jvm.ClassFile.FieldType.double)) ∈ lw_all := lw_g (lw_at lw_m2 10 rfl) rfl
theorem q256 : (Jvm.Cond.constantDouble "GasRowsModel" (79 : Nat) (4581005245965926400 : UInt64)) ∈ lw_all := lw_g (lw_at lw_m2 11 rfl) rfl
theorem q257 : (Jvm.Cond.constantDouble "GasRowsModel" (81 : Nat) (4602678819172646912 : UInt64)) ∈ lw_all := lw_g (lw_at lw_m2 12 rfl) rfl
theorem in_X1 : ∀ w ∈ wsX10, w ∈ lw_all := lw_in wsX10 [173, 175, 177, 179] (by decide +kernel) (by decide +kernel)
end
section
/-! GasRows$Row -/
set_option maxRecDepth 100000
def RX2 : String := "GasRows$Row"
def TX2 : u_T := fun k => match k with
  | 0 => ("GasRows$Row", "bar", "D", true)
  | 1 => ("GasRows$Row", "grams", "D", false)
  | _ => ("GasRows$Row", "next", "LGasRows$Row;", false)
def tyX2 : Nat → FieldType := fun k => match k with
  | 0 => .double
  | 1 => .double
  | _ => .object "GasRows$Row"
abbrev wsX20 : List Cond := u_ws RX2 TX2 3
theorem nmX2 : ∀ a, a < 3 → ∀ b, b < 3 → a ≠ b → (TX2 a).2.1 ≠ (TX2 b).2.1 := by decide +kernel
theorem tyX2_ok : ∀ k, k < 3 → parseFieldDescriptor (TX2 k).2.2.1 = some (tyX2 k) := by decide +kernel
abbrev cX2_init : ByteArray := prog_3_method_1_code
def yX2_init : MethodName := ⟨RX2, "<init>", "(DDLGasRows$Row;)V"⟩
theorem dX2_init_0 : decode cX2_init 0 = .ok (.aload_n 0, 1) := by decide +kernel
theorem dX2_init_1 : decode cX2_init 1 = .ok (.invokespecial 1, 3) := by decide +kernel
theorem dX2_init_4 : decode cX2_init 4 = .ok (.aload_n 0, 1) := by decide +kernel
theorem dX2_init_5 : decode cX2_init 5 = .ok (.dload_n 1, 1) := by decide +kernel
theorem dX2_init_6 : decode cX2_init 6 = .ok (.putfield 7, 3) := by decide +kernel
theorem dX2_init_9 : decode cX2_init 9 = .ok (.aload_n 0, 1) := by decide +kernel
theorem dX2_init_10 : decode cX2_init 10 = .ok (.dload_n 3, 1) := by decide +kernel
theorem dX2_init_11 : decode cX2_init 11 = .ok (.putfield 13, 3) := by decide +kernel
theorem dX2_init_14 : decode cX2_init 14 = .ok (.aload_n 0, 1) := by decide +kernel
theorem dX2_init_15 : decode cX2_init 15 = .ok (.aload 5, 2) := by decide +kernel
theorem dX2_init_17 : decode cX2_init 17 = .ok (.putfield 16, 3) := by decide +kernel
theorem dX2_init_20 : decode cX2_init 20 = .ok (.return_, 1) := by decide +kernel
theorem q8 : (Jvm.Cond.initialized "GasRows$Row") ∈ lw_all := lw_g (lw_at lw_m1 3 rfl) rfl
theorem q59 : (Jvm.Cond.instantiable "GasRows$Row" (3 : Nat)) ∈ lw_all := lw_g (lw_at lw_m1 54 rfl) rfl
theorem q61 : (Jvm.Cond.instanceMethod ({ cls := "GasRows$Row", name := "<init>", desc := "(DDLGasRows$Row;)V" } : Jvm.MethodName)) ∈ lw_all := lw_g (lw_at lw_m1 56 rfl) rfl
theorem q62 : (Jvm.Cond.code ({ cls := "GasRows$Row", name := "<init>", desc := "(DDLGasRows$Row;)V" } : Jvm.MethodName) prog_3_method_1_code (6 : Nat) (Option.none : Option Jvm.ClassFile.FieldType)) ∈ lw_all := lw_g (lw_at lw_m1 57 rfl) rfl
theorem q63 : (Jvm.Cond.methodLink "GasRows$Row" (1 : Nat) ({ cls := "java/lang/Object", name := "<init>", desc := "()V" } : Jvm.MethodName)) ∈ lw_all := lw_g (lw_at lw_m1 58 rfl) rfl
theorem q64 : (Jvm.Cond.fieldLink "GasRows$Row" (7 : Nat) "GasRows$Row" "bar" "D") ∈ lw_all := lw_g (lw_at lw_m1 59 rfl) rfl
theorem q66 : (Jvm.Cond.fieldLink "GasRows$Row" (13 : Nat) "GasRows$Row" "grams" "D") ∈ lw_all := lw_g (lw_at lw_m1 61 rfl) rfl
theorem q68 : (Jvm.Cond.fieldLink "GasRows$Row" (16 : Nat) "GasRows$Row" "next" "LGasRows$Row;") ∈ lw_all := lw_g (lw_at lw_m1 63 rfl) rfl
theorem q70 : (Jvm.Cond.laysFinal "GasRows$Row" "GasRows$Row" "bar" "D") ∈ lw_all := lw_g (lw_at lw_m1 65 rfl) rfl
theorem q71 : (Jvm.Cond.soleField "GasRows$Row" "bar") ∈ lw_all := lw_g (lw_at lw_m1 66 rfl) rfl
theorem q72 : (Jvm.Cond.lays "GasRows$Row" "GasRows$Row" "grams" "D") ∈ lw_all := lw_g (lw_at lw_m1 67 rfl) rfl
theorem q73 : (Jvm.Cond.soleField "GasRows$Row" "grams") ∈ lw_all := lw_g (lw_at lw_m1 68 rfl) rfl
theorem q74 : (Jvm.Cond.lays "GasRows$Row" "GasRows$Row" "next" "LGasRows$Row;") ∈ lw_all := lw_g (lw_at lw_m1 69 rfl) rfl
theorem q75 : (Jvm.Cond.soleField "GasRows$Row" "next") ∈ lw_all := lw_g (lw_at lw_m1 70 rfl) rfl
theorem q76 : (Jvm.Cond.superclass "GasRows$Row" "java/lang/Object") ∈ lw_all := lw_g (lw_at lw_m1 71 rfl) rfl
theorem in_X2 : ∀ w ∈ wsX20, w ∈ lw_all := lw_in wsX20 [70, 72, 74] (by decide +kernel) (by decide +kernel)
/-! GasRows$Line -/
set_option maxRecDepth 100000
def RX3 : String := "GasRows$Line"
def TX3 : u_T := fun k => match k with
  | 0 => ("GasRows$Line", "degrees", "D", true)
  | 1 => ("GasRows$Line", "first", "LGasRows$Row;", false)
  | _ => ("GasRows$Line", "next", "LGasRows$Line;", false)
def tyX3 : Nat → FieldType := fun k => match k with
  | 0 => .double
  | 1 => .object "GasRows$Row"
  | _ => .object "GasRows$Line"
abbrev wsX30 : List Cond := u_ws RX3 TX3 3
theorem nmX3 : ∀ a, a < 3 → ∀ b, b < 3 → a ≠ b → (TX3 a).2.1 ≠ (TX3 b).2.1 := by decide +kernel
theorem tyX3_ok : ∀ k, k < 3 → parseFieldDescriptor (TX3 k).2.2.1 = some (tyX3 k) := by decide +kernel
abbrev cX3_has : ByteArray := prog_2_method_4_code
def yX3_has : MethodName := ⟨RX3, "has", "(D)Z"⟩
theorem dX3_has_0 : decode cX3_has 0 = .ok (.aload_n 0, 1) := by decide +kernel
theorem dX3_has_1 : decode cX3_has 1 = .ok (.dload_n 1, 1) := by decide +kernel
theorem dX3_has_2 : decode cX3_has 2 = .ok (.invokevirtual 28, 3) := by decide +kernel
theorem dX3_has_5 : decode cX3_has 5 = .ok (.astore_n 3, 1) := by decide +kernel
theorem dX3_has_6 : decode cX3_has 6 = .ok (.aload_n 3, 1) := by decide +kernel
theorem dX3_has_7 : decode cX3_has 7 = .ok (.ifnull 16, 3) := by decide +kernel
theorem dX3_has_10 : decode cX3_has 10 = .ok (.aload_n 3, 1) := by decide +kernel
theorem dX3_has_11 : decode cX3_has 11 = .ok (.getfield 21, 3) := by decide +kernel
theorem dX3_has_14 : decode cX3_has 14 = .ok (.dload_n 1, 1) := by decide +kernel
theorem dX3_has_15 : decode cX3_has 15 = .ok (.dcmp .l, 1) := by decide +kernel
theorem dX3_has_16 : decode cX3_has 16 = .ok (.ifCond .ne 7, 3) := by decide +kernel
theorem dX3_has_19 : decode cX3_has 19 = .ok (.iconst 1, 1) := by decide +kernel
theorem dX3_has_20 : decode cX3_has 20 = .ok (.goto 4, 3) := by decide +kernel
theorem dX3_has_23 : decode cX3_has 23 = .ok (.iconst 0, 1) := by decide +kernel
theorem dX3_has_24 : decode cX3_has 24 = .ok (.ireturn, 1) := by decide +kernel
abbrev cX3_before : ByteArray := prog_2_method_2_code
def yX3_before : MethodName := ⟨RX3, "before", "(D)LGasRows$Row;"⟩
theorem dX3_before_0 : decode cX3_before 0 = .ok (.aconst_null, 1) := by decide +kernel
theorem dX3_before_1 : decode cX3_before 1 = .ok (.astore_n 3, 1) := by decide +kernel
theorem dX3_before_2 : decode cX3_before 2 = .ok (.aload_n 0, 1) := by decide +kernel
theorem dX3_before_3 : decode cX3_before 3 = .ok (.getfield 17, 3) := by decide +kernel
theorem dX3_before_6 : decode cX3_before 6 = .ok (.astore 4, 2) := by decide +kernel
theorem dX3_before_8 : decode cX3_before 8 = .ok (.aload 4, 2) := by decide +kernel
theorem dX3_before_10 : decode cX3_before 10 = .ok (.ifnull 26, 3) := by decide +kernel
theorem dX3_before_13 : decode cX3_before 13 = .ok (.aload 4, 2) := by decide +kernel
theorem dX3_before_15 : decode cX3_before 15 = .ok (.getfield 21, 3) := by decide +kernel
theorem dX3_before_18 : decode cX3_before 18 = .ok (.dload_n 1, 1) := by decide +kernel
theorem dX3_before_19 : decode cX3_before 19 = .ok (.dcmp .g, 1) := by decide +kernel
theorem dX3_before_20 : decode cX3_before 20 = .ok (.ifCond .gt 16, 3) := by decide +kernel
theorem dX3_before_23 : decode cX3_before 23 = .ok (.aload 4, 2) := by decide +kernel
theorem dX3_before_25 : decode cX3_before 25 = .ok (.astore_n 3, 1) := by decide +kernel
theorem dX3_before_26 : decode cX3_before 26 = .ok (.aload 4, 2) := by decide +kernel
theorem dX3_before_28 : decode cX3_before 28 = .ok (.getfield 26, 3) := by decide +kernel
theorem dX3_before_31 : decode cX3_before 31 = .ok (.astore 4, 2) := by decide +kernel
theorem dX3_before_33 : decode cX3_before 33 = .ok (.goto (-25), 3) := by decide +kernel
theorem dX3_before_36 : decode cX3_before 36 = .ok (.aload_n 3, 1) := by decide +kernel
theorem dX3_before_37 : decode cX3_before 37 = .ok (.areturn, 1) := by decide +kernel
abbrev cX3_put : ByteArray := prog_2_method_5_code
def yX3_put : MethodName := ⟨RX3, "put", "(DD)V"⟩
theorem dX3_put_0 : decode cX3_put 0 = .ok (.aload_n 0, 1) := by decide +kernel
theorem dX3_put_1 : decode cX3_put 1 = .ok (.dload_n 1, 1) := by decide +kernel
theorem dX3_put_2 : decode cX3_put 2 = .ok (.invokevirtual 28, 3) := by decide +kernel
theorem dX3_put_5 : decode cX3_put 5 = .ok (.astore 5, 2) := by decide +kernel
theorem dX3_put_7 : decode cX3_put 7 = .ok (.aload 5, 2) := by decide +kernel
theorem dX3_put_9 : decode cX3_put 9 = .ok (.ifnull 22, 3) := by decide +kernel
theorem dX3_put_12 : decode cX3_put 12 = .ok (.aload 5, 2) := by decide +kernel
theorem dX3_put_14 : decode cX3_put 14 = .ok (.getfield 21, 3) := by decide +kernel
theorem dX3_put_17 : decode cX3_put 17 = .ok (.dload_n 1, 1) := by decide +kernel
theorem dX3_put_18 : decode cX3_put 18 = .ok (.dcmp .l, 1) := by decide +kernel
theorem dX3_put_19 : decode cX3_put 19 = .ok (.ifCond .ne 12, 3) := by decide +kernel
theorem dX3_put_22 : decode cX3_put 22 = .ok (.aload 5, 2) := by decide +kernel
theorem dX3_put_24 : decode cX3_put 24 = .ok (.dload_n 3, 1) := by decide +kernel
theorem dX3_put_25 : decode cX3_put 25 = .ok (.putfield 32, 3) := by decide +kernel
theorem dX3_put_28 : decode cX3_put 28 = .ok (.goto 47, 3) := by decide +kernel
theorem dX3_put_31 : decode cX3_put 31 = .ok (.aload 5, 2) := by decide +kernel
theorem dX3_put_33 : decode cX3_put 33 = .ok (.ifnonnull 23, 3) := by decide +kernel
theorem dX3_put_36 : decode cX3_put 36 = .ok (.aload_n 0, 1) := by decide +kernel
theorem dX3_put_37 : decode cX3_put 37 = .ok (.new 22, 3) := by decide +kernel
theorem dX3_put_40 : decode cX3_put 40 = .ok (.dup, 1) := by decide +kernel
theorem dX3_put_41 : decode cX3_put 41 = .ok (.dload_n 1, 1) := by decide +kernel
theorem dX3_put_42 : decode cX3_put 42 = .ok (.dload_n 3, 1) := by decide +kernel
theorem dX3_put_43 : decode cX3_put 43 = .ok (.aload_n 0, 1) := by decide +kernel
theorem dX3_put_44 : decode cX3_put 44 = .ok (.getfield 17, 3) := by decide +kernel
theorem dX3_put_47 : decode cX3_put 47 = .ok (.invokespecial 41, 3) := by decide +kernel
theorem dX3_put_50 : decode cX3_put 50 = .ok (.putfield 17, 3) := by decide +kernel
theorem dX3_put_53 : decode cX3_put 53 = .ok (.goto 22, 3) := by decide +kernel
theorem dX3_put_56 : decode cX3_put 56 = .ok (.aload 5, 2) := by decide +kernel
theorem dX3_put_58 : decode cX3_put 58 = .ok (.new 22, 3) := by decide +kernel
theorem dX3_put_61 : decode cX3_put 61 = .ok (.dup, 1) := by decide +kernel
theorem dX3_put_62 : decode cX3_put 62 = .ok (.dload_n 1, 1) := by decide +kernel
theorem dX3_put_63 : decode cX3_put 63 = .ok (.dload_n 3, 1) := by decide +kernel
theorem dX3_put_64 : decode cX3_put 64 = .ok (.aload 5, 2) := by decide +kernel
theorem dX3_put_66 : decode cX3_put 66 = .ok (.getfield 26, 3) := by decide +kernel
theorem dX3_put_69 : decode cX3_put 69 = .ok (.invokespecial 41, 3) := by decide +kernel
theorem dX3_put_72 : decode cX3_put 72 = .ok (.putfield 26, 3) := by decide +kernel
theorem dX3_put_75 : decode cX3_put 75 = .ok (.return_, 1) := by decide +kernel
abbrev cX3_init : ByteArray := prog_2_method_1_code
def yX3_init : MethodName := ⟨RX3, "<init>", "(DLGasRows$Line;)V"⟩
theorem dX3_init_0 : decode cX3_init 0 = .ok (.aload_n 0, 1) := by decide +kernel
theorem dX3_init_1 : decode cX3_init 1 = .ok (.invokespecial 1, 3) := by decide +kernel
theorem dX3_init_4 : decode cX3_init 4 = .ok (.aload_n 0, 1) := by decide +kernel
theorem dX3_init_5 : decode cX3_init 5 = .ok (.dload_n 1, 1) := by decide +kernel
theorem dX3_init_6 : decode cX3_init 6 = .ok (.putfield 7, 3) := by decide +kernel
theorem dX3_init_9 : decode cX3_init 9 = .ok (.aload_n 0, 1) := by decide +kernel
theorem dX3_init_10 : decode cX3_init 10 = .ok (.aload_n 3, 1) := by decide +kernel
theorem dX3_init_11 : decode cX3_init 11 = .ok (.putfield 13, 3) := by decide +kernel
theorem dX3_init_14 : decode cX3_init 14 = .ok (.return_, 1) := by decide +kernel
abbrev cX3_at : ByteArray := prog_2_method_3_code
def yX3_at : MethodName := ⟨RX3, "at", "(D)D"⟩
theorem dX3_at_0 : decode cX3_at 0 = .ok (.aload_n 0, 1) := by decide +kernel
theorem dX3_at_1 : decode cX3_at 1 = .ok (.dload_n 1, 1) := by decide +kernel
theorem dX3_at_2 : decode cX3_at 2 = .ok (.invokevirtual 28, 3) := by decide +kernel
theorem dX3_at_5 : decode cX3_at 5 = .ok (.astore_n 3, 1) := by decide +kernel
theorem dX3_at_6 : decode cX3_at 6 = .ok (.aload_n 3, 1) := by decide +kernel
theorem dX3_at_7 : decode cX3_at 7 = .ok (.ifnonnull 11, 3) := by decide +kernel
theorem dX3_at_10 : decode cX3_at 10 = .ok (.aload_n 0, 1) := by decide +kernel
theorem dX3_at_11 : decode cX3_at 11 = .ok (.getfield 17, 3) := by decide +kernel
theorem dX3_at_14 : decode cX3_at 14 = .ok (.getfield 32, 3) := by decide +kernel
theorem dX3_at_17 : decode cX3_at 17 = .ok (.dreturn, 1) := by decide +kernel
theorem dX3_at_18 : decode cX3_at 18 = .ok (.aload_n 3, 1) := by decide +kernel
theorem dX3_at_19 : decode cX3_at 19 = .ok (.getfield 26, 3) := by decide +kernel
theorem dX3_at_22 : decode cX3_at 22 = .ok (.astore 4, 2) := by decide +kernel
theorem dX3_at_24 : decode cX3_at 24 = .ok (.aload 4, 2) := by decide +kernel
theorem dX3_at_26 : decode cX3_at 26 = .ok (.ifnonnull 10, 3) := by decide +kernel
theorem dX3_at_29 : decode cX3_at 29 = .ok (.aload_n 3, 1) := by decide +kernel
theorem dX3_at_30 : decode cX3_at 30 = .ok (.getfield 32, 3) := by decide +kernel
theorem dX3_at_33 : decode cX3_at 33 = .ok (.goto 25, 3) := by decide +kernel
theorem dX3_at_36 : decode cX3_at 36 = .ok (.aload_n 3, 1) := by decide +kernel
theorem dX3_at_37 : decode cX3_at 37 = .ok (.getfield 21, 3) := by decide +kernel
theorem dX3_at_40 : decode cX3_at 40 = .ok (.aload_n 3, 1) := by decide +kernel
theorem dX3_at_41 : decode cX3_at 41 = .ok (.getfield 32, 3) := by decide +kernel
theorem dX3_at_44 : decode cX3_at 44 = .ok (.aload 4, 2) := by decide +kernel
theorem dX3_at_46 : decode cX3_at 46 = .ok (.getfield 21, 3) := by decide +kernel
theorem dX3_at_49 : decode cX3_at 49 = .ok (.aload 4, 2) := by decide +kernel
theorem dX3_at_51 : decode cX3_at 51 = .ok (.getfield 32, 3) := by decide +kernel
theorem dX3_at_54 : decode cX3_at 54 = .ok (.dload_n 1, 1) := by decide +kernel
theorem dX3_at_55 : decode cX3_at 55 = .ok (.invokestatic 35, 3) := by decide +kernel
theorem dX3_at_58 : decode cX3_at 58 = .ok (.dreturn, 1) := by decide +kernel
theorem q9 : (Jvm.Cond.initialized "GasRows$Line") ∈ lw_all := lw_g (lw_at lw_m1 4 rfl) rfl
theorem q46 : (Jvm.Cond.instanceMethod ({ cls := "GasRows$Line", name := "has", desc := "(D)Z" } : Jvm.MethodName)) ∈ lw_all := lw_g (lw_at lw_m1 41 rfl) rfl
theorem q47 : (Jvm.Cond.selects "GasRows$Line" ({ cls := "GasRows$Line", name := "has", desc := "(D)Z" } : Jvm.MethodName) ({ cls := "GasRows$Line", name := "has", desc := "(D)Z" } : Jvm.MethodName)) ∈ lw_all := lw_g (lw_at lw_m1 42 rfl) rfl
theorem q48 : (Jvm.Cond.code ({ cls := "GasRows$Line", name := "has", desc := "(D)Z" } : Jvm.MethodName) prog_2_method_4_code (4 : Nat) (Option.some Jvm.ClassFile.FieldType.boolean)) ∈ lw_all := lw_g (lw_at lw_m1 43 rfl) rfl
theorem q49 : (Jvm.Cond.methodLink "GasRows$Line" (28 : Nat) ({ cls := "GasRows$Line", name := "before", desc := "(D)LGasRows$Row;" } : Jvm.MethodName)) ∈ lw_all := lw_g (lw_at lw_m1 44 rfl) rfl
theorem q50 : (Jvm.Cond.privateMethod ({ cls := "GasRows$Line", name := "before", desc := "(D)LGasRows$Row;" } : Jvm.MethodName)) ∈ lw_tbl := lw_at lw_m1 45 rfl
theorem q51 : (Jvm.Cond.instanceMethod ({ cls := "GasRows$Line", name := "before", desc := "(D)LGasRows$Row;" } : Jvm.MethodName)) ∈ lw_all := lw_g (lw_at lw_m1 46 rfl) rfl
theorem q52 : (Jvm.Cond.instantiable "GasRows$Line" (3 : Nat)) ∈ lw_all := lw_g (lw_at lw_m1 47 rfl) rfl
theorem q53 : (Jvm.Cond.code ({ cls := "GasRows$Line", name := "before", desc := "(D)LGasRows$Row;" } : Jvm.MethodName) prog_2_method_2_code (5 : Nat) (Option.some (Jvm.ClassFile.FieldType.object "GasRows$Row"))) ∈ lw_all := lw_g (lw_at lw_m1 48 rfl) rfl
theorem q55 : (Jvm.Cond.instanceMethod ({ cls := "GasRows$Line", name := "put", desc := "(DD)V" } : Jvm.MethodName)) ∈ lw_all := lw_g (lw_at lw_m1 50 rfl) rfl
theorem q56 : (Jvm.Cond.selects "GasRows$Line" ({ cls := "GasRows$Line", name := "put", desc := "(DD)V" } : Jvm.MethodName) ({ cls := "GasRows$Line", name := "put", desc := "(DD)V" } : Jvm.MethodName)) ∈ lw_all := lw_g (lw_at lw_m1 51 rfl) rfl
theorem q57 : (Jvm.Cond.code ({ cls := "GasRows$Line", name := "put", desc := "(DD)V" } : Jvm.MethodName) prog_2_method_5_code (6 : Nat) (Option.none : Option Jvm.ClassFile.FieldType)) ∈ lw_all := lw_g (lw_at lw_m1 52 rfl) rfl
theorem q58 : (Jvm.Cond.classLink "GasRows$Line" (22 : Nat) "GasRows$Row") ∈ lw_all := lw_g (lw_at lw_m1 53 rfl) rfl
theorem q60 : (Jvm.Cond.methodLink "GasRows$Line" (41 : Nat) ({ cls := "GasRows$Row", name := "<init>", desc := "(DDLGasRows$Row;)V" } : Jvm.MethodName)) ∈ lw_all := lw_g (lw_at lw_m1 55 rfl) rfl
theorem q65 : (Jvm.Cond.fieldLinkNest "GasRows$Line" (21 : Nat) "GasRows$Row" "bar" "D" "GasRows") ∈ lw_tbl := lw_at lw_m1 60 rfl
theorem q67 : (Jvm.Cond.fieldLinkNest "GasRows$Line" (32 : Nat) "GasRows$Row" "grams" "D" "GasRows") ∈ lw_tbl := lw_at lw_m1 62 rfl
theorem q69 : (Jvm.Cond.fieldLinkNest "GasRows$Line" (26 : Nat) "GasRows$Row" "next" "LGasRows$Row;" "GasRows") ∈ lw_tbl := lw_at lw_m1 64 rfl
theorem q79 : (Jvm.Cond.instanceMethod ({ cls := "GasRows$Line", name := "<init>", desc := "(DLGasRows$Line;)V" } : Jvm.MethodName)) ∈ lw_all := lw_g (lw_at lw_m1 74 rfl) rfl
theorem q80 : (Jvm.Cond.code ({ cls := "GasRows$Line", name := "<init>", desc := "(DLGasRows$Line;)V" } : Jvm.MethodName) prog_2_method_1_code (4 : Nat) (Option.none : Option Jvm.ClassFile.FieldType)) ∈ lw_all := lw_g (lw_at lw_m1 75 rfl) rfl
theorem q81 : (Jvm.Cond.methodLink "GasRows$Line" (1 : Nat) ({ cls := "java/lang/Object", name := "<init>", desc := "()V" } : Jvm.MethodName)) ∈ lw_all := lw_g (lw_at lw_m1 76 rfl) rfl
theorem q82 : (Jvm.Cond.fieldLink "GasRows$Line" (7 : Nat) "GasRows$Line" "degrees" "D") ∈ lw_all := lw_g (lw_at lw_m1 77 rfl) rfl
theorem q84 : (Jvm.Cond.fieldLink "GasRows$Line" (17 : Nat) "GasRows$Line" "first" "LGasRows$Row;") ∈ lw_all := lw_g (lw_at lw_m1 79 rfl) rfl
theorem q85 : (Jvm.Cond.fieldLink "GasRows$Line" (13 : Nat) "GasRows$Line" "next" "LGasRows$Line;") ∈ lw_all := lw_g (lw_at lw_m1 80 rfl) rfl
theorem q87 : (Jvm.Cond.laysFinal "GasRows$Line" "GasRows$Line" "degrees" "D") ∈ lw_all := lw_g (lw_at lw_m1 82 rfl) rfl
theorem q88 : (Jvm.Cond.soleField "GasRows$Line" "degrees") ∈ lw_all := lw_g (lw_at lw_m1 83 rfl) rfl
theorem q89 : (Jvm.Cond.lays "GasRows$Line" "GasRows$Line" "first" "LGasRows$Row;") ∈ lw_all := lw_g (lw_at lw_m1 84 rfl) rfl
theorem q90 : (Jvm.Cond.soleField "GasRows$Line" "first") ∈ lw_all := lw_g (lw_at lw_m1 85 rfl) rfl
theorem q91 : (Jvm.Cond.lays "GasRows$Line" "GasRows$Line" "next" "LGasRows$Line;") ∈ lw_all := lw_g (lw_at lw_m1 86 rfl) rfl
theorem q92 : (Jvm.Cond.soleField "GasRows$Line" "next") ∈ lw_all := lw_g (lw_at lw_m1 87 rfl) rfl
theorem q93 : (Jvm.Cond.superclass "GasRows$Line" "java/lang/Object") ∈ lw_all := lw_g (lw_at lw_m1 88 rfl) rfl
theorem q103 : (Jvm.Cond.instanceMethod ({ cls := "GasRows$Line", name := "at", desc := "(D)D" } : Jvm.MethodName)) ∈ lw_all := lw_g (lw_at lw_m1 98 rfl) rfl
theorem q104 : (Jvm.Cond.selects "GasRows$Line" ({ cls := "GasRows$Line", name := "at", desc := "(D)D" } : Jvm.MethodName) ({ cls := "GasRows$Line", name := "at", desc := "(D)D" } : Jvm.MethodName)) ∈ lw_all := lw_g (lw_at lw_m1 99 rfl) rfl
theorem q105 : (Jvm.Cond.code ({ cls := "GasRows$Line", name := "at", desc := "(D)D" } : Jvm.MethodName) prog_2_method_3_code (5 : Nat) (Option.some Jvm.ClassFile.FieldType.double)) ∈ lw_all := lw_g (lw_at lw_m1 100 rfl) rfl
theorem q106 : (Jvm.Cond.methodLinkNest "GasRows$Line" (35 : Nat) ({ cls := "GasRows", name := "join", desc := "(DDDDD)D" } : Jvm.MethodName) "GasRows") ∈ lw_tbl := lw_at lw_m1 101 rfl
theorem in_X3 : ∀ w ∈ wsX30, w ∈ lw_all := lw_in wsX30 [87, 89, 91] (by decide +kernel) (by decide +kernel)
/-! java/lang/Object -/
set_option maxRecDepth 100000
def RJ0 : String := "java/lang/Object"
abbrev cJ0_init : ByteArray := object_method_1_code
def yJ0_init : MethodName := ⟨RJ0, "<init>", "()V"⟩
theorem dJ0_init_0 : decode cJ0_init 0 = .ok (.return_, 1) := by decide +kernel
theorem q16 : (Jvm.Cond.instanceMethod ({ cls := "java/lang/Object", name := "<init>", desc := "()V" } : Jvm.MethodName)) ∈ lw_all := lw_g (lw_at lw_m1 11 rfl) rfl
theorem q17 : (Jvm.Cond.code ({ cls := "java/lang/Object", name := "<init>", desc := "()V" } : Jvm.MethodName) object_method_1_code (1 : Nat) (Option.none : Option Jvm.ClassFile.FieldType)) ∈ lw_all := lw_g (lw_at lw_m1 12 rfl) rfl
theorem q182 : (Jvm.Cond.arrayClass Jvm.ClassFile.FieldType.double) ∈ lw_all := lw_g (lw_at lw_m1 177 rfl) rfl
set_option maxRecDepth 100000
theorem q5 : (Jvm.Cond.initialized "GasRowsLaw") ∈ lw_all := lw_g (lw_at lw_m1 0 rfl) rfl
set_option maxRecDepth 100000
theorem q10 : (Jvm.Cond.classLink "GasRowsLaw" (7 : Nat) "GasRows") ∈ lw_all := lw_g (lw_at lw_m1 5 rfl) rfl
theorem q12 : (Jvm.Cond.methodLink "GasRowsLaw" (9 : Nat) ({ cls := "GasRows", name := "<init>", desc := "()V" } : Jvm.MethodName)) ∈ lw_all := lw_g (lw_at lw_m1 7 rfl) rfl
theorem q25 : (Jvm.Cond.methodLink "GasRowsLaw" (15 : Nat) ({ cls := "GasRows", name := "row", desc := "(DDD)Z" } : Jvm.MethodName)) ∈ lw_all := lw_g (lw_at lw_m1 20 rfl) rfl
theorem q94 : (Jvm.Cond.methodLink "GasRowsLaw" (20 : Nat) ({ cls := "GasRows", name := "balance", desc := "(DD)D" } : Jvm.MethodName)) ∈ lw_all := lw_g (lw_at lw_m1 89 rfl) rfl
theorem q111 : (Jvm.Cond.methodLink "GasRowsLaw" (25 : Nat) ({ cls := "GasRows", name := "after", desc := "(DDDI)D" } : Jvm.MethodName)) ∈ lw_all := lw_g (lw_at lw_m1 106 rfl) rfl
theorem q120 : (Jvm.Cond.methodLink "GasRowsLaw" (30 : Nat) ({ cls := "GasRows", name := "fill", desc := "(DD)D" } : Jvm.MethodName)) ∈ lw_all := lw_g (lw_at lw_m1 115 rfl) rfl
theorem q126 : (Jvm.Cond.methodLink "GasRowsLaw" (36 : Nat) ({ cls := "GasRows", name := "bunging", desc := "(JJI)J" } : Jvm.MethodName)) ∈ lw_all := lw_g (lw_at lw_m1 121 rfl) rfl
theorem q140 : (Jvm.Cond.methodLink "GasRowsLaw" (41 : Nat) ({ cls := "GasRows", name := "sugar", desc := "(JJI)J" } : Jvm.MethodName)) ∈ lw_all := lw_g (lw_at lw_m1 135 rfl) rfl
theorem q146 : (Jvm.Cond.methodLink "GasRowsLaw" (45 : Nat) ({ cls := "GasRows", name := "burst", desc := "(DDD)I" } : Jvm.MethodName)) ∈ lw_all := lw_g (lw_at lw_m1 141 rfl) rfl
theorem q151 : (Jvm.Cond.methodLink "GasRowsLaw" (50 : Nat) ({ cls := "GasRows", name := "foam", desc := "(ID)D" } : Jvm.MethodName)) ∈ lw_all := lw_g (lw_at lw_m1 146 rfl) rfl
theorem q157 : (Jvm.Cond.methodLink "GasRowsLaw" (55 : Nat) ({ cls := "GasRows", name := "mixed", desc := "(DDDI)D" } : Jvm.MethodName)) ∈ lw_all := lw_g (lw_at lw_m1 152 rfl) rfl
theorem q163 : (Jvm.Cond.classLink "GasRowsLaw" (10 : Nat) "GasRowsModel") ∈ lw_all := lw_g (lw_at lw_m1 158 rfl) rfl
theorem q165 : (Jvm.Cond.methodLink "GasRowsLaw" (12 : Nat) ({ cls := "GasRowsModel", name := "<init>", desc := "()V" } : Jvm.MethodName)) ∈ lw_all := lw_g (lw_at lw_m1 160 rfl) rfl
theorem q183 : (Jvm.Cond.methodLink "GasRowsLaw" (19 : Nat) ({ cls := "GasRowsModel", name := "row", desc := "(DDD)Z" } : Jvm.MethodName)) ∈ lw_all := lw_g (lw_at lw_m1 178 rfl) rfl
theorem q196 : (Jvm.Cond.methodLink "GasRowsLaw" (24 : Nat) ({ cls := "GasRowsModel", name := "balance", desc := "(DD)D" } : Jvm.MethodName)) ∈ lw_all := lw_g (lw_at lw_m1 191 rfl) rfl
theorem q209 : (Jvm.Cond.methodLink "GasRowsLaw" (29 : Nat) ({ cls := "GasRowsModel", name := "after", desc := "(DDDI)D" } : Jvm.MethodName)) ∈ lw_all := lw_g (lw_at lw_m1 204 rfl) rfl
theorem q215 : (Jvm.Cond.methodLink "GasRowsLaw" (33 : Nat) ({ cls := "GasRowsModel", name := "fill", desc := "(DD)D" } : Jvm.MethodName)) ∈ lw_all := lw_g (lw_at lw_m1 210 rfl) rfl
theorem q221 : (Jvm.Cond.methodLink "GasRowsLaw" (40 : Nat) ({ cls := "GasRowsModel", name := "bunging", desc := "(JJI)J" } : Jvm.MethodName)) ∈ lw_all := lw_g (lw_at lw_m1 216 rfl) rfl
theorem q235 : (Jvm.Cond.methodLink "GasRowsLaw" (44 : Nat) ({ cls := "GasRowsModel", name := "sugar", desc := "(JJI)J" } : Jvm.MethodName)) ∈ lw_all := lw_g (lw_at lw_m1 230 rfl) rfl
theorem q241 : (Jvm.Cond.methodLink "GasRowsLaw" (49 : Nat) ({ cls := "GasRowsModel", name := "burst", desc := "(DDD)I" } : Jvm.MethodName)) ∈ lw_all := lw_g (lw_at lw_m1 236 rfl) rfl
theorem q246 : (Jvm.Cond.methodLink "GasRowsLaw" (54 : Nat) ({ cls := "GasRowsModel", name := "foam", desc := "(ID)D" } : Jvm.MethodName)) ∈ lw_all := lw_g (lw_at lw_m2 1 rfl) rfl
theorem q252 : (Jvm.Cond.methodLink "GasRowsLaw" (58 : Nat) ({ cls := "GasRowsModel", name := "mixed", desc := "(DDDI)D" } : Jvm.MethodName)) ∈ lw_all := lw_g (lw_at lw_m2 7 rfl) rfl
theorem q258 : (Jvm.Cond.constantDouble "GasRowsLaw" (13 : Nat) (4593671619917905920 : UInt64)) ∈ lw_all := lw_g (lw_at lw_m2 13 rfl) rfl
theorem q259 : (Jvm.Cond.constantLong "GasRowsLaw" (34 : Nat) (4294967295 : Int64)) ∈ lw_all := lw_g (lw_at lw_m2 14 rfl) rfl
end
section
/-! doubles: finite values as whole numbers of 2^-1074; comparisons; rounding is monotone -/
theorem fc_tl : FP.Core.b64.tails = 4503599627370496 := by decide
theorem fc_ex : FP.Core.b64.exps = 2048 := by decide
theorem fc_qm : FP.Core.b64.qmin = -1074 := by decide
theorem fc_qM : FP.Core.b64.qmax = 971 := by decide
abbrev fdec (a : UInt64) : FP.Core.Datum := FP.Core.decode FP.Core.b64 a.toNat
/-- the double a is finite and is z times 2^-1074 -/
def fv (a : UInt64) (z : Int) : Prop := ∃ (s : Bool) (c : Nat) (q : Int), fdec a = .fin s c q ∧ c < 2 ^ 53 ∧ -1074 ≤ q ∧ q ≤ 971 ∧ z = FP.Core.signed s (c * 2 ^ (q + 1074).toNat)
theorem fc_sgm (s : Bool) (m k : Nat) : FP.Core.signed s (m * k) = FP.Core.signed s m * (k : Int) := by
  cases s <;> simp [FP.Core.signed, Int.neg_mul]
theorem fc_cmp (a b : Int) : compare a b = if a < b then .lt else if a = b then .eq else .gt := rfl
theorem fc_cmpm (a b : Int) (k : Nat) (hk : 0 < k) : compare (a * (k : Int)) (b * (k : Int)) = compare a b := by
  have hk' : (0 : Int) < (k : Int) := by omega
  have h1 : a * (k : Int) < b * (k : Int) ↔ a < b := Int.mul_lt_mul_right hk'
  have h2 : a * (k : Int) = b * (k : Int) ↔ a = b := Int.mul_eq_mul_right_iff (by omega)
  rw [fc_cmp, fc_cmp]
  simp only [h1, h2]
theorem fc_units (c : Nat) {q r : Int} (h1 : -1074 ≤ r) (h2 : r ≤ q) : c * 2 ^ (q + 1074).toNat = FP.Core.inUnits c q r * 2 ^ (r + 1074).toNat := by
  unfold FP.Core.inUnits
  rw [Nat.mul_assoc, ← Nat.pow_add]
  rw [show (q + 1074).toNat = (q - r).toNat + (r + 1074).toNat by omega]
theorem fv_cmp {a b : UInt64} {x y : Int} (ha : fv a x) (hb : fv b y) : FP.dcmp a b = some (compare x y) := by
  obtain ⟨s, c, q, h1, -, h2, -, rfl⟩ := ha
  obtain ⟨t, d, r, h3, -, h4, -, rfl⟩ := hb
  show FP.Core.order (fdec a) (fdec b) = _
  rw [h1, h3]
  rw [fc_units c (q := q) (r := min q r) (by omega) (by omega), fc_units d (q := r) (r := min q r) (by omega) (by omega), fc_sgm, fc_sgm, fc_cmpm _ _ _ (Nat.two_pow_pos _)]
  rfl
/-- what a comparison pushes -/
theorem fv_cv {a b : UInt64} {x y : Int} (ha : fv a x) (hb : fv b y) (op : CmpOp) : Op.cmpValue (FP.dcmp a b) op = if x < y then -1 else if x = y then 0 else 1 := by
  rw [fv_cmp ha hb, fc_cmp]
  by_cases h1 : x < y
  · simp [h1, Op.cmpValue]
  · by_cases h2 : x = y
    · simp [h2, Op.cmpValue]
    · simp [h1, h2, Op.cmpValue]
theorem cv_lt {a b : UInt64} {x y : Int} (ha : fv a x) (hb : fv b y) (op : CmpOp) : Op.cmpValue (FP.dcmp a b) op < 0 ↔ x < y := by
  rw [fv_cv ha hb]
  by_cases h1 : x < y
  · rw [if_pos h1]; exact ⟨fun _ => h1, fun _ => by decide⟩
  · rw [if_neg h1]
    by_cases h2 : x = y
    · rw [if_pos h2]; exact ⟨fun h => absurd h (by decide), fun h => absurd h h1⟩
    · rw [if_neg h2]; exact ⟨fun h => absurd h (by decide), fun h => absurd h h1⟩
theorem cv_gt {a b : UInt64} {x y : Int} (ha : fv a x) (hb : fv b y) (op : CmpOp) : 0 < Op.cmpValue (FP.dcmp a b) op ↔ y < x := by
  rw [fv_cv ha hb]
  by_cases h1 : x < y
  · rw [if_pos h1]; exact ⟨fun h => absurd h (by decide), fun h => by omega⟩
  · rw [if_neg h1]
    by_cases h2 : x = y
    · rw [if_pos h2]; exact ⟨fun h => absurd h (by decide), fun h => by omega⟩
    · rw [if_neg h2]; exact ⟨fun _ => by omega, fun _ => by decide⟩
theorem cv_eq {a b : UInt64} {x y : Int} (ha : fv a x) (hb : fv b y) (op : CmpOp) : Op.cmpValue (FP.dcmp a b) op = 0 ↔ x = y := by
  rw [fv_cv ha hb]
  by_cases h1 : x < y
  · rw [if_pos h1]; exact ⟨fun h => absurd h (by decide), fun h => by omega⟩
  · rw [if_neg h1]
    by_cases h2 : x = y
    · rw [if_pos h2]; exact ⟨fun _ => h2, fun _ => rfl⟩
    · rw [if_neg h2]; exact ⟨fun h => absurd h (by decide), fun h => absurd h h2⟩
theorem cv_le {a b : UInt64} {x y : Int} (ha : fv a x) (hb : fv b y) (op : CmpOp) : Op.cmpValue (FP.dcmp a b) op ≤ 0 ↔ x ≤ y := by
  rw [fv_cv ha hb]
  by_cases h1 : x < y
  · rw [if_pos h1]; exact ⟨fun _ => by omega, fun _ => by decide⟩
  · rw [if_neg h1]
    by_cases h2 : x = y
    · rw [if_pos h2]; exact ⟨fun _ => by omega, fun _ => by decide⟩
    · rw [if_neg h2]; exact ⟨fun h => absurd h (by decide), fun h => by omega⟩
theorem cv_ge {a b : UInt64} {x y : Int} (ha : fv a x) (hb : fv b y) (op : CmpOp) : 0 ≤ Op.cmpValue (FP.dcmp a b) op ↔ y ≤ x := by
  rw [fv_cv ha hb]
  by_cases h1 : x < y
  · rw [if_pos h1]; exact ⟨fun h => absurd h (by decide), fun h => by omega⟩
  · rw [if_neg h1]
    by_cases h2 : x = y
    · rw [if_pos h2]; exact ⟨fun _ => by omega, fun _ => by decide⟩
    · rw [if_neg h2]; exact ⟨fun _ => by omega, fun _ => by decide⟩
/-- a finite double is no NaN -/
theorem fv_n {a : UInt64} {z : Int} (h : fv a z) : vf_n64 a := by
  obtain ⟨s, c, q, h1, -⟩ := h
  have hE : ¬ FP.Core.fieldE FP.Core.b64 a.toNat = FP.Core.b64.exps - 1 := by
    intro h2
    unfold fdec FP.Core.decode at h1
    rw [if_pos h2] at h1
    split at h1 <;> cases h1
  unfold FP.Core.fieldE at hE
  rw [fc_tl, fc_ex] at hE
  unfold vf_n64
  rw [UInt64.le_iff_toNat_le, UInt64.toNat_and]
  have e1 : (0x7fffffffffffffff : UInt64).toNat = 2 ^ 63 - 1 := by decide
  have e2 : (0x7ff0000000000000 : UInt64).toNat = 9218868437227405312 := by decide
  rw [e1, e2, Nat.and_two_pow_sub_one_eq_mod]
  omega
/-! rounding -/
theorem rr_lead {A B : Nat} (hA : 0 < A) (hB : 0 < B) : B * 2 ^ (FP.Core.leading A B).toNat ≤ A * 2 ^ (-(FP.Core.leading A B)).toNat ∧ A * 2 ^ (-(FP.Core.leading A B + 1)).toNat < B * 2 ^ (FP.Core.leading A B + 1).toNat := by
  have a1 : 2 ^ A.log2 ≤ A := Nat.log2_self_le (by omega)
  have a2 : A < 2 ^ (A.log2 + 1) := Nat.lt_log2_self
  have b1 : 2 ^ B.log2 ≤ B := Nat.log2_self_le (by omega)
  have b2 : B < 2 ^ (B.log2 + 1) := Nat.lt_log2_self
  unfold FP.Core.leading
  generalize A.log2 = a at *
  generalize B.log2 = b at *
  by_cases h : B * 2 ^ ((a : Int) - (b : Int)).toNat ≤ A * 2 ^ (-((a : Int) - (b : Int))).toNat
  · simp only [h, if_true]
    refine ⟨trivial, ?_⟩
    by_cases hab : b ≤ a
    · rw [show (-((a : Int) - (b : Int) + 1)).toNat = 0 by omega, show ((a : Int) - (b : Int) + 1).toNat = a + 1 - b by omega, Nat.pow_zero, Nat.mul_one]
      calc A < 2 ^ (a + 1) := a2
        _ = 2 ^ b * 2 ^ (a + 1 - b) := by rw [← Nat.pow_add]; congr 1; omega
        _ ≤ B * 2 ^ (a + 1 - b) := Nat.mul_le_mul_right _ b1
    · rw [show (-((a : Int) - (b : Int) + 1)).toNat = b - a - 1 by omega, show ((a : Int) - (b : Int) + 1).toNat = 0 by omega, Nat.pow_zero, Nat.mul_one]
      calc A * 2 ^ (b - a - 1) < 2 ^ (a + 1) * 2 ^ (b - a - 1) := Nat.mul_lt_mul_of_pos_right a2 (Nat.two_pow_pos _)
        _ = 2 ^ b := by rw [← Nat.pow_add]; congr 1; omega
        _ ≤ B := b1
  · simp only [h, if_false]
    refine ⟨?_, ?_⟩
    · by_cases hab : b + 1 ≤ a
      · rw [show (-((a : Int) - (b : Int) - 1)).toNat = 0 by omega, show ((a : Int) - (b : Int) - 1).toNat = a - b - 1 by omega, Nat.pow_zero, Nat.mul_one]
        refine Nat.le_of_lt ?_
        calc B * 2 ^ (a - b - 1) < 2 ^ (b + 1) * 2 ^ (a - b - 1) := Nat.mul_lt_mul_of_pos_right b2 (Nat.two_pow_pos _)
          _ = 2 ^ a := by rw [← Nat.pow_add]; congr 1; omega
          _ ≤ A := a1
      · rw [show (-((a : Int) - (b : Int) - 1)).toNat = b + 1 - a by omega, show ((a : Int) - (b : Int) - 1).toNat = 0 by omega, Nat.pow_zero, Nat.mul_one]
        refine Nat.le_of_lt ?_
        calc B < 2 ^ (b + 1) := b2
          _ = 2 ^ a * 2 ^ (b + 1 - a) := by rw [← Nat.pow_add]; congr 1; omega
          _ ≤ A * 2 ^ (b + 1 - a) := Nat.mul_le_mul_right _ a1
    · rw [show (a : Int) - (b : Int) - 1 + 1 = (a : Int) - (b : Int) by omega]
      omega
theorem nr_le {U D M : Nat} (hD : 0 < D) (h : U ≤ M * D) : FP.Core.nearest U D ≤ M := by
  have h1 : U / D ≤ M := by
    rw [Nat.div_le_iff_le_mul_add_pred hD]
    have : D * M = M * D := Nat.mul_comm _ _
    omega
  have h2 := Nat.div_add_mod U D
  unfold FP.Core.nearest
  rcases Nat.lt_or_eq_of_le h1 with h3 | h3
  · split
    · omega
    · split
      · omega
      · omega
  · have h4 : U % D = 0 := by
      have : D * (U / D) = M * D := by rw [h3, Nat.mul_comm]
      omega
    rw [h4, if_pos (by omega)]
    omega
theorem nr_ge {U D M : Nat} (hD : 0 < D) (h : M * D ≤ U) : M ≤ FP.Core.nearest U D := by
  have h1 : M ≤ U / D := (Nat.le_div_iff_mul_le hD).mpr h
  unfold FP.Core.nearest
  split
  · omega
  · split <;> omega
theorem fc_mlp {a b k : Nat} (h : a < b) (hk : 0 < k) : a * k < b * k := Nat.mul_lt_mul_of_pos_right h hk
theorem rr_nat {AE B ln U X : Nat} (hB : 0 < B) (hX : 0 < X) (i : B * 2 ^ ln ≤ AE) (ii : AE < B * 2 ^ (ln + 1)) (hU : U * 2 ^ (ln - 1278 + 1226) = AE * X) :
    FP.Core.nearest U (B * X) ≤ 2 ^ 53 ∧ (ln ≤ 1278 ∨ 2 ^ 52 ≤ FP.Core.nearest U (B * X)) ∧
    (∀ c0 n0 : Nat, c0 < 2 ^ 53 → AE ≤ B * (c0 * 2 ^ (n0 + 1226)) → FP.Core.nearest U (B * X) * 2 ^ (ln - 1278) ≤ c0 * 2 ^ n0) ∧
    (∀ c0 n0 : Nat, c0 < 2 ^ 53 → B * (c0 * 2 ^ (n0 + 1226)) ≤ AE → c0 * 2 ^ n0 ≤ FP.Core.nearest U (B * X) * 2 ^ (ln - 1278)) := by
  have hD : 0 < B * X := Nat.mul_pos hB hX
  have up : ∀ M : Nat, AE ≤ B * (M * 2 ^ (ln - 1278 + 1226)) → U ≤ M * (B * X) := by
    intro M h
    have hp := Nat.two_pow_pos (ln - 1278 + 1226)
    generalize 2 ^ (ln - 1278 + 1226) = P at h hU hp
    refine Nat.le_of_mul_le_mul_right ?_ hp
    rw [hU]
    refine Nat.le_trans (Nat.mul_le_mul_right X h) (Nat.le_of_eq ?_)
    ac_rfl
  have dn : ∀ M : Nat, B * (M * 2 ^ (ln - 1278 + 1226)) ≤ AE → M * (B * X) ≤ U := by
    intro M h
    have hp := Nat.two_pow_pos (ln - 1278 + 1226)
    generalize 2 ^ (ln - 1278 + 1226) = P at h hU hp
    refine Nat.le_of_mul_le_mul_right ?_ hp
    rw [hU]
    refine Nat.le_trans (Nat.le_of_eq ?_) (Nat.mul_le_mul_right X h)
    ac_rfl
  have n1 : FP.Core.nearest U (B * X) ≤ 2 ^ 53 := by
    refine nr_le hD (up _ (Nat.le_of_lt (Nat.lt_of_lt_of_le ii ?_)))
    rw [← Nat.pow_add]
    exact Nat.mul_le_mul_left _ (Nat.pow_le_pow_right (by decide) (by omega))
  have n2 : ln ≤ 1278 ∨ 2 ^ 52 ≤ FP.Core.nearest U (B * X) := by
    rcases Nat.lt_or_ge 1278 ln with h | h
    · refine Or.inr (nr_ge hD (dn _ (Nat.le_trans ?_ i)))
      rw [← Nat.pow_add]
      exact Nat.mul_le_mul_left _ (Nat.pow_le_pow_right (by decide) (by omega))
    · exact Or.inl h
  generalize hN : FP.Core.nearest U (B * X) = N at *
  refine ⟨n1, n2, ?_, ?_⟩
  · intro c0 n0 hc h
    have hq : ln - 1278 ≤ n0 := by
      have h1 : B * 2 ^ ln < B * 2 ^ (n0 + 1279) := by
        refine Nat.lt_of_le_of_lt (Nat.le_trans i h) (Nat.mul_lt_mul_of_pos_left ?_ hB)
        rw [show n0 + 1279 = 53 + (n0 + 1226) by omega, Nat.pow_add 2 53 (n0 + 1226)]
        have hp := Nat.two_pow_pos (n0 + 1226)
        exact fc_mlp (a := c0) (b := 2 ^ 53) (k := 2 ^ (n0 + 1226)) hc hp
      have h2 : 2 ^ ln < 2 ^ (n0 + 1279) := Nat.lt_of_mul_lt_mul_left h1
      have h3 := (Nat.pow_lt_pow_iff_right (by decide : 1 < 2)).mp h2
      omega
    have h2 : N ≤ c0 * 2 ^ (n0 - (ln - 1278)) := by
      rw [← hN]
      refine nr_le hD (up _ ?_)
      rw [Nat.mul_assoc, ← Nat.pow_add, show n0 - (ln - 1278) + (ln - 1278 + 1226) = n0 + 1226 by omega]
      exact h
    refine Nat.le_trans (Nat.mul_le_mul_right _ h2) (Nat.le_of_eq ?_)
    rw [Nat.mul_assoc, ← Nat.pow_add, show n0 - (ln - 1278) + (ln - 1278) = n0 by omega]
  · intro c0 n0 hc h
    rcases Nat.lt_or_ge n0 (ln - 1278) with hq | hq
    · rcases n2 with n2 | n2
      · omega
      · refine Nat.le_trans (Nat.mul_le_mul_right _ (Nat.le_of_lt hc)) (Nat.le_trans ?_ (Nat.mul_le_mul_right _ n2))
        rw [← Nat.pow_add, ← Nat.pow_add]
        exact Nat.pow_le_pow_right (by decide) (by omega)
    · have h2 : c0 * 2 ^ (n0 - (ln - 1278)) ≤ N := by
        rw [← hN]
        refine nr_ge hD (dn _ ?_)
        rw [Nat.mul_assoc, ← Nat.pow_add, show n0 - (ln - 1278) + (ln - 1278 + 1226) = n0 + 1226 by omega]
        exact h
      refine Nat.le_trans (Nat.le_of_eq ?_) (Nat.mul_le_mul_right _ h2)
      rw [Nat.mul_assoc, ← Nat.pow_add, show n0 - (ln - 1278) + (ln - 1278) = n0 by omega]
theorem rr_main (s : Bool) {A B : Nat} {e : Int} (hA : 0 < A) (hB : 0 < B) (hB2 : B < 2 ^ 53) (he : -2148 ≤ e) {K : Nat} (hK : K ≤ 3300) (hle : A * 2 ^ (e + 2300).toNat ≤ B * 2 ^ K) :
    ∃ (c : Nat) (q : Int), FP.Core.roundRatio FP.Core.b64 s A B e = .fin s c q ∧ c < 2 ^ 53 ∧ -1074 ≤ q ∧ q ≤ 971 ∧ (q = -1074 ∨ 2 ^ 52 ≤ c) ∧
    (∀ c0 n0 : Nat, c0 < 2 ^ 53 → A * 2 ^ (e + 2300).toNat ≤ B * (c0 * 2 ^ (n0 + 1226)) → c * 2 ^ (q + 1074).toNat ≤ c0 * 2 ^ n0) ∧
    (∀ c0 n0 : Nat, c0 < 2 ^ 53 → B * (c0 * 2 ^ (n0 + 1226)) ≤ A * 2 ^ (e + 2300).toNat → c0 * 2 ^ n0 ≤ c * 2 ^ (q + 1074).toNat) := by
  obtain ⟨l1, l2⟩ := rr_lead hA hB
  unfold FP.Core.roundRatio FP.Core.roundAt
  rw [if_neg (by omega)]
  have hq : FP.Core.quantum FP.Core.b64 A B e = max (-1074) (FP.Core.leading A B + e - 52) := by
    unfold FP.Core.quantum
    rw [fc_qm]
    rfl
  rw [hq]
  generalize FP.Core.leading A B = L at *
  have hL : -53 ≤ L := by
    refine Int.not_lt.mp fun h => ?_
    rw [show (L + 1).toNat = 0 by omega, Nat.pow_zero, Nat.mul_one] at l2
    have h1 : 2 ^ 53 ≤ 2 ^ (-(L + 1)).toNat := Nat.pow_le_pow_right (by decide) (by omega)
    have h2 : 2 ^ (-(L + 1)).toNat ≤ A * 2 ^ (-(L + 1)).toNat := Nat.le_mul_of_pos_left _ hA
    omega
  have i : B * 2 ^ (L + e + 2300).toNat ≤ A * 2 ^ (e + 2300).toNat := by
    have h := Nat.mul_le_mul_right (2 ^ (e + 2300 - ((-L).toNat : Int)).toNat) l1
    rw [Nat.mul_assoc, Nat.mul_assoc, ← Nat.pow_add, ← Nat.pow_add] at h
    rw [show L.toNat + (e + 2300 - ((-L).toNat : Int)).toNat = (L + e + 2300).toNat by omega, show (-L).toNat + (e + 2300 - ((-L).toNat : Int)).toNat = (e + 2300).toNat by omega] at h
    exact h
  have ii : A * 2 ^ (e + 2300).toNat < B * 2 ^ ((L + e + 2300).toNat + 1) := by
    have h := Nat.mul_lt_mul_of_pos_right l2 (Nat.two_pow_pos (e + 2300 - ((-(L + 1)).toNat : Int)).toNat)
    rw [Nat.mul_assoc, Nat.mul_assoc, ← Nat.pow_add, ← Nat.pow_add] at h
    rw [show (L + 1).toNat + (e + 2300 - ((-(L + 1)).toNat : Int)).toNat = (L + e + 2300).toNat + 1 by omega, show (-(L + 1)).toNat + (e + 2300 - ((-(L + 1)).toNat : Int)).toNat = (e + 2300).toNat by omega] at h
    exact h
  have hln : (L + e + 2300).toNat ≤ 3300 := by
    have h1 : 2 ^ (L + e + 2300).toNat ≤ 2 ^ K := Nat.le_of_mul_le_mul_left (Nat.le_trans i hle) hB
    exact Nat.le_trans ((Nat.pow_le_pow_iff_right (by decide : 1 < 2)).mp h1) hK
  have hqe : (max (-1074) (L + e - 52) + 1074).toNat = (L + e + 2300).toNat - 1278 := by omega
  have hq0 : -1074 ≤ max (-1074) (L + e - 52) := by omega
  have hq1 : max (-1074) (L + e - 52) ≤ 948 := by omega
  have hq2 : (L + e + 2300).toNat ≤ 1278 → max (-1074) (L + e - 52) = -1074 := by omega
  have hU : FP.Core.unitsNum A e (max (-1074) (L + e - 52)) * 2 ^ ((L + e + 2300).toNat - 1278 + 1226) = A * 2 ^ (e + 2300).toNat * 2 ^ (max (-1074) (L + e - 52) - e).toNat := by
    unfold FP.Core.unitsNum
    rw [Nat.mul_assoc, Nat.mul_assoc, ← Nat.pow_add, ← Nat.pow_add]
    congr 2
    omega
  obtain ⟨n1, n2, n3, n4⟩ := rr_nat hB (Nat.two_pow_pos _) i ii hU
  generalize hN : FP.Core.nearest (FP.Core.unitsNum A e (max (-1074) (L + e - 52))) (B * 2 ^ (max (-1074) (L + e - 52) - e).toNat) = N at *
  have hN' : FP.Core.nearest (FP.Core.unitsNum A e (max (-1074) (L + e - 52))) (FP.Core.unitsDen B e (max (-1074) (L + e - 52))) = N := hN
  rw [hN']
  generalize max (-1074) (L + e - 52) = q at *
  unfold FP.Core.settle FP.Core.bound
  rw [fc_qM, fc_tl]
  rw [← hqe] at n3 n4
  by_cases hc : N < 2 ^ 53
  · rw [if_pos (show N < 2 ^ FP.Core.b64.p from hc), if_pos (by omega)]
    refine ⟨N, q, rfl, hc, hq0, by omega, ?_, n3, n4⟩
    rcases n2 with n2 | n2
    · exact Or.inl (hq2 n2)
    · exact Or.inr n2
  · have hN2 : N = 2 ^ 53 := by omega
    rw [if_neg (show ¬ N < 2 ^ FP.Core.b64.p from hc), if_pos (by omega)]
    have hv : 4503599627370496 * 2 ^ (q + 1 + 1074).toNat = N * 2 ^ (q + 1074).toNat := by
      rw [hN2, show (4503599627370496 : Nat) = 2 ^ 52 by decide, ← Nat.pow_add, ← Nat.pow_add, show 52 + (q + 1 + 1074).toNat = 53 + (q + 1074).toNat by omega]
    refine ⟨4503599627370496, q + 1, rfl, by decide, by omega, by omega, Or.inr (by decide), ?_, ?_⟩
    · rw [hv]; exact n3
    · rw [hv]; exact n4
theorem fc_enc {s : Bool} {c : Nat} {q : Int} (hc : c < 2 ^ 53) (h1 : -1074 ≤ q) (h2 : q ≤ 971) (h3 : q = -1074 ∨ 2 ^ 52 ≤ c) : fdec (UInt64.ofNat (FP.Core.encode FP.Core.b64 (.fin s c q))) = .fin s c q := by
  have key : ∀ (E T : Nat), E ≤ 2046 → T < 4503599627370496 → fdec (UInt64.ofNat (FP.Core.assemble FP.Core.b64 s E T)) = if E = 0 then .fin s T (-1074) else .fin s (4503599627370496 + T) (-1074 + ((E : Int) - 1)) := by
    intro E T hE hT
    have hs : s.toNat ≤ 1 := by cases s <;> decide
    have hn : FP.Core.assemble FP.Core.b64 s E T = (s.toNat * 2048 + E) * 4503599627370496 + T := by
      unfold FP.Core.assemble
      rw [fc_ex, fc_tl]
    have hlt : (s.toNat * 2048 + E) * 4503599627370496 + T < 2 ^ 64 := by omega
    unfold fdec
    rw [hn, UInt64.toNat_ofNat_of_lt' hlt]
    have e1 : FP.Core.fieldE FP.Core.b64 ((s.toNat * 2048 + E) * 4503599627370496 + T) = E := by
      unfold FP.Core.fieldE
      rw [fc_ex, fc_tl]
      omega
    have e2 : FP.Core.fieldT FP.Core.b64 ((s.toNat * 2048 + E) * 4503599627370496 + T) = T := by
      unfold FP.Core.fieldT
      rw [fc_tl]
      omega
    have e3 : FP.Core.fieldS FP.Core.b64 ((s.toNat * 2048 + E) * 4503599627370496 + T) = s := by
      unfold FP.Core.fieldS
      rw [fc_ex, fc_tl]
      have : ((s.toNat * 2048 + E) * 4503599627370496 + T) / 4503599627370496 / 2048 % 2 = s.toNat := by omega
      rw [this]
      cases s <;> rfl
    unfold FP.Core.decode
    rw [e1, e2, e3, fc_ex, fc_qm, fc_tl, if_neg (by omega)]
  show fdec (UInt64.ofNat (if c < FP.Core.b64.tails then FP.Core.assemble FP.Core.b64 s 0 c else FP.Core.assemble FP.Core.b64 s ((q - FP.Core.b64.qmin).toNat + 1) (c - FP.Core.b64.tails))) = _
  rw [fc_tl, fc_qm]
  by_cases h : c < 4503599627370496
  · rw [if_pos h, key 0 c (by decide) h, if_pos rfl]
    rcases h3 with h3 | h3
    · rw [h3]
    · exact absurd h3 (by omega)
  · rw [if_neg h, key ((q - -1074).toNat + 1) (c - 4503599627370496) (by omega) (by omega), if_neg (by omega)]
    rw [show 4503599627370496 + (c - 4503599627370496) = c by omega, show (-1074 + ((((q - -1074).toNat + 1 : Nat) : Int) - 1)) = q by omega]
/-- a whole number that a double can be -/
def rp (Y : Int) : Prop := ∃ c0 n0 : Nat, c0 < 2 ^ 53 ∧ (Y = ((c0 * 2 ^ n0 : Nat) : Int) ∨ Y = -((c0 * 2 ^ n0 : Nat) : Int))
/-- z is N / D rounded -/
def rd (N : Int) (D : Nat) (z : Int) : Prop := ∀ Y : Int, rp Y → (N ≤ Y * (D : Int) → z ≤ Y) ∧ (Y * (D : Int) ≤ N → Y ≤ z)
theorem fr_core (s : Bool) (A : Nat) {B : Nat} {e : Int} (hB : 0 < B) (hB2 : B < 2 ^ 53) (he : -2148 ≤ e) {K u : Nat} (hK : K ≤ 3300) (hu : u = 1226) (hle : A * 2 ^ (e + 2300).toNat ≤ B * 2 ^ K) {N : Int} {D : Nat} (hD : 0 < D)
    (hrel : N.natAbs * B * 2 ^ u = A * 2 ^ (e + 2300).toNat * D) (hs1 : N < 0 → s = true) (hs2 : 0 < N → s = false) :
    ∃ z : Int, fv (UInt64.ofNat (FP.Core.encode FP.Core.b64 (FP.Core.roundRatio FP.Core.b64 s A B e))) z ∧ rd N D z := by
  have hDi : (0 : Int) < (D : Int) := by omega
  rcases Nat.eq_zero_or_pos A with hA | hA
  · have hN : N = 0 := by
      rw [hA, Nat.zero_mul, Nat.zero_mul] at hrel
      have h1 := Nat.mul_eq_zero.mp hrel
      rcases h1 with h1 | h1
      · rcases Nat.mul_eq_zero.mp h1 with h2 | h2
        · omega
        · omega
      · exact absurd h1 (Nat.ne_of_gt (Nat.two_pow_pos u))
    refine ⟨0, ?_, ?_⟩
    · unfold FP.Core.roundRatio
      rw [if_pos hA, fc_qm]
      refine ⟨s, 0, -1074, fc_enc (by decide) (by decide) (by decide) (Or.inl rfl), by decide, by decide, by decide, ?_⟩
      cases s <;> simp [FP.Core.signed]
    · intro Y _
      rw [hN]
      refine ⟨fun h => ?_, fun h => ?_⟩
      · refine Int.not_lt.mp fun hY => ?_
        have := Int.mul_neg_of_neg_of_pos hY hDi
        omega
      · refine Int.not_lt.mp fun hY => ?_
        have := Int.mul_pos hY hDi
        omega
  · obtain ⟨c, q, h1, h2, h3, h4, h5, up, dn⟩ := rr_main s hA hB hB2 he hK hle
    have eu : ∀ n0 : Nat, 2 ^ (n0 + 1226) = 2 ^ n0 * 2 ^ u := fun n0 => by rw [hu, Nat.pow_add]
    refine ⟨FP.Core.signed s (c * 2 ^ (q + 1074).toNat), ⟨s, c, q, ?_, h2, h3, h4, rfl⟩, ?_⟩
    · rw [h1]
      exact fc_enc h2 h3 h4 h5
    · generalize c * 2 ^ (q + 1074).toNat = w at *
      have hN0 : N ≠ 0 := by
        intro h
        rw [h] at hrel
        simp only [Int.natAbs_zero, Nat.zero_mul] at hrel
        have : 0 < A * 2 ^ (e + 2300).toNat * D := Nat.mul_pos (Nat.mul_pos hA (Nat.two_pow_pos _)) hD
        omega
      have up' : ∀ c0 n0 : Nat, c0 < 2 ^ 53 → N.natAbs ≤ c0 * 2 ^ n0 * D → w ≤ c0 * 2 ^ n0 := by
        intro c0 n0 hc h
        refine up c0 n0 hc (Nat.le_of_mul_le_mul_right ?_ hD)
        rw [← hrel]
        refine Nat.le_trans (Nat.mul_le_mul_right _ (Nat.mul_le_mul_right B h)) (Nat.le_of_eq ?_)
        rw [eu]
        ac_rfl
      have dn' : ∀ c0 n0 : Nat, c0 < 2 ^ 53 → c0 * 2 ^ n0 * D ≤ N.natAbs → c0 * 2 ^ n0 ≤ w := by
        intro c0 n0 hc h
        refine dn c0 n0 hc (Nat.le_of_mul_le_mul_right ?_ hD)
        rw [← hrel]
        refine Nat.le_trans (Nat.le_of_eq ?_) (Nat.mul_le_mul_right _ (Nat.mul_le_mul_right B h))
        rw [eu]
        ac_rfl
      intro Y hY
      obtain ⟨c0, n0, hc, hy⟩ := hY
      have u := up' c0 n0 hc
      have d := dn' c0 n0 hc
      generalize c0 * 2 ^ n0 = y at *
      have hm : ((y * D : Nat) : Int) = (y : Int) * (D : Int) := by simp
      cases s
      · have hNp : 0 < N := by
          rcases Int.lt_trichotomy N 0 with h | h | h
          · exact absurd (hs1 h) (by decide)
          · exact absurd h hN0
          · exact h
        simp only [FP.Core.signed, Bool.false_eq_true, if_false]
        rcases hy with rfl | rfl
        · exact ⟨fun h => by have := u (by omega); omega, fun h => by have := d (by omega); omega⟩
        · rw [Int.neg_mul]
          exact ⟨fun h => by omega, fun h => by omega⟩
      · have hNn : N < 0 := by
          rcases Int.lt_trichotomy N 0 with h | h | h
          · exact h
          · exact absurd h hN0
          · exact absurd (hs2 h) (by decide)
        simp only [FP.Core.signed, if_true]
        rcases hy with rfl | rfl
        · exact ⟨fun h => by omega, fun h => by omega⟩
        · rw [Int.neg_mul]
          exact ⟨fun h => by have := d (by omega); omega, fun h => by have := u (by omega); omega⟩
theorem sg_abs (s : Bool) (m : Nat) : (FP.Core.signed s m).natAbs = m := by
  cases s <;> simp [FP.Core.signed]
theorem sg_lt {s : Bool} {m : Nat} (h : FP.Core.signed s m < 0) : s = true := by
  cases s
  · simp only [FP.Core.signed, Bool.false_eq_true, if_false] at h
    omega
  · rfl
theorem sg_gt {s : Bool} {m : Nat} (h : 0 < FP.Core.signed s m) : s = false := by
  cases s
  · rfl
  · simp only [FP.Core.signed, if_true] at h
    omega
theorem pow_le2 {a b : Nat} (h : a ≤ b) : 2 ^ a ≤ 2 ^ b := Nat.pow_le_pow_right (by decide) h
/-- 2^1074 -/
def one_ : Nat := 2 ^ 1074
theorem one_pow : ∃ v : Nat, v = 1074 ∧ one_ = 2 ^ v := ⟨1074, rfl, rfl⟩
theorem one_pos : 0 < one_ := by
  obtain ⟨v, -, h⟩ := one_pow
  rw [h]
  exact Nat.two_pow_pos v
theorem fr_sum {s t : Bool} {c d : Nat} {q r : Int} (h1 : -1074 ≤ q) (h2 : -1074 ≤ r) {x y : Int} (hx : x = FP.Core.signed s (c * 2 ^ (q + 1074).toNat)) (hy : y = FP.Core.signed t (d * 2 ^ (r + 1074).toNat)) {K : Nat} (hK : K ≤ 2074) (hb : (x + y).natAbs ≤ 2 ^ K) :
    ∃ z, fv (UInt64.ofNat (FP.Core.encode FP.Core.b64 (FP.Core.round FP.Core.b64 (FP.Core.exactSum (.fin s c q) (.fin t d r))))) z ∧ rd (x + y) 1 z := by
  have hv : x + y = FP.Core.sumUnits s c q t d r (min q r) * ((2 ^ (min q r + 1074).toNat : Nat) : Int) := by
    rw [hx, hy, fc_units c (q := q) (r := min q r) (by omega) (by omega), fc_units d (q := r) (r := min q r) (by omega) (by omega), fc_sgm, fc_sgm]
    unfold FP.Core.sumUnits
    rw [Int.add_mul]
  show ∃ z, fv (UInt64.ofNat (FP.Core.encode FP.Core.b64 (FP.Core.roundRatio FP.Core.b64 (FP.Core.sumSign s t (FP.Core.sumUnits s c q t d r (min q r))) (FP.Core.sumUnits s c q t d r (min q r)).natAbs 1 (min q r)))) z ∧ rd (x + y) 1 z
  generalize FP.Core.sumUnits s c q t d r (min q r) = v at *
  have hm : -1074 ≤ min q r := by omega
  generalize min q r = e at *
  obtain ⟨u, hu⟩ : ∃ u : Nat, u = 1226 := ⟨_, rfl⟩
  have ha : (x + y).natAbs = v.natAbs * 2 ^ (e + 1074).toNat := by rw [hv, Int.natAbs_mul, Int.natAbs_natCast]
  have hp : 2 ^ (e + 1074).toNat * 2 ^ u = 2 ^ (e + 2300).toNat := by
    rw [← Nat.pow_add]
    congr 1
    omega
  have hpos : (0 : Int) < ((2 ^ (e + 1074).toNat : Nat) : Int) := by
    have := Nat.two_pow_pos (e + 1074).toNat
    omega
  refine fr_core (K := K + u) (u := u) _ v.natAbs (by decide) (by decide) (by omega) (by omega) hu ?_ (by decide) ?_ ?_ ?_
  · rw [Nat.one_mul, ← hp, ← Nat.mul_assoc, ← ha, Nat.pow_add]
    exact Nat.mul_le_mul_right _ hb
  · rw [Nat.mul_one, Nat.mul_one, ha, ← hp]
    ac_rfl
  · intro hn
    have h3 : v < 0 := by
      refine Int.not_le.mp fun h => ?_
      have := Int.mul_nonneg h (Int.le_of_lt hpos)
      omega
    unfold FP.Core.sumSign
    rw [if_neg (by omega)]
    exact decide_eq_true h3
  · intro hn
    have h3 : 0 < v := by
      refine Int.not_le.mp fun h => ?_
      have := Int.mul_nonpos_of_nonpos_of_nonneg h (Int.le_of_lt hpos)
      omega
    unfold FP.Core.sumSign
    rw [if_neg (by omega)]
    exact decide_eq_false (by omega)
theorem fv_add {a b : UInt64} {x y : Int} (ha : fv a x) (hb : fv b y) {K : Nat} (hK : K ≤ 2074) (hle : (x + y).natAbs ≤ 2 ^ K) : ∃ z, fv (FP.dadd a b) z ∧ rd (x + y) 1 z := by
  obtain ⟨s, c, q, h1, -, h2, -, hx⟩ := ha
  obtain ⟨t, d, r, h3, -, h4, -, hy⟩ := hb
  have h := fr_sum h2 h4 hx hy hK hle
  rw [← h1, ← h3] at h
  exact h
theorem fv_sub {a b : UInt64} {x y : Int} (ha : fv a x) (hb : fv b y) {K : Nat} (hK : K ≤ 2074) (hle : (x - y).natAbs ≤ 2 ^ K) : ∃ z, fv (FP.dsub a b) z ∧ rd (x - y) 1 z := by
  obtain ⟨s, c, q, h1, -, h2, -, hx⟩ := ha
  obtain ⟨t, d, r, h3, -, h4, -, hy⟩ := hb
  have hy' : -y = FP.Core.signed (!t) (d * 2 ^ (r + 1074).toNat) := by
    rw [hy]
    cases t <;> simp [FP.Core.signed]
  have h := fr_sum h2 h4 hx hy' hK (by rw [← Int.sub_eq_add_neg]; exact hle)
  rw [← Int.sub_eq_add_neg, ← h1, show FP.Core.Datum.fin (!t) d r = FP.Core.negate (.fin t d r) from rfl, ← h3] at h
  exact h
theorem fv_mul {a b : UInt64} {x y : Int} (ha : fv a x) (hb : fv b y) {K : Nat} (hK : K ≤ 3148) (hle : (x * y).natAbs ≤ 2 ^ K) : ∃ z, fv (FP.dmul a b) z ∧ rd (x * y) one_ z := by
  obtain ⟨s, c, q, h1, -, h2, -, hx⟩ := ha
  obtain ⟨t, d, r, h3, -, h4, -, hy⟩ := hb
  obtain ⟨v, hv, h1v⟩ := one_pow
  obtain ⟨u, hu⟩ : ∃ u : Nat, u = 1226 := ⟨_, rfl⟩
  obtain ⟨w, hw⟩ : ∃ w : Nat, w = 152 := ⟨_, rfl⟩
  have hab : (x * y).natAbs = c * d * 2 ^ (q + r + 2148).toNat := by
    rw [Int.natAbs_mul, hx, hy, sg_abs, sg_abs, show (q + r + 2148).toNat = (q + 1074).toNat + (r + 1074).toNat by omega, Nat.pow_add]
    ac_rfl
  have e1 : FP.Core.exactProduct (fdec a) (fdec b) = .fin (s != t) (c * d) (q + r) := by rw [h1, h3]; rfl
  show ∃ z, fv (UInt64.ofNat (FP.Core.encode FP.Core.b64 (FP.Core.round FP.Core.b64 (FP.Core.exactProduct (fdec a) (fdec b))))) z ∧ rd (x * y) one_ z
  rw [e1]
  show ∃ z, fv (UInt64.ofNat (FP.Core.encode FP.Core.b64 (FP.Core.roundRatio FP.Core.b64 (s != t) (c * d) 1 (q + r)))) z ∧ rd (x * y) one_ z
  refine fr_core (K := K + w) (u := u) _ (c * d) (by decide) (by decide) (by omega) (by omega) hu ?_ one_pos ?_ ?_ ?_
  · rw [Nat.one_mul, show (q + r + 2300).toNat = (q + r + 2148).toNat + w by omega, Nat.pow_add, ← Nat.mul_assoc, ← hab, Nat.pow_add]
    exact Nat.mul_le_mul_right _ hle
  · rw [Nat.mul_one, hab, h1v, Nat.mul_assoc (c * d), Nat.mul_assoc (c * d), ← Nat.pow_add, ← Nat.pow_add, show (q + r + 2148).toNat + u = (q + r + 2300).toNat + v by omega]
  · intro hn
    rcases Int.lt_trichotomy x 0 with hx0 | hx0 | hx0
    · have hy0 : 0 < y := by
        refine Int.not_le.mp fun h => ?_
        have := Int.mul_nonneg_of_nonpos_of_nonpos (Int.le_of_lt hx0) h
        omega
      rw [sg_lt (s := s) (m := c * 2 ^ (q + 1074).toNat) (by rw [← hx]; exact hx0), sg_gt (s := t) (m := d * 2 ^ (r + 1074).toNat) (by rw [← hy]; exact hy0)]
      rfl
    · rw [hx0, Int.zero_mul] at hn
      exact absurd hn (by decide)
    · have hy0 : y < 0 := by
        refine Int.not_le.mp fun h => ?_
        have := Int.mul_nonneg (Int.le_of_lt hx0) h
        omega
      rw [sg_gt (s := s) (m := c * 2 ^ (q + 1074).toNat) (by rw [← hx]; exact hx0), sg_lt (s := t) (m := d * 2 ^ (r + 1074).toNat) (by rw [← hy]; exact hy0)]
      rfl
  · intro hn
    rcases Int.lt_trichotomy x 0 with hx0 | hx0 | hx0
    · have hy0 : y < 0 := by
        refine Int.not_le.mp fun h => ?_
        have := Int.mul_nonpos_of_nonpos_of_nonneg (Int.le_of_lt hx0) h
        omega
      rw [sg_lt (s := s) (m := c * 2 ^ (q + 1074).toNat) (by rw [← hx]; exact hx0), sg_lt (s := t) (m := d * 2 ^ (r + 1074).toNat) (by rw [← hy]; exact hy0)]
      rfl
    · rw [hx0, Int.zero_mul] at hn
      exact absurd hn (by decide)
    · have hy0 : 0 < y := by
        refine Int.not_le.mp fun h => ?_
        have := Int.mul_nonpos_of_nonneg_of_nonpos (Int.le_of_lt hx0) h
        omega
      rw [sg_gt (s := s) (m := c * 2 ^ (q + 1074).toNat) (by rw [← hx]; exact hx0), sg_gt (s := t) (m := d * 2 ^ (r + 1074).toNat) (by rw [← hy]; exact hy0)]
      rfl
theorem fv_div {a b : UInt64} {x y : Int} (ha : fv a x) (hb : fv b y) (hy0 : 0 < y) {K : Nat} (hK : K ≤ 1000) (hle : x.natAbs ≤ y.natAbs * 2 ^ K) : ∃ z, fv (FP.ddiv a b) z ∧ rd (x * (one_ : Int)) y.natAbs z := by
  obtain ⟨s, c, q, h1, -, h2, h2', hx⟩ := ha
  obtain ⟨t, d, r, h3, hd2, h4, h4', hy⟩ := hb
  obtain ⟨v, hv, h1v⟩ := one_pow
  obtain ⟨u, hu⟩ : ∃ u : Nat, u = 1226 := ⟨_, rfl⟩
  obtain ⟨w, hw⟩ : ∃ w : Nat, w = 2300 := ⟨_, rfl⟩
  have hxa : x.natAbs = c * 2 ^ (q + 1074).toNat := by rw [hx, sg_abs]
  have hya : y.natAbs = d * 2 ^ (r + 1074).toNat := by rw [hy, sg_abs]
  have hd : 0 < d := by
    rcases Nat.eq_zero_or_pos d with h | h
    · rw [h, Nat.zero_mul] at hya
      omega
    · exact h
  have ht : t = false := sg_gt (s := t) (m := d * 2 ^ (r + 1074).toNat) (by rw [← hy]; exact hy0)
  have e1 : FP.Core.quotient FP.Core.b64 (fdec a) (fdec b) = FP.Core.roundRatio FP.Core.b64 (s != t) c d (q - r) := by
    rw [h1, h3]
    show (if d = 0 then _ else _) = _
    rw [if_neg (by omega)]
  show ∃ z, fv (UInt64.ofNat (FP.Core.encode FP.Core.b64 (FP.Core.quotient FP.Core.b64 (fdec a) (fdec b)))) z ∧ rd (x * (one_ : Int)) y.natAbs z
  rw [e1, ht]
  refine fr_core (K := K + w) (u := u) _ c hd hd2 (by omega) (by omega) hu ?_ (by omega) ?_ ?_ ?_
  · refine Nat.le_of_mul_le_mul_right (c := 2 ^ (r + 1074).toNat) ?_ (Nat.two_pow_pos _)
    have h5 := Nat.mul_le_mul_right (2 ^ w) hle
    rw [hxa, hya] at h5
    have e2 : c * 2 ^ (q - r + 2300).toNat * 2 ^ (r + 1074).toNat = c * 2 ^ (q + 1074).toNat * 2 ^ w := by
      rw [Nat.mul_assoc, Nat.mul_assoc, ← Nat.pow_add, ← Nat.pow_add, show (q - r + 2300).toNat + (r + 1074).toNat = (q + 1074).toNat + w by omega]
    rw [e2]
    refine Nat.le_trans h5 (Nat.le_of_eq ?_)
    rw [Nat.pow_add]
    ac_rfl
  · rw [Int.natAbs_mul, Int.natAbs_natCast, hxa, hya, h1v]
    have e3 : 2 ^ (q + 1074).toNat * 2 ^ v * 2 ^ u = 2 ^ (q - r + 2300).toNat * 2 ^ (r + 1074).toNat := by
      rw [← Nat.pow_add, ← Nat.pow_add, ← Nat.pow_add, show (q + 1074).toNat + v + u = (q - r + 2300).toNat + (r + 1074).toNat by omega]
    calc c * 2 ^ (q + 1074).toNat * 2 ^ v * d * 2 ^ u = c * d * (2 ^ (q + 1074).toNat * 2 ^ v * 2 ^ u) := by ac_rfl
      _ = c * d * (2 ^ (q - r + 2300).toNat * 2 ^ (r + 1074).toNat) := by rw [e3]
      _ = c * 2 ^ (q - r + 2300).toNat * (d * 2 ^ (r + 1074).toNat) := by ac_rfl
  · intro hn
    have h6 : x < 0 := by
      refine Int.not_le.mp fun h => ?_
      have := Int.mul_nonneg h (show (0 : Int) ≤ (one_ : Int) by omega)
      omega
    rw [sg_lt (s := s) (m := c * 2 ^ (q + 1074).toNat) (by rw [← hx]; exact h6)]
    rfl
  · intro hn
    have h6 : 0 < x := by
      refine Int.not_le.mp fun h => ?_
      have := Int.mul_nonpos_of_nonpos_of_nonneg h (show (0 : Int) ≤ (one_ : Int) by omega)
      omega
    rw [sg_gt (s := s) (m := c * 2 ^ (q + 1074).toNat) (by rw [← hx]; exact h6)]
    rfl
end
section
/-! bounds of doubles, the program's constants, eighths -/
/-- 2^1071: an eighth -/
def e8_ : Nat := 2 ^ 1071
theorem e8_pow : ∃ v : Nat, v = 1071 ∧ e8_ = 2 ^ v := ⟨1071, rfl, rfl⟩
theorem e8_one : 8 * e8_ = one_ := by
  obtain ⟨v, hv, h⟩ := e8_pow
  obtain ⟨w, hw, h'⟩ := one_pow
  rw [h, h', show w = 3 + v by omega, Nat.pow_add]
theorem e8_pos : 0 < e8_ := by
  have := e8_one
  have := one_pos
  omega
/-- 2^1064 -/
def e10_ : Nat := 2 ^ 1064
theorem e10_pow : ∃ v : Nat, v = 1064 ∧ e10_ = 2 ^ v := ⟨1064, rfl, rfl⟩
theorem e10_one : 1024 * e10_ = one_ := by
  obtain ⟨v, hv, h⟩ := e10_pow
  obtain ⟨w, hw, h'⟩ := one_pow
  rw [h, h', show w = 10 + v by omega, Nat.pow_add]
theorem fv_rp {a : UInt64} {z : Int} (h : fv a z) : rp z := by
  obtain ⟨s, c, q, -, h1, -, -, rfl⟩ := h
  refine ⟨c, (q + 1074).toNat, h1, ?_⟩
  cases s
  · exact Or.inl rfl
  · exact Or.inr rfl
theorem rp_neg {z : Int} (h : rp z) : rp (-z) := by
  obtain ⟨c, n, h1, h2 | h2⟩ := h
  · exact ⟨c, n, h1, Or.inr (by rw [h2])⟩
  · exact ⟨c, n, h1, Or.inl (by rw [h2, Int.neg_neg])⟩
theorem rp_0 : rp 0 := ⟨0, 0, by decide, Or.inl rfl⟩
theorem rp_pow (n : Nat) : rp ((2 ^ n : Nat) : Int) := ⟨1, n, by decide, Or.inl (by rw [Nat.one_mul])⟩
theorem rp_one {M : Nat} (h : M < 2 ^ 53) : rp ((M * one_ : Nat) : Int) := by
  obtain ⟨v, -, hv⟩ := one_pow
  exact ⟨M, v, h, Or.inl (by rw [hv])⟩
theorem rp_e8 {M : Nat} (h : M < 2 ^ 53) : rp ((M * e8_ : Nat) : Int) := by
  obtain ⟨v, -, hv⟩ := e8_pow
  exact ⟨M, v, h, Or.inl (by rw [hv])⟩
theorem rp_e8i {k : Int} (h : k.natAbs < 2 ^ 53) : rp (k * (e8_ : Int)) := by
  rcases Int.natAbs_eq k with e | e
  · have := rp_e8 h
    rw [Int.natCast_mul, ← e] at this
    exact this
  · have := rp_neg (rp_e8 h)
    rw [Int.natCast_mul, ← Int.neg_mul, ← e] at this
    exact this
theorem rd_exact {N z : Int} {D : Nat} (h : rp N) (hr : rd (N * (D : Int)) D z) : z = N := Int.le_antisymm ((hr N h).1 (Int.le_refl _)) ((hr N h).2 (Int.le_refl _))
theorem rd_exact1 {N z : Int} (h : rp N) (hr : rd N 1 z) : z = N := rd_exact (D := 1) h (by rw [show N * ((1 : Nat) : Int) = N by simp]; exact hr)
theorem rd_nn {N z : Int} {D : Nat} (hr : rd N D z) (h : 0 ≤ N) : 0 ≤ z := (hr 0 rp_0).2 (by rw [Int.zero_mul]; exact h)
theorem rd_np {N z : Int} {D : Nat} (hr : rd N D z) (h : N ≤ 0) : z ≤ 0 := (hr 0 rp_0).1 (by rw [Int.zero_mul]; exact h)
/-- the magnitude of a double is at most M -/
def bnd (a : UInt64) (M : Nat) : Prop := ∃ z, fv a z ∧ z.natAbs ≤ M * one_
theorem bnd_n {a : UInt64} {M : Nat} (h : bnd a M) : vf_n64 a := by
  obtain ⟨z, h1, -⟩ := h
  exact fv_n h1
theorem bnd_le {a : UInt64} {M N : Nat} (h : bnd a M) (hMN : M ≤ N) : bnd a N := by
  obtain ⟨z, h1, h2⟩ := h
  exact ⟨z, h1, Nat.le_trans h2 (Nat.mul_le_mul_right _ hMN)⟩
theorem one_le2 {M : Nat} (h : M ≤ 2 ^ 53) : ∃ K : Nat, K = 1127 ∧ M * one_ ≤ 2 ^ K := by
  obtain ⟨v, hv, h1⟩ := one_pow
  refine ⟨53 + v, by omega, ?_⟩
  rw [h1, Nat.pow_add]
  exact Nat.mul_le_mul_right _ h
theorem rd_abs {N z : Int} {D M : Nat} (hM : M < 2 ^ 53) (hr : rd N D z) (h : N.natAbs ≤ M * one_ * D) : z.natAbs ≤ M * one_ := by
  have h1 := (hr _ (rp_one hM)).1
  have h2 := (hr _ (rp_neg (rp_one hM))).2
  rw [Int.neg_mul, ← Int.natCast_mul] at h2
  rw [← Int.natCast_mul] at h1
  generalize M * one_ * D = P at *
  generalize M * one_ = Q at *
  have h3 := h1 (by omega)
  have h4 := h2 (by omega)
  omega
theorem bnd_add {a b : UInt64} {M N : Nat} (ha : bnd a M) (hb : bnd b N) (h : M + N < 2 ^ 53) : bnd (FP.dadd a b) (M + N) := by
  obtain ⟨x, hx, bx⟩ := ha
  obtain ⟨y, hy, bY⟩ := hb
  have hs : (x + y).natAbs ≤ (M + N) * one_ := by
    rw [Nat.add_mul]
    omega
  obtain ⟨K, hK, hk⟩ := one_le2 (Nat.le_of_lt h)
  obtain ⟨z, hz, hr⟩ := fv_add hx hy (K := K) (by omega) (Nat.le_trans hs hk)
  exact ⟨z, hz, rd_abs h hr (by rw [Nat.mul_one]; exact hs)⟩
theorem bnd_sub {a b : UInt64} {M N : Nat} (ha : bnd a M) (hb : bnd b N) (h : M + N < 2 ^ 53) : bnd (FP.dsub a b) (M + N) := by
  obtain ⟨x, hx, bx⟩ := ha
  obtain ⟨y, hy, bY⟩ := hb
  have hs : (x - y).natAbs ≤ (M + N) * one_ := by
    rw [Nat.add_mul]
    omega
  obtain ⟨K, hK, hk⟩ := one_le2 (Nat.le_of_lt h)
  obtain ⟨z, hz, hr⟩ := fv_sub hx hy (K := K) (by omega) (Nat.le_trans hs hk)
  exact ⟨z, hz, rd_abs h hr (by rw [Nat.mul_one]; exact hs)⟩
theorem mul_le2 {x y : Int} {M N : Nat} (bx : x.natAbs ≤ M * one_) (bY : y.natAbs ≤ N * one_) (h : M * N < 2 ^ 53) : (x * y).natAbs ≤ M * N * one_ * one_ ∧ ∃ K : Nat, K ≤ 3148 ∧ (x * y).natAbs ≤ 2 ^ K := by
  have hs : (x * y).natAbs ≤ M * N * one_ * one_ := by
    rw [Int.natAbs_mul]
    refine Nat.le_trans (Nat.mul_le_mul bx bY) (Nat.le_of_eq ?_)
    generalize one_ = o
    ac_rfl
  obtain ⟨K, hK, hk⟩ := one_le2 (Nat.le_of_lt h)
  obtain ⟨v, hv, h1⟩ := one_pow
  refine ⟨hs, K + v, by omega, Nat.le_trans hs ?_⟩
  rw [Nat.pow_add, ← h1]
  exact Nat.mul_le_mul_right _ hk
theorem bnd_mul {a b : UInt64} {M N : Nat} (ha : bnd a M) (hb : bnd b N) (h : M * N < 2 ^ 53) : bnd (FP.dmul a b) (M * N) := by
  obtain ⟨x, hx, bx⟩ := ha
  obtain ⟨y, hy, bY⟩ := hb
  obtain ⟨hs, K, hK, hk⟩ := mul_le2 bx bY h
  obtain ⟨z, hz, hr⟩ := fv_mul hx hy (K := K) hK hk
  exact ⟨z, hz, rd_abs h hr hs⟩
theorem bnd_div {a b : UInt64} {M : Nat} {y : Int} (ha : bnd a M) (hy : fv b y) (hy8 : (e8_ : Int) ≤ y) (h : 8 * M < 2 ^ 53) : bnd (FP.ddiv a b) (8 * M) := by
  obtain ⟨x, hx, bx⟩ := ha
  have h0 := e8_pos
  have hy1 : e8_ ≤ y.natAbs := by omega
  have h2 : x.natAbs ≤ 8 * M * y.natAbs := by
    refine Nat.le_trans bx ?_
    rw [← e8_one, ← Nat.mul_assoc, Nat.mul_comm M 8]
    exact Nat.mul_le_mul_left _ hy1
  obtain ⟨z, hz, hr⟩ := fv_div hx hy (by omega) (K := 53) (by decide) (by
    refine Nat.le_trans h2 ?_
    rw [Nat.mul_comm]
    exact Nat.mul_le_mul_left _ (Nat.le_of_lt h))
  refine ⟨z, hz, rd_abs h hr ?_⟩
  rw [Int.natAbs_mul, Int.natAbs_natCast]
  refine Nat.le_trans (Nat.mul_le_mul_right _ h2) (Nat.le_of_eq ?_)
  generalize one_ = o
  ac_rfl
/-! the constants -/
theorem fv_c8 {a : UInt64} (s : Bool) (m j : Nat) (q : Int) (h : fdec a = .fin s (m * 2 ^ j) q) (hc : m * 2 ^ j < 2 ^ 53) (hq : (j : Int) + q = -3) (hq2 : -1074 ≤ q) : fv a (FP.Core.signed s (m * e8_)) := by
  refine ⟨s, m * 2 ^ j, q, h, hc, hq2, by omega, ?_⟩
  obtain ⟨v, hv, h1⟩ := e8_pow
  rw [h1, Nat.mul_assoc, ← Nat.pow_add, show j + (q + 1074).toNat = v by omega]
theorem fv_0 : fv 0 0 := by
  refine ⟨false, 0, -1074, by decide, by decide, by decide, by decide, ?_⟩
  simp [FP.Core.signed]
abbrev k_m10 : UInt64 := 13845191154443747328
abbrev k_100 : UInt64 := 4636737291354636288
abbrev k_20 : UInt64 := 4626322717216342016
abbrev k_1000 : UInt64 := 4652007308841189376
abbrev k_m1 : UInt64 := 13830554455654793216
abbrev k_8 : UInt64 := 4593671619917905920
abbrev k_half : UInt64 := 4602678819172646912
abbrev k_64 : UInt64 := 4580160821035794432
abbrev k_1024 : UInt64 := 4562146422526312448
abbrev k_256 : UInt64 := 4571153621781053440
abbrev k_512 : UInt64 := 4566650022153682944
abbrev k_nit : UInt64 := 4581005245965926400
theorem fv_m10 : fv k_m10 (-((80 * e8_ : Nat) : Int)) := fv_c8 true 80 46 (-49) (by decide) (by decide) (by decide) (by decide)
theorem fv_100 : fv k_100 ((800 * e8_ : Nat) : Int) := fv_c8 false 800 43 (-46) (by decide) (by decide) (by decide) (by decide)
theorem fv_20 : fv k_20 ((160 * e8_ : Nat) : Int) := fv_c8 false 160 45 (-48) (by decide) (by decide) (by decide) (by decide)
theorem fv_1000 : fv k_1000 ((8000 * e8_ : Nat) : Int) := fv_c8 false 8000 40 (-43) (by decide) (by decide) (by decide) (by decide)
theorem fv_m1 : fv k_m1 (-((8 * e8_ : Nat) : Int)) := fv_c8 true 8 49 (-52) (by decide) (by decide) (by decide) (by decide)
theorem fv_1 : fv FP.dconst1 ((8 * e8_ : Nat) : Int) := fv_c8 false 8 49 (-52) (by decide) (by decide) (by decide) (by decide)
theorem fv_8 : fv k_8 ((1 * e8_ : Nat) : Int) := fv_c8 false 1 52 (-55) (by decide) (by decide) (by decide) (by decide)
theorem fv_half : fv k_half ((4 * e8_ : Nat) : Int) := fv_c8 false 4 50 (-53) (by decide) (by decide) (by decide) (by decide)
/-- small constants: at least 0, at most 1 -/
theorem fv_sm {a : UInt64} (c : Nat) (q : Int) (h : fdec a = .fin false c q) (h0 : 0 < c) (hc : c < 2 ^ 53) (hq : q ≤ -53) (hq2 : -1074 ≤ q) : ∃ z, fv a z ∧ 0 < z ∧ z.natAbs ≤ 1 * one_ := by
  refine ⟨((c * 2 ^ (q + 1074).toNat : Nat) : Int), ⟨false, c, q, h, hc, hq2, by omega, rfl⟩, ?_, ?_⟩
  · have := Nat.mul_pos h0 (Nat.two_pow_pos (q + 1074).toNat)
    omega
  · obtain ⟨v, hv, h1⟩ := one_pow
    rw [h1, Int.natAbs_natCast, Nat.one_mul, show v = 53 + (v - 53) by omega, Nat.pow_add]
    exact Nat.mul_le_mul (Nat.le_of_lt hc) (pow_le2 (by omega))
theorem sm_64 : ∃ z, fv k_64 z ∧ 0 < z ∧ z.natAbs ≤ 1 * one_ := fv_sm 4503599627370496 (-58) (by decide) (by decide) (by decide) (by decide) (by decide)
theorem sm_256 : ∃ z, fv k_256 z ∧ 0 < z ∧ z.natAbs ≤ 1 * one_ := fv_sm 4503599627370496 (-60) (by decide) (by decide) (by decide) (by decide) (by decide)
theorem sm_512 : ∃ z, fv k_512 z ∧ 0 < z ∧ z.natAbs ≤ 1 * one_ := fv_sm 4503599627370496 (-61) (by decide) (by decide) (by decide) (by decide) (by decide)
theorem sm_nit : ∃ z, fv k_nit z ∧ 0 < z ∧ z.natAbs ≤ 1 * one_ := fv_sm 5348024557502464 (-58) (by decide) (by decide) (by decide) (by decide) (by decide)
theorem fv_1024 : fv k_1024 (e10_ : Int) := by
  refine ⟨false, 4503599627370496, -62, by decide, by decide, by decide, by decide, ?_⟩
  obtain ⟨v, hv, h1⟩ := e10_pow
  have : 4503599627370496 * 2 ^ ((-62 : Int) + 1074).toNat = 2 ^ v := by
    rw [show (4503599627370496 : Nat) = 2 ^ 52 by decide, ← Nat.pow_add, show 52 + ((-62 : Int) + 1074).toNat = v by omega]
  rw [this, h1]
  rfl
theorem bnd_sm {a : UInt64} (h : ∃ z, fv a z ∧ 0 < z ∧ z.natAbs ≤ 1 * one_) : bnd a 1 := by
  obtain ⟨z, h1, -, h2⟩ := h
  exact ⟨z, h1, h2⟩
theorem bnd_c1 : bnd FP.dconst1 1 := ⟨_, fv_1, by rw [Int.natAbs_natCast, e8_one]; omega⟩
theorem bnd_half : bnd k_half 1 := ⟨_, fv_half, by rw [Int.natAbs_natCast, ← e8_one]; omega⟩
/-! eighths -/
def gk (k : Int32) : UInt64 := FP.dmul (FP.i2d k) k_8
theorem fv_i2d (k : Int32) : fv (FP.i2d k) (k.toInt * (one_ : Int)) := by
  have h1 := k.toInt_lt
  have h2 := k.le_toInt
  have hk : k.toInt.natAbs < 2 ^ 53 := by omega
  obtain ⟨v, hv, h1v⟩ := one_pow
  obtain ⟨u, hu⟩ : ∃ u : Nat, u = 1226 := ⟨_, rfl⟩
  have hrp : rp (k.toInt * (one_ : Int)) := by
    rcases Int.natAbs_eq k.toInt with e | e
    · have := rp_one hk
      rw [Int.natCast_mul, ← e] at this
      exact this
    · have := rp_neg (rp_one hk)
      rw [Int.natCast_mul, ← Int.neg_mul, ← e] at this
      exact this
  have ho := one_pos
  obtain ⟨z, hz, hr⟩ := fr_core (K := 53 + v + u) (u := u) (decide (k.toInt < 0)) k.toInt.natAbs (B := 1) (e := 0) (by decide) (by decide) (by decide) (by omega) hu (by
    rw [Nat.one_mul, show ((0 : Int) + 2300).toNat = v + u by omega, Nat.add_assoc, Nat.pow_add 2 53]
    exact Nat.mul_le_mul_right _ (Nat.le_of_lt hk)) (N := k.toInt * (one_ : Int)) (D := 1) (by decide) (by
    rw [Int.natAbs_mul, Int.natAbs_natCast, Nat.mul_one, Nat.mul_one, show ((0 : Int) + 2300).toNat = v + u by omega, Nat.pow_add, h1v, Nat.mul_assoc]) (by
    intro h
    refine decide_eq_true (Int.not_le.mp fun h3 => ?_)
    have := Int.mul_nonneg h3 (show (0 : Int) ≤ (one_ : Int) by omega)
    omega) (by
    intro h
    refine decide_eq_false (fun h3 => ?_)
    have := Int.mul_nonpos_of_nonpos_of_nonneg (Int.le_of_lt h3) (show (0 : Int) ≤ (one_ : Int) by omega)
    omega)
  rw [rd_exact1 hrp hr] at hz
  exact hz
theorem fv_gk (k : Int32) : fv (gk k) (k.toInt * (e8_ : Int)) := by
  have h1 := k.toInt_lt
  have h2 := k.le_toInt
  have hk : k.toInt.natAbs < 2 ^ 53 := by omega
  have h8 : ((1 * e8_ : Nat) : Int).natAbs ≤ 1 * one_ := by
    rw [Int.natAbs_natCast, ← e8_one]
    omega
  have hi : (k.toInt * (one_ : Int)).natAbs ≤ 2 ^ 31 * one_ := by
    rw [Int.natAbs_mul, Int.natAbs_natCast]
    exact Nat.mul_le_mul_right _ (by omega)
  obtain ⟨-, K, hK, hk2⟩ := mul_le2 hi h8 (by decide)
  obtain ⟨z, hz, hr⟩ := fv_mul (fv_i2d k) fv_8 (K := K) hK hk2
  have e : k.toInt * (one_ : Int) * ((1 * e8_ : Nat) : Int) = k.toInt * (e8_ : Int) * (one_ : Int) := by
    rw [Nat.one_mul, Int.mul_assoc, Int.mul_assoc, Int.mul_comm (one_ : Int)]
  rw [e] at hr
  rw [rd_exact (rp_e8i hk) hr] at hz
  exact hz
theorem n_gk (k : Int32) : vf_n64 (gk k) := fv_n (fv_gk k)
theorem fv_uniq {a : UInt64} {x y : Int} (h1 : fv a x) (h2 : fv a y) : x = y := by
  obtain ⟨s, c, q, e1, -, -, -, rfl⟩ := h1
  obtain ⟨s', c', q', e2, -, -, -, rfl⟩ := h2
  rw [e1] at e2
  cases e2
  rfl
theorem e8_inj {j k : Int} (h : j * (e8_ : Int) = k * (e8_ : Int)) : j = k := by
  have := e8_pos
  exact Int.eq_of_mul_eq_mul_right (by omega) h
theorem gk_inj {j k : Int32} {x : Int} (h1 : fv (gk j) x) (h2 : fv (gk k) x) : j = k := by
  have e1 := fv_uniq (fv_gk j) h1
  have e2 := fv_uniq (fv_gk k) h2
  exact Int32.toInt_inj.mp (e8_inj (e1.trans e2.symm))
/-! the range test -/
def gr_in (v lo hi : UInt64) : Int32 := if Op.cmpValue (FP.dcmp v lo) .l < 0 then 0 else if 0 < Op.cmpValue (FP.dcmp v hi) .g then 0 else 1
theorem gr_in_01 (v lo hi : UInt64) : gr_in v lo hi = 0 ∨ gr_in v lo hi = 1 := by
  unfold gr_in
  split
  · exact Or.inl rfl
  · split
    · exact Or.inl rfl
    · exact Or.inr rfl
theorem gr_in_nar (v lo hi : UInt64) : narrow .boolean (.int (gr_in v lo hi)) = .int (gr_in v lo hi) := by
  rcases gr_in_01 v lo hi with h | h <;> rw [h] <;> rfl
theorem gr_in_iff {v lo hi : UInt64} {x a b : Int} (hv : fv v x) (ha : fv lo a) (hb : fv hi b) : gr_in v lo hi ≠ 0 ↔ a ≤ x ∧ x ≤ b := by
  unfold gr_in
  by_cases h1 : Op.cmpValue (FP.dcmp v lo) .l < 0
  · rw [if_pos h1]
    rw [cv_lt hv ha] at h1
    exact ⟨fun h => absurd rfl h, fun h => by omega⟩
  · rw [if_neg h1]
    rw [cv_lt hv ha] at h1
    by_cases h2 : 0 < Op.cmpValue (FP.dcmp v hi) .g
    · rw [if_pos h2]
      rw [cv_gt hv hb] at h2
      exact ⟨fun h => absurd rfl h, fun h => by omega⟩
    · rw [if_neg h2]
      rw [cv_gt hv hb] at h2
      exact ⟨fun _ => by omega, fun _ => by decide⟩
/-! after: one step keeps the magnitude -/
def af_step (e g : UInt64) : UInt64 := FP.dadd g (FP.dmul (FP.dsub e g) k_1024)
theorem af_num {v zd zt : Int} (hv : 0 ≤ v) (h1 : rd v 1 zd) (h2 : rd (zd * (e10_ : Int)) one_ zt) : 0 ≤ zt ∧ zt ≤ v ∧ 0 ≤ zd := by
  have ho := e10_one
  have h10 : (0 : Int) ≤ (e10_ : Int) := by omega
  have d0 := rd_nn h1 hv
  have t0 := rd_nn h2 (Int.mul_nonneg d0 h10)
  refine ⟨t0, ?_, d0⟩
  rcases Int.lt_or_eq_of_le hv with hp | hp
  · have n0 : v.toNat ≠ 0 := by omega
    have a1 : 2 ^ v.toNat.log2 ≤ v.toNat := Nat.log2_self_le n0
    have a2 : v.toNat < 2 ^ (v.toNat.log2 + 1) := Nat.lt_log2_self
    generalize v.toNat.log2 = j at *
    have d1 := (h1 _ (rp_pow (j + 1))).1 (by omega)
    have t1 := (h2 _ (rp_pow j)).1
    have hle : zd * (e10_ : Int) ≤ ((2 ^ j : Nat) : Int) * (one_ : Int) := by
      have e : ((2 ^ j : Nat) : Int) * (one_ : Int) = ((2 ^ j * 1024 : Nat) : Int) * (e10_ : Int) := by
        rw [← ho, Int.natCast_mul, Int.natCast_mul, ← Int.mul_assoc]
      rw [e]
      refine Int.mul_le_mul_of_nonneg_right ?_ h10
      rw [Nat.pow_succ] at d1
      omega
    have := t1 hle
    omega
  · have d1 := rd_np h1 (by omega)
    have hz : zd = 0 := by omega
    rw [hz, Int.zero_mul] at h2
    have := rd_np h2 (Int.le_refl 0)
    omega
theorem rd_neg {N z : Int} {D : Nat} (h : rd N D z) : rd (-N) D (-z) := by
  intro Y hY
  obtain ⟨h1, h2⟩ := h (-Y) (rp_neg hY)
  rw [Int.neg_mul] at h1 h2
  exact ⟨fun h => by have := h2 (by omega); omega, fun h => by have := h1 (by omega); omega⟩
theorem af_ok {e g : UInt64} {M : Nat} (hM : 2 * M < 2 ^ 53) (he : bnd e M) (hg : bnd g M) : vf_n64 (FP.dsub e g) ∧ vf_n64 (FP.dmul (FP.dsub e g) k_1024) ∧ vf_n64 (af_step e g) ∧ bnd (af_step e g) M := by
  obtain ⟨x, hx, bx⟩ := he
  obtain ⟨y, hy, bY⟩ := hg
  have ho := e10_one
  have hs : (x - y).natAbs ≤ 2 * M * one_ := by
    rw [show 2 * M = M + M by omega, Nat.add_mul]
    omega
  obtain ⟨K, hK, hk⟩ := one_le2 (Nat.le_of_lt hM)
  obtain ⟨zd, fd, rd1⟩ := fv_sub hx hy (K := K) (by omega) (Nat.le_trans hs hk)
  have bd : zd.natAbs ≤ 2 * M * one_ := rd_abs hM rd1 (by rw [Nat.mul_one]; exact hs)
  have b10 : (e10_ : Int).natAbs ≤ 1 * one_ := by
    rw [Int.natAbs_natCast, ← ho]
    omega
  obtain ⟨-, K2, hK2, hk2⟩ := mul_le2 bd b10 (by omega)
  obtain ⟨zt, ft, rd2⟩ := fv_mul fd fv_1024 (K := K2) hK2 hk2
  have key : (y + zt).natAbs ≤ M * one_ := by
    generalize M * one_ = Q at *
    rcases Int.le_total 0 (x - y) with h | h
    · obtain ⟨a, b, -⟩ := af_num h rd1 rd2
      omega
    · have r2 := rd_neg rd2
      rw [← Int.neg_mul] at r2
      obtain ⟨a, b, -⟩ := af_num (by omega) (rd_neg rd1) r2
      omega
  obtain ⟨K3, hK3, hk3⟩ := one_le2 (M := M) (by omega)
  obtain ⟨zs, fs, rd3⟩ := fv_add hy ft (K := K3) (by omega) (Nat.le_trans key hk3)
  exact ⟨fv_n fd, fv_n ft, fv_n fs, zs, fs, rd_abs (by omega) rd3 (by rw [Nat.mul_one]; exact key)⟩
/-! joining -/
def gr_join (xp yp xn yn x : UInt64) : UInt64 := FP.dadd yp (FP.ddiv (FP.dmul (FP.dsub yn yp) (FP.dsub x xp)) (FP.dsub xn xp))
def gr_jok (xp yp xn yn x : UInt64) : Prop := vf_n64 (FP.dsub yn yp) ∧ vf_n64 (FP.dsub x xp) ∧ vf_n64 (FP.dmul (FP.dsub yn yp) (FP.dsub x xp)) ∧ vf_n64 (FP.dsub xn xp) ∧ vf_n64 (FP.ddiv (FP.dmul (FP.dsub yn yp) (FP.dsub x xp)) (FP.dsub xn xp)) ∧ vf_n64 (gr_join xp yp xn yn x)
theorem join_ok {xp yp xn yn x : UInt64} {M : Nat} (hM : 3201 * M < 2 ^ 53) (hx : bnd x 100) (hp : bnd xp 100) (hn : bnd xn 100) (hyp : bnd yp M) (hyn : bnd yn M) {a b : Int} (fa : fv xp a) (fb : fv xn b) (hab : a + (e8_ : Int) ≤ b) : gr_jok xp yp xn yn x ∧ bnd (gr_join xp yp xn yn x) (3201 * M) := by
  have h1 := bnd_sub hyn hyp (by omega)
  have h2 := bnd_sub hx hp (by decide)
  have h3 := bnd_mul h1 h2 (by omega)
  have h4 : ∃ z, fv (FP.dsub xn xp) z ∧ (e8_ : Int) ≤ z := by
    obtain ⟨za, f1, b1⟩ := hp
    obtain ⟨zb, f2, b2⟩ := hn
    rw [fv_uniq f1 fa] at b1
    rw [fv_uniq f2 fb] at b2
    obtain ⟨K, hK, hk⟩ := one_le2 (M := 200) (by decide)
    obtain ⟨z, fz, rz⟩ := fv_sub fb fa (K := K) (by omega) (by omega)
    refine ⟨z, fz, ?_⟩
    have := (rz _ (rp_e8 (M := 1) (by decide))).2
    rw [Nat.one_mul] at this
    exact this (by simp; omega)
  obtain ⟨z, fz, hz⟩ := h4
  have h5 := bnd_div h3 fz hz (by omega)
  have h6 := bnd_add hyp h5 (by omega)
  exact ⟨⟨bnd_n h1, bnd_n h2, bnd_n h3, fv_n fz, bnd_n h5, bnd_n h6⟩, bnd_le h6 (by omega)⟩
end
section
/-! what the methods reckon, without the heap: foam, fill, mixed -/
def fin_ (a : UInt64) : Prop := ∃ z, fv a z
theorem fin_gk (k : Int32) : fin_ (gk k) := ⟨_, fv_gk k⟩
theorem fv_d0 : fv FP.dconst0 0 := fv_0
/-- in the range, a bound in whole numbers -/
theorem in_bnd {v lo hi : UInt64} {a b : Int} {M : Nat} (hv : fin_ v) (ha : fv lo a) (hb : fv hi b) (h : ¬ gr_in v lo hi = 0) (h1 : -((M * one_ : Nat) : Int) ≤ a) (h2 : b ≤ ((M * one_ : Nat) : Int)) : ∃ z, fv v z ∧ a ≤ z ∧ z ≤ b ∧ z.natAbs ≤ M * one_ := by
  obtain ⟨z, hz⟩ := hv
  obtain ⟨h3, h4⟩ := (gr_in_iff hz ha hb).mp h
  exact ⟨z, hz, h3, h4, by omega⟩
theorem in_gas {v : UInt64} (hv : fin_ v) (h : ¬ gr_in v FP.dconst0 k_100 = 0) : ∃ z, fv v z ∧ 0 ≤ z ∧ z.natAbs ≤ 100 * one_ := by
  obtain ⟨z, h1, h2, -, h4⟩ := in_bnd (M := 100) hv fv_d0 fv_100 h (by omega) (by rw [← e8_one]; omega)
  exact ⟨z, h1, h2, h4⟩
theorem in_bar {v : UInt64} (hv : fin_ v) (h : ¬ gr_in v FP.dconst0 k_20 = 0) : ∃ z, fv v z ∧ 0 ≤ z ∧ z.natAbs ≤ 20 * one_ := by
  obtain ⟨z, h1, h2, -, h4⟩ := in_bnd (M := 20) hv fv_d0 fv_20 h (by omega) (by rw [← e8_one]; omega)
  exact ⟨z, h1, h2, h4⟩
theorem in_deg {v : UInt64} (hv : fin_ v) (h : ¬ gr_in v k_m10 k_100 = 0) : ∃ z, fv v z ∧ z.natAbs ≤ 100 * one_ := by
  obtain ⟨z, h1, -, -, h4⟩ := in_bnd (M := 100) hv fv_m10 fv_100 h (by rw [← e8_one]; omega) (by rw [← e8_one]; omega)
  exact ⟨z, h1, h4⟩
theorem in_1000 {v : UInt64} (hv : fin_ v) (h : ¬ gr_in v FP.dconst0 k_1000 = 0) : ∃ z, fv v z ∧ 0 ≤ z ∧ z.natAbs ≤ 1000 * one_ := by
  obtain ⟨z, h1, h2, -, h4⟩ := in_bnd (M := 1000) hv fv_d0 fv_1000 h (by omega) (by rw [← e8_one]; omega)
  exact ⟨z, h1, h2, h4⟩
theorem in_1 {v : UInt64} (hv : fin_ v) (h : ¬ gr_in v FP.dconst0 FP.dconst1 = 0) : ∃ z, fv v z ∧ 0 ≤ z ∧ z ≤ (one_ : Int) := by
  obtain ⟨z, h1, h2, h3, -⟩ := in_bnd (M := 1) hv fv_d0 fv_1 h (by omega) (by rw [← e8_one]; omega)
  exact ⟨z, h1, h2, by rw [e8_one] at h3; exact h3⟩
/-! products and sums of what isn't negative aren't -/
theorem mul_nn {a b : UInt64} {x y : Int} {M N : Nat} (ha : fv a x) (hb : fv b y) (hx : 0 ≤ x) (hy : 0 ≤ y) (bx : x.natAbs ≤ M * one_) (bY : y.natAbs ≤ N * one_) (h : M * N < 2 ^ 53) : ∃ z, fv (FP.dmul a b) z ∧ 0 ≤ z ∧ z.natAbs ≤ M * N * one_ := by
  obtain ⟨hs, K, hK, hk⟩ := mul_le2 bx bY h
  obtain ⟨z, hz, hr⟩ := fv_mul ha hb (K := K) hK hk
  exact ⟨z, hz, rd_nn hr (Int.mul_nonneg hx hy), rd_abs h hr hs⟩
theorem add_nn {a b : UInt64} {x y : Int} {M N : Nat} (ha : fv a x) (hb : fv b y) (hx : 0 ≤ x) (hy : 0 ≤ y) (bx : x.natAbs ≤ M * one_) (bY : y.natAbs ≤ N * one_) (h : M + N < 2 ^ 53) : ∃ z, fv (FP.dadd a b) z ∧ 0 ≤ z ∧ z.natAbs ≤ (M + N) * one_ ∧ rd (x + y) 1 z := by
  have hs : (x + y).natAbs ≤ (M + N) * one_ := by
    rw [Nat.add_mul]
    omega
  obtain ⟨K, hK, hk⟩ := one_le2 (Nat.le_of_lt h)
  obtain ⟨z, hz, hr⟩ := fv_add ha hb (K := K) (by omega) (Nat.le_trans hs hk)
  exact ⟨z, hz, rd_nn hr (by omega), rd_abs h hr (by rw [Nat.mul_one]; exact hs), hr⟩
/-! foam -/
def fo_w (h : UInt64) : UInt64 := FP.dadd (FP.dmul h k_256) k_512
def fo_step (h : UInt64) : UInt64 := if 0 ≤ Op.cmpValue (FP.dcmp (FP.dsub h (fo_w h)) FP.dconst0) .g then FP.dsub h (fo_w h) else FP.dconst0
def fo_m : Nat → UInt64 → UInt64
  | 0, h => h
  | n + 1, h => fo_m n (fo_step h)
def fo_x : Nat → UInt64 → UInt64
  | 0, h => h
  | n + 1, h => if Op.cmpValue (FP.dcmp h FP.dconst0) .l ≤ 0 then h else fo_x n (fo_step h)
def fo_I (h : UInt64) : Prop := ∃ z, fv h z ∧ 0 ≤ z ∧ z.natAbs ≤ 1000 * one_
theorem fo_ok {h : UInt64} (hI : fo_I h) : vf_n64 (FP.dmul h k_256) ∧ vf_n64 (fo_w h) ∧ vf_n64 (FP.dsub h (fo_w h)) ∧ fo_I (fo_step h) ∧ (fv h 0 → fo_step h = FP.dconst0) := by
  obtain ⟨z, hz, h0, hb⟩ := hI
  obtain ⟨c, hc, c0, cb⟩ := sm_256
  obtain ⟨d, hd, d0, db⟩ := sm_512
  obtain ⟨p, hp, p0, pb⟩ := mul_nn hz hc h0 (Int.le_of_lt c0) hb cb (by decide)
  obtain ⟨w, hw, w0, wb, rw1⟩ := add_nn hp hd p0 (Int.le_of_lt d0) pb db (by decide)
  have hdw : d ≤ w := (rw1 d (fv_rp hd)).2 (by simp; omega)
  have hs : (z - w).natAbs ≤ 2001 * one_ := by omega
  obtain ⟨K, hK, hk⟩ := one_le2 (M := 2001) (by decide)
  obtain ⟨u, hu, ru⟩ := fv_sub hz hw (K := K) (by omega) (Nat.le_trans hs hk)
  have hule : u ≤ ((1000 * one_ : Nat) : Int) := (ru _ (rp_one (by decide))).1 (by simp; omega)
  refine ⟨fv_n hp, fv_n hw, fv_n hu, ?_, ?_⟩
  · unfold fo_step
    have hg := cv_ge hu fv_d0 .g
    by_cases h5 : 0 ≤ Op.cmpValue (FP.dcmp (FP.dsub h (fo_w h)) FP.dconst0) .g
    · rw [if_pos h5]
      exact ⟨u, hu, hg.mp h5, by have := hg.mp h5; omega⟩
    · rw [if_neg h5]
      exact ⟨0, fv_d0, Int.le_refl 0, by omega⟩
  · intro hz0
    have e0 : z = 0 := fv_uniq hz hz0
    unfold fo_step
    have hg := cv_ge hu fv_d0 .g
    rw [if_neg]
    intro h5
    have h6 := hg.mp h5
    have h7 : u = z - w := rd_exact1 (by rw [e0, Int.zero_sub]; exact rp_neg (fv_rp hw)) ru
    omega
theorem fo_m0 : ∀ (n : Nat) (h : UInt64), fv h 0 → fv (fo_m n h) 0 := by
  intro n
  induction n with
  | zero => intro h hh; exact hh
  | succ n ih =>
    intro h hh
    show fv (fo_m n (fo_step h)) 0
    refine ih _ ?_
    rw [(fo_ok ⟨0, hh, Int.le_refl 0, by omega⟩).2.2.2.2 hh]
    exact fv_d0
theorem fo_eq : ∀ (n : Nat) (h : UInt64), fo_I h → ∃ z, fv (fo_x n h) z ∧ fv (fo_m n h) z := by
  intro n
  induction n with
  | zero => intro h hI; obtain ⟨z, hz, -⟩ := hI; exact ⟨z, hz, hz⟩
  | succ n ih =>
    intro h hI
    show ∃ z, fv (if Op.cmpValue (FP.dcmp h FP.dconst0) .l ≤ 0 then h else fo_x n (fo_step h)) z ∧ fv (fo_m n (fo_step h)) z
    by_cases h1 : Op.cmpValue (FP.dcmp h FP.dconst0) .l ≤ 0
    · rw [if_pos h1]
      obtain ⟨z, hz, h0, hb⟩ := hI
      have e0 : z = 0 := by
        have := (cv_le hz fv_d0 .l).mp h1
        omega
      rw [e0] at hz
      exact ⟨0, hz, fo_m0 (n + 1) h hz⟩
    · rw [if_neg h1]
      exact ih _ (fo_ok hI).2.2.2.1
/-! fill -/
def fi_val (g s : UInt64) : UInt64 := FP.dsub g (FP.ddiv (FP.dmul g (FP.dmul s k_64)) (FP.dadd FP.dconst1 (FP.dmul s k_64)))
theorem fi_ok {g s : UInt64} (hg : fin_ g) (hs : fin_ s) (h1 : ¬ gr_in g FP.dconst0 k_100 = 0) (h2 : ¬ gr_in s FP.dconst0 k_1000 = 0) : vf_n64 (FP.dmul s k_64) ∧ vf_n64 (FP.dmul g (FP.dmul s k_64)) ∧ vf_n64 (FP.dadd FP.dconst1 (FP.dmul s k_64)) ∧ vf_n64 (FP.ddiv (FP.dmul g (FP.dmul s k_64)) (FP.dadd FP.dconst1 (FP.dmul s k_64))) ∧ vf_n64 (fi_val g s) ∧ fin_ (fi_val g s) := by
  obtain ⟨x, hx, x0, bx⟩ := in_gas hg h1
  obtain ⟨y, hy, y0, bY⟩ := in_1000 hs h2
  obtain ⟨c, hc, c0, cb⟩ := sm_64
  obtain ⟨p, hp, p0, pb⟩ := mul_nn hy hc y0 (Int.le_of_lt c0) bY cb (by decide)
  obtain ⟨q, hq, q0, qb⟩ := mul_nn hx hp x0 p0 bx pb (by decide)
  obtain ⟨r, hr, r0, rb, rr⟩ := add_nn fv_1 hp (by omega) p0 (M := 1) (by rw [Int.natAbs_natCast, e8_one]; omega) pb (by decide)
  have hr8 : (e8_ : Int) ≤ r := by
    have := (rr _ (fv_rp fv_1)).2 (by simp; omega)
    omega
  have h3 := bnd_div ⟨q, hq, qb⟩ hr hr8 (by decide)
  have h4 := bnd_sub ⟨x, hx, bx⟩ h3 (by decide)
  obtain ⟨z, hz, -⟩ := h4
  exact ⟨fv_n hp, fv_n hq, fv_n hr, bnd_n h3, fv_n hz, z, hz⟩
/-! mixed -/
def mi_bar (bar nit : UInt64) : UInt64 := FP.dmul bar (FP.dsub FP.dconst1 nit)
def mi_val (bar nit : UInt64) : UInt64 := FP.dmul (FP.dmul bar nit) k_nit
theorem mi_ok {nit bar : UInt64} (hn : fin_ nit) (hb : fin_ bar) (h1 : ¬ gr_in nit FP.dconst0 FP.dconst1 = 0) (h2 : ¬ gr_in bar FP.dconst0 k_20 = 0) : vf_n64 (FP.dsub FP.dconst1 nit) ∧ vf_n64 (mi_bar bar nit) ∧ bnd (mi_bar bar nit) 100 ∧ vf_n64 (FP.dmul bar nit) ∧ vf_n64 (mi_val bar nit) ∧ vf_n64 (FP.dmul (mi_val bar nit) k_half) ∧ fin_ (mi_val bar nit) ∧ fin_ (FP.dmul (mi_val bar nit) k_half) := by
  obtain ⟨x, hx, x0, x1⟩ := in_1 hn h1
  obtain ⟨y, hy, y0, bY⟩ := in_bar hb h2
  have bx : x.natAbs ≤ 1 * one_ := by omega
  have h3 := bnd_sub bnd_c1 ⟨x, hx, bx⟩ (by decide)
  have h4 := bnd_mul ⟨y, hy, bY⟩ h3 (by decide)
  have h5 := bnd_mul ⟨y, hy, bY⟩ ⟨x, hx, bx⟩ (by decide)
  have h6 := bnd_mul h5 (bnd_sm sm_nit) (by decide)
  have h7 := bnd_mul h6 bnd_half (by decide)
  exact ⟨bnd_n h3, bnd_n h4, bnd_le h4 (by decide), bnd_n h5, bnd_n h6, bnd_n h7, h6.elim (fun z h => ⟨z, h.1⟩), h7.elim (fun z h => ⟨z, h.1⟩)⟩
end
section
/-! the static helpers -/
def gr_place (d b : UInt64) : Int32 := if gr_in d k_m10 k_100 = 0 then 0 else if gr_in b FP.dconst0 k_20 = 0 then 0 else 1
theorem gr_place_iff {d b : UInt64} : ¬ gr_place d b = 0 ↔ ¬ gr_in d k_m10 k_100 = 0 ∧ ¬ gr_in b FP.dconst0 k_20 = 0 := by
  unfold gr_place
  by_cases h1 : gr_in d k_m10 k_100 = 0
  · rw [if_pos h1]; exact ⟨fun h => absurd rfl h, fun h => absurd h1 h.1⟩
  · rw [if_neg h1]
    by_cases h2 : gr_in b FP.dconst0 k_20 = 0
    · rw [if_pos h2]; exact ⟨fun h => absurd rfl h, fun h => absurd h2 h.2⟩
    · rw [if_neg h2]; exact ⟨fun _ => ⟨h1, h2⟩, fun _ => by decide⟩
def gr_time (t : Int32) : Int32 := if t < 0 then 0 else if 100000 < t then 0 else 1
def gr_part (a b : Int64) : Int32 := if lg_cmp a 1 < 0 then 0 else if 0 < lg_cmp a 1000000 then 0 else if lg_cmp b 1 < 0 then 0 else if 0 < lg_cmp b 1000000 then 0 else 1
set_option maxHeartbeats 4000000 in
set_option maxRecDepth 100000 in
/-- GasRows.isWithin -/
theorem m_X0_isWithin (l : Launch) (v lo hi : UInt64) : Met l yX0_isWithin (ws_ yX0_isWithin cX0_isWithin 6 (some .boolean)) ({ frames := 0, cells := 0, slots := 0, locals := 0 }) (va_Pc [.double v, .double lo, .double hi] (fun _ => True)) (vp_Si (fun r => r = gr_in v lo hi)) 0 0 (fun _ => False) := by
  refine Met.ofW (cc := cX0_isWithin) (maxL := 6) (ret := (some .boolean)) (by decide) rfl ?_
  intro p e s m args below meth c s₁ B hml hv
  obtain ⟨rfl, hU⟩ := hv
  have hx := B.exec
  have hb := B.bytes
  have hr := B.returns
  have hts := atoms_spec (ws := ws_ yX0_isWithin cX0_isWithin 6 (some .boolean)) B.pre
  have hts : ∀ w ∈ lw_all, w.before _ s = true := fun w h => hts w (List.mem_cons_of_mem _ h)
  have hown : s.vm.findClass RX0 = some m.cls := findClass_of_methodNamed B.named
  have hlocks := B.notSynchronized
  have hl := lv_entry ([.double v, .double lo, .double hi]) (n := 6) (Nat.le_of_ble_eq_true rfl)
  rw [lg_entry_eq]
  generalize (lg_sl ([.double v, .double lo, .double hi]) ++ List.replicate (6 - (lg_sl ([.double v, .double lo, .double hi])).length) Slot.unset).toArray = ls at hl ⊢
  have hl : lv_has ls 6 [(0, .double v), (2, .double lo), (4, .double hi)] := hl
  refine lv_dload_n hx hb dX0_isWithin_0 rfl (lv_at hl 0 rfl) ?_
  refine lv_dload_n hx hb dX0_isWithin_1 rfl (lv_at hl 1 rfl) ?_
  refine lv_dcmp hx hb dX0_isWithin_2 ?_
  refine lv_if_lt (tgt := 17) hx hb dX0_isWithin_3 (by decide) (fun c_1 => ?_) (fun c_1 => ?_)
  · refine lv_iconst (v := 0) hx hb dX0_isWithin_17 (by decide) ?_
    exact W.zret (v := 0) hx hb hr rfl (fun t ht hW => ⟨0, rfl, by rw [gr_in, if_pos c_1], ht⟩) (fun _ h => nomatch h) dX0_isWithin_18
  · refine lv_dload_n hx hb dX0_isWithin_6 rfl (lv_at hl 0 rfl) ?_
    refine lv_dload hx hb dX0_isWithin_7 (lv_at hl 2 rfl) ?_
    refine lv_dcmp hx hb dX0_isWithin_9 ?_
    refine lv_if_gt (tgt := 17) hx hb dX0_isWithin_10 (by decide) (fun c_2 => ?_) (fun c_2 => ?_)
    · refine lv_iconst (v := 0) hx hb dX0_isWithin_17 (by decide) ?_
      exact W.zret (v := 0) hx hb hr rfl (fun t ht hW => ⟨0, rfl, by rw [gr_in, if_neg c_1, if_pos c_2], ht⟩) (fun _ h => nomatch h) dX0_isWithin_18
    · refine lv_iconst (v := 1) hx hb dX0_isWithin_13 (by decide) ?_
      refine lv_goto (tgt := 18) hx hb dX0_isWithin_14 (by decide) ?_
      exact W.zret (v := 1) hx hb hr rfl (fun t ht hW => ⟨1, rfl, by rw [gr_in, if_neg c_1, if_neg c_2], ht⟩) (fun _ h => nomatch h) dX0_isWithin_18

set_option maxHeartbeats 4000000 in
set_option maxRecDepth 100000 in
/-- GasRows.isPlace -/
theorem m_X0_isPlace (l : Launch) (d b : UInt64) : Met l yX0_isPlace (ws_ yX0_isPlace cX0_isPlace 4 (some .boolean)) ({ frames := 1, cells := 0, slots := 0, locals := 25 }) (va_Pc [.double d, .double b] (fun _ => True)) (vp_Si (fun r => r = gr_place d b)) 0 0 (fun _ => False) := by
  refine Met.ofW (cc := cX0_isPlace) (maxL := 4) (ret := (some .boolean)) (by decide) rfl ?_
  intro p e s m args below meth c s₁ B hml hv
  obtain ⟨rfl, hU⟩ := hv
  have hx := B.exec
  have hb := B.bytes
  have hr := B.returns
  have hts := atoms_spec (ws := ws_ yX0_isPlace cX0_isPlace 4 (some .boolean)) B.pre
  have hts : ∀ w ∈ lw_all, w.before _ s = true := fun w h => hts w (List.mem_cons_of_mem _ h)
  have hown : s.vm.findClass RX0 = some m.cls := findClass_of_methodNamed B.named
  have hlocks := B.notSynchronized
  have hl := lv_entry ([.double d, .double b]) (n := 4) (Nat.le_of_ble_eq_true rfl)
  rw [lg_entry_eq]
  generalize (lg_sl ([.double d, .double b]) ++ List.replicate (4 - (lg_sl ([.double d, .double b])).length) Slot.unset).toArray = ls at hl ⊢
  have hl : lv_has ls 4 [(0, .double d), (2, .double b)] := hl
  refine lv_dload_n hx hb dX0_isPlace_0 rfl (lv_at hl 0 rfl) ?_
  refine lv_ldc2d (own := RX0) (v := k_m10) hx hb hown (hts _ q32) dX0_isPlace_1 ?_
  refine lv_ldc2d (own := RX0) (v := k_100) hx hb hown (hts _ q33) dX0_isPlace_4 ?_
  refine vp_callSi (va_Run.run (va_runS (As := [.double d, .double k_m10, .double k_100]) (rest := []) ⟨hx, hb, hml, hown, hts⟩ (m_X0_isWithin l d k_m10 k_100) (va_cwS 3 hts (lw_S q34 q35 q6 q36) rfl rfl rfl (by decide +kernel) ⟨Nat.le_of_ble_eq_true rfl, Nat.le_of_ble_eq_true rfl⟩) ⟨fun _ _ _ _ q => q, fun U hU hW => ⟨rfl, trivial⟩⟩ rfl rfl hl.1 rfl (lv_room (Nat.le_of_ble_eq_true rfl)) dX0_isPlace_7 ⟨Nat.le_of_ble_eq_true rfl, Nat.le_of_ble_eq_true rfl⟩)) (fun r_1 hr_1 => ?_)
  subst hr_1
  refine lv_if_eq (tgt := 28) hx hb dX0_isPlace_10 (by decide) (fun c_2 => ?_) (fun c_2 => ?_)
  · refine lv_iconst (v := 0) hx hb dX0_isPlace_28 (by decide) ?_
    exact W.zret (v := 0) hx hb hr rfl (fun t ht hW => ⟨0, rfl, by rw [gr_place, if_pos c_2], ht⟩) (fun _ h => nomatch h) dX0_isPlace_29
  · refine lv_dload_n hx hb dX0_isPlace_13 rfl (lv_at hl 1 rfl) ?_
    refine lv_dconst0 hx hb dX0_isPlace_14 ?_
    refine lv_ldc2d (own := RX0) (v := k_20) hx hb hown (hts _ q37) dX0_isPlace_15 ?_
    refine vp_callSi (va_Run.run (va_runS (As := [.double b, .double FP.dconst0, .double k_20]) (rest := []) ⟨hx, hb, hml, hown, hts⟩ (m_X0_isWithin l b FP.dconst0 k_20) (va_cwS 3 hts (lw_S q34 q35 q6 q36) rfl rfl rfl (by decide +kernel) ⟨Nat.le_of_ble_eq_true rfl, Nat.le_of_ble_eq_true rfl⟩) ⟨fun _ _ _ _ q => q, fun U hU hW => ⟨rfl, trivial⟩⟩ rfl rfl hl.1 rfl (lv_room (Nat.le_of_ble_eq_true rfl)) dX0_isPlace_18 ⟨Nat.le_of_ble_eq_true rfl, Nat.le_of_ble_eq_true rfl⟩)) (fun r_3 hr_3 => ?_)
    subst hr_3
    refine lv_if_eq (tgt := 28) hx hb dX0_isPlace_21 (by decide) (fun c_4 => ?_) (fun c_4 => ?_)
    · refine lv_iconst (v := 0) hx hb dX0_isPlace_28 (by decide) ?_
      exact W.zret (v := 0) hx hb hr rfl (fun t ht hW => ⟨0, rfl, by rw [gr_place, if_neg c_2, if_pos c_4], ht⟩) (fun _ h => nomatch h) dX0_isPlace_29
    · refine lv_iconst (v := 1) hx hb dX0_isPlace_24 (by decide) ?_
      refine lv_goto (tgt := 29) hx hb dX0_isPlace_25 (by decide) ?_
      exact W.zret (v := 1) hx hb hr rfl (fun t ht hW => ⟨1, rfl, by rw [gr_place, if_neg c_2, if_neg c_4], ht⟩) (fun _ h => nomatch h) dX0_isPlace_29

set_option maxHeartbeats 4000000 in
set_option maxRecDepth 100000 in
/-- isGas -/
theorem m_X0_isGas (l : Launch) (v : UInt64) : Met l yX0_isGas (ws_ yX0_isGas cX0_isGas 2 (some .boolean)) ({ frames := 1, cells := 0, slots := 0, locals := 25 }) (va_Pc [.double v] (fun _ => True)) (vp_Si (fun r => r = gr_in v FP.dconst0 k_100)) 0 0 (fun _ => False) := by
  refine Met.ofW (cc := cX0_isGas) (maxL := 2) (ret := (some .boolean)) (by decide) rfl ?_
  intro p e s m args below meth c s₁ B hml hv
  obtain ⟨rfl, hU⟩ := hv
  have hx := B.exec
  have hb := B.bytes
  have hr := B.returns
  have hts := atoms_spec (ws := ws_ yX0_isGas cX0_isGas 2 (some .boolean)) B.pre
  have hts : ∀ w ∈ lw_all, w.before _ s = true := fun w h => hts w (List.mem_cons_of_mem _ h)
  have hown : s.vm.findClass RX0 = some m.cls := findClass_of_methodNamed B.named
  have hlocks := B.notSynchronized
  have hl := lv_entry ([.double v]) (n := 2) (Nat.le_of_ble_eq_true rfl)
  rw [lg_entry_eq]
  generalize (lg_sl ([.double v]) ++ List.replicate (2 - (lg_sl ([.double v])).length) Slot.unset).toArray = ls at hl ⊢
  have hl : lv_has ls 2 [(0, .double v)] := hl
  refine lv_dload_n hx hb dX0_isGas_0 rfl (lv_at hl 0 rfl) ?_
  refine lv_dconst0 hx hb dX0_isGas_1 ?_
  refine lv_ldc2d (own := RX0) (v := k_100) hx hb hown (hts _ q33) dX0_isGas_2 ?_
  refine vp_callSi (va_Run.run (va_runS (As := [.double v, .double FP.dconst0, .double k_100]) (rest := []) ⟨hx, hb, hml, hown, hts⟩ (m_X0_isWithin l v FP.dconst0 k_100) (va_cwS 3 hts (lw_S q34 q35 q6 q36) rfl rfl rfl (by decide +kernel) ⟨Nat.le_of_ble_eq_true rfl, Nat.le_of_ble_eq_true rfl⟩) ⟨fun _ _ _ _ q => q, fun U hU hW => ⟨rfl, trivial⟩⟩ rfl rfl hl.1 rfl (lv_room (Nat.le_of_ble_eq_true rfl)) dX0_isGas_5 ⟨Nat.le_of_ble_eq_true rfl, Nat.le_of_ble_eq_true rfl⟩)) (fun r_1 hr_1 => ?_)
  subst hr_1
  exact W.zret (v := (gr_in v FP.dconst0 k_100)) hx hb hr (gr_in_nar _ _ _) (fun t ht hW => ⟨(gr_in v FP.dconst0 k_100), rfl, rfl, ht⟩) (fun _ h => nomatch h) dX0_isGas_8

set_option maxHeartbeats 4000000 in
set_option maxRecDepth 100000 in
/-- GasRowsModel.isIn -/
theorem m_X1_isIn (l : Launch) (v lo hi : UInt64) : Met l yX1_isIn (ws_ yX1_isIn cX1_isIn 6 (some .boolean)) ({ frames := 0, cells := 0, slots := 0, locals := 0 }) (va_Pc [.double v, .double lo, .double hi] (fun _ => True)) (vp_Si (fun r => r = gr_in v lo hi)) 0 0 (fun _ => False) := by
  refine Met.ofW (cc := cX1_isIn) (maxL := 6) (ret := (some .boolean)) (by decide) rfl ?_
  intro p e s m args below meth c s₁ B hml hv
  obtain ⟨rfl, hU⟩ := hv
  have hx := B.exec
  have hb := B.bytes
  have hr := B.returns
  have hts := atoms_spec (ws := ws_ yX1_isIn cX1_isIn 6 (some .boolean)) B.pre
  have hts : ∀ w ∈ lw_all, w.before _ s = true := fun w h => hts w (List.mem_cons_of_mem _ h)
  have hown : s.vm.findClass RX1 = some m.cls := findClass_of_methodNamed B.named
  have hlocks := B.notSynchronized
  have hl := lv_entry ([.double v, .double lo, .double hi]) (n := 6) (Nat.le_of_ble_eq_true rfl)
  rw [lg_entry_eq]
  generalize (lg_sl ([.double v, .double lo, .double hi]) ++ List.replicate (6 - (lg_sl ([.double v, .double lo, .double hi])).length) Slot.unset).toArray = ls at hl ⊢
  have hl : lv_has ls 6 [(0, .double v), (2, .double lo), (4, .double hi)] := hl
  refine lv_dload_n hx hb dX1_isIn_0 rfl (lv_at hl 0 rfl) ?_
  refine lv_dload_n hx hb dX1_isIn_1 rfl (lv_at hl 1 rfl) ?_
  refine lv_dcmp hx hb dX1_isIn_2 ?_
  refine lv_if_lt (tgt := 17) hx hb dX1_isIn_3 (by decide) (fun c_1 => ?_) (fun c_1 => ?_)
  · refine lv_iconst (v := 0) hx hb dX1_isIn_17 (by decide) ?_
    exact W.zret (v := 0) hx hb hr rfl (fun t ht hW => ⟨0, rfl, by rw [gr_in, if_pos c_1], ht⟩) (fun _ h => nomatch h) dX1_isIn_18
  · refine lv_dload_n hx hb dX1_isIn_6 rfl (lv_at hl 0 rfl) ?_
    refine lv_dload hx hb dX1_isIn_7 (lv_at hl 2 rfl) ?_
    refine lv_dcmp hx hb dX1_isIn_9 ?_
    refine lv_if_gt (tgt := 17) hx hb dX1_isIn_10 (by decide) (fun c_2 => ?_) (fun c_2 => ?_)
    · refine lv_iconst (v := 0) hx hb dX1_isIn_17 (by decide) ?_
      exact W.zret (v := 0) hx hb hr rfl (fun t ht hW => ⟨0, rfl, by rw [gr_in, if_neg c_1, if_pos c_2], ht⟩) (fun _ h => nomatch h) dX1_isIn_18
    · refine lv_iconst (v := 1) hx hb dX1_isIn_13 (by decide) ?_
      refine lv_goto (tgt := 18) hx hb dX1_isIn_14 (by decide) ?_
      exact W.zret (v := 1) hx hb hr rfl (fun t ht hW => ⟨1, rfl, by rw [gr_in, if_neg c_1, if_neg c_2], ht⟩) (fun _ h => nomatch h) dX1_isIn_18

set_option maxHeartbeats 4000000 in
set_option maxRecDepth 100000 in
/-- GasRowsModel.isPlace -/
theorem m_X1_isPlace (l : Launch) (d b : UInt64) : Met l yX1_isPlace (ws_ yX1_isPlace cX1_isPlace 4 (some .boolean)) ({ frames := 1, cells := 0, slots := 0, locals := 25 }) (va_Pc [.double d, .double b] (fun _ => True)) (vp_Si (fun r => r = gr_place d b)) 0 0 (fun _ => False) := by
  refine Met.ofW (cc := cX1_isPlace) (maxL := 4) (ret := (some .boolean)) (by decide) rfl ?_
  intro p e s m args below meth c s₁ B hml hv
  obtain ⟨rfl, hU⟩ := hv
  have hx := B.exec
  have hb := B.bytes
  have hr := B.returns
  have hts := atoms_spec (ws := ws_ yX1_isPlace cX1_isPlace 4 (some .boolean)) B.pre
  have hts : ∀ w ∈ lw_all, w.before _ s = true := fun w h => hts w (List.mem_cons_of_mem _ h)
  have hown : s.vm.findClass RX1 = some m.cls := findClass_of_methodNamed B.named
  have hlocks := B.notSynchronized
  have hl := lv_entry ([.double d, .double b]) (n := 4) (Nat.le_of_ble_eq_true rfl)
  rw [lg_entry_eq]
  generalize (lg_sl ([.double d, .double b]) ++ List.replicate (4 - (lg_sl ([.double d, .double b])).length) Slot.unset).toArray = ls at hl ⊢
  have hl : lv_has ls 4 [(0, .double d), (2, .double b)] := hl
  refine lv_dload_n hx hb dX1_isPlace_0 rfl (lv_at hl 0 rfl) ?_
  refine lv_ldc2d (own := RX1) (v := k_m10) hx hb hown (hts _ q190) dX1_isPlace_1 ?_
  refine lv_ldc2d (own := RX1) (v := k_100) hx hb hown (hts _ q191) dX1_isPlace_4 ?_
  refine vp_callSi (va_Run.run (va_runS (As := [.double d, .double k_m10, .double k_100]) (rest := []) ⟨hx, hb, hml, hown, hts⟩ (m_X1_isIn l d k_m10 k_100) (va_cwS 3 hts (lw_S q192 q193 q7 q194) rfl rfl rfl (by decide +kernel) ⟨Nat.le_of_ble_eq_true rfl, Nat.le_of_ble_eq_true rfl⟩) ⟨fun _ _ _ _ q => q, fun U hU hW => ⟨rfl, trivial⟩⟩ rfl rfl hl.1 rfl (lv_room (Nat.le_of_ble_eq_true rfl)) dX1_isPlace_7 ⟨Nat.le_of_ble_eq_true rfl, Nat.le_of_ble_eq_true rfl⟩)) (fun r_1 hr_1 => ?_)
  subst hr_1
  refine lv_if_eq (tgt := 28) hx hb dX1_isPlace_10 (by decide) (fun c_2 => ?_) (fun c_2 => ?_)
  · refine lv_iconst (v := 0) hx hb dX1_isPlace_28 (by decide) ?_
    exact W.zret (v := 0) hx hb hr rfl (fun t ht hW => ⟨0, rfl, by rw [gr_place, if_pos c_2], ht⟩) (fun _ h => nomatch h) dX1_isPlace_29
  · refine lv_dload_n hx hb dX1_isPlace_13 rfl (lv_at hl 1 rfl) ?_
    refine lv_dconst0 hx hb dX1_isPlace_14 ?_
    refine lv_ldc2d (own := RX1) (v := k_20) hx hb hown (hts _ q195) dX1_isPlace_15 ?_
    refine vp_callSi (va_Run.run (va_runS (As := [.double b, .double FP.dconst0, .double k_20]) (rest := []) ⟨hx, hb, hml, hown, hts⟩ (m_X1_isIn l b FP.dconst0 k_20) (va_cwS 3 hts (lw_S q192 q193 q7 q194) rfl rfl rfl (by decide +kernel) ⟨Nat.le_of_ble_eq_true rfl, Nat.le_of_ble_eq_true rfl⟩) ⟨fun _ _ _ _ q => q, fun U hU hW => ⟨rfl, trivial⟩⟩ rfl rfl hl.1 rfl (lv_room (Nat.le_of_ble_eq_true rfl)) dX1_isPlace_18 ⟨Nat.le_of_ble_eq_true rfl, Nat.le_of_ble_eq_true rfl⟩)) (fun r_3 hr_3 => ?_)
    subst hr_3
    refine lv_if_eq (tgt := 28) hx hb dX1_isPlace_21 (by decide) (fun c_4 => ?_) (fun c_4 => ?_)
    · refine lv_iconst (v := 0) hx hb dX1_isPlace_28 (by decide) ?_
      exact W.zret (v := 0) hx hb hr rfl (fun t ht hW => ⟨0, rfl, by rw [gr_place, if_neg c_2, if_pos c_4], ht⟩) (fun _ h => nomatch h) dX1_isPlace_29
    · refine lv_iconst (v := 1) hx hb dX1_isPlace_24 (by decide) ?_
      refine lv_goto (tgt := 29) hx hb dX1_isPlace_25 (by decide) ?_
      exact W.zret (v := 1) hx hb hr rfl (fun t ht hW => ⟨1, rfl, by rw [gr_place, if_neg c_2, if_neg c_4], ht⟩) (fun _ h => nomatch h) dX1_isPlace_29

set_option maxHeartbeats 4000000 in
set_option maxRecDepth 100000 in
/-- GasRows.isTime -/
theorem m_X0_isTime (l : Launch) (t : Int32) : Met l yX0_isTime (ws_ yX0_isTime cX0_isTime 1 (some .boolean)) ({ frames := 0, cells := 0, slots := 0, locals := 0 }) (va_Pc [.int t] (fun _ => True)) (vp_Si (fun r => r = gr_time t)) 0 0 (fun _ => False) := by
  refine Met.ofW (cc := cX0_isTime) (maxL := 1) (ret := (some .boolean)) (by decide) rfl ?_
  intro p e s m args below meth c s₁ B hml hv
  obtain ⟨rfl, hU⟩ := hv
  have hx := B.exec
  have hb := B.bytes
  have hr := B.returns
  have hts := atoms_spec (ws := ws_ yX0_isTime cX0_isTime 1 (some .boolean)) B.pre
  have hts : ∀ w ∈ lw_all, w.before _ s = true := fun w h => hts w (List.mem_cons_of_mem _ h)
  have hown : s.vm.findClass RX0 = some m.cls := findClass_of_methodNamed B.named
  have hlocks := B.notSynchronized
  have hl := lv_entry ([.int t]) (n := 1) (Nat.le_of_ble_eq_true rfl)
  rw [lg_entry_eq]
  generalize (lg_sl ([.int t]) ++ List.replicate (1 - (lg_sl ([.int t])).length) Slot.unset).toArray = ls at hl ⊢
  have hl : lv_has ls 1 [(0, .int t)] := hl
  refine lv_iload_n hx hb dX0_isTime_0 rfl (lv_at hl 0 rfl) ?_
  refine lv_if_lt (tgt := 14) hx hb dX0_isTime_1 (by decide) (fun c_1 => ?_) (fun c_1 => ?_)
  · refine lv_iconst (v := 0) hx hb dX0_isTime_14 (by decide) ?_
    exact W.zret (v := 0) hx hb hr rfl (fun t ht hW => ⟨0, rfl, by rw [gr_time, if_pos c_1], ht⟩) (fun _ h => nomatch h) dX0_isTime_15
  · refine lv_iload_n hx hb dX0_isTime_4 rfl (lv_at hl 0 rfl) ?_
    refine lv_ldc (own := RX0) (v := 100000) hx hb hown (hts _ q118) dX0_isTime_5 ?_
    refine lv_icmp_gt (tgt := 14) hx hb dX0_isTime_7 (by decide) (fun c_2 => ?_) (fun c_2 => ?_)
    · refine lv_iconst (v := 0) hx hb dX0_isTime_14 (by decide) ?_
      exact W.zret (v := 0) hx hb hr rfl (fun t ht hW => ⟨0, rfl, by rw [gr_time, if_neg c_1, if_pos c_2], ht⟩) (fun _ h => nomatch h) dX0_isTime_15
    · refine lv_iconst (v := 1) hx hb dX0_isTime_10 (by decide) ?_
      refine lv_goto (tgt := 15) hx hb dX0_isTime_11 (by decide) ?_
      exact W.zret (v := 1) hx hb hr rfl (fun t ht hW => ⟨1, rfl, by rw [gr_time, if_neg c_1, if_neg c_2], ht⟩) (fun _ h => nomatch h) dX0_isTime_15

set_option maxHeartbeats 4000000 in
set_option maxRecDepth 100000 in
/-- GasRows.isPart -/
theorem m_X0_isPart (l : Launch) (a b : Int64) : Met l yX0_isPart (ws_ yX0_isPart cX0_isPart 4 (some .boolean)) ({ frames := 0, cells := 0, slots := 0, locals := 0 }) (va_Pc [.long a, .long b] (fun _ => True)) (vp_Si (fun r => r = gr_part a b)) 0 0 (fun _ => False) := by
  refine Met.ofW (cc := cX0_isPart) (maxL := 4) (ret := (some .boolean)) (by decide) rfl ?_
  intro p e s m args below meth c s₁ B hml hv
  obtain ⟨rfl, hU⟩ := hv
  have hx := B.exec
  have hb := B.bytes
  have hr := B.returns
  have hts := atoms_spec (ws := ws_ yX0_isPart cX0_isPart 4 (some .boolean)) B.pre
  have hts : ∀ w ∈ lw_all, w.before _ s = true := fun w h => hts w (List.mem_cons_of_mem _ h)
  have hown : s.vm.findClass RX0 = some m.cls := findClass_of_methodNamed B.named
  have hlocks := B.notSynchronized
  have hl := lv_entry ([.long a, .long b]) (n := 4) (Nat.le_of_ble_eq_true rfl)
  rw [lg_entry_eq]
  generalize (lg_sl ([.long a, .long b]) ++ List.replicate (4 - (lg_sl ([.long a, .long b])).length) Slot.unset).toArray = ls at hl ⊢
  have hl : lv_has ls 4 [(0, .long a), (2, .long b)] := hl
  refine lv_lload_n hx hb dX0_isPart_0 rfl (lv_at hl 0 rfl) ?_
  refine lv_lconst (v := 1) hx hb dX0_isPart_1 (by decide) ?_
  refine W.lcmp hx hb dX0_isPart_2 ?_
  refine lv_if_lt (tgt := 32) hx hb dX0_isPart_3 (by decide) (fun c_1 => ?_) (fun c_1 => ?_)
  · refine lv_iconst (v := 0) hx hb dX0_isPart_32 (by decide) ?_
    exact W.zret (v := 0) hx hb hr rfl (fun t ht hW => ⟨0, rfl, by rw [gr_part, if_pos c_1], ht⟩) (fun _ h => nomatch h) dX0_isPart_33
  · refine lv_lload_n hx hb dX0_isPart_6 rfl (lv_at hl 0 rfl) ?_
    refine lv_ldc2 (own := RX0) (v := 1000000) hx hb hown (hts _ q133) dX0_isPart_7 ?_
    refine W.lcmp hx hb dX0_isPart_10 ?_
    refine lv_if_gt (tgt := 32) hx hb dX0_isPart_11 (by decide) (fun c_2 => ?_) (fun c_2 => ?_)
    · refine lv_iconst (v := 0) hx hb dX0_isPart_32 (by decide) ?_
      exact W.zret (v := 0) hx hb hr rfl (fun t ht hW => ⟨0, rfl, by rw [gr_part, if_neg c_1, if_pos c_2], ht⟩) (fun _ h => nomatch h) dX0_isPart_33
    · refine lv_lload_n hx hb dX0_isPart_14 rfl (lv_at hl 1 rfl) ?_
      refine lv_lconst (v := 1) hx hb dX0_isPart_15 (by decide) ?_
      refine W.lcmp hx hb dX0_isPart_16 ?_
      refine lv_if_lt (tgt := 32) hx hb dX0_isPart_17 (by decide) (fun c_3 => ?_) (fun c_3 => ?_)
      · refine lv_iconst (v := 0) hx hb dX0_isPart_32 (by decide) ?_
        exact W.zret (v := 0) hx hb hr rfl (fun t ht hW => ⟨0, rfl, by rw [gr_part, if_neg c_1, if_neg c_2, if_pos c_3], ht⟩) (fun _ h => nomatch h) dX0_isPart_33
      · refine lv_lload_n hx hb dX0_isPart_20 rfl (lv_at hl 1 rfl) ?_
        refine lv_ldc2 (own := RX0) (v := 1000000) hx hb hown (hts _ q133) dX0_isPart_21 ?_
        refine W.lcmp hx hb dX0_isPart_24 ?_
        refine lv_if_gt (tgt := 32) hx hb dX0_isPart_25 (by decide) (fun c_4 => ?_) (fun c_4 => ?_)
        · refine lv_iconst (v := 0) hx hb dX0_isPart_32 (by decide) ?_
          exact W.zret (v := 0) hx hb hr rfl (fun t ht hW => ⟨0, rfl, by rw [gr_part, if_neg c_1, if_neg c_2, if_neg c_3, if_pos c_4], ht⟩) (fun _ h => nomatch h) dX0_isPart_33
        · refine lv_iconst (v := 1) hx hb dX0_isPart_28 (by decide) ?_
          refine lv_goto (tgt := 33) hx hb dX0_isPart_29 (by decide) ?_
          exact W.zret (v := 1) hx hb hr rfl (fun t ht hW => ⟨1, rfl, by rw [gr_part, if_neg c_1, if_neg c_2, if_neg c_3, if_neg c_4], ht⟩) (fun _ h => nomatch h) dX0_isPart_33

set_option maxHeartbeats 4000000 in
set_option maxRecDepth 100000 in
/-- GasRowsModel.isPart -/
theorem m_X1_isPart (l : Launch) (a b : Int64) : Met l yX1_isPart (ws_ yX1_isPart cX1_isPart 4 (some .boolean)) ({ frames := 0, cells := 0, slots := 0, locals := 0 }) (va_Pc [.long a, .long b] (fun _ => True)) (vp_Si (fun r => r = gr_part a b)) 0 0 (fun _ => False) := by
  refine Met.ofW (cc := cX1_isPart) (maxL := 4) (ret := (some .boolean)) (by decide) rfl ?_
  intro p e s m args below meth c s₁ B hml hv
  obtain ⟨rfl, hU⟩ := hv
  have hx := B.exec
  have hb := B.bytes
  have hr := B.returns
  have hts := atoms_spec (ws := ws_ yX1_isPart cX1_isPart 4 (some .boolean)) B.pre
  have hts : ∀ w ∈ lw_all, w.before _ s = true := fun w h => hts w (List.mem_cons_of_mem _ h)
  have hown : s.vm.findClass RX1 = some m.cls := findClass_of_methodNamed B.named
  have hlocks := B.notSynchronized
  have hl := lv_entry ([.long a, .long b]) (n := 4) (Nat.le_of_ble_eq_true rfl)
  rw [lg_entry_eq]
  generalize (lg_sl ([.long a, .long b]) ++ List.replicate (4 - (lg_sl ([.long a, .long b])).length) Slot.unset).toArray = ls at hl ⊢
  have hl : lv_has ls 4 [(0, .long a), (2, .long b)] := hl
  refine lv_lload_n hx hb dX1_isPart_0 rfl (lv_at hl 0 rfl) ?_
  refine lv_lconst (v := 1) hx hb dX1_isPart_1 (by decide) ?_
  refine W.lcmp hx hb dX1_isPart_2 ?_
  refine lv_if_lt (tgt := 32) hx hb dX1_isPart_3 (by decide) (fun c_1 => ?_) (fun c_1 => ?_)
  · refine lv_iconst (v := 0) hx hb dX1_isPart_32 (by decide) ?_
    exact W.zret (v := 0) hx hb hr rfl (fun t ht hW => ⟨0, rfl, by rw [gr_part, if_pos c_1], ht⟩) (fun _ h => nomatch h) dX1_isPart_33
  · refine lv_lload_n hx hb dX1_isPart_6 rfl (lv_at hl 0 rfl) ?_
    refine lv_ldc2 (own := RX1) (v := 1000000) hx hb hown (hts _ q228) dX1_isPart_7 ?_
    refine W.lcmp hx hb dX1_isPart_10 ?_
    refine lv_if_gt (tgt := 32) hx hb dX1_isPart_11 (by decide) (fun c_2 => ?_) (fun c_2 => ?_)
    · refine lv_iconst (v := 0) hx hb dX1_isPart_32 (by decide) ?_
      exact W.zret (v := 0) hx hb hr rfl (fun t ht hW => ⟨0, rfl, by rw [gr_part, if_neg c_1, if_pos c_2], ht⟩) (fun _ h => nomatch h) dX1_isPart_33
    · refine lv_lload_n hx hb dX1_isPart_14 rfl (lv_at hl 1 rfl) ?_
      refine lv_lconst (v := 1) hx hb dX1_isPart_15 (by decide) ?_
      refine W.lcmp hx hb dX1_isPart_16 ?_
      refine lv_if_lt (tgt := 32) hx hb dX1_isPart_17 (by decide) (fun c_3 => ?_) (fun c_3 => ?_)
      · refine lv_iconst (v := 0) hx hb dX1_isPart_32 (by decide) ?_
        exact W.zret (v := 0) hx hb hr rfl (fun t ht hW => ⟨0, rfl, by rw [gr_part, if_neg c_1, if_neg c_2, if_pos c_3], ht⟩) (fun _ h => nomatch h) dX1_isPart_33
      · refine lv_lload_n hx hb dX1_isPart_20 rfl (lv_at hl 1 rfl) ?_
        refine lv_ldc2 (own := RX1) (v := 1000000) hx hb hown (hts _ q228) dX1_isPart_21 ?_
        refine W.lcmp hx hb dX1_isPart_24 ?_
        refine lv_if_gt (tgt := 32) hx hb dX1_isPart_25 (by decide) (fun c_4 => ?_) (fun c_4 => ?_)
        · refine lv_iconst (v := 0) hx hb dX1_isPart_32 (by decide) ?_
          exact W.zret (v := 0) hx hb hr rfl (fun t ht hW => ⟨0, rfl, by rw [gr_part, if_neg c_1, if_neg c_2, if_neg c_3, if_pos c_4], ht⟩) (fun _ h => nomatch h) dX1_isPart_33
        · refine lv_iconst (v := 1) hx hb dX1_isPart_28 (by decide) ?_
          refine lv_goto (tgt := 33) hx hb dX1_isPart_29 (by decide) ?_
          exact W.zret (v := 1) hx hb hr rfl (fun t ht hW => ⟨1, rfl, by rw [gr_part, if_neg c_1, if_neg c_2, if_neg c_3, if_neg c_4], ht⟩) (fun _ h => nomatch h) dX1_isPart_33

set_option maxHeartbeats 4000000 in
set_option maxRecDepth 100000 in
/-- join -/
theorem m_X0_join (l : Launch) (xp yp xn yn x : UInt64) (hj : gr_jok xp yp xn yn x) : Met l yX0_join (ws_ yX0_join cX0_join 10 (some .double)) ({ frames := 0, cells := 0, slots := 0, locals := 0 }) (va_Pc [.double xp, .double yp, .double xn, .double yn, .double x] (fun _ => True)) (vp_Sd (fun r => r = gr_join xp yp xn yn x)) 0 0 (fun _ => False) := by
  refine Met.ofW (cc := cX0_join) (maxL := 10) (ret := (some .double)) (by decide) rfl ?_
  intro p e s m args below meth c s₁ B hml hv
  obtain ⟨rfl, hU⟩ := hv
  have hx := B.exec
  have hb := B.bytes
  have hr := B.returns
  have hts := atoms_spec (ws := ws_ yX0_join cX0_join 10 (some .double)) B.pre
  have hts : ∀ w ∈ lw_all, w.before _ s = true := fun w h => hts w (List.mem_cons_of_mem _ h)
  have hown : s.vm.findClass RX0 = some m.cls := findClass_of_methodNamed B.named
  have hlocks := B.notSynchronized
  have hl := lv_entry ([.double xp, .double yp, .double xn, .double yn, .double x]) (n := 10) (Nat.le_of_ble_eq_true rfl)
  rw [lg_entry_eq]
  generalize (lg_sl ([.double xp, .double yp, .double xn, .double yn, .double x]) ++ List.replicate (10 - (lg_sl ([.double xp, .double yp, .double xn, .double yn, .double x])).length) Slot.unset).toArray = ls at hl ⊢
  have hl : lv_has ls 10 [(0, .double xp), (2, .double yp), (4, .double xn), (6, .double yn), (8, .double x)] := hl
  refine lv_dload_n hx hb dX0_join_0 rfl (lv_at hl 1 rfl) ?_
  refine lv_dload hx hb dX0_join_1 (lv_at hl 3 rfl) ?_
  refine lv_dload_n hx hb dX0_join_3 rfl (lv_at hl 1 rfl) ?_
  refine lv_dsub hx hb dX0_join_4 (hj.1) ?_
  refine lv_dload hx hb dX0_join_5 (lv_at hl 4 rfl) ?_
  refine lv_dload_n hx hb dX0_join_7 rfl (lv_at hl 0 rfl) ?_
  refine lv_dsub hx hb dX0_join_8 (hj.2.1) ?_
  refine lv_dmul hx hb dX0_join_9 (hj.2.2.1) ?_
  refine lv_dload hx hb dX0_join_10 (lv_at hl 2 rfl) ?_
  refine lv_dload_n hx hb dX0_join_12 rfl (lv_at hl 0 rfl) ?_
  refine lv_dsub hx hb dX0_join_13 (hj.2.2.2.1) ?_
  refine lv_ddiv hx hb dX0_join_14 (hj.2.2.2.2.1) ?_
  refine lv_dadd hx hb dX0_join_15 (hj.2.2.2.2.2) ?_
  exact W.dret (v := (FP.dadd yp (FP.ddiv (FP.dmul (FP.dsub yn yp) (FP.dsub x xp)) (FP.dsub xn xp)))) hx hb hr (fun t ht hW => ⟨(FP.dadd yp (FP.ddiv (FP.dmul (FP.dsub yn yp) (FP.dsub x xp)) (FP.dsub xn xp))), rfl, rfl, ht⟩) (fun _ h => nomatch h) dX0_join_16
end
section
/-! whole numbers: divisor, reduced, bunging, sugar -/
def gcd_ok : Nat → Nat → Nat → Prop
  | 0, _, y => y = 0
  | d + 1, x, y => y = 0 ∨ gcd_ok d y (x % y)
theorem gcd_ok0 (d x : Nat) : gcd_ok d x 0 := by
  cases d with
  | zero => rfl
  | succ d => exact Or.inl rfl
theorem gcd_half {y r : Nat} (h : r < y) (hr : 0 < r) : 2 * (y % r) < y := by
  have h1 := Nat.mod_lt y hr
  have h2 := Nat.div_add_mod y r
  have h3 : 1 ≤ y / r := (Nat.le_div_iff_mul_le hr).mpr (by omega)
  have h4 : r * 1 ≤ r * (y / r) := Nat.mul_le_mul_left r h3
  omega
theorem gcd_ok2 : ∀ (k x y : Nat), y < 2 ^ k → gcd_ok (2 * k) x y := by
  intro k
  induction k with
  | zero => intro x y h; exact (by omega : y = 0)
  | succ k ih =>
    intro x y h
    show y = 0 ∨ gcd_ok (2 * k + 1) y (x % y)
    rcases Nat.eq_zero_or_pos y with h0 | h0
    · exact Or.inl h0
    · refine Or.inr ?_
      show x % y = 0 ∨ gcd_ok (2 * k) (x % y) (y % (x % y))
      rcases Nat.eq_zero_or_pos (x % y) with h1 | h1
      · exact Or.inl h1
      · have h2 := gcd_half (Nat.mod_lt x h0) h1
        rw [Nat.pow_succ] at h
        exact Or.inr (ih _ _ (by omega))
theorem lN_0 : lN 0 = 0 := rfl
theorem lN_ne0 {n : Nat} (h : n < 2 ^ 63) (h0 : 0 < n) : ¬ lN n = 0 := fun e => by
  rw [← lN_0, pk_lEQ h (by decide)] at e
  omega
def bu_red (A B : Nat) (part : Int32) : Int64 := if part = 0 then lN (A / Nat.gcd A B) else lN (B / Nat.gcd A B)
def bu_n (a : Int64) : Nat := a.toInt.toNat
theorem bu_part {a b : Int64} (h : ¬ gr_part a b = 0) : (a = lN (bu_n a) ∧ 1 ≤ bu_n a ∧ bu_n a ≤ 1000000) ∧ (b = lN (bu_n b) ∧ 1 ≤ bu_n b ∧ bu_n b ≤ 1000000) := by
  unfold gr_part at h
  have e1 : (1 : Int64).toInt = 1 := by decide
  have e2 : (1000000 : Int64).toInt = 1000000 := by decide
  have key : ∀ c : Int64, ¬ lg_cmp c 1 < 0 → ¬ 0 < lg_cmp c 1000000 → (c = lN (bu_n c) ∧ 1 ≤ bu_n c ∧ bu_n c ≤ 1000000) := by
    intro c h1 h2
    rw [lg_cmp_lt, Int64.lt_iff_toInt_lt, e1] at h1
    rw [lg_cmp_gt, Int64.lt_iff_toInt_lt, e2] at h2
    unfold bu_n
    refine ⟨Int64.toInt_inj.mp ?_, by omega, by omega⟩
    rw [pk_lT (by omega)]
    omega
  by_cases c1 : lg_cmp a 1 < 0
  · rw [if_pos c1] at h; exact absurd rfl h
  rw [if_neg c1] at h
  by_cases c2 : 0 < lg_cmp a 1000000
  · rw [if_pos c2] at h; exact absurd rfl h
  rw [if_neg c2] at h
  by_cases c3 : lg_cmp b 1 < 0
  · rw [if_pos c3] at h; exact absurd rfl h
  rw [if_neg c3] at h
  by_cases c4 : 0 < lg_cmp b 1000000
  · rw [if_pos c4] at h; exact absurd rfl h
  exact ⟨key a c1 c2, key b c3 c4⟩
def bu_val (a b : Int64) (part : Int32) : Int64 := if gr_part a b = 0 then -1 else if part < 0 then -1 else if part ≤ 1 then bu_red (1029 * bu_n a) (2143 * bu_n b) part else -1
def su_val (a b : Int64) (part : Int32) : Int64 := if gr_part a b = 0 then -1 else if part < 0 then -1 else if part ≤ 2 then (if part = 2 then lN ((2057 * bu_n a + 1000 * bu_n b - 1) / (1000 * bu_n b)) else bu_red (2057 * bu_n a) (1000 * bu_n b) part) else -1
theorem su_ceil {A B : Nat} (hB : 0 < B) (hA : 0 < A) : (A + B - 1) / B = A / B + (if 0 < A % B then 1 else 0) := by
  have h1 := Nat.div_add_mod A B
  have h2 := Nat.mod_lt A hB
  by_cases h : 0 < A % B
  · rw [if_pos h, show A + B - 1 = (A % B - 1) + B * (A / B + 1) by rw [Nat.mul_add]; omega, Nat.add_mul_div_left _ _ hB, Nat.div_eq_of_lt (by omega)]
    omega
  · rw [if_neg h, show A + B - 1 = (B - 1) + B * (A / B) by omega, Nat.add_mul_div_left _ _ hB, Nat.div_eq_of_lt (by omega)]
    omega

set_option maxHeartbeats 4000000 in
set_option maxRecDepth 100000 in
/-- divisor(a, 0) -/
theorem m_X0_div0 (l : Launch) (d x : Nat) : Met l yX0_divisor (ws_ yX0_divisor cX0_divisor 4 (some .long)) ({ frames := d, cells := 0, slots := 0, locals := 23 * d }) (va_Pc [.long (lN x), .long (lN 0)] (fun _ => True)) (vp_Sl (fun r => r = lN x)) 0 0 (fun _ => False) := by
  refine Met.ofW (cc := cX0_divisor) (maxL := 4) (ret := (some .long)) (by decide) rfl ?_
  intro p e s m args below meth c s₁ B hml hv
  obtain ⟨rfl, hU⟩ := hv
  have hx := B.exec
  have hb := B.bytes
  have hr := B.returns
  have hts := atoms_spec (ws := ws_ yX0_divisor cX0_divisor 4 (some .long)) B.pre
  have hts : ∀ w ∈ lw_all, w.before _ s = true := fun w h => hts w (List.mem_cons_of_mem _ h)
  have hown : s.vm.findClass RX0 = some m.cls := findClass_of_methodNamed B.named
  have hlocks := B.notSynchronized
  have hl := lv_entry ([.long (lN x), .long (lN 0)]) (n := 4) (Nat.le_of_ble_eq_true rfl)
  rw [lg_entry_eq]
  generalize (lg_sl ([.long (lN x), .long (lN 0)]) ++ List.replicate (4 - (lg_sl ([.long (lN x), .long (lN 0)])).length) Slot.unset).toArray = ls at hl ⊢
  have hl : lv_has ls 4 [(0, .long (lN x)), (2, .long (lN 0))] := hl
  refine lv_lload_n hx hb dX0_divisor_0 rfl (lv_at hl 1 rfl) ?_
  refine lv_lconst (v := 0) hx hb dX0_divisor_1 (by decide) ?_
  refine W.lcmp hx hb dX0_divisor_2 ?_
  refine lv_if_ne (tgt := 10) hx hb dX0_divisor_3 (by decide) (fun c_1 => ?_) (fun c_1 => ?_)
  · exact absurd ((lg_cmp_eq _ _).mpr rfl) c_1
  · refine lv_lload_n hx hb dX0_divisor_6 rfl (lv_at hl 0 rfl) ?_
    refine lv_goto (tgt := 17) hx hb dX0_divisor_7 (by decide) ?_
    exact W.lret (v := (lN x)) hx hb hr (fun t ht hW => ⟨(lN x), rfl, rfl, ht⟩) (fun _ h => nomatch h) dX0_divisor_17

set_option maxHeartbeats 4000000 in
set_option maxRecDepth 100000 in
/-- divisor(a, b) -/
theorem m_X0_divS (l : Launch) (d x y : Nat) (hy0 : 0 < y) (hxl : x < 2 ^ 63) (hyl : y < 2 ^ 63) (ih : Met l yX0_divisor (ws_ yX0_divisor cX0_divisor 4 (some .long)) ({ frames := d, cells := 0, slots := 0, locals := 23 * d }) (va_Pc [.long (lN y), .long (lN (x % y))] (fun _ => True)) (vp_Sl (fun r => r = lN (Nat.gcd y (x % y)))) 0 0 (fun _ => False)) : Met l yX0_divisor (ws_ yX0_divisor cX0_divisor 4 (some .long)) ({ frames := (d + 1), cells := 0, slots := 0, locals := 23 * (d + 1) }) (va_Pc [.long (lN x), .long (lN y)] (fun _ => True)) (vp_Sl (fun r => r = lN (Nat.gcd x y))) 0 0 (fun _ => False) := by
  refine Met.ofW (cc := cX0_divisor) (maxL := 4) (ret := (some .long)) (by decide) rfl ?_
  intro p e s m args below meth c s₁ B hml hv
  obtain ⟨rfl, hU⟩ := hv
  have hx := B.exec
  have hb := B.bytes
  have hr := B.returns
  have hts := atoms_spec (ws := ws_ yX0_divisor cX0_divisor 4 (some .long)) B.pre
  have hts : ∀ w ∈ lw_all, w.before _ s = true := fun w h => hts w (List.mem_cons_of_mem _ h)
  have hown : s.vm.findClass RX0 = some m.cls := findClass_of_methodNamed B.named
  have hlocks := B.notSynchronized
  have hl := lv_entry ([.long (lN x), .long (lN y)]) (n := 4) (Nat.le_of_ble_eq_true rfl)
  rw [lg_entry_eq]
  generalize (lg_sl ([.long (lN x), .long (lN y)]) ++ List.replicate (4 - (lg_sl ([.long (lN x), .long (lN y)])).length) Slot.unset).toArray = ls at hl ⊢
  have hl : lv_has ls 4 [(0, .long (lN x)), (2, .long (lN y))] := hl
  refine lv_lload_n hx hb dX0_divisor_0 rfl (lv_at hl 1 rfl) ?_
  refine lv_lconst (v := 0) hx hb dX0_divisor_1 (by decide) ?_
  refine W.lcmp hx hb dX0_divisor_2 ?_
  refine lv_if_ne (tgt := 10) hx hb dX0_divisor_3 (by decide) (fun c_1 => ?_) (fun c_1 => ?_)
  · refine lv_lload_n hx hb dX0_divisor_10 rfl (lv_at hl 1 rfl) ?_
    refine lv_lload_n hx hb dX0_divisor_11 rfl (lv_at hl 0 rfl) ?_
    refine lv_lload_n hx hb dX0_divisor_12 rfl (lv_at hl 1 rfl) ?_
    refine lv_lrem hx hb dX0_divisor_13 (lN_ne0 hyl hy0) ?_
    refine lv_topl (fun f_2 ef_2 => ?_)
    obtain rfl : f_2 = lN (x % y) := by rw [ef_2]; exact pk_lRem hxl hy0 hyl
    refine vp_callSl (va_Run.run (va_runS (As := [.long (lN y), .long (lN (x % y))]) (rest := []) ⟨hx, hb, hml, hown, hts⟩ (ih) (va_cwS 2 hts (lw_S q137 q138 q6 q139) rfl rfl rfl (by decide +kernel) ⟨Nat.le_refl _, by show 8 + (4 + 11) + 23 * d ≤ 23 * (d + 1); omega⟩) ⟨fun _ _ _ _ q => q, fun U hU hW => ⟨rfl, trivial⟩⟩ rfl rfl hl.1 rfl (lv_room (Nat.le_of_ble_eq_true rfl)) dX0_divisor_14 ⟨Nat.le_of_ble_eq_true rfl, Nat.le_of_ble_eq_true rfl⟩)) (fun r_3 hr_3 => ?_)
    subst hr_3
    exact W.lret (v := (lN (Nat.gcd y (x % y)))) hx hb hr (fun t ht hW => ⟨(lN (Nat.gcd y (x % y))), rfl, by rw [Nat.gcd_comm x y, Nat.gcd_rec y x, Nat.gcd_comm], ht⟩) (fun _ h => nomatch h) dX0_divisor_17
  · exact absurd ((lg_cmp_eq _ _).mp c_1) (lN_ne0 hyl hy0)

theorem m_X0_divisor (l : Launch) : ∀ (d x y : Nat), gcd_ok d x y → x < 2 ^ 63 → y < 2 ^ 63 → Met l yX0_divisor (ws_ yX0_divisor cX0_divisor 4 (some .long)) ({ frames := d, cells := 0, slots := 0, locals := 23 * d }) (va_Pc [.long (lN x), .long (lN y)] (fun _ => True)) (vp_Sl (fun r => r = lN (Nat.gcd x y))) 0 0 (fun _ => False) := by
  intro d
  induction d with
  | zero =>
    intro x y h hx hy
    have h : y = 0 := h
    subst h
    rw [Nat.gcd_zero_right]
    exact m_X0_div0 l 0 x
  | succ d ih =>
    intro x y h hx hy
    rcases Nat.eq_zero_or_pos y with h0 | h0
    · subst h0
      rw [Nat.gcd_zero_right]
      exact m_X0_div0 l (d + 1) x
    · have h : y = 0 ∨ gcd_ok d y (x % y) := h
      have h : gcd_ok d y (x % y) := h.resolve_left (by omega)
      exact m_X0_divS l d x y h0 hx hy (ih y (x % y) h hy (Nat.lt_trans (Nat.mod_lt x h0) hy))

set_option maxHeartbeats 4000000 in
set_option maxRecDepth 100000 in
/-- reduced -/
theorem m_X1_reduced (l : Launch) (x y : Nat) (part : Int32) (hx0 : 0 < x) (hy0 : 0 < y) (hxl : x < 2 ^ 63) (hyl : y < 2 ^ 63) : Met l yX1_reduced (ws_ yX1_reduced cX1_reduced 11 (some .long)) ({ frames := 0, cells := 0, slots := 0, locals := 0 }) (va_Pc [.long (lN x), .long (lN y), .int part] (fun _ => True)) (vp_Sl (fun r => r = bu_red x y part)) 0 0 (fun _ => False) := by
  refine Met.ofW (cc := cX1_reduced) (maxL := 11) (ret := (some .long)) (by decide) rfl ?_
  intro p e s m args below meth c s₁ B hml hv
  obtain ⟨rfl, hU⟩ := hv
  have hx := B.exec
  have hb := B.bytes
  have hr := B.returns
  have hts := atoms_spec (ws := ws_ yX1_reduced cX1_reduced 11 (some .long)) B.pre
  have hts : ∀ w ∈ lw_all, w.before _ s = true := fun w h => hts w (List.mem_cons_of_mem _ h)
  have hown : s.vm.findClass RX1 = some m.cls := findClass_of_methodNamed B.named
  have hlocks := B.notSynchronized
  have hl := lv_entry ([.long (lN x), .long (lN y), .int part]) (n := 11) (Nat.le_of_ble_eq_true rfl)
  rw [lg_entry_eq]
  generalize (lg_sl ([.long (lN x), .long (lN y), .int part]) ++ List.replicate (11 - (lg_sl ([.long (lN x), .long (lN y), .int part])).length) Slot.unset).toArray = ls at hl ⊢
  have hl : lv_has ls 11 [(0, .long (lN x)), (2, .long (lN y)), (4, .int part)] := hl
  have hgp : 0 < Nat.gcd x y := Nat.gcd_pos_of_pos_left _ hx0
  have loop : ∀ (n u v : Nat), v < n → Nat.gcd u v = Nat.gcd x y → u < 2 ^ 63 → v < 2 ^ 63 → ∀ ls : Array Slot, lv_has ls 11 [(7, .long (lN v)), (5, .long (lN u)), (0, .long (lN x)), (2, .long (lN y)), (4, .int part)] → W p l e (headSpec (ws_ yX1_reduced cX1_reduced 11 (some .long)) ({ frames := 0, cells := 0, slots := 0, locals := 0 })).room s m ([.long (lN x), .long (lN y), .int part] : List Value).toArray below meth c s.heap [] 0 0 (MQ below (vp_Sl (fun r => r = bu_red x y part)) ([.long (lN x), .long (lN y), .int part] : List Value).toArray s 0 0 (fun _ => False)) (F0 m 6 ls []) := by
    intro n
    induction n with
    | zero => intro u v h; omega
    | succ n ih =>
      intro u v hvn hg hul hvl ls hl
      refine lv_lload hx hb dX1_reduced_6 (lv_at hl 0 rfl) ?_
      refine lv_lconst (v := 0) hx hb dX1_reduced_8 (by decide) ?_
      refine W.lcmp hx hb dX1_reduced_9 ?_
      refine lv_if_le (tgt := 31) hx hb dX1_reduced_10 (by decide) (fun c_1 => ?_) (fun c_1 => ?_)
      · have hv0 : v = 0 := by rw [lg_cmp_le, ← lN_0, pk_lLE hvl (by decide)] at c_1; omega
        subst hv0
        rw [Nat.gcd_zero_right] at hg
        have hu0 : 0 < u := by omega
        refine lv_iload hx hb dX1_reduced_31 (lv_at hl 4 rfl) ?_
        refine lv_if_ne (tgt := 43) hx hb dX1_reduced_33 (by decide) (fun c_2 => ?_) (fun c_2 => ?_)
        · refine lv_lload_n hx hb dX1_reduced_43 rfl (lv_at hl 3 rfl) ?_
          refine lv_lload hx hb dX1_reduced_44 (lv_at hl 1 rfl) ?_
          refine lv_ldiv hx hb dX1_reduced_46 (lN_ne0 hul hu0) ?_
          exact W.lret (v := ((lN y) / (lN u))) hx hb hr (fun t ht hW => ⟨((lN y) / (lN u)), rfl, by rw [bu_red, if_neg c_2, pk_lDiv hyl hu0 hul, hg], ht⟩) (fun _ h => nomatch h) dX1_reduced_47
        · refine lv_lload_n hx hb dX1_reduced_36 rfl (lv_at hl 2 rfl) ?_
          refine lv_lload hx hb dX1_reduced_37 (lv_at hl 1 rfl) ?_
          refine lv_ldiv hx hb dX1_reduced_39 (lN_ne0 hul hu0) ?_
          refine lv_goto (tgt := 47) hx hb dX1_reduced_40 (by decide) ?_
          exact W.lret (v := ((lN x) / (lN u))) hx hb hr (fun t ht hW => ⟨((lN x) / (lN u)), rfl, by rw [bu_red, if_pos c_2, pk_lDiv hxl hu0 hul, hg], ht⟩) (fun _ h => nomatch h) dX1_reduced_47
      · have hv0 : 0 < v := by rw [lg_cmp_le, ← lN_0, pk_lLE hvl (by decide)] at c_1; omega
        refine lv_lload hx hb dX1_reduced_13 (lv_at hl 1 rfl) ?_
        refine lv_lload hx hb dX1_reduced_15 (lv_at hl 0 rfl) ?_
        refine lv_lrem hx hb dX1_reduced_17 (lN_ne0 hvl hv0) ?_
        refine lv_topl (fun f_3 ef_3 => ?_)
        obtain rfl : f_3 = lN (u % v) := by rw [ef_3]; exact pk_lRem hul hv0 hvl
        refine lv_lstore (lv' := [(9, .long (lN (u % v))), (7, .long (lN v)), (5, .long (lN u)), (0, .long (lN x)), (2, .long (lN y)), (4, .int part)]) hx hb dX1_reduced_18 hl (by decide) rfl (fun ls hl => ?_)
        refine lv_lload hx hb dX1_reduced_20 (lv_at hl 1 rfl) ?_
        refine lv_lstore (lv' := [(5, .long (lN v)), (9, .long (lN (u % v))), (7, .long (lN v)), (0, .long (lN x)), (2, .long (lN y)), (4, .int part)]) hx hb dX1_reduced_22 hl (by decide) rfl (fun ls hl => ?_)
        refine lv_lload hx hb dX1_reduced_24 (lv_at hl 1 rfl) ?_
        refine lv_lstore (lv' := [(7, .long (lN (u % v))), (5, .long (lN v)), (9, .long (lN (u % v))), (0, .long (lN x)), (2, .long (lN y)), (4, .int part)]) hx hb dX1_reduced_26 hl (by decide) rfl (fun ls hl => ?_)
        refine lv_goto (tgt := 6) hx hb dX1_reduced_28 (by decide) ?_
        exact ih v (u % v) (by have := Nat.mod_lt u hv0; omega) (by rw [← hg, Nat.gcd_comm u v, Nat.gcd_rec v u, Nat.gcd_comm]) hvl (Nat.lt_trans (Nat.mod_lt u hv0) hvl) ls (lv_sub hl [0, 1, 3, 4, 5] rfl)
  refine lv_lload_n hx hb dX1_reduced_0 rfl (lv_at hl 1 rfl) ?_
  refine lv_lstore (lv' := [(5, .long (lN y)), (0, .long (lN x)), (2, .long (lN y)), (4, .int part)]) hx hb dX1_reduced_1 hl (by decide) rfl (fun ls hl => ?_)
  refine lv_lload_n hx hb dX1_reduced_3 rfl (lv_at hl 1 rfl) ?_
  refine lv_lstore (lv' := [(7, .long (lN x)), (5, .long (lN y)), (0, .long (lN x)), (2, .long (lN y)), (4, .int part)]) hx hb dX1_reduced_4 hl (by decide) rfl (fun ls hl => ?_)
  exact loop (x + 1) y x (by omega) (Nat.gcd_comm y x) hyl hxl ls (lv_sub hl [0, 1, 2, 3, 4] rfl)

set_option maxHeartbeats 4000000 in
set_option maxRecDepth 100000 in
/-- GasRows.bunging -/
theorem m_X0_bunging (l : Launch) (h0 : Nat) (a b : Int64) (part : Int32) : Met l yX0_bunging (ws_ yX0_bunging cX0_bunging 12 (some .long)) ({ frames := 65, cells := 0, slots := 0, locals := 1495 }) (va_Pc [.ref h0, .long a, .long b, .int part] (fun _ => True)) (vp_Sl (fun r => r = bu_val a b part)) 0 0 (fun _ => False) := by
  refine Met.ofW (cc := cX0_bunging) (maxL := 12) (ret := (some .long)) (by decide) rfl ?_
  intro p e s m args below meth c s₁ B hml hv
  obtain ⟨rfl, hU⟩ := hv
  have hx := B.exec
  have hb := B.bytes
  have hr := B.returns
  have hts := atoms_spec (ws := ws_ yX0_bunging cX0_bunging 12 (some .long)) B.pre
  have hts : ∀ w ∈ lw_all, w.before _ s = true := fun w h => hts w (List.mem_cons_of_mem _ h)
  have hown : s.vm.findClass RX0 = some m.cls := findClass_of_methodNamed B.named
  have hlocks := B.notSynchronized
  have hl := lv_entry ([.ref h0, .long a, .long b, .int part]) (n := 12) (Nat.le_of_ble_eq_true rfl)
  rw [lg_entry_eq]
  generalize (lg_sl ([.ref h0, .long a, .long b, .int part]) ++ List.replicate (12 - (lg_sl ([.ref h0, .long a, .long b, .int part])).length) Slot.unset).toArray = ls at hl ⊢
  have hl : lv_has ls 12 [(0, .ref h0), (1, .long a), (3, .long b), (5, .int part)] := hl
  refine lv_lload_n hx hb dX0_bunging_0 rfl (lv_at hl 1 rfl) ?_
  refine lv_lload_n hx hb dX0_bunging_1 rfl (lv_at hl 2 rfl) ?_
  refine vp_callSi (va_Run.run (va_runS (As := [.long a, .long b]) (rest := []) ⟨hx, hb, hml, hown, hts⟩ (m_X0_isPart l a b) (va_cwS 2 hts (lw_S q130 q131 q6 q132) rfl rfl rfl (by decide +kernel) ⟨Nat.le_of_ble_eq_true rfl, Nat.le_of_ble_eq_true rfl⟩) ⟨fun _ _ _ _ q => q, fun U hU hW => ⟨rfl, trivial⟩⟩ rfl rfl hl.1 rfl (lv_room (Nat.le_of_ble_eq_true rfl)) dX0_bunging_2 ⟨Nat.le_of_ble_eq_true rfl, Nat.le_of_ble_eq_true rfl⟩)) (fun r_1 hr_1 => ?_)
  subst hr_1
  refine lv_if_eq (tgt := 19) hx hb dX0_bunging_5 (by decide) (fun c_2 => ?_) (fun c_2 => ?_)
  · refine lv_ldc2 (own := RX0) (v := -1) hx hb hown (hts _ q134) dX0_bunging_19 ?_
    exact W.lret (v := (-1)) hx hb hr (fun t ht hW => ⟨(-1), rfl, by rw [bu_val, if_pos c_2], ht⟩) (fun _ h => nomatch h) dX0_bunging_22
  · obtain ⟨⟨ea, ha1, ha2⟩, ⟨eb, hb1, hb2⟩⟩ := bu_part c_2
    obtain ⟨X, hX⟩ : ∃ X : Nat, X = 1029 * bu_n a := ⟨_, rfl⟩
    obtain ⟨Y, hY⟩ : ∃ Y : Nat, Y = 2143 * bu_n b := ⟨_, rfl⟩
    have hgp : 0 < Nat.gcd X Y := Nat.gcd_pos_of_pos_left _ (by omega)
    have hgl : Nat.gcd X Y < 2 ^ 63 := Nat.lt_of_le_of_lt (Nat.gcd_le_left _ (by omega)) (by omega)
    refine lv_iload hx hb dX0_bunging_8 (lv_at hl 3 rfl) ?_
    refine lv_if_lt (tgt := 19) hx hb dX0_bunging_10 (by decide) (fun c_3 => ?_) (fun c_3 => ?_)
    · refine lv_ldc2 (own := RX0) (v := -1) hx hb hown (hts _ q134) dX0_bunging_19 ?_
      exact W.lret (v := (-1)) hx hb hr (fun t ht hW => ⟨(-1), rfl, by rw [bu_val, if_neg c_2, if_pos c_3], ht⟩) (fun _ h => nomatch h) dX0_bunging_22
    · refine lv_iload hx hb dX0_bunging_13 (lv_at hl 3 rfl) ?_
      refine lv_iconst (v := 1) hx hb dX0_bunging_15 (by decide) ?_
      refine lv_icmp_le (tgt := 23) hx hb dX0_bunging_16 (by decide) (fun c_4 => ?_) (fun c_4 => ?_)
      · refine lv_ldc2 (own := RX0) (v := 1029) hx hb hown (hts _ q135) dX0_bunging_23 ?_
        refine lv_lload_n hx hb dX0_bunging_26 rfl (lv_at hl 1 rfl) ?_
        refine lv_lmul hx hb dX0_bunging_27 ?_
        refine lv_topl (fun f_5 ef_5 => ?_)
        obtain rfl : f_5 = lN X := by rw [ef_5]; rw [hX, ← lN_mul, ← ea]; rfl
        refine lv_lstore (lv' := [(6, .long (lN X)), (0, .ref h0), (1, .long a), (3, .long b), (5, .int part)]) hx hb dX0_bunging_28 hl (by decide) rfl (fun ls hl => ?_)
        refine lv_ldc2 (own := RX0) (v := 2143) hx hb hown (hts _ q136) dX0_bunging_30 ?_
        refine lv_lload_n hx hb dX0_bunging_33 rfl (lv_at hl 3 rfl) ?_
        refine lv_lmul hx hb dX0_bunging_34 ?_
        refine lv_topl (fun f_6 ef_6 => ?_)
        obtain rfl : f_6 = lN Y := by rw [ef_6]; rw [hY, ← lN_mul, ← eb]; rfl
        refine lv_lstore (lv' := [(8, .long (lN Y)), (6, .long (lN X)), (0, .ref h0), (1, .long a), (3, .long b), (5, .int part)]) hx hb dX0_bunging_35 hl (by decide) rfl (fun ls hl => ?_)
        refine lv_lload hx hb dX0_bunging_37 (lv_at hl 1 rfl) ?_
        refine lv_lload hx hb dX0_bunging_39 (lv_at hl 0 rfl) ?_
        refine vp_callSl (va_Run.run (va_runS (As := [.long (lN X), .long (lN Y)]) (rest := []) ⟨hx, hb, hml, hown, hts⟩ (m_X0_divisor l 64 X Y (gcd_ok2 32 X Y (by omega)) (by omega) (by omega)) (va_cwS 2 hts (lw_S q137 q138 q6 q139) rfl rfl rfl (by decide +kernel) ⟨Nat.le_of_ble_eq_true rfl, Nat.le_of_ble_eq_true rfl⟩) ⟨fun _ _ _ _ q => q, fun U hU hW => ⟨rfl, trivial⟩⟩ rfl rfl hl.1 rfl (lv_room (Nat.le_of_ble_eq_true rfl)) dX0_bunging_41 ⟨Nat.le_of_ble_eq_true rfl, Nat.le_of_ble_eq_true rfl⟩)) (fun r_7 hr_7 => ?_)
        subst hr_7
        refine lv_lstore (lv' := [(10, .long (lN (Nat.gcd X Y))), (8, .long (lN Y)), (6, .long (lN X)), (0, .ref h0), (1, .long a), (3, .long b), (5, .int part)]) hx hb dX0_bunging_44 hl (by decide) rfl (fun ls hl => ?_)
        refine lv_iload hx hb dX0_bunging_46 (lv_at hl 6 rfl) ?_
        refine lv_if_ne (tgt := 59) hx hb dX0_bunging_48 (by decide) (fun c_8 => ?_) (fun c_8 => ?_)
        · refine lv_lload hx hb dX0_bunging_59 (lv_at hl 1 rfl) ?_
          refine lv_lload hx hb dX0_bunging_61 (lv_at hl 0 rfl) ?_
          refine lv_ldiv hx hb dX0_bunging_63 (lN_ne0 hgl hgp) ?_
          exact W.lret (v := ((lN Y) / (lN (Nat.gcd X Y)))) hx hb hr (fun t ht hW => ⟨((lN Y) / (lN (Nat.gcd X Y))), rfl, by rw [bu_val, if_neg c_2, if_neg c_3, if_pos c_4, ← hX, ← hY, bu_red, if_neg c_8, pk_lDiv (by omega) hgp hgl], ht⟩) (fun _ h => nomatch h) dX0_bunging_64
        · refine lv_lload hx hb dX0_bunging_51 (lv_at hl 2 rfl) ?_
          refine lv_lload hx hb dX0_bunging_53 (lv_at hl 0 rfl) ?_
          refine lv_ldiv hx hb dX0_bunging_55 (lN_ne0 hgl hgp) ?_
          refine lv_goto (tgt := 64) hx hb dX0_bunging_56 (by decide) ?_
          exact W.lret (v := ((lN X) / (lN (Nat.gcd X Y)))) hx hb hr (fun t ht hW => ⟨((lN X) / (lN (Nat.gcd X Y))), rfl, by rw [bu_val, if_neg c_2, if_neg c_3, if_pos c_4, ← hX, ← hY, bu_red, if_pos c_8, pk_lDiv (by omega) hgp hgl], ht⟩) (fun _ h => nomatch h) dX0_bunging_64
      · refine lv_ldc2 (own := RX0) (v := -1) hx hb hown (hts _ q134) dX0_bunging_19 ?_
        exact W.lret (v := (-1)) hx hb hr (fun t ht hW => ⟨(-1), rfl, by rw [bu_val, if_neg c_2, if_neg c_3, if_neg c_4], ht⟩) (fun _ h => nomatch h) dX0_bunging_22

set_option maxHeartbeats 4000000 in
set_option maxRecDepth 100000 in
/-- GasRows.sugar -/
theorem m_X0_sugar (l : Launch) (h0 : Nat) (a b : Int64) (part : Int32) : Met l yX0_sugar (ws_ yX0_sugar cX0_sugar 12 (some .long)) ({ frames := 65, cells := 0, slots := 0, locals := 1495 }) (va_Pc [.ref h0, .long a, .long b, .int part] (fun _ => True)) (vp_Sl (fun r => r = su_val a b part)) 0 0 (fun _ => False) := by
  refine Met.ofW (cc := cX0_sugar) (maxL := 12) (ret := (some .long)) (by decide) rfl ?_
  intro p e s m args below meth c s₁ B hml hv
  obtain ⟨rfl, hU⟩ := hv
  have hx := B.exec
  have hb := B.bytes
  have hr := B.returns
  have hts := atoms_spec (ws := ws_ yX0_sugar cX0_sugar 12 (some .long)) B.pre
  have hts : ∀ w ∈ lw_all, w.before _ s = true := fun w h => hts w (List.mem_cons_of_mem _ h)
  have hown : s.vm.findClass RX0 = some m.cls := findClass_of_methodNamed B.named
  have hlocks := B.notSynchronized
  have hl := lv_entry ([.ref h0, .long a, .long b, .int part]) (n := 12) (Nat.le_of_ble_eq_true rfl)
  rw [lg_entry_eq]
  generalize (lg_sl ([.ref h0, .long a, .long b, .int part]) ++ List.replicate (12 - (lg_sl ([.ref h0, .long a, .long b, .int part])).length) Slot.unset).toArray = ls at hl ⊢
  have hl : lv_has ls 12 [(0, .ref h0), (1, .long a), (3, .long b), (5, .int part)] := hl
  refine lv_lload_n hx hb dX0_sugar_0 rfl (lv_at hl 1 rfl) ?_
  refine lv_lload_n hx hb dX0_sugar_1 rfl (lv_at hl 2 rfl) ?_
  refine vp_callSi (va_Run.run (va_runS (As := [.long a, .long b]) (rest := []) ⟨hx, hb, hml, hown, hts⟩ (m_X0_isPart l a b) (va_cwS 2 hts (lw_S q130 q131 q6 q132) rfl rfl rfl (by decide +kernel) ⟨Nat.le_of_ble_eq_true rfl, Nat.le_of_ble_eq_true rfl⟩) ⟨fun _ _ _ _ q => q, fun U hU hW => ⟨rfl, trivial⟩⟩ rfl rfl hl.1 rfl (lv_room (Nat.le_of_ble_eq_true rfl)) dX0_sugar_2 ⟨Nat.le_of_ble_eq_true rfl, Nat.le_of_ble_eq_true rfl⟩)) (fun r_1 hr_1 => ?_)
  subst hr_1
  refine lv_if_eq (tgt := 19) hx hb dX0_sugar_5 (by decide) (fun c_2 => ?_) (fun c_2 => ?_)
  · refine lv_ldc2 (own := RX0) (v := -1) hx hb hown (hts _ q134) dX0_sugar_19 ?_
    exact W.lret (v := (-1)) hx hb hr (fun t ht hW => ⟨(-1), rfl, by rw [su_val, if_pos c_2], ht⟩) (fun _ h => nomatch h) dX0_sugar_22
  · obtain ⟨⟨ea, ha1, ha2⟩, ⟨eb, hb1, hb2⟩⟩ := bu_part c_2
    obtain ⟨X, hX⟩ : ∃ X : Nat, X = 2057 * bu_n a := ⟨_, rfl⟩
    obtain ⟨Y, hY⟩ : ∃ Y : Nat, Y = 1000 * bu_n b := ⟨_, rfl⟩
    have hgp : 0 < Nat.gcd X Y := Nat.gcd_pos_of_pos_left _ (by omega)
    have hgl : Nat.gcd X Y < 2 ^ 63 := Nat.lt_of_le_of_lt (Nat.gcd_le_left _ (by omega)) (by omega)
    refine lv_iload hx hb dX0_sugar_8 (lv_at hl 3 rfl) ?_
    refine lv_if_lt (tgt := 19) hx hb dX0_sugar_10 (by decide) (fun c_3 => ?_) (fun c_3 => ?_)
    · refine lv_ldc2 (own := RX0) (v := -1) hx hb hown (hts _ q134) dX0_sugar_19 ?_
      exact W.lret (v := (-1)) hx hb hr (fun t ht hW => ⟨(-1), rfl, by rw [su_val, if_neg c_2, if_pos c_3], ht⟩) (fun _ h => nomatch h) dX0_sugar_22
    · refine lv_iload hx hb dX0_sugar_13 (lv_at hl 3 rfl) ?_
      refine lv_iconst (v := 2) hx hb dX0_sugar_15 (by decide) ?_
      refine lv_icmp_le (tgt := 23) hx hb dX0_sugar_16 (by decide) (fun c_4 => ?_) (fun c_4 => ?_)
      · refine lv_ldc2 (own := RX0) (v := 2057) hx hb hown (hts _ q144) dX0_sugar_23 ?_
        refine lv_lload_n hx hb dX0_sugar_26 rfl (lv_at hl 1 rfl) ?_
        refine lv_lmul hx hb dX0_sugar_27 ?_
        refine lv_topl (fun f_5 ef_5 => ?_)
        obtain rfl : f_5 = lN X := by rw [ef_5]; rw [hX, ← lN_mul, ← ea]; rfl
        refine lv_lstore (lv' := [(6, .long (lN X)), (0, .ref h0), (1, .long a), (3, .long b), (5, .int part)]) hx hb dX0_sugar_28 hl (by decide) rfl (fun ls hl => ?_)
        refine lv_ldc2 (own := RX0) (v := 1000) hx hb hown (hts _ q145) dX0_sugar_30 ?_
        refine lv_lload_n hx hb dX0_sugar_33 rfl (lv_at hl 3 rfl) ?_
        refine lv_lmul hx hb dX0_sugar_34 ?_
        refine lv_topl (fun f_6 ef_6 => ?_)
        obtain rfl : f_6 = lN Y := by rw [ef_6]; rw [hY, ← lN_mul, ← eb]; rfl
        refine lv_lstore (lv' := [(8, .long (lN Y)), (6, .long (lN X)), (0, .ref h0), (1, .long a), (3, .long b), (5, .int part)]) hx hb dX0_sugar_35 hl (by decide) rfl (fun ls hl => ?_)
        refine lv_iload hx hb dX0_sugar_37 (lv_at hl 5 rfl) ?_
        refine lv_iconst (v := 2) hx hb dX0_sugar_39 (by decide) ?_
        refine lv_icmp_ne (tgt := 54) hx hb dX0_sugar_40 (by decide) (fun c_7 => ?_) (fun c_7 => ?_)
        · refine lv_lload hx hb dX0_sugar_54 (lv_at hl 1 rfl) ?_
          refine lv_lload hx hb dX0_sugar_56 (lv_at hl 0 rfl) ?_
          refine vp_callSl (va_Run.run (va_runS (As := [.long (lN X), .long (lN Y)]) (rest := []) ⟨hx, hb, hml, hown, hts⟩ (m_X0_divisor l 64 X Y (gcd_ok2 32 X Y (by omega)) (by omega) (by omega)) (va_cwS 2 hts (lw_S q137 q138 q6 q139) rfl rfl rfl (by decide +kernel) ⟨Nat.le_of_ble_eq_true rfl, Nat.le_of_ble_eq_true rfl⟩) ⟨fun _ _ _ _ q => q, fun U hU hW => ⟨rfl, trivial⟩⟩ rfl rfl hl.1 rfl (lv_room (Nat.le_of_ble_eq_true rfl)) dX0_sugar_58 ⟨Nat.le_of_ble_eq_true rfl, Nat.le_of_ble_eq_true rfl⟩)) (fun r_8 hr_8 => ?_)
          subst hr_8
          refine lv_lstore (lv' := [(10, .long (lN (Nat.gcd X Y))), (8, .long (lN Y)), (6, .long (lN X)), (0, .ref h0), (1, .long a), (3, .long b), (5, .int part)]) hx hb dX0_sugar_61 hl (by decide) rfl (fun ls hl => ?_)
          refine lv_iload hx hb dX0_sugar_63 (lv_at hl 6 rfl) ?_
          refine lv_if_ne (tgt := 76) hx hb dX0_sugar_65 (by decide) (fun c_9 => ?_) (fun c_9 => ?_)
          · refine lv_lload hx hb dX0_sugar_76 (lv_at hl 1 rfl) ?_
            refine lv_lload hx hb dX0_sugar_78 (lv_at hl 0 rfl) ?_
            refine lv_ldiv hx hb dX0_sugar_80 (lN_ne0 hgl hgp) ?_
            exact W.lret (v := ((lN Y) / (lN (Nat.gcd X Y)))) hx hb hr (fun t ht hW => ⟨((lN Y) / (lN (Nat.gcd X Y))), rfl, by rw [su_val, if_neg c_2, if_neg c_3, if_pos c_4, if_neg c_7, ← hX, ← hY, bu_red, if_neg c_9, pk_lDiv (by omega) hgp hgl], ht⟩) (fun _ h => nomatch h) dX0_sugar_81
          · refine lv_lload hx hb dX0_sugar_68 (lv_at hl 2 rfl) ?_
            refine lv_lload hx hb dX0_sugar_70 (lv_at hl 0 rfl) ?_
            refine lv_ldiv hx hb dX0_sugar_72 (lN_ne0 hgl hgp) ?_
            refine lv_goto (tgt := 81) hx hb dX0_sugar_73 (by decide) ?_
            exact W.lret (v := ((lN X) / (lN (Nat.gcd X Y)))) hx hb hr (fun t ht hW => ⟨((lN X) / (lN (Nat.gcd X Y))), rfl, by rw [su_val, if_neg c_2, if_neg c_3, if_pos c_4, if_neg c_7, ← hX, ← hY, bu_red, if_pos c_9, pk_lDiv (by omega) hgp hgl], ht⟩) (fun _ h => nomatch h) dX0_sugar_81
        · refine lv_lload hx hb dX0_sugar_43 (lv_at hl 1 rfl) ?_
          refine lv_lload hx hb dX0_sugar_45 (lv_at hl 0 rfl) ?_
          refine lv_ladd hx hb dX0_sugar_47 ?_
          refine lv_lconst (v := 1) hx hb dX0_sugar_48 (by decide) ?_
          refine lv_lsub hx hb dX0_sugar_49 ?_
          refine lv_lload hx hb dX0_sugar_50 (lv_at hl 0 rfl) ?_
          refine lv_ldiv hx hb dX0_sugar_52 (lN_ne0 (n := Y) (by omega) (by omega)) ?_
          exact W.lret (v := ((((lN X) + (lN Y)) - 1) / (lN Y))) hx hb hr (fun t ht hW => ⟨((((lN X) + (lN Y)) - 1) / (lN Y)), rfl, by rw [su_val, if_neg c_2, if_neg c_3, if_pos c_4, if_pos c_7, ← hX, ← hY, show lN X + lN Y - 1 = lN (X + Y - 1) by rw [lN_add, show (1 : Int64) = lN 1 from rfl, lN_sub (by omega)], pk_lDiv (by omega) (by omega) (by omega)], ht⟩) (fun _ h => nomatch h) dX0_sugar_53
      · refine lv_ldc2 (own := RX0) (v := -1) hx hb hown (hts _ q134) dX0_sugar_19 ?_
        exact W.lret (v := (-1)) hx hb hr (fun t ht hW => ⟨(-1), rfl, by rw [su_val, if_neg c_2, if_neg c_3, if_neg c_4], ht⟩) (fun _ h => nomatch h) dX0_sugar_22

set_option maxHeartbeats 4000000 in
set_option maxRecDepth 100000 in
/-- GasRowsModel.bunging -/
theorem m_X1_bunging (l : Launch) (h0 : Nat) (a b : Int64) (part : Int32) : Met l yX1_bunging (ws_ yX1_bunging cX1_bunging 6 (some .long)) ({ frames := 1, cells := 0, slots := 0, locals := 30 }) (va_Pc [.ref h0, .long a, .long b, .int part] (fun _ => True)) (vp_Sl (fun r => r = bu_val a b part)) 0 0 (fun _ => False) := by
  refine Met.ofW (cc := cX1_bunging) (maxL := 6) (ret := (some .long)) (by decide) rfl ?_
  intro p e s m args below meth c s₁ B hml hv
  obtain ⟨rfl, hU⟩ := hv
  have hx := B.exec
  have hb := B.bytes
  have hr := B.returns
  have hts := atoms_spec (ws := ws_ yX1_bunging cX1_bunging 6 (some .long)) B.pre
  have hts : ∀ w ∈ lw_all, w.before _ s = true := fun w h => hts w (List.mem_cons_of_mem _ h)
  have hown : s.vm.findClass RX1 = some m.cls := findClass_of_methodNamed B.named
  have hlocks := B.notSynchronized
  have hl := lv_entry ([.ref h0, .long a, .long b, .int part]) (n := 6) (Nat.le_of_ble_eq_true rfl)
  rw [lg_entry_eq]
  generalize (lg_sl ([.ref h0, .long a, .long b, .int part]) ++ List.replicate (6 - (lg_sl ([.ref h0, .long a, .long b, .int part])).length) Slot.unset).toArray = ls at hl ⊢
  have hl : lv_has ls 6 [(0, .ref h0), (1, .long a), (3, .long b), (5, .int part)] := hl
  refine lv_lload_n hx hb dX1_bunging_0 rfl (lv_at hl 1 rfl) ?_
  refine lv_lload_n hx hb dX1_bunging_1 rfl (lv_at hl 2 rfl) ?_
  refine vp_callSi (va_Run.run (va_runS (As := [.long a, .long b]) (rest := []) ⟨hx, hb, hml, hown, hts⟩ (m_X1_isPart l a b) (va_cwS 2 hts (lw_S q225 q226 q7 q227) rfl rfl rfl (by decide +kernel) ⟨Nat.le_of_ble_eq_true rfl, Nat.le_of_ble_eq_true rfl⟩) ⟨fun _ _ _ _ q => q, fun U hU hW => ⟨rfl, trivial⟩⟩ rfl rfl hl.1 rfl (lv_room (Nat.le_of_ble_eq_true rfl)) dX1_bunging_2 ⟨Nat.le_of_ble_eq_true rfl, Nat.le_of_ble_eq_true rfl⟩)) (fun r_1 hr_1 => ?_)
  subst hr_1
  refine lv_if_eq (tgt := 19) hx hb dX1_bunging_5 (by decide) (fun c_2 => ?_) (fun c_2 => ?_)
  · refine lv_ldc2 (own := RX1) (v := -1) hx hb hown (hts _ q229) dX1_bunging_19 ?_
    refine lv_goto (tgt := 40) hx hb dX1_bunging_22 (by decide) ?_
    exact W.lret (v := (-1)) hx hb hr (fun t ht hW => ⟨(-1), rfl, by rw [bu_val, if_pos c_2], ht⟩) (fun _ h => nomatch h) dX1_bunging_40
  · obtain ⟨⟨ea, ha1, ha2⟩, ⟨eb, hb1, hb2⟩⟩ := bu_part c_2
    obtain ⟨X, hX⟩ : ∃ X : Nat, X = 1029 * bu_n a := ⟨_, rfl⟩
    obtain ⟨Y, hY⟩ : ∃ Y : Nat, Y = 2143 * bu_n b := ⟨_, rfl⟩
    have hgp : 0 < Nat.gcd X Y := Nat.gcd_pos_of_pos_left _ (by omega)
    have hgl : Nat.gcd X Y < 2 ^ 63 := Nat.lt_of_le_of_lt (Nat.gcd_le_left _ (by omega)) (by omega)
    refine lv_iload hx hb dX1_bunging_8 (lv_at hl 3 rfl) ?_
    refine lv_if_lt (tgt := 19) hx hb dX1_bunging_10 (by decide) (fun c_3 => ?_) (fun c_3 => ?_)
    · refine lv_ldc2 (own := RX1) (v := -1) hx hb hown (hts _ q229) dX1_bunging_19 ?_
      refine lv_goto (tgt := 40) hx hb dX1_bunging_22 (by decide) ?_
      exact W.lret (v := (-1)) hx hb hr (fun t ht hW => ⟨(-1), rfl, by rw [bu_val, if_neg c_2, if_pos c_3], ht⟩) (fun _ h => nomatch h) dX1_bunging_40
    · refine lv_iload hx hb dX1_bunging_13 (lv_at hl 3 rfl) ?_
      refine lv_iconst (v := 1) hx hb dX1_bunging_15 (by decide) ?_
      refine lv_icmp_le (tgt := 25) hx hb dX1_bunging_16 (by decide) (fun c_4 => ?_) (fun c_4 => ?_)
      · refine lv_ldc2 (own := RX1) (v := 1029) hx hb hown (hts _ q230) dX1_bunging_25 ?_
        refine lv_lload_n hx hb dX1_bunging_28 rfl (lv_at hl 1 rfl) ?_
        refine lv_lmul hx hb dX1_bunging_29 ?_
        refine lv_topl (fun f_5 ef_5 => ?_)
        obtain rfl : f_5 = lN X := by rw [ef_5]; rw [hX, ← lN_mul, ← ea]; rfl
        refine lv_ldc2 (own := RX1) (v := 2143) hx hb hown (hts _ q231) dX1_bunging_30 ?_
        refine lv_lload_n hx hb dX1_bunging_33 rfl (lv_at hl 2 rfl) ?_
        refine lv_lmul hx hb dX1_bunging_34 ?_
        refine lv_topl (fun f_6 ef_6 => ?_)
        obtain rfl : f_6 = lN Y := by rw [ef_6]; rw [hY, ← lN_mul, ← eb]; rfl
        refine lv_iload hx hb dX1_bunging_35 (lv_at hl 3 rfl) ?_
        refine vp_callSl (va_Run.run (va_runS (As := [.long (lN X), .long (lN Y), .int part]) (rest := []) ⟨hx, hb, hml, hown, hts⟩ (m_X1_reduced l X Y part (by omega) (by omega) (by omega) (by omega)) (va_cwS 3 hts (lw_S q232 q233 q7 q234) rfl rfl rfl (by decide +kernel) ⟨Nat.le_of_ble_eq_true rfl, Nat.le_of_ble_eq_true rfl⟩) ⟨fun _ _ _ _ q => q, fun U hU hW => ⟨rfl, trivial⟩⟩ rfl rfl hl.1 rfl (lv_room (Nat.le_of_ble_eq_true rfl)) dX1_bunging_37 ⟨Nat.le_of_ble_eq_true rfl, Nat.le_of_ble_eq_true rfl⟩)) (fun r_7 hr_7 => ?_)
        subst hr_7
        exact W.lret (v := (bu_red X Y part)) hx hb hr (fun t ht hW => ⟨(bu_red X Y part), rfl, by rw [bu_val, if_neg c_2, if_neg c_3, if_pos c_4, ← hX, ← hY], ht⟩) (fun _ h => nomatch h) dX1_bunging_40
      · refine lv_ldc2 (own := RX1) (v := -1) hx hb hown (hts _ q229) dX1_bunging_19 ?_
        refine lv_goto (tgt := 40) hx hb dX1_bunging_22 (by decide) ?_
        exact W.lret (v := (-1)) hx hb hr (fun t ht hW => ⟨(-1), rfl, by rw [bu_val, if_neg c_2, if_neg c_3, if_neg c_4], ht⟩) (fun _ h => nomatch h) dX1_bunging_40

set_option maxHeartbeats 4000000 in
set_option maxRecDepth 100000 in
/-- GasRowsModel.sugar -/
theorem m_X1_sugar (l : Launch) (h0 : Nat) (a b : Int64) (part : Int32) : Met l yX1_sugar (ws_ yX1_sugar cX1_sugar 10 (some .long)) ({ frames := 1, cells := 0, slots := 0, locals := 30 }) (va_Pc [.ref h0, .long a, .long b, .int part] (fun _ => True)) (vp_Sl (fun r => r = su_val a b part)) 0 0 (fun _ => False) := by
  refine Met.ofW (cc := cX1_sugar) (maxL := 10) (ret := (some .long)) (by decide) rfl ?_
  intro p e s m args below meth c s₁ B hml hv
  obtain ⟨rfl, hU⟩ := hv
  have hx := B.exec
  have hb := B.bytes
  have hr := B.returns
  have hts := atoms_spec (ws := ws_ yX1_sugar cX1_sugar 10 (some .long)) B.pre
  have hts : ∀ w ∈ lw_all, w.before _ s = true := fun w h => hts w (List.mem_cons_of_mem _ h)
  have hown : s.vm.findClass RX1 = some m.cls := findClass_of_methodNamed B.named
  have hlocks := B.notSynchronized
  have hl := lv_entry ([.ref h0, .long a, .long b, .int part]) (n := 10) (Nat.le_of_ble_eq_true rfl)
  rw [lg_entry_eq]
  generalize (lg_sl ([.ref h0, .long a, .long b, .int part]) ++ List.replicate (10 - (lg_sl ([.ref h0, .long a, .long b, .int part])).length) Slot.unset).toArray = ls at hl ⊢
  have hl : lv_has ls 10 [(0, .ref h0), (1, .long a), (3, .long b), (5, .int part)] := hl
  refine lv_lload_n hx hb dX1_sugar_0 rfl (lv_at hl 1 rfl) ?_
  refine lv_lload_n hx hb dX1_sugar_1 rfl (lv_at hl 2 rfl) ?_
  refine vp_callSi (va_Run.run (va_runS (As := [.long a, .long b]) (rest := []) ⟨hx, hb, hml, hown, hts⟩ (m_X1_isPart l a b) (va_cwS 2 hts (lw_S q225 q226 q7 q227) rfl rfl rfl (by decide +kernel) ⟨Nat.le_of_ble_eq_true rfl, Nat.le_of_ble_eq_true rfl⟩) ⟨fun _ _ _ _ q => q, fun U hU hW => ⟨rfl, trivial⟩⟩ rfl rfl hl.1 rfl (lv_room (Nat.le_of_ble_eq_true rfl)) dX1_sugar_2 ⟨Nat.le_of_ble_eq_true rfl, Nat.le_of_ble_eq_true rfl⟩)) (fun r_1 hr_1 => ?_)
  subst hr_1
  refine lv_if_eq (tgt := 19) hx hb dX1_sugar_5 (by decide) (fun c_2 => ?_) (fun c_2 => ?_)
  · refine lv_ldc2 (own := RX1) (v := -1) hx hb hown (hts _ q229) dX1_sugar_19 ?_
    exact W.lret (v := (-1)) hx hb hr (fun t ht hW => ⟨(-1), rfl, by rw [su_val, if_pos c_2], ht⟩) (fun _ h => nomatch h) dX1_sugar_22
  · obtain ⟨⟨ea, ha1, ha2⟩, ⟨eb, hb1, hb2⟩⟩ := bu_part c_2
    obtain ⟨X, hX⟩ : ∃ X : Nat, X = 2057 * bu_n a := ⟨_, rfl⟩
    obtain ⟨Y, hY⟩ : ∃ Y : Nat, Y = 1000 * bu_n b := ⟨_, rfl⟩
    have hgp : 0 < Nat.gcd X Y := Nat.gcd_pos_of_pos_left _ (by omega)
    have hgl : Nat.gcd X Y < 2 ^ 63 := Nat.lt_of_le_of_lt (Nat.gcd_le_left _ (by omega)) (by omega)
    refine lv_iload hx hb dX1_sugar_8 (lv_at hl 3 rfl) ?_
    refine lv_if_lt (tgt := 19) hx hb dX1_sugar_10 (by decide) (fun c_3 => ?_) (fun c_3 => ?_)
    · refine lv_ldc2 (own := RX1) (v := -1) hx hb hown (hts _ q229) dX1_sugar_19 ?_
      exact W.lret (v := (-1)) hx hb hr (fun t ht hW => ⟨(-1), rfl, by rw [su_val, if_neg c_2, if_pos c_3], ht⟩) (fun _ h => nomatch h) dX1_sugar_22
    · refine lv_iload hx hb dX1_sugar_13 (lv_at hl 3 rfl) ?_
      refine lv_iconst (v := 2) hx hb dX1_sugar_15 (by decide) ?_
      refine lv_icmp_le (tgt := 23) hx hb dX1_sugar_16 (by decide) (fun c_4 => ?_) (fun c_4 => ?_)
      · refine lv_ldc2 (own := RX1) (v := 2057) hx hb hown (hts _ q239) dX1_sugar_23 ?_
        refine lv_lload_n hx hb dX1_sugar_26 rfl (lv_at hl 1 rfl) ?_
        refine lv_lmul hx hb dX1_sugar_27 ?_
        refine lv_topl (fun f_5 ef_5 => ?_)
        obtain rfl : f_5 = lN X := by rw [ef_5]; rw [hX, ← lN_mul, ← ea]; rfl
        refine lv_lstore (lv' := [(6, .long (lN X)), (0, .ref h0), (1, .long a), (3, .long b), (5, .int part)]) hx hb dX1_sugar_28 hl (by decide) rfl (fun ls hl => ?_)
        refine lv_ldc2 (own := RX1) (v := 1000) hx hb hown (hts _ q240) dX1_sugar_30 ?_
        refine lv_lload_n hx hb dX1_sugar_33 rfl (lv_at hl 3 rfl) ?_
        refine lv_lmul hx hb dX1_sugar_34 ?_
        refine lv_topl (fun f_6 ef_6 => ?_)
        obtain rfl : f_6 = lN Y := by rw [ef_6]; rw [hY, ← lN_mul, ← eb]; rfl
        refine lv_lstore (lv' := [(8, .long (lN Y)), (6, .long (lN X)), (0, .ref h0), (1, .long a), (3, .long b), (5, .int part)]) hx hb dX1_sugar_35 hl (by decide) rfl (fun ls hl => ?_)
        refine lv_iload hx hb dX1_sugar_37 (lv_at hl 5 rfl) ?_
        refine lv_iconst (v := 2) hx hb dX1_sugar_39 (by decide) ?_
        refine lv_icmp_ge (tgt := 55) hx hb dX1_sugar_40 (by decide) (fun c_7 => ?_) (fun c_7 => ?_)
        · refine lv_lload hx hb dX1_sugar_55 (lv_at hl 1 rfl) ?_
          refine lv_lload hx hb dX1_sugar_57 (lv_at hl 0 rfl) ?_
          refine lv_ldiv hx hb dX1_sugar_59 (lN_ne0 (n := Y) (by omega) (by omega)) ?_
          refine lv_lload hx hb dX1_sugar_60 (lv_at hl 1 rfl) ?_
          refine lv_lload hx hb dX1_sugar_62 (lv_at hl 0 rfl) ?_
          refine lv_lrem hx hb dX1_sugar_64 (lN_ne0 (n := Y) (by omega) (by omega)) ?_
          refine lv_lconst (v := 0) hx hb dX1_sugar_65 (by decide) ?_
          refine W.lcmp hx hb dX1_sugar_66 ?_
          refine lv_if_le (tgt := 74) hx hb dX1_sugar_67 (by decide) (fun c_8 => ?_) (fun c_8 => ?_)
          · refine lv_lconst (v := 0) hx hb dX1_sugar_74 (by decide) ?_
            refine lv_ladd hx hb dX1_sugar_75 ?_
            exact W.lret (v := (((lN X) / (lN Y)) + 0)) hx hb hr (fun t ht hW => ⟨(((lN X) / (lN Y)) + 0), rfl, by rw [su_val, if_neg c_2, if_neg c_3, if_pos c_4, if_pos (Int32.le_antisymm c_4 c_7), ← hX, ← hY, su_ceil (by omega) (by omega), if_neg (by rw [lg_cmp_le, show lN X - lN X / lN Y * lN Y = lN (X % Y) from pk_lRem (by omega) (by omega) (by omega), ← lN_0, pk_lLE (Nat.lt_trans (Nat.mod_lt X (by omega)) (by omega)) (by decide)] at c_8; omega), pk_lDiv (by omega) (by omega) (by omega)]; exact lN_add _ 0, ht⟩) (fun _ h => nomatch h) dX1_sugar_76
          · refine lv_lconst (v := 1) hx hb dX1_sugar_70 (by decide) ?_
            refine lv_goto (tgt := 75) hx hb dX1_sugar_71 (by decide) ?_
            refine lv_ladd hx hb dX1_sugar_75 ?_
            exact W.lret (v := (((lN X) / (lN Y)) + 1)) hx hb hr (fun t ht hW => ⟨(((lN X) / (lN Y)) + 1), rfl, by rw [su_val, if_neg c_2, if_neg c_3, if_pos c_4, if_pos (Int32.le_antisymm c_4 c_7), ← hX, ← hY, su_ceil (by omega) (by omega), if_pos (by rw [lg_cmp_le, show lN X - lN X / lN Y * lN Y = lN (X % Y) from pk_lRem (by omega) (by omega) (by omega), ← lN_0, pk_lLE (Nat.lt_trans (Nat.mod_lt X (by omega)) (by omega)) (by decide)] at c_8; omega), pk_lDiv (by omega) (by omega) (by omega)]; exact lN_add _ 1, ht⟩) (fun _ h => nomatch h) dX1_sugar_76
        · refine lv_lload hx hb dX1_sugar_43 (lv_at hl 1 rfl) ?_
          refine lv_lload hx hb dX1_sugar_45 (lv_at hl 0 rfl) ?_
          refine lv_iload hx hb dX1_sugar_47 (lv_at hl 5 rfl) ?_
          refine vp_callSl (va_Run.run (va_runS (As := [.long (lN X), .long (lN Y), .int part]) (rest := []) ⟨hx, hb, hml, hown, hts⟩ (m_X1_reduced l X Y part (by omega) (by omega) (by omega) (by omega)) (va_cwS 3 hts (lw_S q232 q233 q7 q234) rfl rfl rfl (by decide +kernel) ⟨Nat.le_of_ble_eq_true rfl, Nat.le_of_ble_eq_true rfl⟩) ⟨fun _ _ _ _ q => q, fun U hU hW => ⟨rfl, trivial⟩⟩ rfl rfl hl.1 rfl (lv_room (Nat.le_of_ble_eq_true rfl)) dX1_sugar_49 ⟨Nat.le_of_ble_eq_true rfl, Nat.le_of_ble_eq_true rfl⟩)) (fun r_9 hr_9 => ?_)
          subst hr_9
          refine lv_goto (tgt := 76) hx hb dX1_sugar_52 (by decide) ?_
          exact W.lret (v := (bu_red X Y part)) hx hb hr (fun t ht hW => ⟨(bu_red X Y part), rfl, by rw [su_val, if_neg c_2, if_neg c_3, if_pos c_4, if_neg (fun e => c_7 (by rw [e]; decide)), ← hX, ← hY], ht⟩) (fun _ h => nomatch h) dX1_sugar_76
      · refine lv_ldc2 (own := RX1) (v := -1) hx hb hown (hts _ q229) dX1_sugar_19 ?_
        exact W.lret (v := (-1)) hx hb hr (fun t ht hW => ⟨(-1), rfl, by rw [su_val, if_neg c_2, if_neg c_3, if_neg c_4], ht⟩) (fun _ h => nomatch h) dX1_sugar_22
end
section
/-! fill and foam -/
def fl_val (g s : UInt64) : UInt64 := if gr_in g FP.dconst0 k_100 = 0 then k_m1 else if gr_in s FP.dconst0 k_1000 = 0 then k_m1 else fi_val g s
def tm_n (t : Int32) : Nat := t.toInt.toNat
theorem tm_ok {t : Int32} (h1 : ¬ t < 0) (h2 : t ≤ 100000) : t = nI (tm_n t) ∧ tm_n t ≤ 100000 := by
  obtain ⟨j, hj, e⟩ := nI_of2 (M := 100000) (n := 100000) (by decide) h1 h2
  have e2 : tm_n t = j := by
    unfold tm_n
    rw [e, nI_toInt (by omega)]
    omega
  rw [e2]
  exact ⟨e, hj⟩
theorem tm_time {t : Int32} (h : ¬ gr_time t = 0) : t = nI (tm_n t) ∧ tm_n t ≤ 100000 := by
  unfold gr_time at h
  by_cases c1 : t < 0
  · rw [if_pos c1] at h; exact absurd rfl h
  · rw [if_neg c1] at h
    by_cases c2 : 100000 < t
    · rw [if_pos c2] at h; exact absurd rfl h
    · exact tm_ok c1 (Int32.not_lt.mp c2)
theorem tm_iff {t : Int32} : ¬ gr_time t = 0 ↔ ¬ t < 0 ∧ t ≤ 100000 := by
  unfold gr_time
  by_cases c1 : t < 0
  · rw [if_pos c1]; exact ⟨fun h => absurd rfl h, fun h => absurd c1 h.1⟩
  · rw [if_neg c1]
    by_cases c2 : 100000 < t
    · rw [if_pos c2]; exact ⟨fun h => absurd rfl h, fun h => absurd h.2 (Int32.not_le.mpr c2)⟩
    · rw [if_neg c2]; exact ⟨fun _ => ⟨c1, Int32.not_lt.mp c2⟩, fun _ => by decide⟩
def fm_x (t : Int32) (h : UInt64) : UInt64 := if gr_time t = 0 then k_m1 else if gr_in h FP.dconst0 k_1000 = 0 then k_m1 else fo_x (tm_n t) h
def fm_m (t : Int32) (h : UInt64) : UInt64 := if gr_in h FP.dconst0 k_1000 = 0 then k_m1 else if t < 0 then k_m1 else if t ≤ 100000 then fo_m (tm_n t) h else k_m1
theorem fm_eq (t : Int32) {h : UInt64} (hh : fin_ h) : ∃ z, fv (fm_x t h) z ∧ fv (fm_m t h) z := by
  unfold fm_x fm_m
  by_cases c1 : gr_in h FP.dconst0 k_1000 = 0
  · rw [if_pos c1, if_pos c1]
    split <;> exact ⟨_, fv_m1, fv_m1⟩
  · rw [if_neg c1, if_neg c1]
    by_cases c2 : gr_time t = 0
    · rw [if_pos c2]
      by_cases c3 : t < 0
      · rw [if_pos c3]; exact ⟨_, fv_m1, fv_m1⟩
      · rw [if_neg c3, if_neg (fun c4 => tm_iff.mpr ⟨c3, c4⟩ c2)]; exact ⟨_, fv_m1, fv_m1⟩
    · obtain ⟨c3, c4⟩ := tm_iff.mp c2
      rw [if_neg c2, if_neg c3, if_pos c4]
      exact fo_eq _ _ (in_1000 hh c1)

set_option maxHeartbeats 4000000 in
set_option maxRecDepth 100000 in
/-- GasRows.fill -/
theorem m_X0_fill (l : Launch) (h0 : Nat) (g s_ : UInt64) (hg : fin_ g) (hs : fin_ s_) : Met l yX0_fill (ws_ yX0_fill cX0_fill 7 (some .double)) ({ frames := 2, cells := 0, slots := 0, locals := 46 }) (va_Pc [.ref h0, .double g, .double s_] (fun _ => True)) (vp_Sd (fun r => r = fl_val g s_)) 0 0 (fun _ => False) := by
  refine Met.ofW (cc := cX0_fill) (maxL := 7) (ret := (some .double)) (by decide) rfl ?_
  intro p e s m args below meth c s₁ B hml hv
  obtain ⟨rfl, hU⟩ := hv
  have hx := B.exec
  have hb := B.bytes
  have hr := B.returns
  have hts := atoms_spec (ws := ws_ yX0_fill cX0_fill 7 (some .double)) B.pre
  have hts : ∀ w ∈ lw_all, w.before _ s = true := fun w h => hts w (List.mem_cons_of_mem _ h)
  have hown : s.vm.findClass RX0 = some m.cls := findClass_of_methodNamed B.named
  have hlocks := B.notSynchronized
  have hl := lv_entry ([.ref h0, .double g, .double s_]) (n := 7) (Nat.le_of_ble_eq_true rfl)
  rw [lg_entry_eq]
  generalize (lg_sl ([.ref h0, .double g, .double s_]) ++ List.replicate (7 - (lg_sl ([.ref h0, .double g, .double s_])).length) Slot.unset).toArray = ls at hl ⊢
  have hl : lv_has ls 7 [(0, .ref h0), (1, .double g), (3, .double s_)] := hl
  refine lv_dload_n hx hb dX0_fill_0 rfl (lv_at hl 1 rfl) ?_
  refine vp_callSi (va_Run.run (va_runS (As := [.double g]) (rest := []) ⟨hx, hb, hml, hown, hts⟩ (m_X0_isGas l g) (va_cwS 1 hts (lw_S q38 q39 q6 q40) rfl rfl rfl (by decide +kernel) ⟨Nat.le_of_ble_eq_true rfl, Nat.le_of_ble_eq_true rfl⟩) ⟨fun _ _ _ _ q => q, fun U hU hW => ⟨rfl, trivial⟩⟩ rfl rfl hl.1 rfl (lv_room (Nat.le_of_ble_eq_true rfl)) dX0_fill_1 ⟨Nat.le_of_ble_eq_true rfl, Nat.le_of_ble_eq_true rfl⟩)) (fun r_1 hr_1 => ?_)
  subst hr_1
  refine lv_if_eq (tgt := 18) hx hb dX0_fill_4 (by decide) (fun c_2 => ?_) (fun c_2 => ?_)
  · refine lv_ldc2d (own := RX0) (v := k_m1) hx hb hown (hts _ q110) dX0_fill_18 ?_
    exact W.dret (v := k_m1) hx hb hr (fun t ht hW => ⟨k_m1, rfl, by rw [fl_val, if_pos c_2], ht⟩) (fun _ h => nomatch h) dX0_fill_21
  · refine lv_dload_n hx hb dX0_fill_7 rfl (lv_at hl 2 rfl) ?_
    refine lv_dconst0 hx hb dX0_fill_8 ?_
    refine lv_ldc2d (own := RX0) (v := k_1000) hx hb hown (hts _ q124) dX0_fill_9 ?_
    refine vp_callSi (va_Run.run (va_runS (As := [.double s_, .double FP.dconst0, .double k_1000]) (rest := []) ⟨hx, hb, hml, hown, hts⟩ (m_X0_isWithin l s_ FP.dconst0 k_1000) (va_cwS 3 hts (lw_S q34 q35 q6 q36) rfl rfl rfl (by decide +kernel) ⟨Nat.le_of_ble_eq_true rfl, Nat.le_of_ble_eq_true rfl⟩) ⟨fun _ _ _ _ q => q, fun U hU hW => ⟨rfl, trivial⟩⟩ rfl rfl hl.1 rfl (lv_room (Nat.le_of_ble_eq_true rfl)) dX0_fill_12 ⟨Nat.le_of_ble_eq_true rfl, Nat.le_of_ble_eq_true rfl⟩)) (fun r_3 hr_3 => ?_)
    subst hr_3
    refine lv_if_ne (tgt := 22) hx hb dX0_fill_15 (by decide) (fun c_4 => ?_) (fun c_4 => ?_)
    · have ok := fi_ok hg hs c_2 c_4
      refine lv_dload_n hx hb dX0_fill_22 rfl (lv_at hl 2 rfl) ?_
      refine lv_ldc2d (own := RX0) (v := k_64) hx hb hown (hts _ q125) dX0_fill_23 ?_
      refine lv_dmul hx hb dX0_fill_26 (ok.1) ?_
      refine lv_dstore (lv' := [(5, .double (FP.dmul s_ k_64)), (0, .ref h0), (1, .double g), (3, .double s_)]) hx hb dX0_fill_27 hl (by decide) rfl (fun ls hl => ?_)
      refine lv_dload_n hx hb dX0_fill_29 rfl (lv_at hl 2 rfl) ?_
      refine lv_dload_n hx hb dX0_fill_30 rfl (lv_at hl 2 rfl) ?_
      refine lv_dload hx hb dX0_fill_31 (lv_at hl 0 rfl) ?_
      refine lv_dmul hx hb dX0_fill_33 (ok.2.1) ?_
      refine lv_dconst1 hx hb dX0_fill_34 ?_
      refine lv_dload hx hb dX0_fill_35 (lv_at hl 0 rfl) ?_
      refine lv_dadd hx hb dX0_fill_37 (ok.2.2.1) ?_
      refine lv_ddiv hx hb dX0_fill_38 (ok.2.2.2.1) ?_
      refine lv_dsub hx hb dX0_fill_39 (ok.2.2.2.2.1) ?_
      exact W.dret (v := (FP.dsub g (FP.ddiv (FP.dmul g (FP.dmul s_ k_64)) (FP.dadd FP.dconst1 (FP.dmul s_ k_64))))) hx hb hr (fun t ht hW => ⟨(FP.dsub g (FP.ddiv (FP.dmul g (FP.dmul s_ k_64)) (FP.dadd FP.dconst1 (FP.dmul s_ k_64)))), rfl, by rw [fl_val, if_neg c_2, if_neg c_4]; rfl, ht⟩) (fun _ h => nomatch h) dX0_fill_40
    · refine lv_ldc2d (own := RX0) (v := k_m1) hx hb hown (hts _ q110) dX0_fill_18 ?_
      exact W.dret (v := k_m1) hx hb hr (fun t ht hW => ⟨k_m1, rfl, by rw [fl_val, if_neg c_2, if_pos c_4], ht⟩) (fun _ h => nomatch h) dX0_fill_21

set_option maxHeartbeats 4000000 in
set_option maxRecDepth 100000 in
/-- GasRowsModel.fill -/
theorem m_X1_fill (l : Launch) (h0 : Nat) (g s_ : UInt64) (hg : fin_ g) (hs : fin_ s_) : Met l yX1_fill (ws_ yX1_fill cX1_fill 5 (some .double)) ({ frames := 1, cells := 0, slots := 0, locals := 25 }) (va_Pc [.ref h0, .double g, .double s_] (fun _ => True)) (vp_Sd (fun r => r = fl_val g s_)) 0 0 (fun _ => False) := by
  refine Met.ofW (cc := cX1_fill) (maxL := 5) (ret := (some .double)) (by decide) rfl ?_
  intro p e s m args below meth c s₁ B hml hv
  obtain ⟨rfl, hU⟩ := hv
  have hx := B.exec
  have hb := B.bytes
  have hr := B.returns
  have hts := atoms_spec (ws := ws_ yX1_fill cX1_fill 5 (some .double)) B.pre
  have hts : ∀ w ∈ lw_all, w.before _ s = true := fun w h => hts w (List.mem_cons_of_mem _ h)
  have hown : s.vm.findClass RX1 = some m.cls := findClass_of_methodNamed B.named
  have hlocks := B.notSynchronized
  have hl := lv_entry ([.ref h0, .double g, .double s_]) (n := 5) (Nat.le_of_ble_eq_true rfl)
  rw [lg_entry_eq]
  generalize (lg_sl ([.ref h0, .double g, .double s_]) ++ List.replicate (5 - (lg_sl ([.ref h0, .double g, .double s_])).length) Slot.unset).toArray = ls at hl ⊢
  have hl : lv_has ls 5 [(0, .ref h0), (1, .double g), (3, .double s_)] := hl
  refine lv_dload_n hx hb dX1_fill_0 rfl (lv_at hl 1 rfl) ?_
  refine lv_dconst0 hx hb dX1_fill_1 ?_
  refine lv_ldc2d (own := RX1) (v := k_100) hx hb hown (hts _ q191) dX1_fill_2 ?_
  refine vp_callSi (va_Run.run (va_runS (As := [.double g, .double FP.dconst0, .double k_100]) (rest := []) ⟨hx, hb, hml, hown, hts⟩ (m_X1_isIn l g FP.dconst0 k_100) (va_cwS 3 hts (lw_S q192 q193 q7 q194) rfl rfl rfl (by decide +kernel) ⟨Nat.le_of_ble_eq_true rfl, Nat.le_of_ble_eq_true rfl⟩) ⟨fun _ _ _ _ q => q, fun U hU hW => ⟨rfl, trivial⟩⟩ rfl rfl hl.1 rfl (lv_room (Nat.le_of_ble_eq_true rfl)) dX1_fill_5 ⟨Nat.le_of_ble_eq_true rfl, Nat.le_of_ble_eq_true rfl⟩)) (fun r_1 hr_1 => ?_)
  subst hr_1
  refine lv_if_eq (tgt := 22) hx hb dX1_fill_8 (by decide) (fun c_2 => ?_) (fun c_2 => ?_)
  · refine lv_ldc2d (own := RX1) (v := k_m1) hx hb hown (hts _ q208) dX1_fill_22 ?_
    exact W.dret (v := k_m1) hx hb hr (fun t ht hW => ⟨k_m1, rfl, by rw [fl_val, if_pos c_2], ht⟩) (fun _ h => nomatch h) dX1_fill_25
  · refine lv_dload_n hx hb dX1_fill_11 rfl (lv_at hl 2 rfl) ?_
    refine lv_dconst0 hx hb dX1_fill_12 ?_
    refine lv_ldc2d (own := RX1) (v := k_1000) hx hb hown (hts _ q219) dX1_fill_13 ?_
    refine vp_callSi (va_Run.run (va_runS (As := [.double s_, .double FP.dconst0, .double k_1000]) (rest := []) ⟨hx, hb, hml, hown, hts⟩ (m_X1_isIn l s_ FP.dconst0 k_1000) (va_cwS 3 hts (lw_S q192 q193 q7 q194) rfl rfl rfl (by decide +kernel) ⟨Nat.le_of_ble_eq_true rfl, Nat.le_of_ble_eq_true rfl⟩) ⟨fun _ _ _ _ q => q, fun U hU hW => ⟨rfl, trivial⟩⟩ rfl rfl hl.1 rfl (lv_room (Nat.le_of_ble_eq_true rfl)) dX1_fill_16 ⟨Nat.le_of_ble_eq_true rfl, Nat.le_of_ble_eq_true rfl⟩)) (fun r_3 hr_3 => ?_)
    subst hr_3
    refine lv_if_ne (tgt := 26) hx hb dX1_fill_19 (by decide) (fun c_4 => ?_) (fun c_4 => ?_)
    · have ok := fi_ok hg hs c_2 c_4
      refine lv_dload_n hx hb dX1_fill_26 rfl (lv_at hl 1 rfl) ?_
      refine lv_dload_n hx hb dX1_fill_27 rfl (lv_at hl 1 rfl) ?_
      refine lv_dload_n hx hb dX1_fill_28 rfl (lv_at hl 2 rfl) ?_
      refine lv_ldc2d (own := RX1) (v := k_64) hx hb hown (hts _ q220) dX1_fill_29 ?_
      refine lv_dmul hx hb dX1_fill_32 (ok.1) ?_
      refine lv_dmul hx hb dX1_fill_33 (ok.2.1) ?_
      refine lv_dconst1 hx hb dX1_fill_34 ?_
      refine lv_dload_n hx hb dX1_fill_35 rfl (lv_at hl 2 rfl) ?_
      refine lv_ldc2d (own := RX1) (v := k_64) hx hb hown (hts _ q220) dX1_fill_36 ?_
      refine lv_dmul hx hb dX1_fill_39 (ok.1) ?_
      refine lv_dadd hx hb dX1_fill_40 (ok.2.2.1) ?_
      refine lv_ddiv hx hb dX1_fill_41 (ok.2.2.2.1) ?_
      refine lv_dsub hx hb dX1_fill_42 (ok.2.2.2.2.1) ?_
      exact W.dret (v := (FP.dsub g (FP.ddiv (FP.dmul g (FP.dmul s_ k_64)) (FP.dadd FP.dconst1 (FP.dmul s_ k_64))))) hx hb hr (fun t ht hW => ⟨(FP.dsub g (FP.ddiv (FP.dmul g (FP.dmul s_ k_64)) (FP.dadd FP.dconst1 (FP.dmul s_ k_64)))), rfl, by rw [fl_val, if_neg c_2, if_neg c_4]; rfl, ht⟩) (fun _ h => nomatch h) dX1_fill_43
    · refine lv_ldc2d (own := RX1) (v := k_m1) hx hb hown (hts _ q208) dX1_fill_22 ?_
      exact W.dret (v := k_m1) hx hb hr (fun t ht hW => ⟨k_m1, rfl, by rw [fl_val, if_neg c_2, if_pos c_4], ht⟩) (fun _ h => nomatch h) dX1_fill_25

set_option maxHeartbeats 4000000 in
set_option maxRecDepth 100000 in
/-- GasRows.foam -/
theorem m_X0_foam (l : Launch) (h0 : Nat) (t : Int32) (hh : UInt64) (hf : fin_ hh) : Met l yX0_foam (ws_ yX0_foam cX0_foam 7 (some .double)) ({ frames := 1, cells := 0, slots := 0, locals := 25 }) (va_Pc [.ref h0, .int t, .double hh] (fun _ => True)) (vp_Sd (fun r => r = fm_x t hh)) 0 0 (fun _ => False) := by
  refine Met.ofW (cc := cX0_foam) (maxL := 7) (ret := (some .double)) (by decide) rfl ?_
  intro p e s m args below meth c s₁ B hml hv
  obtain ⟨rfl, hU⟩ := hv
  have hx := B.exec
  have hb := B.bytes
  have hr := B.returns
  have hts := atoms_spec (ws := ws_ yX0_foam cX0_foam 7 (some .double)) B.pre
  have hts : ∀ w ∈ lw_all, w.before _ s = true := fun w h => hts w (List.mem_cons_of_mem _ h)
  have hown : s.vm.findClass RX0 = some m.cls := findClass_of_methodNamed B.named
  have hlocks := B.notSynchronized
  have hl := lv_entry ([.ref h0, .int t, .double hh]) (n := 7) (Nat.le_of_ble_eq_true rfl)
  rw [lg_entry_eq]
  generalize (lg_sl ([.ref h0, .int t, .double hh]) ++ List.replicate (7 - (lg_sl ([.ref h0, .int t, .double hh])).length) Slot.unset).toArray = ls at hl ⊢
  have hl : lv_has ls 7 [(0, .ref h0), (1, .int t), (2, .double hh)] := hl
  refine lv_iload_n hx hb dX0_foam_0 rfl (lv_at hl 1 rfl) ?_
  refine vp_callSi (va_Run.run (va_runS (As := [.int t]) (rest := []) ⟨hx, hb, hml, hown, hts⟩ (m_X0_isTime l t) (va_cwS 1 hts (lw_S q115 q116 q6 q117) rfl rfl rfl (by decide +kernel) ⟨Nat.le_of_ble_eq_true rfl, Nat.le_of_ble_eq_true rfl⟩) ⟨fun _ _ _ _ q => q, fun U hU hW => ⟨rfl, trivial⟩⟩ rfl rfl hl.1 rfl (lv_room (Nat.le_of_ble_eq_true rfl)) dX0_foam_1 ⟨Nat.le_of_ble_eq_true rfl, Nat.le_of_ble_eq_true rfl⟩)) (fun r_1 hr_1 => ?_)
  subst hr_1
  refine lv_if_eq (tgt := 18) hx hb dX0_foam_4 (by decide) (fun c_2 => ?_) (fun c_2 => ?_)
  · refine lv_ldc2d (own := RX0) (v := k_m1) hx hb hown (hts _ q110) dX0_foam_18 ?_
    exact W.dret (v := k_m1) hx hb hr (fun t ht hW => ⟨k_m1, rfl, by rw [fm_x, if_pos c_2], ht⟩) (fun _ h => nomatch h) dX0_foam_21
  · refine lv_dload_n hx hb dX0_foam_7 rfl (lv_at hl 2 rfl) ?_
    refine lv_dconst0 hx hb dX0_foam_8 ?_
    refine lv_ldc2d (own := RX0) (v := k_1000) hx hb hown (hts _ q124) dX0_foam_9 ?_
    refine vp_callSi (va_Run.run (va_runS (As := [.double hh, .double FP.dconst0, .double k_1000]) (rest := []) ⟨hx, hb, hml, hown, hts⟩ (m_X0_isWithin l hh FP.dconst0 k_1000) (va_cwS 3 hts (lw_S q34 q35 q6 q36) rfl rfl rfl (by decide +kernel) ⟨Nat.le_of_ble_eq_true rfl, Nat.le_of_ble_eq_true rfl⟩) ⟨fun _ _ _ _ q => q, fun U hU hW => ⟨rfl, trivial⟩⟩ rfl rfl hl.1 rfl (lv_room (Nat.le_of_ble_eq_true rfl)) dX0_foam_12 ⟨Nat.le_of_ble_eq_true rfl, Nat.le_of_ble_eq_true rfl⟩)) (fun r_3 hr_3 => ?_)
    subst hr_3
    refine lv_if_ne (tgt := 22) hx hb dX0_foam_15 (by decide) (fun c_4 => ?_) (fun c_4 => ?_)
    · obtain ⟨et, hn⟩ := tm_time c_2
      refine lv_dload_n hx hb dX0_foam_22 rfl (lv_at hl 2 rfl) ?_
      refine lv_dstore (lv' := [(4, .double hh), (0, .ref h0), (1, .int t), (2, .double hh)]) hx hb dX0_foam_23 hl (by decide) rfl (fun ls hl => ?_)
      refine lv_iconst (v := 0) hx hb dX0_foam_25 (by decide) ?_
      refine lv_istore (lv' := [(6, .int 0), (4, .double hh), (0, .ref h0), (1, .int t), (2, .double hh)]) hx hb dX0_foam_26 hl (by decide) rfl (fun ls hl => ?_)
      have loop : ∀ (j i : Nat) (h : UInt64), i + j = tm_n t → fo_I h → fo_x j h = fo_x (tm_n t) hh → ∀ ls : Array Slot, lv_has ls 7 [(6, .int (nI i)), (4, .double h), (0, .ref h0), (1, .int t), (2, .double hh)] → W p l e (headSpec (ws_ yX0_foam cX0_foam 7 (some .double)) ({ frames := 1, cells := 0, slots := 0, locals := 25 })).room s m ([.ref h0, .int t, .double hh] : List Value).toArray below meth c s.heap [] 0 0 (MQ below (vp_Sd (fun r => r = fm_x t hh)) ([.ref h0, .int t, .double hh] : List Value).toArray s 0 0 (fun _ => False)) (F0 m 28 ls []) := by
        intro j
        induction j with
        | zero =>
          intro i h hij hI hV ls hl
          refine lv_iload hx hb dX0_foam_28 (lv_at hl 0 rfl) ?_
          refine lv_iload_n hx hb dX0_foam_30 rfl (lv_at hl 3 rfl) ?_
          refine lv_icmp_ge (tgt := 72) hx hb dX0_foam_31 (by decide) (fun c_5 => ?_) (fun c_5 => ?_)
          · refine lv_dload hx hb dX0_foam_72 (lv_at hl 1 rfl) ?_
            exact W.dret (v := h) hx hb hr (fun t ht hW => ⟨h, rfl, by rw [fm_x, if_neg c_2, if_neg c_4]; exact hV, ht⟩) (fun _ h => nomatch h) dX0_foam_74
          · exact absurd (by rw [et]; exact nI_le (by omega) (by omega)) c_5
        | succ j ih =>
          intro i h hij hI hV ls hl
          refine lv_iload hx hb dX0_foam_28 (lv_at hl 0 rfl) ?_
          refine lv_iload_n hx hb dX0_foam_30 rfl (lv_at hl 3 rfl) ?_
          refine lv_icmp_ge (tgt := 72) hx hb dX0_foam_31 (by decide) (fun c_6 => ?_) (fun c_6 => ?_)
          · exact absurd (by rw [← et]; exact c_6) (nI_ge (a := i) (b := tm_n t) (by omega) (by omega))
          · refine lv_dload hx hb dX0_foam_34 (lv_at hl 1 rfl) ?_
            refine lv_dconst0 hx hb dX0_foam_36 ?_
            refine lv_dcmp hx hb dX0_foam_37 ?_
            refine lv_if_le (tgt := 72) hx hb dX0_foam_38 (by decide) (fun c_7 => ?_) (fun c_7 => ?_)
            · refine lv_dload hx hb dX0_foam_72 (lv_at hl 1 rfl) ?_
              exact W.dret (v := h) hx hb hr (fun t ht hW => ⟨h, rfl, by rw [fm_x, if_neg c_2, if_neg c_4, ← hV, fo_x, if_pos c_7], ht⟩) (fun _ h => nomatch h) dX0_foam_74
            · have ok := fo_ok hI
              refine lv_dload hx hb dX0_foam_41 (lv_at hl 1 rfl) ?_
              refine lv_dload hx hb dX0_foam_43 (lv_at hl 1 rfl) ?_
              refine lv_ldc2d (own := RX0) (v := k_256) hx hb hown (hts _ q155) dX0_foam_45 ?_
              refine lv_dmul hx hb dX0_foam_48 (ok.1) ?_
              refine lv_ldc2d (own := RX0) (v := k_512) hx hb hown (hts _ q156) dX0_foam_49 ?_
              refine lv_dadd hx hb dX0_foam_52 (ok.2.1) ?_
              refine lv_dsub hx hb dX0_foam_53 (ok.2.2.1) ?_
              refine lv_dstore (lv' := [(4, .double (FP.dsub h (FP.dadd (FP.dmul h k_256) k_512))), (6, .int (nI i)), (0, .ref h0), (1, .int t), (2, .double hh)]) hx hb dX0_foam_54 hl (by decide) rfl (fun ls hl => ?_)
              refine lv_dload hx hb dX0_foam_56 (lv_at hl 0 rfl) ?_
              refine lv_dconst0 hx hb dX0_foam_58 ?_
              refine lv_dcmp hx hb dX0_foam_59 ?_
              refine lv_if_ge (tgt := 66) hx hb dX0_foam_60 (by decide) (fun c_8 => ?_) (fun c_8 => ?_)
              · refine lv_iinc (v := nI (i + 1)) (lv' := [(6, .int (nI (i + 1))), (4, .double (FP.dsub h (FP.dadd (FP.dmul h k_256) k_512))), (0, .ref h0), (1, .int t), (2, .double hh)]) hx hb dX0_foam_66 hl (k := 1) rfl (nI_1 i) (by decide) rfl (fun ls hl => ?_)
                refine lv_goto (tgt := 28) hx hb dX0_foam_69 (by decide) ?_
                have es : fo_step h = (FP.dsub h (FP.dadd (FP.dmul h k_256) k_512)) := by rw [fo_step, fo_w, if_pos c_8]
                exact ih (i + 1) _ (by omega) (es ▸ ok.2.2.2.1) (by rw [← hV, fo_x, if_neg c_7, es]) ls (lv_sub hl [0, 1, 2, 3, 4] rfl)
              · refine lv_dconst0 hx hb dX0_foam_63 ?_
                refine lv_dstore (lv' := [(4, .double FP.dconst0), (6, .int (nI i)), (0, .ref h0), (1, .int t), (2, .double hh)]) hx hb dX0_foam_64 hl (by decide) rfl (fun ls hl => ?_)
                refine lv_iinc (v := nI (i + 1)) (lv' := [(6, .int (nI (i + 1))), (4, .double FP.dconst0), (0, .ref h0), (1, .int t), (2, .double hh)]) hx hb dX0_foam_66 hl (k := 1) rfl (nI_1 i) (by decide) rfl (fun ls hl => ?_)
                refine lv_goto (tgt := 28) hx hb dX0_foam_69 (by decide) ?_
                have es : fo_step h = FP.dconst0 := by rw [fo_step, fo_w, if_neg c_8]
                exact ih (i + 1) _ (by omega) (es ▸ ok.2.2.2.1) (by rw [← hV, fo_x, if_neg c_7, es]) ls (lv_sub hl [0, 1, 2, 3, 4] rfl)
      exact loop (tm_n t) 0 hh (by omega) (in_1000 hf c_4) rfl ls (lv_sub hl [0, 1, 2, 3, 4] rfl)
    · refine lv_ldc2d (own := RX0) (v := k_m1) hx hb hown (hts _ q110) dX0_foam_18 ?_
      exact W.dret (v := k_m1) hx hb hr (fun t ht hW => ⟨k_m1, rfl, by rw [fm_x, if_neg c_2, if_pos c_4], ht⟩) (fun _ h => nomatch h) dX0_foam_21

set_option maxHeartbeats 4000000 in
set_option maxRecDepth 100000 in
/-- GasRowsModel.foam -/
theorem m_X1_foam (l : Launch) (h0 : Nat) (t : Int32) (hh : UInt64) (hf : fin_ hh) : Met l yX1_foam (ws_ yX1_foam cX1_foam 9 (some .double)) ({ frames := 1, cells := 0, slots := 0, locals := 25 }) (va_Pc [.ref h0, .int t, .double hh] (fun _ => True)) (vp_Sd (fun r => r = fm_m t hh)) 0 0 (fun _ => False) := by
  refine Met.ofW (cc := cX1_foam) (maxL := 9) (ret := (some .double)) (by decide) rfl ?_
  intro p e s m args below meth c s₁ B hml hv
  obtain ⟨rfl, hU⟩ := hv
  have hx := B.exec
  have hb := B.bytes
  have hr := B.returns
  have hts := atoms_spec (ws := ws_ yX1_foam cX1_foam 9 (some .double)) B.pre
  have hts : ∀ w ∈ lw_all, w.before _ s = true := fun w h => hts w (List.mem_cons_of_mem _ h)
  have hown : s.vm.findClass RX1 = some m.cls := findClass_of_methodNamed B.named
  have hlocks := B.notSynchronized
  have hl := lv_entry ([.ref h0, .int t, .double hh]) (n := 9) (Nat.le_of_ble_eq_true rfl)
  rw [lg_entry_eq]
  generalize (lg_sl ([.ref h0, .int t, .double hh]) ++ List.replicate (9 - (lg_sl ([.ref h0, .int t, .double hh])).length) Slot.unset).toArray = ls at hl ⊢
  have hl : lv_has ls 9 [(0, .ref h0), (1, .int t), (2, .double hh)] := hl
  refine lv_dload_n hx hb dX1_foam_0 rfl (lv_at hl 2 rfl) ?_
  refine lv_dconst0 hx hb dX1_foam_1 ?_
  refine lv_ldc2d (own := RX1) (v := k_1000) hx hb hown (hts _ q219) dX1_foam_2 ?_
  refine vp_callSi (va_Run.run (va_runS (As := [.double hh, .double FP.dconst0, .double k_1000]) (rest := []) ⟨hx, hb, hml, hown, hts⟩ (m_X1_isIn l hh FP.dconst0 k_1000) (va_cwS 3 hts (lw_S q192 q193 q7 q194) rfl rfl rfl (by decide +kernel) ⟨Nat.le_of_ble_eq_true rfl, Nat.le_of_ble_eq_true rfl⟩) ⟨fun _ _ _ _ q => q, fun U hU hW => ⟨rfl, trivial⟩⟩ rfl rfl hl.1 rfl (lv_room (Nat.le_of_ble_eq_true rfl)) dX1_foam_5 ⟨Nat.le_of_ble_eq_true rfl, Nat.le_of_ble_eq_true rfl⟩)) (fun r_1 hr_1 => ?_)
  subst hr_1
  refine lv_if_eq (tgt := 21) hx hb dX1_foam_8 (by decide) (fun c_2 => ?_) (fun c_2 => ?_)
  · refine lv_ldc2d (own := RX1) (v := k_m1) hx hb hown (hts _ q208) dX1_foam_21 ?_
    exact W.dret (v := k_m1) hx hb hr (fun t ht hW => ⟨k_m1, rfl, by rw [fm_m, if_pos c_2], ht⟩) (fun _ h => nomatch h) dX1_foam_24
  · refine lv_iload_n hx hb dX1_foam_11 rfl (lv_at hl 1 rfl) ?_
    refine lv_if_lt (tgt := 21) hx hb dX1_foam_12 (by decide) (fun c_3 => ?_) (fun c_3 => ?_)
    · refine lv_ldc2d (own := RX1) (v := k_m1) hx hb hown (hts _ q208) dX1_foam_21 ?_
      exact W.dret (v := k_m1) hx hb hr (fun t ht hW => ⟨k_m1, rfl, by rw [fm_m, if_neg c_2, if_pos c_3], ht⟩) (fun _ h => nomatch h) dX1_foam_24
    · refine lv_iload_n hx hb dX1_foam_15 rfl (lv_at hl 1 rfl) ?_
      refine lv_ldc (own := RX1) (v := 100000) hx hb hown (hts _ q213) dX1_foam_16 ?_
      refine lv_icmp_le (tgt := 25) hx hb dX1_foam_18 (by decide) (fun c_4 => ?_) (fun c_4 => ?_)
      · obtain ⟨et, hn⟩ := tm_ok c_3 c_4
        refine lv_dload_n hx hb dX1_foam_25 rfl (lv_at hl 2 rfl) ?_
        refine lv_dstore (lv' := [(4, .double hh), (0, .ref h0), (1, .int t), (2, .double hh)]) hx hb dX1_foam_26 hl (by decide) rfl (fun ls hl => ?_)
        refine lv_iconst (v := 0) hx hb dX1_foam_28 (by decide) ?_
        refine lv_istore (lv' := [(6, .int 0), (4, .double hh), (0, .ref h0), (1, .int t), (2, .double hh)]) hx hb dX1_foam_29 hl (by decide) rfl (fun ls hl => ?_)
        have loop : ∀ (j i : Nat) (h : UInt64), i + j = tm_n t → fo_I h → fo_m j h = fo_m (tm_n t) hh → ∀ ls : Array Slot, lv_has ls 9 [(6, .int (nI i)), (4, .double h), (0, .ref h0), (1, .int t), (2, .double hh)] → W p l e (headSpec (ws_ yX1_foam cX1_foam 9 (some .double)) ({ frames := 1, cells := 0, slots := 0, locals := 25 })).room s m ([.ref h0, .int t, .double hh] : List Value).toArray below meth c s.heap [] 0 0 (MQ below (vp_Sd (fun r => r = fm_m t hh)) ([.ref h0, .int t, .double hh] : List Value).toArray s 0 0 (fun _ => False)) (F0 m 31 ls []) := by
          intro j
          induction j with
          | zero =>
            intro i h hij hI hV ls hl
            refine lv_iload hx hb dX1_foam_31 (lv_at hl 0 rfl) ?_
            refine lv_iload_n hx hb dX1_foam_33 rfl (lv_at hl 3 rfl) ?_
            refine lv_icmp_ge (tgt := 76) hx hb dX1_foam_34 (by decide) (fun c_5 => ?_) (fun c_5 => ?_)
            · refine lv_dload hx hb dX1_foam_76 (lv_at hl 1 rfl) ?_
              exact W.dret (v := h) hx hb hr (fun t ht hW => ⟨h, rfl, by rw [fm_m, if_neg c_2, if_neg c_3, if_pos c_4]; exact hV, ht⟩) (fun _ h => nomatch h) dX1_foam_78
            · exact absurd (by rw [et]; exact nI_le (by omega) (by omega)) c_5
          | succ j ih =>
            intro i h hij hI hV ls hl
            refine lv_iload hx hb dX1_foam_31 (lv_at hl 0 rfl) ?_
            refine lv_iload_n hx hb dX1_foam_33 rfl (lv_at hl 3 rfl) ?_
            refine lv_icmp_ge (tgt := 76) hx hb dX1_foam_34 (by decide) (fun c_6 => ?_) (fun c_6 => ?_)
            · exact absurd (by rw [← et]; exact c_6) (nI_ge (a := i) (b := tm_n t) (by omega) (by omega))
            · have ok := fo_ok hI
              refine lv_dload hx hb dX1_foam_37 (lv_at hl 1 rfl) ?_
              refine lv_ldc2d (own := RX1) (v := k_256) hx hb hown (hts _ q250) dX1_foam_39 ?_
              refine lv_dmul hx hb dX1_foam_42 (ok.1) ?_
              refine lv_ldc2d (own := RX1) (v := k_512) hx hb hown (hts _ q251) dX1_foam_43 ?_
              refine lv_dadd hx hb dX1_foam_46 (ok.2.1) ?_
              refine lv_dstore (lv' := [(7, .double (FP.dadd (FP.dmul h k_256) k_512)), (6, .int (nI i)), (4, .double h), (0, .ref h0), (1, .int t), (2, .double hh)]) hx hb dX1_foam_47 hl (by decide) rfl (fun ls hl => ?_)
              refine lv_dload hx hb dX1_foam_49 (lv_at hl 2 rfl) ?_
              refine lv_dload hx hb dX1_foam_51 (lv_at hl 0 rfl) ?_
              refine lv_dsub hx hb dX1_foam_53 (ok.2.2.1) ?_
              refine lv_dconst0 hx hb dX1_foam_54 ?_
              refine lv_dcmp hx hb dX1_foam_55 ?_
              refine lv_if_ge (tgt := 63) hx hb dX1_foam_56 (by decide) (fun c_7 => ?_) (fun c_7 => ?_)
              · refine lv_dload hx hb dX1_foam_63 (lv_at hl 2 rfl) ?_
                refine lv_dload hx hb dX1_foam_65 (lv_at hl 0 rfl) ?_
                refine lv_dsub hx hb dX1_foam_67 (ok.2.2.1) ?_
                refine lv_dstore (lv' := [(4, .double (FP.dsub h (FP.dadd (FP.dmul h k_256) k_512))), (7, .double (FP.dadd (FP.dmul h k_256) k_512)), (6, .int (nI i)), (0, .ref h0), (1, .int t), (2, .double hh)]) hx hb dX1_foam_68 hl (by decide) rfl (fun ls hl => ?_)
                refine lv_iinc (v := nI (i + 1)) (lv' := [(6, .int (nI (i + 1))), (4, .double (FP.dsub h (FP.dadd (FP.dmul h k_256) k_512))), (7, .double (FP.dadd (FP.dmul h k_256) k_512)), (0, .ref h0), (1, .int t), (2, .double hh)]) hx hb dX1_foam_70 hl (k := 2) rfl (nI_1 i) (by decide) rfl (fun ls hl => ?_)
                refine lv_goto (tgt := 31) hx hb dX1_foam_73 (by decide) ?_
                have es : fo_step h = (FP.dsub h (FP.dadd (FP.dmul h k_256) k_512)) := by rw [fo_step, fo_w, if_pos c_7]
                exact ih (i + 1) _ (by omega) (es ▸ ok.2.2.2.1) (by rw [← hV, fo_m, es]) ls (lv_sub hl [0, 1, 3, 4, 5] rfl)
              · refine lv_dconst0 hx hb dX1_foam_59 ?_
                refine lv_goto (tgt := 68) hx hb dX1_foam_60 (by decide) ?_
                refine lv_dstore (lv' := [(4, .double FP.dconst0), (7, .double (FP.dadd (FP.dmul h k_256) k_512)), (6, .int (nI i)), (0, .ref h0), (1, .int t), (2, .double hh)]) hx hb dX1_foam_68 hl (by decide) rfl (fun ls hl => ?_)
                refine lv_iinc (v := nI (i + 1)) (lv' := [(6, .int (nI (i + 1))), (4, .double FP.dconst0), (7, .double (FP.dadd (FP.dmul h k_256) k_512)), (0, .ref h0), (1, .int t), (2, .double hh)]) hx hb dX1_foam_70 hl (k := 2) rfl (nI_1 i) (by decide) rfl (fun ls hl => ?_)
                refine lv_goto (tgt := 31) hx hb dX1_foam_73 (by decide) ?_
                have es : fo_step h = FP.dconst0 := by rw [fo_step, fo_w, if_neg c_7]
                exact ih (i + 1) _ (by omega) (es ▸ ok.2.2.2.1) (by rw [← hV, fo_m, es]) ls (lv_sub hl [0, 1, 3, 4, 5] rfl)
        exact loop (tm_n t) 0 hh (by omega) (in_1000 hf c_2) rfl ls (lv_sub hl [0, 1, 2, 3, 4] rfl)
      · refine lv_ldc2d (own := RX1) (v := k_m1) hx hb hown (hts _ q208) dX1_foam_21 ?_
        exact W.dret (v := k_m1) hx hb hr (fun t ht hW => ⟨k_m1, rfl, by rw [fm_m, if_neg c_2, if_neg c_3, if_neg c_4], ht⟩) (fun _ h => nomatch h) dX1_foam_24
end
section
/-! the reference's world, and what its searches find -/
abbrev vwCl : List vw_C := [(RX0, TX0, 2), (RX1, TX1, 4), (RX2, TX2, 3), (RX3, TX3, 3)]
abbrev gm_W (hm hw hb_ ha : Nat) (A0 A1 A2 : ClassId) (n : Nat) (fw fb fa : Nat → UInt64) : va_W := [(hm, .inr (1, [.int (nI n), .ref hw, .ref hb_, .ref ha])), (hw, .inl (A0, 30, .inr (.inr (.inr (.inl fw))))), (hb_, .inl (A1, 30, .inr (.inr (.inr (.inl fb))))), (ha, .inl (A2, 30, .inr (.inr (.inr (.inl fa)))))]
abbrev gm_T (A0 A1 A2 : ClassId) : List (ClassId × FieldType) := [(A0, .double), (A1, .double), (A2, .double)]
/-- the heap holds the cells ws, the classes are as the tables have them -/
def gm_B (dC : Nat → ClassId) (dI : Nat → Nat → Nat) (ws : va_W) (tys : List (ClassId × FieldType)) (U : State) : Prop := va_P (dC, dI) vwCl ws U.heap ∧ va_K (dC, dI) vwCl tys U
theorem gm_fb {av : List Value} {dC : Nat → ClassId} {dI : Nat → Nat → Nat} {ws : va_W} {tys : List (ClassId × FieldType)} : FrameBlind (va_Pc av (gm_B dC dI ws tys)) := fun a U g mk q => ⟨q.1, q.2.1, va_K.moved (u := U) (U := U.calling g mk a) (Vm.Alike.refl U.vm) q.2.2⟩
theorem gm_pre {dC : Nat → ClassId} {dI : Nat → Nat → Nat} {ws : va_W} {tys : List (ClassId × FieldType)} {s U : State} {H : Heap} (hP : va_P (dC, dI) vwCl ws H) (hK : va_K (dC, dI) vwCl tys s) (hU : U.heap = H) (hW : s.WarmedH U.vm) : gm_B dC dI ws tys U := ⟨by rw [hU]; exact hP, va_K.moved hW.alike hK⟩
/-- j is the place with the greatest z among those under n with P -/
def bst (n : Nat) (P : Nat → Prop) (z : Nat → Int) (j : Nat) : Prop := j < n ∧ P j ∧ ∀ k, k < n → P k → z k ≤ z j
def bmx (n : Nat) (P : Nat → Prop) (z : Nat → Int) (p : Int32) : Prop := (p = -1 ∧ ∀ k, k < n → ¬ P k) ∨ ∃ j, p = nI j ∧ bst n P z j
theorem bmx_0 (P : Nat → Prop) (z : Nat → Int) : bmx 0 P z (-1) := Or.inl ⟨rfl, fun k h => absurd h (by omega)⟩
theorem bmx_skip {i : Nat} {P : Nat → Prop} {z : Nat → Int} {p : Int32} (h : bmx i P z p) (hP : ¬ P i) : bmx (i + 1) P z p := by
  rcases h with ⟨e, h⟩ | ⟨j, e, h1, h2, h3⟩
  · exact Or.inl ⟨e, lt_s h hP⟩
  · exact Or.inr ⟨j, e, by omega, h2, lt_s h3 (fun q => absurd q hP)⟩
theorem bmx_ge {i : Nat} {P : Nat → Prop} {z : Nat → Int} {p : Int32} (h : bmx i P z p) (hp : ¬ p < 0) : ∃ j, p = nI j ∧ bst i P z j := by
  rcases h with ⟨e, -⟩ | h
  · exact absurd (by rw [e]; decide) hp
  · exact h
theorem bmx_none {i : Nat} {P : Nat → Prop} {z : Nat → Int} {p : Int32} (hi : i ≤ 30) (h : bmx i P z p) (hp : p < 0) : ∀ k, k < i → ¬ P k := by
  rcases h with ⟨-, h⟩ | ⟨j, e, h1, -⟩
  · exact h
  · rw [e] at hp
    exact absurd hp (nI_pos (by omega))
theorem bmx_first {i : Nat} {P : Nat → Prop} {z : Nat → Int} {p : Int32} (hi : i ≤ 30) (h : bmx i P z p) (hp : p < 0) (hP : P i) : bmx (i + 1) P z (nI i) := by
  have hn := bmx_none hi h hp
  exact Or.inr ⟨i, rfl, by omega, hP, lt_s (fun k hk q => absurd q (hn k hk)) (fun _ => Int.le_refl _)⟩
theorem bmx_keep {i j : Nat} {P : Nat → Prop} {z : Nat → Int} {p : Int32} (e : p = nI j) (h : bst i P z j) (hz : z i ≤ z j) : bmx (i + 1) P z p := Or.inr ⟨j, e, by have := h.1; omega, h.2.1, lt_s h.2.2 (fun _ => hz)⟩
theorem bmx_new {i j : Nat} {P : Nat → Prop} {z : Nat → Int} (h : bst i P z j) (hz : z j < z i) (hP : P i) : bmx (i + 1) P z (nI i) := Or.inr ⟨i, rfl, by omega, hP, lt_s (fun k hk q => by have := h.2.2 k hk q; omega) (fun _ => Int.le_refl _)⟩
/-- the reference's rows: n of them, their degrees and bars as whole numbers -/
def gm_S (n : Nat) (fw fb : Nat → UInt64) (zw zb : Nat → Int) : Prop := n ≤ 30 ∧ (∀ k, k < n → fv (fw k) (zw k)) ∧ ∀ k, k < n → fv (fb k) (zb k)
/-- what 'line' answers for the degrees zD and the bar B -/
def ln_ok (n : Nat) (zw zb : Nat → Int) (fb fa : Nat → UInt64) (zD zB : Int) (B v : UInt64) : Prop :=
  (∀ jq, bst n (fun k => zw k = zD ∧ zB < zb k) (fun k => -zb k) jq → (∀ k, k < n → ¬ (zw k = zD ∧ zb k ≤ zB)) → fa jq = v) ∧
  (∀ jp, bst n (fun k => zw k = zD ∧ zb k ≤ zB) zb jp → (∀ k, k < n → ¬ (zw k = zD ∧ zB < zb k)) → fa jp = v) ∧
  (∀ jp jq, bst n (fun k => zw k = zD ∧ zb k ≤ zB) zb jp → bst n (fun k => zw k = zD ∧ zB < zb k) (fun k => -zb k) jq → gr_jok (fb jp) (fa jp) (fb jq) (fa jq) B ∧ gr_join (fb jp) (fa jp) (fb jq) (fa jq) B = v) ∧
  (∃ k, k < n ∧ zw k = zD)
/-- what 'reckon' answers for the degrees D and the bar B -/
def rkv (n : Nat) (zw zb : Nat → Int) (fw fb fa : Nat → UInt64) (D B v : UInt64) : Prop := ∃ (zD zB : Int) (LV : Nat → UInt64), fv D zD ∧ fv B zB ∧ (∀ j, j < n → ln_ok n zw zb fb fa (zw j) zB B (LV j)) ∧
  ((∀ k, k < n → ¬ zw k ≤ zD) → (∀ k, k < n → ¬ zD < zw k) → FP.dconst0 = v) ∧
  (∀ jq, bst n (fun k => zD < zw k) (fun k => -zw k) jq → (∀ k, k < n → ¬ zw k ≤ zD) → LV jq = v) ∧
  (∀ jp, bst n (fun k => zw k ≤ zD) zw jp → (∀ k, k < n → ¬ zD < zw k) → LV jp = v) ∧
  (∀ jp jq, bst n (fun k => zw k ≤ zD) zw jp → bst n (fun k => zD < zw k) (fun k => -zw k) jq → zw jp = zD → LV jp = v) ∧
  (∀ jp jq, bst n (fun k => zw k ≤ zD) zw jp → bst n (fun k => zD < zw k) (fun k => -zw k) jq → ¬ zw jp = zD → gr_jok (fw jp) (LV jp) (fw jq) (LV jq) D ∧ gr_join (fw jp) (LV jp) (fw jq) (LV jq) D = v)
end
section
/-! GasRowsModel: line and reckon -/
set_option maxHeartbeats 4000000 in
set_option maxRecDepth 100000 in
/-- GasRowsModel.line -/
theorem m_X1_line (l : Launch) (dC : Nat → ClassId) (dI : Nat → Nat → Nat) (hm hw hb_ ha : Nat) (A0 A1 A2 : ClassId) (n : Nat) (fw fb fa : Nat → UInt64) (zw zb : Nat → Int) (hS : gm_S n fw fb zw zb) (dg bar : UInt64) (zD zB : Int) (v : UInt64) (hD : fv dg zD) (hB : fv bar zB) (hok : ln_ok n zw zb fb fa zD zB bar v) : Met l yX1_line (ws_ yX1_line cX1_line 8 (some .double)) ({ frames := 0, cells := 0, slots := 0, locals := 0 }) (va_Pc [.ref hm, .double dg, .double bar] (gm_B dC dI (gm_W hm hw hb_ ha A0 A1 A2 n fw fb fa) (gm_T A0 A1 A2))) (vp_Sd (fun r => r = v)) 0 0 (fun _ => False) := by
  refine Met.ofW (cc := cX1_line) (maxL := 8) (ret := (some .double)) (by decide) rfl ?_
  intro p e s m args below meth c s₁ B hml hv
  obtain ⟨rfl, hP, hK⟩ := hv
  have hx := B.exec
  have hb := B.bytes
  have hr := B.returns
  have hts := atoms_spec (ws := ws_ yX1_line cX1_line 8 (some .double)) B.pre
  have hts : ∀ w ∈ lw_all, w.before _ s = true := fun w h => hts w (List.mem_cons_of_mem _ h)
  have hown : s.vm.findClass RX1 = some m.cls := findClass_of_methodNamed B.named
  have hlocks := B.notSynchronized
  have hl := lv_entry ([.ref hm, .double dg, .double bar]) (n := 8) (Nat.le_of_ble_eq_true rfl)
  rw [lg_entry_eq]
  generalize (lg_sl ([.ref hm, .double dg, .double bar]) ++ List.replicate (8 - (lg_sl ([.ref hm, .double dg, .double bar])).length) Slot.unset).toArray = ls at hl ⊢
  have hl : lv_has ls 8 [(0, .ref hm), (1, .double dg), (3, .double bar)] := hl
  have hP : va_P (dC, dI) vwCl (gm_W hm hw hb_ ha A0 A1 A2 n fw fb fa) s.heap := hP
  have hK : va_K (dC, dI) vwCl (gm_T A0 A1 A2) s := hK
  obtain ⟨hn30, hzw, hzb⟩ := hS
  obtain ⟨hv1, hv2, hv3, kx, hkx, hkx2⟩ := hok
  have fin : ∀ (i : Nat) (pp qq : Int32), i = n → bmx n (fun k => zw k = zD ∧ zb k ≤ zB) zb pp → bmx n (fun k => zw k = zD ∧ zB < zb k) (fun k => -zb k) qq → ∀ ls : Array Slot, lv_has ls 8 [(7, .int (nI i)), (6, .int qq), (5, .int pp), (0, .ref hm), (1, .double dg), (3, .double bar)] → W p l e (headSpec (ws_ yX1_line cX1_line 8 (some .double)) ({ frames := 0, cells := 0, slots := 0, locals := 0 })).room s m ([.ref hm, .double dg, .double bar] : List Value).toArray below meth c s.heap [] 0 0 (MQ below (vp_Sd (fun r => r = v)) ([.ref hm, .double dg, .double bar] : List Value).toArray s 0 0 (fun _ => False)) (F0 m 124 ls []) := by
    intro i pp qq hi hp hq ls hl
    rcases hp with ⟨ep, np⟩ | ⟨jp, ep, bp⟩
    · rcases hq with ⟨eq, nq⟩ | ⟨jq, eq, bq⟩
      · exact absurd hkx2 (fun e => by rcases Int.lt_or_le zB (zb kx) with h | h; exact nq kx hkx ⟨e, h⟩; exact np kx hkx ⟨e, h⟩)
      · refine lv_iload hx hb dX1_line_124 (lv_at hl 2 rfl) ?_
        refine lv_if_lt (tgt := 134) hx hb dX1_line_126 (by decide) (fun c_1 => ?_) (fun c_1 => ?_)
        · refine lv_aload_n hx hb dX1_line_134 rfl (lv_at hl 3 rfl) ?_
          refine va_get (D := (dC, dI)) (ci := 1) (v := .ref ha) (C := RX1) (T := TX1) (N := 4) hx hb hts in_X1 hown hK hP 0 rfl rfl 3 (by decide) (hts _ q172) (fun _ h9 => h9) rfl dX1_line_135 ?_
          refine lv_iload hx hb dX1_line_138 (lv_at hl 2 rfl) ?_
          refine lv_if_ge (tgt := 148) hx hb dX1_line_140 (by decide) (fun c_2 => ?_) (fun c_2 => ?_)
          · exact absurd c_2 (by rw [ep]; decide)
          · refine lv_iload hx hb dX1_line_143 (lv_at hl 1 rfl) ?_
            refine lv_goto (tgt := 150) hx hb dX1_line_145 (by decide) ?_
            refine va_dald hx hb hK hP 3 2 rfl rfl (by rw [eq]; exact vp_in_nI (by have := bq.1; omega) (by omega)) dX1_line_150 ?_
            refine lv_topd (fun f_3 ef_3 => ?_)
            obtain rfl : f_3 = fa jq := by rw [ef_3, eq, nI_clamp (by have := bq.1; omega)]
            exact W.dret (v := (fa jq)) hx hb hr (fun t ht hW => ⟨(fa jq), rfl, hv1 jq bq np, ht⟩) (fun _ h => nomatch h) dX1_line_151
        · exact absurd (by rw [ep]; decide) c_1
    · rcases hq with ⟨eq, nq⟩ | ⟨jq, eq, bq⟩
      · refine lv_iload hx hb dX1_line_124 (lv_at hl 2 rfl) ?_
        refine lv_if_lt (tgt := 134) hx hb dX1_line_126 (by decide) (fun c_4 => ?_) (fun c_4 => ?_)
        · exact absurd c_4 (by rw [ep]; exact nI_pos (by have := bp.1; omega))
        · refine lv_iload hx hb dX1_line_129 (lv_at hl 1 rfl) ?_
          refine lv_if_ge (tgt := 152) hx hb dX1_line_131 (by decide) (fun c_5 => ?_) (fun c_5 => ?_)
          · exact absurd c_5 (by rw [eq]; decide)
          · refine lv_aload_n hx hb dX1_line_134 rfl (lv_at hl 3 rfl) ?_
            refine va_get (D := (dC, dI)) (ci := 1) (v := .ref ha) (C := RX1) (T := TX1) (N := 4) hx hb hts in_X1 hown hK hP 0 rfl rfl 3 (by decide) (hts _ q172) (fun _ h9 => h9) rfl dX1_line_135 ?_
            refine lv_iload hx hb dX1_line_138 (lv_at hl 2 rfl) ?_
            refine lv_if_ge (tgt := 148) hx hb dX1_line_140 (by decide) (fun c_6 => ?_) (fun c_6 => ?_)
            · refine lv_iload hx hb dX1_line_148 (lv_at hl 2 rfl) ?_
              refine va_dald hx hb hK hP 3 2 rfl rfl (by rw [ep]; exact vp_in_nI (by have := bp.1; omega) (by omega)) dX1_line_150 ?_
              refine lv_topd (fun f_7 ef_7 => ?_)
              obtain rfl : f_7 = fa jp := by rw [ef_7, ep, nI_clamp (by have := bp.1; omega)]
              exact W.dret (v := (fa jp)) hx hb hr (fun t ht hW => ⟨(fa jp), rfl, hv2 jp bp nq, ht⟩) (fun _ h => nomatch h) dX1_line_151
            · exact absurd (by rw [ep]; exact nI_pos' (by have := bp.1; omega)) c_6
      · obtain ⟨hj, hjv⟩ := hv3 jp jq bp bq
        refine lv_iload hx hb dX1_line_124 (lv_at hl 2 rfl) ?_
        refine lv_if_lt (tgt := 134) hx hb dX1_line_126 (by decide) (fun c_8 => ?_) (fun c_8 => ?_)
        · exact absurd c_8 (by rw [ep]; exact nI_pos (by have := bp.1; omega))
        · refine lv_iload hx hb dX1_line_129 (lv_at hl 1 rfl) ?_
          refine lv_if_ge (tgt := 152) hx hb dX1_line_131 (by decide) (fun c_9 => ?_) (fun c_9 => ?_)
          · refine lv_aload_n hx hb dX1_line_152 rfl (lv_at hl 3 rfl) ?_
            refine va_get (D := (dC, dI)) (ci := 1) (v := .ref ha) (C := RX1) (T := TX1) (N := 4) hx hb hts in_X1 hown hK hP 0 rfl rfl 3 (by decide) (hts _ q172) (fun _ h9 => h9) rfl dX1_line_153 ?_
            refine lv_iload hx hb dX1_line_156 (lv_at hl 2 rfl) ?_
            refine va_dald hx hb hK hP 3 2 rfl rfl (by rw [ep]; exact vp_in_nI (by have := bp.1; omega) (by omega)) dX1_line_158 ?_
            refine lv_topd (fun f_10 ef_10 => ?_)
            obtain rfl : f_10 = fa jp := by rw [ef_10, ep, nI_clamp (by have := bp.1; omega)]
            refine lv_aload_n hx hb dX1_line_159 rfl (lv_at hl 3 rfl) ?_
            refine va_get (D := (dC, dI)) (ci := 1) (v := .ref ha) (C := RX1) (T := TX1) (N := 4) hx hb hts in_X1 hown hK hP 0 rfl rfl 3 (by decide) (hts _ q172) (fun _ h9 => h9) rfl dX1_line_160 ?_
            refine lv_iload hx hb dX1_line_163 (lv_at hl 1 rfl) ?_
            refine va_dald hx hb hK hP 3 2 rfl rfl (by rw [eq]; exact vp_in_nI (by have := bq.1; omega) (by omega)) dX1_line_165 ?_
            refine lv_topd (fun f_11 ef_11 => ?_)
            obtain rfl : f_11 = fa jq := by rw [ef_11, eq, nI_clamp (by have := bq.1; omega)]
            refine lv_aload_n hx hb dX1_line_166 rfl (lv_at hl 3 rfl) ?_
            refine va_get (D := (dC, dI)) (ci := 1) (v := .ref ha) (C := RX1) (T := TX1) (N := 4) hx hb hts in_X1 hown hK hP 0 rfl rfl 3 (by decide) (hts _ q172) (fun _ h9 => h9) rfl dX1_line_167 ?_
            refine lv_iload hx hb dX1_line_170 (lv_at hl 2 rfl) ?_
            refine va_dald hx hb hK hP 3 2 rfl rfl (by rw [ep]; exact vp_in_nI (by have := bp.1; omega) (by omega)) dX1_line_172 ?_
            refine lv_topd (fun f_12 ef_12 => ?_)
            obtain rfl : f_12 = fa jp := by rw [ef_12, ep, nI_clamp (by have := bp.1; omega)]
            refine lv_dsub hx hb dX1_line_173 (hj.1) ?_
            refine lv_dload_n hx hb dX1_line_174 rfl (lv_at hl 5 rfl) ?_
            refine lv_aload_n hx hb dX1_line_175 rfl (lv_at hl 3 rfl) ?_
            refine va_get (D := (dC, dI)) (ci := 1) (v := .ref hb_) (C := RX1) (T := TX1) (N := 4) hx hb hts in_X1 hown hK hP 0 rfl rfl 2 (by decide) (hts _ q171) (fun _ h9 => h9) rfl dX1_line_176 ?_
            refine lv_iload hx hb dX1_line_179 (lv_at hl 2 rfl) ?_
            refine va_dald hx hb hK hP 2 1 rfl rfl (by rw [ep]; exact vp_in_nI (by have := bp.1; omega) (by omega)) dX1_line_181 ?_
            refine lv_topd (fun f_13 ef_13 => ?_)
            obtain rfl : f_13 = fb jp := by rw [ef_13, ep, nI_clamp (by have := bp.1; omega)]
            refine lv_dsub hx hb dX1_line_182 (hj.2.1) ?_
            refine lv_dmul hx hb dX1_line_183 (hj.2.2.1) ?_
            refine lv_aload_n hx hb dX1_line_184 rfl (lv_at hl 3 rfl) ?_
            refine va_get (D := (dC, dI)) (ci := 1) (v := .ref hb_) (C := RX1) (T := TX1) (N := 4) hx hb hts in_X1 hown hK hP 0 rfl rfl 2 (by decide) (hts _ q171) (fun _ h9 => h9) rfl dX1_line_185 ?_
            refine lv_iload hx hb dX1_line_188 (lv_at hl 1 rfl) ?_
            refine va_dald hx hb hK hP 2 1 rfl rfl (by rw [eq]; exact vp_in_nI (by have := bq.1; omega) (by omega)) dX1_line_190 ?_
            refine lv_topd (fun f_14 ef_14 => ?_)
            obtain rfl : f_14 = fb jq := by rw [ef_14, eq, nI_clamp (by have := bq.1; omega)]
            refine lv_aload_n hx hb dX1_line_191 rfl (lv_at hl 3 rfl) ?_
            refine va_get (D := (dC, dI)) (ci := 1) (v := .ref hb_) (C := RX1) (T := TX1) (N := 4) hx hb hts in_X1 hown hK hP 0 rfl rfl 2 (by decide) (hts _ q171) (fun _ h9 => h9) rfl dX1_line_192 ?_
            refine lv_iload hx hb dX1_line_195 (lv_at hl 2 rfl) ?_
            refine va_dald hx hb hK hP 2 1 rfl rfl (by rw [ep]; exact vp_in_nI (by have := bp.1; omega) (by omega)) dX1_line_197 ?_
            refine lv_topd (fun f_15 ef_15 => ?_)
            obtain rfl : f_15 = fb jp := by rw [ef_15, ep, nI_clamp (by have := bp.1; omega)]
            refine lv_dsub hx hb dX1_line_198 (hj.2.2.2.1) ?_
            refine lv_ddiv hx hb dX1_line_199 (hj.2.2.2.2.1) ?_
            refine lv_dadd hx hb dX1_line_200 (hj.2.2.2.2.2) ?_
            exact W.dret (v := (FP.dadd (fa jp) (FP.ddiv (FP.dmul (FP.dsub (fa jq) (fa jp)) (FP.dsub bar (fb jp))) (FP.dsub (fb jq) (fb jp))))) hx hb hr (fun t ht hW => ⟨(FP.dadd (fa jp) (FP.ddiv (FP.dmul (FP.dsub (fa jq) (fa jp)) (FP.dsub bar (fb jp))) (FP.dsub (fb jq) (fb jp)))), rfl, hjv, ht⟩) (fun _ h => nomatch h) dX1_line_201
          · exact absurd (by rw [eq]; exact nI_pos' (by have := bq.1; omega)) c_9
  have loop : ∀ (j i : Nat) (pp qq : Int32), i + j = n → bmx i (fun k => zw k = zD ∧ zb k ≤ zB) zb pp → bmx i (fun k => zw k = zD ∧ zB < zb k) (fun k => -zb k) qq → ∀ ls : Array Slot, lv_has ls 8 [(7, .int (nI i)), (6, .int qq), (5, .int pp), (0, .ref hm), (1, .double dg), (3, .double bar)] → W p l e (headSpec (ws_ yX1_line cX1_line 8 (some .double)) ({ frames := 0, cells := 0, slots := 0, locals := 0 })).room s m ([.ref hm, .double dg, .double bar] : List Value).toArray below meth c s.heap [] 0 0 (MQ below (vp_Sd (fun r => r = v)) ([.ref hm, .double dg, .double bar] : List Value).toArray s 0 0 (fun _ => False)) (F0 m 9 ls []) := by
    intro j
    induction j with
    | zero =>
      intro i pp qq hij hp hq ls hl
      refine lv_iload hx hb dX1_line_9 (lv_at hl 0 rfl) ?_
      refine lv_aload_n hx hb dX1_line_11 rfl (lv_at hl 3 rfl) ?_
      refine va_get (D := (dC, dI)) (ci := 1) (v := .int (nI n)) (C := RX1) (T := TX1) (N := 4) hx hb hts in_X1 hown hK hP 0 rfl rfl 0 (by decide) (hts _ q169) (fun _ h9 => h9) rfl dX1_line_12 ?_
      refine lv_icmp_ge (tgt := 124) hx hb dX1_line_15 (by decide) (fun c_16 => ?_) (fun c_16 => ?_)
      · have hi : i = n := by omega
        exact fin i pp qq hi (hi ▸ hp) (hi ▸ hq) ls (lv_sub hl [0, 1, 2, 3, 4, 5] rfl)
      · exact absurd (nI_le (by omega) (by omega)) c_16
    | succ j ih =>
      intro i pp qq hij hp hq ls hl
      have half : ∀ p' : Int32, zw i = zD → bmx (i + 1) (fun k => zw k = zD ∧ zb k ≤ zB) zb p' → ∀ ls : Array Slot, lv_has ls 8 [(7, .int (nI i)), (6, .int qq), (5, .int pp), (0, .ref hm), (1, .double dg), (3, .double bar)] → W p l e (headSpec (ws_ yX1_line cX1_line 8 (some .double)) ({ frames := 0, cells := 0, slots := 0, locals := 0 })).room s m ([.ref hm, .double dg, .double bar] : List Value).toArray below meth c s.heap [] 0 0 (MQ below (vp_Sd (fun r => r = v)) ([.ref hm, .double dg, .double bar] : List Value).toArray s 0 0 (fun _ => False)) (F0 m 72 ls [.int p']) := by
        intro p' hwi hp' ls hl
        refine lv_istore (lv' := [(5, .int p'), (7, .int (nI i)), (6, .int qq), (0, .ref hm), (1, .double dg), (3, .double bar)]) hx hb dX1_line_72 hl (by decide) rfl (fun ls hl => ?_)
        refine lv_aload_n hx hb dX1_line_74 rfl (lv_at hl 3 rfl) ?_
        refine va_get (D := (dC, dI)) (ci := 1) (v := .ref hb_) (C := RX1) (T := TX1) (N := 4) hx hb hts in_X1 hown hK hP 0 rfl rfl 2 (by decide) (hts _ q171) (fun _ h9 => h9) rfl dX1_line_75 ?_
        refine lv_iload hx hb dX1_line_78 (lv_at hl 1 rfl) ?_
        refine va_dald hx hb hK hP 2 1 rfl rfl (vp_in_nI (by omega) (by omega)) dX1_line_80 ?_
        refine lv_topd (fun f_17 ef_17 => ?_)
        obtain rfl : f_17 = fb i := by rw [ef_17, nI_clamp (by omega)]
        refine lv_dload_n hx hb dX1_line_81 rfl (lv_at hl 5 rfl) ?_
        refine lv_dcmp hx hb dX1_line_82 ?_
        refine lv_if_le (tgt := 114) hx hb dX1_line_83 (by decide) (fun c_18 => ?_) (fun c_18 => ?_)
        · have hq2 := bmx_skip hq (show ¬ (fun k => zw k = zD ∧ zB < zb k) i from (fun h => absurd ((cv_le (hzb i (by omega)) hB .l).mp c_18) (Int.not_le.mpr h.2)))
          refine lv_iload hx hb dX1_line_114 (lv_at hl 2 rfl) ?_
          refine lv_istore (lv' := [(6, .int qq), (5, .int p'), (7, .int (nI i)), (0, .ref hm), (1, .double dg), (3, .double bar)]) hx hb dX1_line_116 hl (by decide) rfl (fun ls hl => ?_)
          refine lv_iinc (v := nI (i + 1)) (lv' := [(7, .int (nI (i + 1))), (6, .int qq), (5, .int p'), (0, .ref hm), (1, .double dg), (3, .double bar)]) hx hb dX1_line_118 hl (k := 2) rfl (nI_1 i) (by decide) rfl (fun ls hl => ?_)
          refine lv_goto (tgt := 9) hx hb dX1_line_121 (by decide) ?_
          exact ih (i + 1) _ _ (by omega) hp' hq2 ls (lv_sub hl [0, 1, 2, 3, 4, 5] rfl)
        · have hPi : (fun k => zw k = zD ∧ zB < zb k) i := ⟨hwi, Int.not_le.mp (fun h => c_18 ((cv_le (hzb i (by omega)) hB .l).mpr h))⟩
          refine lv_iload hx hb dX1_line_86 (lv_at hl 2 rfl) ?_
          refine lv_if_lt (tgt := 109) hx hb dX1_line_88 (by decide) (fun c_19 => ?_) (fun c_19 => ?_)
          · have hq2 := bmx_first (by omega) hq c_19 hPi
            refine lv_iload hx hb dX1_line_109 (lv_at hl 1 rfl) ?_
            refine lv_goto (tgt := 116) hx hb dX1_line_111 (by decide) ?_
            refine lv_istore (lv' := [(6, .int (nI i)), (5, .int p'), (7, .int (nI i)), (0, .ref hm), (1, .double dg), (3, .double bar)]) hx hb dX1_line_116 hl (by decide) rfl (fun ls hl => ?_)
            refine lv_iinc (v := nI (i + 1)) (lv' := [(7, .int (nI (i + 1))), (6, .int (nI i)), (5, .int p'), (0, .ref hm), (1, .double dg), (3, .double bar)]) hx hb dX1_line_118 hl (k := 2) rfl (nI_1 i) (by decide) rfl (fun ls hl => ?_)
            refine lv_goto (tgt := 9) hx hb dX1_line_121 (by decide) ?_
            exact ih (i + 1) _ _ (by omega) hp' hq2 ls (lv_sub hl [0, 1, 2, 3, 4, 5] rfl)
          · obtain ⟨jq, eq, bq⟩ := bmx_ge hq c_19
            refine lv_aload_n hx hb dX1_line_91 rfl (lv_at hl 3 rfl) ?_
            refine va_get (D := (dC, dI)) (ci := 1) (v := .ref hb_) (C := RX1) (T := TX1) (N := 4) hx hb hts in_X1 hown hK hP 0 rfl rfl 2 (by decide) (hts _ q171) (fun _ h9 => h9) rfl dX1_line_92 ?_
            refine lv_iload hx hb dX1_line_95 (lv_at hl 1 rfl) ?_
            refine va_dald hx hb hK hP 2 1 rfl rfl (vp_in_nI (by omega) (by omega)) dX1_line_97 ?_
            refine lv_topd (fun f_20 ef_20 => ?_)
            obtain rfl : f_20 = fb i := by rw [ef_20, nI_clamp (by omega)]
            refine lv_aload_n hx hb dX1_line_98 rfl (lv_at hl 3 rfl) ?_
            refine va_get (D := (dC, dI)) (ci := 1) (v := .ref hb_) (C := RX1) (T := TX1) (N := 4) hx hb hts in_X1 hown hK hP 0 rfl rfl 2 (by decide) (hts _ q171) (fun _ h9 => h9) rfl dX1_line_99 ?_
            refine lv_iload hx hb dX1_line_102 (lv_at hl 2 rfl) ?_
            refine va_dald hx hb hK hP 2 1 rfl rfl (by rw [eq]; exact vp_in_nI (by have := bq.1; omega) (by omega)) dX1_line_104 ?_
            refine lv_topd (fun f_21 ef_21 => ?_)
            obtain rfl : f_21 = fb jq := by rw [ef_21, eq, nI_clamp (by have := bq.1; omega)]
            refine lv_dcmp hx hb dX1_line_105 ?_
            refine lv_if_ge (tgt := 114) hx hb dX1_line_106 (by decide) (fun c_22 => ?_) (fun c_22 => ?_)
            · have hq2 : bmx (i + 1) (fun k => zw k = zD ∧ zB < zb k) (fun k => -zb k) qq := bmx_keep eq bq (by have := (cv_ge (hzb i (by omega)) (hzb jq (by have := bq.1; omega)) .g).mp c_22; show -_ ≤ -_; omega)
              refine lv_iload hx hb dX1_line_114 (lv_at hl 2 rfl) ?_
              refine lv_istore (lv' := [(6, .int qq), (5, .int p'), (7, .int (nI i)), (0, .ref hm), (1, .double dg), (3, .double bar)]) hx hb dX1_line_116 hl (by decide) rfl (fun ls hl => ?_)
              refine lv_iinc (v := nI (i + 1)) (lv' := [(7, .int (nI (i + 1))), (6, .int qq), (5, .int p'), (0, .ref hm), (1, .double dg), (3, .double bar)]) hx hb dX1_line_118 hl (k := 2) rfl (nI_1 i) (by decide) rfl (fun ls hl => ?_)
              refine lv_goto (tgt := 9) hx hb dX1_line_121 (by decide) ?_
              exact ih (i + 1) _ _ (by omega) hp' hq2 ls (lv_sub hl [0, 1, 2, 3, 4, 5] rfl)
            · have hq2 : bmx (i + 1) (fun k => zw k = zD ∧ zB < zb k) (fun k => -zb k) (nI i) := bmx_new bq (by have := Int.not_le.mp (fun h => c_22 ((cv_ge (hzb i (by omega)) (hzb jq (by have := bq.1; omega)) .g).mpr h)); show -_ < -_; omega) hPi
              refine lv_iload hx hb dX1_line_109 (lv_at hl 1 rfl) ?_
              refine lv_goto (tgt := 116) hx hb dX1_line_111 (by decide) ?_
              refine lv_istore (lv' := [(6, .int (nI i)), (5, .int p'), (7, .int (nI i)), (0, .ref hm), (1, .double dg), (3, .double bar)]) hx hb dX1_line_116 hl (by decide) rfl (fun ls hl => ?_)
              refine lv_iinc (v := nI (i + 1)) (lv' := [(7, .int (nI (i + 1))), (6, .int (nI i)), (5, .int p'), (0, .ref hm), (1, .double dg), (3, .double bar)]) hx hb dX1_line_118 hl (k := 2) rfl (nI_1 i) (by decide) rfl (fun ls hl => ?_)
              refine lv_goto (tgt := 9) hx hb dX1_line_121 (by decide) ?_
              exact ih (i + 1) _ _ (by omega) hp' hq2 ls (lv_sub hl [0, 1, 2, 3, 4, 5] rfl)
      refine lv_iload hx hb dX1_line_9 (lv_at hl 0 rfl) ?_
      refine lv_aload_n hx hb dX1_line_11 rfl (lv_at hl 3 rfl) ?_
      refine va_get (D := (dC, dI)) (ci := 1) (v := .int (nI n)) (C := RX1) (T := TX1) (N := 4) hx hb hts in_X1 hown hK hP 0 rfl rfl 0 (by decide) (hts _ q169) (fun _ h9 => h9) rfl dX1_line_12 ?_
      refine lv_icmp_ge (tgt := 124) hx hb dX1_line_15 (by decide) (fun c_23 => ?_) (fun c_23 => ?_)
      · exact absurd c_23 (nI_ge (by omega) (by omega))
      · refine lv_aload_n hx hb dX1_line_18 rfl (lv_at hl 3 rfl) ?_
        refine va_get (D := (dC, dI)) (ci := 1) (v := .ref hw) (C := RX1) (T := TX1) (N := 4) hx hb hts in_X1 hown hK hP 0 rfl rfl 1 (by decide) (hts _ q170) (fun _ h9 => h9) rfl dX1_line_19 ?_
        refine lv_iload hx hb dX1_line_22 (lv_at hl 0 rfl) ?_
        refine va_dald hx hb hK hP 1 0 rfl rfl (vp_in_nI (by omega) (by omega)) dX1_line_24 ?_
        refine lv_topd (fun f_24 ef_24 => ?_)
        obtain rfl : f_24 = fw i := by rw [ef_24, nI_clamp (by omega)]
        refine lv_dload_n hx hb dX1_line_25 rfl (lv_at hl 4 rfl) ?_
        refine lv_dcmp hx hb dX1_line_26 ?_
        refine lv_if_ne (tgt := 118) hx hb dX1_line_27 (by decide) (fun c_25 => ?_) (fun c_25 => ?_)
        · have hwi : ¬ zw i = zD := fun e => c_25 ((cv_eq (hzw i (by omega)) hD .l).mpr e)
          have hp' := bmx_skip hp (show ¬ (fun k => zw k = zD ∧ zb k ≤ zB) i from fun h => hwi h.1)
          have hq2 := bmx_skip hq (show ¬ (fun k => zw k = zD ∧ zB < zb k) i from fun h => hwi h.1)
          refine lv_iinc (v := nI (i + 1)) (lv' := [(7, .int (nI (i + 1))), (6, .int qq), (5, .int pp), (0, .ref hm), (1, .double dg), (3, .double bar)]) hx hb dX1_line_118 hl (k := 0) rfl (nI_1 i) (by decide) rfl (fun ls hl => ?_)
          refine lv_goto (tgt := 9) hx hb dX1_line_121 (by decide) ?_
          exact ih (i + 1) _ _ (by omega) hp' hq2 ls (lv_sub hl [0, 1, 2, 3, 4, 5] rfl)
        · have hwi : zw i = zD := (cv_eq (hzw i (by omega)) hD .l).mp c_25
          refine lv_aload_n hx hb dX1_line_30 rfl (lv_at hl 3 rfl) ?_
          refine va_get (D := (dC, dI)) (ci := 1) (v := .ref hb_) (C := RX1) (T := TX1) (N := 4) hx hb hts in_X1 hown hK hP 0 rfl rfl 2 (by decide) (hts _ q171) (fun _ h9 => h9) rfl dX1_line_31 ?_
          refine lv_iload hx hb dX1_line_34 (lv_at hl 0 rfl) ?_
          refine va_dald hx hb hK hP 2 1 rfl rfl (vp_in_nI (by omega) (by omega)) dX1_line_36 ?_
          refine lv_topd (fun f_26 ef_26 => ?_)
          obtain rfl : f_26 = fb i := by rw [ef_26, nI_clamp (by omega)]
          refine lv_dload_n hx hb dX1_line_37 rfl (lv_at hl 5 rfl) ?_
          refine lv_dcmp hx hb dX1_line_38 ?_
          refine lv_if_gt (tgt := 70) hx hb dX1_line_39 (by decide) (fun c_27 => ?_) (fun c_27 => ?_)
          · have hp2 := bmx_skip hp (show ¬ (fun k => zw k = zD ∧ zb k ≤ zB) i from (fun h => absurd ((cv_gt (hzb i (by omega)) hB .g).mp c_27) (Int.not_lt.mpr h.2)))
            refine lv_iload hx hb dX1_line_70 (lv_at hl 2 rfl) ?_
            exact half _ hwi hp2 ls (lv_sub hl [0, 1, 2, 3, 4, 5] rfl)
          · have hPi : (fun k => zw k = zD ∧ zb k ≤ zB) i := ⟨hwi, Int.not_lt.mp (fun h => c_27 ((cv_gt (hzb i (by omega)) hB .g).mpr h))⟩
            refine lv_iload hx hb dX1_line_42 (lv_at hl 2 rfl) ?_
            refine lv_if_lt (tgt := 65) hx hb dX1_line_44 (by decide) (fun c_28 => ?_) (fun c_28 => ?_)
            · have hp2 := bmx_first (by omega) hp c_28 hPi
              refine lv_iload hx hb dX1_line_65 (lv_at hl 0 rfl) ?_
              refine lv_goto (tgt := 72) hx hb dX1_line_67 (by decide) ?_
              exact half _ hwi hp2 ls (lv_sub hl [0, 1, 2, 3, 4, 5] rfl)
            · obtain ⟨jp, ep, bp⟩ := bmx_ge hp c_28
              refine lv_aload_n hx hb dX1_line_47 rfl (lv_at hl 3 rfl) ?_
              refine va_get (D := (dC, dI)) (ci := 1) (v := .ref hb_) (C := RX1) (T := TX1) (N := 4) hx hb hts in_X1 hown hK hP 0 rfl rfl 2 (by decide) (hts _ q171) (fun _ h9 => h9) rfl dX1_line_48 ?_
              refine lv_iload hx hb dX1_line_51 (lv_at hl 0 rfl) ?_
              refine va_dald hx hb hK hP 2 1 rfl rfl (vp_in_nI (by omega) (by omega)) dX1_line_53 ?_
              refine lv_topd (fun f_29 ef_29 => ?_)
              obtain rfl : f_29 = fb i := by rw [ef_29, nI_clamp (by omega)]
              refine lv_aload_n hx hb dX1_line_54 rfl (lv_at hl 3 rfl) ?_
              refine va_get (D := (dC, dI)) (ci := 1) (v := .ref hb_) (C := RX1) (T := TX1) (N := 4) hx hb hts in_X1 hown hK hP 0 rfl rfl 2 (by decide) (hts _ q171) (fun _ h9 => h9) rfl dX1_line_55 ?_
              refine lv_iload hx hb dX1_line_58 (lv_at hl 2 rfl) ?_
              refine va_dald hx hb hK hP 2 1 rfl rfl (by rw [ep]; exact vp_in_nI (by have := bp.1; omega) (by omega)) dX1_line_60 ?_
              refine lv_topd (fun f_30 ef_30 => ?_)
              obtain rfl : f_30 = fb jp := by rw [ef_30, ep, nI_clamp (by have := bp.1; omega)]
              refine lv_dcmp hx hb dX1_line_61 ?_
              refine lv_if_le (tgt := 70) hx hb dX1_line_62 (by decide) (fun c_31 => ?_) (fun c_31 => ?_)
              · have hp2 : bmx (i + 1) (fun k => zw k = zD ∧ zb k ≤ zB) zb pp := bmx_keep ep bp ((cv_le (hzb i (by omega)) (hzb jp (by have := bp.1; omega)) .l).mp c_31)
                refine lv_iload hx hb dX1_line_70 (lv_at hl 2 rfl) ?_
                exact half _ hwi hp2 ls (lv_sub hl [0, 1, 2, 3, 4, 5] rfl)
              · have hp2 : bmx (i + 1) (fun k => zw k = zD ∧ zb k ≤ zB) zb (nI i) := bmx_new bp (Int.not_le.mp (fun h => c_31 ((cv_le (hzb i (by omega)) (hzb jp (by have := bp.1; omega)) .l).mpr h))) hPi
                refine lv_iload hx hb dX1_line_65 (lv_at hl 0 rfl) ?_
                refine lv_goto (tgt := 72) hx hb dX1_line_67 (by decide) ?_
                exact half _ hwi hp2 ls (lv_sub hl [0, 1, 2, 3, 4, 5] rfl)
  refine lv_iconst (v := -1) hx hb dX1_line_0 (by decide) ?_
  refine lv_istore (lv' := [(5, .int (-1)), (0, .ref hm), (1, .double dg), (3, .double bar)]) hx hb dX1_line_1 hl (by decide) rfl (fun ls hl => ?_)
  refine lv_iconst (v := -1) hx hb dX1_line_3 (by decide) ?_
  refine lv_istore (lv' := [(6, .int (-1)), (5, .int (-1)), (0, .ref hm), (1, .double dg), (3, .double bar)]) hx hb dX1_line_4 hl (by decide) rfl (fun ls hl => ?_)
  refine lv_iconst (v := 0) hx hb dX1_line_6 (by decide) ?_
  refine lv_istore (lv' := [(7, .int 0), (6, .int (-1)), (5, .int (-1)), (0, .ref hm), (1, .double dg), (3, .double bar)]) hx hb dX1_line_7 hl (by decide) rfl (fun ls hl => ?_)
  exact loop n 0 (-1) (-1) (by omega) (bmx_0 _ _) (bmx_0 _ _) ls (lv_sub hl [0, 1, 2, 3, 4, 5] rfl)

set_option maxHeartbeats 4000000 in
set_option maxRecDepth 100000 in
/-- GasRowsModel.reckon -/
theorem m_X1_reckon (l : Launch) (dC : Nat → ClassId) (dI : Nat → Nat → Nat) (hm hw hb_ ha : Nat) (A0 A1 A2 : ClassId) (n : Nat) (fw fb fa : Nat → UInt64) (zw zb : Nat → Int) (hS : gm_S n fw fb zw zb) (dg bar v : UInt64) (hv : rkv n zw zb fw fb fa dg bar v) : Met l yX1_reckon (ws_ yX1_reckon cX1_reckon 11 (some .double)) ({ frames := 1, cells := 0, slots := 0, locals := 27 }) (va_Pc [.ref hm, .double dg, .double bar] (gm_B dC dI (gm_W hm hw hb_ ha A0 A1 A2 n fw fb fa) (gm_T A0 A1 A2))) (vp_Sd (fun r => r = v)) 0 0 (fun _ => False) := by
  refine Met.ofW (cc := cX1_reckon) (maxL := 11) (ret := (some .double)) (by decide) rfl ?_
  intro p e s m args below meth c s₁ B hml hv
  obtain ⟨rfl, hP, hK⟩ := hv
  have hx := B.exec
  have hb := B.bytes
  have hr := B.returns
  have hts := atoms_spec (ws := ws_ yX1_reckon cX1_reckon 11 (some .double)) B.pre
  have hts : ∀ w ∈ lw_all, w.before _ s = true := fun w h => hts w (List.mem_cons_of_mem _ h)
  have hown : s.vm.findClass RX1 = some m.cls := findClass_of_methodNamed B.named
  have hlocks := B.notSynchronized
  have hl := lv_entry ([.ref hm, .double dg, .double bar]) (n := 11) (Nat.le_of_ble_eq_true rfl)
  rw [lg_entry_eq]
  generalize (lg_sl ([.ref hm, .double dg, .double bar]) ++ List.replicate (11 - (lg_sl ([.ref hm, .double dg, .double bar])).length) Slot.unset).toArray = ls at hl ⊢
  have hl : lv_has ls 11 [(0, .ref hm), (1, .double dg), (3, .double bar)] := hl
  have hP : va_P (dC, dI) vwCl (gm_W hm hw hb_ ha A0 A1 A2 n fw fb fa) s.heap := hP
  have hK : va_K (dC, dI) vwCl (gm_T A0 A1 A2) s := hK
  obtain ⟨hn30, hzw, hzb⟩ := hS
  obtain ⟨zD, zB, LV, hD, hB, hln, hv0, hv1, hv2, hv3, hv4⟩ := hv
  have fin : ∀ (i : Nat) (pp qq : Int32), i = n → bmx n (fun k => zw k ≤ zD) zw pp → bmx n (fun k => zD < zw k) (fun k => -zw k) qq → ∀ ls : Array Slot, lv_has ls 11 [(7, .int (nI i)), (6, .int qq), (5, .int pp), (0, .ref hm), (1, .double dg), (3, .double bar)] → W p l e (headSpec (ws_ yX1_reckon cX1_reckon 11 (some .double)) ({ frames := 1, cells := 0, slots := 0, locals := 27 })).room s m ([.ref hm, .double dg, .double bar] : List Value).toArray below meth c s.heap [] 0 0 (MQ below (vp_Sd (fun r => r = v)) ([.ref hm, .double dg, .double bar] : List Value).toArray s 0 0 (fun _ => False)) (F0 m 112 ls []) := by
    intro i pp qq hi hp hq ls hl
    rcases hp with ⟨ep, np⟩ | ⟨jp, ep, bp⟩
    · rcases hq with ⟨eq, nq⟩ | ⟨jq, eq, bq⟩
      · refine lv_iload hx hb dX1_reckon_112 (lv_at hl 2 rfl) ?_
        refine lv_if_ge (tgt := 124) hx hb dX1_reckon_114 (by decide) (fun c_1 => ?_) (fun c_1 => ?_)
        · exact absurd c_1 (by rw [ep]; decide)
        · refine lv_iload hx hb dX1_reckon_117 (lv_at hl 1 rfl) ?_
          refine lv_if_ge (tgt := 124) hx hb dX1_reckon_119 (by decide) (fun c_2 => ?_) (fun c_2 => ?_)
          · exact absurd c_2 (by rw [eq]; decide)
          · refine lv_dconst0 hx hb dX1_reckon_122 ?_
            exact W.dret (v := FP.dconst0) hx hb hr (fun t ht hW => ⟨FP.dconst0, rfl, hv0 np nq, ht⟩) (fun _ h => nomatch h) dX1_reckon_123
      · refine lv_iload hx hb dX1_reckon_112 (lv_at hl 2 rfl) ?_
        refine lv_if_ge (tgt := 124) hx hb dX1_reckon_114 (by decide) (fun c_3 => ?_) (fun c_3 => ?_)
        · exact absurd c_3 (by rw [ep]; decide)
        · refine lv_iload hx hb dX1_reckon_117 (lv_at hl 1 rfl) ?_
          refine lv_if_ge (tgt := 124) hx hb dX1_reckon_119 (by decide) (fun c_4 => ?_) (fun c_4 => ?_)
          · refine lv_iload hx hb dX1_reckon_124 (lv_at hl 2 rfl) ?_
            refine lv_if_lt (tgt := 146) hx hb dX1_reckon_126 (by decide) (fun c_5 => ?_) (fun c_5 => ?_)
            · refine lv_aload_n hx hb dX1_reckon_146 rfl (lv_at hl 3 rfl) ?_
              refine lv_aload_n hx hb dX1_reckon_147 rfl (lv_at hl 3 rfl) ?_
              refine va_get (D := (dC, dI)) (ci := 1) (v := .ref hw) (C := RX1) (T := TX1) (N := 4) hx hb hts in_X1 hown hK hP 0 rfl rfl 1 (by decide) (hts _ q170) (fun _ h9 => h9) rfl dX1_reckon_148 ?_
              refine lv_iload hx hb dX1_reckon_151 (lv_at hl 2 rfl) ?_
              refine lv_if_ge (tgt := 161) hx hb dX1_reckon_153 (by decide) (fun c_6 => ?_) (fun c_6 => ?_)
              · exact absurd c_6 (by rw [ep]; decide)
              · refine lv_iload hx hb dX1_reckon_156 (lv_at hl 1 rfl) ?_
                refine lv_goto (tgt := 163) hx hb dX1_reckon_158 (by decide) ?_
                refine va_dald hx hb hK hP 1 0 rfl rfl (by rw [eq]; exact vp_in_nI (by have := bq.1; omega) (by omega)) dX1_reckon_163 ?_
                refine lv_topd (fun f_7 ef_7 => ?_)
                obtain rfl : f_7 = fw jq := by rw [ef_7, eq, nI_clamp (by have := bq.1; omega)]
                refine lv_dload_n hx hb dX1_reckon_164 rfl (lv_at hl 5 rfl) ?_
                refine vp_callSd (va_Run.run (va_runV (As := [.double (fw jq), .double bar]) (rest := []) ⟨hx, hb, hml, hown, hts⟩ (m_X1_line l dC dI hm hw hb_ ha A0 A1 A2 n fw fb fa zw zb ⟨hn30, hzw, hzb⟩ (fw jq) bar (zw jq) zB (LV jq) (hzw jq bq.1) hB (hln jq bq.1)) (cwV 2 hts (lw_V q204 q206 qs4 q7 q207) rfl rfl rfl (by decide +kernel) ⟨Nat.le_of_ble_eq_true rfl, Nat.le_of_ble_eq_true rfl⟩) ⟨gm_fb, va_recv hK hP (ci := 1) (q0 := 0) rfl rfl, fun U hU hW => ⟨rfl, gm_pre hP hK hU hW⟩⟩ rfl rfl hl.1 rfl (lv_room (Nat.le_of_ble_eq_true rfl)) dX1_reckon_165 ⟨Nat.le_of_ble_eq_true rfl, Nat.le_of_ble_eq_true rfl⟩)) (fun r_8 hr_8 => ?_)
                subst hr_8
                exact W.dret (v := (LV jq)) hx hb hr (fun t ht hW => ⟨(LV jq), rfl, hv1 jq bq np, ht⟩) (fun _ h => nomatch h) dX1_reckon_168
            · exact absurd (by rw [ep]; decide) c_5
          · exact absurd (by rw [eq]; exact nI_pos' (by have := bq.1; omega)) c_4
    · rcases hq with ⟨eq, nq⟩ | ⟨jq, eq, bq⟩
      · refine lv_iload hx hb dX1_reckon_112 (lv_at hl 2 rfl) ?_
        refine lv_if_ge (tgt := 124) hx hb dX1_reckon_114 (by decide) (fun c_9 => ?_) (fun c_9 => ?_)
        · refine lv_iload hx hb dX1_reckon_124 (lv_at hl 2 rfl) ?_
          refine lv_if_lt (tgt := 146) hx hb dX1_reckon_126 (by decide) (fun c_10 => ?_) (fun c_10 => ?_)
          · exact absurd c_10 (by rw [ep]; exact nI_pos (by have := bp.1; omega))
          · refine lv_iload hx hb dX1_reckon_129 (lv_at hl 1 rfl) ?_
            refine lv_if_lt (tgt := 146) hx hb dX1_reckon_131 (by decide) (fun c_11 => ?_) (fun c_11 => ?_)
            · refine lv_aload_n hx hb dX1_reckon_146 rfl (lv_at hl 3 rfl) ?_
              refine lv_aload_n hx hb dX1_reckon_147 rfl (lv_at hl 3 rfl) ?_
              refine va_get (D := (dC, dI)) (ci := 1) (v := .ref hw) (C := RX1) (T := TX1) (N := 4) hx hb hts in_X1 hown hK hP 0 rfl rfl 1 (by decide) (hts _ q170) (fun _ h9 => h9) rfl dX1_reckon_148 ?_
              refine lv_iload hx hb dX1_reckon_151 (lv_at hl 2 rfl) ?_
              refine lv_if_ge (tgt := 161) hx hb dX1_reckon_153 (by decide) (fun c_12 => ?_) (fun c_12 => ?_)
              · refine lv_iload hx hb dX1_reckon_161 (lv_at hl 2 rfl) ?_
                refine va_dald hx hb hK hP 1 0 rfl rfl (by rw [ep]; exact vp_in_nI (by have := bp.1; omega) (by omega)) dX1_reckon_163 ?_
                refine lv_topd (fun f_13 ef_13 => ?_)
                obtain rfl : f_13 = fw jp := by rw [ef_13, ep, nI_clamp (by have := bp.1; omega)]
                refine lv_dload_n hx hb dX1_reckon_164 rfl (lv_at hl 5 rfl) ?_
                refine vp_callSd (va_Run.run (va_runV (As := [.double (fw jp), .double bar]) (rest := []) ⟨hx, hb, hml, hown, hts⟩ (m_X1_line l dC dI hm hw hb_ ha A0 A1 A2 n fw fb fa zw zb ⟨hn30, hzw, hzb⟩ (fw jp) bar (zw jp) zB (LV jp) (hzw jp bp.1) hB (hln jp bp.1)) (cwV 2 hts (lw_V q204 q206 qs4 q7 q207) rfl rfl rfl (by decide +kernel) ⟨Nat.le_of_ble_eq_true rfl, Nat.le_of_ble_eq_true rfl⟩) ⟨gm_fb, va_recv hK hP (ci := 1) (q0 := 0) rfl rfl, fun U hU hW => ⟨rfl, gm_pre hP hK hU hW⟩⟩ rfl rfl hl.1 rfl (lv_room (Nat.le_of_ble_eq_true rfl)) dX1_reckon_165 ⟨Nat.le_of_ble_eq_true rfl, Nat.le_of_ble_eq_true rfl⟩)) (fun r_14 hr_14 => ?_)
                subst hr_14
                exact W.dret (v := (LV jp)) hx hb hr (fun t ht hW => ⟨(LV jp), rfl, hv2 jp bp nq, ht⟩) (fun _ h => nomatch h) dX1_reckon_168
              · exact absurd (by rw [ep]; exact nI_pos' (by have := bp.1; omega)) c_12
            · exact absurd (by rw [eq]; decide) c_11
        · exact absurd (by rw [ep]; exact nI_pos' (by have := bp.1; omega)) c_9
      · refine lv_iload hx hb dX1_reckon_112 (lv_at hl 2 rfl) ?_
        refine lv_if_ge (tgt := 124) hx hb dX1_reckon_114 (by decide) (fun c_15 => ?_) (fun c_15 => ?_)
        · refine lv_iload hx hb dX1_reckon_124 (lv_at hl 2 rfl) ?_
          refine lv_if_lt (tgt := 146) hx hb dX1_reckon_126 (by decide) (fun c_16 => ?_) (fun c_16 => ?_)
          · exact absurd c_16 (by rw [ep]; exact nI_pos (by have := bp.1; omega))
          · refine lv_iload hx hb dX1_reckon_129 (lv_at hl 1 rfl) ?_
            refine lv_if_lt (tgt := 146) hx hb dX1_reckon_131 (by decide) (fun c_17 => ?_) (fun c_17 => ?_)
            · exact absurd c_17 (by rw [eq]; exact nI_pos (by have := bq.1; omega))
            · refine lv_aload_n hx hb dX1_reckon_134 rfl (lv_at hl 3 rfl) ?_
              refine va_get (D := (dC, dI)) (ci := 1) (v := .ref hw) (C := RX1) (T := TX1) (N := 4) hx hb hts in_X1 hown hK hP 0 rfl rfl 1 (by decide) (hts _ q170) (fun _ h9 => h9) rfl dX1_reckon_135 ?_
              refine lv_iload hx hb dX1_reckon_138 (lv_at hl 2 rfl) ?_
              refine va_dald hx hb hK hP 1 0 rfl rfl (by rw [ep]; exact vp_in_nI (by have := bp.1; omega) (by omega)) dX1_reckon_140 ?_
              refine lv_topd (fun f_18 ef_18 => ?_)
              obtain rfl : f_18 = fw jp := by rw [ef_18, ep, nI_clamp (by have := bp.1; omega)]
              refine lv_dload_n hx hb dX1_reckon_141 rfl (lv_at hl 4 rfl) ?_
              refine lv_dcmp hx hb dX1_reckon_142 ?_
              refine lv_if_ne (tgt := 169) hx hb dX1_reckon_143 (by decide) (fun c_19 => ?_) (fun c_19 => ?_)
              · have hne : ¬ zw jp = zD := fun e => c_19 ((cv_eq (hzw jp bp.1) hD .l).mpr e)
                obtain ⟨hj, hjv⟩ := hv4 jp jq bp bq hne
                refine lv_aload_n hx hb dX1_reckon_169 rfl (lv_at hl 3 rfl) ?_
                refine lv_aload_n hx hb dX1_reckon_170 rfl (lv_at hl 3 rfl) ?_
                refine va_get (D := (dC, dI)) (ci := 1) (v := .ref hw) (C := RX1) (T := TX1) (N := 4) hx hb hts in_X1 hown hK hP 0 rfl rfl 1 (by decide) (hts _ q170) (fun _ h9 => h9) rfl dX1_reckon_171 ?_
                refine lv_iload hx hb dX1_reckon_174 (lv_at hl 2 rfl) ?_
                refine va_dald hx hb hK hP 1 0 rfl rfl (by rw [ep]; exact vp_in_nI (by have := bp.1; omega) (by omega)) dX1_reckon_176 ?_
                refine lv_topd (fun f_20 ef_20 => ?_)
                obtain rfl : f_20 = fw jp := by rw [ef_20, ep, nI_clamp (by have := bp.1; omega)]
                refine lv_dload_n hx hb dX1_reckon_177 rfl (lv_at hl 5 rfl) ?_
                refine vp_callSd (va_Run.run (va_runV (As := [.double (fw jp), .double bar]) (rest := []) ⟨hx, hb, hml, hown, hts⟩ (m_X1_line l dC dI hm hw hb_ ha A0 A1 A2 n fw fb fa zw zb ⟨hn30, hzw, hzb⟩ (fw jp) bar (zw jp) zB (LV jp) (hzw jp bp.1) hB (hln jp bp.1)) (cwV 2 hts (lw_V q204 q206 qs4 q7 q207) rfl rfl rfl (by decide +kernel) ⟨Nat.le_of_ble_eq_true rfl, Nat.le_of_ble_eq_true rfl⟩) ⟨gm_fb, va_recv hK hP (ci := 1) (q0 := 0) rfl rfl, fun U hU hW => ⟨rfl, gm_pre hP hK hU hW⟩⟩ rfl rfl hl.1 rfl (lv_room (Nat.le_of_ble_eq_true rfl)) dX1_reckon_178 ⟨Nat.le_of_ble_eq_true rfl, Nat.le_of_ble_eq_true rfl⟩)) (fun r_21 hr_21 => ?_)
                subst hr_21
                refine lv_dstore (lv' := [(7, .double (LV jp)), (6, .int qq), (5, .int pp), (0, .ref hm), (1, .double dg), (3, .double bar)]) hx hb dX1_reckon_181 hl (by decide) rfl (fun ls hl => ?_)
                refine lv_aload_n hx hb dX1_reckon_183 rfl (lv_at hl 3 rfl) ?_
                refine lv_aload_n hx hb dX1_reckon_184 rfl (lv_at hl 3 rfl) ?_
                refine va_get (D := (dC, dI)) (ci := 1) (v := .ref hw) (C := RX1) (T := TX1) (N := 4) hx hb hts in_X1 hown hK hP 0 rfl rfl 1 (by decide) (hts _ q170) (fun _ h9 => h9) rfl dX1_reckon_185 ?_
                refine lv_iload hx hb dX1_reckon_188 (lv_at hl 1 rfl) ?_
                refine va_dald hx hb hK hP 1 0 rfl rfl (by rw [eq]; exact vp_in_nI (by have := bq.1; omega) (by omega)) dX1_reckon_190 ?_
                refine lv_topd (fun f_22 ef_22 => ?_)
                obtain rfl : f_22 = fw jq := by rw [ef_22, eq, nI_clamp (by have := bq.1; omega)]
                refine lv_dload_n hx hb dX1_reckon_191 rfl (lv_at hl 5 rfl) ?_
                refine vp_callSd (va_Run.run (va_runV (As := [.double (fw jq), .double bar]) (rest := []) ⟨hx, hb, hml, hown, hts⟩ (m_X1_line l dC dI hm hw hb_ ha A0 A1 A2 n fw fb fa zw zb ⟨hn30, hzw, hzb⟩ (fw jq) bar (zw jq) zB (LV jq) (hzw jq bq.1) hB (hln jq bq.1)) (cwV 2 hts (lw_V q204 q206 qs4 q7 q207) rfl rfl rfl (by decide +kernel) ⟨Nat.le_of_ble_eq_true rfl, Nat.le_of_ble_eq_true rfl⟩) ⟨gm_fb, va_recv hK hP (ci := 1) (q0 := 0) rfl rfl, fun U hU hW => ⟨rfl, gm_pre hP hK hU hW⟩⟩ rfl rfl hl.1 rfl (lv_room (Nat.le_of_ble_eq_true rfl)) dX1_reckon_192 ⟨Nat.le_of_ble_eq_true rfl, Nat.le_of_ble_eq_true rfl⟩)) (fun r_23 hr_23 => ?_)
                subst hr_23
                refine lv_dstore (lv' := [(9, .double (LV jq)), (7, .double (LV jp)), (6, .int qq), (5, .int pp), (0, .ref hm), (1, .double dg), (3, .double bar)]) hx hb dX1_reckon_195 hl (by decide) rfl (fun ls hl => ?_)
                refine lv_dload hx hb dX1_reckon_197 (lv_at hl 1 rfl) ?_
                refine lv_dload hx hb dX1_reckon_199 (lv_at hl 0 rfl) ?_
                refine lv_dload hx hb dX1_reckon_201 (lv_at hl 1 rfl) ?_
                refine lv_dsub hx hb dX1_reckon_203 (hj.1) ?_
                refine lv_dload_n hx hb dX1_reckon_204 rfl (lv_at hl 5 rfl) ?_
                refine lv_aload_n hx hb dX1_reckon_205 rfl (lv_at hl 4 rfl) ?_
                refine va_get (D := (dC, dI)) (ci := 1) (v := .ref hw) (C := RX1) (T := TX1) (N := 4) hx hb hts in_X1 hown hK hP 0 rfl rfl 1 (by decide) (hts _ q170) (fun _ h9 => h9) rfl dX1_reckon_206 ?_
                refine lv_iload hx hb dX1_reckon_209 (lv_at hl 3 rfl) ?_
                refine va_dald hx hb hK hP 1 0 rfl rfl (by rw [ep]; exact vp_in_nI (by have := bp.1; omega) (by omega)) dX1_reckon_211 ?_
                refine lv_topd (fun f_24 ef_24 => ?_)
                obtain rfl : f_24 = fw jp := by rw [ef_24, ep, nI_clamp (by have := bp.1; omega)]
                refine lv_dsub hx hb dX1_reckon_212 (hj.2.1) ?_
                refine lv_dmul hx hb dX1_reckon_213 (hj.2.2.1) ?_
                refine lv_aload_n hx hb dX1_reckon_214 rfl (lv_at hl 4 rfl) ?_
                refine va_get (D := (dC, dI)) (ci := 1) (v := .ref hw) (C := RX1) (T := TX1) (N := 4) hx hb hts in_X1 hown hK hP 0 rfl rfl 1 (by decide) (hts _ q170) (fun _ h9 => h9) rfl dX1_reckon_215 ?_
                refine lv_iload hx hb dX1_reckon_218 (lv_at hl 2 rfl) ?_
                refine va_dald hx hb hK hP 1 0 rfl rfl (by rw [eq]; exact vp_in_nI (by have := bq.1; omega) (by omega)) dX1_reckon_220 ?_
                refine lv_topd (fun f_25 ef_25 => ?_)
                obtain rfl : f_25 = fw jq := by rw [ef_25, eq, nI_clamp (by have := bq.1; omega)]
                refine lv_aload_n hx hb dX1_reckon_221 rfl (lv_at hl 4 rfl) ?_
                refine va_get (D := (dC, dI)) (ci := 1) (v := .ref hw) (C := RX1) (T := TX1) (N := 4) hx hb hts in_X1 hown hK hP 0 rfl rfl 1 (by decide) (hts _ q170) (fun _ h9 => h9) rfl dX1_reckon_222 ?_
                refine lv_iload hx hb dX1_reckon_225 (lv_at hl 3 rfl) ?_
                refine va_dald hx hb hK hP 1 0 rfl rfl (by rw [ep]; exact vp_in_nI (by have := bp.1; omega) (by omega)) dX1_reckon_227 ?_
                refine lv_topd (fun f_26 ef_26 => ?_)
                obtain rfl : f_26 = fw jp := by rw [ef_26, ep, nI_clamp (by have := bp.1; omega)]
                refine lv_dsub hx hb dX1_reckon_228 (hj.2.2.2.1) ?_
                refine lv_ddiv hx hb dX1_reckon_229 (hj.2.2.2.2.1) ?_
                refine lv_dadd hx hb dX1_reckon_230 (hj.2.2.2.2.2) ?_
                exact W.dret (v := (FP.dadd (LV jp) (FP.ddiv (FP.dmul (FP.dsub (LV jq) (LV jp)) (FP.dsub dg (fw jp))) (FP.dsub (fw jq) (fw jp))))) hx hb hr (fun t ht hW => ⟨(FP.dadd (LV jp) (FP.ddiv (FP.dmul (FP.dsub (LV jq) (LV jp)) (FP.dsub dg (fw jp))) (FP.dsub (fw jq) (fw jp)))), rfl, hjv, ht⟩) (fun _ h => nomatch h) dX1_reckon_231
              · have he : zw jp = zD := (cv_eq (hzw jp bp.1) hD .l).mp c_19
                refine lv_aload_n hx hb dX1_reckon_146 rfl (lv_at hl 3 rfl) ?_
                refine lv_aload_n hx hb dX1_reckon_147 rfl (lv_at hl 3 rfl) ?_
                refine va_get (D := (dC, dI)) (ci := 1) (v := .ref hw) (C := RX1) (T := TX1) (N := 4) hx hb hts in_X1 hown hK hP 0 rfl rfl 1 (by decide) (hts _ q170) (fun _ h9 => h9) rfl dX1_reckon_148 ?_
                refine lv_iload hx hb dX1_reckon_151 (lv_at hl 2 rfl) ?_
                refine lv_if_ge (tgt := 161) hx hb dX1_reckon_153 (by decide) (fun c_27 => ?_) (fun c_27 => ?_)
                · refine lv_iload hx hb dX1_reckon_161 (lv_at hl 2 rfl) ?_
                  refine va_dald hx hb hK hP 1 0 rfl rfl (by rw [ep]; exact vp_in_nI (by have := bp.1; omega) (by omega)) dX1_reckon_163 ?_
                  refine lv_topd (fun f_28 ef_28 => ?_)
                  obtain rfl : f_28 = fw jp := by rw [ef_28, ep, nI_clamp (by have := bp.1; omega)]
                  refine lv_dload_n hx hb dX1_reckon_164 rfl (lv_at hl 5 rfl) ?_
                  refine vp_callSd (va_Run.run (va_runV (As := [.double (fw jp), .double bar]) (rest := []) ⟨hx, hb, hml, hown, hts⟩ (m_X1_line l dC dI hm hw hb_ ha A0 A1 A2 n fw fb fa zw zb ⟨hn30, hzw, hzb⟩ (fw jp) bar (zw jp) zB (LV jp) (hzw jp bp.1) hB (hln jp bp.1)) (cwV 2 hts (lw_V q204 q206 qs4 q7 q207) rfl rfl rfl (by decide +kernel) ⟨Nat.le_of_ble_eq_true rfl, Nat.le_of_ble_eq_true rfl⟩) ⟨gm_fb, va_recv hK hP (ci := 1) (q0 := 0) rfl rfl, fun U hU hW => ⟨rfl, gm_pre hP hK hU hW⟩⟩ rfl rfl hl.1 rfl (lv_room (Nat.le_of_ble_eq_true rfl)) dX1_reckon_165 ⟨Nat.le_of_ble_eq_true rfl, Nat.le_of_ble_eq_true rfl⟩)) (fun r_29 hr_29 => ?_)
                  subst hr_29
                  exact W.dret (v := (LV jp)) hx hb hr (fun t ht hW => ⟨(LV jp), rfl, hv3 jp jq bp bq he, ht⟩) (fun _ h => nomatch h) dX1_reckon_168
                · exact absurd (by rw [ep]; exact nI_pos' (by have := bp.1; omega)) c_27
        · exact absurd (by rw [ep]; exact nI_pos' (by have := bp.1; omega)) c_15
  have loop : ∀ (j i : Nat) (pp qq : Int32), i + j = n → bmx i (fun k => zw k ≤ zD) zw pp → bmx i (fun k => zD < zw k) (fun k => -zw k) qq → ∀ ls : Array Slot, lv_has ls 11 [(7, .int (nI i)), (6, .int qq), (5, .int pp), (0, .ref hm), (1, .double dg), (3, .double bar)] → W p l e (headSpec (ws_ yX1_reckon cX1_reckon 11 (some .double)) ({ frames := 1, cells := 0, slots := 0, locals := 27 })).room s m ([.ref hm, .double dg, .double bar] : List Value).toArray below meth c s.heap [] 0 0 (MQ below (vp_Sd (fun r => r = v)) ([.ref hm, .double dg, .double bar] : List Value).toArray s 0 0 (fun _ => False)) (F0 m 9 ls []) := by
    intro j
    induction j with
    | zero =>
      intro i pp qq hij hp hq ls hl
      refine lv_iload hx hb dX1_reckon_9 (lv_at hl 0 rfl) ?_
      refine lv_aload_n hx hb dX1_reckon_11 rfl (lv_at hl 3 rfl) ?_
      refine va_get (D := (dC, dI)) (ci := 1) (v := .int (nI n)) (C := RX1) (T := TX1) (N := 4) hx hb hts in_X1 hown hK hP 0 rfl rfl 0 (by decide) (hts _ q169) (fun _ h9 => h9) rfl dX1_reckon_12 ?_
      refine lv_icmp_ge (tgt := 112) hx hb dX1_reckon_15 (by decide) (fun c_30 => ?_) (fun c_30 => ?_)
      · have hi : i = n := by omega
        exact fin i pp qq hi (hi ▸ hp) (hi ▸ hq) ls (lv_sub hl [0, 1, 2, 3, 4, 5] rfl)
      · exact absurd (nI_le (by omega) (by omega)) c_30
    | succ j ih =>
      intro i pp qq hij hp hq ls hl
      have half : ∀ p' : Int32, bmx (i + 1) (fun k => zw k ≤ zD) zw p' → ∀ ls : Array Slot, lv_has ls 11 [(7, .int (nI i)), (6, .int qq), (5, .int pp), (0, .ref hm), (1, .double dg), (3, .double bar)] → W p l e (headSpec (ws_ yX1_reckon cX1_reckon 11 (some .double)) ({ frames := 1, cells := 0, slots := 0, locals := 27 })).room s m ([.ref hm, .double dg, .double bar] : List Value).toArray below meth c s.heap [] 0 0 (MQ below (vp_Sd (fun r => r = v)) ([.ref hm, .double dg, .double bar] : List Value).toArray s 0 0 (fun _ => False)) (F0 m 60 ls [.int p']) := by
        intro p' hp' ls hl
        refine lv_istore (lv' := [(5, .int p'), (7, .int (nI i)), (6, .int qq), (0, .ref hm), (1, .double dg), (3, .double bar)]) hx hb dX1_reckon_60 hl (by decide) rfl (fun ls hl => ?_)
        refine lv_aload_n hx hb dX1_reckon_62 rfl (lv_at hl 3 rfl) ?_
        refine va_get (D := (dC, dI)) (ci := 1) (v := .ref hw) (C := RX1) (T := TX1) (N := 4) hx hb hts in_X1 hown hK hP 0 rfl rfl 1 (by decide) (hts _ q170) (fun _ h9 => h9) rfl dX1_reckon_63 ?_
        refine lv_iload hx hb dX1_reckon_66 (lv_at hl 1 rfl) ?_
        refine va_dald hx hb hK hP 1 0 rfl rfl (vp_in_nI (by omega) (by omega)) dX1_reckon_68 ?_
        refine lv_topd (fun f_31 ef_31 => ?_)
        obtain rfl : f_31 = fw i := by rw [ef_31, nI_clamp (by omega)]
        refine lv_dload_n hx hb dX1_reckon_69 rfl (lv_at hl 4 rfl) ?_
        refine lv_dcmp hx hb dX1_reckon_70 ?_
        refine lv_if_le (tgt := 102) hx hb dX1_reckon_71 (by decide) (fun c_32 => ?_) (fun c_32 => ?_)
        · have hq2 := bmx_skip hq (show ¬ (fun k => zD < zw k) i from (fun h => absurd ((cv_le (hzw i (by omega)) hD .l).mp c_32) (Int.not_le.mpr h)))
          refine lv_iload hx hb dX1_reckon_102 (lv_at hl 2 rfl) ?_
          refine lv_istore (lv' := [(6, .int qq), (5, .int p'), (7, .int (nI i)), (0, .ref hm), (1, .double dg), (3, .double bar)]) hx hb dX1_reckon_104 hl (by decide) rfl (fun ls hl => ?_)
          refine lv_iinc (v := nI (i + 1)) (lv' := [(7, .int (nI (i + 1))), (6, .int qq), (5, .int p'), (0, .ref hm), (1, .double dg), (3, .double bar)]) hx hb dX1_reckon_106 hl (k := 2) rfl (nI_1 i) (by decide) rfl (fun ls hl => ?_)
          refine lv_goto (tgt := 9) hx hb dX1_reckon_109 (by decide) ?_
          exact ih (i + 1) _ _ (by omega) hp' hq2 ls (lv_sub hl [0, 1, 2, 3, 4, 5] rfl)
        · have hPi : (fun k => zD < zw k) i := Int.not_le.mp (fun h => c_32 ((cv_le (hzw i (by omega)) hD .l).mpr h))
          refine lv_iload hx hb dX1_reckon_74 (lv_at hl 2 rfl) ?_
          refine lv_if_lt (tgt := 97) hx hb dX1_reckon_76 (by decide) (fun c_33 => ?_) (fun c_33 => ?_)
          · have hq2 := bmx_first (by omega) hq c_33 hPi
            refine lv_iload hx hb dX1_reckon_97 (lv_at hl 1 rfl) ?_
            refine lv_goto (tgt := 104) hx hb dX1_reckon_99 (by decide) ?_
            refine lv_istore (lv' := [(6, .int (nI i)), (5, .int p'), (7, .int (nI i)), (0, .ref hm), (1, .double dg), (3, .double bar)]) hx hb dX1_reckon_104 hl (by decide) rfl (fun ls hl => ?_)
            refine lv_iinc (v := nI (i + 1)) (lv' := [(7, .int (nI (i + 1))), (6, .int (nI i)), (5, .int p'), (0, .ref hm), (1, .double dg), (3, .double bar)]) hx hb dX1_reckon_106 hl (k := 2) rfl (nI_1 i) (by decide) rfl (fun ls hl => ?_)
            refine lv_goto (tgt := 9) hx hb dX1_reckon_109 (by decide) ?_
            exact ih (i + 1) _ _ (by omega) hp' hq2 ls (lv_sub hl [0, 1, 2, 3, 4, 5] rfl)
          · obtain ⟨jq, eq, bq⟩ := bmx_ge hq c_33
            refine lv_aload_n hx hb dX1_reckon_79 rfl (lv_at hl 3 rfl) ?_
            refine va_get (D := (dC, dI)) (ci := 1) (v := .ref hw) (C := RX1) (T := TX1) (N := 4) hx hb hts in_X1 hown hK hP 0 rfl rfl 1 (by decide) (hts _ q170) (fun _ h9 => h9) rfl dX1_reckon_80 ?_
            refine lv_iload hx hb dX1_reckon_83 (lv_at hl 1 rfl) ?_
            refine va_dald hx hb hK hP 1 0 rfl rfl (vp_in_nI (by omega) (by omega)) dX1_reckon_85 ?_
            refine lv_topd (fun f_34 ef_34 => ?_)
            obtain rfl : f_34 = fw i := by rw [ef_34, nI_clamp (by omega)]
            refine lv_aload_n hx hb dX1_reckon_86 rfl (lv_at hl 3 rfl) ?_
            refine va_get (D := (dC, dI)) (ci := 1) (v := .ref hw) (C := RX1) (T := TX1) (N := 4) hx hb hts in_X1 hown hK hP 0 rfl rfl 1 (by decide) (hts _ q170) (fun _ h9 => h9) rfl dX1_reckon_87 ?_
            refine lv_iload hx hb dX1_reckon_90 (lv_at hl 2 rfl) ?_
            refine va_dald hx hb hK hP 1 0 rfl rfl (by rw [eq]; exact vp_in_nI (by have := bq.1; omega) (by omega)) dX1_reckon_92 ?_
            refine lv_topd (fun f_35 ef_35 => ?_)
            obtain rfl : f_35 = fw jq := by rw [ef_35, eq, nI_clamp (by have := bq.1; omega)]
            refine lv_dcmp hx hb dX1_reckon_93 ?_
            refine lv_if_ge (tgt := 102) hx hb dX1_reckon_94 (by decide) (fun c_36 => ?_) (fun c_36 => ?_)
            · have hq2 : bmx (i + 1) (fun k => zD < zw k) (fun k => -zw k) qq := bmx_keep eq bq (by have := (cv_ge (hzw i (by omega)) (hzw jq (by have := bq.1; omega)) .g).mp c_36; show -_ ≤ -_; omega)
              refine lv_iload hx hb dX1_reckon_102 (lv_at hl 2 rfl) ?_
              refine lv_istore (lv' := [(6, .int qq), (5, .int p'), (7, .int (nI i)), (0, .ref hm), (1, .double dg), (3, .double bar)]) hx hb dX1_reckon_104 hl (by decide) rfl (fun ls hl => ?_)
              refine lv_iinc (v := nI (i + 1)) (lv' := [(7, .int (nI (i + 1))), (6, .int qq), (5, .int p'), (0, .ref hm), (1, .double dg), (3, .double bar)]) hx hb dX1_reckon_106 hl (k := 2) rfl (nI_1 i) (by decide) rfl (fun ls hl => ?_)
              refine lv_goto (tgt := 9) hx hb dX1_reckon_109 (by decide) ?_
              exact ih (i + 1) _ _ (by omega) hp' hq2 ls (lv_sub hl [0, 1, 2, 3, 4, 5] rfl)
            · have hq2 : bmx (i + 1) (fun k => zD < zw k) (fun k => -zw k) (nI i) := bmx_new bq (by have := Int.not_le.mp (fun h => c_36 ((cv_ge (hzw i (by omega)) (hzw jq (by have := bq.1; omega)) .g).mpr h)); show -_ < -_; omega) hPi
              refine lv_iload hx hb dX1_reckon_97 (lv_at hl 1 rfl) ?_
              refine lv_goto (tgt := 104) hx hb dX1_reckon_99 (by decide) ?_
              refine lv_istore (lv' := [(6, .int (nI i)), (5, .int p'), (7, .int (nI i)), (0, .ref hm), (1, .double dg), (3, .double bar)]) hx hb dX1_reckon_104 hl (by decide) rfl (fun ls hl => ?_)
              refine lv_iinc (v := nI (i + 1)) (lv' := [(7, .int (nI (i + 1))), (6, .int (nI i)), (5, .int p'), (0, .ref hm), (1, .double dg), (3, .double bar)]) hx hb dX1_reckon_106 hl (k := 2) rfl (nI_1 i) (by decide) rfl (fun ls hl => ?_)
              refine lv_goto (tgt := 9) hx hb dX1_reckon_109 (by decide) ?_
              exact ih (i + 1) _ _ (by omega) hp' hq2 ls (lv_sub hl [0, 1, 2, 3, 4, 5] rfl)
      refine lv_iload hx hb dX1_reckon_9 (lv_at hl 0 rfl) ?_
      refine lv_aload_n hx hb dX1_reckon_11 rfl (lv_at hl 3 rfl) ?_
      refine va_get (D := (dC, dI)) (ci := 1) (v := .int (nI n)) (C := RX1) (T := TX1) (N := 4) hx hb hts in_X1 hown hK hP 0 rfl rfl 0 (by decide) (hts _ q169) (fun _ h9 => h9) rfl dX1_reckon_12 ?_
      refine lv_icmp_ge (tgt := 112) hx hb dX1_reckon_15 (by decide) (fun c_37 => ?_) (fun c_37 => ?_)
      · exact absurd c_37 (nI_ge (by omega) (by omega))
      · refine lv_aload_n hx hb dX1_reckon_18 rfl (lv_at hl 3 rfl) ?_
        refine va_get (D := (dC, dI)) (ci := 1) (v := .ref hw) (C := RX1) (T := TX1) (N := 4) hx hb hts in_X1 hown hK hP 0 rfl rfl 1 (by decide) (hts _ q170) (fun _ h9 => h9) rfl dX1_reckon_19 ?_
        refine lv_iload hx hb dX1_reckon_22 (lv_at hl 0 rfl) ?_
        refine va_dald hx hb hK hP 1 0 rfl rfl (vp_in_nI (by omega) (by omega)) dX1_reckon_24 ?_
        refine lv_topd (fun f_38 ef_38 => ?_)
        obtain rfl : f_38 = fw i := by rw [ef_38, nI_clamp (by omega)]
        refine lv_dload_n hx hb dX1_reckon_25 rfl (lv_at hl 4 rfl) ?_
        refine lv_dcmp hx hb dX1_reckon_26 ?_
        refine lv_if_gt (tgt := 58) hx hb dX1_reckon_27 (by decide) (fun c_39 => ?_) (fun c_39 => ?_)
        · have hp2 := bmx_skip hp (show ¬ (fun k => zw k ≤ zD) i from (fun h => absurd ((cv_gt (hzw i (by omega)) hD .g).mp c_39) (Int.not_lt.mpr h)))
          refine lv_iload hx hb dX1_reckon_58 (lv_at hl 2 rfl) ?_
          exact half _ hp2 ls (lv_sub hl [0, 1, 2, 3, 4, 5] rfl)
        · have hPi : (fun k => zw k ≤ zD) i := Int.not_lt.mp (fun h => c_39 ((cv_gt (hzw i (by omega)) hD .g).mpr h))
          refine lv_iload hx hb dX1_reckon_30 (lv_at hl 2 rfl) ?_
          refine lv_if_lt (tgt := 53) hx hb dX1_reckon_32 (by decide) (fun c_40 => ?_) (fun c_40 => ?_)
          · have hp2 := bmx_first (by omega) hp c_40 hPi
            refine lv_iload hx hb dX1_reckon_53 (lv_at hl 0 rfl) ?_
            refine lv_goto (tgt := 60) hx hb dX1_reckon_55 (by decide) ?_
            exact half _ hp2 ls (lv_sub hl [0, 1, 2, 3, 4, 5] rfl)
          · obtain ⟨jp, ep, bp⟩ := bmx_ge hp c_40
            refine lv_aload_n hx hb dX1_reckon_35 rfl (lv_at hl 3 rfl) ?_
            refine va_get (D := (dC, dI)) (ci := 1) (v := .ref hw) (C := RX1) (T := TX1) (N := 4) hx hb hts in_X1 hown hK hP 0 rfl rfl 1 (by decide) (hts _ q170) (fun _ h9 => h9) rfl dX1_reckon_36 ?_
            refine lv_iload hx hb dX1_reckon_39 (lv_at hl 0 rfl) ?_
            refine va_dald hx hb hK hP 1 0 rfl rfl (vp_in_nI (by omega) (by omega)) dX1_reckon_41 ?_
            refine lv_topd (fun f_41 ef_41 => ?_)
            obtain rfl : f_41 = fw i := by rw [ef_41, nI_clamp (by omega)]
            refine lv_aload_n hx hb dX1_reckon_42 rfl (lv_at hl 3 rfl) ?_
            refine va_get (D := (dC, dI)) (ci := 1) (v := .ref hw) (C := RX1) (T := TX1) (N := 4) hx hb hts in_X1 hown hK hP 0 rfl rfl 1 (by decide) (hts _ q170) (fun _ h9 => h9) rfl dX1_reckon_43 ?_
            refine lv_iload hx hb dX1_reckon_46 (lv_at hl 2 rfl) ?_
            refine va_dald hx hb hK hP 1 0 rfl rfl (by rw [ep]; exact vp_in_nI (by have := bp.1; omega) (by omega)) dX1_reckon_48 ?_
            refine lv_topd (fun f_42 ef_42 => ?_)
            obtain rfl : f_42 = fw jp := by rw [ef_42, ep, nI_clamp (by have := bp.1; omega)]
            refine lv_dcmp hx hb dX1_reckon_49 ?_
            refine lv_if_le (tgt := 58) hx hb dX1_reckon_50 (by decide) (fun c_43 => ?_) (fun c_43 => ?_)
            · have hp2 : bmx (i + 1) (fun k => zw k ≤ zD) zw pp := bmx_keep ep bp ((cv_le (hzw i (by omega)) (hzw jp (by have := bp.1; omega)) .l).mp c_43)
              refine lv_iload hx hb dX1_reckon_58 (lv_at hl 2 rfl) ?_
              exact half _ hp2 ls (lv_sub hl [0, 1, 2, 3, 4, 5] rfl)
            · have hp2 : bmx (i + 1) (fun k => zw k ≤ zD) zw (nI i) := bmx_new bp (Int.not_le.mp (fun h => c_43 ((cv_le (hzw i (by omega)) (hzw jp (by have := bp.1; omega)) .l).mpr h))) hPi
              refine lv_iload hx hb dX1_reckon_53 (lv_at hl 0 rfl) ?_
              refine lv_goto (tgt := 60) hx hb dX1_reckon_55 (by decide) ?_
              exact half _ hp2 ls (lv_sub hl [0, 1, 2, 3, 4, 5] rfl)
  refine lv_iconst (v := -1) hx hb dX1_reckon_0 (by decide) ?_
  refine lv_istore (lv' := [(5, .int (-1)), (0, .ref hm), (1, .double dg), (3, .double bar)]) hx hb dX1_reckon_1 hl (by decide) rfl (fun ls hl => ?_)
  refine lv_iconst (v := -1) hx hb dX1_reckon_3 (by decide) ?_
  refine lv_istore (lv' := [(6, .int (-1)), (5, .int (-1)), (0, .ref hm), (1, .double dg), (3, .double bar)]) hx hb dX1_reckon_4 hl (by decide) rfl (fun ls hl => ?_)
  refine lv_iconst (v := 0) hx hb dX1_reckon_6 (by decide) ?_
  refine lv_istore (lv' := [(7, .int 0), (6, .int (-1)), (5, .int (-1)), (0, .ref hm), (1, .double dg), (3, .double bar)]) hx hb dX1_reckon_7 hl (by decide) rfl (fun ls hl => ?_)
  exact loop n 0 (-1) (-1) (by omega) (bmx_0 _ _) (bmx_0 _ _) ls (lv_sub hl [0, 1, 2, 3, 4, 5] rfl)
end
section
/-! what the public methods answer, given what 'at' (x) or 'reckon' (the reference) answers -/
abbrev MM : Nat := 1024640100
def bl_val (v d b : UInt64) : UInt64 := if gr_place d b = 0 then k_m1 else v
def af_it : Nat → UInt64 → UInt64 → UInt64
  | 0, _, g => g
  | n + 1, v, g => af_it n v (af_step v g)
theorem af_fin : ∀ (n : Nat) (v g : UInt64), bnd v MM → bnd g MM → fin_ (af_it n v g) := by
  intro n
  induction n with
  | zero => intro v g _ hg; exact hg.elim (fun z h => ⟨z, h.1⟩)
  | succ n ih => intro v g hv hg; exact ih v _ hv (af_ok (by decide) hv hg).2.2.2
def an_val (v g d b : UInt64) (t : Int32) : UInt64 := if gr_in g FP.dconst0 k_100 = 0 then k_m1 else if gr_place d b = 0 then k_m1 else if gr_time t = 0 then k_m1 else af_it (tm_n t) v g
def an_m (v g d b : UInt64) (t : Int32) : UInt64 := if gr_in g FP.dconst0 k_100 = 0 then k_m1 else if gr_place d b = 0 then k_m1 else if t < 0 then k_m1 else if t ≤ 100000 then af_it (tm_n t) v g else k_m1
theorem an_eq (v g d b : UInt64) (t : Int32) : an_m v g d b t = an_val v g d b t := by
  unfold an_m an_val
  split
  · rfl
  · split
    · rfl
    · by_cases c2 : gr_time t = 0
      · rw [if_pos c2]
        by_cases c3 : t < 0
        · rw [if_pos c3]
        · rw [if_neg c3, if_neg (fun c4 => tm_iff.mpr ⟨c3, c4⟩ c2)]
      · obtain ⟨c3, c4⟩ := tm_iff.mp c2
        rw [if_neg c2, if_neg c3, if_pos c4]
theorem an_fin {v g d b : UInt64} {t : Int32} (hg : fin_ g) (hv : ¬ gr_place d b = 0 → bnd v MM) : fin_ (an_val v g d b t) := by
  unfold an_val
  by_cases c1 : gr_in g FP.dconst0 k_100 = 0
  · rw [if_pos c1]; exact ⟨_, fv_m1⟩
  · rw [if_neg c1]
    by_cases c2 : gr_place d b = 0
    · rw [if_pos c2]; exact ⟨_, fv_m1⟩
    · rw [if_neg c2]
      split
      · exact ⟨_, fv_m1⟩
      · obtain ⟨z, h1, -, h2⟩ := in_gas hg c1
        exact af_fin _ _ _ (hv c2) (bnd_le ⟨z, h1, h2⟩ (by decide))
def bs_it (V : Nat → UInt64) (g lim : UInt64) : Nat → Nat → Int32
  | 0, _ => 1
  | j + 1, k => if Op.cmpValue (FP.dcmp (V k) g) .l < 0 then bs_it V g lim j (k + 1) else if Op.cmpValue (FP.dcmp (gk (nI k)) lim) .l ≤ 0 then 0 else 1
def bs_val (V : Nat → UInt64) (g d lim : UInt64) : Int32 := if gr_in g FP.dconst0 k_100 = 0 then -2 else if gr_in d k_m10 k_100 = 0 then -2 else if gr_in lim FP.dconst0 k_20 = 0 then -2 else bs_it V g lim 161 0
def mx_val (v n d b : UInt64) (gas : Int32) : UInt64 := if gr_in n FP.dconst0 FP.dconst1 = 0 then k_m1 else if gr_place d b = 0 then k_m1 else if gas < 0 then k_m1 else if gas ≤ 1 then (if gas = 1 then v else if Op.cmpValue (FP.dcmp d k_20) .l ≤ 0 then mi_val b n else FP.dmul (mi_val b n) k_half) else k_m1
end
section
/-! GasRowsModel: balance, after, burst, mixed -/
set_option maxHeartbeats 4000000 in
set_option maxRecDepth 100000 in
/-- GasRowsModel.balance -/
theorem m_X1_balance (l : Launch) (dC : Nat → ClassId) (dI : Nat → Nat → Nat) (hm hw hb_ ha : Nat) (A0 A1 A2 : ClassId) (n : Nat) (fw fb fa : Nat → UInt64) (zw zb : Nat → Int) (hS : gm_S n fw fb zw zb) (dg bar v : UInt64) (hv : ¬ gr_place dg bar = 0 → rkv n zw zb fw fb fa dg bar v) : Met l yX1_balance (ws_ yX1_balance cX1_balance 5 (some .double)) ({ frames := 2, cells := 0, slots := 0, locals := 57 }) (va_Pc [.ref hm, .double dg, .double bar] (gm_B dC dI (gm_W hm hw hb_ ha A0 A1 A2 n fw fb fa) (gm_T A0 A1 A2))) (vp_Sd (fun r => r = bl_val v dg bar)) 0 0 (fun _ => False) := by
  refine Met.ofW (cc := cX1_balance) (maxL := 5) (ret := (some .double)) (by decide) rfl ?_
  intro p e s m args below meth c s₁ B hml hv
  obtain ⟨rfl, hP, hK⟩ := hv
  have hx := B.exec
  have hb := B.bytes
  have hr := B.returns
  have hts := atoms_spec (ws := ws_ yX1_balance cX1_balance 5 (some .double)) B.pre
  have hts : ∀ w ∈ lw_all, w.before _ s = true := fun w h => hts w (List.mem_cons_of_mem _ h)
  have hown : s.vm.findClass RX1 = some m.cls := findClass_of_methodNamed B.named
  have hlocks := B.notSynchronized
  have hl := lv_entry ([.ref hm, .double dg, .double bar]) (n := 5) (Nat.le_of_ble_eq_true rfl)
  rw [lg_entry_eq]
  generalize (lg_sl ([.ref hm, .double dg, .double bar]) ++ List.replicate (5 - (lg_sl ([.ref hm, .double dg, .double bar])).length) Slot.unset).toArray = ls at hl ⊢
  have hl : lv_has ls 5 [(0, .ref hm), (1, .double dg), (3, .double bar)] := hl
  have hP : va_P (dC, dI) vwCl (gm_W hm hw hb_ ha A0 A1 A2 n fw fb fa) s.heap := hP
  have hK : va_K (dC, dI) vwCl (gm_T A0 A1 A2) s := hK
  refine lv_dload_n hx hb dX1_balance_0 rfl (lv_at hl 1 rfl) ?_
  refine lv_dload_n hx hb dX1_balance_1 rfl (lv_at hl 2 rfl) ?_
  refine vp_callSi (va_Run.run (va_runS (As := [.double dg, .double bar]) (rest := []) ⟨hx, hb, hml, hown, hts⟩ (m_X1_isPlace l dg bar) (va_cwS 2 hts (lw_S q187 q188 q7 q189) rfl rfl rfl (by decide +kernel) ⟨Nat.le_of_ble_eq_true rfl, Nat.le_of_ble_eq_true rfl⟩) ⟨fun _ _ _ _ q => q, fun U hU hW => ⟨rfl, trivial⟩⟩ rfl rfl hl.1 rfl (lv_room (Nat.le_of_ble_eq_true rfl)) dX1_balance_2 ⟨Nat.le_of_ble_eq_true rfl, Nat.le_of_ble_eq_true rfl⟩)) (fun r_1 hr_1 => ?_)
  subst hr_1
  refine lv_if_eq (tgt := 17) hx hb dX1_balance_5 (by decide) (fun c_2 => ?_) (fun c_2 => ?_)
  · refine lv_ldc2d (own := RX1) (v := k_m1) hx hb hown (hts _ q208) dX1_balance_17 ?_
    exact W.dret (v := k_m1) hx hb hr (fun t ht hW => ⟨k_m1, rfl, by rw [bl_val, if_pos c_2], ht⟩) (fun _ h => nomatch h) dX1_balance_20
  · refine lv_aload_n hx hb dX1_balance_8 rfl (lv_at hl 0 rfl) ?_
    refine lv_dload_n hx hb dX1_balance_9 rfl (lv_at hl 1 rfl) ?_
    refine lv_dload_n hx hb dX1_balance_10 rfl (lv_at hl 2 rfl) ?_
    refine vp_callSd (va_Run.run (va_runV (As := [.double dg, .double bar]) (rest := []) ⟨hx, hb, hml, hown, hts⟩ (m_X1_reckon l dC dI hm hw hb_ ha A0 A1 A2 n fw fb fa zw zb hS dg bar v (hv c_2)) (cwV 2 hts (lw_V q200 q202 qs3 q7 q203) rfl rfl rfl (by decide +kernel) ⟨Nat.le_of_ble_eq_true rfl, Nat.le_of_ble_eq_true rfl⟩) ⟨gm_fb, va_recv hK hP (ci := 1) (q0 := 0) rfl rfl, fun U hU hW => ⟨rfl, gm_pre hP hK hU hW⟩⟩ rfl rfl hl.1 rfl (lv_room (Nat.le_of_ble_eq_true rfl)) dX1_balance_11 ⟨Nat.le_of_ble_eq_true rfl, Nat.le_of_ble_eq_true rfl⟩)) (fun r_3 hr_3 => ?_)
    have hr_3 := hr_3.symm
    subst hr_3
    refine lv_goto (tgt := 20) hx hb dX1_balance_14 (by decide) ?_
    exact W.dret (v := v) hx hb hr (fun t ht hW => ⟨v, rfl, by rw [bl_val, if_neg c_2], ht⟩) (fun _ h => nomatch h) dX1_balance_20

set_option maxHeartbeats 4000000 in
set_option maxRecDepth 100000 in
/-- GasRowsModel.after -/
theorem m_X1_after (l : Launch) (dC : Nat → ClassId) (dI : Nat → Nat → Nat) (hm hw hb_ ha : Nat) (A0 A1 A2 : ClassId) (n : Nat) (fw fb fa : Nat → UInt64) (zw zb : Nat → Int) (hS : gm_S n fw fb zw zb) (gg dg bar v : UInt64) (tt : Int32) (hgg : fin_ gg) (hv : ¬ gr_place dg bar = 0 → rkv n zw zb fw fb fa dg bar v ∧ bnd v MM) : Met l yX1_after (ws_ yX1_after cX1_after 13 (some .double)) ({ frames := 2, cells := 0, slots := 0, locals := 57 }) (va_Pc [.ref hm, .double gg, .double dg, .double bar, .int tt] (gm_B dC dI (gm_W hm hw hb_ ha A0 A1 A2 n fw fb fa) (gm_T A0 A1 A2))) (vp_Sd (fun r => r = an_m v gg dg bar tt)) 0 0 (fun _ => False) := by
  refine Met.ofW (cc := cX1_after) (maxL := 13) (ret := (some .double)) (by decide) rfl ?_
  intro p e s m args below meth c s₁ B hml hv
  obtain ⟨rfl, hP, hK⟩ := hv
  have hx := B.exec
  have hb := B.bytes
  have hr := B.returns
  have hts := atoms_spec (ws := ws_ yX1_after cX1_after 13 (some .double)) B.pre
  have hts : ∀ w ∈ lw_all, w.before _ s = true := fun w h => hts w (List.mem_cons_of_mem _ h)
  have hown : s.vm.findClass RX1 = some m.cls := findClass_of_methodNamed B.named
  have hlocks := B.notSynchronized
  have hl := lv_entry ([.ref hm, .double gg, .double dg, .double bar, .int tt]) (n := 13) (Nat.le_of_ble_eq_true rfl)
  rw [lg_entry_eq]
  generalize (lg_sl ([.ref hm, .double gg, .double dg, .double bar, .int tt]) ++ List.replicate (13 - (lg_sl ([.ref hm, .double gg, .double dg, .double bar, .int tt])).length) Slot.unset).toArray = ls at hl ⊢
  have hl : lv_has ls 13 [(0, .ref hm), (1, .double gg), (3, .double dg), (5, .double bar), (7, .int tt)] := hl
  have hP : va_P (dC, dI) vwCl (gm_W hm hw hb_ ha A0 A1 A2 n fw fb fa) s.heap := hP
  have hK : va_K (dC, dI) vwCl (gm_T A0 A1 A2) s := hK
  refine lv_dload_n hx hb dX1_after_0 rfl (lv_at hl 1 rfl) ?_
  refine lv_dconst0 hx hb dX1_after_1 ?_
  refine lv_ldc2d (own := RX1) (v := k_100) hx hb hown (hts _ q191) dX1_after_2 ?_
  refine vp_callSi (va_Run.run (va_runS (As := [.double gg, .double FP.dconst0, .double k_100]) (rest := []) ⟨hx, hb, hml, hown, hts⟩ (m_X1_isIn l gg FP.dconst0 k_100) (va_cwS 3 hts (lw_S q192 q193 q7 q194) rfl rfl rfl (by decide +kernel) ⟨Nat.le_of_ble_eq_true rfl, Nat.le_of_ble_eq_true rfl⟩) ⟨fun _ _ _ _ q => q, fun U hU hW => ⟨rfl, trivial⟩⟩ rfl rfl hl.1 rfl (lv_room (Nat.le_of_ble_eq_true rfl)) dX1_after_5 ⟨Nat.le_of_ble_eq_true rfl, Nat.le_of_ble_eq_true rfl⟩)) (fun r_1 hr_1 => ?_)
  subst hr_1
  refine lv_if_eq (tgt := 32) hx hb dX1_after_8 (by decide) (fun c_2 => ?_) (fun c_2 => ?_)
  · refine lv_ldc2d (own := RX1) (v := k_m1) hx hb hown (hts _ q208) dX1_after_32 ?_
    exact W.dret (v := k_m1) hx hb hr (fun t ht hW => ⟨k_m1, rfl, by rw [an_m, if_pos c_2], ht⟩) (fun _ h => nomatch h) dX1_after_35
  · refine lv_dload_n hx hb dX1_after_11 rfl (lv_at hl 2 rfl) ?_
    refine lv_dload hx hb dX1_after_12 (lv_at hl 3 rfl) ?_
    refine vp_callSi (va_Run.run (va_runS (As := [.double dg, .double bar]) (rest := []) ⟨hx, hb, hml, hown, hts⟩ (m_X1_isPlace l dg bar) (va_cwS 2 hts (lw_S q187 q188 q7 q189) rfl rfl rfl (by decide +kernel) ⟨Nat.le_of_ble_eq_true rfl, Nat.le_of_ble_eq_true rfl⟩) ⟨fun _ _ _ _ q => q, fun U hU hW => ⟨rfl, trivial⟩⟩ rfl rfl hl.1 rfl (lv_room (Nat.le_of_ble_eq_true rfl)) dX1_after_14 ⟨Nat.le_of_ble_eq_true rfl, Nat.le_of_ble_eq_true rfl⟩)) (fun r_3 hr_3 => ?_)
    subst hr_3
    refine lv_if_eq (tgt := 32) hx hb dX1_after_17 (by decide) (fun c_4 => ?_) (fun c_4 => ?_)
    · refine lv_ldc2d (own := RX1) (v := k_m1) hx hb hown (hts _ q208) dX1_after_32 ?_
      exact W.dret (v := k_m1) hx hb hr (fun t ht hW => ⟨k_m1, rfl, by rw [an_m, if_neg c_2, if_pos c_4], ht⟩) (fun _ h => nomatch h) dX1_after_35
    · refine lv_iload hx hb dX1_after_20 (lv_at hl 4 rfl) ?_
      refine lv_if_lt (tgt := 32) hx hb dX1_after_22 (by decide) (fun c_5 => ?_) (fun c_5 => ?_)
      · refine lv_ldc2d (own := RX1) (v := k_m1) hx hb hown (hts _ q208) dX1_after_32 ?_
        exact W.dret (v := k_m1) hx hb hr (fun t ht hW => ⟨k_m1, rfl, by rw [an_m, if_neg c_2, if_neg c_4, if_pos c_5], ht⟩) (fun _ h => nomatch h) dX1_after_35
      · refine lv_iload hx hb dX1_after_25 (lv_at hl 4 rfl) ?_
        refine lv_ldc (own := RX1) (v := 100000) hx hb hown (hts _ q213) dX1_after_27 ?_
        refine lv_icmp_le (tgt := 36) hx hb dX1_after_29 (by decide) (fun c_6 => ?_) (fun c_6 => ?_)
        · obtain ⟨et, hn⟩ := tm_ok c_5 c_6
          refine lv_aload_n hx hb dX1_after_36 rfl (lv_at hl 0 rfl) ?_
          refine lv_dload_n hx hb dX1_after_37 rfl (lv_at hl 2 rfl) ?_
          refine lv_dload hx hb dX1_after_38 (lv_at hl 3 rfl) ?_
          refine vp_callSd (va_Run.run (va_runV (As := [.double dg, .double bar]) (rest := []) ⟨hx, hb, hml, hown, hts⟩ (m_X1_reckon l dC dI hm hw hb_ ha A0 A1 A2 n fw fb fa zw zb hS dg bar v (hv c_4).1) (cwV 2 hts (lw_V q200 q202 qs3 q7 q203) rfl rfl rfl (by decide +kernel) ⟨Nat.le_of_ble_eq_true rfl, Nat.le_of_ble_eq_true rfl⟩) ⟨gm_fb, va_recv hK hP (ci := 1) (q0 := 0) rfl rfl, fun U hU hW => ⟨rfl, gm_pre hP hK hU hW⟩⟩ rfl rfl hl.1 rfl (lv_room (Nat.le_of_ble_eq_true rfl)) dX1_after_40 ⟨Nat.le_of_ble_eq_true rfl, Nat.le_of_ble_eq_true rfl⟩)) (fun r_7 hr_7 => ?_)
          have hr_7 := hr_7.symm
          subst hr_7
          refine lv_dstore (lv' := [(8, .double v), (0, .ref hm), (1, .double gg), (3, .double dg), (5, .double bar), (7, .int tt)]) hx hb dX1_after_43 hl (by decide) rfl (fun ls hl => ?_)
          refine lv_dload_n hx hb dX1_after_45 rfl (lv_at hl 2 rfl) ?_
          refine lv_dstore (lv' := [(10, .double gg), (8, .double v), (0, .ref hm), (1, .double gg), (3, .double dg), (5, .double bar), (7, .int tt)]) hx hb dX1_after_46 hl (by decide) rfl (fun ls hl => ?_)
          refine lv_iconst (v := 0) hx hb dX1_after_48 (by decide) ?_
          refine lv_istore (lv' := [(12, .int 0), (10, .double gg), (8, .double v), (0, .ref hm), (1, .double gg), (3, .double dg), (5, .double bar), (7, .int tt)]) hx hb dX1_after_49 hl (by decide) rfl (fun ls hl => ?_)
          have hvb := (hv c_4).2
          have loop : ∀ (j i : Nat) (gx : UInt64), i + j = tm_n tt → bnd gx MM → af_it j v gx = af_it (tm_n tt) v gg → ∀ ls : Array Slot, lv_has ls 13 [(12, .int (nI i)), (10, .double gx), (8, .double v), (0, .ref hm), (1, .double gg), (3, .double dg), (5, .double bar), (7, .int tt)] → W p l e (headSpec (ws_ yX1_after cX1_after 13 (some .double)) ({ frames := 2, cells := 0, slots := 0, locals := 57 })).room s m ([.ref hm, .double gg, .double dg, .double bar, .int tt] : List Value).toArray below meth c s.heap [] 0 0 (MQ below (vp_Sd (fun r => r = an_m v gg dg bar tt)) ([.ref hm, .double gg, .double dg, .double bar, .int tt] : List Value).toArray s 0 0 (fun _ => False)) (F0 m 51 ls []) := by
            intro j
            induction j with
            | zero =>
              intro i gx hij hI hV ls hl
              refine lv_iload hx hb dX1_after_51 (lv_at hl 0 rfl) ?_
              refine lv_iload hx hb dX1_after_53 (lv_at hl 7 rfl) ?_
              refine lv_icmp_ge (tgt := 78) hx hb dX1_after_55 (by decide) (fun c_8 => ?_) (fun c_8 => ?_)
              · refine lv_dload hx hb dX1_after_78 (lv_at hl 1 rfl) ?_
                exact W.dret (v := gx) hx hb hr (fun t ht hW => ⟨gx, rfl, by rw [an_m, if_neg c_2, if_neg c_4, if_neg c_5, if_pos c_6]; exact hV, ht⟩) (fun _ h => nomatch h) dX1_after_80
              · exact absurd (by rw [et]; exact nI_le (by omega) (by omega)) c_8
            | succ j ih =>
              intro i gx hij hI hV ls hl
              refine lv_iload hx hb dX1_after_51 (lv_at hl 0 rfl) ?_
              refine lv_iload hx hb dX1_after_53 (lv_at hl 7 rfl) ?_
              refine lv_icmp_ge (tgt := 78) hx hb dX1_after_55 (by decide) (fun c_9 => ?_) (fun c_9 => ?_)
              · exact absurd (by rw [← et]; exact c_9) (nI_ge (a := i) (b := tm_n tt) (by omega) (by omega))
              · have ok := af_ok (by decide) hvb hI
                refine lv_dload hx hb dX1_after_58 (lv_at hl 1 rfl) ?_
                refine lv_dload hx hb dX1_after_60 (lv_at hl 2 rfl) ?_
                refine lv_dload hx hb dX1_after_62 (lv_at hl 1 rfl) ?_
                refine lv_dsub hx hb dX1_after_64 (ok.1) ?_
                refine lv_ldc2d (own := RX1) (v := k_1024) hx hb hown (hts _ q214) dX1_after_65 ?_
                refine lv_dmul hx hb dX1_after_68 (ok.2.1) ?_
                refine lv_dadd hx hb dX1_after_69 (ok.2.2.1) ?_
                refine lv_dstore (lv' := [(10, .double (FP.dadd gx (FP.dmul (FP.dsub v gx) k_1024))), (12, .int (nI i)), (8, .double v), (0, .ref hm), (1, .double gg), (3, .double dg), (5, .double bar), (7, .int tt)]) hx hb dX1_after_70 hl (by decide) rfl (fun ls hl => ?_)
                refine lv_iinc (v := nI (i + 1)) (lv' := [(12, .int (nI (i + 1))), (10, .double (FP.dadd gx (FP.dmul (FP.dsub v gx) k_1024))), (8, .double v), (0, .ref hm), (1, .double gg), (3, .double dg), (5, .double bar), (7, .int tt)]) hx hb dX1_after_72 hl (k := 1) rfl (nI_1 i) (by decide) rfl (fun ls hl => ?_)
                refine lv_goto (tgt := 51) hx hb dX1_after_75 (by decide) ?_
                exact ih (i + 1) _ (by omega) ok.2.2.2 (by rw [← hV, af_it]) ls (lv_sub hl [0, 1, 2, 3, 4, 5, 6, 7] rfl)
          obtain ⟨zg, hzg, -, hzb⟩ := in_gas hgg c_2
          exact loop (tm_n tt) 0 gg (by omega) (bnd_le ⟨zg, hzg, hzb⟩ (by decide)) rfl ls (lv_sub hl [0, 1, 2, 3, 4, 5, 6, 7] rfl)
        · refine lv_ldc2d (own := RX1) (v := k_m1) hx hb hown (hts _ q208) dX1_after_32 ?_
          exact W.dret (v := k_m1) hx hb hr (fun t ht hW => ⟨k_m1, rfl, by rw [an_m, if_neg c_2, if_neg c_4, if_neg c_5, if_neg c_6], ht⟩) (fun _ h => nomatch h) dX1_after_35

set_option maxHeartbeats 4000000 in
set_option maxRecDepth 100000 in
/-- GasRowsModel.burst -/
theorem m_X1_burst (l : Launch) (dC : Nat → ClassId) (dI : Nat → Nat → Nat) (hm hw hb_ ha : Nat) (A0 A1 A2 : ClassId) (n : Nat) (fw fb fa : Nat → UInt64) (zw zb : Nat → Int) (hS : gm_S n fw fb zw zb) (gg dg lim : UInt64) (V : Nat → UInt64) (hgg : fin_ gg) (hv : ¬ gr_in dg k_m10 k_100 = 0 → ∀ k, k ≤ 160 → rkv n zw zb fw fb fa dg (gk (nI k)) (V k) ∧ fin_ (V k)) : Met l yX1_burst (ws_ yX1_burst cX1_burst 8 (some .int)) ({ frames := 2, cells := 0, slots := 0, locals := 57 }) (va_Pc [.ref hm, .double gg, .double dg, .double lim] (gm_B dC dI (gm_W hm hw hb_ ha A0 A1 A2 n fw fb fa) (gm_T A0 A1 A2))) (vp_Si (fun r => r = bs_val V gg dg lim)) 0 0 (fun _ => False) := by
  refine Met.ofW (cc := cX1_burst) (maxL := 8) (ret := (some .int)) (by decide) rfl ?_
  intro p e s m args below meth c s₁ B hml hv
  obtain ⟨rfl, hP, hK⟩ := hv
  have hx := B.exec
  have hb := B.bytes
  have hr := B.returns
  have hts := atoms_spec (ws := ws_ yX1_burst cX1_burst 8 (some .int)) B.pre
  have hts : ∀ w ∈ lw_all, w.before _ s = true := fun w h => hts w (List.mem_cons_of_mem _ h)
  have hown : s.vm.findClass RX1 = some m.cls := findClass_of_methodNamed B.named
  have hlocks := B.notSynchronized
  have hl := lv_entry ([.ref hm, .double gg, .double dg, .double lim]) (n := 8) (Nat.le_of_ble_eq_true rfl)
  rw [lg_entry_eq]
  generalize (lg_sl ([.ref hm, .double gg, .double dg, .double lim]) ++ List.replicate (8 - (lg_sl ([.ref hm, .double gg, .double dg, .double lim])).length) Slot.unset).toArray = ls at hl ⊢
  have hl : lv_has ls 8 [(0, .ref hm), (1, .double gg), (3, .double dg), (5, .double lim)] := hl
  have hP : va_P (dC, dI) vwCl (gm_W hm hw hb_ ha A0 A1 A2 n fw fb fa) s.heap := hP
  have hK : va_K (dC, dI) vwCl (gm_T A0 A1 A2) s := hK
  refine lv_dload_n hx hb dX1_burst_0 rfl (lv_at hl 1 rfl) ?_
  refine lv_dconst0 hx hb dX1_burst_1 ?_
  refine lv_ldc2d (own := RX1) (v := k_100) hx hb hown (hts _ q191) dX1_burst_2 ?_
  refine vp_callSi (va_Run.run (va_runS (As := [.double gg, .double FP.dconst0, .double k_100]) (rest := []) ⟨hx, hb, hml, hown, hts⟩ (m_X1_isIn l gg FP.dconst0 k_100) (va_cwS 3 hts (lw_S q192 q193 q7 q194) rfl rfl rfl (by decide +kernel) ⟨Nat.le_of_ble_eq_true rfl, Nat.le_of_ble_eq_true rfl⟩) ⟨fun _ _ _ _ q => q, fun U hU hW => ⟨rfl, trivial⟩⟩ rfl rfl hl.1 rfl (lv_room (Nat.le_of_ble_eq_true rfl)) dX1_burst_5 ⟨Nat.le_of_ble_eq_true rfl, Nat.le_of_ble_eq_true rfl⟩)) (fun r_1 hr_1 => ?_)
  subst hr_1
  refine lv_if_eq (tgt := 36) hx hb dX1_burst_8 (by decide) (fun c_2 => ?_) (fun c_2 => ?_)
  · refine lv_bipush (v := -2) hx hb dX1_burst_36 (by decide) ?_
    exact W.iret (v := (-2)) hx hb hr (fun t ht hW => ⟨(-2), rfl, by rw [bs_val, if_pos c_2], ht⟩) (fun _ h => nomatch h) dX1_burst_38
  · refine lv_dload_n hx hb dX1_burst_11 rfl (lv_at hl 2 rfl) ?_
    refine lv_ldc2d (own := RX1) (v := k_m10) hx hb hown (hts _ q190) dX1_burst_12 ?_
    refine lv_ldc2d (own := RX1) (v := k_100) hx hb hown (hts _ q191) dX1_burst_15 ?_
    refine vp_callSi (va_Run.run (va_runS (As := [.double dg, .double k_m10, .double k_100]) (rest := []) ⟨hx, hb, hml, hown, hts⟩ (m_X1_isIn l dg k_m10 k_100) (va_cwS 3 hts (lw_S q192 q193 q7 q194) rfl rfl rfl (by decide +kernel) ⟨Nat.le_of_ble_eq_true rfl, Nat.le_of_ble_eq_true rfl⟩) ⟨fun _ _ _ _ q => q, fun U hU hW => ⟨rfl, trivial⟩⟩ rfl rfl hl.1 rfl (lv_room (Nat.le_of_ble_eq_true rfl)) dX1_burst_18 ⟨Nat.le_of_ble_eq_true rfl, Nat.le_of_ble_eq_true rfl⟩)) (fun r_3 hr_3 => ?_)
    subst hr_3
    refine lv_if_eq (tgt := 36) hx hb dX1_burst_21 (by decide) (fun c_4 => ?_) (fun c_4 => ?_)
    · refine lv_bipush (v := -2) hx hb dX1_burst_36 (by decide) ?_
      exact W.iret (v := (-2)) hx hb hr (fun t ht hW => ⟨(-2), rfl, by rw [bs_val, if_neg c_2, if_pos c_4], ht⟩) (fun _ h => nomatch h) dX1_burst_38
    · refine lv_dload hx hb dX1_burst_24 (lv_at hl 3 rfl) ?_
      refine lv_dconst0 hx hb dX1_burst_26 ?_
      refine lv_ldc2d (own := RX1) (v := k_20) hx hb hown (hts _ q195) dX1_burst_27 ?_
      refine vp_callSi (va_Run.run (va_runS (As := [.double lim, .double FP.dconst0, .double k_20]) (rest := []) ⟨hx, hb, hml, hown, hts⟩ (m_X1_isIn l lim FP.dconst0 k_20) (va_cwS 3 hts (lw_S q192 q193 q7 q194) rfl rfl rfl (by decide +kernel) ⟨Nat.le_of_ble_eq_true rfl, Nat.le_of_ble_eq_true rfl⟩) ⟨fun _ _ _ _ q => q, fun U hU hW => ⟨rfl, trivial⟩⟩ rfl rfl hl.1 rfl (lv_room (Nat.le_of_ble_eq_true rfl)) dX1_burst_30 ⟨Nat.le_of_ble_eq_true rfl, Nat.le_of_ble_eq_true rfl⟩)) (fun r_5 hr_5 => ?_)
      subst hr_5
      refine lv_if_ne (tgt := 39) hx hb dX1_burst_33 (by decide) (fun c_6 => ?_) (fun c_6 => ?_)
      · refine lv_iconst (v := 0) hx hb dX1_burst_39 (by decide) ?_
        refine lv_istore (lv' := [(7, .int 0), (0, .ref hm), (1, .double gg), (3, .double dg), (5, .double lim)]) hx hb dX1_burst_40 hl (by decide) rfl (fun ls hl => ?_)
        have hvk := hv c_4
        have loop : ∀ (j i : Nat), i + j = 161 → bs_it V gg lim j i = bs_it V gg lim 161 0 → ∀ ls : Array Slot, lv_has ls 8 [(7, .int (nI i)), (0, .ref hm), (1, .double gg), (3, .double dg), (5, .double lim)] → W p l e (headSpec (ws_ yX1_burst cX1_burst 8 (some .int)) ({ frames := 2, cells := 0, slots := 0, locals := 57 })).room s m ([.ref hm, .double gg, .double dg, .double lim] : List Value).toArray below meth c s.heap [] 0 0 (MQ below (vp_Si (fun r => r = bs_val V gg dg lim)) ([.ref hm, .double gg, .double dg, .double lim] : List Value).toArray s 0 0 (fun _ => False)) (F0 m 42 ls []) := by
          intro j
          induction j with
          | zero =>
            intro i hij hV ls hl
            refine lv_iload hx hb dX1_burst_42 (lv_at hl 0 rfl) ?_
            refine lv_sipush (v := 160) hx hb dX1_burst_44 (by decide) ?_
            refine lv_icmp_gt (tgt := 73) hx hb dX1_burst_47 (by decide) (fun c_7 => ?_) (fun c_7 => ?_)
            · refine lv_iload hx hb dX1_burst_73 (lv_at hl 0 rfl) ?_
              refine lv_sipush (v := 160) hx hb dX1_burst_75 (by decide) ?_
              refine lv_icmp_gt (tgt := 94) hx hb dX1_burst_78 (by decide) (fun c_8 => ?_) (fun c_8 => ?_)
              · refine lv_iconst (v := 1) hx hb dX1_burst_94 (by decide) ?_
                refine lv_goto (tgt := 99) hx hb dX1_burst_95 (by decide) ?_
                exact W.iret (v := 1) hx hb hr (fun t ht hW => ⟨1, rfl, by rw [bs_val, if_neg c_2, if_neg c_4, if_neg c_6]; exact hV, ht⟩) (fun _ h => nomatch h) dX1_burst_99
              · exact absurd (nI_lt (a := 160) (b := i) (by omega) (by omega)) c_8
            · exact absurd (nI_lt (a := 160) (b := i) (by omega) (by omega)) c_7
          | succ j ih =>
            intro i hij hV ls hl
            refine lv_iload hx hb dX1_burst_42 (lv_at hl 0 rfl) ?_
            refine lv_sipush (v := 160) hx hb dX1_burst_44 (by decide) ?_
            refine lv_icmp_gt (tgt := 73) hx hb dX1_burst_47 (by decide) (fun c_9 => ?_) (fun c_9 => ?_)
            · exact absurd c_9 (nI_nlt (a := 160) (b := i) (by omega) (by decide))
            · refine lv_aload_n hx hb dX1_burst_50 rfl (lv_at hl 1 rfl) ?_
              refine lv_dload_n hx hb dX1_burst_51 rfl (lv_at hl 3 rfl) ?_
              refine lv_iload hx hb dX1_burst_52 (lv_at hl 0 rfl) ?_
              refine lv_i2d hx hb dX1_burst_54 ?_
              refine lv_ldc2d (own := RX1) (v := k_8) hx hb hown (hts _ q245) dX1_burst_55 ?_
              refine lv_dmul hx hb dX1_burst_58 (n_gk _) ?_
              refine lv_topd (fun f_10 ef_10 => ?_)
              obtain rfl : f_10 = gk (nI i) := by rw [ef_10]; rfl
              refine vp_callSd (va_Run.run (va_runV (As := [.double dg, .double (gk (nI i))]) (rest := []) ⟨hx, hb, hml, hown, hts⟩ (m_X1_reckon l dC dI hm hw hb_ ha A0 A1 A2 n fw fb fa zw zb hS dg (gk (nI i)) (V i) (hvk i (by omega)).1) (cwV 2 hts (lw_V q200 q202 qs3 q7 q203) rfl rfl rfl (by decide +kernel) ⟨Nat.le_of_ble_eq_true rfl, Nat.le_of_ble_eq_true rfl⟩) ⟨gm_fb, va_recv hK hP (ci := 1) (q0 := 0) rfl rfl, fun U hU hW => ⟨rfl, gm_pre hP hK hU hW⟩⟩ rfl rfl hl.1 rfl (lv_room (Nat.le_of_ble_eq_true rfl)) dX1_burst_59 ⟨Nat.le_of_ble_eq_true rfl, Nat.le_of_ble_eq_true rfl⟩)) (fun r_11 hr_11 => ?_)
              have hr_11 := hr_11.symm
              subst hr_11
              refine lv_dload_n hx hb dX1_burst_62 rfl (lv_at hl 2 rfl) ?_
              refine lv_dcmp hx hb dX1_burst_63 ?_
              refine lv_if_ge (tgt := 73) hx hb dX1_burst_64 (by decide) (fun c_12 => ?_) (fun c_12 => ?_)
              · obtain ⟨zv, hzv⟩ := (hvk i (by omega)).2
                obtain ⟨zg, hzg⟩ := hgg
                have hlt : ¬ Op.cmpValue (FP.dcmp (V i) gg) .l < 0 := fun h => absurd ((cv_lt hzv hzg .l).mp h) (Int.not_lt.mpr ((cv_ge hzv hzg .g).mp c_12))
                refine lv_iload hx hb dX1_burst_73 (lv_at hl 0 rfl) ?_
                refine lv_sipush (v := 160) hx hb dX1_burst_75 (by decide) ?_
                refine lv_icmp_gt (tgt := 94) hx hb dX1_burst_78 (by decide) (fun c_13 => ?_) (fun c_13 => ?_)
                · exact absurd c_13 (nI_nlt (a := 160) (b := i) (by omega) (by decide))
                · refine lv_iload hx hb dX1_burst_81 (lv_at hl 0 rfl) ?_
                  refine lv_i2d hx hb dX1_burst_83 ?_
                  refine lv_ldc2d (own := RX1) (v := k_8) hx hb hown (hts _ q245) dX1_burst_84 ?_
                  refine lv_dmul hx hb dX1_burst_87 (n_gk _) ?_
                  refine lv_topd (fun f_14 ef_14 => ?_)
                  obtain rfl : f_14 = gk (nI i) := by rw [ef_14]; rfl
                  refine lv_dload hx hb dX1_burst_88 (lv_at hl 4 rfl) ?_
                  refine lv_dcmp hx hb dX1_burst_90 ?_
                  refine lv_if_le (tgt := 98) hx hb dX1_burst_91 (by decide) (fun c_15 => ?_) (fun c_15 => ?_)
                  · refine lv_iconst (v := 0) hx hb dX1_burst_98 (by decide) ?_
                    exact W.iret (v := 0) hx hb hr (fun t ht hW => ⟨0, rfl, by rw [bs_val, if_neg c_2, if_neg c_4, if_neg c_6, ← hV, bs_it, if_neg hlt, if_pos c_15], ht⟩) (fun _ h => nomatch h) dX1_burst_99
                  · refine lv_iconst (v := 1) hx hb dX1_burst_94 (by decide) ?_
                    refine lv_goto (tgt := 99) hx hb dX1_burst_95 (by decide) ?_
                    exact W.iret (v := 1) hx hb hr (fun t ht hW => ⟨1, rfl, by rw [bs_val, if_neg c_2, if_neg c_4, if_neg c_6, ← hV, bs_it, if_neg hlt, if_neg c_15], ht⟩) (fun _ h => nomatch h) dX1_burst_99
              · obtain ⟨zv, hzv⟩ := (hvk i (by omega)).2
                obtain ⟨zg, hzg⟩ := hgg
                have hlt : Op.cmpValue (FP.dcmp (V i) gg) .l < 0 := (cv_lt hzv hzg .l).mpr (Int.not_le.mp (fun h => c_12 ((cv_ge hzv hzg .g).mpr h)))
                refine lv_iinc (v := nI (i + 1)) (lv' := [(7, .int (nI (i + 1))), (0, .ref hm), (1, .double gg), (3, .double dg), (5, .double lim)]) hx hb dX1_burst_67 hl (k := 0) rfl (nI_1 i) (by decide) rfl (fun ls hl => ?_)
                refine lv_goto (tgt := 42) hx hb dX1_burst_70 (by decide) ?_
                exact ih (i + 1) (by omega) (by rw [← hV, bs_it, if_pos hlt]) ls (lv_sub hl [0, 1, 2, 3, 4] rfl)
        exact loop 161 0 (by omega) rfl ls (lv_sub hl [0, 1, 2, 3, 4] rfl)
      · refine lv_bipush (v := -2) hx hb dX1_burst_36 (by decide) ?_
        exact W.iret (v := (-2)) hx hb hr (fun t ht hW => ⟨(-2), rfl, by rw [bs_val, if_neg c_2, if_neg c_4, if_pos c_6], ht⟩) (fun _ h => nomatch h) dX1_burst_38

set_option maxHeartbeats 4000000 in
set_option maxRecDepth 100000 in
/-- GasRowsModel.mixed -/
theorem m_X1_mixed (l : Launch) (dC : Nat → ClassId) (dI : Nat → Nat → Nat) (hm hw hb_ ha : Nat) (A0 A1 A2 : ClassId) (n : Nat) (fw fb fa : Nat → UInt64) (zw zb : Nat → Int) (hS : gm_S n fw fb zw zb) (nit dg bar v : UInt64) (gas : Int32) (hnit : fin_ nit) (hbar : fin_ bar) (hv : ¬ gr_in nit FP.dconst0 FP.dconst1 = 0 → ¬ gr_place dg bar = 0 → rkv n zw zb fw fb fa dg (mi_bar bar nit) v) : Met l yX1_mixed (ws_ yX1_mixed cX1_mixed 10 (some .double)) ({ frames := 2, cells := 0, slots := 0, locals := 57 }) (va_Pc [.ref hm, .double nit, .double dg, .double bar, .int gas] (gm_B dC dI (gm_W hm hw hb_ ha A0 A1 A2 n fw fb fa) (gm_T A0 A1 A2))) (vp_Sd (fun r => r = mx_val v nit dg bar gas)) 0 0 (fun _ => False) := by
  refine Met.ofW (cc := cX1_mixed) (maxL := 10) (ret := (some .double)) (by decide) rfl ?_
  intro p e s m args below meth c s₁ B hml hv
  obtain ⟨rfl, hP, hK⟩ := hv
  have hx := B.exec
  have hb := B.bytes
  have hr := B.returns
  have hts := atoms_spec (ws := ws_ yX1_mixed cX1_mixed 10 (some .double)) B.pre
  have hts : ∀ w ∈ lw_all, w.before _ s = true := fun w h => hts w (List.mem_cons_of_mem _ h)
  have hown : s.vm.findClass RX1 = some m.cls := findClass_of_methodNamed B.named
  have hlocks := B.notSynchronized
  have hl := lv_entry ([.ref hm, .double nit, .double dg, .double bar, .int gas]) (n := 10) (Nat.le_of_ble_eq_true rfl)
  rw [lg_entry_eq]
  generalize (lg_sl ([.ref hm, .double nit, .double dg, .double bar, .int gas]) ++ List.replicate (10 - (lg_sl ([.ref hm, .double nit, .double dg, .double bar, .int gas])).length) Slot.unset).toArray = ls at hl ⊢
  have hl : lv_has ls 10 [(0, .ref hm), (1, .double nit), (3, .double dg), (5, .double bar), (7, .int gas)] := hl
  have hP : va_P (dC, dI) vwCl (gm_W hm hw hb_ ha A0 A1 A2 n fw fb fa) s.heap := hP
  have hK : va_K (dC, dI) vwCl (gm_T A0 A1 A2) s := hK
  refine lv_dload_n hx hb dX1_mixed_0 rfl (lv_at hl 1 rfl) ?_
  refine lv_dconst0 hx hb dX1_mixed_1 ?_
  refine lv_dconst1 hx hb dX1_mixed_2 ?_
  refine vp_callSi (va_Run.run (va_runS (As := [.double nit, .double FP.dconst0, .double FP.dconst1]) (rest := []) ⟨hx, hb, hml, hown, hts⟩ (m_X1_isIn l nit FP.dconst0 FP.dconst1) (va_cwS 3 hts (lw_S q192 q193 q7 q194) rfl rfl rfl (by decide +kernel) ⟨Nat.le_of_ble_eq_true rfl, Nat.le_of_ble_eq_true rfl⟩) ⟨fun _ _ _ _ q => q, fun U hU hW => ⟨rfl, trivial⟩⟩ rfl rfl hl.1 rfl (lv_room (Nat.le_of_ble_eq_true rfl)) dX1_mixed_3 ⟨Nat.le_of_ble_eq_true rfl, Nat.le_of_ble_eq_true rfl⟩)) (fun r_1 hr_1 => ?_)
  subst hr_1
  refine lv_if_eq (tgt := 29) hx hb dX1_mixed_6 (by decide) (fun c_2 => ?_) (fun c_2 => ?_)
  · refine lv_ldc2d (own := RX1) (v := k_m1) hx hb hown (hts _ q208) dX1_mixed_29 ?_
    exact W.dret (v := k_m1) hx hb hr (fun t ht hW => ⟨k_m1, rfl, by rw [mx_val, if_pos c_2], ht⟩) (fun _ h => nomatch h) dX1_mixed_32
  · refine lv_dload_n hx hb dX1_mixed_9 rfl (lv_at hl 2 rfl) ?_
    refine lv_dload hx hb dX1_mixed_10 (lv_at hl 3 rfl) ?_
    refine vp_callSi (va_Run.run (va_runS (As := [.double dg, .double bar]) (rest := []) ⟨hx, hb, hml, hown, hts⟩ (m_X1_isPlace l dg bar) (va_cwS 2 hts (lw_S q187 q188 q7 q189) rfl rfl rfl (by decide +kernel) ⟨Nat.le_of_ble_eq_true rfl, Nat.le_of_ble_eq_true rfl⟩) ⟨fun _ _ _ _ q => q, fun U hU hW => ⟨rfl, trivial⟩⟩ rfl rfl hl.1 rfl (lv_room (Nat.le_of_ble_eq_true rfl)) dX1_mixed_12 ⟨Nat.le_of_ble_eq_true rfl, Nat.le_of_ble_eq_true rfl⟩)) (fun r_3 hr_3 => ?_)
    subst hr_3
    refine lv_if_eq (tgt := 29) hx hb dX1_mixed_15 (by decide) (fun c_4 => ?_) (fun c_4 => ?_)
    · refine lv_ldc2d (own := RX1) (v := k_m1) hx hb hown (hts _ q208) dX1_mixed_29 ?_
      exact W.dret (v := k_m1) hx hb hr (fun t ht hW => ⟨k_m1, rfl, by rw [mx_val, if_neg c_2, if_pos c_4], ht⟩) (fun _ h => nomatch h) dX1_mixed_32
    · refine lv_iload hx hb dX1_mixed_18 (lv_at hl 4 rfl) ?_
      refine lv_if_lt (tgt := 29) hx hb dX1_mixed_20 (by decide) (fun c_5 => ?_) (fun c_5 => ?_)
      · refine lv_ldc2d (own := RX1) (v := k_m1) hx hb hown (hts _ q208) dX1_mixed_29 ?_
        exact W.dret (v := k_m1) hx hb hr (fun t ht hW => ⟨k_m1, rfl, by rw [mx_val, if_neg c_2, if_neg c_4, if_pos c_5], ht⟩) (fun _ h => nomatch h) dX1_mixed_32
      · refine lv_iload hx hb dX1_mixed_23 (lv_at hl 4 rfl) ?_
        refine lv_iconst (v := 1) hx hb dX1_mixed_25 (by decide) ?_
        refine lv_icmp_le (tgt := 33) hx hb dX1_mixed_26 (by decide) (fun c_6 => ?_) (fun c_6 => ?_)
        · have ok := mi_ok hnit hbar c_2 (gr_place_iff.mp c_4).2
          refine lv_iload hx hb dX1_mixed_33 (lv_at hl 4 rfl) ?_
          refine lv_iconst (v := 1) hx hb dX1_mixed_35 (by decide) ?_
          refine lv_icmp_ne (tgt := 51) hx hb dX1_mixed_36 (by decide) (fun c_7 => ?_) (fun c_7 => ?_)
          · refine lv_dload hx hb dX1_mixed_51 (lv_at hl 3 rfl) ?_
            refine lv_dload_n hx hb dX1_mixed_53 rfl (lv_at hl 1 rfl) ?_
            refine lv_dmul hx hb dX1_mixed_54 (ok.2.2.2.1) ?_
            refine lv_ldc2d (own := RX1) (v := k_nit) hx hb hown (hts _ q256) dX1_mixed_55 ?_
            refine lv_dmul hx hb dX1_mixed_58 (ok.2.2.2.2.1) ?_
            refine lv_topd (fun f_8 ef_8 => ?_)
            obtain rfl : f_8 = mi_val bar nit := by rw [ef_8]; rfl
            refine lv_dstore (lv' := [(8, .double (mi_val bar nit)), (0, .ref hm), (1, .double nit), (3, .double dg), (5, .double bar), (7, .int gas)]) hx hb dX1_mixed_59 hl (by decide) rfl (fun ls hl => ?_)
            refine lv_dload_n hx hb dX1_mixed_61 rfl (lv_at hl 3 rfl) ?_
            refine lv_ldc2d (own := RX1) (v := k_20) hx hb hown (hts _ q195) dX1_mixed_62 ?_
            refine lv_dcmp hx hb dX1_mixed_65 ?_
            refine lv_if_le (tgt := 78) hx hb dX1_mixed_66 (by decide) (fun c_9 => ?_) (fun c_9 => ?_)
            · refine lv_dload hx hb dX1_mixed_78 (lv_at hl 0 rfl) ?_
              exact W.dret (v := (mi_val bar nit)) hx hb hr (fun t ht hW => ⟨(mi_val bar nit), rfl, by rw [mx_val, if_neg c_2, if_neg c_4, if_neg c_5, if_pos c_6, if_neg c_7, if_pos c_9], ht⟩) (fun _ h => nomatch h) dX1_mixed_80
            · refine lv_dload hx hb dX1_mixed_69 (lv_at hl 0 rfl) ?_
              refine lv_ldc2d (own := RX1) (v := k_half) hx hb hown (hts _ q257) dX1_mixed_71 ?_
              refine lv_dmul hx hb dX1_mixed_74 (ok.2.2.2.2.2.1) ?_
              refine lv_goto (tgt := 80) hx hb dX1_mixed_75 (by decide) ?_
              exact W.dret (v := (FP.dmul (mi_val bar nit) k_half)) hx hb hr (fun t ht hW => ⟨(FP.dmul (mi_val bar nit) k_half), rfl, by rw [mx_val, if_neg c_2, if_neg c_4, if_neg c_5, if_pos c_6, if_neg c_7, if_neg c_9], ht⟩) (fun _ h => nomatch h) dX1_mixed_80
          · refine lv_aload_n hx hb dX1_mixed_39 rfl (lv_at hl 0 rfl) ?_
            refine lv_dload_n hx hb dX1_mixed_40 rfl (lv_at hl 2 rfl) ?_
            refine lv_dload hx hb dX1_mixed_41 (lv_at hl 3 rfl) ?_
            refine lv_dconst1 hx hb dX1_mixed_43 ?_
            refine lv_dload_n hx hb dX1_mixed_44 rfl (lv_at hl 1 rfl) ?_
            refine lv_dsub hx hb dX1_mixed_45 (ok.1) ?_
            refine lv_dmul hx hb dX1_mixed_46 (ok.2.1) ?_
            refine lv_topd (fun f_10 ef_10 => ?_)
            obtain rfl : f_10 = mi_bar bar nit := by rw [ef_10]; rfl
            refine vp_callSd (va_Run.run (va_runV (As := [.double dg, .double (mi_bar bar nit)]) (rest := []) ⟨hx, hb, hml, hown, hts⟩ (m_X1_reckon l dC dI hm hw hb_ ha A0 A1 A2 n fw fb fa zw zb hS dg (mi_bar bar nit) v (hv c_2 c_4)) (cwV 2 hts (lw_V q200 q202 qs3 q7 q203) rfl rfl rfl (by decide +kernel) ⟨Nat.le_of_ble_eq_true rfl, Nat.le_of_ble_eq_true rfl⟩) ⟨gm_fb, va_recv hK hP (ci := 1) (q0 := 0) rfl rfl, fun U hU hW => ⟨rfl, gm_pre hP hK hU hW⟩⟩ rfl rfl hl.1 rfl (lv_room (Nat.le_of_ble_eq_true rfl)) dX1_mixed_47 ⟨Nat.le_of_ble_eq_true rfl, Nat.le_of_ble_eq_true rfl⟩)) (fun r_11 hr_11 => ?_)
            have hr_11 := hr_11.symm
            subst hr_11
            exact W.dret (v := v) hx hb hr (fun t ht hW => ⟨v, rfl, by rw [mx_val, if_neg c_2, if_neg c_4, if_neg c_5, if_pos c_6, if_pos c_7], ht⟩) (fun _ h => nomatch h) dX1_mixed_50
        · refine lv_ldc2d (own := RX1) (v := k_m1) hx hb hown (hts _ q208) dX1_mixed_29 ?_
          exact W.dret (v := k_m1) hx hb hr (fun t ht hW => ⟨k_m1, rfl, by rw [mx_val, if_neg c_2, if_neg c_4, if_neg c_5, if_neg c_6], ht⟩) (fun _ h => nomatch h) dX1_mixed_32
end
section
/-! GasRowsModel: the constructor and row -/
theorem gw_fb {av : List Value} {dC : Nat → ClassId} {dI : Nat → Nat → Nat} {ws : va_W} {tys : List (ClassId × FieldType)} {sz : Nat} : FrameBlind (va_Pc av (fun U => U.heap.size = sz ∧ gm_B dC dI ws tys U ∧ va_D (fun _ => True) ws)) := fun a U g mk q => ⟨q.1, q.2.1, ⟨q.2.2.1.1, va_K.moved (u := U) (U := U.calling g mk a) (Vm.Alike.refl U.vm) q.2.2.1.2⟩, q.2.2.2⟩
/-- the place that row finds -/
def mr_at (i n : Nat) (zw zb : Nat → Int) (zD zB : Int) (a : Nat) : Prop := (a = n ∧ ∀ k, k < i → ¬ (zw k = zD ∧ zb k = zB)) ∨ (a < i ∧ zw a = zD ∧ zb a = zB)
def mr_post (n : Nat) (fw fb fa : Nat → UInt64) (zw zb : Nat → Int) (dg bar gg : UInt64) (r : Int32) (u : Nat × (Nat → UInt64) × (Nat → UInt64) × (Nat → UInt64)) : Prop :=
  ((gr_place dg bar = 0 ∨ gr_in gg FP.dconst0 k_100 = 0) ∧ r = 0 ∧ u = (n, fw, fb, fa)) ∨
  (¬ gr_place dg bar = 0 ∧ ¬ gr_in gg FP.dconst0 k_100 = 0 ∧ ∃ (zD zB : Int) (a : Nat), fv dg zD ∧ fv bar zB ∧ mr_at n n zw zb zD zB a ∧ ((a = 30 ∧ r = 0 ∧ u = (n, fw, fb, fa)) ∨ (a < 30 ∧ r = 1 ∧ u = (if a = n then n + 1 else n, vf_upd fw a dg, vf_upd fb a bar, vf_upd fa a gg))))

set_option maxHeartbeats 4000000 in
set_option maxRecDepth 100000 in
/-- GasRowsModel() -/
theorem m_X1_init (l : Launch) (sz : Nat) (dC : Nat → ClassId) (dI : Nat → Nat → Nat) (hm : Nat) : Met l yX1_init (ws_ yX1_init cX1_init 1 none) ({ frames := 1, cells := 3, slots := 90, locals := 12 }) (va_Pc [.ref hm] (fun U => U.heap.size = sz ∧ gm_B dC dI ([(hm, .inr (1, [.int 0, .null, .null, .null]))]) [] U ∧ va_D (fun _ => True) ([(hm, .inr (1, [.int 0, .null, .null, .null]))]))) (va_Qv (S := (Nat × Nat × Nat) × (ClassId × ClassId × ClassId)) (fun _ => True) (fun u t => gm_B dC dI (gm_W hm u.1.1 u.1.2.1 u.1.2.2 u.2.1 u.2.2.1 u.2.2.2 0 (fun _ => 0) (fun _ => 0) (fun _ => 0)) (gm_T u.2.1 u.2.2.1 u.2.2.2) t ∧ va_D (va_A ([(hm, .inr (1, [.int 0, .null, .null, .null]))]) sz) (gm_W hm u.1.1 u.1.2.1 u.1.2.2 u.2.1 u.2.2.1 u.2.2.2 0 (fun _ => 0) (fun _ => 0) (fun _ => 0))) (va_A ([(hm, .inr (1, [.int 0, .null, .null, .null]))]) sz)) 3 90 (va_A ([(hm, .inr (1, [.int 0, .null, .null, .null]))]) sz) := by
  refine Met.ofW (cc := cX1_init) (maxL := 1) (ret := none) (by decide) rfl ?_
  intro p e s m args below meth c s₁ B hml hv
  obtain ⟨rfl, hsz, ⟨hP, hK⟩, hD0⟩ := hv
  have hx := B.exec
  have hb := B.bytes
  have hr := B.returns
  have hts := atoms_spec (ws := ws_ yX1_init cX1_init 1 none) B.pre
  have hts : ∀ w ∈ lw_all, w.before _ s = true := fun w h => hts w (List.mem_cons_of_mem _ h)
  have hown : s.vm.findClass RX1 = some m.cls := findClass_of_methodNamed B.named
  have hlocks := B.notSynchronized
  have hin : meth.name = "<init>" := (name_of_methodNamed B.named B.method).1
  subst hsz
  have hD := hD0.self (sz := s.heap.size)
  generalize hAe : va_A ([(hm, .inr (1, [.int 0, .null, .null, .null]))]) s.heap.size = A at hD ⊢
  have hA : ∀ q : Nat, s.heap.size ≤ q → A q := fun q h => by rw [← hAe]; exact Or.inr h
  have hS : va_S A s.heap s.heap [] := va_S.rf
  have hl := lv_entry ([.ref hm]) (n := 1) (Nat.le_of_ble_eq_true rfl)
  rw [lg_entry_eq]
  generalize (lg_sl ([.ref hm]) ++ List.replicate (1 - (lg_sl ([.ref hm])).length) Slot.unset).toArray = ls at hl ⊢
  have hl : lv_has ls 1 [(0, .ref hm)] := hl
  have hP : va_P (dC, dI) vwCl [(hm, .inr (1, [.int 0, .null, .null, .null]))] s.heap := hP
  refine lv_aload_n hx hb dX1_init_0 rfl (lv_at hl 0 rfl) ?_
  refine W.objInit hx hb hown (hts _ q168) (hts _ q16) (hts _ q17) rfl (by rw [hml]; exact hl.1) rfl dX1_init_1 (Nat.le_of_ble_eq_true rfl) (Nat.le_of_ble_eq_true rfl) ?_
  refine W.eq (g2 := F0 m 4 ls []) rfl ?_
  refine lv_aload_n hx hb dX1_init_4 rfl (lv_at hl 0 rfl) ?_
  refine lv_bipush (v := 30) hx hb dX1_init_5 (by decide) ?_
  refine va_newa (atype := .double) (ty := .double) (N' := 30) (a0 := (30, .inr (.inr (.inr (.inl (fun _ => 0)))))) hx hb (hts _ q182) rfl hK hP hD hS hA (fun _ => rfl) (by decide) (by decide) (by decide) (Nat.le_of_ble_eq_true rfl) (Nat.le_of_ble_eq_true rfl) dX1_init_7 (fun q0_ B0 H hK hP hD hS => ?_)
  have hP : va_P (dC, dI) vwCl [(hm, .inr (1, [.int 0, .null, .null, .null])), (q0_, .inl (B0, 30, .inr (.inr (.inr (.inl (fun _ => 0))))))] H := hP
  have hD : va_D A [(hm, .inr (1, [.int 0, .null, .null, .null])), (q0_, .inl (B0, 30, .inr (.inr (.inr (.inl (fun _ => 0))))))] := hD
  have hK : va_K (dC, dI) vwCl [(B0, .double)] s := hK
  refine va_putF (D := (dC, dI)) (ci := 1) (v := .ref q0_) (ty := .array .double) (C := RX1) (T := TX1) (N := 4) hx hb hts in_X1 tyX1 tyX1_ok nmX1 hown hK hP hD hS 0 rfl rfl 1 (by decide) (hts _ q170) (fun _ h9 => h9) rfl hin rfl (by decide +kernel) rfl rfl (Nat.le_of_ble_eq_true rfl) dX1_init_9 (fun H locs hP hD hS => ?_)
  have hP : va_P (dC, dI) vwCl [(hm, .inr (1, [.int 0, .ref q0_, .null, .null])), (q0_, .inl (B0, 30, .inr (.inr (.inr (.inl (fun _ => 0))))))] H := hP
  have hD : va_D A [(hm, .inr (1, [.int 0, .ref q0_, .null, .null])), (q0_, .inl (B0, 30, .inr (.inr (.inr (.inl (fun _ => 0))))))] := hD
  refine lv_aload_n hx hb dX1_init_12 rfl (lv_at hl 0 rfl) ?_
  refine lv_bipush (v := 30) hx hb dX1_init_13 (by decide) ?_
  refine va_newa (atype := .double) (ty := .double) (N' := 30) (a0 := (30, .inr (.inr (.inr (.inl (fun _ => 0)))))) hx hb (hts _ q182) rfl hK hP hD hS hA (fun _ => rfl) (by decide) (by decide) (by decide) (Nat.le_of_ble_eq_true rfl) (Nat.le_of_ble_eq_true rfl) dX1_init_15 (fun q1_ B1 H hK hP hD hS => ?_)
  have hP : va_P (dC, dI) vwCl [(hm, .inr (1, [.int 0, .ref q0_, .null, .null])), (q0_, .inl (B0, 30, .inr (.inr (.inr (.inl (fun _ => 0)))))), (q1_, .inl (B1, 30, .inr (.inr (.inr (.inl (fun _ => 0))))))] H := hP
  have hD : va_D A [(hm, .inr (1, [.int 0, .ref q0_, .null, .null])), (q0_, .inl (B0, 30, .inr (.inr (.inr (.inl (fun _ => 0)))))), (q1_, .inl (B1, 30, .inr (.inr (.inr (.inl (fun _ => 0))))))] := hD
  have hK : va_K (dC, dI) vwCl [(B0, .double), (B1, .double)] s := hK
  refine va_putF (D := (dC, dI)) (ci := 1) (v := .ref q1_) (ty := .array .double) (C := RX1) (T := TX1) (N := 4) hx hb hts in_X1 tyX1 tyX1_ok nmX1 hown hK hP hD hS 0 rfl rfl 2 (by decide) (hts _ q171) (fun _ h9 => h9) rfl hin rfl (by decide +kernel) rfl rfl (Nat.le_of_ble_eq_true rfl) dX1_init_17 (fun H locs hP hD hS => ?_)
  have hP : va_P (dC, dI) vwCl [(hm, .inr (1, [.int 0, .ref q0_, .ref q1_, .null])), (q0_, .inl (B0, 30, .inr (.inr (.inr (.inl (fun _ => 0)))))), (q1_, .inl (B1, 30, .inr (.inr (.inr (.inl (fun _ => 0))))))] H := hP
  have hD : va_D A [(hm, .inr (1, [.int 0, .ref q0_, .ref q1_, .null])), (q0_, .inl (B0, 30, .inr (.inr (.inr (.inl (fun _ => 0)))))), (q1_, .inl (B1, 30, .inr (.inr (.inr (.inl (fun _ => 0))))))] := hD
  refine lv_aload_n hx hb dX1_init_20 rfl (lv_at hl 0 rfl) ?_
  refine lv_bipush (v := 30) hx hb dX1_init_21 (by decide) ?_
  refine va_newa (atype := .double) (ty := .double) (N' := 30) (a0 := (30, .inr (.inr (.inr (.inl (fun _ => 0)))))) hx hb (hts _ q182) rfl hK hP hD hS hA (fun _ => rfl) (by decide) (by decide) (by decide) (Nat.le_of_ble_eq_true rfl) (Nat.le_of_ble_eq_true rfl) dX1_init_23 (fun q2_ B2 H hK hP hD hS => ?_)
  have hP : va_P (dC, dI) vwCl [(hm, .inr (1, [.int 0, .ref q0_, .ref q1_, .null])), (q0_, .inl (B0, 30, .inr (.inr (.inr (.inl (fun _ => 0)))))), (q1_, .inl (B1, 30, .inr (.inr (.inr (.inl (fun _ => 0)))))), (q2_, .inl (B2, 30, .inr (.inr (.inr (.inl (fun _ => 0))))))] H := hP
  have hD : va_D A [(hm, .inr (1, [.int 0, .ref q0_, .ref q1_, .null])), (q0_, .inl (B0, 30, .inr (.inr (.inr (.inl (fun _ => 0)))))), (q1_, .inl (B1, 30, .inr (.inr (.inr (.inl (fun _ => 0)))))), (q2_, .inl (B2, 30, .inr (.inr (.inr (.inl (fun _ => 0))))))] := hD
  have hK : va_K (dC, dI) vwCl [(B0, .double), (B1, .double), (B2, .double)] s := hK
  refine va_putF (D := (dC, dI)) (ci := 1) (v := .ref q2_) (ty := .array .double) (C := RX1) (T := TX1) (N := 4) hx hb hts in_X1 tyX1 tyX1_ok nmX1 hown hK hP hD hS 0 rfl rfl 3 (by decide) (hts _ q172) (fun _ h9 => h9) rfl hin rfl (by decide +kernel) rfl rfl (Nat.le_of_ble_eq_true rfl) dX1_init_25 (fun H locs hP hD hS => ?_)
  have hP : va_P (dC, dI) vwCl [(hm, .inr (1, [.int 0, .ref q0_, .ref q1_, .ref q2_])), (q0_, .inl (B0, 30, .inr (.inr (.inr (.inl (fun _ => 0)))))), (q1_, .inl (B1, 30, .inr (.inr (.inr (.inl (fun _ => 0)))))), (q2_, .inl (B2, 30, .inr (.inr (.inr (.inl (fun _ => 0))))))] H := hP
  have hD : va_D A [(hm, .inr (1, [.int 0, .ref q0_, .ref q1_, .ref q2_])), (q0_, .inl (B0, 30, .inr (.inr (.inr (.inl (fun _ => 0)))))), (q1_, .inl (B1, 30, .inr (.inr (.inr (.inl (fun _ => 0)))))), (q2_, .inl (B2, 30, .inr (.inr (.inr (.inl (fun _ => 0))))))] := hD
  exact W.vret hx hb hr (fun t ht hW => ⟨⟨((q0_, q1_, q2_), (B0, B1, B2)), rfl, trivial, ⟨by rw [ht]; exact hP, va_K.moved hW.alike hK⟩, hD⟩, hS.F ht⟩) hS.2.2 dX1_init_28

set_option maxHeartbeats 4000000 in
set_option maxRecDepth 100000 in
/-- GasRowsModel.row -/
theorem m_X1_row (l : Launch) (sz : Nat) (dC : Nat → ClassId) (dI : Nat → Nat → Nat) (hm hw hb_ ha : Nat) (A0 A1 A2 : ClassId) (n : Nat) (fw fb fa : Nat → UInt64) (zw zb : Nat → Int) (hS0 : gm_S n fw fb zw zb) (dg bar gg : UInt64) (hdg : fin_ dg) (hbar : fin_ bar) : Met l yX1_row (ws_ yX1_row cX1_row 9 (some .boolean)) ({ frames := 2, cells := 0, slots := 0, locals := 48 }) (va_Pc [.ref hm, .double dg, .double bar, .double gg] (fun U => U.heap.size = sz ∧ gm_B dC dI (gm_W hm hw hb_ ha A0 A1 A2 n fw fb fa) (gm_T A0 A1 A2) U ∧ va_D (fun _ => True) (gm_W hm hw hb_ ha A0 A1 A2 n fw fb fa))) (va_Qi (S := Nat × (Nat → UInt64) × (Nat → UInt64) × (Nat → UInt64)) (fun r u => mr_post n fw fb fa zw zb dg bar gg r u) (fun u t => gm_B dC dI (gm_W hm hw hb_ ha A0 A1 A2 u.1 u.2.1 u.2.2.1 u.2.2.2) (gm_T A0 A1 A2) t ∧ va_D (va_A (gm_W hm hw hb_ ha A0 A1 A2 n fw fb fa) sz) (gm_W hm hw hb_ ha A0 A1 A2 u.1 u.2.1 u.2.2.1 u.2.2.2)) (va_A (gm_W hm hw hb_ ha A0 A1 A2 n fw fb fa) sz)) 0 0 (va_A (gm_W hm hw hb_ ha A0 A1 A2 n fw fb fa) sz) := by
  refine Met.ofW (cc := cX1_row) (maxL := 9) (ret := (some .boolean)) (by decide) rfl ?_
  intro p e s m args below meth c s₁ B hml hv
  obtain ⟨rfl, hsz, ⟨hP, hK⟩, hD0⟩ := hv
  have hx := B.exec
  have hb := B.bytes
  have hr := B.returns
  have hts := atoms_spec (ws := ws_ yX1_row cX1_row 9 (some .boolean)) B.pre
  have hts : ∀ w ∈ lw_all, w.before _ s = true := fun w h => hts w (List.mem_cons_of_mem _ h)
  have hown : s.vm.findClass RX1 = some m.cls := findClass_of_methodNamed B.named
  have hlocks := B.notSynchronized
  subst hsz
  have hD := hD0.self (sz := s.heap.size)
  generalize hAe : va_A (gm_W hm hw hb_ ha A0 A1 A2 n fw fb fa) s.heap.size = A at hD ⊢
  have hA : ∀ q : Nat, s.heap.size ≤ q → A q := fun q h => by rw [← hAe]; exact Or.inr h
  have hS : va_S A s.heap s.heap [] := va_S.rf
  have hl := lv_entry ([.ref hm, .double dg, .double bar, .double gg]) (n := 9) (Nat.le_of_ble_eq_true rfl)
  rw [lg_entry_eq]
  generalize (lg_sl ([.ref hm, .double dg, .double bar, .double gg]) ++ List.replicate (9 - (lg_sl ([.ref hm, .double dg, .double bar, .double gg])).length) Slot.unset).toArray = ls at hl ⊢
  have hl : lv_has ls 9 [(0, .ref hm), (1, .double dg), (3, .double bar), (5, .double gg)] := hl
  have hP : va_P (dC, dI) vwCl (gm_W hm hw hb_ ha A0 A1 A2 n fw fb fa) s.heap := hP
  have hD : va_D A (gm_W hm hw hb_ ha A0 A1 A2 n fw fb fa) := hD
  have hK : va_K (dC, dI) vwCl (gm_T A0 A1 A2) s := hK
  obtain ⟨hn30, hzw, hzb⟩ := hS0
  obtain ⟨zD, hzD⟩ := hdg
  obtain ⟨zB, hzB⟩ := hbar
  have fin : ¬ gr_place dg bar = 0 → ¬ gr_in gg FP.dconst0 k_100 = 0 → ∀ (i a : Nat), mr_at n n zw zb zD zB a → ∀ ls : Array Slot, lv_has ls 9 [(8, .int (nI i)), (7, .int (nI a)), (0, .ref hm), (1, .double dg), (3, .double bar), (5, .double gg)] → W p l e (headSpec (ws_ yX1_row cX1_row 9 (some .boolean)) ({ frames := 2, cells := 0, slots := 0, locals := 48 })).room s m ([.ref hm, .double dg, .double bar, .double gg] : List Value).toArray below meth c s.heap [] 0 0 (MQ below (va_Qi (S := Nat × (Nat → UInt64) × (Nat → UInt64) × (Nat → UInt64)) (fun r u => mr_post n fw fb fa zw zb dg bar gg r u) (fun u t => gm_B dC dI (gm_W hm hw hb_ ha A0 A1 A2 u.1 u.2.1 u.2.2.1 u.2.2.2) (gm_T A0 A1 A2) t ∧ va_D (A) (gm_W hm hw hb_ ha A0 A1 A2 u.1 u.2.1 u.2.2.1 u.2.2.2)) (A)) ([.ref hm, .double dg, .double bar, .double gg] : List Value).toArray s 0 0 A) (F0 m 79 ls []) := by
    intro hpl hgs i a hat ls hl
    have ha30 : a ≤ 30 := by rcases hat with ⟨h, -⟩ | ⟨h, -⟩ <;> omega
    refine lv_iload hx hb dX1_row_79 (lv_at hl 1 rfl) ?_
    refine lv_bipush (v := 30) hx hb dX1_row_81 (by decide) ?_
    refine lv_icmp_ne (tgt := 88) hx hb dX1_row_83 (by decide) (fun c_1 => ?_) (fun c_1 => ?_)
    · have ha30 : a < 30 := by rcases Nat.lt_or_eq_of_le ha30 with h | h; exact h; exact absurd (by rw [h]; rfl) c_1
      refine lv_aload_n hx hb dX1_row_88 rfl (lv_at hl 2 rfl) ?_
      refine va_get (D := (dC, dI)) (ci := 1) (v := .ref hw) (C := RX1) (T := TX1) (N := 4) hx hb hts in_X1 hown hK hP 0 rfl rfl 1 (by decide) (hts _ q170) (fun _ h9 => h9) rfl dX1_row_89 ?_
      refine lv_iload hx hb dX1_row_92 (lv_at hl 1 rfl) ?_
      refine lv_dload_n hx hb dX1_row_94 rfl (lv_at hl 3 rfl) ?_
      refine va_dast hx hb hK hP hD hS 1 0 rfl rfl (vp_in_nI ha30 (by decide)) dX1_row_95 (fun H locs hP hD hS => ?_)
      rw [nI_clamp (n := a) (by omega)] at hP hD
      have hP : va_P (dC, dI) vwCl (gm_W hm hw hb_ ha A0 A1 A2 n (vf_upd fw a dg) fb fa) H := hP
      have hD : va_D A (gm_W hm hw hb_ ha A0 A1 A2 n (vf_upd fw a dg) fb fa) := hD
      refine lv_aload_n hx hb dX1_row_96 rfl (lv_at hl 2 rfl) ?_
      refine va_get (D := (dC, dI)) (ci := 1) (v := .ref hb_) (C := RX1) (T := TX1) (N := 4) hx hb hts in_X1 hown hK hP 0 rfl rfl 2 (by decide) (hts _ q171) (fun _ h9 => h9) rfl dX1_row_97 ?_
      refine lv_iload hx hb dX1_row_100 (lv_at hl 1 rfl) ?_
      refine lv_dload_n hx hb dX1_row_102 rfl (lv_at hl 4 rfl) ?_
      refine va_dast hx hb hK hP hD hS 2 1 rfl rfl (vp_in_nI ha30 (by decide)) dX1_row_103 (fun H locs hP hD hS => ?_)
      rw [nI_clamp (n := a) (by omega)] at hP hD
      have hP : va_P (dC, dI) vwCl (gm_W hm hw hb_ ha A0 A1 A2 n (vf_upd fw a dg) (vf_upd fb a bar) fa) H := hP
      have hD : va_D A (gm_W hm hw hb_ ha A0 A1 A2 n (vf_upd fw a dg) (vf_upd fb a bar) fa) := hD
      refine lv_aload_n hx hb dX1_row_104 rfl (lv_at hl 2 rfl) ?_
      refine va_get (D := (dC, dI)) (ci := 1) (v := .ref ha) (C := RX1) (T := TX1) (N := 4) hx hb hts in_X1 hown hK hP 0 rfl rfl 3 (by decide) (hts _ q172) (fun _ h9 => h9) rfl dX1_row_105 ?_
      refine lv_iload hx hb dX1_row_108 (lv_at hl 1 rfl) ?_
      refine lv_dload hx hb dX1_row_110 (lv_at hl 5 rfl) ?_
      refine va_dast hx hb hK hP hD hS 3 2 rfl rfl (vp_in_nI ha30 (by decide)) dX1_row_112 (fun H locs hP hD hS => ?_)
      rw [nI_clamp (n := a) (by omega)] at hP hD
      have hP : va_P (dC, dI) vwCl (gm_W hm hw hb_ ha A0 A1 A2 n (vf_upd fw a dg) (vf_upd fb a bar) (vf_upd fa a gg)) H := hP
      have hD : va_D A (gm_W hm hw hb_ ha A0 A1 A2 n (vf_upd fw a dg) (vf_upd fb a bar) (vf_upd fa a gg)) := hD
      refine lv_aload_n hx hb dX1_row_113 rfl (lv_at hl 2 rfl) ?_
      refine lv_dup hx hb dX1_row_114 rfl ?_
      refine va_get (D := (dC, dI)) (ci := 1) (v := .int (nI n)) (C := RX1) (T := TX1) (N := 4) hx hb hts in_X1 hown hK hP 0 rfl rfl 0 (by decide) (hts _ q169) (fun _ h9 => h9) rfl dX1_row_115 ?_
      refine lv_iload hx hb dX1_row_118 (lv_at hl 1 rfl) ?_
      refine lv_aload_n hx hb dX1_row_120 rfl (lv_at hl 2 rfl) ?_
      refine va_get (D := (dC, dI)) (ci := 1) (v := .int (nI n)) (C := RX1) (T := TX1) (N := 4) hx hb hts in_X1 hown hK hP 0 rfl rfl 0 (by decide) (hts _ q169) (fun _ h9 => h9) rfl dX1_row_121 ?_
      refine lv_icmp_ne (tgt := 131) hx hb dX1_row_124 (by decide) (fun c_2 => ?_) (fun c_2 => ?_)
      · have ean : ¬ a = n := fun h => c_2 (by rw [h])
        refine lv_iconst (v := 0) hx hb dX1_row_131 (by decide) ?_
        refine lv_iadd hx hb dX1_row_132 ?_
        refine lv_topi (fun f_3 ef_3 => ?_)
        obtain rfl : f_3 = nI (if a = n then n + 1 else n) := by rw [ef_3]; rw [if_neg ean]; exact nI_add n 0
        refine va_put (D := (dC, dI)) (ci := 1) (v := .int (nI (if a = n then n + 1 else n))) (ty := .int) (C := RX1) (T := TX1) (N := 4) hx hb hts in_X1 tyX1 tyX1_ok nmX1 hown hK hP hD hS 0 rfl rfl 0 (by decide) (hts _ q169) (fun _ h9 => h9) rfl (by decide +kernel) rfl rfl (Nat.le_of_ble_eq_true rfl) dX1_row_133 (fun H locs hP hD hS => ?_)
        have hP : va_P (dC, dI) vwCl (gm_W hm hw hb_ ha A0 A1 A2 (if a = n then n + 1 else n) (vf_upd fw a dg) (vf_upd fb a bar) (vf_upd fa a gg)) H := hP
        have hD : va_D A (gm_W hm hw hb_ ha A0 A1 A2 (if a = n then n + 1 else n) (vf_upd fw a dg) (vf_upd fb a bar) (vf_upd fa a gg)) := hD
        refine lv_iconst (v := 1) hx hb dX1_row_136 (by decide) ?_
        exact W.zret (v := 1) hx hb hr rfl (fun t ht hW => ⟨⟨1, (if a = n then n + 1 else n, vf_upd fw a dg, vf_upd fb a bar, vf_upd fa a gg), rfl, Or.inr ⟨hpl, hgs, zD, zB, a, hzD, hzB, hat, Or.inr ⟨ha30, rfl, rfl⟩⟩, ⟨by rw [ht]; exact hP, va_K.moved hW.alike hK⟩, hD⟩, hS.F ht⟩) hS.2.2 dX1_row_137
      · have ean : a = n := (nI_eq (by omega) (by omega)).mp c_2
        refine lv_iconst (v := 1) hx hb dX1_row_127 (by decide) ?_
        refine lv_goto (tgt := 132) hx hb dX1_row_128 (by decide) ?_
        refine lv_iadd hx hb dX1_row_132 ?_
        refine lv_topi (fun f_4 ef_4 => ?_)
        obtain rfl : f_4 = nI (if a = n then n + 1 else n) := by rw [ef_4]; rw [if_pos ean]; exact nI_1 n
        refine va_put (D := (dC, dI)) (ci := 1) (v := .int (nI (if a = n then n + 1 else n))) (ty := .int) (C := RX1) (T := TX1) (N := 4) hx hb hts in_X1 tyX1 tyX1_ok nmX1 hown hK hP hD hS 0 rfl rfl 0 (by decide) (hts _ q169) (fun _ h9 => h9) rfl (by decide +kernel) rfl rfl (Nat.le_of_ble_eq_true rfl) dX1_row_133 (fun H locs hP hD hS => ?_)
        have hP : va_P (dC, dI) vwCl (gm_W hm hw hb_ ha A0 A1 A2 (if a = n then n + 1 else n) (vf_upd fw a dg) (vf_upd fb a bar) (vf_upd fa a gg)) H := hP
        have hD : va_D A (gm_W hm hw hb_ ha A0 A1 A2 (if a = n then n + 1 else n) (vf_upd fw a dg) (vf_upd fb a bar) (vf_upd fa a gg)) := hD
        refine lv_iconst (v := 1) hx hb dX1_row_136 (by decide) ?_
        exact W.zret (v := 1) hx hb hr rfl (fun t ht hW => ⟨⟨1, (if a = n then n + 1 else n, vf_upd fw a dg, vf_upd fb a bar, vf_upd fa a gg), rfl, Or.inr ⟨hpl, hgs, zD, zB, a, hzD, hzB, hat, Or.inr ⟨ha30, rfl, rfl⟩⟩, ⟨by rw [ht]; exact hP, va_K.moved hW.alike hK⟩, hD⟩, hS.F ht⟩) hS.2.2 dX1_row_137
    · have ea : a = 30 := (nI_eq (by omega) (by decide)).mp c_1
      refine lv_iconst (v := 0) hx hb dX1_row_86 (by decide) ?_
      exact W.zret (v := 0) hx hb hr rfl (fun t ht hW => ⟨⟨0, (n, fw, fb, fa), rfl, Or.inr ⟨hpl, hgs, zD, zB, a, hzD, hzB, hat, Or.inl ⟨ea, rfl, rfl⟩⟩, ⟨by rw [ht]; exact hP, va_K.moved hW.alike hK⟩, hD⟩, hS.F ht⟩) hS.2.2 dX1_row_87
  have loop : ¬ gr_place dg bar = 0 → ¬ gr_in gg FP.dconst0 k_100 = 0 → ∀ (j i a : Nat), i + j = n → mr_at i n zw zb zD zB a → ∀ ls : Array Slot, lv_has ls 9 [(8, .int (nI i)), (7, .int (nI a)), (0, .ref hm), (1, .double dg), (3, .double bar), (5, .double gg)] → W p l e (headSpec (ws_ yX1_row cX1_row 9 (some .boolean)) ({ frames := 2, cells := 0, slots := 0, locals := 48 })).room s m ([.ref hm, .double dg, .double bar, .double gg] : List Value).toArray below meth c s.heap [] 0 0 (MQ below (va_Qi (S := Nat × (Nat → UInt64) × (Nat → UInt64) × (Nat → UInt64)) (fun r u => mr_post n fw fb fa zw zb dg bar gg r u) (fun u t => gm_B dC dI (gm_W hm hw hb_ ha A0 A1 A2 u.1 u.2.1 u.2.2.1 u.2.2.2) (gm_T A0 A1 A2) t ∧ va_D (A) (gm_W hm hw hb_ ha A0 A1 A2 u.1 u.2.1 u.2.2.1 u.2.2.2)) (A)) ([.ref hm, .double dg, .double bar, .double gg] : List Value).toArray s 0 0 A) (F0 m 31 ls []) := by
    intro hpl hgs j
    induction j with
    | zero =>
      intro i a hij hat ls hl
      refine lv_iload hx hb dX1_row_31 (lv_at hl 0 rfl) ?_
      refine lv_aload_n hx hb dX1_row_33 rfl (lv_at hl 2 rfl) ?_
      refine va_get (D := (dC, dI)) (ci := 1) (v := .int (nI n)) (C := RX1) (T := TX1) (N := 4) hx hb hts in_X1 hown hK hP 0 rfl rfl 0 (by decide) (hts _ q169) (fun _ h9 => h9) rfl dX1_row_34 ?_
      refine lv_icmp_ge (tgt := 79) hx hb dX1_row_37 (by decide) (fun c_5 => ?_) (fun c_5 => ?_)
      · have hi : i = n := by omega
        exact fin hpl hgs i a (hi ▸ hat) ls (lv_sub hl [0, 1, 2, 3, 4, 5] rfl)
      · exact absurd (nI_le (by omega) (by omega)) c_5
    | succ j ih =>
      intro i a hij hat ls hl
      refine lv_iload hx hb dX1_row_31 (lv_at hl 0 rfl) ?_
      refine lv_aload_n hx hb dX1_row_33 rfl (lv_at hl 2 rfl) ?_
      refine va_get (D := (dC, dI)) (ci := 1) (v := .int (nI n)) (C := RX1) (T := TX1) (N := 4) hx hb hts in_X1 hown hK hP 0 rfl rfl 0 (by decide) (hts _ q169) (fun _ h9 => h9) rfl dX1_row_34 ?_
      refine lv_icmp_ge (tgt := 79) hx hb dX1_row_37 (by decide) (fun c_6 => ?_) (fun c_6 => ?_)
      · exact absurd c_6 (nI_ge (by omega) (by omega))
      · refine lv_aload_n hx hb dX1_row_40 rfl (lv_at hl 2 rfl) ?_
        refine va_get (D := (dC, dI)) (ci := 1) (v := .ref hw) (C := RX1) (T := TX1) (N := 4) hx hb hts in_X1 hown hK hP 0 rfl rfl 1 (by decide) (hts _ q170) (fun _ h9 => h9) rfl dX1_row_41 ?_
        refine lv_iload hx hb dX1_row_44 (lv_at hl 0 rfl) ?_
        refine va_dald hx hb hK hP 1 0 rfl rfl (vp_in_nI (by omega) (by omega)) dX1_row_46 ?_
        refine lv_topd (fun f_7 ef_7 => ?_)
        obtain rfl : f_7 = fw i := by rw [ef_7, nI_clamp (by omega)]
        refine lv_dload_n hx hb dX1_row_47 rfl (lv_at hl 3 rfl) ?_
        refine lv_dcmp hx hb dX1_row_48 ?_
        refine lv_if_ne (tgt := 69) hx hb dX1_row_49 (by decide) (fun c_8 => ?_) (fun c_8 => ?_)
        · have hm_ : ¬ (zw i = zD ∧ zb i = zB) := fun h => c_8 ((cv_eq (hzw i (by omega)) hzD .l).mpr h.1)
          refine lv_iload hx hb dX1_row_69 (lv_at hl 1 rfl) ?_
          refine lv_istore (lv' := [(7, .int (nI a)), (8, .int (nI i)), (0, .ref hm), (1, .double dg), (3, .double bar), (5, .double gg)]) hx hb dX1_row_71 hl (by decide) rfl (fun ls hl => ?_)
          refine lv_iinc (v := nI (i + 1)) (lv' := [(8, .int (nI (i + 1))), (7, .int (nI a)), (0, .ref hm), (1, .double dg), (3, .double bar), (5, .double gg)]) hx hb dX1_row_73 hl (k := 1) rfl (nI_1 i) (by decide) rfl (fun ls hl => ?_)
          refine lv_goto (tgt := 31) hx hb dX1_row_76 (by decide) ?_
          exact ih (i + 1) a (by omega) (by rcases hat with ⟨h1, h2⟩ | ⟨h1, h2⟩; exact Or.inl ⟨h1, lt_s h2 hm_⟩; exact Or.inr ⟨by omega, h2⟩) ls (lv_sub hl [0, 1, 2, 3, 4, 5] rfl)
        · have hm1 : zw i = zD := (cv_eq (hzw i (by omega)) hzD .l).mp c_8
          refine lv_aload_n hx hb dX1_row_52 rfl (lv_at hl 2 rfl) ?_
          refine va_get (D := (dC, dI)) (ci := 1) (v := .ref hb_) (C := RX1) (T := TX1) (N := 4) hx hb hts in_X1 hown hK hP 0 rfl rfl 2 (by decide) (hts _ q171) (fun _ h9 => h9) rfl dX1_row_53 ?_
          refine lv_iload hx hb dX1_row_56 (lv_at hl 0 rfl) ?_
          refine va_dald hx hb hK hP 2 1 rfl rfl (vp_in_nI (by omega) (by omega)) dX1_row_58 ?_
          refine lv_topd (fun f_9 ef_9 => ?_)
          obtain rfl : f_9 = fb i := by rw [ef_9, nI_clamp (by omega)]
          refine lv_dload_n hx hb dX1_row_59 rfl (lv_at hl 4 rfl) ?_
          refine lv_dcmp hx hb dX1_row_60 ?_
          refine lv_if_ne (tgt := 69) hx hb dX1_row_61 (by decide) (fun c_10 => ?_) (fun c_10 => ?_)
          · have hm_ : ¬ (zw i = zD ∧ zb i = zB) := fun h => c_10 ((cv_eq (hzb i (by omega)) hzB .l).mpr h.2)
            refine lv_iload hx hb dX1_row_69 (lv_at hl 1 rfl) ?_
            refine lv_istore (lv' := [(7, .int (nI a)), (8, .int (nI i)), (0, .ref hm), (1, .double dg), (3, .double bar), (5, .double gg)]) hx hb dX1_row_71 hl (by decide) rfl (fun ls hl => ?_)
            refine lv_iinc (v := nI (i + 1)) (lv' := [(8, .int (nI (i + 1))), (7, .int (nI a)), (0, .ref hm), (1, .double dg), (3, .double bar), (5, .double gg)]) hx hb dX1_row_73 hl (k := 1) rfl (nI_1 i) (by decide) rfl (fun ls hl => ?_)
            refine lv_goto (tgt := 31) hx hb dX1_row_76 (by decide) ?_
            exact ih (i + 1) a (by omega) (by rcases hat with ⟨h1, h2⟩ | ⟨h1, h2⟩; exact Or.inl ⟨h1, lt_s h2 hm_⟩; exact Or.inr ⟨by omega, h2⟩) ls (lv_sub hl [0, 1, 2, 3, 4, 5] rfl)
          · have hm2 : zb i = zB := (cv_eq (hzb i (by omega)) hzB .l).mp c_10
            refine lv_iload hx hb dX1_row_64 (lv_at hl 0 rfl) ?_
            refine lv_goto (tgt := 71) hx hb dX1_row_66 (by decide) ?_
            refine lv_istore (lv' := [(7, .int (nI i)), (8, .int (nI i)), (0, .ref hm), (1, .double dg), (3, .double bar), (5, .double gg)]) hx hb dX1_row_71 hl (by decide) rfl (fun ls hl => ?_)
            refine lv_iinc (v := nI (i + 1)) (lv' := [(8, .int (nI (i + 1))), (7, .int (nI i)), (0, .ref hm), (1, .double dg), (3, .double bar), (5, .double gg)]) hx hb dX1_row_73 hl (k := 1) rfl (nI_1 i) (by decide) rfl (fun ls hl => ?_)
            refine lv_goto (tgt := 31) hx hb dX1_row_76 (by decide) ?_
            exact ih (i + 1) i (by omega) (Or.inr ⟨by omega, hm1, hm2⟩) ls (lv_sub hl [0, 1, 2, 3, 4, 5] rfl)
  refine lv_dload_n hx hb dX1_row_0 rfl (lv_at hl 1 rfl) ?_
  refine lv_dload_n hx hb dX1_row_1 rfl (lv_at hl 2 rfl) ?_
  refine vp_callSi (va_Run.run (va_runS (As := [.double dg, .double bar]) (rest := []) ⟨hx, hb, hml, hown, hts⟩ (m_X1_isPlace l dg bar) (va_cwS 2 hts (lw_S q187 q188 q7 q189) rfl rfl rfl (by decide +kernel) ⟨Nat.le_of_ble_eq_true rfl, Nat.le_of_ble_eq_true rfl⟩) ⟨fun _ _ _ _ q => q, fun U hU hW => ⟨rfl, trivial⟩⟩ rfl rfl hl.1 rfl (lv_room (Nat.le_of_ble_eq_true rfl)) dX1_row_2 ⟨Nat.le_of_ble_eq_true rfl, Nat.le_of_ble_eq_true rfl⟩)) (fun r_11 hr_11 => ?_)
  subst hr_11
  refine lv_if_eq (tgt := 20) hx hb dX1_row_5 (by decide) (fun c_12 => ?_) (fun c_12 => ?_)
  · refine lv_iconst (v := 0) hx hb dX1_row_20 (by decide) ?_
    exact W.zret (v := 0) hx hb hr rfl (fun t ht hW => ⟨⟨0, (n, fw, fb, fa), rfl, Or.inl ⟨Or.inl c_12, rfl, rfl⟩, ⟨by rw [ht]; exact hP, va_K.moved hW.alike hK⟩, hD⟩, hS.F ht⟩) hS.2.2 dX1_row_21
  · refine lv_dload hx hb dX1_row_8 (lv_at hl 3 rfl) ?_
    refine lv_dconst0 hx hb dX1_row_10 ?_
    refine lv_ldc2d (own := RX1) (v := k_100) hx hb hown (hts _ q191) dX1_row_11 ?_
    refine vp_callSi (va_Run.run (va_runS (As := [.double gg, .double FP.dconst0, .double k_100]) (rest := []) ⟨hx, hb, hml, hown, hts⟩ (m_X1_isIn l gg FP.dconst0 k_100) (va_cwS 3 hts (lw_S q192 q193 q7 q194) rfl rfl rfl (by decide +kernel) ⟨Nat.le_of_ble_eq_true rfl, Nat.le_of_ble_eq_true rfl⟩) ⟨fun _ _ _ _ q => q, fun U hU hW => ⟨rfl, trivial⟩⟩ rfl rfl hl.1 rfl (lv_room (Nat.le_of_ble_eq_true rfl)) dX1_row_14 ⟨Nat.le_of_ble_eq_true rfl, Nat.le_of_ble_eq_true rfl⟩)) (fun r_13 hr_13 => ?_)
    subst hr_13
    refine lv_if_ne (tgt := 22) hx hb dX1_row_17 (by decide) (fun c_14 => ?_) (fun c_14 => ?_)
    · refine lv_aload_n hx hb dX1_row_22 rfl (lv_at hl 0 rfl) ?_
      refine va_get (D := (dC, dI)) (ci := 1) (v := .int (nI n)) (C := RX1) (T := TX1) (N := 4) hx hb hts in_X1 hown hK hP 0 rfl rfl 0 (by decide) (hts _ q169) (fun _ h9 => h9) rfl dX1_row_23 ?_
      refine lv_istore (lv' := [(7, .int (nI n)), (0, .ref hm), (1, .double dg), (3, .double bar), (5, .double gg)]) hx hb dX1_row_26 hl (by decide) rfl (fun ls hl => ?_)
      refine lv_iconst (v := 0) hx hb dX1_row_28 (by decide) ?_
      refine lv_istore (lv' := [(8, .int 0), (7, .int (nI n)), (0, .ref hm), (1, .double dg), (3, .double bar), (5, .double gg)]) hx hb dX1_row_29 hl (by decide) rfl (fun ls hl => ?_)
      exact loop c_12 c_14 n 0 n (by omega) (Or.inl ⟨rfl, fun k h => absurd h (by omega)⟩) ls (lv_sub hl [0, 1, 2, 3, 4, 5] rfl)
    · refine lv_iconst (v := 0) hx hb dX1_row_20 (by decide) ?_
      exact W.zret (v := 0) hx hb hr rfl (fun t ht hW => ⟨⟨0, (n, fw, fb, fa), rfl, Or.inl ⟨Or.inr c_14, rfl, rfl⟩, ⟨by rw [ht]; exact hP, va_K.moved hW.alike hK⟩, hD⟩, hS.F ht⟩) hS.2.2 dX1_row_21
end
section
/-! worlds by membership; lines and rows as lists -/
theorem va_P_mem {D : va_G} {cl : List vw_C} {ws : va_W} {H : Heap} : va_P D cl ws H ↔ ∀ q ∈ ws, va_at D cl q H := by
  constructor
  · intro h q hq
    obtain ⟨k, hk⟩ := List.getElem?_of_mem hq
    exact h k q hk
  · intro h k q hk
    exact h q (List.mem_of_getElem? hk)
theorem va_P_sub {D : va_G} {cl : List vw_C} {ws ws' : va_W} {H : Heap} (h : va_P D cl ws H) (hs : ∀ q ∈ ws', q ∈ ws) : va_P D cl ws' H := va_P_mem.mpr (fun q hq => va_P_mem.mp h q (hs q hq))
theorem va_D_mem {A : Nat → Prop} {ws : va_W} : va_D A ws ↔ (ws.map (fun q => q.1)).Nodup ∧ ∀ q ∈ ws, A q.1 := by
  constructor
  · intro h
    refine ⟨?_, fun q hq => ?_⟩
    · rw [List.Nodup, List.pairwise_iff_getElem]
      intro i j hi hj hij he
      rw [List.length_map] at hi hj
      rw [List.getElem_map, List.getElem_map] at he
      have := h.1 i j _ _ (List.getElem?_eq_getElem hi) (List.getElem?_eq_getElem hj) he
      omega
    · obtain ⟨k, hk⟩ := List.getElem?_of_mem hq
      exact h.2 k q hk
  · intro h
    refine ⟨fun i j p q hi hj he => ?_, fun k q hk => h.2 q (List.mem_of_getElem? hk)⟩
    obtain ⟨li, ei⟩ := List.getElem?_eq_some_iff.mp hi
    obtain ⟨lj, ej⟩ := List.getElem?_eq_some_iff.mp hj
    have hp := h.1
    rw [List.Nodup, List.pairwise_iff_getElem] at hp
    rcases Nat.lt_trichotomy i j with c | c | c
    · exact absurd (by rw [List.getElem_map, List.getElem_map, ei, ej]; exact he) (hp i j (by rw [List.length_map]; exact li) (by rw [List.length_map]; exact lj) c)
    · exact c
    · exact absurd (by rw [List.getElem_map, List.getElem_map, ei, ej]; exact he.symm) (hp j i (by rw [List.length_map]; exact lj) (by rw [List.length_map]; exact li) c)
theorem va_P_perm {D : va_G} {cl : List vw_C} {ws ws' : va_W} {H : Heap} (h : va_P D cl ws H) (hp : ws.Perm ws') : va_P D cl ws' H := va_P_sub h (fun q hq => hp.mem_iff.mpr hq)
theorem va_D_perm {A : Nat → Prop} {ws ws' : va_W} (h : va_D A ws) (hp : ws.Perm ws') : va_D A ws' := by
  rw [va_D_mem] at h ⊢
  exact ⟨(hp.map _).nodup_iff.mp h.1, fun q hq => h.2 q (hp.mem_iff.mpr hq)⟩
theorem va_A_mem {ws : va_W} {sz q : Nat} : va_A ws sz q ↔ (∃ e, (q, e) ∈ ws) ∨ sz ≤ q := by
  unfold va_A
  constructor
  · rintro (⟨k, e, h⟩ | h)
    · exact Or.inl ⟨e, List.mem_of_getElem? h⟩
    · exact Or.inr h
  · rintro (⟨e, h⟩ | h)
    · obtain ⟨k, hk⟩ := List.getElem?_of_mem h
      exact Or.inl ⟨k, e, hk⟩
    · exact Or.inr h
/-- what a callee with the cells wc may change lies in A -/
theorem va_freeM {A0 : Nat → Prop} {ws wc : va_W} {H0 H : Heap} {locs : List Loc} (hD : va_D A0 ws) (hS : va_S A0 H0 H locs) (hA : ∀ q, H0.size ≤ q → A0 q) (hs : ∀ q ∈ wc, q ∈ ws) : ∀ q, va_A wc H.size q → A0 q := by
  intro q h
  rcases va_A_mem.mp h with ⟨e, h⟩ | h
  · exact (va_D_mem.mp hD).2 (q, e) (hs _ h)
  · exact hA q (Nat.le_trans hS.1 h)
/-- behind a call: what came back beside the rest, which is unchanged -/
theorem va_joinM {A0 : Nat → Prop} {D : va_G} {cl : List vw_C} {ws wc wr w1 : va_W} {H H1 : Heap} (hP : va_P D cl ws H) (hD : va_D A0 ws) (hp : ws.Perm (wc ++ wr)) (hk : ∀ q : Nat, q < H.size → ¬ va_A wc H.size q → H1[q]? = H[q]?) (hF : ∀ q, va_A wc H.size q → A0 q) (hP1 : va_P D cl w1 H1) (hD1 : va_D (va_A wc H.size) w1) : va_P D cl (w1 ++ wr) H1 ∧ va_D A0 (w1 ++ wr) := by
  have hD' := va_D_mem.mp (va_D_perm hD hp)
  have hP' := va_P_mem.mp (va_P_perm hP hp)
  rw [List.map_append] at hD'
  obtain ⟨hn, hA⟩ := hD'
  rw [List.nodup_append] at hn
  obtain ⟨hn1, hn2, hn3⟩ := hn
  have hD1' := va_D_mem.mp hD1
  have apart : ∀ q ∈ wr, q.1 < H.size ∧ ¬ va_A wc H.size q.1 := by
    intro q hq
    have hl := (hP' q (List.mem_append_right _ hq)).lt
    refine ⟨hl, fun h => ?_⟩
    rcases va_A_mem.mp h with ⟨e, h⟩ | h
    · exact hn3 q.1 (List.mem_map.mpr ⟨(q.1, e), h, rfl⟩) q.1 (List.mem_map.mpr ⟨q, hq, rfl⟩) rfl
    · omega
  constructor
  · rw [va_P_mem]
    intro q hq
    rcases List.mem_append.mp hq with h | h
    · exact va_P_mem.mp hP1 q h
    · obtain ⟨g1, g2⟩ := apart q h
      exact (hP' q (List.mem_append_right _ h)).kept (hk q.1 g1 g2)
  · rw [va_D_mem, List.map_append, List.nodup_append]
    refine ⟨⟨hD1'.1, hn2, ?_⟩, ?_⟩
    · intro a ha b hb hab
      obtain ⟨x, hx, rfl⟩ := List.mem_map.mp ha
      obtain ⟨y, hy, rfl⟩ := List.mem_map.mp hb
      exact (apart y hy).2 (by rw [← hab]; exact hD1'.2 x hx)
    · intro q hq
      rcases List.mem_append.mp hq with h | h
      · exact hF q.1 (hD1'.2 q h)
      · exact hA q (List.mem_append_right _ h)
/-! references that may be null -/
section GQ
variable {p : Program} {l : Launch} {e : Env} {R : Room} {s : State} {m : MethodId} {args : Array Value} {below : List Frame} {meth : Method} {c : Code} {H : Heap} {locs : List Loc} {cells slots : Nat} {Q : State → Prop}
variable {cc : ByteArray} {pc : Nat} {ls : Array Slot} {rest : List Value}
theorem lv_aload_nQ (hexec : p.tables.exec = Jvm.exec) (hb : c.code = cc) {k : Fin 4} {i : Nat} {o : Option Nat} (hdg : decode cc pc = .ok (.aload_n k, 1)) (hi : (k : Nat) = i) (hl : ls[i]? = some (.val (va_rf o)))
    (kk : W p l e R s m args below meth c H locs cells slots Q (F0 m (pc + 1) ls (va_rf o :: rest))) : W p l e R s m args below meth c H locs cells slots Q (F0 m pc ls rest) := by
  cases o with
  | none => exact lv_aload_nN hexec hb hdg hi hl kk
  | some a => exact lv_aload_n hexec hb hdg hi hl kk
theorem lv_aloadQ (hexec : p.tables.exec = Jvm.exec) (hb : c.code = cc) {i : Nat} {o : Option Nat} (hdg : decode cc pc = .ok (.aload i, 2)) (hl : ls[i]? = some (.val (va_rf o)))
    (kk : W p l e R s m args below meth c H locs cells slots Q (F0 m (pc + 2) ls (va_rf o :: rest))) : W p l e R s m args below meth c H locs cells slots Q (F0 m pc ls rest) := by
  cases o with
  | none => exact lv_aloadN hexec hb hdg hl kk
  | some a => exact lv_aload hexec hb hdg hl kk
theorem lv_catQ (o : Option Nat) (v : Value) (h : v = va_rf o) : v.category = 1 := by
  subst h
  cases o <;> rfl
theorem lv_astore_nQ (hexec : p.tables.exec = Jvm.exec) (hb : c.code = cc) {k : Fin 4} {i nL : Nat} {o : Option Nat} {lv lv' : List (Nat × Value)} (hdg : decode cc pc = .ok (.astore_n k, 1)) (hi : (k : Nat) = i) (h : lv_has ls nL lv) (hn : i < nL) (hl : (i, va_rf o) :: lv.filter (fun q => !(q.1 == i) && !(q.1 + 1 == i && q.2.category == 2)) = lv')
    (kk : ∀ ls' : Array Slot, lv_has ls' nL lv' → W p l e R s m args below meth c H locs cells slots Q (F0 m (pc + 1) ls' rest)) : W p l e R s m args below meth c H locs cells slots Q (F0 m pc ls (va_rf o :: rest)) := by
  cases o with
  | none => exact lv_astore_nN hexec hb hdg hi h hn hl kk
  | some a => exact lv_astore_n hexec hb hdg hi h hn hl kk
theorem lv_astoreQ (hexec : p.tables.exec = Jvm.exec) (hb : c.code = cc) {i nL : Nat} {o : Option Nat} {lv lv' : List (Nat × Value)} (hdg : decode cc pc = .ok (.astore i, 2)) (h : lv_has ls nL lv) (hn : i < nL) (hl : (i, va_rf o) :: lv.filter (fun q => !(q.1 == i) && !(q.1 + 1 == i && q.2.category == 2)) = lv')
    (kk : ∀ ls' : Array Slot, lv_has ls' nL lv' → W p l e R s m args below meth c H locs cells slots Q (F0 m (pc + 2) ls' rest)) : W p l e R s m args below meth c H locs cells slots Q (F0 m pc ls (va_rf o :: rest)) := by
  cases o with
  | none => exact lv_astoreN hexec hb hdg h hn hl kk
  | some a => exact lv_astore hexec hb hdg h hn hl kk
end GQ
theorem nar_rf (C : String) (o : Option Nat) : narrow (.object C) (va_rf o) = va_rf o := by
  cases o <;> rfl
theorem fit_rf (C : String) (o : Option Nat) : fits (.object C) (va_rf o) = true := by
  cases o <;> rfl
/-! lists of rows and lines -/
abbrev gx_R : Type := Nat × UInt64 × UInt64
abbrev gx_L : Type := Nat × UInt64 × List gx_R
def gx_hd {α : Type} : List (Nat × α) → Option Nat → Option Nat
  | [], nx => nx
  | r :: _, _ => some r.1
def gx_la {α : Type} : List (Nat × α) → Option Nat → Option Nat
  | [], lo => lo
  | r :: rs, _ => gx_la rs (some r.1)
theorem gx_hd_app {α : Type} (a b : List (Nat × α)) (nx : Option Nat) : gx_hd (a ++ b) nx = gx_hd a (gx_hd b nx) := by
  cases a <;> rfl
theorem gx_la_app {α : Type} (a : List (Nat × α)) (r : Nat × α) (lo : Option Nat) : gx_la (a ++ [r]) lo = some r.1 := by
  induction a generalizing lo with
  | nil => rfl
  | cons x xs ih => exact ih _
def gx_rs : List gx_R → Option Nat → va_W
  | [], _ => []
  | r :: rs, nx => (r.1, .inr (2, [.double r.2.1, .double r.2.2, va_rf (gx_hd rs nx)])) :: gx_rs rs nx
theorem gx_rs_app (a b : List gx_R) (nx : Option Nat) : gx_rs (a ++ b) nx = gx_rs a (gx_hd b nx) ++ gx_rs b nx := by
  induction a with
  | nil => rfl
  | cons x xs ih =>
    show ((x.1, .inr (2, [.double x.2.1, .double x.2.2, va_rf (gx_hd (xs ++ b) nx)])) :: gx_rs (xs ++ b) nx : va_W) = _
    rw [ih, gx_hd_app]
    rfl
/-- a line's cells: itself and its rows; nx: the line behind it -/
def gx_lc (x : gx_L) (nx : Option Nat) : va_W := (x.1, .inr (3, [.double x.2.1, va_rf (gx_hd x.2.2 none), va_rf nx])) :: gx_rs x.2.2 none
def gx_ls : List gx_L → Option Nat → va_W
  | [], _ => []
  | x :: xs, nx => gx_lc x (gx_hd xs nx) ++ gx_ls xs nx
theorem gx_ls_app (a b : List gx_L) (nx : Option Nat) : gx_ls (a ++ b) nx = gx_ls a (gx_hd b nx) ++ gx_ls b nx := by
  induction a with
  | nil => rfl
  | cons x xs ih =>
    show gx_lc x (gx_hd (xs ++ b) nx) ++ gx_ls (xs ++ b) nx = (gx_lc x (gx_hd xs (gx_hd b nx)) ++ gx_ls xs (gx_hd b nx)) ++ gx_ls b nx
    rw [ih, gx_hd_app, List.append_assoc]
abbrev gx_W (h cnt : Nat) (xs : List gx_L) : va_W := (h, .inr (0, [va_rf (gx_hd xs none), .int (nI cnt)])) :: gx_ls xs none
theorem gx_row_mem (a : List gx_R) (r : gx_R) (b : List gx_R) (nx : Option Nat) : (r.1, (.inr (2, [.double r.2.1, .double r.2.2, va_rf (gx_hd b nx)]) : va_E)) ∈ gx_rs (a ++ r :: b) nx := by
  rw [gx_rs_app]
  exact List.mem_append_right _ List.mem_cons_self
theorem gx_row_mem2 (a : List gx_R) (r : gx_R) (b : List gx_R) (nx : Option Nat) : (r.1, (.inr (2, [.double r.2.1, .double r.2.2, va_rf (gx_hd b nx)]) : va_E)) ∈ gx_rs ((a ++ [r]) ++ b) nx := by
  rw [List.append_assoc]
  exact gx_row_mem a r b nx
theorem gx_line_sub (h cnt : Nat) (a : List gx_L) (x : gx_L) (b : List gx_L) : ∀ q ∈ gx_lc x (gx_hd b none), q ∈ gx_W h cnt (a ++ x :: b) := by
  intro q hq
  refine List.mem_cons_of_mem _ ?_
  rw [gx_ls_app]
  exact List.mem_append_right _ (List.mem_append_left _ hq)
theorem gx_line_mem (h cnt : Nat) (a : List gx_L) (x : gx_L) (b : List gx_L) : (x.1, (.inr (3, [.double x.2.1, va_rf (gx_hd x.2.2 none), va_rf (gx_hd b none)]) : va_E)) ∈ gx_W h cnt (a ++ x :: b) := gx_line_sub h cnt a x b _ List.mem_cons_self
theorem gx_line_sub2 (h cnt : Nat) (a : List gx_L) (x : gx_L) (b : List gx_L) : ∀ q ∈ gx_lc x (gx_hd b none), q ∈ gx_W h cnt ((a ++ [x]) ++ b) := by
  rw [List.append_assoc]
  exact gx_line_sub h cnt a x b
theorem gx_line_mem2 (h cnt : Nat) (a : List gx_L) (x : gx_L) (b : List gx_L) : (x.1, (.inr (3, [.double x.2.1, va_rf (gx_hd x.2.2 none), va_rf (gx_hd b none)]) : va_E)) ∈ gx_W h cnt ((a ++ [x]) ++ b) := gx_line_sub2 h cnt a x b _ List.mem_cons_self
/-! the links of nest mates -/
def gx_N (U : State) : Prop := va_Nw (.fieldLinkNest "GasRows$Line" 21 "GasRows$Row" "bar" "D" "GasRows") U ∧ va_Nw (.fieldLinkNest "GasRows$Line" 32 "GasRows$Row" "grams" "D" "GasRows") U ∧ va_Nw (.fieldLinkNest "GasRows$Line" 26 "GasRows$Row" "next" "LGasRows$Row;" "GasRows") U ∧ va_Nw (.fieldLinkNest "GasRows" 23 "GasRows$Line" "degrees" "D" "GasRows") U ∧ va_Nw (.fieldLinkNest "GasRows" 29 "GasRows$Line" "next" "LGasRows$Line;" "GasRows") U ∧ va_Nw (.methodLinkNest "GasRows$Line" 35 ⟨"GasRows", "join", "(DDDDD)D"⟩ "GasRows") U
theorem gx_N_warm {s U : State} (hW : s.WarmedH U.vm) (h : gx_N s) : gx_N U := ⟨va_Nw.warmF hW h.1, va_Nw.warmF hW h.2.1, va_Nw.warmF hW h.2.2.1, va_Nw.warmF hW h.2.2.2.1, va_Nw.warmF hW h.2.2.2.2.1, va_Nw.warmM hW h.2.2.2.2.2⟩
theorem gx_N_same {s U : State} (hW : s.vm = U.vm) (h : gx_N s) : gx_N U := ⟨va_Nw.same rfl hW h.1, va_Nw.same rfl hW h.2.1, va_Nw.same rfl hW h.2.2.1, va_Nw.same rfl hW h.2.2.2.1, va_Nw.same rfl hW h.2.2.2.2.1, va_Nw.same rfl hW h.2.2.2.2.2⟩
def gx_B (dC : Nat → ClassId) (dI : Nat → Nat → Nat) (ws : va_W) (U : State) : Prop := va_P (dC, dI) vwCl ws U.heap ∧ va_K (dC, dI) vwCl [] U ∧ gx_N U
theorem gx_fb {av : List Value} {dC : Nat → ClassId} {dI : Nat → Nat → Nat} {ws : va_W} : FrameBlind (va_Pc av (gx_B dC dI ws)) := fun a U g mk q => ⟨q.1, q.2.1, va_K.moved (u := U) (U := U.calling g mk a) (Vm.Alike.refl U.vm) q.2.2.1, gx_N_same (U := U.calling g mk a) rfl q.2.2.2⟩
theorem gx_pre {dC : Nat → ClassId} {dI : Nat → Nat → Nat} {ws : va_W} {s U : State} {H : Heap} (hP : va_P (dC, dI) vwCl ws H) (hK : va_K (dC, dI) vwCl [] s) (hN : gx_N s) (hU : U.heap = H) (hW : s.WarmedH U.vm) : gx_B dC dI ws U := ⟨by rw [hU]; exact hP, va_K.moved hW.alike hK, gx_N_warm hW hN⟩
theorem gy_fb {av : List Value} {dC : Nat → ClassId} {dI : Nat → Nat → Nat} {ws : va_W} {sz : Nat} : FrameBlind (va_Pc av (fun U => U.heap.size = sz ∧ gx_B dC dI ws U ∧ va_D (fun _ => True) ws)) := fun a U g mk q => ⟨q.1, q.2.1, ⟨q.2.2.1.1, va_K.moved (u := U) (U := U.calling g mk a) (Vm.Alike.refl U.vm) q.2.2.1.2.1, gx_N_same (U := U.calling g mk a) rfl q.2.2.1.2.2⟩, q.2.2.2⟩
/-- the split of a list of keys at x: those not behind x, and the rest -/
def spl {α : Type} (pre post : List (Nat × UInt64 × α)) (x : UInt64) : Prop := (∀ r ∈ pre, ¬ 0 < Op.cmpValue (FP.dcmp r.2.1 x) .g) ∧ ∀ r, post.head? = some r → 0 < Op.cmpValue (FP.dcmp r.2.1 x) .g
/-- what a line's 'at' answers -/
def lnv (rs : List gx_R) (bar v : UInt64) : Prop := ∃ pre post, rs = pre ++ post ∧ spl pre post bar ∧ ((pre = [] ∧ ∃ n post', post = n :: post' ∧ n.2.2 = v) ∨ (∃ pre' r, pre = pre' ++ [r] ∧ post = [] ∧ r.2.2 = v) ∨ (∃ pre' r n post', pre = pre' ++ [r] ∧ post = n :: post' ∧ gr_jok r.2.1 r.2.2 n.2.1 n.2.2 bar ∧ gr_join r.2.1 r.2.2 n.2.1 n.2.2 bar = v))
/-- what 'at' answers -/
def atv (xs : List gx_L) (dg bar v : UInt64) : Prop := (xs = [] ∧ FP.dconst0 = v) ∨ (∃ pre post, xs = pre ++ post ∧ spl pre post dg ∧ ((pre = [] ∧ ∃ n post', post = n :: post' ∧ lnv n.2.2 bar v) ∨ (∃ pre' r, pre = pre' ++ [r] ∧ post = [] ∧ lnv r.2.2 bar v) ∨ (∃ pre' r n post', pre = pre' ++ [r] ∧ post = n :: post' ∧ Op.cmpValue (FP.dcmp r.2.1 dg) .l = 0 ∧ lnv r.2.2 bar v) ∨ (∃ pre' r n post' vp vn, pre = pre' ++ [r] ∧ post = n :: post' ∧ ¬ Op.cmpValue (FP.dcmp r.2.1 dg) .l = 0 ∧ lnv r.2.2 bar vp ∧ lnv n.2.2 bar vn ∧ gr_jok r.2.1 vp n.2.1 vn dg ∧ gr_join r.2.1 vp n.2.1 vn dg = v)))
end
section
/-! GasRows: before, has, at -/
set_option maxHeartbeats 4000000 in
set_option maxRecDepth 100000 in
/-- GasRows$Line.before -/
theorem m_X3_before (l : Launch) (dC : Nat → ClassId) (dI : Nat → Nat → Nat) (h3 : Nat) (dl : UInt64) (nx : Option Nat) (pre post : List gx_R) (bar : UInt64) (hsp : spl pre post bar) : Met l yX3_before (ws_ yX3_before cX3_before 5 (some (.object "GasRows$Row"))) ({ frames := 0, cells := 0, slots := 0, locals := 0 }) (va_Pc [.ref h3, .double bar] (gx_B dC dI (gx_lc (h3, dl, pre ++ post) nx))) (va_Sq (fun r => r = gx_la pre none)) 0 0 (fun _ => False) := by
  refine Met.ofW (cc := cX3_before) (maxL := 5) (ret := (some (.object "GasRows$Row"))) (by decide) rfl ?_
  intro p e s m args below meth c s₁ B hml hv
  obtain ⟨rfl, hP, hK, hN⟩ := hv
  have hx := B.exec
  have hb := B.bytes
  have hr := B.returns
  have hts := atoms_spec (ws := ws_ yX3_before cX3_before 5 (some (.object "GasRows$Row"))) B.pre
  have hts : ∀ w ∈ lw_all, w.before _ s = true := fun w h => hts w (List.mem_cons_of_mem _ h)
  have hown : s.vm.findClass RX3 = some m.cls := findClass_of_methodNamed B.named
  have hlocks := B.notSynchronized
  have hl := lv_entry ([.ref h3, .double bar]) (n := 5) (Nat.le_of_ble_eq_true rfl)
  rw [lg_entry_eq]
  generalize (lg_sl ([.ref h3, .double bar]) ++ List.replicate (5 - (lg_sl ([.ref h3, .double bar])).length) Slot.unset).toArray = ls at hl ⊢
  have hl : lv_has ls 5 [(0, .ref h3), (1, .double bar)] := hl
  have hP : va_P (dC, dI) vwCl (gx_lc (h3, dl, pre ++ post) nx) s.heap := hP
  have loop : ∀ (w2 w1 : List gx_R) (lo : Option Nat), pre = w1 ++ w2 → gx_la w2 lo = gx_la pre none → ∀ ls : Array Slot, lv_has ls 5 [(4, va_rf (gx_hd (w2 ++ post) none)), (3, va_rf lo), (0, .ref h3), (1, .double bar)] → W p l e (headSpec (ws_ yX3_before cX3_before 5 (some (.object "GasRows$Row"))) ({ frames := 0, cells := 0, slots := 0, locals := 0 })).room s m ([.ref h3, .double bar] : List Value).toArray below meth c s.heap [] 0 0 (MQ below (va_Sq (fun r => r = gx_la pre none)) ([.ref h3, .double bar] : List Value).toArray s 0 0 (fun _ => False)) (F0 m 8 ls []) := by
    intro w2
    induction w2 with
    | nil =>
      intro w1 lo hw hlo ls hl
      have hlo : lo = gx_la pre none := hlo
      cases post with
      | nil =>
        have hl : lv_has ls 5 [(4, .null), (3, va_rf lo), (0, .ref h3), (1, .double bar)] := hl
        refine lv_aloadN hx hb dX3_before_8 (lv_at hl 0 rfl) ?_
        refine lv_ifnullN (tgt := 36) hx hb dX3_before_10 (by decide) ?_
        refine lv_aload_nQ hx hb dX3_before_36 rfl (lv_at hl 1 rfl) ?_
        exact W.aret (v := va_rf lo) hx hb hr (Or.inl ⟨_, rfl⟩) (va_rf_or _) (fun t ht hW => ⟨lo, rfl, hlo, ht⟩) (fun _ h => nomatch h) dX3_before_37
      | cons rr post =>
        have hl : lv_has ls 5 [(4, .ref rr.1), (3, va_rf lo), (0, .ref h3), (1, .double bar)] := hl
        obtain ⟨kr, hkr⟩ := List.getElem?_of_mem (show _ ∈ gx_lc (h3, dl, pre ++ rr :: post) nx from List.mem_cons_of_mem _ (gx_row_mem pre rr post none))
        refine lv_aload hx hb dX3_before_8 (lv_at hl 0 rfl) ?_
        refine lv_ifnull hx hb dX3_before_10 ?_
        refine lv_aload hx hb dX3_before_13 (lv_at hl 0 rfl) ?_
        refine va_getN (D := (dC, dI)) (ci := 2) (v := .double rr.2.1) (C := RX2) (T := TX2) (N := 3) hx hb hts in_X2 hown hK hP kr hkr rfl 0 (by decide) (va_Nw.use rfl hN.1) (fun _ h9 => h9) rfl dX3_before_15 ?_
        refine lv_dload_n hx hb dX3_before_18 rfl (lv_at hl 3 rfl) ?_
        refine lv_dcmp hx hb dX3_before_19 ?_
        refine lv_if_gt (tgt := 36) hx hb dX3_before_20 (by decide) (fun c_1 => ?_) (fun c_1 => ?_)
        · refine lv_aload_nQ hx hb dX3_before_36 rfl (lv_at hl 1 rfl) ?_
          exact W.aret (v := va_rf lo) hx hb hr (Or.inl ⟨_, rfl⟩) (va_rf_or _) (fun t ht hW => ⟨lo, rfl, hlo, ht⟩) (fun _ h => nomatch h) dX3_before_37
        · exact absurd (hsp.2 rr rfl) c_1
    | cons rr w2 ih =>
      intro w1 lo hw hlo ls hl
      have hl : lv_has ls 5 [(4, .ref rr.1), (3, va_rf lo), (0, .ref h3), (1, .double bar)] := hl
      have hpp : pre ++ post = w1 ++ rr :: (w2 ++ post) := by rw [hw, List.append_assoc]; rfl
      obtain ⟨kr, hkr⟩ := List.getElem?_of_mem (show _ ∈ gx_lc (h3, dl, pre ++ post) nx from List.mem_cons_of_mem _ (hpp ▸ gx_row_mem w1 rr (w2 ++ post) none))
      refine lv_aload hx hb dX3_before_8 (lv_at hl 0 rfl) ?_
      refine lv_ifnull hx hb dX3_before_10 ?_
      refine lv_aload hx hb dX3_before_13 (lv_at hl 0 rfl) ?_
      refine va_getN (D := (dC, dI)) (ci := 2) (v := .double rr.2.1) (C := RX2) (T := TX2) (N := 3) hx hb hts in_X2 hown hK hP kr hkr rfl 0 (by decide) (va_Nw.use rfl hN.1) (fun _ h9 => h9) rfl dX3_before_15 ?_
      refine lv_dload_n hx hb dX3_before_18 rfl (lv_at hl 3 rfl) ?_
      refine lv_dcmp hx hb dX3_before_19 ?_
      refine lv_if_gt (tgt := 36) hx hb dX3_before_20 (by decide) (fun c_2 => ?_) (fun c_2 => ?_)
      · exact absurd c_2 (hsp.1 rr (by rw [hw]; exact List.mem_append_right _ List.mem_cons_self))
      · refine lv_aload hx hb dX3_before_23 (lv_at hl 0 rfl) ?_
        refine lv_astore_n (lv' := [(3, .ref rr.1), (4, .ref rr.1), (0, .ref h3), (1, .double bar)]) hx hb dX3_before_25 rfl hl (by decide) rfl (fun ls hl => ?_)
        refine lv_aload hx hb dX3_before_26 (lv_at hl 1 rfl) ?_
        refine va_getN (D := (dC, dI)) (ci := 2) (v := va_rf (gx_hd (w2 ++ post) none)) (C := RX2) (T := TX2) (N := 3) hx hb hts in_X2 hown hK hP kr hkr rfl 2 (by decide) (va_Nw.use rfl hN.2.2.1) (fun _ h9 => h9) rfl dX3_before_28 ?_
        refine lv_astoreQ (lv' := [(4, va_rf (gx_hd (w2 ++ post) none)), (3, .ref rr.1), (0, .ref h3), (1, .double bar)]) hx hb dX3_before_31 hl (by decide) rfl (fun ls hl => ?_)
        refine lv_goto (tgt := 8) hx hb dX3_before_33 (by decide) ?_
        exact ih (w1 ++ [rr]) (some rr.1) (by rw [hw, List.append_assoc]; rfl) hlo ls (lv_sub hl [0, 1, 2, 3] rfl)
  refine lv_null hx hb dX3_before_0 ?_
  refine lv_astore_nN (lv' := [(3, .null), (0, .ref h3), (1, .double bar)]) hx hb dX3_before_1 rfl hl (by decide) rfl (fun ls hl => ?_)
  refine lv_aload_n hx hb dX3_before_2 rfl (lv_at hl 1 rfl) ?_
  refine va_get (D := (dC, dI)) (ci := 3) (v := va_rf (gx_hd (pre ++ post) none)) (C := RX3) (T := TX3) (N := 3) hx hb hts in_X3 hown hK hP 0 rfl rfl 1 (by decide) (hts _ q84) (fun _ h9 => h9) rfl dX3_before_3 ?_
  refine lv_astoreQ (lv' := [(4, va_rf (gx_hd (pre ++ post) none)), (3, .null), (0, .ref h3), (1, .double bar)]) hx hb dX3_before_6 hl (by decide) rfl (fun ls hl => ?_)
  exact loop pre [] none rfl rfl ls (lv_sub hl [0, 1, 2, 3] rfl)

set_option maxHeartbeats 4000000 in
set_option maxRecDepth 100000 in
/-- GasRows.before -/
theorem m_X0_before (l : Launch) (dC : Nat → ClassId) (dI : Nat → Nat → Nat) (hg0 cnt : Nat) (pre post : List gx_L) (dg : UInt64) (hsp : spl pre post dg) : Met l yX0_before (ws_ yX0_before cX0_before 5 (some (.object "GasRows$Line"))) ({ frames := 0, cells := 0, slots := 0, locals := 0 }) (va_Pc [.ref hg0, .double dg] (gx_B dC dI (gx_W hg0 cnt (pre ++ post)))) (va_Sq (fun r => r = gx_la pre none)) 0 0 (fun _ => False) := by
  refine Met.ofW (cc := cX0_before) (maxL := 5) (ret := (some (.object "GasRows$Line"))) (by decide) rfl ?_
  intro p e s m args below meth c s₁ B hml hv
  obtain ⟨rfl, hP, hK, hN⟩ := hv
  have hx := B.exec
  have hb := B.bytes
  have hr := B.returns
  have hts := atoms_spec (ws := ws_ yX0_before cX0_before 5 (some (.object "GasRows$Line"))) B.pre
  have hts : ∀ w ∈ lw_all, w.before _ s = true := fun w h => hts w (List.mem_cons_of_mem _ h)
  have hown : s.vm.findClass RX0 = some m.cls := findClass_of_methodNamed B.named
  have hlocks := B.notSynchronized
  have hl := lv_entry ([.ref hg0, .double dg]) (n := 5) (Nat.le_of_ble_eq_true rfl)
  rw [lg_entry_eq]
  generalize (lg_sl ([.ref hg0, .double dg]) ++ List.replicate (5 - (lg_sl ([.ref hg0, .double dg])).length) Slot.unset).toArray = ls at hl ⊢
  have hl : lv_has ls 5 [(0, .ref hg0), (1, .double dg)] := hl
  have hP : va_P (dC, dI) vwCl (gx_W hg0 cnt (pre ++ post)) s.heap := hP
  have loop : ∀ (w2 w1 : List gx_L) (lo : Option Nat), pre = w1 ++ w2 → gx_la w2 lo = gx_la pre none → ∀ ls : Array Slot, lv_has ls 5 [(4, va_rf (gx_hd (w2 ++ post) none)), (3, va_rf lo), (0, .ref hg0), (1, .double dg)] → W p l e (headSpec (ws_ yX0_before cX0_before 5 (some (.object "GasRows$Line"))) ({ frames := 0, cells := 0, slots := 0, locals := 0 })).room s m ([.ref hg0, .double dg] : List Value).toArray below meth c s.heap [] 0 0 (MQ below (va_Sq (fun r => r = gx_la pre none)) ([.ref hg0, .double dg] : List Value).toArray s 0 0 (fun _ => False)) (F0 m 8 ls []) := by
    intro w2
    induction w2 with
    | nil =>
      intro w1 lo hw hlo ls hl
      have hlo : lo = gx_la pre none := hlo
      cases post with
      | nil =>
        have hl : lv_has ls 5 [(4, .null), (3, va_rf lo), (0, .ref hg0), (1, .double dg)] := hl
        refine lv_aloadN hx hb dX0_before_8 (lv_at hl 0 rfl) ?_
        refine lv_ifnullN (tgt := 36) hx hb dX0_before_10 (by decide) ?_
        refine lv_aload_nQ hx hb dX0_before_36 rfl (lv_at hl 1 rfl) ?_
        exact W.aret (v := va_rf lo) hx hb hr (Or.inl ⟨_, rfl⟩) (va_rf_or _) (fun t ht hW => ⟨lo, rfl, hlo, ht⟩) (fun _ h => nomatch h) dX0_before_37
      | cons rr post =>
        have hl : lv_has ls 5 [(4, .ref rr.1), (3, va_rf lo), (0, .ref hg0), (1, .double dg)] := hl
        obtain ⟨kr, hkr⟩ := List.getElem?_of_mem (gx_line_mem hg0 cnt pre rr post)
        refine lv_aload hx hb dX0_before_8 (lv_at hl 0 rfl) ?_
        refine lv_ifnull hx hb dX0_before_10 ?_
        refine lv_aload hx hb dX0_before_13 (lv_at hl 0 rfl) ?_
        refine va_getN (D := (dC, dI)) (ci := 3) (v := .double rr.2.1) (C := RX3) (T := TX3) (N := 3) hx hb hts in_X3 hown hK hP kr hkr rfl 0 (by decide) (va_Nw.use rfl hN.2.2.2.1) (fun _ h9 => h9) rfl dX0_before_15 ?_
        refine lv_dload_n hx hb dX0_before_18 rfl (lv_at hl 3 rfl) ?_
        refine lv_dcmp hx hb dX0_before_19 ?_
        refine lv_if_gt (tgt := 36) hx hb dX0_before_20 (by decide) (fun c_1 => ?_) (fun c_1 => ?_)
        · refine lv_aload_nQ hx hb dX0_before_36 rfl (lv_at hl 1 rfl) ?_
          exact W.aret (v := va_rf lo) hx hb hr (Or.inl ⟨_, rfl⟩) (va_rf_or _) (fun t ht hW => ⟨lo, rfl, hlo, ht⟩) (fun _ h => nomatch h) dX0_before_37
        · exact absurd (hsp.2 rr rfl) c_1
    | cons rr w2 ih =>
      intro w1 lo hw hlo ls hl
      have hl : lv_has ls 5 [(4, .ref rr.1), (3, va_rf lo), (0, .ref hg0), (1, .double dg)] := hl
      have hpp : pre ++ post = w1 ++ rr :: (w2 ++ post) := by rw [hw, List.append_assoc]; rfl
      obtain ⟨kr, hkr⟩ := List.getElem?_of_mem (hpp ▸ gx_line_mem hg0 cnt w1 rr (w2 ++ post))
      refine lv_aload hx hb dX0_before_8 (lv_at hl 0 rfl) ?_
      refine lv_ifnull hx hb dX0_before_10 ?_
      refine lv_aload hx hb dX0_before_13 (lv_at hl 0 rfl) ?_
      refine va_getN (D := (dC, dI)) (ci := 3) (v := .double rr.2.1) (C := RX3) (T := TX3) (N := 3) hx hb hts in_X3 hown hK hP kr hkr rfl 0 (by decide) (va_Nw.use rfl hN.2.2.2.1) (fun _ h9 => h9) rfl dX0_before_15 ?_
      refine lv_dload_n hx hb dX0_before_18 rfl (lv_at hl 3 rfl) ?_
      refine lv_dcmp hx hb dX0_before_19 ?_
      refine lv_if_gt (tgt := 36) hx hb dX0_before_20 (by decide) (fun c_2 => ?_) (fun c_2 => ?_)
      · exact absurd c_2 (hsp.1 rr (by rw [hw]; exact List.mem_append_right _ List.mem_cons_self))
      · refine lv_aload hx hb dX0_before_23 (lv_at hl 0 rfl) ?_
        refine lv_astore_n (lv' := [(3, .ref rr.1), (4, .ref rr.1), (0, .ref hg0), (1, .double dg)]) hx hb dX0_before_25 rfl hl (by decide) rfl (fun ls hl => ?_)
        refine lv_aload hx hb dX0_before_26 (lv_at hl 1 rfl) ?_
        refine va_getN (D := (dC, dI)) (ci := 3) (v := va_rf (gx_hd (w2 ++ post) none)) (C := RX3) (T := TX3) (N := 3) hx hb hts in_X3 hown hK hP kr hkr rfl 2 (by decide) (va_Nw.use rfl hN.2.2.2.2.1) (fun _ h9 => h9) rfl dX0_before_28 ?_
        refine lv_astoreQ (lv' := [(4, va_rf (gx_hd (w2 ++ post) none)), (3, .ref rr.1), (0, .ref hg0), (1, .double dg)]) hx hb dX0_before_31 hl (by decide) rfl (fun ls hl => ?_)
        refine lv_goto (tgt := 8) hx hb dX0_before_33 (by decide) ?_
        exact ih (w1 ++ [rr]) (some rr.1) (by rw [hw, List.append_assoc]; rfl) hlo ls (lv_sub hl [0, 1, 2, 3] rfl)
  refine lv_null hx hb dX0_before_0 ?_
  refine lv_astore_nN (lv' := [(3, .null), (0, .ref hg0), (1, .double dg)]) hx hb dX0_before_1 rfl hl (by decide) rfl (fun ls hl => ?_)
  refine lv_aload_n hx hb dX0_before_2 rfl (lv_at hl 1 rfl) ?_
  refine va_get (D := (dC, dI)) (ci := 0) (v := va_rf (gx_hd (pre ++ post) none)) (C := RX0) (T := TX0) (N := 2) hx hb hts in_X0 hown hK hP 0 rfl rfl 0 (by decide) (hts _ q18) (fun _ h9 => h9) rfl dX0_before_3 ?_
  refine lv_astoreQ (lv' := [(4, va_rf (gx_hd (pre ++ post) none)), (3, .null), (0, .ref hg0), (1, .double dg)]) hx hb dX0_before_6 hl (by decide) rfl (fun ls hl => ?_)
  exact loop pre [] none rfl rfl ls (lv_sub hl [0, 1, 2, 3] rfl)

set_option maxHeartbeats 4000000 in
set_option maxRecDepth 100000 in
/-- GasRows$Line.has -/
theorem m_X3_has0 (l : Launch) (dC : Nat → ClassId) (dI : Nat → Nat → Nat) (h3 : Nat) (dl : UInt64) (nx : Option Nat) (post : List gx_R) (bar : UInt64) (hsp : spl [] post bar) : Met l yX3_has (ws_ yX3_has cX3_has 4 (some .boolean)) ({ frames := 1, cells := 0, slots := 0, locals := 24 }) (va_Pc [.ref h3, .double bar] (gx_B dC dI (gx_lc (h3, dl, [] ++ post) nx))) (vp_Si (fun r => r = 0)) 0 0 (fun _ => False) := by
  refine Met.ofW (cc := cX3_has) (maxL := 4) (ret := (some .boolean)) (by decide) rfl ?_
  intro p e s m args below meth c s₁ B hml hv
  obtain ⟨rfl, hP, hK, hN⟩ := hv
  have hx := B.exec
  have hb := B.bytes
  have hr := B.returns
  have hts := atoms_spec (ws := ws_ yX3_has cX3_has 4 (some .boolean)) B.pre
  have hts : ∀ w ∈ lw_all, w.before _ s = true := fun w h => hts w (List.mem_cons_of_mem _ h)
  have hown : s.vm.findClass RX3 = some m.cls := findClass_of_methodNamed B.named
  have hlocks := B.notSynchronized
  have hl := lv_entry ([.ref h3, .double bar]) (n := 4) (Nat.le_of_ble_eq_true rfl)
  rw [lg_entry_eq]
  generalize (lg_sl ([.ref h3, .double bar]) ++ List.replicate (4 - (lg_sl ([.ref h3, .double bar])).length) Slot.unset).toArray = ls at hl ⊢
  have hl : lv_has ls 4 [(0, .ref h3), (1, .double bar)] := hl
  have hP : va_P (dC, dI) vwCl (gx_lc (h3, dl, [] ++ post) nx) s.heap := hP
  refine lv_aload_n hx hb dX3_has_0 rfl (lv_at hl 0 rfl) ?_
  refine lv_dload_n hx hb dX3_has_1 rfl (lv_at hl 1 rfl) ?_
  refine va_csq (va_Run.run (va_runV (As := [.double bar]) (rest := []) ⟨hx, hb, hml, hown, hts⟩ (m_X3_before l dC dI h3 dl nx [] post bar hsp) (cwV 1 hts (lw_V q49 q51 qs1 q9 q53) rfl rfl rfl (by decide +kernel) ⟨Nat.le_of_ble_eq_true rfl, Nat.le_of_ble_eq_true rfl⟩) ⟨gx_fb, va_recv hK hP (ci := 3) (q0 := 0) rfl rfl, fun U hU hW => ⟨rfl, gx_pre hP hK hN hU hW⟩⟩ rfl rfl hl.1 rfl (lv_room (Nat.le_of_ble_eq_true rfl)) dX3_has_2 ⟨Nat.le_of_ble_eq_true rfl, Nat.le_of_ble_eq_true rfl⟩)) (fun r_1 hr_1 => ?_)
  obtain rfl : r_1 = none := hr_1
  refine lv_astore_nN (lv' := [(3, .null), (0, .ref h3), (1, .double bar)]) hx hb dX3_has_5 rfl hl (by decide) rfl (fun ls hl => ?_)
  refine lv_aload_nN hx hb dX3_has_6 rfl (lv_at hl 0 rfl) ?_
  refine lv_ifnullN (tgt := 23) hx hb dX3_has_7 (by decide) ?_
  refine lv_iconst (v := 0) hx hb dX3_has_23 (by decide) ?_
  exact W.zret (v := 0) hx hb hr rfl (fun t ht hW => ⟨0, rfl, rfl, ht⟩) (fun _ h => nomatch h) dX3_has_24

set_option maxHeartbeats 4000000 in
set_option maxRecDepth 100000 in
/-- GasRows$Line.has -/
theorem m_X3_has1 (l : Launch) (dC : Nat → ClassId) (dI : Nat → Nat → Nat) (h3 : Nat) (dl : UInt64) (nx : Option Nat) (pre : List gx_R) (rr : gx_R) (post : List gx_R) (bar : UInt64) (hsp : spl (pre ++ [rr]) post bar) : Met l yX3_has (ws_ yX3_has cX3_has 4 (some .boolean)) ({ frames := 1, cells := 0, slots := 0, locals := 24 }) (va_Pc [.ref h3, .double bar] (gx_B dC dI (gx_lc (h3, dl, (pre ++ [rr]) ++ post) nx))) (vp_Si (fun r => r = if Op.cmpValue (FP.dcmp rr.2.1 bar) .l = 0 then 1 else 0)) 0 0 (fun _ => False) := by
  refine Met.ofW (cc := cX3_has) (maxL := 4) (ret := (some .boolean)) (by decide) rfl ?_
  intro p e s m args below meth c s₁ B hml hv
  obtain ⟨rfl, hP, hK, hN⟩ := hv
  have hx := B.exec
  have hb := B.bytes
  have hr := B.returns
  have hts := atoms_spec (ws := ws_ yX3_has cX3_has 4 (some .boolean)) B.pre
  have hts : ∀ w ∈ lw_all, w.before _ s = true := fun w h => hts w (List.mem_cons_of_mem _ h)
  have hown : s.vm.findClass RX3 = some m.cls := findClass_of_methodNamed B.named
  have hlocks := B.notSynchronized
  have hl := lv_entry ([.ref h3, .double bar]) (n := 4) (Nat.le_of_ble_eq_true rfl)
  rw [lg_entry_eq]
  generalize (lg_sl ([.ref h3, .double bar]) ++ List.replicate (4 - (lg_sl ([.ref h3, .double bar])).length) Slot.unset).toArray = ls at hl ⊢
  have hl : lv_has ls 4 [(0, .ref h3), (1, .double bar)] := hl
  have hP : va_P (dC, dI) vwCl (gx_lc (h3, dl, (pre ++ [rr]) ++ post) nx) s.heap := hP
  obtain ⟨kr, hkr⟩ := List.getElem?_of_mem (show _ ∈ gx_lc (h3, dl, (pre ++ [rr]) ++ post) nx from List.mem_cons_of_mem _ (gx_row_mem2 pre rr post none))
  refine lv_aload_n hx hb dX3_has_0 rfl (lv_at hl 0 rfl) ?_
  refine lv_dload_n hx hb dX3_has_1 rfl (lv_at hl 1 rfl) ?_
  refine va_csq (va_Run.run (va_runV (As := [.double bar]) (rest := []) ⟨hx, hb, hml, hown, hts⟩ (m_X3_before l dC dI h3 dl nx (pre ++ [rr]) post bar hsp) (cwV 1 hts (lw_V q49 q51 qs1 q9 q53) rfl rfl rfl (by decide +kernel) ⟨Nat.le_of_ble_eq_true rfl, Nat.le_of_ble_eq_true rfl⟩) ⟨gx_fb, va_recv hK hP (ci := 3) (q0 := 0) rfl rfl, fun U hU hW => ⟨rfl, gx_pre hP hK hN hU hW⟩⟩ rfl rfl hl.1 rfl (lv_room (Nat.le_of_ble_eq_true rfl)) dX3_has_2 ⟨Nat.le_of_ble_eq_true rfl, Nat.le_of_ble_eq_true rfl⟩)) (fun r_1 hr_1 => ?_)
  obtain rfl : r_1 = some rr.1 := by rw [hr_1]; exact gx_la_app _ _ _
  refine lv_astore_n (lv' := [(3, .ref rr.1), (0, .ref h3), (1, .double bar)]) hx hb dX3_has_5 rfl hl (by decide) rfl (fun ls hl => ?_)
  refine lv_aload_n hx hb dX3_has_6 rfl (lv_at hl 0 rfl) ?_
  refine lv_ifnull hx hb dX3_has_7 ?_
  refine lv_aload_n hx hb dX3_has_10 rfl (lv_at hl 0 rfl) ?_
  refine va_getN (D := (dC, dI)) (ci := 2) (v := .double rr.2.1) (C := RX2) (T := TX2) (N := 3) hx hb hts in_X2 hown hK hP kr hkr rfl 0 (by decide) (va_Nw.use rfl hN.1) (fun _ h9 => h9) rfl dX3_has_11 ?_
  refine lv_dload_n hx hb dX3_has_14 rfl (lv_at hl 2 rfl) ?_
  refine lv_dcmp hx hb dX3_has_15 ?_
  refine lv_if_ne (tgt := 23) hx hb dX3_has_16 (by decide) (fun c_2 => ?_) (fun c_2 => ?_)
  · refine lv_iconst (v := 0) hx hb dX3_has_23 (by decide) ?_
    exact W.zret (v := 0) hx hb hr rfl (fun t ht hW => ⟨0, rfl, by rw [if_neg c_2], ht⟩) (fun _ h => nomatch h) dX3_has_24
  · refine lv_iconst (v := 1) hx hb dX3_has_19 (by decide) ?_
    refine lv_goto (tgt := 24) hx hb dX3_has_20 (by decide) ?_
    exact W.zret (v := 1) hx hb hr rfl (fun t ht hW => ⟨1, rfl, by rw [if_pos c_2], ht⟩) (fun _ h => nomatch h) dX3_has_24

set_option maxHeartbeats 4000000 in
set_option maxRecDepth 100000 in
/-- GasRows$Line.at -/
theorem m_X3_at (l : Launch) (dC : Nat → ClassId) (dI : Nat → Nat → Nat) (h3 : Nat) (dl : UInt64) (nx : Option Nat) (rs : List gx_R) (bar v : UInt64) (hv : lnv rs bar v) : Met l yX3_at (ws_ yX3_at cX3_at 5 (some .double)) ({ frames := 1, cells := 0, slots := 0, locals := 29 }) (va_Pc [.ref h3, .double bar] (gx_B dC dI (gx_lc (h3, dl, rs) nx))) (vp_Sd (fun r => r = v)) 0 0 (fun _ => False) := by
  refine Met.ofW (cc := cX3_at) (maxL := 5) (ret := (some .double)) (by decide) rfl ?_
  intro p e s m args below meth c s₁ B hml hv
  obtain ⟨rfl, hP, hK, hN⟩ := hv
  have hx := B.exec
  have hb := B.bytes
  have hr := B.returns
  have hts := atoms_spec (ws := ws_ yX3_at cX3_at 5 (some .double)) B.pre
  have hts : ∀ w ∈ lw_all, w.before _ s = true := fun w h => hts w (List.mem_cons_of_mem _ h)
  have hown : s.vm.findClass RX3 = some m.cls := findClass_of_methodNamed B.named
  have hlocks := B.notSynchronized
  have hl := lv_entry ([.ref h3, .double bar]) (n := 5) (Nat.le_of_ble_eq_true rfl)
  rw [lg_entry_eq]
  generalize (lg_sl ([.ref h3, .double bar]) ++ List.replicate (5 - (lg_sl ([.ref h3, .double bar])).length) Slot.unset).toArray = ls at hl ⊢
  have hl : lv_has ls 5 [(0, .ref h3), (1, .double bar)] := hl
  have hP : va_P (dC, dI) vwCl (gx_lc (h3, dl, rs) nx) s.heap := hP
  obtain ⟨pre, post, rfl, hsp, ⟨rfl, nn, post', rfl, rfl⟩ | ⟨pre', rr, rfl, rfl, rfl⟩ | ⟨pre', rr, nn, post', rfl, rfl, hj, rfl⟩⟩ := hv
  · have hP : va_P (dC, dI) vwCl (gx_lc (h3, dl, ([] : List gx_R) ++ (nn :: post')) nx) s.heap := hP
    obtain ⟨kn, hkn⟩ := List.getElem?_of_mem (show _ ∈ gx_lc (h3, dl, ([] : List gx_R) ++ (nn :: post')) nx from List.mem_cons_of_mem _ (gx_row_mem ([] : List gx_R) nn post' none))
    refine lv_aload_n hx hb dX3_at_0 rfl (lv_at hl 0 rfl) ?_
    refine lv_dload_n hx hb dX3_at_1 rfl (lv_at hl 1 rfl) ?_
    refine va_csq (va_Run.run (va_runV (As := [.double bar]) (rest := []) ⟨hx, hb, hml, hown, hts⟩ (m_X3_before l dC dI h3 dl nx ([] : List gx_R) (nn :: post') bar hsp) (cwV 1 hts (lw_V q49 q51 qs1 q9 q53) rfl rfl rfl (by decide +kernel) ⟨Nat.le_of_ble_eq_true rfl, Nat.le_of_ble_eq_true rfl⟩) ⟨gx_fb, va_recv hK hP (ci := 3) (q0 := 0) rfl rfl, fun U hU hW => ⟨rfl, gx_pre hP hK hN hU hW⟩⟩ rfl rfl hl.1 rfl (lv_room (Nat.le_of_ble_eq_true rfl)) dX3_at_2 ⟨Nat.le_of_ble_eq_true rfl, Nat.le_of_ble_eq_true rfl⟩)) (fun r_1 hr_1 => ?_)
    obtain rfl : r_1 = none := hr_1
    refine lv_astore_nN (lv' := [(3, .null), (0, .ref h3), (1, .double bar)]) hx hb dX3_at_5 rfl hl (by decide) rfl (fun ls hl => ?_)
    refine lv_aload_nN hx hb dX3_at_6 rfl (lv_at hl 0 rfl) ?_
    refine lv_ifnonnullN hx hb dX3_at_7 ?_
    refine lv_aload_n hx hb dX3_at_10 rfl (lv_at hl 1 rfl) ?_
    refine va_get (D := (dC, dI)) (ci := 3) (v := .ref nn.1) (C := RX3) (T := TX3) (N := 3) hx hb hts in_X3 hown hK hP 0 rfl rfl 1 (by decide) (hts _ q84) (fun _ h9 => h9) rfl dX3_at_11 ?_
    refine va_getN (D := (dC, dI)) (ci := 2) (v := .double nn.2.2) (C := RX2) (T := TX2) (N := 3) hx hb hts in_X2 hown hK hP kn hkn rfl 1 (by decide) (va_Nw.use rfl hN.2.1) (fun _ h9 => h9) rfl dX3_at_14 ?_
    exact W.dret (v := nn.2.2) hx hb hr (fun t ht hW => ⟨nn.2.2, rfl, rfl, ht⟩) (fun _ h => nomatch h) dX3_at_17
  · have hP : va_P (dC, dI) vwCl (gx_lc (h3, dl, (pre' ++ [rr]) ++ ([] : List gx_R)) nx) s.heap := hP
    obtain ⟨kr, hkr⟩ := List.getElem?_of_mem (show _ ∈ gx_lc (h3, dl, (pre' ++ [rr]) ++ ([] : List gx_R)) nx from List.mem_cons_of_mem _ (gx_row_mem2 pre' rr ([] : List gx_R) none))
    refine lv_aload_n hx hb dX3_at_0 rfl (lv_at hl 0 rfl) ?_
    refine lv_dload_n hx hb dX3_at_1 rfl (lv_at hl 1 rfl) ?_
    refine va_csq (va_Run.run (va_runV (As := [.double bar]) (rest := []) ⟨hx, hb, hml, hown, hts⟩ (m_X3_before l dC dI h3 dl nx (pre' ++ [rr]) ([] : List gx_R) bar hsp) (cwV 1 hts (lw_V q49 q51 qs1 q9 q53) rfl rfl rfl (by decide +kernel) ⟨Nat.le_of_ble_eq_true rfl, Nat.le_of_ble_eq_true rfl⟩) ⟨gx_fb, va_recv hK hP (ci := 3) (q0 := 0) rfl rfl, fun U hU hW => ⟨rfl, gx_pre hP hK hN hU hW⟩⟩ rfl rfl hl.1 rfl (lv_room (Nat.le_of_ble_eq_true rfl)) dX3_at_2 ⟨Nat.le_of_ble_eq_true rfl, Nat.le_of_ble_eq_true rfl⟩)) (fun r_2 hr_2 => ?_)
    obtain rfl : r_2 = some rr.1 := by rw [hr_2]; exact gx_la_app _ _ _
    refine lv_astore_n (lv' := [(3, .ref rr.1), (0, .ref h3), (1, .double bar)]) hx hb dX3_at_5 rfl hl (by decide) rfl (fun ls hl => ?_)
    refine lv_aload_n hx hb dX3_at_6 rfl (lv_at hl 0 rfl) ?_
    refine lv_ifnonnull (tgt := 18) hx hb dX3_at_7 (by decide) ?_
    refine lv_aload_n hx hb dX3_at_18 rfl (lv_at hl 0 rfl) ?_
    refine va_getN (D := (dC, dI)) (ci := 2) (v := .null) (C := RX2) (T := TX2) (N := 3) hx hb hts in_X2 hown hK hP kr hkr rfl 2 (by decide) (va_Nw.use rfl hN.2.2.1) (fun _ h9 => h9) rfl dX3_at_19 ?_
    refine lv_astoreN (lv' := [(4, .null), (3, .ref rr.1), (0, .ref h3), (1, .double bar)]) hx hb dX3_at_22 hl (by decide) rfl (fun ls hl => ?_)
    refine lv_aloadN hx hb dX3_at_24 (lv_at hl 0 rfl) ?_
    refine lv_ifnonnullN hx hb dX3_at_26 ?_
    refine lv_aload_n hx hb dX3_at_29 rfl (lv_at hl 1 rfl) ?_
    refine va_getN (D := (dC, dI)) (ci := 2) (v := .double rr.2.2) (C := RX2) (T := TX2) (N := 3) hx hb hts in_X2 hown hK hP kr hkr rfl 1 (by decide) (va_Nw.use rfl hN.2.1) (fun _ h9 => h9) rfl dX3_at_30 ?_
    refine lv_goto (tgt := 58) hx hb dX3_at_33 (by decide) ?_
    exact W.dret (v := rr.2.2) hx hb hr (fun t ht hW => ⟨rr.2.2, rfl, rfl, ht⟩) (fun _ h => nomatch h) dX3_at_58
  · have hP : va_P (dC, dI) vwCl (gx_lc (h3, dl, (pre' ++ [rr]) ++ (nn :: post')) nx) s.heap := hP
    obtain ⟨kr, hkr⟩ := List.getElem?_of_mem (show _ ∈ gx_lc (h3, dl, (pre' ++ [rr]) ++ (nn :: post')) nx from List.mem_cons_of_mem _ (gx_row_mem2 pre' rr (nn :: post') none))
    obtain ⟨kn, hkn⟩ := List.getElem?_of_mem (show _ ∈ gx_lc (h3, dl, (pre' ++ [rr]) ++ (nn :: post')) nx from List.mem_cons_of_mem _ (gx_row_mem (pre' ++ [rr]) nn post' none))
    refine lv_aload_n hx hb dX3_at_0 rfl (lv_at hl 0 rfl) ?_
    refine lv_dload_n hx hb dX3_at_1 rfl (lv_at hl 1 rfl) ?_
    refine va_csq (va_Run.run (va_runV (As := [.double bar]) (rest := []) ⟨hx, hb, hml, hown, hts⟩ (m_X3_before l dC dI h3 dl nx (pre' ++ [rr]) (nn :: post') bar hsp) (cwV 1 hts (lw_V q49 q51 qs1 q9 q53) rfl rfl rfl (by decide +kernel) ⟨Nat.le_of_ble_eq_true rfl, Nat.le_of_ble_eq_true rfl⟩) ⟨gx_fb, va_recv hK hP (ci := 3) (q0 := 0) rfl rfl, fun U hU hW => ⟨rfl, gx_pre hP hK hN hU hW⟩⟩ rfl rfl hl.1 rfl (lv_room (Nat.le_of_ble_eq_true rfl)) dX3_at_2 ⟨Nat.le_of_ble_eq_true rfl, Nat.le_of_ble_eq_true rfl⟩)) (fun r_3 hr_3 => ?_)
    obtain rfl : r_3 = some rr.1 := by rw [hr_3]; exact gx_la_app _ _ _
    refine lv_astore_n (lv' := [(3, .ref rr.1), (0, .ref h3), (1, .double bar)]) hx hb dX3_at_5 rfl hl (by decide) rfl (fun ls hl => ?_)
    refine lv_aload_n hx hb dX3_at_6 rfl (lv_at hl 0 rfl) ?_
    refine lv_ifnonnull (tgt := 18) hx hb dX3_at_7 (by decide) ?_
    refine lv_aload_n hx hb dX3_at_18 rfl (lv_at hl 0 rfl) ?_
    refine va_getN (D := (dC, dI)) (ci := 2) (v := .ref nn.1) (C := RX2) (T := TX2) (N := 3) hx hb hts in_X2 hown hK hP kr hkr rfl 2 (by decide) (va_Nw.use rfl hN.2.2.1) (fun _ h9 => h9) rfl dX3_at_19 ?_
    refine lv_astore (lv' := [(4, .ref nn.1), (3, .ref rr.1), (0, .ref h3), (1, .double bar)]) hx hb dX3_at_22 hl (by decide) rfl (fun ls hl => ?_)
    refine lv_aload hx hb dX3_at_24 (lv_at hl 0 rfl) ?_
    refine lv_ifnonnull (tgt := 36) hx hb dX3_at_26 (by decide) ?_
    refine lv_aload_n hx hb dX3_at_36 rfl (lv_at hl 1 rfl) ?_
    refine va_getN (D := (dC, dI)) (ci := 2) (v := .double rr.2.1) (C := RX2) (T := TX2) (N := 3) hx hb hts in_X2 hown hK hP kr hkr rfl 0 (by decide) (va_Nw.use rfl hN.1) (fun _ h9 => h9) rfl dX3_at_37 ?_
    refine lv_aload_n hx hb dX3_at_40 rfl (lv_at hl 1 rfl) ?_
    refine va_getN (D := (dC, dI)) (ci := 2) (v := .double rr.2.2) (C := RX2) (T := TX2) (N := 3) hx hb hts in_X2 hown hK hP kr hkr rfl 1 (by decide) (va_Nw.use rfl hN.2.1) (fun _ h9 => h9) rfl dX3_at_41 ?_
    refine lv_aload hx hb dX3_at_44 (lv_at hl 0 rfl) ?_
    refine va_getN (D := (dC, dI)) (ci := 2) (v := .double nn.2.1) (C := RX2) (T := TX2) (N := 3) hx hb hts in_X2 hown hK hP kn hkn rfl 0 (by decide) (va_Nw.use rfl hN.1) (fun _ h9 => h9) rfl dX3_at_46 ?_
    refine lv_aload hx hb dX3_at_49 (lv_at hl 0 rfl) ?_
    refine va_getN (D := (dC, dI)) (ci := 2) (v := .double nn.2.2) (C := RX2) (T := TX2) (N := 3) hx hb hts in_X2 hown hK hP kn hkn rfl 1 (by decide) (va_Nw.use rfl hN.2.1) (fun _ h9 => h9) rfl dX3_at_51 ?_
    refine lv_dload_n hx hb dX3_at_54 rfl (lv_at hl 3 rfl) ?_
    refine vp_callSd (va_Run.run (va_runSN (As := [.double rr.2.1, .double rr.2.2, .double nn.2.1, .double nn.2.2, .double bar]) (rest := []) ⟨hx, hb, hml, hown, hts⟩ (m_X0_join l rr.2.1 rr.2.2 nn.2.1 nn.2.2 bar hj) (⟨va_cnB 5 hts (lw_meth q108) rfl rfl rfl hN.2.2.2.2.2 (hts _ q6) (by decide +kernel) ⟨Nat.le_of_ble_eq_true rfl, Nat.le_of_ble_eq_true rfl⟩, hts _ q107, trivial⟩) ⟨fun _ _ _ _ q => q, fun U hU hW => ⟨rfl, trivial⟩⟩ rfl rfl hl.1 rfl (lv_room (Nat.le_of_ble_eq_true rfl)) dX3_at_55 ⟨Nat.le_of_ble_eq_true rfl, Nat.le_of_ble_eq_true rfl⟩)) (fun r_4 hr_4 => ?_)
    subst hr_4
    exact W.dret (v := (gr_join rr.2.1 rr.2.2 nn.2.1 nn.2.2 bar)) hx hb hr (fun t ht hW => ⟨(gr_join rr.2.1 rr.2.2 nn.2.1 nn.2.2 bar), rfl, rfl, ht⟩) (fun _ h => nomatch h) dX3_at_58

set_option maxHeartbeats 4000000 in
set_option maxRecDepth 100000 in
/-- GasRows.at -/
theorem m_X0_at (l : Launch) (dC : Nat → ClassId) (dI : Nat → Nat → Nat) (hg0 cnt : Nat) (ls_ : List gx_L) (dg bar v : UInt64) (hv : atv ls_ dg bar v) : Met l yX0_at (ws_ yX0_at cX0_at 7 (some .double)) ({ frames := 2, cells := 0, slots := 0, locals := 53 }) (va_Pc [.ref hg0, .double dg, .double bar] (gx_B dC dI (gx_W hg0 cnt ls_))) (vp_Sd (fun r => r = v)) 0 0 (fun _ => False) := by
  refine Met.ofW (cc := cX0_at) (maxL := 7) (ret := (some .double)) (by decide) rfl ?_
  intro p e s m args below meth c s₁ B hml hv
  obtain ⟨rfl, hP, hK, hN⟩ := hv
  have hx := B.exec
  have hb := B.bytes
  have hr := B.returns
  have hts := atoms_spec (ws := ws_ yX0_at cX0_at 7 (some .double)) B.pre
  have hts : ∀ w ∈ lw_all, w.before _ s = true := fun w h => hts w (List.mem_cons_of_mem _ h)
  have hown : s.vm.findClass RX0 = some m.cls := findClass_of_methodNamed B.named
  have hlocks := B.notSynchronized
  have hl := lv_entry ([.ref hg0, .double dg, .double bar]) (n := 7) (Nat.le_of_ble_eq_true rfl)
  rw [lg_entry_eq]
  generalize (lg_sl ([.ref hg0, .double dg, .double bar]) ++ List.replicate (7 - (lg_sl ([.ref hg0, .double dg, .double bar])).length) Slot.unset).toArray = ls at hl ⊢
  have hl : lv_has ls 7 [(0, .ref hg0), (1, .double dg), (3, .double bar)] := hl
  have hP : va_P (dC, dI) vwCl (gx_W hg0 cnt ls_) s.heap := hP
  obtain ⟨rfl, rfl⟩ | ⟨pre, post, rfl, hsp, ⟨rfl, nn, post', rfl, hln⟩ | ⟨pre', rr, rfl, rfl, hlr⟩ | ⟨pre', rr, nn, post', rfl, rfl, hc, hlr⟩ | ⟨pre', rr, nn, post', vp, vn, rfl, rfl, hc, hlr, hln, hj, rfl⟩⟩ := hv
  · have hP : va_P (dC, dI) vwCl (gx_W hg0 cnt (([] : List gx_L) ++ ([] : List gx_L))) s.heap := hP
    refine lv_aload_n hx hb dX0_at_0 rfl (lv_at hl 0 rfl) ?_
    refine va_get (D := (dC, dI)) (ci := 0) (v := .null) (C := RX0) (T := TX0) (N := 2) hx hb hts in_X0 hown hK hP 0 rfl rfl 0 (by decide) (hts _ q18) (fun _ h9 => h9) rfl dX0_at_1 ?_
    refine lv_ifnonnullN hx hb dX0_at_4 ?_
    refine lv_dconst0 hx hb dX0_at_7 ?_
    exact W.dret (v := FP.dconst0) hx hb hr (fun t ht hW => ⟨FP.dconst0, rfl, rfl, ht⟩) (fun _ h => nomatch h) dX0_at_8
  · have hP : va_P (dC, dI) vwCl (gx_W hg0 cnt (([] : List gx_L) ++ (nn :: post'))) s.heap := hP
    obtain ⟨kn, hkn⟩ := List.getElem?_of_mem (gx_line_mem hg0 cnt ([] : List gx_L) nn post')
    have hPn := va_P_sub hP (gx_line_sub hg0 cnt ([] : List gx_L) nn post')
    refine lv_aload_n hx hb dX0_at_0 rfl (lv_at hl 0 rfl) ?_
    refine va_get (D := (dC, dI)) (ci := 0) (v := .ref nn.1) (C := RX0) (T := TX0) (N := 2) hx hb hts in_X0 hown hK hP 0 rfl rfl 0 (by decide) (hts _ q18) (fun _ h9 => h9) rfl dX0_at_1 ?_
    refine lv_ifnonnull (tgt := 9) hx hb dX0_at_4 (by decide) ?_
    refine lv_aload_n hx hb dX0_at_9 rfl (lv_at hl 0 rfl) ?_
    refine lv_dload_n hx hb dX0_at_10 rfl (lv_at hl 1 rfl) ?_
    refine va_csq (va_Run.run (va_runV (As := [.double dg]) (rest := []) ⟨hx, hb, hml, hown, hts⟩ (m_X0_before l dC dI hg0 cnt ([] : List gx_L) (nn :: post') dg hsp) (cwV 1 hts (lw_V q41 q43 qs0 q6 q44) rfl rfl rfl (by decide +kernel) ⟨Nat.le_of_ble_eq_true rfl, Nat.le_of_ble_eq_true rfl⟩) ⟨gx_fb, va_recv hK hP (ci := 0) (q0 := 0) rfl rfl, fun U hU hW => ⟨rfl, gx_pre hP hK hN hU hW⟩⟩ rfl rfl hl.1 rfl (lv_room (Nat.le_of_ble_eq_true rfl)) dX0_at_11 ⟨Nat.le_of_ble_eq_true rfl, Nat.le_of_ble_eq_true rfl⟩)) (fun r_1 hr_1 => ?_)
    obtain rfl : r_1 = none := hr_1
    refine lv_astoreN (lv' := [(5, .null), (0, .ref hg0), (1, .double dg), (3, .double bar)]) hx hb dX0_at_14 hl (by decide) rfl (fun ls hl => ?_)
    refine lv_aloadN hx hb dX0_at_16 (lv_at hl 0 rfl) ?_
    refine lv_ifnonnullN hx hb dX0_at_18 ?_
    refine lv_aload_n hx hb dX0_at_21 rfl (lv_at hl 1 rfl) ?_
    refine va_get (D := (dC, dI)) (ci := 0) (v := .ref nn.1) (C := RX0) (T := TX0) (N := 2) hx hb hts in_X0 hown hK hP 0 rfl rfl 0 (by decide) (hts _ q18) (fun _ h9 => h9) rfl dX0_at_22 ?_
    refine lv_dload_n hx hb dX0_at_25 rfl (lv_at hl 3 rfl) ?_
    refine vp_callSd (va_Run.run (va_runV (As := [.double bar]) (rest := []) ⟨hx, hb, hml, hown, hts⟩ (m_X3_at l dC dI nn.1 nn.2.1 (gx_hd post' none) nn.2.2 bar v hln) (cwV 1 hts (lw_V q102 q103 q104 q9 q105) rfl rfl rfl (by decide +kernel) ⟨Nat.le_of_ble_eq_true rfl, Nat.le_of_ble_eq_true rfl⟩) ⟨gx_fb, va_recv hK hPn (ci := 3) (q0 := 0) rfl rfl, fun U hU hW => ⟨rfl, gx_pre hPn hK hN hU hW⟩⟩ rfl rfl hl.1 rfl (lv_room (Nat.le_of_ble_eq_true rfl)) dX0_at_26 ⟨Nat.le_of_ble_eq_true rfl, Nat.le_of_ble_eq_true rfl⟩)) (fun r_2 hr_2 => ?_)
    have hr_2 := hr_2.symm
    subst hr_2
    exact W.dret (v := v) hx hb hr (fun t ht hW => ⟨v, rfl, rfl, ht⟩) (fun _ h => nomatch h) dX0_at_29
  · have hP : va_P (dC, dI) vwCl (gx_W hg0 cnt ((pre' ++ [rr]) ++ ([] : List gx_L))) s.heap := hP
    obtain ⟨a0, ha0⟩ : ∃ a, gx_hd ((pre' ++ [rr]) ++ ([] : List gx_L)) none = some a := by cases pre' <;> exact ⟨_, rfl⟩
    obtain ⟨kr, hkr⟩ := List.getElem?_of_mem (gx_line_mem2 hg0 cnt pre' rr ([] : List gx_L))
    have hPr := va_P_sub hP (gx_line_sub2 hg0 cnt pre' rr ([] : List gx_L))
    refine lv_aload_n hx hb dX0_at_0 rfl (lv_at hl 0 rfl) ?_
    refine va_get (D := (dC, dI)) (ci := 0) (v := .ref a0) (C := RX0) (T := TX0) (N := 2) hx hb hts in_X0 hown hK hP 0 rfl rfl 0 (by decide) (hts _ q18) (fun _ h9 => h9) (congrArg (fun o => some (va_rf o)) ha0) dX0_at_1 ?_
    refine lv_ifnonnull (tgt := 9) hx hb dX0_at_4 (by decide) ?_
    refine lv_aload_n hx hb dX0_at_9 rfl (lv_at hl 0 rfl) ?_
    refine lv_dload_n hx hb dX0_at_10 rfl (lv_at hl 1 rfl) ?_
    refine va_csq (va_Run.run (va_runV (As := [.double dg]) (rest := []) ⟨hx, hb, hml, hown, hts⟩ (m_X0_before l dC dI hg0 cnt (pre' ++ [rr]) ([] : List gx_L) dg hsp) (cwV 1 hts (lw_V q41 q43 qs0 q6 q44) rfl rfl rfl (by decide +kernel) ⟨Nat.le_of_ble_eq_true rfl, Nat.le_of_ble_eq_true rfl⟩) ⟨gx_fb, va_recv hK hP (ci := 0) (q0 := 0) rfl rfl, fun U hU hW => ⟨rfl, gx_pre hP hK hN hU hW⟩⟩ rfl rfl hl.1 rfl (lv_room (Nat.le_of_ble_eq_true rfl)) dX0_at_11 ⟨Nat.le_of_ble_eq_true rfl, Nat.le_of_ble_eq_true rfl⟩)) (fun r_3 hr_3 => ?_)
    obtain rfl : r_3 = some rr.1 := by rw [hr_3]; exact gx_la_app _ _ _
    refine lv_astore (lv' := [(5, .ref rr.1), (0, .ref hg0), (1, .double dg), (3, .double bar)]) hx hb dX0_at_14 hl (by decide) rfl (fun ls hl => ?_)
    refine lv_aload hx hb dX0_at_16 (lv_at hl 0 rfl) ?_
    refine lv_ifnonnull (tgt := 30) hx hb dX0_at_18 (by decide) ?_
    refine lv_aload hx hb dX0_at_30 (lv_at hl 0 rfl) ?_
    refine va_getN (D := (dC, dI)) (ci := 3) (v := .null) (C := RX3) (T := TX3) (N := 3) hx hb hts in_X3 hown hK hP kr hkr rfl 2 (by decide) (va_Nw.use rfl hN.2.2.2.2.1) (fun _ h9 => h9) rfl dX0_at_32 ?_
    refine lv_astoreN (lv' := [(6, .null), (5, .ref rr.1), (0, .ref hg0), (1, .double dg), (3, .double bar)]) hx hb dX0_at_35 hl (by decide) rfl (fun ls hl => ?_)
    refine lv_aloadN hx hb dX0_at_37 (lv_at hl 0 rfl) ?_
    refine lv_ifnullN (tgt := 52) hx hb dX0_at_39 (by decide) ?_
    refine lv_aload hx hb dX0_at_52 (lv_at hl 1 rfl) ?_
    refine lv_dload_n hx hb dX0_at_54 rfl (lv_at hl 4 rfl) ?_
    refine vp_callSd (va_Run.run (va_runV (As := [.double bar]) (rest := []) ⟨hx, hb, hml, hown, hts⟩ (m_X3_at l dC dI rr.1 rr.2.1 (gx_hd ([] : List gx_L) none) rr.2.2 bar v hlr) (cwV 1 hts (lw_V q102 q103 q104 q9 q105) rfl rfl rfl (by decide +kernel) ⟨Nat.le_of_ble_eq_true rfl, Nat.le_of_ble_eq_true rfl⟩) ⟨gx_fb, va_recv hK hPr (ci := 3) (q0 := 0) rfl rfl, fun U hU hW => ⟨rfl, gx_pre hPr hK hN hU hW⟩⟩ rfl rfl hl.1 rfl (lv_room (Nat.le_of_ble_eq_true rfl)) dX0_at_55 ⟨Nat.le_of_ble_eq_true rfl, Nat.le_of_ble_eq_true rfl⟩)) (fun r_4 hr_4 => ?_)
    have hr_4 := hr_4.symm
    subst hr_4
    refine lv_goto (tgt := 87) hx hb dX0_at_58 (by decide) ?_
    exact W.dret (v := v) hx hb hr (fun t ht hW => ⟨v, rfl, rfl, ht⟩) (fun _ h => nomatch h) dX0_at_87
  · have hP : va_P (dC, dI) vwCl (gx_W hg0 cnt ((pre' ++ [rr]) ++ (nn :: post'))) s.heap := hP
    obtain ⟨a0, ha0⟩ : ∃ a, gx_hd ((pre' ++ [rr]) ++ (nn :: post')) none = some a := by cases pre' <;> exact ⟨_, rfl⟩
    obtain ⟨kr, hkr⟩ := List.getElem?_of_mem (gx_line_mem2 hg0 cnt pre' rr (nn :: post'))
    have hPr := va_P_sub hP (gx_line_sub2 hg0 cnt pre' rr (nn :: post'))
    obtain ⟨kn, hkn⟩ := List.getElem?_of_mem (gx_line_mem hg0 cnt (pre' ++ [rr]) nn post')
    have hPn := va_P_sub hP (gx_line_sub hg0 cnt (pre' ++ [rr]) nn post')
    refine lv_aload_n hx hb dX0_at_0 rfl (lv_at hl 0 rfl) ?_
    refine va_get (D := (dC, dI)) (ci := 0) (v := .ref a0) (C := RX0) (T := TX0) (N := 2) hx hb hts in_X0 hown hK hP 0 rfl rfl 0 (by decide) (hts _ q18) (fun _ h9 => h9) (congrArg (fun o => some (va_rf o)) ha0) dX0_at_1 ?_
    refine lv_ifnonnull (tgt := 9) hx hb dX0_at_4 (by decide) ?_
    refine lv_aload_n hx hb dX0_at_9 rfl (lv_at hl 0 rfl) ?_
    refine lv_dload_n hx hb dX0_at_10 rfl (lv_at hl 1 rfl) ?_
    refine va_csq (va_Run.run (va_runV (As := [.double dg]) (rest := []) ⟨hx, hb, hml, hown, hts⟩ (m_X0_before l dC dI hg0 cnt (pre' ++ [rr]) (nn :: post') dg hsp) (cwV 1 hts (lw_V q41 q43 qs0 q6 q44) rfl rfl rfl (by decide +kernel) ⟨Nat.le_of_ble_eq_true rfl, Nat.le_of_ble_eq_true rfl⟩) ⟨gx_fb, va_recv hK hP (ci := 0) (q0 := 0) rfl rfl, fun U hU hW => ⟨rfl, gx_pre hP hK hN hU hW⟩⟩ rfl rfl hl.1 rfl (lv_room (Nat.le_of_ble_eq_true rfl)) dX0_at_11 ⟨Nat.le_of_ble_eq_true rfl, Nat.le_of_ble_eq_true rfl⟩)) (fun r_5 hr_5 => ?_)
    obtain rfl : r_5 = some rr.1 := by rw [hr_5]; exact gx_la_app _ _ _
    refine lv_astore (lv' := [(5, .ref rr.1), (0, .ref hg0), (1, .double dg), (3, .double bar)]) hx hb dX0_at_14 hl (by decide) rfl (fun ls hl => ?_)
    refine lv_aload hx hb dX0_at_16 (lv_at hl 0 rfl) ?_
    refine lv_ifnonnull (tgt := 30) hx hb dX0_at_18 (by decide) ?_
    refine lv_aload hx hb dX0_at_30 (lv_at hl 0 rfl) ?_
    refine va_getN (D := (dC, dI)) (ci := 3) (v := .ref nn.1) (C := RX3) (T := TX3) (N := 3) hx hb hts in_X3 hown hK hP kr hkr rfl 2 (by decide) (va_Nw.use rfl hN.2.2.2.2.1) (fun _ h9 => h9) rfl dX0_at_32 ?_
    refine lv_astore (lv' := [(6, .ref nn.1), (5, .ref rr.1), (0, .ref hg0), (1, .double dg), (3, .double bar)]) hx hb dX0_at_35 hl (by decide) rfl (fun ls hl => ?_)
    refine lv_aload hx hb dX0_at_37 (lv_at hl 0 rfl) ?_
    refine lv_ifnull hx hb dX0_at_39 ?_
    refine lv_aload hx hb dX0_at_42 (lv_at hl 1 rfl) ?_
    refine va_getN (D := (dC, dI)) (ci := 3) (v := .double rr.2.1) (C := RX3) (T := TX3) (N := 3) hx hb hts in_X3 hown hK hP kr hkr rfl 0 (by decide) (va_Nw.use rfl hN.2.2.2.1) (fun _ h9 => h9) rfl dX0_at_44 ?_
    refine lv_dload_n hx hb dX0_at_47 rfl (lv_at hl 3 rfl) ?_
    refine lv_dcmp hx hb dX0_at_48 ?_
    refine lv_if_ne (tgt := 61) hx hb dX0_at_49 (by decide) (fun c_6 => ?_) (fun c_6 => ?_)
    · exact absurd hc c_6
    · refine lv_aload hx hb dX0_at_52 (lv_at hl 1 rfl) ?_
      refine lv_dload_n hx hb dX0_at_54 rfl (lv_at hl 4 rfl) ?_
      refine vp_callSd (va_Run.run (va_runV (As := [.double bar]) (rest := []) ⟨hx, hb, hml, hown, hts⟩ (m_X3_at l dC dI rr.1 rr.2.1 (gx_hd (nn :: post') none) rr.2.2 bar v hlr) (cwV 1 hts (lw_V q102 q103 q104 q9 q105) rfl rfl rfl (by decide +kernel) ⟨Nat.le_of_ble_eq_true rfl, Nat.le_of_ble_eq_true rfl⟩) ⟨gx_fb, va_recv hK hPr (ci := 3) (q0 := 0) rfl rfl, fun U hU hW => ⟨rfl, gx_pre hPr hK hN hU hW⟩⟩ rfl rfl hl.1 rfl (lv_room (Nat.le_of_ble_eq_true rfl)) dX0_at_55 ⟨Nat.le_of_ble_eq_true rfl, Nat.le_of_ble_eq_true rfl⟩)) (fun r_7 hr_7 => ?_)
      have hr_7 := hr_7.symm
      subst hr_7
      refine lv_goto (tgt := 87) hx hb dX0_at_58 (by decide) ?_
      exact W.dret (v := v) hx hb hr (fun t ht hW => ⟨v, rfl, rfl, ht⟩) (fun _ h => nomatch h) dX0_at_87
  · have hP : va_P (dC, dI) vwCl (gx_W hg0 cnt ((pre' ++ [rr]) ++ (nn :: post'))) s.heap := hP
    obtain ⟨a0, ha0⟩ : ∃ a, gx_hd ((pre' ++ [rr]) ++ (nn :: post')) none = some a := by cases pre' <;> exact ⟨_, rfl⟩
    obtain ⟨kr, hkr⟩ := List.getElem?_of_mem (gx_line_mem2 hg0 cnt pre' rr (nn :: post'))
    have hPr := va_P_sub hP (gx_line_sub2 hg0 cnt pre' rr (nn :: post'))
    obtain ⟨kn, hkn⟩ := List.getElem?_of_mem (gx_line_mem hg0 cnt (pre' ++ [rr]) nn post')
    have hPn := va_P_sub hP (gx_line_sub hg0 cnt (pre' ++ [rr]) nn post')
    refine lv_aload_n hx hb dX0_at_0 rfl (lv_at hl 0 rfl) ?_
    refine va_get (D := (dC, dI)) (ci := 0) (v := .ref a0) (C := RX0) (T := TX0) (N := 2) hx hb hts in_X0 hown hK hP 0 rfl rfl 0 (by decide) (hts _ q18) (fun _ h9 => h9) (congrArg (fun o => some (va_rf o)) ha0) dX0_at_1 ?_
    refine lv_ifnonnull (tgt := 9) hx hb dX0_at_4 (by decide) ?_
    refine lv_aload_n hx hb dX0_at_9 rfl (lv_at hl 0 rfl) ?_
    refine lv_dload_n hx hb dX0_at_10 rfl (lv_at hl 1 rfl) ?_
    refine va_csq (va_Run.run (va_runV (As := [.double dg]) (rest := []) ⟨hx, hb, hml, hown, hts⟩ (m_X0_before l dC dI hg0 cnt (pre' ++ [rr]) (nn :: post') dg hsp) (cwV 1 hts (lw_V q41 q43 qs0 q6 q44) rfl rfl rfl (by decide +kernel) ⟨Nat.le_of_ble_eq_true rfl, Nat.le_of_ble_eq_true rfl⟩) ⟨gx_fb, va_recv hK hP (ci := 0) (q0 := 0) rfl rfl, fun U hU hW => ⟨rfl, gx_pre hP hK hN hU hW⟩⟩ rfl rfl hl.1 rfl (lv_room (Nat.le_of_ble_eq_true rfl)) dX0_at_11 ⟨Nat.le_of_ble_eq_true rfl, Nat.le_of_ble_eq_true rfl⟩)) (fun r_8 hr_8 => ?_)
    obtain rfl : r_8 = some rr.1 := by rw [hr_8]; exact gx_la_app _ _ _
    refine lv_astore (lv' := [(5, .ref rr.1), (0, .ref hg0), (1, .double dg), (3, .double bar)]) hx hb dX0_at_14 hl (by decide) rfl (fun ls hl => ?_)
    refine lv_aload hx hb dX0_at_16 (lv_at hl 0 rfl) ?_
    refine lv_ifnonnull (tgt := 30) hx hb dX0_at_18 (by decide) ?_
    refine lv_aload hx hb dX0_at_30 (lv_at hl 0 rfl) ?_
    refine va_getN (D := (dC, dI)) (ci := 3) (v := .ref nn.1) (C := RX3) (T := TX3) (N := 3) hx hb hts in_X3 hown hK hP kr hkr rfl 2 (by decide) (va_Nw.use rfl hN.2.2.2.2.1) (fun _ h9 => h9) rfl dX0_at_32 ?_
    refine lv_astore (lv' := [(6, .ref nn.1), (5, .ref rr.1), (0, .ref hg0), (1, .double dg), (3, .double bar)]) hx hb dX0_at_35 hl (by decide) rfl (fun ls hl => ?_)
    refine lv_aload hx hb dX0_at_37 (lv_at hl 0 rfl) ?_
    refine lv_ifnull hx hb dX0_at_39 ?_
    refine lv_aload hx hb dX0_at_42 (lv_at hl 1 rfl) ?_
    refine va_getN (D := (dC, dI)) (ci := 3) (v := .double rr.2.1) (C := RX3) (T := TX3) (N := 3) hx hb hts in_X3 hown hK hP kr hkr rfl 0 (by decide) (va_Nw.use rfl hN.2.2.2.1) (fun _ h9 => h9) rfl dX0_at_44 ?_
    refine lv_dload_n hx hb dX0_at_47 rfl (lv_at hl 3 rfl) ?_
    refine lv_dcmp hx hb dX0_at_48 ?_
    refine lv_if_ne (tgt := 61) hx hb dX0_at_49 (by decide) (fun c_9 => ?_) (fun c_9 => ?_)
    · refine lv_aload hx hb dX0_at_61 (lv_at hl 1 rfl) ?_
      refine va_getN (D := (dC, dI)) (ci := 3) (v := .double rr.2.1) (C := RX3) (T := TX3) (N := 3) hx hb hts in_X3 hown hK hP kr hkr rfl 0 (by decide) (va_Nw.use rfl hN.2.2.2.1) (fun _ h9 => h9) rfl dX0_at_63 ?_
      refine lv_aload hx hb dX0_at_66 (lv_at hl 1 rfl) ?_
      refine lv_dload_n hx hb dX0_at_68 rfl (lv_at hl 4 rfl) ?_
      refine vp_callSd (va_Run.run (va_runV (As := [.double bar]) (rest := [.double rr.2.1]) ⟨hx, hb, hml, hown, hts⟩ (m_X3_at l dC dI rr.1 rr.2.1 (gx_hd (nn :: post') none) rr.2.2 bar vp hlr) (cwV 1 hts (lw_V q102 q103 q104 q9 q105) rfl rfl rfl (by decide +kernel) ⟨Nat.le_of_ble_eq_true rfl, Nat.le_of_ble_eq_true rfl⟩) ⟨gx_fb, va_recv hK hPr (ci := 3) (q0 := 0) rfl rfl, fun U hU hW => ⟨rfl, gx_pre hPr hK hN hU hW⟩⟩ rfl rfl hl.1 rfl (lv_room (Nat.le_of_ble_eq_true rfl)) dX0_at_69 ⟨Nat.le_of_ble_eq_true rfl, Nat.le_of_ble_eq_true rfl⟩)) (fun r_10 hr_10 => ?_)
      have hr_10 := hr_10.symm
      subst hr_10
      refine lv_aload hx hb dX0_at_72 (lv_at hl 0 rfl) ?_
      refine va_getN (D := (dC, dI)) (ci := 3) (v := .double nn.2.1) (C := RX3) (T := TX3) (N := 3) hx hb hts in_X3 hown hK hP kn hkn rfl 0 (by decide) (va_Nw.use rfl hN.2.2.2.1) (fun _ h9 => h9) rfl dX0_at_74 ?_
      refine lv_aload hx hb dX0_at_77 (lv_at hl 0 rfl) ?_
      refine lv_dload_n hx hb dX0_at_79 rfl (lv_at hl 4 rfl) ?_
      refine vp_callSd (va_Run.run (va_runV (As := [.double bar]) (rest := [.double nn.2.1, .double vp, .double rr.2.1]) ⟨hx, hb, hml, hown, hts⟩ (m_X3_at l dC dI nn.1 nn.2.1 (gx_hd post' none) nn.2.2 bar vn hln) (cwV 1 hts (lw_V q102 q103 q104 q9 q105) rfl rfl rfl (by decide +kernel) ⟨Nat.le_of_ble_eq_true rfl, Nat.le_of_ble_eq_true rfl⟩) ⟨gx_fb, va_recv hK hPn (ci := 3) (q0 := 0) rfl rfl, fun U hU hW => ⟨rfl, gx_pre hPn hK hN hU hW⟩⟩ rfl rfl hl.1 rfl (lv_room (Nat.le_of_ble_eq_true rfl)) dX0_at_80 ⟨Nat.le_of_ble_eq_true rfl, Nat.le_of_ble_eq_true rfl⟩)) (fun r_11 hr_11 => ?_)
      have hr_11 := hr_11.symm
      subst hr_11
      refine lv_dload_n hx hb dX0_at_83 rfl (lv_at hl 3 rfl) ?_
      refine vp_callSd (va_Run.run (va_runS (As := [.double rr.2.1, .double vp, .double nn.2.1, .double vn, .double dg]) (rest := []) ⟨hx, hb, hml, hown, hts⟩ (m_X0_join l rr.2.1 vp nn.2.1 vn dg hj) (va_cwS 5 hts (lw_S q109 q107 q6 q108) rfl rfl rfl (by decide +kernel) ⟨Nat.le_of_ble_eq_true rfl, Nat.le_of_ble_eq_true rfl⟩) ⟨fun _ _ _ _ q => q, fun U hU hW => ⟨rfl, trivial⟩⟩ rfl rfl hl.1 rfl (lv_room (Nat.le_of_ble_eq_true rfl)) dX0_at_84 ⟨Nat.le_of_ble_eq_true rfl, Nat.le_of_ble_eq_true rfl⟩)) (fun r_12 hr_12 => ?_)
      subst hr_12
      exact W.dret (v := (gr_join rr.2.1 vp nn.2.1 vn dg)) hx hb hr (fun t ht hW => ⟨(gr_join rr.2.1 vp nn.2.1 vn dg), rfl, rfl, ht⟩) (fun _ h => nomatch h) dX0_at_87
    · exact absurd c_9 hc
end
section
/-! GasRows: what changes the lists: constructors, put -/
theorem gx_prm0 {α : Type} (A L B : List α) : (A ++ (L ++ B)).Perm (L ++ (A ++ B)) := by
  rw [← List.append_assoc, ← List.append_assoc]
  exact List.perm_append_comm.append_right B
theorem gx_prm2 {α : Type} (c a b : α) (X Y : List α) : (c :: a :: b :: (X ++ Y)).Perm (a :: b :: (X ++ c :: Y)) := (List.perm_middle (l₁ := a :: b :: X) (a := c) (l₂ := Y)).symm
theorem gx_prm3 {α : Type} (K L A B : List α) (c : α) : (K ++ (c :: (L ++ (A ++ B)))).Perm (c :: (L ++ (A ++ (K ++ B)))) := List.perm_middle.trans (List.Perm.cons _ ((gx_prm0 K L (A ++ B)).trans (List.Perm.append_left L (gx_prm0 K A B))))
theorem gx_rs_mid (a : List gx_R) (r : gx_R) (b : List gx_R) (nx : Option Nat) : gx_rs (a ++ r :: b) nx = gx_rs a (some r.1) ++ (r.1, .inr (2, [.double r.2.1, .double r.2.2, va_rf (gx_hd b nx)])) :: gx_rs b nx := gx_rs_app a (r :: b) nx
theorem gx_lc_eq (h3 : Nat) (dl : UInt64) (rs : List gx_R) (nx : Option Nat) : gx_lc (h3, dl, rs) nx = (h3, .inr (3, [.double dl, va_rf (gx_hd rs none), va_rf nx])) :: gx_rs rs none := rfl
theorem gx_lc_perm (h3 : Nat) (dl : UInt64) (a : List gx_R) (r : gx_R) (b : List gx_R) (nx : Option Nat) : (gx_lc (h3, dl, a ++ r :: b) nx).Perm ((r.1, .inr (2, [.double r.2.1, .double r.2.2, va_rf (gx_hd b none)])) :: (h3, .inr (3, [.double dl, va_rf (gx_hd a (some r.1)), va_rf nx])) :: (gx_rs a (some r.1) ++ gx_rs b none)) := by
  rw [gx_lc_eq, gx_rs_mid, gx_hd_app]
  exact (List.Perm.cons _ List.perm_middle).trans (List.Perm.swap _ _ _)
theorem gx_lc_perm2 (h3 : Nat) (dl : UInt64) (a : List gx_R) (r : gx_R) (b : List gx_R) (nx : Option Nat) : (gx_lc (h3, dl, (a ++ [r]) ++ b) nx).Perm ((r.1, .inr (2, [.double r.2.1, .double r.2.2, va_rf (gx_hd b none)])) :: (h3, .inr (3, [.double dl, va_rf (gx_hd a (some r.1)), va_rf nx])) :: (gx_rs a (some r.1) ++ gx_rs b none)) := by
  rw [List.append_assoc]
  exact gx_lc_perm h3 dl a r b nx
theorem gx_W_perm (h cnt : Nat) (a : List gx_L) (x : gx_L) (b : List gx_L) : (gx_W h cnt (a ++ x :: b)).Perm ((h, .inr (0, [va_rf (gx_hd a (some x.1)), .int (nI cnt)])) :: (gx_lc x (gx_hd b none) ++ (gx_ls a (some x.1) ++ gx_ls b none))) := by
  show ((h, .inr (0, [va_rf (gx_hd (a ++ x :: b) none), .int (nI cnt)])) :: gx_ls (a ++ x :: b) none : va_W).Perm _
  rw [gx_ls_app, gx_hd_app]
  exact List.Perm.cons _ (gx_prm0 (gx_ls a (some x.1)) (gx_lc x (gx_hd b none)) (gx_ls b none))
theorem gx_W_perm2 (h cnt : Nat) (a : List gx_L) (x : gx_L) (b : List gx_L) : (gx_W h cnt ((a ++ [x]) ++ b)).Perm ((h, .inr (0, [va_rf (gx_hd a (some x.1)), .int (nI cnt)])) :: (gx_lc x (gx_hd b none) ++ (gx_ls a (some x.1) ++ gx_ls b none))) := by
  rw [List.append_assoc]
  exact gx_W_perm h cnt a x b
theorem va_D_part {A : Nat → Prop} {ws wc wr : va_W} (h : va_D A ws) (hp : ws.Perm (wc ++ wr)) : va_D (fun _ => True) wc := by
  have h1 := va_D_mem.mp (va_D_perm h hp)
  rw [List.map_append, List.nodup_append] at h1
  exact va_D_mem.mpr ⟨h1.1.1, fun _ _ => trivial⟩
theorem gx_last {α : Type} (l : List α) : l = [] ∨ ∃ l' b, l = l' ++ [b] := by
  rcases List.eq_nil_or_concat l with h | ⟨l', b, h⟩
  · exact Or.inl h
  · exact Or.inr ⟨l', b, by rw [h, List.concat_eq_append]⟩
theorem gx_app_inj {α : Type} {a b : List α} {x y : α} (h : a ++ [x] = b ++ [y]) : a = b ∧ x = y := by
  have h1 := List.append_inj' h rfl
  exact ⟨h1.1, List.head_eq_of_cons_eq h1.2⟩
/-- the last key of a list isn't x -/
def lastne {α : Type} (l : List (Nat × UInt64 × α)) (x : UInt64) : Prop := ∀ l' r, l = l' ++ [r] → ¬ Op.cmpValue (FP.dcmp r.2.1 x) .l = 0
theorem lastne_nil {α : Type} (x : UInt64) : lastne (α := α) [] x := fun l' r h => by
  cases l' <;> cases h
theorem lastne_app {α : Type} {l : List (Nat × UInt64 × α)} {r : Nat × UInt64 × α} {x : UInt64} (h : ¬ Op.cmpValue (FP.dcmp r.2.1 x) .l = 0) : lastne (l ++ [r]) x := fun l' r' e => by
  rw [← (gx_app_inj e).2]
  exact h
/-- what put does to a line's rows -/
def pt_post (pre post : List gx_R) (bar gg : UInt64) (u : List gx_R) : Prop := (∃ p' rr, pre = p' ++ [rr] ∧ Op.cmpValue (FP.dcmp rr.2.1 bar) .l = 0 ∧ u = p' ++ (rr.1, rr.2.1, gg) :: post) ∨ (lastne pre bar ∧ ∃ k, u = pre ++ (k, bar, gg) :: post)
theorem pt_upd {p' post : List gx_R} {rr : gx_R} {bar gg : UInt64} {u : List gx_R} (hc : Op.cmpValue (FP.dcmp rr.2.1 bar) .l = 0) (h : pt_post (p' ++ [rr]) post bar gg u) : u = p' ++ (rr.1, rr.2.1, gg) :: post := by
  rcases h with ⟨p2, r2, e, -, hu⟩ | ⟨hn, -⟩
  · obtain ⟨rfl, rfl⟩ := gx_app_inj e
    exact hu
  · exact absurd hc (hn p' rr rfl)
theorem pt_new {pre post : List gx_R} {bar gg : UInt64} {u : List gx_R} (hn : lastne pre bar) (h : pt_post pre post bar gg u) : ∃ k, u = pre ++ (k, bar, gg) :: post := by
  rcases h with ⟨p2, r2, e, hc, -⟩ | ⟨-, h⟩
  · exact absurd hc (hn p2 r2 e)
  · exact h
theorem spl_nil {α : Type} (x : UInt64) : spl (α := α) [] [] x := And.intro (fun r h => nomatch h) (fun r h => by cases h)
theorem spl_ex {α : Type} (l : List (Nat × UInt64 × α)) (x : UInt64) : ∃ pre post, l = pre ++ post ∧ spl pre post x := by
  induction l with
  | nil => exact ⟨[], [], rfl, spl_nil x⟩
  | cons a l ih =>
    by_cases h : 0 < Op.cmpValue (FP.dcmp a.2.1 x) .g
    · exact ⟨[], a :: l, rfl, And.intro (fun r h => nomatch h) (fun r hr => by cases hr; exact h)⟩
    · obtain ⟨pre, post, e, h1, h2⟩ := ih
      refine ⟨a :: pre, post, by rw [e]; rfl, And.intro (fun r hr => ?_) h2⟩
      rcases List.mem_cons.mp hr with rfl | hr
      · exact h
      · exact h1 r hr

set_option maxHeartbeats 4000000 in
set_option maxRecDepth 100000 in
/-- GasRows$Row() -/
theorem m_X2_initN (l : Launch) (sz : Nat) (dC : Nat → ClassId) (dI : Nat → Nat → Nat) (h2 : Nat) (bar gg : UInt64) : Met l yX2_init (ws_ yX2_init cX2_init 6 none) ({ frames := 1, cells := 0, slots := 0, locals := 12 }) (va_Pc [.ref h2, .double bar, .double gg, .null] (fun U => U.heap.size = sz ∧ gx_B dC dI ([(h2, .inr (2, [.double 0, .double 0, .null]))]) U ∧ va_D (fun _ => True) ([(h2, .inr (2, [.double 0, .double 0, .null]))]))) (va_Qv (S := Unit) (fun _ => True) (fun _ t => gx_B dC dI ([(h2, .inr (2, [.double bar, .double gg, .null]))]) t ∧ va_D (va_A ([(h2, .inr (2, [.double 0, .double 0, .null]))]) sz) ([(h2, .inr (2, [.double bar, .double gg, .null]))])) (va_A ([(h2, .inr (2, [.double 0, .double 0, .null]))]) sz)) 0 0 (va_A ([(h2, .inr (2, [.double 0, .double 0, .null]))]) sz) := by
  refine Met.ofW (cc := cX2_init) (maxL := 6) (ret := none) (by decide) rfl ?_
  intro p e s m args below meth c s₁ B hml hv
  obtain ⟨rfl, hsz, ⟨hP, hK, hN⟩, hD0⟩ := hv
  have hx := B.exec
  have hb := B.bytes
  have hr := B.returns
  have hts := atoms_spec (ws := ws_ yX2_init cX2_init 6 none) B.pre
  have hts : ∀ w ∈ lw_all, w.before _ s = true := fun w h => hts w (List.mem_cons_of_mem _ h)
  have hown : s.vm.findClass RX2 = some m.cls := findClass_of_methodNamed B.named
  have hlocks := B.notSynchronized
  have hin : meth.name = "<init>" := (name_of_methodNamed B.named B.method).1
  subst hsz
  have hD := hD0.self (sz := s.heap.size)
  generalize hAe : va_A ([(h2, .inr (2, [.double 0, .double 0, .null]))]) s.heap.size = A at hD ⊢
  have hA : ∀ q : Nat, s.heap.size ≤ q → A q := fun q h => by rw [← hAe]; exact Or.inr h
  have hS : va_S A s.heap s.heap [] := va_S.rf
  have hl := lv_entry ([.ref h2, .double bar, .double gg, .null]) (n := 6) (Nat.le_of_ble_eq_true rfl)
  rw [lg_entry_eq]
  generalize (lg_sl ([.ref h2, .double bar, .double gg, .null]) ++ List.replicate (6 - (lg_sl ([.ref h2, .double bar, .double gg, .null])).length) Slot.unset).toArray = ls at hl ⊢
  have hl : lv_has ls 6 [(0, .ref h2), (1, .double bar), (3, .double gg), (5, .null)] := hl
  have hP : va_P (dC, dI) vwCl ([(h2, .inr (2, [.double 0, .double 0, .null]))]) s.heap := hP
  have hD : va_D A ([(h2, .inr (2, [.double 0, .double 0, .null]))]) := hD
  refine lv_aload_n hx hb dX2_init_0 rfl (lv_at hl 0 rfl) ?_
  refine W.objInit hx hb hown (hts _ q63) (hts _ q16) (hts _ q17) rfl (by rw [hml]; exact hl.1) rfl dX2_init_1 (Nat.le_of_ble_eq_true rfl) (Nat.le_of_ble_eq_true rfl) ?_
  refine W.eq (g2 := F0 m 4 ls []) rfl ?_
  refine lv_aload_n hx hb dX2_init_4 rfl (lv_at hl 0 rfl) ?_
  refine lv_dload_n hx hb dX2_init_5 rfl (lv_at hl 1 rfl) ?_
  refine va_putF (D := (dC, dI)) (ci := 2) (v := .double bar) (ty := .double) (C := RX2) (T := TX2) (N := 3) hx hb hts in_X2 tyX2 tyX2_ok nmX2 hown hK hP hD hS 0 rfl rfl 0 (by decide) (hts _ q64) (fun _ h9 => h9) rfl hin rfl (by decide +kernel) rfl rfl (Nat.le_of_ble_eq_true rfl) dX2_init_6 (fun H locs hP hD hS => ?_)
  have hP : va_P (dC, dI) vwCl ([(h2, .inr (2, [.double bar, .double 0, .null]))]) H := hP
  have hD : va_D A ([(h2, .inr (2, [.double bar, .double 0, .null]))]) := hD
  refine lv_aload_n hx hb dX2_init_9 rfl (lv_at hl 0 rfl) ?_
  refine lv_dload_n hx hb dX2_init_10 rfl (lv_at hl 2 rfl) ?_
  refine va_put (D := (dC, dI)) (ci := 2) (v := .double gg) (ty := .double) (C := RX2) (T := TX2) (N := 3) hx hb hts in_X2 tyX2 tyX2_ok nmX2 hown hK hP hD hS 0 rfl rfl 1 (by decide) (hts _ q66) (fun _ h9 => h9) rfl (by decide +kernel) rfl rfl (Nat.le_of_ble_eq_true rfl) dX2_init_11 (fun H locs hP hD hS => ?_)
  have hP : va_P (dC, dI) vwCl ([(h2, .inr (2, [.double bar, .double gg, .null]))]) H := hP
  have hD : va_D A ([(h2, .inr (2, [.double bar, .double gg, .null]))]) := hD
  refine lv_aload_n hx hb dX2_init_14 rfl (lv_at hl 0 rfl) ?_
  refine lv_aloadN hx hb dX2_init_15 (lv_at hl 3 rfl) ?_
  refine va_put (D := (dC, dI)) (ci := 2) (v := .null) (ty := .object "GasRows$Row") (C := RX2) (T := TX2) (N := 3) hx hb hts in_X2 tyX2 tyX2_ok nmX2 hown hK hP hD hS 0 rfl rfl 2 (by decide) (hts _ q68) (fun _ h9 => h9) rfl (by decide +kernel) rfl rfl (Nat.le_of_ble_eq_true rfl) dX2_init_17 (fun H locs hP hD hS => ?_)
  have hP : va_P (dC, dI) vwCl ([(h2, .inr (2, [.double bar, .double gg, .null]))]) H := hP
  have hD : va_D A ([(h2, .inr (2, [.double bar, .double gg, .null]))]) := hD
  exact W.vret hx hb hr (fun t ht hW => ⟨⟨(), rfl, trivial, ⟨by rw [ht]; exact hP, va_K.moved hW.alike hK, gx_N_warm hW hN⟩, hD⟩, hS.F ht⟩) hS.2.2 dX2_init_20

set_option maxHeartbeats 4000000 in
set_option maxRecDepth 100000 in
/-- GasRows$Row() -/
theorem m_X2_initR (l : Launch) (sz : Nat) (dC : Nat → ClassId) (dI : Nat → Nat → Nat) (h2 : Nat) (bar gg : UInt64) (b_ : Nat) : Met l yX2_init (ws_ yX2_init cX2_init 6 none) ({ frames := 1, cells := 0, slots := 0, locals := 12 }) (va_Pc [.ref h2, .double bar, .double gg, .ref b_] (fun U => U.heap.size = sz ∧ gx_B dC dI ([(h2, .inr (2, [.double 0, .double 0, .null]))]) U ∧ va_D (fun _ => True) ([(h2, .inr (2, [.double 0, .double 0, .null]))]))) (va_Qv (S := Unit) (fun _ => True) (fun _ t => gx_B dC dI ([(h2, .inr (2, [.double bar, .double gg, .ref b_]))]) t ∧ va_D (va_A ([(h2, .inr (2, [.double 0, .double 0, .null]))]) sz) ([(h2, .inr (2, [.double bar, .double gg, .ref b_]))])) (va_A ([(h2, .inr (2, [.double 0, .double 0, .null]))]) sz)) 0 0 (va_A ([(h2, .inr (2, [.double 0, .double 0, .null]))]) sz) := by
  refine Met.ofW (cc := cX2_init) (maxL := 6) (ret := none) (by decide) rfl ?_
  intro p e s m args below meth c s₁ B hml hv
  obtain ⟨rfl, hsz, ⟨hP, hK, hN⟩, hD0⟩ := hv
  have hx := B.exec
  have hb := B.bytes
  have hr := B.returns
  have hts := atoms_spec (ws := ws_ yX2_init cX2_init 6 none) B.pre
  have hts : ∀ w ∈ lw_all, w.before _ s = true := fun w h => hts w (List.mem_cons_of_mem _ h)
  have hown : s.vm.findClass RX2 = some m.cls := findClass_of_methodNamed B.named
  have hlocks := B.notSynchronized
  have hin : meth.name = "<init>" := (name_of_methodNamed B.named B.method).1
  subst hsz
  have hD := hD0.self (sz := s.heap.size)
  generalize hAe : va_A ([(h2, .inr (2, [.double 0, .double 0, .null]))]) s.heap.size = A at hD ⊢
  have hA : ∀ q : Nat, s.heap.size ≤ q → A q := fun q h => by rw [← hAe]; exact Or.inr h
  have hS : va_S A s.heap s.heap [] := va_S.rf
  have hl := lv_entry ([.ref h2, .double bar, .double gg, .ref b_]) (n := 6) (Nat.le_of_ble_eq_true rfl)
  rw [lg_entry_eq]
  generalize (lg_sl ([.ref h2, .double bar, .double gg, .ref b_]) ++ List.replicate (6 - (lg_sl ([.ref h2, .double bar, .double gg, .ref b_])).length) Slot.unset).toArray = ls at hl ⊢
  have hl : lv_has ls 6 [(0, .ref h2), (1, .double bar), (3, .double gg), (5, .ref b_)] := hl
  have hP : va_P (dC, dI) vwCl ([(h2, .inr (2, [.double 0, .double 0, .null]))]) s.heap := hP
  have hD : va_D A ([(h2, .inr (2, [.double 0, .double 0, .null]))]) := hD
  refine lv_aload_n hx hb dX2_init_0 rfl (lv_at hl 0 rfl) ?_
  refine W.objInit hx hb hown (hts _ q63) (hts _ q16) (hts _ q17) rfl (by rw [hml]; exact hl.1) rfl dX2_init_1 (Nat.le_of_ble_eq_true rfl) (Nat.le_of_ble_eq_true rfl) ?_
  refine W.eq (g2 := F0 m 4 ls []) rfl ?_
  refine lv_aload_n hx hb dX2_init_4 rfl (lv_at hl 0 rfl) ?_
  refine lv_dload_n hx hb dX2_init_5 rfl (lv_at hl 1 rfl) ?_
  refine va_putF (D := (dC, dI)) (ci := 2) (v := .double bar) (ty := .double) (C := RX2) (T := TX2) (N := 3) hx hb hts in_X2 tyX2 tyX2_ok nmX2 hown hK hP hD hS 0 rfl rfl 0 (by decide) (hts _ q64) (fun _ h9 => h9) rfl hin rfl (by decide +kernel) rfl rfl (Nat.le_of_ble_eq_true rfl) dX2_init_6 (fun H locs hP hD hS => ?_)
  have hP : va_P (dC, dI) vwCl ([(h2, .inr (2, [.double bar, .double 0, .null]))]) H := hP
  have hD : va_D A ([(h2, .inr (2, [.double bar, .double 0, .null]))]) := hD
  refine lv_aload_n hx hb dX2_init_9 rfl (lv_at hl 0 rfl) ?_
  refine lv_dload_n hx hb dX2_init_10 rfl (lv_at hl 2 rfl) ?_
  refine va_put (D := (dC, dI)) (ci := 2) (v := .double gg) (ty := .double) (C := RX2) (T := TX2) (N := 3) hx hb hts in_X2 tyX2 tyX2_ok nmX2 hown hK hP hD hS 0 rfl rfl 1 (by decide) (hts _ q66) (fun _ h9 => h9) rfl (by decide +kernel) rfl rfl (Nat.le_of_ble_eq_true rfl) dX2_init_11 (fun H locs hP hD hS => ?_)
  have hP : va_P (dC, dI) vwCl ([(h2, .inr (2, [.double bar, .double gg, .null]))]) H := hP
  have hD : va_D A ([(h2, .inr (2, [.double bar, .double gg, .null]))]) := hD
  refine lv_aload_n hx hb dX2_init_14 rfl (lv_at hl 0 rfl) ?_
  refine lv_aload hx hb dX2_init_15 (lv_at hl 3 rfl) ?_
  refine va_put (D := (dC, dI)) (ci := 2) (v := .ref b_) (ty := .object "GasRows$Row") (C := RX2) (T := TX2) (N := 3) hx hb hts in_X2 tyX2 tyX2_ok nmX2 hown hK hP hD hS 0 rfl rfl 2 (by decide) (hts _ q68) (fun _ h9 => h9) rfl (by decide +kernel) rfl rfl (Nat.le_of_ble_eq_true rfl) dX2_init_17 (fun H locs hP hD hS => ?_)
  have hP : va_P (dC, dI) vwCl ([(h2, .inr (2, [.double bar, .double gg, .ref b_]))]) H := hP
  have hD : va_D A ([(h2, .inr (2, [.double bar, .double gg, .ref b_]))]) := hD
  exact W.vret hx hb hr (fun t ht hW => ⟨⟨(), rfl, trivial, ⟨by rw [ht]; exact hP, va_K.moved hW.alike hK, gx_N_warm hW hN⟩, hD⟩, hS.F ht⟩) hS.2.2 dX2_init_20

set_option maxHeartbeats 4000000 in
set_option maxRecDepth 100000 in
/-- GasRows$Line() -/
theorem m_X3_initN (l : Launch) (sz : Nat) (dC : Nat → ClassId) (dI : Nat → Nat → Nat) (h3 : Nat) (dl : UInt64) : Met l yX3_init (ws_ yX3_init cX3_init 4 none) ({ frames := 1, cells := 0, slots := 0, locals := 12 }) (va_Pc [.ref h3, .double dl, .null] (fun U => U.heap.size = sz ∧ gx_B dC dI ([(h3, .inr (3, [.double 0, .null, .null]))]) U ∧ va_D (fun _ => True) ([(h3, .inr (3, [.double 0, .null, .null]))]))) (va_Qv (S := Unit) (fun _ => True) (fun _ t => gx_B dC dI ([(h3, .inr (3, [.double dl, .null, .null]))]) t ∧ va_D (va_A ([(h3, .inr (3, [.double 0, .null, .null]))]) sz) ([(h3, .inr (3, [.double dl, .null, .null]))])) (va_A ([(h3, .inr (3, [.double 0, .null, .null]))]) sz)) 0 0 (va_A ([(h3, .inr (3, [.double 0, .null, .null]))]) sz) := by
  refine Met.ofW (cc := cX3_init) (maxL := 4) (ret := none) (by decide) rfl ?_
  intro p e s m args below meth c s₁ B hml hv
  obtain ⟨rfl, hsz, ⟨hP, hK, hN⟩, hD0⟩ := hv
  have hx := B.exec
  have hb := B.bytes
  have hr := B.returns
  have hts := atoms_spec (ws := ws_ yX3_init cX3_init 4 none) B.pre
  have hts : ∀ w ∈ lw_all, w.before _ s = true := fun w h => hts w (List.mem_cons_of_mem _ h)
  have hown : s.vm.findClass RX3 = some m.cls := findClass_of_methodNamed B.named
  have hlocks := B.notSynchronized
  have hin : meth.name = "<init>" := (name_of_methodNamed B.named B.method).1
  subst hsz
  have hD := hD0.self (sz := s.heap.size)
  generalize hAe : va_A ([(h3, .inr (3, [.double 0, .null, .null]))]) s.heap.size = A at hD ⊢
  have hA : ∀ q : Nat, s.heap.size ≤ q → A q := fun q h => by rw [← hAe]; exact Or.inr h
  have hS : va_S A s.heap s.heap [] := va_S.rf
  have hl := lv_entry ([.ref h3, .double dl, .null]) (n := 4) (Nat.le_of_ble_eq_true rfl)
  rw [lg_entry_eq]
  generalize (lg_sl ([.ref h3, .double dl, .null]) ++ List.replicate (4 - (lg_sl ([.ref h3, .double dl, .null])).length) Slot.unset).toArray = ls at hl ⊢
  have hl : lv_has ls 4 [(0, .ref h3), (1, .double dl), (3, .null)] := hl
  have hP : va_P (dC, dI) vwCl ([(h3, .inr (3, [.double 0, .null, .null]))]) s.heap := hP
  have hD : va_D A ([(h3, .inr (3, [.double 0, .null, .null]))]) := hD
  refine lv_aload_n hx hb dX3_init_0 rfl (lv_at hl 0 rfl) ?_
  refine W.objInit hx hb hown (hts _ q81) (hts _ q16) (hts _ q17) rfl (by rw [hml]; exact hl.1) rfl dX3_init_1 (Nat.le_of_ble_eq_true rfl) (Nat.le_of_ble_eq_true rfl) ?_
  refine W.eq (g2 := F0 m 4 ls []) rfl ?_
  refine lv_aload_n hx hb dX3_init_4 rfl (lv_at hl 0 rfl) ?_
  refine lv_dload_n hx hb dX3_init_5 rfl (lv_at hl 1 rfl) ?_
  refine va_putF (D := (dC, dI)) (ci := 3) (v := .double dl) (ty := .double) (C := RX3) (T := TX3) (N := 3) hx hb hts in_X3 tyX3 tyX3_ok nmX3 hown hK hP hD hS 0 rfl rfl 0 (by decide) (hts _ q82) (fun _ h9 => h9) rfl hin rfl (by decide +kernel) rfl rfl (Nat.le_of_ble_eq_true rfl) dX3_init_6 (fun H locs hP hD hS => ?_)
  have hP : va_P (dC, dI) vwCl ([(h3, .inr (3, [.double dl, .null, .null]))]) H := hP
  have hD : va_D A ([(h3, .inr (3, [.double dl, .null, .null]))]) := hD
  refine lv_aload_n hx hb dX3_init_9 rfl (lv_at hl 0 rfl) ?_
  refine lv_aload_nN hx hb dX3_init_10 rfl (lv_at hl 2 rfl) ?_
  refine va_put (D := (dC, dI)) (ci := 3) (v := .null) (ty := .object "GasRows$Line") (C := RX3) (T := TX3) (N := 3) hx hb hts in_X3 tyX3 tyX3_ok nmX3 hown hK hP hD hS 0 rfl rfl 2 (by decide) (hts _ q85) (fun _ h9 => h9) rfl (by decide +kernel) rfl rfl (Nat.le_of_ble_eq_true rfl) dX3_init_11 (fun H locs hP hD hS => ?_)
  have hP : va_P (dC, dI) vwCl ([(h3, .inr (3, [.double dl, .null, .null]))]) H := hP
  have hD : va_D A ([(h3, .inr (3, [.double dl, .null, .null]))]) := hD
  exact W.vret hx hb hr (fun t ht hW => ⟨⟨(), rfl, trivial, ⟨by rw [ht]; exact hP, va_K.moved hW.alike hK, gx_N_warm hW hN⟩, hD⟩, hS.F ht⟩) hS.2.2 dX3_init_14

set_option maxHeartbeats 4000000 in
set_option maxRecDepth 100000 in
/-- GasRows$Line() -/
theorem m_X3_initR (l : Launch) (sz : Nat) (dC : Nat → ClassId) (dI : Nat → Nat → Nat) (h3 : Nat) (dl : UInt64) (b_ : Nat) : Met l yX3_init (ws_ yX3_init cX3_init 4 none) ({ frames := 1, cells := 0, slots := 0, locals := 12 }) (va_Pc [.ref h3, .double dl, .ref b_] (fun U => U.heap.size = sz ∧ gx_B dC dI ([(h3, .inr (3, [.double 0, .null, .null]))]) U ∧ va_D (fun _ => True) ([(h3, .inr (3, [.double 0, .null, .null]))]))) (va_Qv (S := Unit) (fun _ => True) (fun _ t => gx_B dC dI ([(h3, .inr (3, [.double dl, .null, .ref b_]))]) t ∧ va_D (va_A ([(h3, .inr (3, [.double 0, .null, .null]))]) sz) ([(h3, .inr (3, [.double dl, .null, .ref b_]))])) (va_A ([(h3, .inr (3, [.double 0, .null, .null]))]) sz)) 0 0 (va_A ([(h3, .inr (3, [.double 0, .null, .null]))]) sz) := by
  refine Met.ofW (cc := cX3_init) (maxL := 4) (ret := none) (by decide) rfl ?_
  intro p e s m args below meth c s₁ B hml hv
  obtain ⟨rfl, hsz, ⟨hP, hK, hN⟩, hD0⟩ := hv
  have hx := B.exec
  have hb := B.bytes
  have hr := B.returns
  have hts := atoms_spec (ws := ws_ yX3_init cX3_init 4 none) B.pre
  have hts : ∀ w ∈ lw_all, w.before _ s = true := fun w h => hts w (List.mem_cons_of_mem _ h)
  have hown : s.vm.findClass RX3 = some m.cls := findClass_of_methodNamed B.named
  have hlocks := B.notSynchronized
  have hin : meth.name = "<init>" := (name_of_methodNamed B.named B.method).1
  subst hsz
  have hD := hD0.self (sz := s.heap.size)
  generalize hAe : va_A ([(h3, .inr (3, [.double 0, .null, .null]))]) s.heap.size = A at hD ⊢
  have hA : ∀ q : Nat, s.heap.size ≤ q → A q := fun q h => by rw [← hAe]; exact Or.inr h
  have hS : va_S A s.heap s.heap [] := va_S.rf
  have hl := lv_entry ([.ref h3, .double dl, .ref b_]) (n := 4) (Nat.le_of_ble_eq_true rfl)
  rw [lg_entry_eq]
  generalize (lg_sl ([.ref h3, .double dl, .ref b_]) ++ List.replicate (4 - (lg_sl ([.ref h3, .double dl, .ref b_])).length) Slot.unset).toArray = ls at hl ⊢
  have hl : lv_has ls 4 [(0, .ref h3), (1, .double dl), (3, .ref b_)] := hl
  have hP : va_P (dC, dI) vwCl ([(h3, .inr (3, [.double 0, .null, .null]))]) s.heap := hP
  have hD : va_D A ([(h3, .inr (3, [.double 0, .null, .null]))]) := hD
  refine lv_aload_n hx hb dX3_init_0 rfl (lv_at hl 0 rfl) ?_
  refine W.objInit hx hb hown (hts _ q81) (hts _ q16) (hts _ q17) rfl (by rw [hml]; exact hl.1) rfl dX3_init_1 (Nat.le_of_ble_eq_true rfl) (Nat.le_of_ble_eq_true rfl) ?_
  refine W.eq (g2 := F0 m 4 ls []) rfl ?_
  refine lv_aload_n hx hb dX3_init_4 rfl (lv_at hl 0 rfl) ?_
  refine lv_dload_n hx hb dX3_init_5 rfl (lv_at hl 1 rfl) ?_
  refine va_putF (D := (dC, dI)) (ci := 3) (v := .double dl) (ty := .double) (C := RX3) (T := TX3) (N := 3) hx hb hts in_X3 tyX3 tyX3_ok nmX3 hown hK hP hD hS 0 rfl rfl 0 (by decide) (hts _ q82) (fun _ h9 => h9) rfl hin rfl (by decide +kernel) rfl rfl (Nat.le_of_ble_eq_true rfl) dX3_init_6 (fun H locs hP hD hS => ?_)
  have hP : va_P (dC, dI) vwCl ([(h3, .inr (3, [.double dl, .null, .null]))]) H := hP
  have hD : va_D A ([(h3, .inr (3, [.double dl, .null, .null]))]) := hD
  refine lv_aload_n hx hb dX3_init_9 rfl (lv_at hl 0 rfl) ?_
  refine lv_aload_n hx hb dX3_init_10 rfl (lv_at hl 2 rfl) ?_
  refine va_put (D := (dC, dI)) (ci := 3) (v := .ref b_) (ty := .object "GasRows$Line") (C := RX3) (T := TX3) (N := 3) hx hb hts in_X3 tyX3 tyX3_ok nmX3 hown hK hP hD hS 0 rfl rfl 2 (by decide) (hts _ q85) (fun _ h9 => h9) rfl (by decide +kernel) rfl rfl (Nat.le_of_ble_eq_true rfl) dX3_init_11 (fun H locs hP hD hS => ?_)
  have hP : va_P (dC, dI) vwCl ([(h3, .inr (3, [.double dl, .null, .ref b_]))]) H := hP
  have hD : va_D A ([(h3, .inr (3, [.double dl, .null, .ref b_]))]) := hD
  exact W.vret hx hb hr (fun t ht hW => ⟨⟨(), rfl, trivial, ⟨by rw [ht]; exact hP, va_K.moved hW.alike hK, gx_N_warm hW hN⟩, hD⟩, hS.F ht⟩) hS.2.2 dX3_init_14

set_option maxHeartbeats 4000000 in
set_option maxRecDepth 100000 in
/-- GasRows() -/
theorem m_X0_init (l : Launch) (sz : Nat) (dC : Nat → ClassId) (dI : Nat → Nat → Nat) (hg0 : Nat) : Met l yX0_init (ws_ yX0_init cX0_init 1 none) ({ frames := 1, cells := 0, slots := 0, locals := 12 }) (va_Pc [.ref hg0] (fun U => U.heap.size = sz ∧ gx_B dC dI ([(hg0, .inr (0, [.null, .int 0]))]) U ∧ va_D (fun _ => True) ([(hg0, .inr (0, [.null, .int 0]))]))) (va_Qv (S := Unit) (fun _ => True) (fun _ t => gx_B dC dI ([(hg0, .inr (0, [.null, .int 0]))]) t ∧ va_D (va_A ([(hg0, .inr (0, [.null, .int 0]))]) sz) ([(hg0, .inr (0, [.null, .int 0]))])) (va_A ([(hg0, .inr (0, [.null, .int 0]))]) sz)) 0 0 (va_A ([(hg0, .inr (0, [.null, .int 0]))]) sz) := by
  refine Met.ofW (cc := cX0_init) (maxL := 1) (ret := none) (by decide) rfl ?_
  intro p e s m args below meth c s₁ B hml hv
  obtain ⟨rfl, hsz, ⟨hP, hK, hN⟩, hD0⟩ := hv
  have hx := B.exec
  have hb := B.bytes
  have hr := B.returns
  have hts := atoms_spec (ws := ws_ yX0_init cX0_init 1 none) B.pre
  have hts : ∀ w ∈ lw_all, w.before _ s = true := fun w h => hts w (List.mem_cons_of_mem _ h)
  have hown : s.vm.findClass RX0 = some m.cls := findClass_of_methodNamed B.named
  have hlocks := B.notSynchronized
  have hin : meth.name = "<init>" := (name_of_methodNamed B.named B.method).1
  subst hsz
  have hD := hD0.self (sz := s.heap.size)
  generalize hAe : va_A ([(hg0, .inr (0, [.null, .int 0]))]) s.heap.size = A at hD ⊢
  have hA : ∀ q : Nat, s.heap.size ≤ q → A q := fun q h => by rw [← hAe]; exact Or.inr h
  have hS : va_S A s.heap s.heap [] := va_S.rf
  have hl := lv_entry ([.ref hg0]) (n := 1) (Nat.le_of_ble_eq_true rfl)
  rw [lg_entry_eq]
  generalize (lg_sl ([.ref hg0]) ++ List.replicate (1 - (lg_sl ([.ref hg0])).length) Slot.unset).toArray = ls at hl ⊢
  have hl : lv_has ls 1 [(0, .ref hg0)] := hl
  have hP : va_P (dC, dI) vwCl ([(hg0, .inr (0, [.null, .int 0]))]) s.heap := hP
  have hD : va_D A ([(hg0, .inr (0, [.null, .int 0]))]) := hD
  refine lv_aload_n hx hb dX0_init_0 rfl (lv_at hl 0 rfl) ?_
  refine W.objInit hx hb hown (hts _ q15) (hts _ q16) (hts _ q17) rfl (by rw [hml]; exact hl.1) rfl dX0_init_1 (Nat.le_of_ble_eq_true rfl) (Nat.le_of_ble_eq_true rfl) ?_
  refine W.eq (g2 := F0 m 4 ls []) rfl ?_
  exact W.vret hx hb hr (fun t ht hW => ⟨⟨(), rfl, trivial, ⟨by rw [ht]; exact hP, va_K.moved hW.alike hK, gx_N_warm hW hN⟩, hD⟩, hS.F ht⟩) hS.2.2 dX0_init_4

set_option maxHeartbeats 4000000 in
set_option maxRecDepth 100000 in
/-- GasRows$Line.put -/
theorem m_X3_put (l : Launch) (sz : Nat) (dC : Nat → ClassId) (dI : Nat → Nat → Nat) (h3 : Nat) (dl : UInt64) (nx : Option Nat) (pre post : List gx_R) (bar gg : UInt64) (hsp : spl pre post bar) : Met l yX3_put (ws_ yX3_put cX3_put 6 none) ({ frames := 2, cells := 1, slots := 3, locals := 37 }) (va_Pc [.ref h3, .double bar, .double gg] (fun U => U.heap.size = sz ∧ gx_B dC dI (gx_lc (h3, dl, pre ++ post) nx) U ∧ va_D (fun _ => True) (gx_lc (h3, dl, pre ++ post) nx))) (va_Qv (S := List gx_R) (fun u => pt_post pre post bar gg u) (fun u t => gx_B dC dI (gx_lc (h3, dl, u) nx) t ∧ va_D (va_A (gx_lc (h3, dl, pre ++ post) nx) sz) (gx_lc (h3, dl, u) nx)) (va_A (gx_lc (h3, dl, pre ++ post) nx) sz)) 1 3 (va_A (gx_lc (h3, dl, pre ++ post) nx) sz) := by
  refine Met.ofW (cc := cX3_put) (maxL := 6) (ret := none) (by decide) rfl ?_
  intro p e s m args below meth c s₁ B hml hv
  obtain ⟨rfl, hsz, ⟨hP, hK, hN⟩, hD0⟩ := hv
  have hx := B.exec
  have hb := B.bytes
  have hr := B.returns
  have hts := atoms_spec (ws := ws_ yX3_put cX3_put 6 none) B.pre
  have hts : ∀ w ∈ lw_all, w.before _ s = true := fun w h => hts w (List.mem_cons_of_mem _ h)
  have hown : s.vm.findClass RX3 = some m.cls := findClass_of_methodNamed B.named
  have hlocks := B.notSynchronized
  subst hsz
  have hD := hD0.self (sz := s.heap.size)
  generalize hAe : va_A (gx_lc (h3, dl, pre ++ post) nx) s.heap.size = A at hD ⊢
  have hA : ∀ q : Nat, s.heap.size ≤ q → A q := fun q h => by rw [← hAe]; exact Or.inr h
  have hS : va_S A s.heap s.heap [] := va_S.rf
  have hl := lv_entry ([.ref h3, .double bar, .double gg]) (n := 6) (Nat.le_of_ble_eq_true rfl)
  rw [lg_entry_eq]
  generalize (lg_sl ([.ref h3, .double bar, .double gg]) ++ List.replicate (6 - (lg_sl ([.ref h3, .double bar, .double gg])).length) Slot.unset).toArray = ls at hl ⊢
  have hl : lv_has ls 6 [(0, .ref h3), (1, .double bar), (3, .double gg)] := hl
  have hP : va_P (dC, dI) vwCl (gx_lc (h3, dl, pre ++ post) nx) s.heap := hP
  have hD : va_D A (gx_lc (h3, dl, pre ++ post) nx) := hD
  rcases gx_last pre with rfl | ⟨pre', rr, rfl⟩
  · refine lv_aload_n hx hb dX3_put_0 rfl (lv_at hl 0 rfl) ?_
    refine lv_dload_n hx hb dX3_put_1 rfl (lv_at hl 1 rfl) ?_
    refine va_csq (va_Run.run (va_runV (As := [.double bar]) (rest := []) ⟨hx, hb, hml, hown, hts⟩ (m_X3_before l dC dI h3 dl nx ([] : List gx_R) post bar hsp) (cwV 1 hts (lw_V q49 q51 qs1 q9 q53) rfl rfl rfl (by decide +kernel) ⟨Nat.le_of_ble_eq_true rfl, Nat.le_of_ble_eq_true rfl⟩) ⟨gx_fb, va_recv hK hP (ci := 3) (q0 := 0) rfl rfl, fun U hU hW => ⟨rfl, gx_pre hP hK hN hU hW⟩⟩ rfl rfl hl.1 rfl (lv_room (Nat.le_of_ble_eq_true rfl)) dX3_put_2 ⟨Nat.le_of_ble_eq_true rfl, Nat.le_of_ble_eq_true rfl⟩)) (fun r_1 hr_1 => ?_)
    obtain rfl : r_1 = none := hr_1
    refine lv_astoreN (lv' := [(5, .null), (0, .ref h3), (1, .double bar), (3, .double gg)]) hx hb dX3_put_5 hl (by decide) rfl (fun ls hl => ?_)
    refine lv_aloadN hx hb dX3_put_7 (lv_at hl 0 rfl) ?_
    refine lv_ifnullN (tgt := 31) hx hb dX3_put_9 (by decide) ?_
    refine lv_aloadN hx hb dX3_put_31 (lv_at hl 0 rfl) ?_
    refine lv_ifnonnullN hx hb dX3_put_33 ?_
    cases post with
    | nil =>
      have hP : va_P (dC, dI) vwCl (gx_lc (h3, dl, ([] : List gx_R) ++ ([] : List gx_R)) nx) s.heap := hP
      have hD : va_D A (gx_lc (h3, dl, ([] : List gx_R) ++ ([] : List gx_R)) nx) := hD
      refine lv_aload_n hx hb dX3_put_36 rfl (lv_at hl 1 rfl) ?_
      refine va_new (ci := 2) (fs := [.double 0, .double 0, .null]) (C := RX2) (T := TX2) (N := 3) hx hb hts in_X2 tyX2 tyX2_ok hown (hts _ q58) (hts _ q59) (hts _ q8) hK hP hD hS hA rfl (fun j hj => by rcases (show j = 0 ∨ j = 1 ∨ j = 2 by omega) with rfl | rfl | rfl <;> rfl) (Nat.le_of_ble_eq_true rfl) (Nat.le_of_ble_eq_true rfl) dX3_put_37 (fun q2 H hP hD hS => ?_)
      have hP : va_P (dC, dI) vwCl ((gx_lc (h3, dl, ([] : List gx_R) ++ ([] : List gx_R)) nx) ++ [(q2, .inr (2, [.double 0, .double 0, .null]))]) H := hP
      have hD : va_D A ((gx_lc (h3, dl, ([] : List gx_R) ++ ([] : List gx_R)) nx) ++ [(q2, .inr (2, [.double 0, .double 0, .null]))]) := hD
      refine lv_dup hx hb dX3_put_40 rfl ?_
      refine lv_dload_n hx hb dX3_put_41 rfl (lv_at hl 2 rfl) ?_
      refine lv_dload_n hx hb dX3_put_42 rfl (lv_at hl 3 rfl) ?_
      refine lv_aload_n hx hb dX3_put_43 rfl (lv_at hl 1 rfl) ?_
      refine va_get (D := (dC, dI)) (ci := 3) (v := .null) (C := RX3) (T := TX3) (N := 3) hx hb hts in_X3 hown hK hP 0 rfl rfl 1 (by decide) (hts _ q84) (fun _ h9 => h9) rfl dX3_put_44 ?_
      have hpm : List.Perm _ (([(q2, .inr (2, [.double 0, .double 0, .null]))]) ++ (gx_lc (h3, dl, ([] : List gx_R) ++ ([] : List gx_R)) nx)) := List.perm_append_comm
      have hPc : va_P (dC, dI) vwCl ([(q2, .inr (2, [.double 0, .double 0, .null]))]) H := va_P_sub hP (fun q hq => hpm.mem_iff.mpr (List.mem_append_left _ hq))
      have hDc : va_D (fun _ => True) ([(q2, .inr (2, [.double 0, .double 0, .null]))]) := va_D_part hD hpm
      have hFc := va_freeM (wc := [(q2, .inr (2, [.double 0, .double 0, .null]))]) hD hS hA (fun q hq => hpm.mem_iff.mpr (List.mem_append_left _ hq))
      refine va_callv (va_runI (As := [.double bar, .double gg, .null]) (rest := [.ref q2, .ref h3]) ⟨hx, hb, hml, hown, hts⟩ (m_X2_initN l H.size dC dI q2 bar gg) (cwI 3 hts (lw_meth q62) rfl rfl rfl (hts _ q8) (hts _ q60) (hts _ q61) rfl (by decide +kernel) ⟨Nat.le_of_ble_eq_true rfl, Nat.le_of_ble_eq_true rfl⟩) ⟨gy_fb, fun U hU hW => ⟨rfl, by rw [hU], gx_pre hPc hK hN hU hW, hDc⟩⟩ rfl rfl hl.1 rfl (lv_room (Nat.le_of_ble_eq_true rfl)) dX3_put_47 ⟨Nat.le_of_ble_eq_true rfl, Nat.le_of_ble_eq_true rfl⟩) hS (fun q _ h => hFc q h) hFc (fun u t H1 locs ht hvm hw hB hz1 hk1 hS => ?_)
      obtain ⟨⟨hP1, hK1, hN1⟩, hD1⟩ := hB
      rw [ht] at hP1
      obtain ⟨hP, hD⟩ := va_joinM hP hD hpm hk1 hFc hP1 hD1
      generalize H1 = H at hP hS ⊢
      have hP : va_P (dC, dI) vwCl ((q2, .inr (2, [.double bar, .double gg, .null])) :: (gx_lc (h3, dl, ([] : List gx_R) ++ ([] : List gx_R)) nx)) H := hP
      have hD : va_D A ((q2, .inr (2, [.double bar, .double gg, .null])) :: (gx_lc (h3, dl, ([] : List gx_R) ++ ([] : List gx_R)) nx)) := hD
      refine va_put (D := (dC, dI)) (ci := 3) (v := .ref q2) (ty := .object "GasRows$Row") (C := RX3) (T := TX3) (N := 3) hx hb hts in_X3 tyX3 tyX3_ok nmX3 hown hK hP hD hS 1 rfl rfl 1 (by decide) (hts _ q84) (fun _ h9 => h9) rfl (by decide +kernel) rfl rfl (Nat.le_of_ble_eq_true rfl) dX3_put_50 (fun H locs hP hD hS => ?_)
      have hP : va_P (dC, dI) vwCl ((q2, .inr (2, [.double bar, .double gg, .null])) :: (h3, .inr (3, [.double dl, .ref q2, va_rf nx])) :: gx_rs ([] : List gx_R) none) H := hP
      have hD : va_D A ((q2, .inr (2, [.double bar, .double gg, .null])) :: (h3, .inr (3, [.double dl, .ref q2, va_rf nx])) :: gx_rs ([] : List gx_R) none) := hD
      refine lv_goto (tgt := 75) hx hb dX3_put_53 (by decide) ?_
      have hP : va_P (dC, dI) vwCl (gx_lc (h3, dl, (q2, bar, gg) :: ([] : List gx_R)) nx) H := va_P_perm hP (List.Perm.swap _ _ _)
      have hD : va_D A (gx_lc (h3, dl, (q2, bar, gg) :: ([] : List gx_R)) nx) := va_D_perm hD (List.Perm.swap _ _ _)
      refine W.widen (k := 1) (n := 3) (Nat.le_of_ble_eq_true rfl) (Nat.le_of_ble_eq_true rfl) ?_
      exact W.vret hx hb hr (fun t ht hW => ⟨⟨(q2, bar, gg) :: ([] : List gx_R), rfl, Or.inr ⟨lastne_nil _, q2, rfl⟩, ⟨by rw [ht]; exact hP, va_K.moved hW.alike hK, gx_N_warm hW hN⟩, hD⟩, hS.F ht⟩) hS.2.2 dX3_put_75
    | cons nn post' =>
      have hP : va_P (dC, dI) vwCl (gx_lc (h3, dl, ([] : List gx_R) ++ (nn :: post')) nx) s.heap := hP
      have hD : va_D A (gx_lc (h3, dl, ([] : List gx_R) ++ (nn :: post')) nx) := hD
      refine lv_aload_n hx hb dX3_put_36 rfl (lv_at hl 1 rfl) ?_
      refine va_new (ci := 2) (fs := [.double 0, .double 0, .null]) (C := RX2) (T := TX2) (N := 3) hx hb hts in_X2 tyX2 tyX2_ok hown (hts _ q58) (hts _ q59) (hts _ q8) hK hP hD hS hA rfl (fun j hj => by rcases (show j = 0 ∨ j = 1 ∨ j = 2 by omega) with rfl | rfl | rfl <;> rfl) (Nat.le_of_ble_eq_true rfl) (Nat.le_of_ble_eq_true rfl) dX3_put_37 (fun q2 H hP hD hS => ?_)
      have hP : va_P (dC, dI) vwCl ((gx_lc (h3, dl, ([] : List gx_R) ++ (nn :: post')) nx) ++ [(q2, .inr (2, [.double 0, .double 0, .null]))]) H := hP
      have hD : va_D A ((gx_lc (h3, dl, ([] : List gx_R) ++ (nn :: post')) nx) ++ [(q2, .inr (2, [.double 0, .double 0, .null]))]) := hD
      refine lv_dup hx hb dX3_put_40 rfl ?_
      refine lv_dload_n hx hb dX3_put_41 rfl (lv_at hl 2 rfl) ?_
      refine lv_dload_n hx hb dX3_put_42 rfl (lv_at hl 3 rfl) ?_
      refine lv_aload_n hx hb dX3_put_43 rfl (lv_at hl 1 rfl) ?_
      refine va_get (D := (dC, dI)) (ci := 3) (v := .ref nn.1) (C := RX3) (T := TX3) (N := 3) hx hb hts in_X3 hown hK hP 0 rfl rfl 1 (by decide) (hts _ q84) (fun _ h9 => h9) rfl dX3_put_44 ?_
      have hpm : List.Perm _ (([(q2, .inr (2, [.double 0, .double 0, .null]))]) ++ (gx_lc (h3, dl, ([] : List gx_R) ++ (nn :: post')) nx)) := List.perm_append_comm
      have hPc : va_P (dC, dI) vwCl ([(q2, .inr (2, [.double 0, .double 0, .null]))]) H := va_P_sub hP (fun q hq => hpm.mem_iff.mpr (List.mem_append_left _ hq))
      have hDc : va_D (fun _ => True) ([(q2, .inr (2, [.double 0, .double 0, .null]))]) := va_D_part hD hpm
      have hFc := va_freeM (wc := [(q2, .inr (2, [.double 0, .double 0, .null]))]) hD hS hA (fun q hq => hpm.mem_iff.mpr (List.mem_append_left _ hq))
      refine va_callv (va_runI (As := [.double bar, .double gg, .ref nn.1]) (rest := [.ref q2, .ref h3]) ⟨hx, hb, hml, hown, hts⟩ (m_X2_initR l H.size dC dI q2 bar gg nn.1) (cwI 3 hts (lw_meth q62) rfl rfl rfl (hts _ q8) (hts _ q60) (hts _ q61) rfl (by decide +kernel) ⟨Nat.le_of_ble_eq_true rfl, Nat.le_of_ble_eq_true rfl⟩) ⟨gy_fb, fun U hU hW => ⟨rfl, by rw [hU], gx_pre hPc hK hN hU hW, hDc⟩⟩ rfl rfl hl.1 rfl (lv_room (Nat.le_of_ble_eq_true rfl)) dX3_put_47 ⟨Nat.le_of_ble_eq_true rfl, Nat.le_of_ble_eq_true rfl⟩) hS (fun q _ h => hFc q h) hFc (fun u t H1 locs ht hvm hw hB hz1 hk1 hS => ?_)
      obtain ⟨⟨hP1, hK1, hN1⟩, hD1⟩ := hB
      rw [ht] at hP1
      obtain ⟨hP, hD⟩ := va_joinM hP hD hpm hk1 hFc hP1 hD1
      generalize H1 = H at hP hS ⊢
      have hP : va_P (dC, dI) vwCl ((q2, .inr (2, [.double bar, .double gg, .ref nn.1])) :: (gx_lc (h3, dl, ([] : List gx_R) ++ (nn :: post')) nx)) H := hP
      have hD : va_D A ((q2, .inr (2, [.double bar, .double gg, .ref nn.1])) :: (gx_lc (h3, dl, ([] : List gx_R) ++ (nn :: post')) nx)) := hD
      refine va_put (D := (dC, dI)) (ci := 3) (v := .ref q2) (ty := .object "GasRows$Row") (C := RX3) (T := TX3) (N := 3) hx hb hts in_X3 tyX3 tyX3_ok nmX3 hown hK hP hD hS 1 rfl rfl 1 (by decide) (hts _ q84) (fun _ h9 => h9) rfl (by decide +kernel) rfl rfl (Nat.le_of_ble_eq_true rfl) dX3_put_50 (fun H locs hP hD hS => ?_)
      have hP : va_P (dC, dI) vwCl ((q2, .inr (2, [.double bar, .double gg, .ref nn.1])) :: (h3, .inr (3, [.double dl, .ref q2, va_rf nx])) :: gx_rs (nn :: post') none) H := hP
      have hD : va_D A ((q2, .inr (2, [.double bar, .double gg, .ref nn.1])) :: (h3, .inr (3, [.double dl, .ref q2, va_rf nx])) :: gx_rs (nn :: post') none) := hD
      refine lv_goto (tgt := 75) hx hb dX3_put_53 (by decide) ?_
      have hP : va_P (dC, dI) vwCl (gx_lc (h3, dl, (q2, bar, gg) :: (nn :: post')) nx) H := va_P_perm hP (List.Perm.swap _ _ _)
      have hD : va_D A (gx_lc (h3, dl, (q2, bar, gg) :: (nn :: post')) nx) := va_D_perm hD (List.Perm.swap _ _ _)
      refine W.widen (k := 1) (n := 3) (Nat.le_of_ble_eq_true rfl) (Nat.le_of_ble_eq_true rfl) ?_
      exact W.vret hx hb hr (fun t ht hW => ⟨⟨(q2, bar, gg) :: (nn :: post'), rfl, Or.inr ⟨lastne_nil _, q2, rfl⟩, ⟨by rw [ht]; exact hP, va_K.moved hW.alike hK, gx_N_warm hW hN⟩, hD⟩, hS.F ht⟩) hS.2.2 dX3_put_75
  · refine lv_aload_n hx hb dX3_put_0 rfl (lv_at hl 0 rfl) ?_
    refine lv_dload_n hx hb dX3_put_1 rfl (lv_at hl 1 rfl) ?_
    refine va_csq (va_Run.run (va_runV (As := [.double bar]) (rest := []) ⟨hx, hb, hml, hown, hts⟩ (m_X3_before l dC dI h3 dl nx (pre' ++ [rr]) post bar hsp) (cwV 1 hts (lw_V q49 q51 qs1 q9 q53) rfl rfl rfl (by decide +kernel) ⟨Nat.le_of_ble_eq_true rfl, Nat.le_of_ble_eq_true rfl⟩) ⟨gx_fb, va_recv hK hP (ci := 3) (q0 := 0) rfl rfl, fun U hU hW => ⟨rfl, gx_pre hP hK hN hU hW⟩⟩ rfl rfl hl.1 rfl (lv_room (Nat.le_of_ble_eq_true rfl)) dX3_put_2 ⟨Nat.le_of_ble_eq_true rfl, Nat.le_of_ble_eq_true rfl⟩)) (fun r_2 hr_2 => ?_)
    obtain rfl : r_2 = some rr.1 := by rw [hr_2]; exact gx_la_app _ _ _
    have hP := va_P_perm hP (gx_lc_perm2 h3 dl pre' rr post nx)
    have hD := va_D_perm hD (gx_lc_perm2 h3 dl pre' rr post nx)
    refine lv_astore (lv' := [(5, .ref rr.1), (0, .ref h3), (1, .double bar), (3, .double gg)]) hx hb dX3_put_5 hl (by decide) rfl (fun ls hl => ?_)
    refine lv_aload hx hb dX3_put_7 (lv_at hl 0 rfl) ?_
    refine lv_ifnull hx hb dX3_put_9 ?_
    refine lv_aload hx hb dX3_put_12 (lv_at hl 0 rfl) ?_
    refine va_getN (D := (dC, dI)) (ci := 2) (v := .double rr.2.1) (C := RX2) (T := TX2) (N := 3) hx hb hts in_X2 hown hK hP 0 rfl rfl 0 (by decide) (va_Nw.use rfl hN.1) (fun _ h9 => h9) rfl dX3_put_14 ?_
    refine lv_dload_n hx hb dX3_put_17 rfl (lv_at hl 2 rfl) ?_
    refine lv_dcmp hx hb dX3_put_18 ?_
    refine lv_if_ne (tgt := 31) hx hb dX3_put_19 (by decide) (fun c_3 => ?_) (fun c_3 => ?_)
    · refine lv_aload hx hb dX3_put_31 (lv_at hl 0 rfl) ?_
      refine lv_ifnonnull (tgt := 56) hx hb dX3_put_33 (by decide) ?_
      cases post with
      | nil =>
        have hP : va_P (dC, dI) vwCl ((rr.1, .inr (2, [.double rr.2.1, .double rr.2.2, .null])) :: (h3, .inr (3, [.double dl, va_rf (gx_hd pre' (some rr.1)), va_rf nx])) :: (gx_rs pre' (some rr.1) ++ gx_rs ([] : List gx_R) none)) s.heap := hP
        have hD : va_D A ((rr.1, .inr (2, [.double rr.2.1, .double rr.2.2, .null])) :: (h3, .inr (3, [.double dl, va_rf (gx_hd pre' (some rr.1)), va_rf nx])) :: (gx_rs pre' (some rr.1) ++ gx_rs ([] : List gx_R) none)) := hD
        refine lv_aload hx hb dX3_put_56 (lv_at hl 0 rfl) ?_
        refine va_new (ci := 2) (fs := [.double 0, .double 0, .null]) (C := RX2) (T := TX2) (N := 3) hx hb hts in_X2 tyX2 tyX2_ok hown (hts _ q58) (hts _ q59) (hts _ q8) hK hP hD hS hA rfl (fun j hj => by rcases (show j = 0 ∨ j = 1 ∨ j = 2 by omega) with rfl | rfl | rfl <;> rfl) (Nat.le_of_ble_eq_true rfl) (Nat.le_of_ble_eq_true rfl) dX3_put_58 (fun q2 H hP hD hS => ?_)
        have hP : va_P (dC, dI) vwCl (((rr.1, .inr (2, [.double rr.2.1, .double rr.2.2, .null])) :: (h3, .inr (3, [.double dl, va_rf (gx_hd pre' (some rr.1)), va_rf nx])) :: (gx_rs pre' (some rr.1) ++ gx_rs ([] : List gx_R) none)) ++ [(q2, .inr (2, [.double 0, .double 0, .null]))]) H := hP
        have hD : va_D A (((rr.1, .inr (2, [.double rr.2.1, .double rr.2.2, .null])) :: (h3, .inr (3, [.double dl, va_rf (gx_hd pre' (some rr.1)), va_rf nx])) :: (gx_rs pre' (some rr.1) ++ gx_rs ([] : List gx_R) none)) ++ [(q2, .inr (2, [.double 0, .double 0, .null]))]) := hD
        refine lv_dup hx hb dX3_put_61 rfl ?_
        refine lv_dload_n hx hb dX3_put_62 rfl (lv_at hl 2 rfl) ?_
        refine lv_dload_n hx hb dX3_put_63 rfl (lv_at hl 3 rfl) ?_
        refine lv_aload hx hb dX3_put_64 (lv_at hl 0 rfl) ?_
        refine va_getN (D := (dC, dI)) (ci := 2) (v := .null) (C := RX2) (T := TX2) (N := 3) hx hb hts in_X2 hown hK hP 0 rfl rfl 2 (by decide) (va_Nw.use rfl hN.2.2.1) (fun _ h9 => h9) rfl dX3_put_66 ?_
        have hpm : List.Perm _ (([(q2, .inr (2, [.double 0, .double 0, .null]))]) ++ ((rr.1, .inr (2, [.double rr.2.1, .double rr.2.2, .null])) :: (h3, .inr (3, [.double dl, va_rf (gx_hd pre' (some rr.1)), va_rf nx])) :: (gx_rs pre' (some rr.1) ++ gx_rs ([] : List gx_R) none))) := List.perm_append_comm
        have hPc : va_P (dC, dI) vwCl ([(q2, .inr (2, [.double 0, .double 0, .null]))]) H := va_P_sub hP (fun q hq => hpm.mem_iff.mpr (List.mem_append_left _ hq))
        have hDc : va_D (fun _ => True) ([(q2, .inr (2, [.double 0, .double 0, .null]))]) := va_D_part hD hpm
        have hFc := va_freeM (wc := [(q2, .inr (2, [.double 0, .double 0, .null]))]) hD hS hA (fun q hq => hpm.mem_iff.mpr (List.mem_append_left _ hq))
        refine va_callv (va_runI (As := [.double bar, .double gg, .null]) (rest := [.ref q2, .ref rr.1]) ⟨hx, hb, hml, hown, hts⟩ (m_X2_initN l H.size dC dI q2 bar gg) (cwI 3 hts (lw_meth q62) rfl rfl rfl (hts _ q8) (hts _ q60) (hts _ q61) rfl (by decide +kernel) ⟨Nat.le_of_ble_eq_true rfl, Nat.le_of_ble_eq_true rfl⟩) ⟨gy_fb, fun U hU hW => ⟨rfl, by rw [hU], gx_pre hPc hK hN hU hW, hDc⟩⟩ rfl rfl hl.1 rfl (lv_room (Nat.le_of_ble_eq_true rfl)) dX3_put_69 ⟨Nat.le_of_ble_eq_true rfl, Nat.le_of_ble_eq_true rfl⟩) hS (fun q _ h => hFc q h) hFc (fun u t H1 locs ht hvm hw hB hz1 hk1 hS => ?_)
        obtain ⟨⟨hP1, hK1, hN1⟩, hD1⟩ := hB
        rw [ht] at hP1
        obtain ⟨hP, hD⟩ := va_joinM hP hD hpm hk1 hFc hP1 hD1
        generalize H1 = H at hP hS ⊢
        have hP : va_P (dC, dI) vwCl ((q2, .inr (2, [.double bar, .double gg, .null])) :: (rr.1, .inr (2, [.double rr.2.1, .double rr.2.2, .null])) :: (h3, .inr (3, [.double dl, va_rf (gx_hd pre' (some rr.1)), va_rf nx])) :: (gx_rs pre' (some rr.1) ++ gx_rs ([] : List gx_R) none)) H := hP
        have hD : va_D A ((q2, .inr (2, [.double bar, .double gg, .null])) :: (rr.1, .inr (2, [.double rr.2.1, .double rr.2.2, .null])) :: (h3, .inr (3, [.double dl, va_rf (gx_hd pre' (some rr.1)), va_rf nx])) :: (gx_rs pre' (some rr.1) ++ gx_rs ([] : List gx_R) none)) := hD
        refine va_putN (D := (dC, dI)) (ci := 2) (v := .ref q2) (ty := .object "GasRows$Row") (C := RX2) (T := TX2) (N := 3) hx hb hts in_X2 tyX2 tyX2_ok nmX2 hown hK hP hD hS 1 rfl rfl 2 (by decide) (va_Nw.use rfl hN.2.2.1) (fun _ h9 => h9) rfl (by decide +kernel) rfl rfl (Nat.le_of_ble_eq_true rfl) dX3_put_72 (fun H locs hP hD hS => ?_)
        have hP : va_P (dC, dI) vwCl ((q2, .inr (2, [.double bar, .double gg, .null])) :: (rr.1, .inr (2, [.double rr.2.1, .double rr.2.2, .ref q2])) :: (h3, .inr (3, [.double dl, va_rf (gx_hd pre' (some rr.1)), va_rf nx])) :: (gx_rs pre' (some rr.1) ++ gx_rs ([] : List gx_R) none)) H := hP
        have hD : va_D A ((q2, .inr (2, [.double bar, .double gg, .null])) :: (rr.1, .inr (2, [.double rr.2.1, .double rr.2.2, .ref q2])) :: (h3, .inr (3, [.double dl, va_rf (gx_hd pre' (some rr.1)), va_rf nx])) :: (gx_rs pre' (some rr.1) ++ gx_rs ([] : List gx_R) none)) := hD
        have hP : va_P (dC, dI) vwCl (gx_lc (h3, dl, pre' ++ rr :: (q2, bar, gg) :: ([] : List gx_R)) nx) H := va_P_perm hP ((gx_prm2 _ _ _ _ _).trans (gx_lc_perm h3 dl pre' rr ((q2, bar, gg) :: ([] : List gx_R)) nx).symm)
        have hD : va_D A (gx_lc (h3, dl, pre' ++ rr :: (q2, bar, gg) :: ([] : List gx_R)) nx) := va_D_perm hD ((gx_prm2 _ _ _ _ _).trans (gx_lc_perm h3 dl pre' rr ((q2, bar, gg) :: ([] : List gx_R)) nx).symm)
        refine W.widen (k := 1) (n := 3) (Nat.le_of_ble_eq_true rfl) (Nat.le_of_ble_eq_true rfl) ?_
        exact W.vret hx hb hr (fun t ht hW => ⟨⟨pre' ++ rr :: (q2, bar, gg) :: ([] : List gx_R), rfl, Or.inr ⟨lastne_app c_3, q2, by rw [List.append_assoc]; rfl⟩, ⟨by rw [ht]; exact hP, va_K.moved hW.alike hK, gx_N_warm hW hN⟩, hD⟩, hS.F ht⟩) hS.2.2 dX3_put_75
      | cons nn post' =>
        have hP : va_P (dC, dI) vwCl ((rr.1, .inr (2, [.double rr.2.1, .double rr.2.2, .ref nn.1])) :: (h3, .inr (3, [.double dl, va_rf (gx_hd pre' (some rr.1)), va_rf nx])) :: (gx_rs pre' (some rr.1) ++ gx_rs (nn :: post') none)) s.heap := hP
        have hD : va_D A ((rr.1, .inr (2, [.double rr.2.1, .double rr.2.2, .ref nn.1])) :: (h3, .inr (3, [.double dl, va_rf (gx_hd pre' (some rr.1)), va_rf nx])) :: (gx_rs pre' (some rr.1) ++ gx_rs (nn :: post') none)) := hD
        refine lv_aload hx hb dX3_put_56 (lv_at hl 0 rfl) ?_
        refine va_new (ci := 2) (fs := [.double 0, .double 0, .null]) (C := RX2) (T := TX2) (N := 3) hx hb hts in_X2 tyX2 tyX2_ok hown (hts _ q58) (hts _ q59) (hts _ q8) hK hP hD hS hA rfl (fun j hj => by rcases (show j = 0 ∨ j = 1 ∨ j = 2 by omega) with rfl | rfl | rfl <;> rfl) (Nat.le_of_ble_eq_true rfl) (Nat.le_of_ble_eq_true rfl) dX3_put_58 (fun q2 H hP hD hS => ?_)
        have hP : va_P (dC, dI) vwCl (((rr.1, .inr (2, [.double rr.2.1, .double rr.2.2, .ref nn.1])) :: (h3, .inr (3, [.double dl, va_rf (gx_hd pre' (some rr.1)), va_rf nx])) :: (gx_rs pre' (some rr.1) ++ gx_rs (nn :: post') none)) ++ [(q2, .inr (2, [.double 0, .double 0, .null]))]) H := hP
        have hD : va_D A (((rr.1, .inr (2, [.double rr.2.1, .double rr.2.2, .ref nn.1])) :: (h3, .inr (3, [.double dl, va_rf (gx_hd pre' (some rr.1)), va_rf nx])) :: (gx_rs pre' (some rr.1) ++ gx_rs (nn :: post') none)) ++ [(q2, .inr (2, [.double 0, .double 0, .null]))]) := hD
        refine lv_dup hx hb dX3_put_61 rfl ?_
        refine lv_dload_n hx hb dX3_put_62 rfl (lv_at hl 2 rfl) ?_
        refine lv_dload_n hx hb dX3_put_63 rfl (lv_at hl 3 rfl) ?_
        refine lv_aload hx hb dX3_put_64 (lv_at hl 0 rfl) ?_
        refine va_getN (D := (dC, dI)) (ci := 2) (v := .ref nn.1) (C := RX2) (T := TX2) (N := 3) hx hb hts in_X2 hown hK hP 0 rfl rfl 2 (by decide) (va_Nw.use rfl hN.2.2.1) (fun _ h9 => h9) rfl dX3_put_66 ?_
        have hpm : List.Perm _ (([(q2, .inr (2, [.double 0, .double 0, .null]))]) ++ ((rr.1, .inr (2, [.double rr.2.1, .double rr.2.2, .ref nn.1])) :: (h3, .inr (3, [.double dl, va_rf (gx_hd pre' (some rr.1)), va_rf nx])) :: (gx_rs pre' (some rr.1) ++ gx_rs (nn :: post') none))) := List.perm_append_comm
        have hPc : va_P (dC, dI) vwCl ([(q2, .inr (2, [.double 0, .double 0, .null]))]) H := va_P_sub hP (fun q hq => hpm.mem_iff.mpr (List.mem_append_left _ hq))
        have hDc : va_D (fun _ => True) ([(q2, .inr (2, [.double 0, .double 0, .null]))]) := va_D_part hD hpm
        have hFc := va_freeM (wc := [(q2, .inr (2, [.double 0, .double 0, .null]))]) hD hS hA (fun q hq => hpm.mem_iff.mpr (List.mem_append_left _ hq))
        refine va_callv (va_runI (As := [.double bar, .double gg, .ref nn.1]) (rest := [.ref q2, .ref rr.1]) ⟨hx, hb, hml, hown, hts⟩ (m_X2_initR l H.size dC dI q2 bar gg nn.1) (cwI 3 hts (lw_meth q62) rfl rfl rfl (hts _ q8) (hts _ q60) (hts _ q61) rfl (by decide +kernel) ⟨Nat.le_of_ble_eq_true rfl, Nat.le_of_ble_eq_true rfl⟩) ⟨gy_fb, fun U hU hW => ⟨rfl, by rw [hU], gx_pre hPc hK hN hU hW, hDc⟩⟩ rfl rfl hl.1 rfl (lv_room (Nat.le_of_ble_eq_true rfl)) dX3_put_69 ⟨Nat.le_of_ble_eq_true rfl, Nat.le_of_ble_eq_true rfl⟩) hS (fun q _ h => hFc q h) hFc (fun u t H1 locs ht hvm hw hB hz1 hk1 hS => ?_)
        obtain ⟨⟨hP1, hK1, hN1⟩, hD1⟩ := hB
        rw [ht] at hP1
        obtain ⟨hP, hD⟩ := va_joinM hP hD hpm hk1 hFc hP1 hD1
        generalize H1 = H at hP hS ⊢
        have hP : va_P (dC, dI) vwCl ((q2, .inr (2, [.double bar, .double gg, .ref nn.1])) :: (rr.1, .inr (2, [.double rr.2.1, .double rr.2.2, .ref nn.1])) :: (h3, .inr (3, [.double dl, va_rf (gx_hd pre' (some rr.1)), va_rf nx])) :: (gx_rs pre' (some rr.1) ++ gx_rs (nn :: post') none)) H := hP
        have hD : va_D A ((q2, .inr (2, [.double bar, .double gg, .ref nn.1])) :: (rr.1, .inr (2, [.double rr.2.1, .double rr.2.2, .ref nn.1])) :: (h3, .inr (3, [.double dl, va_rf (gx_hd pre' (some rr.1)), va_rf nx])) :: (gx_rs pre' (some rr.1) ++ gx_rs (nn :: post') none)) := hD
        refine va_putN (D := (dC, dI)) (ci := 2) (v := .ref q2) (ty := .object "GasRows$Row") (C := RX2) (T := TX2) (N := 3) hx hb hts in_X2 tyX2 tyX2_ok nmX2 hown hK hP hD hS 1 rfl rfl 2 (by decide) (va_Nw.use rfl hN.2.2.1) (fun _ h9 => h9) rfl (by decide +kernel) rfl rfl (Nat.le_of_ble_eq_true rfl) dX3_put_72 (fun H locs hP hD hS => ?_)
        have hP : va_P (dC, dI) vwCl ((q2, .inr (2, [.double bar, .double gg, .ref nn.1])) :: (rr.1, .inr (2, [.double rr.2.1, .double rr.2.2, .ref q2])) :: (h3, .inr (3, [.double dl, va_rf (gx_hd pre' (some rr.1)), va_rf nx])) :: (gx_rs pre' (some rr.1) ++ gx_rs (nn :: post') none)) H := hP
        have hD : va_D A ((q2, .inr (2, [.double bar, .double gg, .ref nn.1])) :: (rr.1, .inr (2, [.double rr.2.1, .double rr.2.2, .ref q2])) :: (h3, .inr (3, [.double dl, va_rf (gx_hd pre' (some rr.1)), va_rf nx])) :: (gx_rs pre' (some rr.1) ++ gx_rs (nn :: post') none)) := hD
        have hP : va_P (dC, dI) vwCl (gx_lc (h3, dl, pre' ++ rr :: (q2, bar, gg) :: (nn :: post')) nx) H := va_P_perm hP ((gx_prm2 _ _ _ _ _).trans (gx_lc_perm h3 dl pre' rr ((q2, bar, gg) :: (nn :: post')) nx).symm)
        have hD : va_D A (gx_lc (h3, dl, pre' ++ rr :: (q2, bar, gg) :: (nn :: post')) nx) := va_D_perm hD ((gx_prm2 _ _ _ _ _).trans (gx_lc_perm h3 dl pre' rr ((q2, bar, gg) :: (nn :: post')) nx).symm)
        refine W.widen (k := 1) (n := 3) (Nat.le_of_ble_eq_true rfl) (Nat.le_of_ble_eq_true rfl) ?_
        exact W.vret hx hb hr (fun t ht hW => ⟨⟨pre' ++ rr :: (q2, bar, gg) :: (nn :: post'), rfl, Or.inr ⟨lastne_app c_3, q2, by rw [List.append_assoc]; rfl⟩, ⟨by rw [ht]; exact hP, va_K.moved hW.alike hK, gx_N_warm hW hN⟩, hD⟩, hS.F ht⟩) hS.2.2 dX3_put_75
    · refine lv_aload hx hb dX3_put_22 (lv_at hl 0 rfl) ?_
      refine lv_dload_n hx hb dX3_put_24 rfl (lv_at hl 3 rfl) ?_
      refine va_putN (D := (dC, dI)) (ci := 2) (v := .double gg) (ty := .double) (C := RX2) (T := TX2) (N := 3) hx hb hts in_X2 tyX2 tyX2_ok nmX2 hown hK hP hD hS 0 rfl rfl 1 (by decide) (va_Nw.use rfl hN.2.1) (fun _ h9 => h9) rfl (by decide +kernel) rfl rfl (Nat.le_of_ble_eq_true rfl) dX3_put_25 (fun H locs hP hD hS => ?_)
      have hP : va_P (dC, dI) vwCl ((rr.1, .inr (2, [.double rr.2.1, .double gg, va_rf (gx_hd post none)])) :: (h3, .inr (3, [.double dl, va_rf (gx_hd pre' (some rr.1)), va_rf nx])) :: (gx_rs pre' (some rr.1) ++ gx_rs post none)) H := hP
      have hD : va_D A ((rr.1, .inr (2, [.double rr.2.1, .double gg, va_rf (gx_hd post none)])) :: (h3, .inr (3, [.double dl, va_rf (gx_hd pre' (some rr.1)), va_rf nx])) :: (gx_rs pre' (some rr.1) ++ gx_rs post none)) := hD
      refine lv_goto (tgt := 75) hx hb dX3_put_28 (by decide) ?_
      have hP : va_P (dC, dI) vwCl (gx_lc (h3, dl, pre' ++ (rr.1, rr.2.1, gg) :: post) nx) H := va_P_perm hP ((gx_lc_perm h3 dl pre' (rr.1, rr.2.1, gg) post nx).symm)
      have hD : va_D A (gx_lc (h3, dl, pre' ++ (rr.1, rr.2.1, gg) :: post) nx) := va_D_perm hD ((gx_lc_perm h3 dl pre' (rr.1, rr.2.1, gg) post nx).symm)
      refine W.widen (k := 1) (n := 3) (Nat.le_of_ble_eq_true rfl) (Nat.le_of_ble_eq_true rfl) ?_
      exact W.vret hx hb hr (fun t ht hW => ⟨⟨pre' ++ (rr.1, rr.2.1, gg) :: post, rfl, Or.inl ⟨pre', rr, rfl, c_3, rfl⟩, ⟨by rw [ht]; exact hP, va_K.moved hW.alike hK, gx_N_warm hW hN⟩, hD⟩, hS.F ht⟩) hS.2.2 dX3_put_75
end
section
/-! GasRows.row -/
def xr_post (cnt : Nat) (xs : List gx_L) (dg bar gg : UInt64) (r : Int32) (u : Nat × List gx_L) : Prop :=
  ((gr_place dg bar = 0 ∨ gr_in gg FP.dconst0 k_100 = 0) ∧ r = 0 ∧ u = (cnt, xs)) ∨
  (¬ gr_place dg bar = 0 ∧ ¬ gr_in gg FP.dconst0 k_100 = 0 ∧ ∃ pre post, xs = pre ++ post ∧ spl pre post dg ∧
    ((∃ pre' h3 dl p q, pre = pre' ++ [(h3, dl, p ++ q)] ∧ Op.cmpValue (FP.dcmp dl dg) .l = 0 ∧ spl p q bar ∧
        ((r = 1 ∧ ∃ p' rr, p = p' ++ [rr] ∧ Op.cmpValue (FP.dcmp rr.2.1 bar) .l = 0 ∧ u = (cnt, pre' ++ (h3, dl, p' ++ (rr.1, rr.2.1, gg) :: q) :: post)) ∨
         (lastne p bar ∧ ((cnt = 30 ∧ r = 0 ∧ u = (cnt, xs)) ∨ (cnt < 30 ∧ r = 1 ∧ ∃ k, u = (cnt + 1, pre' ++ (h3, dl, p ++ (k, bar, gg) :: q) :: post)))))) ∨
     (lastne pre dg ∧ ((cnt = 30 ∧ r = 0 ∧ u = (cnt, xs)) ∨ (cnt < 30 ∧ r = 1 ∧ ∃ k k2, u = (cnt + 1, pre ++ (k, dg, [(k2, bar, gg)]) :: post))))))
theorem cnt_lt {cnt : Nat} (h : cnt ≤ 30) (c : nI cnt ≠ 30) : cnt < 30 := by
  rcases Nat.lt_or_eq_of_le h with h | h
  · exact h
  · exact absurd (by rw [h]; rfl) c

set_option maxHeartbeats 4000000 in
set_option maxRecDepth 100000 in
/-- GasRows.row -/
theorem m_X0_row (l : Launch) (sz : Nat) (dC : Nat → ClassId) (dI : Nat → Nat → Nat) (hg0 cnt : Nat) (xs : List gx_L) (dg bar gg : UInt64) (hcnt : cnt ≤ 30) : Met l yX0_row (ws_ yX0_row cX0_row 10 (some .boolean)) ({ frames := 3, cells := 2, slots := 6, locals := 62 }) (va_Pc [.ref hg0, .double dg, .double bar, .double gg] (fun U => U.heap.size = sz ∧ gx_B dC dI (gx_W hg0 cnt xs) U ∧ va_D (fun _ => True) (gx_W hg0 cnt xs))) (va_Qi (S := Nat × List gx_L) (fun r u => xr_post cnt xs dg bar gg r u) (fun u t => gx_B dC dI (gx_W hg0 u.1 u.2) t ∧ va_D (va_A (gx_W hg0 cnt xs) sz) (gx_W hg0 u.1 u.2)) (va_A (gx_W hg0 cnt xs) sz)) 2 6 (va_A (gx_W hg0 cnt xs) sz) := by
  refine Met.ofW (cc := cX0_row) (maxL := 10) (ret := (some .boolean)) (by decide) rfl ?_
  intro p e s m args below meth c s₁ B hml hv
  obtain ⟨rfl, hsz, ⟨hP, hK, hN⟩, hD0⟩ := hv
  have hx := B.exec
  have hb := B.bytes
  have hr := B.returns
  have hts := atoms_spec (ws := ws_ yX0_row cX0_row 10 (some .boolean)) B.pre
  have hts : ∀ w ∈ lw_all, w.before _ s = true := fun w h => hts w (List.mem_cons_of_mem _ h)
  have hown : s.vm.findClass RX0 = some m.cls := findClass_of_methodNamed B.named
  have hlocks := B.notSynchronized
  subst hsz
  have hD := hD0.self (sz := s.heap.size)
  generalize hAe : va_A (gx_W hg0 cnt xs) s.heap.size = A at hD ⊢
  have hA : ∀ q : Nat, s.heap.size ≤ q → A q := fun q h => by rw [← hAe]; exact Or.inr h
  have hS : va_S A s.heap s.heap [] := va_S.rf
  have hl := lv_entry ([.ref hg0, .double dg, .double bar, .double gg]) (n := 10) (Nat.le_of_ble_eq_true rfl)
  rw [lg_entry_eq]
  generalize (lg_sl ([.ref hg0, .double dg, .double bar, .double gg]) ++ List.replicate (10 - (lg_sl ([.ref hg0, .double dg, .double bar, .double gg])).length) Slot.unset).toArray = ls at hl ⊢
  have hl : lv_has ls 10 [(0, .ref hg0), (1, .double dg), (3, .double bar), (5, .double gg)] := hl
  have hP : va_P (dC, dI) vwCl (gx_W hg0 cnt xs) s.heap := hP
  have hD : va_D A (gx_W hg0 cnt xs) := hD
  refine lv_dload_n hx hb dX0_row_0 rfl (lv_at hl 1 rfl) ?_
  refine lv_dload_n hx hb dX0_row_1 rfl (lv_at hl 2 rfl) ?_
  refine vp_callSi (va_Run.run (va_runS (As := [.double dg, .double bar]) (rest := []) ⟨hx, hb, hml, hown, hts⟩ (m_X0_isPlace l dg bar) (va_cwS 2 hts (lw_S q29 q30 q6 q31) rfl rfl rfl (by decide +kernel) ⟨Nat.le_of_ble_eq_true rfl, Nat.le_of_ble_eq_true rfl⟩) ⟨fun _ _ _ _ q => q, fun U hU hW => ⟨rfl, trivial⟩⟩ rfl rfl hl.1 rfl (lv_room (Nat.le_of_ble_eq_true rfl)) dX0_row_2 ⟨Nat.le_of_ble_eq_true rfl, Nat.le_of_ble_eq_true rfl⟩)) (fun r_1 hr_1 => ?_)
  subst hr_1
  refine lv_if_eq (tgt := 16) hx hb dX0_row_5 (by decide) (fun c_2 => ?_) (fun c_2 => ?_)
  · refine lv_iconst (v := 0) hx hb dX0_row_16 (by decide) ?_
    refine W.widen (k := 2) (n := 6) (Nat.le_of_ble_eq_true rfl) (Nat.le_of_ble_eq_true rfl) ?_
    exact W.zret (v := 0) hx hb hr rfl (fun t ht hW => ⟨⟨0, (cnt, xs), rfl, Or.inl ⟨Or.inl c_2, rfl, rfl⟩, ⟨by rw [ht]; exact hP, va_K.moved hW.alike hK, gx_N_warm hW hN⟩, hD⟩, hS.F ht⟩) hS.2.2 dX0_row_17
  · refine lv_dload hx hb dX0_row_8 (lv_at hl 3 rfl) ?_
    refine vp_callSi (va_Run.run (va_runS (As := [.double gg]) (rest := []) ⟨hx, hb, hml, hown, hts⟩ (m_X0_isGas l gg) (va_cwS 1 hts (lw_S q38 q39 q6 q40) rfl rfl rfl (by decide +kernel) ⟨Nat.le_of_ble_eq_true rfl, Nat.le_of_ble_eq_true rfl⟩) ⟨fun _ _ _ _ q => q, fun U hU hW => ⟨rfl, trivial⟩⟩ rfl rfl hl.1 rfl (lv_room (Nat.le_of_ble_eq_true rfl)) dX0_row_10 ⟨Nat.le_of_ble_eq_true rfl, Nat.le_of_ble_eq_true rfl⟩)) (fun r_3 hr_3 => ?_)
    subst hr_3
    refine lv_if_ne (tgt := 18) hx hb dX0_row_13 (by decide) (fun c_4 => ?_) (fun c_4 => ?_)
    · obtain ⟨pre, post, rfl, hsp⟩ := spl_ex xs dg
      rcases gx_last pre with rfl | ⟨pre', ⟨h3, dl, rs⟩, rfl⟩
      · refine lv_aload_n hx hb dX0_row_18 rfl (lv_at hl 0 rfl) ?_
        refine lv_dload_n hx hb dX0_row_19 rfl (lv_at hl 1 rfl) ?_
        refine va_csq (va_Run.run (va_runV (As := [.double dg]) (rest := []) ⟨hx, hb, hml, hown, hts⟩ (m_X0_before l dC dI hg0 cnt ([] : List gx_L) post dg hsp) (cwV 1 hts (lw_V q41 q43 qs0 q6 q44) rfl rfl rfl (by decide +kernel) ⟨Nat.le_of_ble_eq_true rfl, Nat.le_of_ble_eq_true rfl⟩) ⟨gx_fb, va_recv hK hP (ci := 0) (q0 := 0) rfl rfl, fun U hU hW => ⟨rfl, gx_pre hP hK hN hU hW⟩⟩ rfl rfl hl.1 rfl (lv_room (Nat.le_of_ble_eq_true rfl)) dX0_row_20 ⟨Nat.le_of_ble_eq_true rfl, Nat.le_of_ble_eq_true rfl⟩)) (fun r_5 hr_5 => ?_)
        obtain rfl : r_5 = none := hr_5
        refine lv_astoreN (lv' := [(7, .null), (0, .ref hg0), (1, .double dg), (3, .double bar), (5, .double gg)]) hx hb dX0_row_23 hl (by decide) rfl (fun ls hl => ?_)
        refine lv_aloadN hx hb dX0_row_25 (lv_at hl 0 rfl) ?_
        refine lv_ifnullN (tgt := 44) hx hb dX0_row_27 (by decide) ?_
        refine lv_iconst (v := 0) hx hb dX0_row_44 (by decide) ?_
        refine lv_istore (lv' := [(8, .int 0), (7, .null), (0, .ref hg0), (1, .double dg), (3, .double bar), (5, .double gg)]) hx hb dX0_row_45 hl (by decide) rfl (fun ls hl => ?_)
        refine lv_iload hx hb dX0_row_47 (lv_at hl 0 rfl) ?_
        refine lv_if_eq (tgt := 71) hx hb dX0_row_49 (by decide) (fun c_6 => ?_) (fun c_6 => ?_)
        · refine lv_aload_n hx hb dX0_row_71 rfl (lv_at hl 2 rfl) ?_
          refine va_get (D := (dC, dI)) (ci := 0) (v := .int (nI cnt)) (C := RX0) (T := TX0) (N := 2) hx hb hts in_X0 hown hK hP 0 rfl rfl 1 (by decide) (hts _ q19) (fun _ h9 => h9) rfl dX0_row_72 ?_
          refine lv_bipush (v := 30) hx hb dX0_row_75 (by decide) ?_
          refine lv_icmp_ne (tgt := 82) hx hb dX0_row_77 (by decide) (fun c_7 => ?_) (fun c_7 => ?_)
          · have hlt : cnt < 30 := cnt_lt hcnt c_7
            refine lv_aload_n hx hb dX0_row_82 rfl (lv_at hl 2 rfl) ?_
            refine lv_dup hx hb dX0_row_83 rfl ?_
            refine va_get (D := (dC, dI)) (ci := 0) (v := .int (nI cnt)) (C := RX0) (T := TX0) (N := 2) hx hb hts in_X0 hown hK hP 0 rfl rfl 1 (by decide) (hts _ q19) (fun _ h9 => h9) rfl dX0_row_84 ?_
            refine lv_iconst (v := 1) hx hb dX0_row_87 (by decide) ?_
            refine lv_iadd hx hb dX0_row_88 ?_
            refine lv_topi (fun f_8 ef_8 => ?_)
            obtain rfl : f_8 = nI (cnt + 1) := by rw [ef_8]; exact nI_1 cnt
            refine va_put (D := (dC, dI)) (ci := 0) (v := .int (nI (cnt + 1))) (ty := .int) (C := RX0) (T := TX0) (N := 2) hx hb hts in_X0 tyX0 tyX0_ok nmX0 hown hK hP hD hS 0 rfl rfl 1 (by decide) (hts _ q19) (fun _ h9 => h9) rfl (by decide +kernel) rfl rfl (Nat.le_of_ble_eq_true rfl) dX0_row_89 (fun H locs hP hD hS => ?_)
            have hP : va_P (dC, dI) vwCl (gx_W hg0 (cnt + 1) (([] : List gx_L) ++ post)) H := hP
            have hD : va_D A (gx_W hg0 (cnt + 1) (([] : List gx_L) ++ post)) := hD
            refine lv_iload hx hb dX0_row_92 (lv_at hl 0 rfl) ?_
            refine lv_if_ne (tgt := 149) hx hb dX0_row_94 (by decide) (fun c_9 => ?_) (fun c_9 => ?_)
            · exact absurd c_9 (by decide)
            · cases post with
              | nil =>
                have hP : va_P (dC, dI) vwCl (gx_W hg0 (cnt + 1) (([] : List gx_L) ++ ([] : List gx_L))) H := hP
                have hD : va_D A (gx_W hg0 (cnt + 1) (([] : List gx_L) ++ ([] : List gx_L))) := hD
                refine va_new (ci := 3) (fs := [.double 0, .null, .null]) (C := RX3) (T := TX3) (N := 3) hx hb hts in_X3 tyX3 tyX3_ok hown (hts _ q77) (hts _ q52) (hts _ q9) hK hP hD hS hA rfl (fun j hj => by rcases (show j = 0 ∨ j = 1 ∨ j = 2 by omega) with rfl | rfl | rfl <;> rfl) (Nat.le_of_ble_eq_true rfl) (Nat.le_of_ble_eq_true rfl) dX0_row_97 (fun q3 H hP hD hS => ?_)
                have hP : va_P (dC, dI) vwCl ((gx_W hg0 (cnt + 1) (([] : List gx_L) ++ ([] : List gx_L))) ++ [(q3, .inr (3, [.double 0, .null, .null]))]) H := hP
                have hD : va_D A ((gx_W hg0 (cnt + 1) (([] : List gx_L) ++ ([] : List gx_L))) ++ [(q3, .inr (3, [.double 0, .null, .null]))]) := hD
                refine lv_dup hx hb dX0_row_100 rfl ?_
                refine lv_dload_n hx hb dX0_row_101 rfl (lv_at hl 3 rfl) ?_
                refine lv_aloadN hx hb dX0_row_102 (lv_at hl 1 rfl) ?_
                refine lv_ifnonnullN hx hb dX0_row_104 ?_
                refine lv_aload_n hx hb dX0_row_107 rfl (lv_at hl 2 rfl) ?_
                refine va_get (D := (dC, dI)) (ci := 0) (v := .null) (C := RX0) (T := TX0) (N := 2) hx hb hts in_X0 hown hK hP 0 rfl rfl 0 (by decide) (hts _ q18) (fun _ h9 => h9) rfl dX0_row_108 ?_
                refine lv_goto (tgt := 119) hx hb dX0_row_111 (by decide) ?_
                have hpm : List.Perm _ (([(q3, .inr (3, [.double 0, .null, .null]))]) ++ (gx_W hg0 (cnt + 1) (([] : List gx_L) ++ ([] : List gx_L)))) := List.perm_append_comm
                have hPc : va_P (dC, dI) vwCl ([(q3, .inr (3, [.double 0, .null, .null]))]) H := va_P_sub hP (fun q hq => hpm.mem_iff.mpr (List.mem_append_left _ hq))
                have hDc : va_D (fun _ => True) ([(q3, .inr (3, [.double 0, .null, .null]))]) := va_D_part hD hpm
                have hFc := va_freeM (wc := [(q3, .inr (3, [.double 0, .null, .null]))]) hD hS hA (fun q hq => hpm.mem_iff.mpr (List.mem_append_left _ hq))
                refine va_callv (va_runI (As := [.double dg, .null]) (rest := [.ref q3]) ⟨hx, hb, hml, hown, hts⟩ (m_X3_initN l H.size dC dI q3 dg) (cwI 2 hts (lw_meth q80) rfl rfl rfl (hts _ q9) (hts _ q78) (hts _ q79) rfl (by decide +kernel) ⟨Nat.le_of_ble_eq_true rfl, Nat.le_of_ble_eq_true rfl⟩) ⟨gy_fb, fun U hU hW => ⟨rfl, by rw [hU], gx_pre hPc hK hN hU hW, hDc⟩⟩ rfl rfl hl.1 rfl (lv_room (Nat.le_of_ble_eq_true rfl)) dX0_row_119 ⟨Nat.le_of_ble_eq_true rfl, Nat.le_of_ble_eq_true rfl⟩) hS (fun q _ h => hFc q h) hFc (fun u t H1 locs ht hvm hw hB hz1 hk1 hS => ?_)
                obtain ⟨⟨hP1, hK1, hN1⟩, hD1⟩ := hB
                rw [ht] at hP1
                obtain ⟨hP, hD⟩ := va_joinM hP hD hpm hk1 hFc hP1 hD1
                generalize H1 = H at hP hS ⊢
                have hP : va_P (dC, dI) vwCl ((q3, .inr (3, [.double dg, .null, .null])) :: (gx_W hg0 (cnt + 1) (([] : List gx_L) ++ ([] : List gx_L)))) H := hP
                have hD : va_D A ((q3, .inr (3, [.double dg, .null, .null])) :: (gx_W hg0 (cnt + 1) (([] : List gx_L) ++ ([] : List gx_L)))) := hD
                refine lv_astore (lv' := [(9, .ref q3), (8, .int 0), (7, .null), (0, .ref hg0), (1, .double dg), (3, .double bar), (5, .double gg)]) hx hb dX0_row_122 hl (by decide) rfl (fun ls hl => ?_)
                refine lv_aloadN hx hb dX0_row_124 (lv_at hl 2 rfl) ?_
                refine lv_ifnonnullN hx hb dX0_row_126 ?_
                refine lv_aload_n hx hb dX0_row_129 rfl (lv_at hl 3 rfl) ?_
                refine lv_aload hx hb dX0_row_130 (lv_at hl 0 rfl) ?_
                refine va_put (D := (dC, dI)) (ci := 0) (v := .ref q3) (ty := .object "GasRows$Line") (C := RX0) (T := TX0) (N := 2) hx hb hts in_X0 tyX0 tyX0_ok nmX0 hown hK hP hD hS 1 rfl rfl 0 (by decide) (hts _ q18) (fun _ h9 => h9) rfl (by decide +kernel) rfl rfl (Nat.le_of_ble_eq_true rfl) dX0_row_132 (fun H locs hP hD hS => ?_)
                have hP : va_P (dC, dI) vwCl ((q3, .inr (3, [.double dg, .null, .null])) :: (hg0, .inr (0, [.ref q3, .int (nI (cnt + 1))])) :: gx_ls ([] : List gx_L) none) H := hP
                have hD : va_D A ((q3, .inr (3, [.double dg, .null, .null])) :: (hg0, .inr (0, [.ref q3, .int (nI (cnt + 1))])) :: gx_ls ([] : List gx_L) none) := hD
                refine lv_goto (tgt := 145) hx hb dX0_row_135 (by decide) ?_
                refine lv_aload hx hb dX0_row_145 (lv_at hl 0 rfl) ?_
                refine lv_astore (lv' := [(7, .ref q3), (9, .ref q3), (8, .int 0), (0, .ref hg0), (1, .double dg), (3, .double bar), (5, .double gg)]) hx hb dX0_row_147 hl (by decide) rfl (fun ls hl => ?_)
                refine lv_aload hx hb dX0_row_149 (lv_at hl 0 rfl) ?_
                refine lv_dload_n hx hb dX0_row_151 rfl (lv_at hl 5 rfl) ?_
                refine lv_dload hx hb dX0_row_152 (lv_at hl 6 rfl) ?_
                have hpm : List.Perm _ ((gx_lc (q3, dg, ([] : List gx_R) ++ ([] : List gx_R)) (gx_hd ([] : List gx_L) none)) ++ ((hg0, .inr (0, [.ref q3, .int (nI (cnt + 1))])) :: gx_ls ([] : List gx_L) none)) := List.Perm.refl _
                have hPc : va_P (dC, dI) vwCl (gx_lc (q3, dg, ([] : List gx_R) ++ ([] : List gx_R)) (gx_hd ([] : List gx_L) none)) H := va_P_sub hP (fun q hq => hpm.mem_iff.mpr (List.mem_append_left _ hq))
                have hDc : va_D (fun _ => True) (gx_lc (q3, dg, ([] : List gx_R) ++ ([] : List gx_R)) (gx_hd ([] : List gx_L) none)) := va_D_part hD hpm
                have hFc := va_freeM (wc := gx_lc (q3, dg, ([] : List gx_R) ++ ([] : List gx_R)) (gx_hd ([] : List gx_L) none)) hD hS hA (fun q hq => hpm.mem_iff.mpr (List.mem_append_left _ hq))
                refine va_callv (va_runV (As := [.double bar, .double gg]) (rest := []) ⟨hx, hb, hml, hown, hts⟩ (m_X3_put l H.size dC dI q3 dg (gx_hd ([] : List gx_L) none) [] [] bar gg (spl_nil _)) (cwV 2 hts (lw_V q54 q55 q56 q9 q57) rfl rfl rfl (by decide +kernel) ⟨Nat.le_of_ble_eq_true rfl, Nat.le_of_ble_eq_true rfl⟩) ⟨gy_fb, va_recv hK hPc (ci := 3) (q0 := 0) rfl rfl, fun U hU hW => ⟨rfl, by rw [hU], gx_pre hPc hK hN hU hW, hDc⟩⟩ rfl rfl hl.1 rfl (lv_room (Nat.le_of_ble_eq_true rfl)) dX0_row_154 ⟨Nat.le_of_ble_eq_true rfl, Nat.le_of_ble_eq_true rfl⟩) hS (fun q _ h => hFc q h) hFc (fun u t H1 locs ht hvm hw hB hz1 hk1 hS => ?_)
                obtain ⟨⟨hP1, hK1, hN1⟩, hD1⟩ := hB
                rw [ht] at hP1
                obtain ⟨hP, hD⟩ := va_joinM hP hD hpm hk1 hFc hP1 hD1
                generalize H1 = H at hP hS ⊢
                obtain ⟨k2, rfl⟩ := pt_new (lastne_nil _) hw
                refine lv_iconst (v := 1) hx hb dX0_row_157 (by decide) ?_
                have hP : va_P (dC, dI) vwCl (gx_W hg0 (cnt + 1) ((q3, dg, [(k2, bar, gg)]) :: ([] : List gx_L))) H := va_P_perm hP (List.perm_middle)
                have hD : va_D A (gx_W hg0 (cnt + 1) ((q3, dg, [(k2, bar, gg)]) :: ([] : List gx_L))) := va_D_perm hD (List.perm_middle)
                refine W.widen (k := 2) (n := 6) (Nat.le_of_ble_eq_true rfl) (Nat.le_of_ble_eq_true rfl) ?_
                exact W.zret (v := 1) hx hb hr rfl (fun t ht hW => ⟨⟨1, (cnt + 1, (q3, dg, [(k2, bar, gg)]) :: ([] : List gx_L)), rfl, Or.inr ⟨c_2, c_4, [], ([] : List gx_L), rfl, hsp, Or.inr ⟨lastne_nil _, Or.inr ⟨hlt, rfl, q3, k2, rfl⟩⟩⟩, ⟨by rw [ht]; exact hP, va_K.moved hW.alike hK, gx_N_warm hW hN⟩, hD⟩, hS.F ht⟩) hS.2.2 dX0_row_158
              | cons nn post' =>
                have hP : va_P (dC, dI) vwCl (gx_W hg0 (cnt + 1) (([] : List gx_L) ++ (nn :: post'))) H := hP
                have hD : va_D A (gx_W hg0 (cnt + 1) (([] : List gx_L) ++ (nn :: post'))) := hD
                refine va_new (ci := 3) (fs := [.double 0, .null, .null]) (C := RX3) (T := TX3) (N := 3) hx hb hts in_X3 tyX3 tyX3_ok hown (hts _ q77) (hts _ q52) (hts _ q9) hK hP hD hS hA rfl (fun j hj => by rcases (show j = 0 ∨ j = 1 ∨ j = 2 by omega) with rfl | rfl | rfl <;> rfl) (Nat.le_of_ble_eq_true rfl) (Nat.le_of_ble_eq_true rfl) dX0_row_97 (fun q3 H hP hD hS => ?_)
                have hP : va_P (dC, dI) vwCl ((gx_W hg0 (cnt + 1) (([] : List gx_L) ++ (nn :: post'))) ++ [(q3, .inr (3, [.double 0, .null, .null]))]) H := hP
                have hD : va_D A ((gx_W hg0 (cnt + 1) (([] : List gx_L) ++ (nn :: post'))) ++ [(q3, .inr (3, [.double 0, .null, .null]))]) := hD
                refine lv_dup hx hb dX0_row_100 rfl ?_
                refine lv_dload_n hx hb dX0_row_101 rfl (lv_at hl 3 rfl) ?_
                refine lv_aloadN hx hb dX0_row_102 (lv_at hl 1 rfl) ?_
                refine lv_ifnonnullN hx hb dX0_row_104 ?_
                refine lv_aload_n hx hb dX0_row_107 rfl (lv_at hl 2 rfl) ?_
                refine va_get (D := (dC, dI)) (ci := 0) (v := .ref nn.1) (C := RX0) (T := TX0) (N := 2) hx hb hts in_X0 hown hK hP 0 rfl rfl 0 (by decide) (hts _ q18) (fun _ h9 => h9) rfl dX0_row_108 ?_
                refine lv_goto (tgt := 119) hx hb dX0_row_111 (by decide) ?_
                have hpm : List.Perm _ (([(q3, .inr (3, [.double 0, .null, .null]))]) ++ (gx_W hg0 (cnt + 1) (([] : List gx_L) ++ (nn :: post')))) := List.perm_append_comm
                have hPc : va_P (dC, dI) vwCl ([(q3, .inr (3, [.double 0, .null, .null]))]) H := va_P_sub hP (fun q hq => hpm.mem_iff.mpr (List.mem_append_left _ hq))
                have hDc : va_D (fun _ => True) ([(q3, .inr (3, [.double 0, .null, .null]))]) := va_D_part hD hpm
                have hFc := va_freeM (wc := [(q3, .inr (3, [.double 0, .null, .null]))]) hD hS hA (fun q hq => hpm.mem_iff.mpr (List.mem_append_left _ hq))
                refine va_callv (va_runI (As := [.double dg, .ref nn.1]) (rest := [.ref q3]) ⟨hx, hb, hml, hown, hts⟩ (m_X3_initR l H.size dC dI q3 dg nn.1) (cwI 2 hts (lw_meth q80) rfl rfl rfl (hts _ q9) (hts _ q78) (hts _ q79) rfl (by decide +kernel) ⟨Nat.le_of_ble_eq_true rfl, Nat.le_of_ble_eq_true rfl⟩) ⟨gy_fb, fun U hU hW => ⟨rfl, by rw [hU], gx_pre hPc hK hN hU hW, hDc⟩⟩ rfl rfl hl.1 rfl (lv_room (Nat.le_of_ble_eq_true rfl)) dX0_row_119 ⟨Nat.le_of_ble_eq_true rfl, Nat.le_of_ble_eq_true rfl⟩) hS (fun q _ h => hFc q h) hFc (fun u t H1 locs ht hvm hw hB hz1 hk1 hS => ?_)
                obtain ⟨⟨hP1, hK1, hN1⟩, hD1⟩ := hB
                rw [ht] at hP1
                obtain ⟨hP, hD⟩ := va_joinM hP hD hpm hk1 hFc hP1 hD1
                generalize H1 = H at hP hS ⊢
                have hP : va_P (dC, dI) vwCl ((q3, .inr (3, [.double dg, .null, .ref nn.1])) :: (gx_W hg0 (cnt + 1) (([] : List gx_L) ++ (nn :: post')))) H := hP
                have hD : va_D A ((q3, .inr (3, [.double dg, .null, .ref nn.1])) :: (gx_W hg0 (cnt + 1) (([] : List gx_L) ++ (nn :: post')))) := hD
                refine lv_astore (lv' := [(9, .ref q3), (8, .int 0), (7, .null), (0, .ref hg0), (1, .double dg), (3, .double bar), (5, .double gg)]) hx hb dX0_row_122 hl (by decide) rfl (fun ls hl => ?_)
                refine lv_aloadN hx hb dX0_row_124 (lv_at hl 2 rfl) ?_
                refine lv_ifnonnullN hx hb dX0_row_126 ?_
                refine lv_aload_n hx hb dX0_row_129 rfl (lv_at hl 3 rfl) ?_
                refine lv_aload hx hb dX0_row_130 (lv_at hl 0 rfl) ?_
                refine va_put (D := (dC, dI)) (ci := 0) (v := .ref q3) (ty := .object "GasRows$Line") (C := RX0) (T := TX0) (N := 2) hx hb hts in_X0 tyX0 tyX0_ok nmX0 hown hK hP hD hS 1 rfl rfl 0 (by decide) (hts _ q18) (fun _ h9 => h9) rfl (by decide +kernel) rfl rfl (Nat.le_of_ble_eq_true rfl) dX0_row_132 (fun H locs hP hD hS => ?_)
                have hP : va_P (dC, dI) vwCl ((q3, .inr (3, [.double dg, .null, .ref nn.1])) :: (hg0, .inr (0, [.ref q3, .int (nI (cnt + 1))])) :: gx_ls (nn :: post') none) H := hP
                have hD : va_D A ((q3, .inr (3, [.double dg, .null, .ref nn.1])) :: (hg0, .inr (0, [.ref q3, .int (nI (cnt + 1))])) :: gx_ls (nn :: post') none) := hD
                refine lv_goto (tgt := 145) hx hb dX0_row_135 (by decide) ?_
                refine lv_aload hx hb dX0_row_145 (lv_at hl 0 rfl) ?_
                refine lv_astore (lv' := [(7, .ref q3), (9, .ref q3), (8, .int 0), (0, .ref hg0), (1, .double dg), (3, .double bar), (5, .double gg)]) hx hb dX0_row_147 hl (by decide) rfl (fun ls hl => ?_)
                refine lv_aload hx hb dX0_row_149 (lv_at hl 0 rfl) ?_
                refine lv_dload_n hx hb dX0_row_151 rfl (lv_at hl 5 rfl) ?_
                refine lv_dload hx hb dX0_row_152 (lv_at hl 6 rfl) ?_
                have hpm : List.Perm _ ((gx_lc (q3, dg, ([] : List gx_R) ++ ([] : List gx_R)) (gx_hd (nn :: post') none)) ++ ((hg0, .inr (0, [.ref q3, .int (nI (cnt + 1))])) :: gx_ls (nn :: post') none)) := List.Perm.refl _
                have hPc : va_P (dC, dI) vwCl (gx_lc (q3, dg, ([] : List gx_R) ++ ([] : List gx_R)) (gx_hd (nn :: post') none)) H := va_P_sub hP (fun q hq => hpm.mem_iff.mpr (List.mem_append_left _ hq))
                have hDc : va_D (fun _ => True) (gx_lc (q3, dg, ([] : List gx_R) ++ ([] : List gx_R)) (gx_hd (nn :: post') none)) := va_D_part hD hpm
                have hFc := va_freeM (wc := gx_lc (q3, dg, ([] : List gx_R) ++ ([] : List gx_R)) (gx_hd (nn :: post') none)) hD hS hA (fun q hq => hpm.mem_iff.mpr (List.mem_append_left _ hq))
                refine va_callv (va_runV (As := [.double bar, .double gg]) (rest := []) ⟨hx, hb, hml, hown, hts⟩ (m_X3_put l H.size dC dI q3 dg (gx_hd (nn :: post') none) [] [] bar gg (spl_nil _)) (cwV 2 hts (lw_V q54 q55 q56 q9 q57) rfl rfl rfl (by decide +kernel) ⟨Nat.le_of_ble_eq_true rfl, Nat.le_of_ble_eq_true rfl⟩) ⟨gy_fb, va_recv hK hPc (ci := 3) (q0 := 0) rfl rfl, fun U hU hW => ⟨rfl, by rw [hU], gx_pre hPc hK hN hU hW, hDc⟩⟩ rfl rfl hl.1 rfl (lv_room (Nat.le_of_ble_eq_true rfl)) dX0_row_154 ⟨Nat.le_of_ble_eq_true rfl, Nat.le_of_ble_eq_true rfl⟩) hS (fun q _ h => hFc q h) hFc (fun u t H1 locs ht hvm hw hB hz1 hk1 hS => ?_)
                obtain ⟨⟨hP1, hK1, hN1⟩, hD1⟩ := hB
                rw [ht] at hP1
                obtain ⟨hP, hD⟩ := va_joinM hP hD hpm hk1 hFc hP1 hD1
                generalize H1 = H at hP hS ⊢
                obtain ⟨k2, rfl⟩ := pt_new (lastne_nil _) hw
                refine lv_iconst (v := 1) hx hb dX0_row_157 (by decide) ?_
                have hP : va_P (dC, dI) vwCl (gx_W hg0 (cnt + 1) ((q3, dg, [(k2, bar, gg)]) :: (nn :: post'))) H := va_P_perm hP (List.perm_middle)
                have hD : va_D A (gx_W hg0 (cnt + 1) ((q3, dg, [(k2, bar, gg)]) :: (nn :: post'))) := va_D_perm hD (List.perm_middle)
                refine W.widen (k := 2) (n := 6) (Nat.le_of_ble_eq_true rfl) (Nat.le_of_ble_eq_true rfl) ?_
                exact W.zret (v := 1) hx hb hr rfl (fun t ht hW => ⟨⟨1, (cnt + 1, (q3, dg, [(k2, bar, gg)]) :: (nn :: post')), rfl, Or.inr ⟨c_2, c_4, [], (nn :: post'), rfl, hsp, Or.inr ⟨lastne_nil _, Or.inr ⟨hlt, rfl, q3, k2, rfl⟩⟩⟩, ⟨by rw [ht]; exact hP, va_K.moved hW.alike hK, gx_N_warm hW hN⟩, hD⟩, hS.F ht⟩) hS.2.2 dX0_row_158
          · have he30 : cnt = 30 := (nI_eq (by omega) (by decide)).mp c_7
            refine lv_iconst (v := 0) hx hb dX0_row_80 (by decide) ?_
            refine W.widen (k := 2) (n := 6) (Nat.le_of_ble_eq_true rfl) (Nat.le_of_ble_eq_true rfl) ?_
            exact W.zret (v := 0) hx hb hr rfl (fun t ht hW => ⟨⟨0, (cnt, [] ++ post), rfl, Or.inr ⟨c_2, c_4, [], post, rfl, hsp, Or.inr ⟨lastne_nil _, Or.inl ⟨he30, rfl, rfl⟩⟩⟩, ⟨by rw [ht]; exact hP, va_K.moved hW.alike hK, gx_N_warm hW hN⟩, hD⟩, hS.F ht⟩) hS.2.2 dX0_row_81
        · exact absurd c_6 (by decide)
      · refine lv_aload_n hx hb dX0_row_18 rfl (lv_at hl 0 rfl) ?_
        refine lv_dload_n hx hb dX0_row_19 rfl (lv_at hl 1 rfl) ?_
        refine va_csq (va_Run.run (va_runV (As := [.double dg]) (rest := []) ⟨hx, hb, hml, hown, hts⟩ (m_X0_before l dC dI hg0 cnt (pre' ++ [(h3, dl, rs)]) post dg hsp) (cwV 1 hts (lw_V q41 q43 qs0 q6 q44) rfl rfl rfl (by decide +kernel) ⟨Nat.le_of_ble_eq_true rfl, Nat.le_of_ble_eq_true rfl⟩) ⟨gx_fb, va_recv hK hP (ci := 0) (q0 := 0) rfl rfl, fun U hU hW => ⟨rfl, gx_pre hP hK hN hU hW⟩⟩ rfl rfl hl.1 rfl (lv_room (Nat.le_of_ble_eq_true rfl)) dX0_row_20 ⟨Nat.le_of_ble_eq_true rfl, Nat.le_of_ble_eq_true rfl⟩)) (fun r_10 hr_10 => ?_)
        obtain rfl : r_10 = some h3 := by rw [hr_10]; exact gx_la_app _ _ _
        have hP : va_P (dC, dI) vwCl ((hg0, .inr (0, [va_rf (gx_hd pre' (some h3)), .int (nI cnt)])) :: (gx_lc (h3, dl, rs) (gx_hd post none) ++ (gx_ls pre' (some h3) ++ gx_ls post none))) s.heap := va_P_perm hP (gx_W_perm2 hg0 cnt pre' (h3, dl, rs) post)
        have hD : va_D A ((hg0, .inr (0, [va_rf (gx_hd pre' (some h3)), .int (nI cnt)])) :: (gx_lc (h3, dl, rs) (gx_hd post none) ++ (gx_ls pre' (some h3) ++ gx_ls post none))) := va_D_perm hD (gx_W_perm2 hg0 cnt pre' (h3, dl, rs) post)
        refine lv_astore (lv' := [(7, .ref h3), (0, .ref hg0), (1, .double dg), (3, .double bar), (5, .double gg)]) hx hb dX0_row_23 hl (by decide) rfl (fun ls hl => ?_)
        refine lv_aload hx hb dX0_row_25 (lv_at hl 0 rfl) ?_
        refine lv_ifnull hx hb dX0_row_27 ?_
        refine lv_aload hx hb dX0_row_30 (lv_at hl 0 rfl) ?_
        refine va_getN (D := (dC, dI)) (ci := 3) (v := .double dl) (C := RX3) (T := TX3) (N := 3) hx hb hts in_X3 hown hK hP 1 rfl rfl 0 (by decide) (va_Nw.use rfl hN.2.2.2.1) (fun _ h9 => h9) rfl dX0_row_32 ?_
        refine lv_dload_n hx hb dX0_row_35 rfl (lv_at hl 2 rfl) ?_
        refine lv_dcmp hx hb dX0_row_36 ?_
        refine lv_if_ne (tgt := 44) hx hb dX0_row_37 (by decide) (fun c_11 => ?_) (fun c_11 => ?_)
        · refine lv_iconst (v := 0) hx hb dX0_row_44 (by decide) ?_
          refine lv_istore (lv' := [(8, .int 0), (7, .ref h3), (0, .ref hg0), (1, .double dg), (3, .double bar), (5, .double gg)]) hx hb dX0_row_45 hl (by decide) rfl (fun ls hl => ?_)
          refine lv_iload hx hb dX0_row_47 (lv_at hl 0 rfl) ?_
          refine lv_if_eq (tgt := 71) hx hb dX0_row_49 (by decide) (fun c_12 => ?_) (fun c_12 => ?_)
          · refine lv_aload_n hx hb dX0_row_71 rfl (lv_at hl 2 rfl) ?_
            refine va_get (D := (dC, dI)) (ci := 0) (v := .int (nI cnt)) (C := RX0) (T := TX0) (N := 2) hx hb hts in_X0 hown hK hP 0 rfl rfl 1 (by decide) (hts _ q19) (fun _ h9 => h9) rfl dX0_row_72 ?_
            refine lv_bipush (v := 30) hx hb dX0_row_75 (by decide) ?_
            refine lv_icmp_ne (tgt := 82) hx hb dX0_row_77 (by decide) (fun c_13 => ?_) (fun c_13 => ?_)
            · have hlt : cnt < 30 := cnt_lt hcnt c_13
              refine lv_aload_n hx hb dX0_row_82 rfl (lv_at hl 2 rfl) ?_
              refine lv_dup hx hb dX0_row_83 rfl ?_
              refine va_get (D := (dC, dI)) (ci := 0) (v := .int (nI cnt)) (C := RX0) (T := TX0) (N := 2) hx hb hts in_X0 hown hK hP 0 rfl rfl 1 (by decide) (hts _ q19) (fun _ h9 => h9) rfl dX0_row_84 ?_
              refine lv_iconst (v := 1) hx hb dX0_row_87 (by decide) ?_
              refine lv_iadd hx hb dX0_row_88 ?_
              refine lv_topi (fun f_14 ef_14 => ?_)
              obtain rfl : f_14 = nI (cnt + 1) := by rw [ef_14]; exact nI_1 cnt
              refine va_put (D := (dC, dI)) (ci := 0) (v := .int (nI (cnt + 1))) (ty := .int) (C := RX0) (T := TX0) (N := 2) hx hb hts in_X0 tyX0 tyX0_ok nmX0 hown hK hP hD hS 0 rfl rfl 1 (by decide) (hts _ q19) (fun _ h9 => h9) rfl (by decide +kernel) rfl rfl (Nat.le_of_ble_eq_true rfl) dX0_row_89 (fun H locs hP hD hS => ?_)
              have hP : va_P (dC, dI) vwCl ((hg0, .inr (0, [va_rf (gx_hd pre' (some h3)), .int (nI (cnt + 1))])) :: (gx_lc (h3, dl, rs) (gx_hd post none) ++ (gx_ls pre' (some h3) ++ gx_ls post none))) H := hP
              have hD : va_D A ((hg0, .inr (0, [va_rf (gx_hd pre' (some h3)), .int (nI (cnt + 1))])) :: (gx_lc (h3, dl, rs) (gx_hd post none) ++ (gx_ls pre' (some h3) ++ gx_ls post none))) := hD
              refine lv_iload hx hb dX0_row_92 (lv_at hl 0 rfl) ?_
              refine lv_if_ne (tgt := 149) hx hb dX0_row_94 (by decide) (fun c_15 => ?_) (fun c_15 => ?_)
              · exact absurd c_15 (by decide)
              · cases post with
                | nil =>
                  have hP : va_P (dC, dI) vwCl ((hg0, .inr (0, [va_rf (gx_hd pre' (some h3)), .int (nI (cnt + 1))])) :: (gx_lc (h3, dl, rs) (gx_hd ([] : List gx_L) none) ++ (gx_ls pre' (some h3) ++ gx_ls ([] : List gx_L) none))) H := hP
                  have hD : va_D A ((hg0, .inr (0, [va_rf (gx_hd pre' (some h3)), .int (nI (cnt + 1))])) :: (gx_lc (h3, dl, rs) (gx_hd ([] : List gx_L) none) ++ (gx_ls pre' (some h3) ++ gx_ls ([] : List gx_L) none))) := hD
                  refine va_new (ci := 3) (fs := [.double 0, .null, .null]) (C := RX3) (T := TX3) (N := 3) hx hb hts in_X3 tyX3 tyX3_ok hown (hts _ q77) (hts _ q52) (hts _ q9) hK hP hD hS hA rfl (fun j hj => by rcases (show j = 0 ∨ j = 1 ∨ j = 2 by omega) with rfl | rfl | rfl <;> rfl) (Nat.le_of_ble_eq_true rfl) (Nat.le_of_ble_eq_true rfl) dX0_row_97 (fun q3 H hP hD hS => ?_)
                  have hP : va_P (dC, dI) vwCl (((hg0, .inr (0, [va_rf (gx_hd pre' (some h3)), .int (nI (cnt + 1))])) :: (gx_lc (h3, dl, rs) (gx_hd ([] : List gx_L) none) ++ (gx_ls pre' (some h3) ++ gx_ls ([] : List gx_L) none))) ++ [(q3, .inr (3, [.double 0, .null, .null]))]) H := hP
                  have hD : va_D A (((hg0, .inr (0, [va_rf (gx_hd pre' (some h3)), .int (nI (cnt + 1))])) :: (gx_lc (h3, dl, rs) (gx_hd ([] : List gx_L) none) ++ (gx_ls pre' (some h3) ++ gx_ls ([] : List gx_L) none))) ++ [(q3, .inr (3, [.double 0, .null, .null]))]) := hD
                  refine lv_dup hx hb dX0_row_100 rfl ?_
                  refine lv_dload_n hx hb dX0_row_101 rfl (lv_at hl 3 rfl) ?_
                  refine lv_aload hx hb dX0_row_102 (lv_at hl 1 rfl) ?_
                  refine lv_ifnonnull (tgt := 114) hx hb dX0_row_104 (by decide) ?_
                  refine lv_aload hx hb dX0_row_114 (lv_at hl 1 rfl) ?_
                  refine va_getN (D := (dC, dI)) (ci := 3) (v := .null) (C := RX3) (T := TX3) (N := 3) hx hb hts in_X3 hown hK hP 1 rfl rfl 2 (by decide) (va_Nw.use rfl hN.2.2.2.2.1) (fun _ h9 => h9) rfl dX0_row_116 ?_
                  have hpm : List.Perm _ (([(q3, .inr (3, [.double 0, .null, .null]))]) ++ ((hg0, .inr (0, [va_rf (gx_hd pre' (some h3)), .int (nI (cnt + 1))])) :: (gx_lc (h3, dl, rs) (gx_hd ([] : List gx_L) none) ++ (gx_ls pre' (some h3) ++ gx_ls ([] : List gx_L) none)))) := List.perm_append_comm
                  have hPc : va_P (dC, dI) vwCl ([(q3, .inr (3, [.double 0, .null, .null]))]) H := va_P_sub hP (fun q hq => hpm.mem_iff.mpr (List.mem_append_left _ hq))
                  have hDc : va_D (fun _ => True) ([(q3, .inr (3, [.double 0, .null, .null]))]) := va_D_part hD hpm
                  have hFc := va_freeM (wc := [(q3, .inr (3, [.double 0, .null, .null]))]) hD hS hA (fun q hq => hpm.mem_iff.mpr (List.mem_append_left _ hq))
                  refine va_callv (va_runI (As := [.double dg, .null]) (rest := [.ref q3]) ⟨hx, hb, hml, hown, hts⟩ (m_X3_initN l H.size dC dI q3 dg) (cwI 2 hts (lw_meth q80) rfl rfl rfl (hts _ q9) (hts _ q78) (hts _ q79) rfl (by decide +kernel) ⟨Nat.le_of_ble_eq_true rfl, Nat.le_of_ble_eq_true rfl⟩) ⟨gy_fb, fun U hU hW => ⟨rfl, by rw [hU], gx_pre hPc hK hN hU hW, hDc⟩⟩ rfl rfl hl.1 rfl (lv_room (Nat.le_of_ble_eq_true rfl)) dX0_row_119 ⟨Nat.le_of_ble_eq_true rfl, Nat.le_of_ble_eq_true rfl⟩) hS (fun q _ h => hFc q h) hFc (fun u t H1 locs ht hvm hw hB hz1 hk1 hS => ?_)
                  obtain ⟨⟨hP1, hK1, hN1⟩, hD1⟩ := hB
                  rw [ht] at hP1
                  obtain ⟨hP, hD⟩ := va_joinM hP hD hpm hk1 hFc hP1 hD1
                  generalize H1 = H at hP hS ⊢
                  have hP : va_P (dC, dI) vwCl ((q3, .inr (3, [.double dg, .null, .null])) :: (hg0, .inr (0, [va_rf (gx_hd pre' (some h3)), .int (nI (cnt + 1))])) :: (gx_lc (h3, dl, rs) (gx_hd ([] : List gx_L) none) ++ (gx_ls pre' (some h3) ++ gx_ls ([] : List gx_L) none))) H := hP
                  have hD : va_D A ((q3, .inr (3, [.double dg, .null, .null])) :: (hg0, .inr (0, [va_rf (gx_hd pre' (some h3)), .int (nI (cnt + 1))])) :: (gx_lc (h3, dl, rs) (gx_hd ([] : List gx_L) none) ++ (gx_ls pre' (some h3) ++ gx_ls ([] : List gx_L) none))) := hD
                  refine lv_astore (lv' := [(9, .ref q3), (8, .int 0), (7, .ref h3), (0, .ref hg0), (1, .double dg), (3, .double bar), (5, .double gg)]) hx hb dX0_row_122 hl (by decide) rfl (fun ls hl => ?_)
                  refine lv_aload hx hb dX0_row_124 (lv_at hl 2 rfl) ?_
                  refine lv_ifnonnull (tgt := 138) hx hb dX0_row_126 (by decide) ?_
                  refine lv_aload hx hb dX0_row_138 (lv_at hl 2 rfl) ?_
                  refine lv_aload hx hb dX0_row_140 (lv_at hl 0 rfl) ?_
                  refine va_putN (D := (dC, dI)) (ci := 3) (v := .ref q3) (ty := .object "GasRows$Line") (C := RX3) (T := TX3) (N := 3) hx hb hts in_X3 tyX3 tyX3_ok nmX3 hown hK hP hD hS 2 rfl rfl 2 (by decide) (va_Nw.use rfl hN.2.2.2.2.1) (fun _ h9 => h9) rfl (by decide +kernel) rfl rfl (Nat.le_of_ble_eq_true rfl) dX0_row_142 (fun H locs hP hD hS => ?_)
                  have hP : va_P (dC, dI) vwCl ((q3, .inr (3, [.double dg, .null, .null])) :: (hg0, .inr (0, [va_rf (gx_hd pre' (some h3)), .int (nI (cnt + 1))])) :: (gx_lc (h3, dl, rs) (some q3) ++ (gx_ls pre' (some h3) ++ gx_ls ([] : List gx_L) none))) H := hP
                  have hD : va_D A ((q3, .inr (3, [.double dg, .null, .null])) :: (hg0, .inr (0, [va_rf (gx_hd pre' (some h3)), .int (nI (cnt + 1))])) :: (gx_lc (h3, dl, rs) (some q3) ++ (gx_ls pre' (some h3) ++ gx_ls ([] : List gx_L) none))) := hD
                  refine lv_aload hx hb dX0_row_145 (lv_at hl 0 rfl) ?_
                  refine lv_astore (lv' := [(7, .ref q3), (9, .ref q3), (8, .int 0), (0, .ref hg0), (1, .double dg), (3, .double bar), (5, .double gg)]) hx hb dX0_row_147 hl (by decide) rfl (fun ls hl => ?_)
                  refine lv_aload hx hb dX0_row_149 (lv_at hl 0 rfl) ?_
                  refine lv_dload_n hx hb dX0_row_151 rfl (lv_at hl 5 rfl) ?_
                  refine lv_dload hx hb dX0_row_152 (lv_at hl 6 rfl) ?_
                  have hpm : List.Perm _ ((gx_lc (q3, dg, ([] : List gx_R) ++ ([] : List gx_R)) (gx_hd ([] : List gx_L) none)) ++ ((hg0, .inr (0, [va_rf (gx_hd pre' (some h3)), .int (nI (cnt + 1))])) :: (gx_lc (h3, dl, rs) (some q3) ++ (gx_ls pre' (some h3) ++ gx_ls ([] : List gx_L) none)))) := List.Perm.refl _
                  have hPc : va_P (dC, dI) vwCl (gx_lc (q3, dg, ([] : List gx_R) ++ ([] : List gx_R)) (gx_hd ([] : List gx_L) none)) H := va_P_sub hP (fun q hq => hpm.mem_iff.mpr (List.mem_append_left _ hq))
                  have hDc : va_D (fun _ => True) (gx_lc (q3, dg, ([] : List gx_R) ++ ([] : List gx_R)) (gx_hd ([] : List gx_L) none)) := va_D_part hD hpm
                  have hFc := va_freeM (wc := gx_lc (q3, dg, ([] : List gx_R) ++ ([] : List gx_R)) (gx_hd ([] : List gx_L) none)) hD hS hA (fun q hq => hpm.mem_iff.mpr (List.mem_append_left _ hq))
                  refine va_callv (va_runV (As := [.double bar, .double gg]) (rest := []) ⟨hx, hb, hml, hown, hts⟩ (m_X3_put l H.size dC dI q3 dg (gx_hd ([] : List gx_L) none) [] [] bar gg (spl_nil _)) (cwV 2 hts (lw_V q54 q55 q56 q9 q57) rfl rfl rfl (by decide +kernel) ⟨Nat.le_of_ble_eq_true rfl, Nat.le_of_ble_eq_true rfl⟩) ⟨gy_fb, va_recv hK hPc (ci := 3) (q0 := 0) rfl rfl, fun U hU hW => ⟨rfl, by rw [hU], gx_pre hPc hK hN hU hW, hDc⟩⟩ rfl rfl hl.1 rfl (lv_room (Nat.le_of_ble_eq_true rfl)) dX0_row_154 ⟨Nat.le_of_ble_eq_true rfl, Nat.le_of_ble_eq_true rfl⟩) hS (fun q _ h => hFc q h) hFc (fun u t H1 locs ht hvm hw hB hz1 hk1 hS => ?_)
                  obtain ⟨⟨hP1, hK1, hN1⟩, hD1⟩ := hB
                  rw [ht] at hP1
                  obtain ⟨hP, hD⟩ := va_joinM hP hD hpm hk1 hFc hP1 hD1
                  generalize H1 = H at hP hS ⊢
                  obtain ⟨k2, rfl⟩ := pt_new (lastne_nil _) hw
                  refine lv_iconst (v := 1) hx hb dX0_row_157 (by decide) ?_
                  have hP : va_P (dC, dI) vwCl (gx_W hg0 (cnt + 1) (pre' ++ (h3, dl, rs) :: (q3, dg, [(k2, bar, gg)]) :: ([] : List gx_L))) H := va_P_perm hP ((gx_prm3 _ _ _ _ _).trans (gx_W_perm hg0 (cnt + 1) pre' (h3, dl, rs) ((q3, dg, [(k2, bar, gg)]) :: ([] : List gx_L))).symm)
                  have hD : va_D A (gx_W hg0 (cnt + 1) (pre' ++ (h3, dl, rs) :: (q3, dg, [(k2, bar, gg)]) :: ([] : List gx_L))) := va_D_perm hD ((gx_prm3 _ _ _ _ _).trans (gx_W_perm hg0 (cnt + 1) pre' (h3, dl, rs) ((q3, dg, [(k2, bar, gg)]) :: ([] : List gx_L))).symm)
                  refine W.widen (k := 2) (n := 6) (Nat.le_of_ble_eq_true rfl) (Nat.le_of_ble_eq_true rfl) ?_
                  exact W.zret (v := 1) hx hb hr rfl (fun t ht hW => ⟨⟨1, (cnt + 1, pre' ++ (h3, dl, rs) :: (q3, dg, [(k2, bar, gg)]) :: ([] : List gx_L)), rfl, Or.inr ⟨c_2, c_4, (pre' ++ [(h3, dl, rs)]), ([] : List gx_L), rfl, hsp, Or.inr ⟨lastne_app c_11, Or.inr ⟨hlt, rfl, q3, k2, by rw [List.append_assoc]; rfl⟩⟩⟩, ⟨by rw [ht]; exact hP, va_K.moved hW.alike hK, gx_N_warm hW hN⟩, hD⟩, hS.F ht⟩) hS.2.2 dX0_row_158
                | cons nn post' =>
                  have hP : va_P (dC, dI) vwCl ((hg0, .inr (0, [va_rf (gx_hd pre' (some h3)), .int (nI (cnt + 1))])) :: (gx_lc (h3, dl, rs) (gx_hd (nn :: post') none) ++ (gx_ls pre' (some h3) ++ gx_ls (nn :: post') none))) H := hP
                  have hD : va_D A ((hg0, .inr (0, [va_rf (gx_hd pre' (some h3)), .int (nI (cnt + 1))])) :: (gx_lc (h3, dl, rs) (gx_hd (nn :: post') none) ++ (gx_ls pre' (some h3) ++ gx_ls (nn :: post') none))) := hD
                  refine va_new (ci := 3) (fs := [.double 0, .null, .null]) (C := RX3) (T := TX3) (N := 3) hx hb hts in_X3 tyX3 tyX3_ok hown (hts _ q77) (hts _ q52) (hts _ q9) hK hP hD hS hA rfl (fun j hj => by rcases (show j = 0 ∨ j = 1 ∨ j = 2 by omega) with rfl | rfl | rfl <;> rfl) (Nat.le_of_ble_eq_true rfl) (Nat.le_of_ble_eq_true rfl) dX0_row_97 (fun q3 H hP hD hS => ?_)
                  have hP : va_P (dC, dI) vwCl (((hg0, .inr (0, [va_rf (gx_hd pre' (some h3)), .int (nI (cnt + 1))])) :: (gx_lc (h3, dl, rs) (gx_hd (nn :: post') none) ++ (gx_ls pre' (some h3) ++ gx_ls (nn :: post') none))) ++ [(q3, .inr (3, [.double 0, .null, .null]))]) H := hP
                  have hD : va_D A (((hg0, .inr (0, [va_rf (gx_hd pre' (some h3)), .int (nI (cnt + 1))])) :: (gx_lc (h3, dl, rs) (gx_hd (nn :: post') none) ++ (gx_ls pre' (some h3) ++ gx_ls (nn :: post') none))) ++ [(q3, .inr (3, [.double 0, .null, .null]))]) := hD
                  refine lv_dup hx hb dX0_row_100 rfl ?_
                  refine lv_dload_n hx hb dX0_row_101 rfl (lv_at hl 3 rfl) ?_
                  refine lv_aload hx hb dX0_row_102 (lv_at hl 1 rfl) ?_
                  refine lv_ifnonnull (tgt := 114) hx hb dX0_row_104 (by decide) ?_
                  refine lv_aload hx hb dX0_row_114 (lv_at hl 1 rfl) ?_
                  refine va_getN (D := (dC, dI)) (ci := 3) (v := .ref nn.1) (C := RX3) (T := TX3) (N := 3) hx hb hts in_X3 hown hK hP 1 rfl rfl 2 (by decide) (va_Nw.use rfl hN.2.2.2.2.1) (fun _ h9 => h9) rfl dX0_row_116 ?_
                  have hpm : List.Perm _ (([(q3, .inr (3, [.double 0, .null, .null]))]) ++ ((hg0, .inr (0, [va_rf (gx_hd pre' (some h3)), .int (nI (cnt + 1))])) :: (gx_lc (h3, dl, rs) (gx_hd (nn :: post') none) ++ (gx_ls pre' (some h3) ++ gx_ls (nn :: post') none)))) := List.perm_append_comm
                  have hPc : va_P (dC, dI) vwCl ([(q3, .inr (3, [.double 0, .null, .null]))]) H := va_P_sub hP (fun q hq => hpm.mem_iff.mpr (List.mem_append_left _ hq))
                  have hDc : va_D (fun _ => True) ([(q3, .inr (3, [.double 0, .null, .null]))]) := va_D_part hD hpm
                  have hFc := va_freeM (wc := [(q3, .inr (3, [.double 0, .null, .null]))]) hD hS hA (fun q hq => hpm.mem_iff.mpr (List.mem_append_left _ hq))
                  refine va_callv (va_runI (As := [.double dg, .ref nn.1]) (rest := [.ref q3]) ⟨hx, hb, hml, hown, hts⟩ (m_X3_initR l H.size dC dI q3 dg nn.1) (cwI 2 hts (lw_meth q80) rfl rfl rfl (hts _ q9) (hts _ q78) (hts _ q79) rfl (by decide +kernel) ⟨Nat.le_of_ble_eq_true rfl, Nat.le_of_ble_eq_true rfl⟩) ⟨gy_fb, fun U hU hW => ⟨rfl, by rw [hU], gx_pre hPc hK hN hU hW, hDc⟩⟩ rfl rfl hl.1 rfl (lv_room (Nat.le_of_ble_eq_true rfl)) dX0_row_119 ⟨Nat.le_of_ble_eq_true rfl, Nat.le_of_ble_eq_true rfl⟩) hS (fun q _ h => hFc q h) hFc (fun u t H1 locs ht hvm hw hB hz1 hk1 hS => ?_)
                  obtain ⟨⟨hP1, hK1, hN1⟩, hD1⟩ := hB
                  rw [ht] at hP1
                  obtain ⟨hP, hD⟩ := va_joinM hP hD hpm hk1 hFc hP1 hD1
                  generalize H1 = H at hP hS ⊢
                  have hP : va_P (dC, dI) vwCl ((q3, .inr (3, [.double dg, .null, .ref nn.1])) :: (hg0, .inr (0, [va_rf (gx_hd pre' (some h3)), .int (nI (cnt + 1))])) :: (gx_lc (h3, dl, rs) (gx_hd (nn :: post') none) ++ (gx_ls pre' (some h3) ++ gx_ls (nn :: post') none))) H := hP
                  have hD : va_D A ((q3, .inr (3, [.double dg, .null, .ref nn.1])) :: (hg0, .inr (0, [va_rf (gx_hd pre' (some h3)), .int (nI (cnt + 1))])) :: (gx_lc (h3, dl, rs) (gx_hd (nn :: post') none) ++ (gx_ls pre' (some h3) ++ gx_ls (nn :: post') none))) := hD
                  refine lv_astore (lv' := [(9, .ref q3), (8, .int 0), (7, .ref h3), (0, .ref hg0), (1, .double dg), (3, .double bar), (5, .double gg)]) hx hb dX0_row_122 hl (by decide) rfl (fun ls hl => ?_)
                  refine lv_aload hx hb dX0_row_124 (lv_at hl 2 rfl) ?_
                  refine lv_ifnonnull (tgt := 138) hx hb dX0_row_126 (by decide) ?_
                  refine lv_aload hx hb dX0_row_138 (lv_at hl 2 rfl) ?_
                  refine lv_aload hx hb dX0_row_140 (lv_at hl 0 rfl) ?_
                  refine va_putN (D := (dC, dI)) (ci := 3) (v := .ref q3) (ty := .object "GasRows$Line") (C := RX3) (T := TX3) (N := 3) hx hb hts in_X3 tyX3 tyX3_ok nmX3 hown hK hP hD hS 2 rfl rfl 2 (by decide) (va_Nw.use rfl hN.2.2.2.2.1) (fun _ h9 => h9) rfl (by decide +kernel) rfl rfl (Nat.le_of_ble_eq_true rfl) dX0_row_142 (fun H locs hP hD hS => ?_)
                  have hP : va_P (dC, dI) vwCl ((q3, .inr (3, [.double dg, .null, .ref nn.1])) :: (hg0, .inr (0, [va_rf (gx_hd pre' (some h3)), .int (nI (cnt + 1))])) :: (gx_lc (h3, dl, rs) (some q3) ++ (gx_ls pre' (some h3) ++ gx_ls (nn :: post') none))) H := hP
                  have hD : va_D A ((q3, .inr (3, [.double dg, .null, .ref nn.1])) :: (hg0, .inr (0, [va_rf (gx_hd pre' (some h3)), .int (nI (cnt + 1))])) :: (gx_lc (h3, dl, rs) (some q3) ++ (gx_ls pre' (some h3) ++ gx_ls (nn :: post') none))) := hD
                  refine lv_aload hx hb dX0_row_145 (lv_at hl 0 rfl) ?_
                  refine lv_astore (lv' := [(7, .ref q3), (9, .ref q3), (8, .int 0), (0, .ref hg0), (1, .double dg), (3, .double bar), (5, .double gg)]) hx hb dX0_row_147 hl (by decide) rfl (fun ls hl => ?_)
                  refine lv_aload hx hb dX0_row_149 (lv_at hl 0 rfl) ?_
                  refine lv_dload_n hx hb dX0_row_151 rfl (lv_at hl 5 rfl) ?_
                  refine lv_dload hx hb dX0_row_152 (lv_at hl 6 rfl) ?_
                  have hpm : List.Perm _ ((gx_lc (q3, dg, ([] : List gx_R) ++ ([] : List gx_R)) (gx_hd (nn :: post') none)) ++ ((hg0, .inr (0, [va_rf (gx_hd pre' (some h3)), .int (nI (cnt + 1))])) :: (gx_lc (h3, dl, rs) (some q3) ++ (gx_ls pre' (some h3) ++ gx_ls (nn :: post') none)))) := List.Perm.refl _
                  have hPc : va_P (dC, dI) vwCl (gx_lc (q3, dg, ([] : List gx_R) ++ ([] : List gx_R)) (gx_hd (nn :: post') none)) H := va_P_sub hP (fun q hq => hpm.mem_iff.mpr (List.mem_append_left _ hq))
                  have hDc : va_D (fun _ => True) (gx_lc (q3, dg, ([] : List gx_R) ++ ([] : List gx_R)) (gx_hd (nn :: post') none)) := va_D_part hD hpm
                  have hFc := va_freeM (wc := gx_lc (q3, dg, ([] : List gx_R) ++ ([] : List gx_R)) (gx_hd (nn :: post') none)) hD hS hA (fun q hq => hpm.mem_iff.mpr (List.mem_append_left _ hq))
                  refine va_callv (va_runV (As := [.double bar, .double gg]) (rest := []) ⟨hx, hb, hml, hown, hts⟩ (m_X3_put l H.size dC dI q3 dg (gx_hd (nn :: post') none) [] [] bar gg (spl_nil _)) (cwV 2 hts (lw_V q54 q55 q56 q9 q57) rfl rfl rfl (by decide +kernel) ⟨Nat.le_of_ble_eq_true rfl, Nat.le_of_ble_eq_true rfl⟩) ⟨gy_fb, va_recv hK hPc (ci := 3) (q0 := 0) rfl rfl, fun U hU hW => ⟨rfl, by rw [hU], gx_pre hPc hK hN hU hW, hDc⟩⟩ rfl rfl hl.1 rfl (lv_room (Nat.le_of_ble_eq_true rfl)) dX0_row_154 ⟨Nat.le_of_ble_eq_true rfl, Nat.le_of_ble_eq_true rfl⟩) hS (fun q _ h => hFc q h) hFc (fun u t H1 locs ht hvm hw hB hz1 hk1 hS => ?_)
                  obtain ⟨⟨hP1, hK1, hN1⟩, hD1⟩ := hB
                  rw [ht] at hP1
                  obtain ⟨hP, hD⟩ := va_joinM hP hD hpm hk1 hFc hP1 hD1
                  generalize H1 = H at hP hS ⊢
                  obtain ⟨k2, rfl⟩ := pt_new (lastne_nil _) hw
                  refine lv_iconst (v := 1) hx hb dX0_row_157 (by decide) ?_
                  have hP : va_P (dC, dI) vwCl (gx_W hg0 (cnt + 1) (pre' ++ (h3, dl, rs) :: (q3, dg, [(k2, bar, gg)]) :: (nn :: post'))) H := va_P_perm hP ((gx_prm3 _ _ _ _ _).trans (gx_W_perm hg0 (cnt + 1) pre' (h3, dl, rs) ((q3, dg, [(k2, bar, gg)]) :: (nn :: post'))).symm)
                  have hD : va_D A (gx_W hg0 (cnt + 1) (pre' ++ (h3, dl, rs) :: (q3, dg, [(k2, bar, gg)]) :: (nn :: post'))) := va_D_perm hD ((gx_prm3 _ _ _ _ _).trans (gx_W_perm hg0 (cnt + 1) pre' (h3, dl, rs) ((q3, dg, [(k2, bar, gg)]) :: (nn :: post'))).symm)
                  refine W.widen (k := 2) (n := 6) (Nat.le_of_ble_eq_true rfl) (Nat.le_of_ble_eq_true rfl) ?_
                  exact W.zret (v := 1) hx hb hr rfl (fun t ht hW => ⟨⟨1, (cnt + 1, pre' ++ (h3, dl, rs) :: (q3, dg, [(k2, bar, gg)]) :: (nn :: post')), rfl, Or.inr ⟨c_2, c_4, (pre' ++ [(h3, dl, rs)]), (nn :: post'), rfl, hsp, Or.inr ⟨lastne_app c_11, Or.inr ⟨hlt, rfl, q3, k2, by rw [List.append_assoc]; rfl⟩⟩⟩, ⟨by rw [ht]; exact hP, va_K.moved hW.alike hK, gx_N_warm hW hN⟩, hD⟩, hS.F ht⟩) hS.2.2 dX0_row_158
            · have he30 : cnt = 30 := (nI_eq (by omega) (by decide)).mp c_13
              refine lv_iconst (v := 0) hx hb dX0_row_80 (by decide) ?_
              have hP : va_P (dC, dI) vwCl (gx_W hg0 cnt ((pre' ++ [(h3, dl, rs)]) ++ post)) s.heap := va_P_perm hP ((gx_W_perm2 hg0 cnt pre' (h3, dl, rs) post).symm)
              have hD : va_D A (gx_W hg0 cnt ((pre' ++ [(h3, dl, rs)]) ++ post)) := va_D_perm hD ((gx_W_perm2 hg0 cnt pre' (h3, dl, rs) post).symm)
              refine W.widen (k := 2) (n := 6) (Nat.le_of_ble_eq_true rfl) (Nat.le_of_ble_eq_true rfl) ?_
              exact W.zret (v := 0) hx hb hr rfl (fun t ht hW => ⟨⟨0, (cnt, (pre' ++ [(h3, dl, rs)]) ++ post), rfl, Or.inr ⟨c_2, c_4, (pre' ++ [(h3, dl, rs)]), post, rfl, hsp, Or.inr ⟨lastne_app c_11, Or.inl ⟨he30, rfl, rfl⟩⟩⟩, ⟨by rw [ht]; exact hP, va_K.moved hW.alike hK, gx_N_warm hW hN⟩, hD⟩, hS.F ht⟩) hS.2.2 dX0_row_81
          · exact absurd c_12 (by decide)
        · obtain ⟨p, q, rfl, hsq⟩ := spl_ex rs bar
          rcases gx_last p with rfl | ⟨p', rr, rfl⟩
          · have hne : lastne ([] : List gx_R) bar := lastne_nil _
            refine lv_iconst (v := 1) hx hb dX0_row_40 (by decide) ?_
            refine lv_goto (tgt := 45) hx hb dX0_row_41 (by decide) ?_
            refine lv_istore (lv' := [(8, .int 1), (7, .ref h3), (0, .ref hg0), (1, .double dg), (3, .double bar), (5, .double gg)]) hx hb dX0_row_45 hl (by decide) rfl (fun ls hl => ?_)
            refine lv_iload hx hb dX0_row_47 (lv_at hl 0 rfl) ?_
            refine lv_if_eq (tgt := 71) hx hb dX0_row_49 (by decide) (fun c_16 => ?_) (fun c_16 => ?_)
            · exact absurd c_16 (by decide)
            · refine lv_aload hx hb dX0_row_52 (lv_at hl 1 rfl) ?_
              refine lv_dload_n hx hb dX0_row_54 rfl (lv_at hl 4 rfl) ?_
              have hPl : va_P (dC, dI) vwCl (gx_lc (h3, dl, ([] : List gx_R) ++ q) (gx_hd post none)) s.heap := va_P_sub hP (fun q hq => List.mem_cons_of_mem _ (List.mem_append_left _ hq))
              refine vp_callSi (va_Run.run (va_runV (As := [.double bar]) (rest := []) ⟨hx, hb, hml, hown, hts⟩ (m_X3_has0 l dC dI h3 dl (gx_hd post none) q bar hsq) (cwV 1 hts (lw_V q45 q46 q47 q9 q48) rfl rfl rfl (by decide +kernel) ⟨Nat.le_of_ble_eq_true rfl, Nat.le_of_ble_eq_true rfl⟩) ⟨gx_fb, va_recv hK hPl (ci := 3) (q0 := 0) rfl rfl, fun U hU hW => ⟨rfl, gx_pre hPl hK hN hU hW⟩⟩ rfl rfl hl.1 rfl (lv_room (Nat.le_of_ble_eq_true rfl)) dX0_row_55 ⟨Nat.le_of_ble_eq_true rfl, Nat.le_of_ble_eq_true rfl⟩)) (fun r_17 hr_17 => ?_)
              obtain rfl : r_17 = 0 := by exact hr_17
              refine lv_if_eq (tgt := 71) hx hb dX0_row_58 (by decide) (fun c_18 => ?_) (fun c_18 => ?_)
              · refine lv_aload_n hx hb dX0_row_71 rfl (lv_at hl 2 rfl) ?_
                refine va_get (D := (dC, dI)) (ci := 0) (v := .int (nI cnt)) (C := RX0) (T := TX0) (N := 2) hx hb hts in_X0 hown hK hP 0 rfl rfl 1 (by decide) (hts _ q19) (fun _ h9 => h9) rfl dX0_row_72 ?_
                refine lv_bipush (v := 30) hx hb dX0_row_75 (by decide) ?_
                refine lv_icmp_ne (tgt := 82) hx hb dX0_row_77 (by decide) (fun c_19 => ?_) (fun c_19 => ?_)
                · have hlt : cnt < 30 := cnt_lt hcnt c_19
                  refine lv_aload_n hx hb dX0_row_82 rfl (lv_at hl 2 rfl) ?_
                  refine lv_dup hx hb dX0_row_83 rfl ?_
                  refine va_get (D := (dC, dI)) (ci := 0) (v := .int (nI cnt)) (C := RX0) (T := TX0) (N := 2) hx hb hts in_X0 hown hK hP 0 rfl rfl 1 (by decide) (hts _ q19) (fun _ h9 => h9) rfl dX0_row_84 ?_
                  refine lv_iconst (v := 1) hx hb dX0_row_87 (by decide) ?_
                  refine lv_iadd hx hb dX0_row_88 ?_
                  refine lv_topi (fun f_20 ef_20 => ?_)
                  obtain rfl : f_20 = nI (cnt + 1) := by rw [ef_20]; exact nI_1 cnt
                  refine va_put (D := (dC, dI)) (ci := 0) (v := .int (nI (cnt + 1))) (ty := .int) (C := RX0) (T := TX0) (N := 2) hx hb hts in_X0 tyX0 tyX0_ok nmX0 hown hK hP hD hS 0 rfl rfl 1 (by decide) (hts _ q19) (fun _ h9 => h9) rfl (by decide +kernel) rfl rfl (Nat.le_of_ble_eq_true rfl) dX0_row_89 (fun H locs hP hD hS => ?_)
                  have hP : va_P (dC, dI) vwCl ((hg0, .inr (0, [va_rf (gx_hd pre' (some h3)), .int (nI (cnt + 1))])) :: (gx_lc (h3, dl, ([] : List gx_R) ++ q) (gx_hd post none) ++ (gx_ls pre' (some h3) ++ gx_ls post none))) H := hP
                  have hD : va_D A ((hg0, .inr (0, [va_rf (gx_hd pre' (some h3)), .int (nI (cnt + 1))])) :: (gx_lc (h3, dl, ([] : List gx_R) ++ q) (gx_hd post none) ++ (gx_ls pre' (some h3) ++ gx_ls post none))) := hD
                  refine lv_iload hx hb dX0_row_92 (lv_at hl 0 rfl) ?_
                  refine lv_if_ne (tgt := 149) hx hb dX0_row_94 (by decide) (fun c_21 => ?_) (fun c_21 => ?_)
                  · refine lv_aload hx hb dX0_row_149 (lv_at hl 1 rfl) ?_
                    refine lv_dload_n hx hb dX0_row_151 rfl (lv_at hl 4 rfl) ?_
                    refine lv_dload hx hb dX0_row_152 (lv_at hl 5 rfl) ?_
                    have hpm : List.Perm _ ((gx_lc (h3, dl, ([] : List gx_R) ++ q) (gx_hd post none)) ++ ((hg0, .inr (0, [va_rf (gx_hd pre' (some h3)), .int (nI (cnt + 1))])) :: (gx_ls pre' (some h3) ++ gx_ls post none))) := List.perm_middle.symm
                    have hPc : va_P (dC, dI) vwCl (gx_lc (h3, dl, ([] : List gx_R) ++ q) (gx_hd post none)) H := va_P_sub hP (fun q hq => hpm.mem_iff.mpr (List.mem_append_left _ hq))
                    have hDc : va_D (fun _ => True) (gx_lc (h3, dl, ([] : List gx_R) ++ q) (gx_hd post none)) := va_D_part hD hpm
                    have hFc := va_freeM (wc := gx_lc (h3, dl, ([] : List gx_R) ++ q) (gx_hd post none)) hD hS hA (fun q hq => hpm.mem_iff.mpr (List.mem_append_left _ hq))
                    refine va_callv (va_runV (As := [.double bar, .double gg]) (rest := []) ⟨hx, hb, hml, hown, hts⟩ (m_X3_put l H.size dC dI h3 dl (gx_hd post none) [] q bar gg hsq) (cwV 2 hts (lw_V q54 q55 q56 q9 q57) rfl rfl rfl (by decide +kernel) ⟨Nat.le_of_ble_eq_true rfl, Nat.le_of_ble_eq_true rfl⟩) ⟨gy_fb, va_recv hK hPc (ci := 3) (q0 := 0) rfl rfl, fun U hU hW => ⟨rfl, by rw [hU], gx_pre hPc hK hN hU hW, hDc⟩⟩ rfl rfl hl.1 rfl (lv_room (Nat.le_of_ble_eq_true rfl)) dX0_row_154 ⟨Nat.le_of_ble_eq_true rfl, Nat.le_of_ble_eq_true rfl⟩) hS (fun q _ h => hFc q h) hFc (fun u t H1 locs ht hvm hw hB hz1 hk1 hS => ?_)
                    obtain ⟨⟨hP1, hK1, hN1⟩, hD1⟩ := hB
                    rw [ht] at hP1
                    obtain ⟨hP, hD⟩ := va_joinM hP hD hpm hk1 hFc hP1 hD1
                    generalize H1 = H at hP hS ⊢
                    obtain ⟨k, rfl⟩ := pt_new hne hw
                    have hP := va_P_perm hP List.perm_middle
                    have hD := va_D_perm hD List.perm_middle
                    refine lv_iconst (v := 1) hx hb dX0_row_157 (by decide) ?_
                    have hP : va_P (dC, dI) vwCl (gx_W hg0 (cnt + 1) (pre' ++ (h3, dl, ([] : List gx_R) ++ (k, bar, gg) :: q) :: post)) H := va_P_perm hP ((gx_W_perm hg0 (cnt + 1) pre' (h3, dl, ([] : List gx_R) ++ (k, bar, gg) :: q) post).symm)
                    have hD : va_D A (gx_W hg0 (cnt + 1) (pre' ++ (h3, dl, ([] : List gx_R) ++ (k, bar, gg) :: q) :: post)) := va_D_perm hD ((gx_W_perm hg0 (cnt + 1) pre' (h3, dl, ([] : List gx_R) ++ (k, bar, gg) :: q) post).symm)
                    refine W.widen (k := 2) (n := 6) (Nat.le_of_ble_eq_true rfl) (Nat.le_of_ble_eq_true rfl) ?_
                    exact W.zret (v := 1) hx hb hr rfl (fun t ht hW => ⟨⟨1, (cnt + 1, pre' ++ (h3, dl, ([] : List gx_R) ++ (k, bar, gg) :: q) :: post), rfl, Or.inr ⟨c_2, c_4, (pre' ++ [(h3, dl, ([] : List gx_R) ++ q)]), post, rfl, hsp, Or.inl ⟨pre', h3, dl, ([] : List gx_R), q, rfl, c_11, hsq, Or.inr ⟨hne, Or.inr ⟨hlt, rfl, k, rfl⟩⟩⟩⟩, ⟨by rw [ht]; exact hP, va_K.moved hW.alike hK, gx_N_warm hW hN⟩, hD⟩, hS.F ht⟩) hS.2.2 dX0_row_158
                  · exact absurd c_21 (by decide)
                · have he30 : cnt = 30 := (nI_eq (by omega) (by decide)).mp c_19
                  refine lv_iconst (v := 0) hx hb dX0_row_80 (by decide) ?_
                  have hP : va_P (dC, dI) vwCl (gx_W hg0 cnt ((pre' ++ [(h3, dl, ([] : List gx_R) ++ q)]) ++ post)) s.heap := va_P_perm hP ((gx_W_perm2 hg0 cnt pre' (h3, dl, ([] : List gx_R) ++ q) post).symm)
                  have hD : va_D A (gx_W hg0 cnt ((pre' ++ [(h3, dl, ([] : List gx_R) ++ q)]) ++ post)) := va_D_perm hD ((gx_W_perm2 hg0 cnt pre' (h3, dl, ([] : List gx_R) ++ q) post).symm)
                  refine W.widen (k := 2) (n := 6) (Nat.le_of_ble_eq_true rfl) (Nat.le_of_ble_eq_true rfl) ?_
                  exact W.zret (v := 0) hx hb hr rfl (fun t ht hW => ⟨⟨0, (cnt, (pre' ++ [(h3, dl, ([] : List gx_R) ++ q)]) ++ post), rfl, Or.inr ⟨c_2, c_4, (pre' ++ [(h3, dl, ([] : List gx_R) ++ q)]), post, rfl, hsp, Or.inl ⟨pre', h3, dl, ([] : List gx_R), q, rfl, c_11, hsq, Or.inr ⟨hne, Or.inl ⟨he30, rfl, rfl⟩⟩⟩⟩, ⟨by rw [ht]; exact hP, va_K.moved hW.alike hK, gx_N_warm hW hN⟩, hD⟩, hS.F ht⟩) hS.2.2 dX0_row_81
              · exact absurd c_18 (by decide)
          · by_cases hcr : Op.cmpValue (FP.dcmp rr.2.1 bar) .l = 0
            · refine lv_iconst (v := 1) hx hb dX0_row_40 (by decide) ?_
              refine lv_goto (tgt := 45) hx hb dX0_row_41 (by decide) ?_
              refine lv_istore (lv' := [(8, .int 1), (7, .ref h3), (0, .ref hg0), (1, .double dg), (3, .double bar), (5, .double gg)]) hx hb dX0_row_45 hl (by decide) rfl (fun ls hl => ?_)
              refine lv_iload hx hb dX0_row_47 (lv_at hl 0 rfl) ?_
              refine lv_if_eq (tgt := 71) hx hb dX0_row_49 (by decide) (fun c_22 => ?_) (fun c_22 => ?_)
              · exact absurd c_22 (by decide)
              · refine lv_aload hx hb dX0_row_52 (lv_at hl 1 rfl) ?_
                refine lv_dload_n hx hb dX0_row_54 rfl (lv_at hl 4 rfl) ?_
                have hPl : va_P (dC, dI) vwCl (gx_lc (h3, dl, (p' ++ [rr]) ++ q) (gx_hd post none)) s.heap := va_P_sub hP (fun q hq => List.mem_cons_of_mem _ (List.mem_append_left _ hq))
                refine vp_callSi (va_Run.run (va_runV (As := [.double bar]) (rest := []) ⟨hx, hb, hml, hown, hts⟩ (m_X3_has1 l dC dI h3 dl (gx_hd post none) p' rr q bar hsq) (cwV 1 hts (lw_V q45 q46 q47 q9 q48) rfl rfl rfl (by decide +kernel) ⟨Nat.le_of_ble_eq_true rfl, Nat.le_of_ble_eq_true rfl⟩) ⟨gx_fb, va_recv hK hPl (ci := 3) (q0 := 0) rfl rfl, fun U hU hW => ⟨rfl, gx_pre hPl hK hN hU hW⟩⟩ rfl rfl hl.1 rfl (lv_room (Nat.le_of_ble_eq_true rfl)) dX0_row_55 ⟨Nat.le_of_ble_eq_true rfl, Nat.le_of_ble_eq_true rfl⟩)) (fun r_23 hr_23 => ?_)
                obtain rfl : r_23 = 1 := by rw [hr_23]; exact if_pos hcr
                refine lv_if_eq (tgt := 71) hx hb dX0_row_58 (by decide) (fun c_24 => ?_) (fun c_24 => ?_)
                · exact absurd c_24 (by decide)
                · refine lv_aload hx hb dX0_row_61 (lv_at hl 1 rfl) ?_
                  refine lv_dload_n hx hb dX0_row_63 rfl (lv_at hl 4 rfl) ?_
                  refine lv_dload hx hb dX0_row_64 (lv_at hl 5 rfl) ?_
                  have hpm : List.Perm _ ((gx_lc (h3, dl, (p' ++ [rr]) ++ q) (gx_hd post none)) ++ ((hg0, .inr (0, [va_rf (gx_hd pre' (some h3)), .int (nI cnt)])) :: (gx_ls pre' (some h3) ++ gx_ls post none))) := List.perm_middle.symm
                  have hPc : va_P (dC, dI) vwCl (gx_lc (h3, dl, (p' ++ [rr]) ++ q) (gx_hd post none)) s.heap := va_P_sub hP (fun q hq => hpm.mem_iff.mpr (List.mem_append_left _ hq))
                  have hDc : va_D (fun _ => True) (gx_lc (h3, dl, (p' ++ [rr]) ++ q) (gx_hd post none)) := va_D_part hD hpm
                  have hFc := va_freeM (wc := gx_lc (h3, dl, (p' ++ [rr]) ++ q) (gx_hd post none)) hD hS hA (fun q hq => hpm.mem_iff.mpr (List.mem_append_left _ hq))
                  refine va_callv (va_runV (As := [.double bar, .double gg]) (rest := []) ⟨hx, hb, hml, hown, hts⟩ (m_X3_put l s.heap.size dC dI h3 dl (gx_hd post none) (p' ++ [rr]) q bar gg hsq) (cwV 2 hts (lw_V q54 q55 q56 q9 q57) rfl rfl rfl (by decide +kernel) ⟨Nat.le_of_ble_eq_true rfl, Nat.le_of_ble_eq_true rfl⟩) ⟨gy_fb, va_recv hK hPc (ci := 3) (q0 := 0) rfl rfl, fun U hU hW => ⟨rfl, by rw [hU], gx_pre hPc hK hN hU hW, hDc⟩⟩ rfl rfl hl.1 rfl (lv_room (Nat.le_of_ble_eq_true rfl)) dX0_row_66 ⟨Nat.le_of_ble_eq_true rfl, Nat.le_of_ble_eq_true rfl⟩) hS (fun q _ h => hFc q h) hFc (fun u t H1 locs ht hvm hw hB hz1 hk1 hS => ?_)
                  obtain ⟨⟨hP1, hK1, hN1⟩, hD1⟩ := hB
                  rw [ht] at hP1
                  obtain ⟨hP, hD⟩ := va_joinM hP hD hpm hk1 hFc hP1 hD1
                  generalize H1 = H at hP hS ⊢
                  have hw := pt_upd hcr hw
                  subst hw
                  have hP := va_P_perm hP List.perm_middle
                  have hD := va_D_perm hD List.perm_middle
                  refine lv_iconst (v := 1) hx hb dX0_row_69 (by decide) ?_
                  have hP : va_P (dC, dI) vwCl (gx_W hg0 cnt (pre' ++ (h3, dl, p' ++ (rr.1, rr.2.1, gg) :: q) :: post)) H := va_P_perm hP ((gx_W_perm hg0 cnt pre' (h3, dl, p' ++ (rr.1, rr.2.1, gg) :: q) post).symm)
                  have hD : va_D A (gx_W hg0 cnt (pre' ++ (h3, dl, p' ++ (rr.1, rr.2.1, gg) :: q) :: post)) := va_D_perm hD ((gx_W_perm hg0 cnt pre' (h3, dl, p' ++ (rr.1, rr.2.1, gg) :: q) post).symm)
                  refine W.widen (k := 2) (n := 6) (Nat.le_of_ble_eq_true rfl) (Nat.le_of_ble_eq_true rfl) ?_
                  exact W.zret (v := 1) hx hb hr rfl (fun t ht hW => ⟨⟨1, (cnt, pre' ++ (h3, dl, p' ++ (rr.1, rr.2.1, gg) :: q) :: post), rfl, Or.inr ⟨c_2, c_4, (pre' ++ [(h3, dl, (p' ++ [rr]) ++ q)]), post, rfl, hsp, Or.inl ⟨pre', h3, dl, (p' ++ [rr]), q, rfl, c_11, hsq, Or.inl ⟨rfl, p', rr, rfl, hcr, rfl⟩⟩⟩, ⟨by rw [ht]; exact hP, va_K.moved hW.alike hK, gx_N_warm hW hN⟩, hD⟩, hS.F ht⟩) hS.2.2 dX0_row_70
            · have hne : lastne (p' ++ [rr]) bar := lastne_app hcr
              refine lv_iconst (v := 1) hx hb dX0_row_40 (by decide) ?_
              refine lv_goto (tgt := 45) hx hb dX0_row_41 (by decide) ?_
              refine lv_istore (lv' := [(8, .int 1), (7, .ref h3), (0, .ref hg0), (1, .double dg), (3, .double bar), (5, .double gg)]) hx hb dX0_row_45 hl (by decide) rfl (fun ls hl => ?_)
              refine lv_iload hx hb dX0_row_47 (lv_at hl 0 rfl) ?_
              refine lv_if_eq (tgt := 71) hx hb dX0_row_49 (by decide) (fun c_25 => ?_) (fun c_25 => ?_)
              · exact absurd c_25 (by decide)
              · refine lv_aload hx hb dX0_row_52 (lv_at hl 1 rfl) ?_
                refine lv_dload_n hx hb dX0_row_54 rfl (lv_at hl 4 rfl) ?_
                have hPl : va_P (dC, dI) vwCl (gx_lc (h3, dl, (p' ++ [rr]) ++ q) (gx_hd post none)) s.heap := va_P_sub hP (fun q hq => List.mem_cons_of_mem _ (List.mem_append_left _ hq))
                refine vp_callSi (va_Run.run (va_runV (As := [.double bar]) (rest := []) ⟨hx, hb, hml, hown, hts⟩ (m_X3_has1 l dC dI h3 dl (gx_hd post none) p' rr q bar hsq) (cwV 1 hts (lw_V q45 q46 q47 q9 q48) rfl rfl rfl (by decide +kernel) ⟨Nat.le_of_ble_eq_true rfl, Nat.le_of_ble_eq_true rfl⟩) ⟨gx_fb, va_recv hK hPl (ci := 3) (q0 := 0) rfl rfl, fun U hU hW => ⟨rfl, gx_pre hPl hK hN hU hW⟩⟩ rfl rfl hl.1 rfl (lv_room (Nat.le_of_ble_eq_true rfl)) dX0_row_55 ⟨Nat.le_of_ble_eq_true rfl, Nat.le_of_ble_eq_true rfl⟩)) (fun r_26 hr_26 => ?_)
                obtain rfl : r_26 = 0 := by rw [hr_26]; exact if_neg hcr
                refine lv_if_eq (tgt := 71) hx hb dX0_row_58 (by decide) (fun c_27 => ?_) (fun c_27 => ?_)
                · refine lv_aload_n hx hb dX0_row_71 rfl (lv_at hl 2 rfl) ?_
                  refine va_get (D := (dC, dI)) (ci := 0) (v := .int (nI cnt)) (C := RX0) (T := TX0) (N := 2) hx hb hts in_X0 hown hK hP 0 rfl rfl 1 (by decide) (hts _ q19) (fun _ h9 => h9) rfl dX0_row_72 ?_
                  refine lv_bipush (v := 30) hx hb dX0_row_75 (by decide) ?_
                  refine lv_icmp_ne (tgt := 82) hx hb dX0_row_77 (by decide) (fun c_28 => ?_) (fun c_28 => ?_)
                  · have hlt : cnt < 30 := cnt_lt hcnt c_28
                    refine lv_aload_n hx hb dX0_row_82 rfl (lv_at hl 2 rfl) ?_
                    refine lv_dup hx hb dX0_row_83 rfl ?_
                    refine va_get (D := (dC, dI)) (ci := 0) (v := .int (nI cnt)) (C := RX0) (T := TX0) (N := 2) hx hb hts in_X0 hown hK hP 0 rfl rfl 1 (by decide) (hts _ q19) (fun _ h9 => h9) rfl dX0_row_84 ?_
                    refine lv_iconst (v := 1) hx hb dX0_row_87 (by decide) ?_
                    refine lv_iadd hx hb dX0_row_88 ?_
                    refine lv_topi (fun f_29 ef_29 => ?_)
                    obtain rfl : f_29 = nI (cnt + 1) := by rw [ef_29]; exact nI_1 cnt
                    refine va_put (D := (dC, dI)) (ci := 0) (v := .int (nI (cnt + 1))) (ty := .int) (C := RX0) (T := TX0) (N := 2) hx hb hts in_X0 tyX0 tyX0_ok nmX0 hown hK hP hD hS 0 rfl rfl 1 (by decide) (hts _ q19) (fun _ h9 => h9) rfl (by decide +kernel) rfl rfl (Nat.le_of_ble_eq_true rfl) dX0_row_89 (fun H locs hP hD hS => ?_)
                    have hP : va_P (dC, dI) vwCl ((hg0, .inr (0, [va_rf (gx_hd pre' (some h3)), .int (nI (cnt + 1))])) :: (gx_lc (h3, dl, (p' ++ [rr]) ++ q) (gx_hd post none) ++ (gx_ls pre' (some h3) ++ gx_ls post none))) H := hP
                    have hD : va_D A ((hg0, .inr (0, [va_rf (gx_hd pre' (some h3)), .int (nI (cnt + 1))])) :: (gx_lc (h3, dl, (p' ++ [rr]) ++ q) (gx_hd post none) ++ (gx_ls pre' (some h3) ++ gx_ls post none))) := hD
                    refine lv_iload hx hb dX0_row_92 (lv_at hl 0 rfl) ?_
                    refine lv_if_ne (tgt := 149) hx hb dX0_row_94 (by decide) (fun c_30 => ?_) (fun c_30 => ?_)
                    · refine lv_aload hx hb dX0_row_149 (lv_at hl 1 rfl) ?_
                      refine lv_dload_n hx hb dX0_row_151 rfl (lv_at hl 4 rfl) ?_
                      refine lv_dload hx hb dX0_row_152 (lv_at hl 5 rfl) ?_
                      have hpm : List.Perm _ ((gx_lc (h3, dl, (p' ++ [rr]) ++ q) (gx_hd post none)) ++ ((hg0, .inr (0, [va_rf (gx_hd pre' (some h3)), .int (nI (cnt + 1))])) :: (gx_ls pre' (some h3) ++ gx_ls post none))) := List.perm_middle.symm
                      have hPc : va_P (dC, dI) vwCl (gx_lc (h3, dl, (p' ++ [rr]) ++ q) (gx_hd post none)) H := va_P_sub hP (fun q hq => hpm.mem_iff.mpr (List.mem_append_left _ hq))
                      have hDc : va_D (fun _ => True) (gx_lc (h3, dl, (p' ++ [rr]) ++ q) (gx_hd post none)) := va_D_part hD hpm
                      have hFc := va_freeM (wc := gx_lc (h3, dl, (p' ++ [rr]) ++ q) (gx_hd post none)) hD hS hA (fun q hq => hpm.mem_iff.mpr (List.mem_append_left _ hq))
                      refine va_callv (va_runV (As := [.double bar, .double gg]) (rest := []) ⟨hx, hb, hml, hown, hts⟩ (m_X3_put l H.size dC dI h3 dl (gx_hd post none) (p' ++ [rr]) q bar gg hsq) (cwV 2 hts (lw_V q54 q55 q56 q9 q57) rfl rfl rfl (by decide +kernel) ⟨Nat.le_of_ble_eq_true rfl, Nat.le_of_ble_eq_true rfl⟩) ⟨gy_fb, va_recv hK hPc (ci := 3) (q0 := 0) rfl rfl, fun U hU hW => ⟨rfl, by rw [hU], gx_pre hPc hK hN hU hW, hDc⟩⟩ rfl rfl hl.1 rfl (lv_room (Nat.le_of_ble_eq_true rfl)) dX0_row_154 ⟨Nat.le_of_ble_eq_true rfl, Nat.le_of_ble_eq_true rfl⟩) hS (fun q _ h => hFc q h) hFc (fun u t H1 locs ht hvm hw hB hz1 hk1 hS => ?_)
                      obtain ⟨⟨hP1, hK1, hN1⟩, hD1⟩ := hB
                      rw [ht] at hP1
                      obtain ⟨hP, hD⟩ := va_joinM hP hD hpm hk1 hFc hP1 hD1
                      generalize H1 = H at hP hS ⊢
                      obtain ⟨k, rfl⟩ := pt_new hne hw
                      have hP := va_P_perm hP List.perm_middle
                      have hD := va_D_perm hD List.perm_middle
                      refine lv_iconst (v := 1) hx hb dX0_row_157 (by decide) ?_
                      have hP : va_P (dC, dI) vwCl (gx_W hg0 (cnt + 1) (pre' ++ (h3, dl, (p' ++ [rr]) ++ (k, bar, gg) :: q) :: post)) H := va_P_perm hP ((gx_W_perm hg0 (cnt + 1) pre' (h3, dl, (p' ++ [rr]) ++ (k, bar, gg) :: q) post).symm)
                      have hD : va_D A (gx_W hg0 (cnt + 1) (pre' ++ (h3, dl, (p' ++ [rr]) ++ (k, bar, gg) :: q) :: post)) := va_D_perm hD ((gx_W_perm hg0 (cnt + 1) pre' (h3, dl, (p' ++ [rr]) ++ (k, bar, gg) :: q) post).symm)
                      refine W.widen (k := 2) (n := 6) (Nat.le_of_ble_eq_true rfl) (Nat.le_of_ble_eq_true rfl) ?_
                      exact W.zret (v := 1) hx hb hr rfl (fun t ht hW => ⟨⟨1, (cnt + 1, pre' ++ (h3, dl, (p' ++ [rr]) ++ (k, bar, gg) :: q) :: post), rfl, Or.inr ⟨c_2, c_4, (pre' ++ [(h3, dl, (p' ++ [rr]) ++ q)]), post, rfl, hsp, Or.inl ⟨pre', h3, dl, (p' ++ [rr]), q, rfl, c_11, hsq, Or.inr ⟨hne, Or.inr ⟨hlt, rfl, k, rfl⟩⟩⟩⟩, ⟨by rw [ht]; exact hP, va_K.moved hW.alike hK, gx_N_warm hW hN⟩, hD⟩, hS.F ht⟩) hS.2.2 dX0_row_158
                    · exact absurd c_30 (by decide)
                  · have he30 : cnt = 30 := (nI_eq (by omega) (by decide)).mp c_28
                    refine lv_iconst (v := 0) hx hb dX0_row_80 (by decide) ?_
                    have hP : va_P (dC, dI) vwCl (gx_W hg0 cnt ((pre' ++ [(h3, dl, (p' ++ [rr]) ++ q)]) ++ post)) s.heap := va_P_perm hP ((gx_W_perm2 hg0 cnt pre' (h3, dl, (p' ++ [rr]) ++ q) post).symm)
                    have hD : va_D A (gx_W hg0 cnt ((pre' ++ [(h3, dl, (p' ++ [rr]) ++ q)]) ++ post)) := va_D_perm hD ((gx_W_perm2 hg0 cnt pre' (h3, dl, (p' ++ [rr]) ++ q) post).symm)
                    refine W.widen (k := 2) (n := 6) (Nat.le_of_ble_eq_true rfl) (Nat.le_of_ble_eq_true rfl) ?_
                    exact W.zret (v := 0) hx hb hr rfl (fun t ht hW => ⟨⟨0, (cnt, (pre' ++ [(h3, dl, (p' ++ [rr]) ++ q)]) ++ post), rfl, Or.inr ⟨c_2, c_4, (pre' ++ [(h3, dl, (p' ++ [rr]) ++ q)]), post, rfl, hsp, Or.inl ⟨pre', h3, dl, (p' ++ [rr]), q, rfl, c_11, hsq, Or.inr ⟨hne, Or.inl ⟨he30, rfl, rfl⟩⟩⟩⟩, ⟨by rw [ht]; exact hP, va_K.moved hW.alike hK, gx_N_warm hW hN⟩, hD⟩, hS.F ht⟩) hS.2.2 dX0_row_81
                · exact absurd c_27 (by decide)
    · refine lv_iconst (v := 0) hx hb dX0_row_16 (by decide) ?_
      refine W.widen (k := 2) (n := 6) (Nat.le_of_ble_eq_true rfl) (Nat.le_of_ble_eq_true rfl) ?_
      exact W.zret (v := 0) hx hb hr rfl (fun t ht hW => ⟨⟨0, (cnt, xs), rfl, Or.inl ⟨Or.inr c_4, rfl, rfl⟩, ⟨by rw [ht]; exact hP, va_K.moved hW.alike hK, gx_N_warm hW hN⟩, hD⟩, hS.F ht⟩) hS.2.2 dX0_row_17
end
section
/-! GasRows: balance, after, burst, mixed -/
set_option maxHeartbeats 4000000 in
set_option maxRecDepth 100000 in
/-- GasRows.balance -/
theorem m_X0_balance (l : Launch) (dC : Nat → ClassId) (dI : Nat → Nat → Nat) (hg0 : Nat) (cnt : Nat) (ls_ : List gx_L) (dg bar v : UInt64) (hv : ¬ gr_place dg bar = 0 → atv ls_ dg bar v) : Met l yX0_balance (ws_ yX0_balance cX0_balance 5 (some .double)) ({ frames := 4, cells := 0, slots := 0, locals := 96 }) (va_Pc [.ref hg0, .double dg, .double bar] (gx_B dC dI (gx_W hg0 cnt ls_))) (vp_Sd (fun r => r = bl_val v dg bar)) 0 0 (fun _ => False) := by
  refine Met.ofW (cc := cX0_balance) (maxL := 5) (ret := (some .double)) (by decide) rfl ?_
  intro p e s m args below meth c s₁ B hml hv
  obtain ⟨rfl, hP, hK, hN⟩ := hv
  have hx := B.exec
  have hb := B.bytes
  have hr := B.returns
  have hts := atoms_spec (ws := ws_ yX0_balance cX0_balance 5 (some .double)) B.pre
  have hts : ∀ w ∈ lw_all, w.before _ s = true := fun w h => hts w (List.mem_cons_of_mem _ h)
  have hown : s.vm.findClass RX0 = some m.cls := findClass_of_methodNamed B.named
  have hlocks := B.notSynchronized
  have hl := lv_entry ([.ref hg0, .double dg, .double bar]) (n := 5) (Nat.le_of_ble_eq_true rfl)
  rw [lg_entry_eq]
  generalize (lg_sl ([.ref hg0, .double dg, .double bar]) ++ List.replicate (5 - (lg_sl ([.ref hg0, .double dg, .double bar])).length) Slot.unset).toArray = ls at hl ⊢
  have hl : lv_has ls 5 [(0, .ref hg0), (1, .double dg), (3, .double bar)] := hl
  have hP : va_P (dC, dI) vwCl (gx_W hg0 cnt ls_) s.heap := hP
  have hK : va_K (dC, dI) vwCl [] s := hK
  refine lv_dload_n hx hb dX0_balance_0 rfl (lv_at hl 1 rfl) ?_
  refine lv_dload_n hx hb dX0_balance_1 rfl (lv_at hl 2 rfl) ?_
  refine vp_callSi (va_Run.run (va_runS (As := [.double dg, .double bar]) (rest := []) ⟨hx, hb, hml, hown, hts⟩ (m_X0_isPlace l dg bar) (va_cwS 2 hts (lw_S q29 q30 q6 q31) rfl rfl rfl (by decide +kernel) ⟨Nat.le_of_ble_eq_true rfl, Nat.le_of_ble_eq_true rfl⟩) ⟨fun _ _ _ _ q => q, fun U hU hW => ⟨rfl, trivial⟩⟩ rfl rfl hl.1 rfl (lv_room (Nat.le_of_ble_eq_true rfl)) dX0_balance_2 ⟨Nat.le_of_ble_eq_true rfl, Nat.le_of_ble_eq_true rfl⟩)) (fun r_1 hr_1 => ?_)
  subst hr_1
  refine lv_if_eq (tgt := 17) hx hb dX0_balance_5 (by decide) (fun c_2 => ?_) (fun c_2 => ?_)
  · refine lv_ldc2d (own := RX0) (v := k_m1) hx hb hown (hts _ q110) dX0_balance_17 ?_
    exact W.dret (v := k_m1) hx hb hr (fun t ht hW => ⟨k_m1, rfl, by rw [bl_val, if_pos c_2], ht⟩) (fun _ h => nomatch h) dX0_balance_20
  · refine lv_aload_n hx hb dX0_balance_8 rfl (lv_at hl 0 rfl) ?_
    refine lv_dload_n hx hb dX0_balance_9 rfl (lv_at hl 1 rfl) ?_
    refine lv_dload_n hx hb dX0_balance_10 rfl (lv_at hl 2 rfl) ?_
    refine vp_callSd (va_Run.run (va_runV (As := [.double dg, .double bar]) (rest := []) ⟨hx, hb, hml, hown, hts⟩ (m_X0_at l dC dI hg0 cnt ls_ dg bar v (hv c_2)) (cwV 2 hts (lw_V q98 q100 qs2 q6 q101) rfl rfl rfl (by decide +kernel) ⟨Nat.le_of_ble_eq_true rfl, Nat.le_of_ble_eq_true rfl⟩) ⟨gx_fb, va_recv hK hP (ci := 0) (q0 := 0) rfl rfl, fun U hU hW => ⟨rfl, gx_pre hP hK hN hU hW⟩⟩ rfl rfl hl.1 rfl (lv_room (Nat.le_of_ble_eq_true rfl)) dX0_balance_11 ⟨Nat.le_of_ble_eq_true rfl, Nat.le_of_ble_eq_true rfl⟩)) (fun r_3 hr_3 => ?_)
    have hr_3 := hr_3.symm
    subst hr_3
    refine lv_goto (tgt := 20) hx hb dX0_balance_14 (by decide) ?_
    exact W.dret (v := v) hx hb hr (fun t ht hW => ⟨v, rfl, by rw [bl_val, if_neg c_2], ht⟩) (fun _ h => nomatch h) dX0_balance_20

set_option maxHeartbeats 4000000 in
set_option maxRecDepth 100000 in
/-- GasRows.after -/
theorem m_X0_after (l : Launch) (dC : Nat → ClassId) (dI : Nat → Nat → Nat) (hg0 : Nat) (cnt : Nat) (ls_ : List gx_L) (gg dg bar v : UInt64) (tt : Int32) (hgg : fin_ gg) (hv : ¬ gr_place dg bar = 0 → atv ls_ dg bar v ∧ bnd v MM) : Met l yX0_after (ws_ yX0_after cX0_after 13 (some .double)) ({ frames := 4, cells := 0, slots := 0, locals := 96 }) (va_Pc [.ref hg0, .double gg, .double dg, .double bar, .int tt] (gx_B dC dI (gx_W hg0 cnt ls_))) (vp_Sd (fun r => r = an_val v gg dg bar tt)) 0 0 (fun _ => False) := by
  refine Met.ofW (cc := cX0_after) (maxL := 13) (ret := (some .double)) (by decide) rfl ?_
  intro p e s m args below meth c s₁ B hml hv
  obtain ⟨rfl, hP, hK, hN⟩ := hv
  have hx := B.exec
  have hb := B.bytes
  have hr := B.returns
  have hts := atoms_spec (ws := ws_ yX0_after cX0_after 13 (some .double)) B.pre
  have hts : ∀ w ∈ lw_all, w.before _ s = true := fun w h => hts w (List.mem_cons_of_mem _ h)
  have hown : s.vm.findClass RX0 = some m.cls := findClass_of_methodNamed B.named
  have hlocks := B.notSynchronized
  have hl := lv_entry ([.ref hg0, .double gg, .double dg, .double bar, .int tt]) (n := 13) (Nat.le_of_ble_eq_true rfl)
  rw [lg_entry_eq]
  generalize (lg_sl ([.ref hg0, .double gg, .double dg, .double bar, .int tt]) ++ List.replicate (13 - (lg_sl ([.ref hg0, .double gg, .double dg, .double bar, .int tt])).length) Slot.unset).toArray = ls at hl ⊢
  have hl : lv_has ls 13 [(0, .ref hg0), (1, .double gg), (3, .double dg), (5, .double bar), (7, .int tt)] := hl
  have hP : va_P (dC, dI) vwCl (gx_W hg0 cnt ls_) s.heap := hP
  have hK : va_K (dC, dI) vwCl [] s := hK
  refine lv_dload_n hx hb dX0_after_0 rfl (lv_at hl 1 rfl) ?_
  refine vp_callSi (va_Run.run (va_runS (As := [.double gg]) (rest := []) ⟨hx, hb, hml, hown, hts⟩ (m_X0_isGas l gg) (va_cwS 1 hts (lw_S q38 q39 q6 q40) rfl rfl rfl (by decide +kernel) ⟨Nat.le_of_ble_eq_true rfl, Nat.le_of_ble_eq_true rfl⟩) ⟨fun _ _ _ _ q => q, fun U hU hW => ⟨rfl, trivial⟩⟩ rfl rfl hl.1 rfl (lv_room (Nat.le_of_ble_eq_true rfl)) dX0_after_1 ⟨Nat.le_of_ble_eq_true rfl, Nat.le_of_ble_eq_true rfl⟩)) (fun r_1 hr_1 => ?_)
  subst hr_1
  refine lv_if_eq (tgt := 24) hx hb dX0_after_4 (by decide) (fun c_2 => ?_) (fun c_2 => ?_)
  · refine lv_ldc2d (own := RX0) (v := k_m1) hx hb hown (hts _ q110) dX0_after_24 ?_
    exact W.dret (v := k_m1) hx hb hr (fun t ht hW => ⟨k_m1, rfl, by rw [an_val, if_pos c_2], ht⟩) (fun _ h => nomatch h) dX0_after_27
  · refine lv_dload_n hx hb dX0_after_7 rfl (lv_at hl 2 rfl) ?_
    refine lv_dload hx hb dX0_after_8 (lv_at hl 3 rfl) ?_
    refine vp_callSi (va_Run.run (va_runS (As := [.double dg, .double bar]) (rest := []) ⟨hx, hb, hml, hown, hts⟩ (m_X0_isPlace l dg bar) (va_cwS 2 hts (lw_S q29 q30 q6 q31) rfl rfl rfl (by decide +kernel) ⟨Nat.le_of_ble_eq_true rfl, Nat.le_of_ble_eq_true rfl⟩) ⟨fun _ _ _ _ q => q, fun U hU hW => ⟨rfl, trivial⟩⟩ rfl rfl hl.1 rfl (lv_room (Nat.le_of_ble_eq_true rfl)) dX0_after_10 ⟨Nat.le_of_ble_eq_true rfl, Nat.le_of_ble_eq_true rfl⟩)) (fun r_3 hr_3 => ?_)
    subst hr_3
    refine lv_if_eq (tgt := 24) hx hb dX0_after_13 (by decide) (fun c_4 => ?_) (fun c_4 => ?_)
    · refine lv_ldc2d (own := RX0) (v := k_m1) hx hb hown (hts _ q110) dX0_after_24 ?_
      exact W.dret (v := k_m1) hx hb hr (fun t ht hW => ⟨k_m1, rfl, by rw [an_val, if_neg c_2, if_pos c_4], ht⟩) (fun _ h => nomatch h) dX0_after_27
    · refine lv_iload hx hb dX0_after_16 (lv_at hl 4 rfl) ?_
      refine vp_callSi (va_Run.run (va_runS (As := [.int tt]) (rest := []) ⟨hx, hb, hml, hown, hts⟩ (m_X0_isTime l tt) (va_cwS 1 hts (lw_S q115 q116 q6 q117) rfl rfl rfl (by decide +kernel) ⟨Nat.le_of_ble_eq_true rfl, Nat.le_of_ble_eq_true rfl⟩) ⟨fun _ _ _ _ q => q, fun U hU hW => ⟨rfl, trivial⟩⟩ rfl rfl hl.1 rfl (lv_room (Nat.le_of_ble_eq_true rfl)) dX0_after_18 ⟨Nat.le_of_ble_eq_true rfl, Nat.le_of_ble_eq_true rfl⟩)) (fun r_5 hr_5 => ?_)
      subst hr_5
      refine lv_if_ne (tgt := 28) hx hb dX0_after_21 (by decide) (fun c_6 => ?_) (fun c_6 => ?_)
      · obtain ⟨et, hn⟩ := tm_time c_6
        refine lv_aload_n hx hb dX0_after_28 rfl (lv_at hl 0 rfl) ?_
        refine lv_dload_n hx hb dX0_after_29 rfl (lv_at hl 2 rfl) ?_
        refine lv_dload hx hb dX0_after_30 (lv_at hl 3 rfl) ?_
        refine vp_callSd (va_Run.run (va_runV (As := [.double dg, .double bar]) (rest := []) ⟨hx, hb, hml, hown, hts⟩ (m_X0_at l dC dI hg0 cnt ls_ dg bar v (hv c_4).1) (cwV 2 hts (lw_V q98 q100 qs2 q6 q101) rfl rfl rfl (by decide +kernel) ⟨Nat.le_of_ble_eq_true rfl, Nat.le_of_ble_eq_true rfl⟩) ⟨gx_fb, va_recv hK hP (ci := 0) (q0 := 0) rfl rfl, fun U hU hW => ⟨rfl, gx_pre hP hK hN hU hW⟩⟩ rfl rfl hl.1 rfl (lv_room (Nat.le_of_ble_eq_true rfl)) dX0_after_32 ⟨Nat.le_of_ble_eq_true rfl, Nat.le_of_ble_eq_true rfl⟩)) (fun r_7 hr_7 => ?_)
        have hr_7 := hr_7.symm
        subst hr_7
        refine lv_dstore (lv' := [(8, .double v), (0, .ref hg0), (1, .double gg), (3, .double dg), (5, .double bar), (7, .int tt)]) hx hb dX0_after_35 hl (by decide) rfl (fun ls hl => ?_)
        refine lv_dload_n hx hb dX0_after_37 rfl (lv_at hl 2 rfl) ?_
        refine lv_dstore (lv' := [(10, .double gg), (8, .double v), (0, .ref hg0), (1, .double gg), (3, .double dg), (5, .double bar), (7, .int tt)]) hx hb dX0_after_38 hl (by decide) rfl (fun ls hl => ?_)
        refine lv_iconst (v := 0) hx hb dX0_after_40 (by decide) ?_
        refine lv_istore (lv' := [(12, .int 0), (10, .double gg), (8, .double v), (0, .ref hg0), (1, .double gg), (3, .double dg), (5, .double bar), (7, .int tt)]) hx hb dX0_after_41 hl (by decide) rfl (fun ls hl => ?_)
        have hvb := (hv c_4).2
        have loop : ∀ (j i : Nat) (gx : UInt64), i + j = tm_n tt → bnd gx MM → af_it j v gx = af_it (tm_n tt) v gg → ∀ ls : Array Slot, lv_has ls 13 [(12, .int (nI i)), (10, .double gx), (8, .double v), (0, .ref hg0), (1, .double gg), (3, .double dg), (5, .double bar), (7, .int tt)] → W p l e (headSpec (ws_ yX0_after cX0_after 13 (some .double)) ({ frames := 4, cells := 0, slots := 0, locals := 96 })).room s m ([.ref hg0, .double gg, .double dg, .double bar, .int tt] : List Value).toArray below meth c s.heap [] 0 0 (MQ below (vp_Sd (fun r => r = an_val v gg dg bar tt)) ([.ref hg0, .double gg, .double dg, .double bar, .int tt] : List Value).toArray s 0 0 (fun _ => False)) (F0 m 43 ls []) := by
          intro j
          induction j with
          | zero =>
            intro i gx hij hI hV ls hl
            refine lv_iload hx hb dX0_after_43 (lv_at hl 0 rfl) ?_
            refine lv_iload hx hb dX0_after_45 (lv_at hl 7 rfl) ?_
            refine lv_icmp_ge (tgt := 70) hx hb dX0_after_47 (by decide) (fun c_8 => ?_) (fun c_8 => ?_)
            · refine lv_dload hx hb dX0_after_70 (lv_at hl 1 rfl) ?_
              exact W.dret (v := gx) hx hb hr (fun t ht hW => ⟨gx, rfl, by rw [an_val, if_neg c_2, if_neg c_4, if_neg c_6]; exact hV, ht⟩) (fun _ h => nomatch h) dX0_after_72
            · exact absurd (by rw [et]; exact nI_le (by omega) (by omega)) c_8
          | succ j ih =>
            intro i gx hij hI hV ls hl
            refine lv_iload hx hb dX0_after_43 (lv_at hl 0 rfl) ?_
            refine lv_iload hx hb dX0_after_45 (lv_at hl 7 rfl) ?_
            refine lv_icmp_ge (tgt := 70) hx hb dX0_after_47 (by decide) (fun c_9 => ?_) (fun c_9 => ?_)
            · exact absurd (by rw [← et]; exact c_9) (nI_ge (a := i) (b := tm_n tt) (by omega) (by omega))
            · have ok := af_ok (by decide) hvb hI
              refine lv_dload hx hb dX0_after_50 (lv_at hl 1 rfl) ?_
              refine lv_dload hx hb dX0_after_52 (lv_at hl 2 rfl) ?_
              refine lv_dload hx hb dX0_after_54 (lv_at hl 1 rfl) ?_
              refine lv_dsub hx hb dX0_after_56 (ok.1) ?_
              refine lv_ldc2d (own := RX0) (v := k_1024) hx hb hown (hts _ q119) dX0_after_57 ?_
              refine lv_dmul hx hb dX0_after_60 (ok.2.1) ?_
              refine lv_dadd hx hb dX0_after_61 (ok.2.2.1) ?_
              refine lv_dstore (lv' := [(10, .double (FP.dadd gx (FP.dmul (FP.dsub v gx) k_1024))), (12, .int (nI i)), (8, .double v), (0, .ref hg0), (1, .double gg), (3, .double dg), (5, .double bar), (7, .int tt)]) hx hb dX0_after_62 hl (by decide) rfl (fun ls hl => ?_)
              refine lv_iinc (v := nI (i + 1)) (lv' := [(12, .int (nI (i + 1))), (10, .double (FP.dadd gx (FP.dmul (FP.dsub v gx) k_1024))), (8, .double v), (0, .ref hg0), (1, .double gg), (3, .double dg), (5, .double bar), (7, .int tt)]) hx hb dX0_after_64 hl (k := 1) rfl (nI_1 i) (by decide) rfl (fun ls hl => ?_)
              refine lv_goto (tgt := 43) hx hb dX0_after_67 (by decide) ?_
              exact ih (i + 1) _ (by omega) ok.2.2.2 (by rw [← hV, af_it]) ls (lv_sub hl [0, 1, 2, 3, 4, 5, 6, 7] rfl)
        obtain ⟨zg, hzg, -, hzb⟩ := in_gas hgg c_2
        exact loop (tm_n tt) 0 gg (by omega) (bnd_le ⟨zg, hzg, hzb⟩ (by decide)) rfl ls (lv_sub hl [0, 1, 2, 3, 4, 5, 6, 7] rfl)
      · refine lv_ldc2d (own := RX0) (v := k_m1) hx hb hown (hts _ q110) dX0_after_24 ?_
        exact W.dret (v := k_m1) hx hb hr (fun t ht hW => ⟨k_m1, rfl, by rw [an_val, if_neg c_2, if_neg c_4, if_pos c_6], ht⟩) (fun _ h => nomatch h) dX0_after_27

set_option maxHeartbeats 4000000 in
set_option maxRecDepth 100000 in
/-- GasRows.burst -/
theorem m_X0_burst (l : Launch) (dC : Nat → ClassId) (dI : Nat → Nat → Nat) (hg0 : Nat) (cnt : Nat) (ls_ : List gx_L) (gg dg lim : UInt64) (V : Nat → UInt64) (hgg : fin_ gg) (hv : ¬ gr_in dg k_m10 k_100 = 0 → ∀ k, k ≤ 160 → atv ls_ dg (gk (nI k)) (V k) ∧ fin_ (V k)) : Met l yX0_burst (ws_ yX0_burst cX0_burst 10 (some .int)) ({ frames := 4, cells := 0, slots := 0, locals := 96 }) (va_Pc [.ref hg0, .double gg, .double dg, .double lim] (gx_B dC dI (gx_W hg0 cnt ls_))) (vp_Si (fun r => r = bs_val V gg dg lim)) 0 0 (fun _ => False) := by
  refine Met.ofW (cc := cX0_burst) (maxL := 10) (ret := (some .int)) (by decide) rfl ?_
  intro p e s m args below meth c s₁ B hml hv
  obtain ⟨rfl, hP, hK, hN⟩ := hv
  have hx := B.exec
  have hb := B.bytes
  have hr := B.returns
  have hts := atoms_spec (ws := ws_ yX0_burst cX0_burst 10 (some .int)) B.pre
  have hts : ∀ w ∈ lw_all, w.before _ s = true := fun w h => hts w (List.mem_cons_of_mem _ h)
  have hown : s.vm.findClass RX0 = some m.cls := findClass_of_methodNamed B.named
  have hlocks := B.notSynchronized
  have hl := lv_entry ([.ref hg0, .double gg, .double dg, .double lim]) (n := 10) (Nat.le_of_ble_eq_true rfl)
  rw [lg_entry_eq]
  generalize (lg_sl ([.ref hg0, .double gg, .double dg, .double lim]) ++ List.replicate (10 - (lg_sl ([.ref hg0, .double gg, .double dg, .double lim])).length) Slot.unset).toArray = ls at hl ⊢
  have hl : lv_has ls 10 [(0, .ref hg0), (1, .double gg), (3, .double dg), (5, .double lim)] := hl
  have hP : va_P (dC, dI) vwCl (gx_W hg0 cnt ls_) s.heap := hP
  have hK : va_K (dC, dI) vwCl [] s := hK
  refine lv_dload_n hx hb dX0_burst_0 rfl (lv_at hl 1 rfl) ?_
  refine vp_callSi (va_Run.run (va_runS (As := [.double gg]) (rest := []) ⟨hx, hb, hml, hown, hts⟩ (m_X0_isGas l gg) (va_cwS 1 hts (lw_S q38 q39 q6 q40) rfl rfl rfl (by decide +kernel) ⟨Nat.le_of_ble_eq_true rfl, Nat.le_of_ble_eq_true rfl⟩) ⟨fun _ _ _ _ q => q, fun U hU hW => ⟨rfl, trivial⟩⟩ rfl rfl hl.1 rfl (lv_room (Nat.le_of_ble_eq_true rfl)) dX0_burst_1 ⟨Nat.le_of_ble_eq_true rfl, Nat.le_of_ble_eq_true rfl⟩)) (fun r_1 hr_1 => ?_)
  subst hr_1
  refine lv_if_eq (tgt := 32) hx hb dX0_burst_4 (by decide) (fun c_2 => ?_) (fun c_2 => ?_)
  · refine lv_bipush (v := -2) hx hb dX0_burst_32 (by decide) ?_
    exact W.iret (v := (-2)) hx hb hr (fun t ht hW => ⟨(-2), rfl, by rw [bs_val, if_pos c_2], ht⟩) (fun _ h => nomatch h) dX0_burst_34
  · refine lv_dload_n hx hb dX0_burst_7 rfl (lv_at hl 2 rfl) ?_
    refine lv_ldc2d (own := RX0) (v := k_m10) hx hb hown (hts _ q32) dX0_burst_8 ?_
    refine lv_ldc2d (own := RX0) (v := k_100) hx hb hown (hts _ q33) dX0_burst_11 ?_
    refine vp_callSi (va_Run.run (va_runS (As := [.double dg, .double k_m10, .double k_100]) (rest := []) ⟨hx, hb, hml, hown, hts⟩ (m_X0_isWithin l dg k_m10 k_100) (va_cwS 3 hts (lw_S q34 q35 q6 q36) rfl rfl rfl (by decide +kernel) ⟨Nat.le_of_ble_eq_true rfl, Nat.le_of_ble_eq_true rfl⟩) ⟨fun _ _ _ _ q => q, fun U hU hW => ⟨rfl, trivial⟩⟩ rfl rfl hl.1 rfl (lv_room (Nat.le_of_ble_eq_true rfl)) dX0_burst_14 ⟨Nat.le_of_ble_eq_true rfl, Nat.le_of_ble_eq_true rfl⟩)) (fun r_3 hr_3 => ?_)
    subst hr_3
    refine lv_if_eq (tgt := 32) hx hb dX0_burst_17 (by decide) (fun c_4 => ?_) (fun c_4 => ?_)
    · refine lv_bipush (v := -2) hx hb dX0_burst_32 (by decide) ?_
      exact W.iret (v := (-2)) hx hb hr (fun t ht hW => ⟨(-2), rfl, by rw [bs_val, if_neg c_2, if_pos c_4], ht⟩) (fun _ h => nomatch h) dX0_burst_34
    · refine lv_dload hx hb dX0_burst_20 (lv_at hl 3 rfl) ?_
      refine lv_dconst0 hx hb dX0_burst_22 ?_
      refine lv_ldc2d (own := RX0) (v := k_20) hx hb hown (hts _ q37) dX0_burst_23 ?_
      refine vp_callSi (va_Run.run (va_runS (As := [.double lim, .double FP.dconst0, .double k_20]) (rest := []) ⟨hx, hb, hml, hown, hts⟩ (m_X0_isWithin l lim FP.dconst0 k_20) (va_cwS 3 hts (lw_S q34 q35 q6 q36) rfl rfl rfl (by decide +kernel) ⟨Nat.le_of_ble_eq_true rfl, Nat.le_of_ble_eq_true rfl⟩) ⟨fun _ _ _ _ q => q, fun U hU hW => ⟨rfl, trivial⟩⟩ rfl rfl hl.1 rfl (lv_room (Nat.le_of_ble_eq_true rfl)) dX0_burst_26 ⟨Nat.le_of_ble_eq_true rfl, Nat.le_of_ble_eq_true rfl⟩)) (fun r_5 hr_5 => ?_)
      subst hr_5
      refine lv_if_ne (tgt := 35) hx hb dX0_burst_29 (by decide) (fun c_6 => ?_) (fun c_6 => ?_)
      · refine lv_iconst (v := 0) hx hb dX0_burst_35 (by decide) ?_
        refine lv_istore (lv' := [(7, .int 0), (0, .ref hg0), (1, .double gg), (3, .double dg), (5, .double lim)]) hx hb dX0_burst_36 hl (by decide) rfl (fun ls hl => ?_)
        have hvk := hv c_4
        have loop : ∀ (j i : Nat), i + j = 161 → bs_it V gg lim j i = bs_it V gg lim 161 0 → ∀ ls : Array Slot, lv_has ls 10 [(7, .int (nI i)), (0, .ref hg0), (1, .double gg), (3, .double dg), (5, .double lim)] → W p l e (headSpec (ws_ yX0_burst cX0_burst 10 (some .int)) ({ frames := 4, cells := 0, slots := 0, locals := 96 })).room s m ([.ref hg0, .double gg, .double dg, .double lim] : List Value).toArray below meth c s.heap [] 0 0 (MQ below (vp_Si (fun r => r = bs_val V gg dg lim)) ([.ref hg0, .double gg, .double dg, .double lim] : List Value).toArray s 0 0 (fun _ => False)) (F0 m 38 ls []) := by
          intro j
          induction j with
          | zero =>
            intro i hij hV ls hl
            refine lv_iload hx hb dX0_burst_38 (lv_at hl 0 rfl) ?_
            refine lv_sipush (v := 160) hx hb dX0_burst_40 (by decide) ?_
            refine lv_icmp_gt (tgt := 87) hx hb dX0_burst_43 (by decide) (fun c_7 => ?_) (fun c_7 => ?_)
            · refine lv_iconst (v := 1) hx hb dX0_burst_87 (by decide) ?_
              exact W.iret (v := 1) hx hb hr (fun t ht hW => ⟨1, rfl, by rw [bs_val, if_neg c_2, if_neg c_4, if_neg c_6]; exact hV, ht⟩) (fun _ h => nomatch h) dX0_burst_88
            · exact absurd (nI_lt (a := 160) (b := i) (by omega) (by omega)) c_7
          | succ j ih =>
            intro i hij hV ls hl
            refine lv_iload hx hb dX0_burst_38 (lv_at hl 0 rfl) ?_
            refine lv_sipush (v := 160) hx hb dX0_burst_40 (by decide) ?_
            refine lv_icmp_gt (tgt := 87) hx hb dX0_burst_43 (by decide) (fun c_8 => ?_) (fun c_8 => ?_)
            · exact absurd c_8 (nI_nlt (a := 160) (b := i) (by omega) (by decide))
            · refine lv_iload hx hb dX0_burst_46 (lv_at hl 0 rfl) ?_
              refine lv_i2d hx hb dX0_burst_48 ?_
              refine lv_ldc2d (own := RX0) (v := k_8) hx hb hown (hts _ q150) dX0_burst_49 ?_
              refine lv_dmul hx hb dX0_burst_52 (n_gk _) ?_
              refine lv_topd (fun f_9 ef_9 => ?_)
              obtain rfl : f_9 = gk (nI i) := by rw [ef_9]; rfl
              refine lv_dstore (lv' := [(8, .double (gk (nI i))), (7, .int (nI i)), (0, .ref hg0), (1, .double gg), (3, .double dg), (5, .double lim)]) hx hb dX0_burst_53 hl (by decide) rfl (fun ls hl => ?_)
              refine lv_aload_n hx hb dX0_burst_55 rfl (lv_at hl 2 rfl) ?_
              refine lv_dload_n hx hb dX0_burst_56 rfl (lv_at hl 4 rfl) ?_
              refine lv_dload hx hb dX0_burst_57 (lv_at hl 0 rfl) ?_
              refine vp_callSd (va_Run.run (va_runV (As := [.double dg, .double (gk (nI i))]) (rest := []) ⟨hx, hb, hml, hown, hts⟩ (m_X0_at l dC dI hg0 cnt ls_ dg (gk (nI i)) (V i) (hvk i (by omega)).1) (cwV 2 hts (lw_V q98 q100 qs2 q6 q101) rfl rfl rfl (by decide +kernel) ⟨Nat.le_of_ble_eq_true rfl, Nat.le_of_ble_eq_true rfl⟩) ⟨gx_fb, va_recv hK hP (ci := 0) (q0 := 0) rfl rfl, fun U hU hW => ⟨rfl, gx_pre hP hK hN hU hW⟩⟩ rfl rfl hl.1 rfl (lv_room (Nat.le_of_ble_eq_true rfl)) dX0_burst_59 ⟨Nat.le_of_ble_eq_true rfl, Nat.le_of_ble_eq_true rfl⟩)) (fun r_10 hr_10 => ?_)
              have hr_10 := hr_10.symm
              subst hr_10
              refine lv_dload_n hx hb dX0_burst_62 rfl (lv_at hl 3 rfl) ?_
              refine lv_dcmp hx hb dX0_burst_63 ?_
              refine lv_if_lt (tgt := 81) hx hb dX0_burst_64 (by decide) (fun c_11 => ?_) (fun c_11 => ?_)
              · have hlt := c_11
                refine lv_iinc (v := nI (i + 1)) (lv' := [(7, .int (nI (i + 1))), (8, .double (gk (nI i))), (0, .ref hg0), (1, .double gg), (3, .double dg), (5, .double lim)]) hx hb dX0_burst_81 hl (k := 1) rfl (nI_1 i) (by decide) rfl (fun ls hl => ?_)
                refine lv_goto (tgt := 38) hx hb dX0_burst_84 (by decide) ?_
                exact ih (i + 1) (by omega) (by rw [← hV, bs_it, if_pos hlt]) ls (lv_sub hl [0, 2, 3, 4, 5] rfl)
              · have hlt := c_11
                refine lv_dload hx hb dX0_burst_67 (lv_at hl 0 rfl) ?_
                refine lv_dload hx hb dX0_burst_69 (lv_at hl 5 rfl) ?_
                refine lv_dcmp hx hb dX0_burst_71 ?_
                refine lv_if_le (tgt := 79) hx hb dX0_burst_72 (by decide) (fun c_12 => ?_) (fun c_12 => ?_)
                · refine lv_iconst (v := 0) hx hb dX0_burst_79 (by decide) ?_
                  exact W.iret (v := 0) hx hb hr (fun t ht hW => ⟨0, rfl, by rw [bs_val, if_neg c_2, if_neg c_4, if_neg c_6, ← hV, bs_it, if_neg hlt, if_pos c_12], ht⟩) (fun _ h => nomatch h) dX0_burst_80
                · refine lv_iconst (v := 1) hx hb dX0_burst_75 (by decide) ?_
                  refine lv_goto (tgt := 80) hx hb dX0_burst_76 (by decide) ?_
                  exact W.iret (v := 1) hx hb hr (fun t ht hW => ⟨1, rfl, by rw [bs_val, if_neg c_2, if_neg c_4, if_neg c_6, ← hV, bs_it, if_neg hlt, if_neg c_12], ht⟩) (fun _ h => nomatch h) dX0_burst_80
        exact loop 161 0 (by omega) rfl ls (lv_sub hl [0, 1, 2, 3, 4] rfl)
      · refine lv_bipush (v := -2) hx hb dX0_burst_32 (by decide) ?_
        exact W.iret (v := (-2)) hx hb hr (fun t ht hW => ⟨(-2), rfl, by rw [bs_val, if_neg c_2, if_neg c_4, if_pos c_6], ht⟩) (fun _ h => nomatch h) dX0_burst_34

set_option maxHeartbeats 4000000 in
set_option maxRecDepth 100000 in
/-- GasRows.mixed -/
theorem m_X0_mixed (l : Launch) (dC : Nat → ClassId) (dI : Nat → Nat → Nat) (hg0 : Nat) (cnt : Nat) (ls_ : List gx_L) (nit dg bar v : UInt64) (gas : Int32) (hnit : fin_ nit) (hbar : fin_ bar) (hv : ¬ gr_in nit FP.dconst0 FP.dconst1 = 0 → ¬ gr_place dg bar = 0 → atv ls_ dg (mi_bar bar nit) v) : Met l yX0_mixed (ws_ yX0_mixed cX0_mixed 10 (some .double)) ({ frames := 4, cells := 0, slots := 0, locals := 96 }) (va_Pc [.ref hg0, .double nit, .double dg, .double bar, .int gas] (gx_B dC dI (gx_W hg0 cnt ls_))) (vp_Sd (fun r => r = mx_val v nit dg bar gas)) 0 0 (fun _ => False) := by
  refine Met.ofW (cc := cX0_mixed) (maxL := 10) (ret := (some .double)) (by decide) rfl ?_
  intro p e s m args below meth c s₁ B hml hv
  obtain ⟨rfl, hP, hK, hN⟩ := hv
  have hx := B.exec
  have hb := B.bytes
  have hr := B.returns
  have hts := atoms_spec (ws := ws_ yX0_mixed cX0_mixed 10 (some .double)) B.pre
  have hts : ∀ w ∈ lw_all, w.before _ s = true := fun w h => hts w (List.mem_cons_of_mem _ h)
  have hown : s.vm.findClass RX0 = some m.cls := findClass_of_methodNamed B.named
  have hlocks := B.notSynchronized
  have hl := lv_entry ([.ref hg0, .double nit, .double dg, .double bar, .int gas]) (n := 10) (Nat.le_of_ble_eq_true rfl)
  rw [lg_entry_eq]
  generalize (lg_sl ([.ref hg0, .double nit, .double dg, .double bar, .int gas]) ++ List.replicate (10 - (lg_sl ([.ref hg0, .double nit, .double dg, .double bar, .int gas])).length) Slot.unset).toArray = ls at hl ⊢
  have hl : lv_has ls 10 [(0, .ref hg0), (1, .double nit), (3, .double dg), (5, .double bar), (7, .int gas)] := hl
  have hP : va_P (dC, dI) vwCl (gx_W hg0 cnt ls_) s.heap := hP
  have hK : va_K (dC, dI) vwCl [] s := hK
  refine lv_dload_n hx hb dX0_mixed_0 rfl (lv_at hl 1 rfl) ?_
  refine lv_dconst0 hx hb dX0_mixed_1 ?_
  refine lv_dconst1 hx hb dX0_mixed_2 ?_
  refine vp_callSi (va_Run.run (va_runS (As := [.double nit, .double FP.dconst0, .double FP.dconst1]) (rest := []) ⟨hx, hb, hml, hown, hts⟩ (m_X0_isWithin l nit FP.dconst0 FP.dconst1) (va_cwS 3 hts (lw_S q34 q35 q6 q36) rfl rfl rfl (by decide +kernel) ⟨Nat.le_of_ble_eq_true rfl, Nat.le_of_ble_eq_true rfl⟩) ⟨fun _ _ _ _ q => q, fun U hU hW => ⟨rfl, trivial⟩⟩ rfl rfl hl.1 rfl (lv_room (Nat.le_of_ble_eq_true rfl)) dX0_mixed_3 ⟨Nat.le_of_ble_eq_true rfl, Nat.le_of_ble_eq_true rfl⟩)) (fun r_1 hr_1 => ?_)
  subst hr_1
  refine lv_if_eq (tgt := 29) hx hb dX0_mixed_6 (by decide) (fun c_2 => ?_) (fun c_2 => ?_)
  · refine lv_ldc2d (own := RX0) (v := k_m1) hx hb hown (hts _ q110) dX0_mixed_29 ?_
    exact W.dret (v := k_m1) hx hb hr (fun t ht hW => ⟨k_m1, rfl, by rw [mx_val, if_pos c_2], ht⟩) (fun _ h => nomatch h) dX0_mixed_32
  · refine lv_dload_n hx hb dX0_mixed_9 rfl (lv_at hl 2 rfl) ?_
    refine lv_dload hx hb dX0_mixed_10 (lv_at hl 3 rfl) ?_
    refine vp_callSi (va_Run.run (va_runS (As := [.double dg, .double bar]) (rest := []) ⟨hx, hb, hml, hown, hts⟩ (m_X0_isPlace l dg bar) (va_cwS 2 hts (lw_S q29 q30 q6 q31) rfl rfl rfl (by decide +kernel) ⟨Nat.le_of_ble_eq_true rfl, Nat.le_of_ble_eq_true rfl⟩) ⟨fun _ _ _ _ q => q, fun U hU hW => ⟨rfl, trivial⟩⟩ rfl rfl hl.1 rfl (lv_room (Nat.le_of_ble_eq_true rfl)) dX0_mixed_12 ⟨Nat.le_of_ble_eq_true rfl, Nat.le_of_ble_eq_true rfl⟩)) (fun r_3 hr_3 => ?_)
    subst hr_3
    refine lv_if_eq (tgt := 29) hx hb dX0_mixed_15 (by decide) (fun c_4 => ?_) (fun c_4 => ?_)
    · refine lv_ldc2d (own := RX0) (v := k_m1) hx hb hown (hts _ q110) dX0_mixed_29 ?_
      exact W.dret (v := k_m1) hx hb hr (fun t ht hW => ⟨k_m1, rfl, by rw [mx_val, if_neg c_2, if_pos c_4], ht⟩) (fun _ h => nomatch h) dX0_mixed_32
    · refine lv_iload hx hb dX0_mixed_18 (lv_at hl 4 rfl) ?_
      refine lv_if_lt (tgt := 29) hx hb dX0_mixed_20 (by decide) (fun c_5 => ?_) (fun c_5 => ?_)
      · refine lv_ldc2d (own := RX0) (v := k_m1) hx hb hown (hts _ q110) dX0_mixed_29 ?_
        exact W.dret (v := k_m1) hx hb hr (fun t ht hW => ⟨k_m1, rfl, by rw [mx_val, if_neg c_2, if_neg c_4, if_pos c_5], ht⟩) (fun _ h => nomatch h) dX0_mixed_32
      · refine lv_iload hx hb dX0_mixed_23 (lv_at hl 4 rfl) ?_
        refine lv_iconst (v := 1) hx hb dX0_mixed_25 (by decide) ?_
        refine lv_icmp_le (tgt := 33) hx hb dX0_mixed_26 (by decide) (fun c_6 => ?_) (fun c_6 => ?_)
        · have ok := mi_ok hnit hbar c_2 (gr_place_iff.mp c_4).2
          refine lv_iload hx hb dX0_mixed_33 (lv_at hl 4 rfl) ?_
          refine lv_iconst (v := 1) hx hb dX0_mixed_35 (by decide) ?_
          refine lv_icmp_ne (tgt := 51) hx hb dX0_mixed_36 (by decide) (fun c_7 => ?_) (fun c_7 => ?_)
          · refine lv_dload hx hb dX0_mixed_51 (lv_at hl 3 rfl) ?_
            refine lv_dload_n hx hb dX0_mixed_53 rfl (lv_at hl 1 rfl) ?_
            refine lv_dmul hx hb dX0_mixed_54 (ok.2.2.2.1) ?_
            refine lv_ldc2d (own := RX0) (v := k_nit) hx hb hown (hts _ q161) dX0_mixed_55 ?_
            refine lv_dmul hx hb dX0_mixed_58 (ok.2.2.2.2.1) ?_
            refine lv_topd (fun f_8 ef_8 => ?_)
            obtain rfl : f_8 = mi_val bar nit := by rw [ef_8]; rfl
            refine lv_dstore (lv' := [(8, .double (mi_val bar nit)), (0, .ref hg0), (1, .double nit), (3, .double dg), (5, .double bar), (7, .int gas)]) hx hb dX0_mixed_59 hl (by decide) rfl (fun ls hl => ?_)
            refine lv_dload_n hx hb dX0_mixed_61 rfl (lv_at hl 3 rfl) ?_
            refine lv_ldc2d (own := RX0) (v := k_20) hx hb hown (hts _ q37) dX0_mixed_62 ?_
            refine lv_dcmp hx hb dX0_mixed_65 ?_
            refine lv_if_le (tgt := 78) hx hb dX0_mixed_66 (by decide) (fun c_9 => ?_) (fun c_9 => ?_)
            · refine lv_dload hx hb dX0_mixed_78 (lv_at hl 0 rfl) ?_
              exact W.dret (v := (mi_val bar nit)) hx hb hr (fun t ht hW => ⟨(mi_val bar nit), rfl, by rw [mx_val, if_neg c_2, if_neg c_4, if_neg c_5, if_pos c_6, if_neg c_7, if_pos c_9], ht⟩) (fun _ h => nomatch h) dX0_mixed_80
            · refine lv_dload hx hb dX0_mixed_69 (lv_at hl 0 rfl) ?_
              refine lv_ldc2d (own := RX0) (v := k_half) hx hb hown (hts _ q162) dX0_mixed_71 ?_
              refine lv_dmul hx hb dX0_mixed_74 (ok.2.2.2.2.2.1) ?_
              refine lv_goto (tgt := 80) hx hb dX0_mixed_75 (by decide) ?_
              exact W.dret (v := (FP.dmul (mi_val bar nit) k_half)) hx hb hr (fun t ht hW => ⟨(FP.dmul (mi_val bar nit) k_half), rfl, by rw [mx_val, if_neg c_2, if_neg c_4, if_neg c_5, if_pos c_6, if_neg c_7, if_neg c_9], ht⟩) (fun _ h => nomatch h) dX0_mixed_80
          · refine lv_aload_n hx hb dX0_mixed_39 rfl (lv_at hl 0 rfl) ?_
            refine lv_dload_n hx hb dX0_mixed_40 rfl (lv_at hl 2 rfl) ?_
            refine lv_dload hx hb dX0_mixed_41 (lv_at hl 3 rfl) ?_
            refine lv_dconst1 hx hb dX0_mixed_43 ?_
            refine lv_dload_n hx hb dX0_mixed_44 rfl (lv_at hl 1 rfl) ?_
            refine lv_dsub hx hb dX0_mixed_45 (ok.1) ?_
            refine lv_dmul hx hb dX0_mixed_46 (ok.2.1) ?_
            refine lv_topd (fun f_10 ef_10 => ?_)
            obtain rfl : f_10 = mi_bar bar nit := by rw [ef_10]; rfl
            refine vp_callSd (va_Run.run (va_runV (As := [.double dg, .double (mi_bar bar nit)]) (rest := []) ⟨hx, hb, hml, hown, hts⟩ (m_X0_at l dC dI hg0 cnt ls_ dg (mi_bar bar nit) v (hv c_2 c_4)) (cwV 2 hts (lw_V q98 q100 qs2 q6 q101) rfl rfl rfl (by decide +kernel) ⟨Nat.le_of_ble_eq_true rfl, Nat.le_of_ble_eq_true rfl⟩) ⟨gx_fb, va_recv hK hP (ci := 0) (q0 := 0) rfl rfl, fun U hU hW => ⟨rfl, gx_pre hP hK hN hU hW⟩⟩ rfl rfl hl.1 rfl (lv_room (Nat.le_of_ble_eq_true rfl)) dX0_mixed_47 ⟨Nat.le_of_ble_eq_true rfl, Nat.le_of_ble_eq_true rfl⟩)) (fun r_11 hr_11 => ?_)
            have hr_11 := hr_11.symm
            subst hr_11
            exact W.dret (v := v) hx hb hr (fun t ht hW => ⟨v, rfl, by rw [mx_val, if_neg c_2, if_neg c_4, if_neg c_5, if_pos c_6, if_pos c_7], ht⟩) (fun _ h => nomatch h) dX0_mixed_50
        · refine lv_ldc2d (own := RX0) (v := k_m1) hx hb hown (hts _ q110) dX0_mixed_29 ?_
          exact W.dret (v := k_m1) hx hb hr (fun t ht hW => ⟨k_m1, rfl, by rw [mx_val, if_neg c_2, if_neg c_4, if_neg c_5, if_neg c_6], ht⟩) (fun _ h => nomatch h) dX0_mixed_32
end
section
/-! the lists and the arrays side by side: the same rows -/
def zv (a : UInt64) : Int := match fdec a with
  | .fin s c q => FP.Core.signed s (c * 2 ^ (q + 1074).toNat)
  | _ => 0
theorem zv_eq {a : UInt64} {z : Int} (h : fv a z) : zv a = z := by
  obtain ⟨s, c, q, e, -, -, -, rfl⟩ := h
  unfold zv
  rw [e]
theorem zv_fv {a : UInt64} (h : fin_ a) : fv a (zv a) := by
  obtain ⟨z, hz⟩ := h
  rw [zv_eq hz]
  exact hz
theorem bnd_fin {a : UInt64} {M : Nat} (h : bnd a M) : fin_ a := by
  obtain ⟨z, hz, -⟩ := h
  exact ⟨z, hz⟩
/-- a key: an eighth within bounds -/
def ky (a : UInt64) : Prop := (∃ j : Int32, a = gk j) ∧ bnd a 100
theorem ky_fv {a : UInt64} (h : ky a) : fv a (zv a) := zv_fv (bnd_fin h.2)
theorem ky_inj {a b : UInt64} (ha : ky a) (hb : ky b) (h : zv a = zv b) : a = b := by
  have h1 := ky_fv ha
  have h2 := ky_fv hb
  rw [h] at h1
  obtain ⟨⟨i, rfl⟩, -⟩ := ha
  obtain ⟨⟨j, rfl⟩, -⟩ := hb
  rw [gk_inj h1 h2]
theorem ky_gap {a b : UInt64} (ha : ky a) (hb : ky b) (h : zv a < zv b) : zv a + (e8_ : Int) ≤ zv b := by
  obtain ⟨⟨i, rfl⟩, -⟩ := ha
  obtain ⟨⟨j, rfl⟩, -⟩ := hb
  rw [zv_eq (fv_gk i), zv_eq (fv_gk j)] at h ⊢
  have h0 := e8_pos
  have h1 : (0 : Int) ≤ (e8_ : Int) := by omega
  have h3 : i.toInt < j.toInt := by
    rcases Int.lt_or_le i.toInt j.toInt with c | c
    · exact c
    · exact absurd h (Int.not_lt.mpr (Int.mul_le_mul_of_nonneg_right c h1))
  have h2 := Int.mul_le_mul_of_nonneg_right (show i.toInt + 1 ≤ j.toInt by omega) h1
  rw [Int.add_mul, Int.one_mul] at h2
  exact h2
def srt {α : Type} (l : List (Nat × UInt64 × α)) : Prop := l.Pairwise (fun a b => zv a.2.1 < zv b.2.1)
theorem srt_app {α : Type} {a b : List (Nat × UInt64 × α)} : srt (a ++ b) ↔ srt a ∧ srt b ∧ ∀ x ∈ a, ∀ y ∈ b, zv x.2.1 < zv y.2.1 := List.pairwise_append
theorem srt_cons {α : Type} {x : Nat × UInt64 × α} {b : List (Nat × UInt64 × α)} : srt (x :: b) ↔ (∀ y ∈ b, zv x.2.1 < zv y.2.1) ∧ srt b := List.pairwise_cons
theorem srt_uniq {α : Type} {l : List (Nat × UInt64 × α)} (hs : srt l) {x y : Nat × UInt64 × α} (hx : x ∈ l) (hy : y ∈ l) (h : zv x.2.1 = zv y.2.1) : x = y := by
  induction l with
  | nil => exact nomatch hx
  | cons a l ih =>
    obtain ⟨h1, h2⟩ := srt_cons.mp hs
    rcases List.mem_cons.mp hx with ex | hx
    · rcases List.mem_cons.mp hy with ey | hy
      · rw [ex, ey]
      · have := h1 y hy
        rw [← ex] at this
        omega
    · rcases List.mem_cons.mp hy with ey | hy
      · have := h1 x hx
        rw [← ey] at this
        omega
      · exact ih h2 hx hy
theorem srt_rep {α : Type} {A B : List (Nat × UInt64 × α)} {x y : Nat × UInt64 × α} (h : srt (A ++ x :: B)) (e : x.2.1 = y.2.1) : srt (A ++ y :: B) := by
  obtain ⟨h1, h2, h3⟩ := srt_app.mp h
  obtain ⟨h4, h5⟩ := srt_cons.mp h2
  rw [e] at h4
  refine srt_app.mpr ⟨h1, srt_cons.mpr ⟨h4, h5⟩, fun a ha b hb => ?_⟩
  rcases List.mem_cons.mp hb with e2 | hb
  · rw [e2, ← e]
    exact h3 a ha x List.mem_cons_self
  · exact h3 a ha b (List.mem_cons_of_mem _ hb)
theorem srt_ins {α : Type} {A B : List (Nat × UInt64 × α)} {y : Nat × UInt64 × α} (h : srt (A ++ B)) (ha : ∀ x ∈ A, zv x.2.1 < zv y.2.1) (hb : ∀ x ∈ B, zv y.2.1 < zv x.2.1) : srt (A ++ y :: B) := by
  obtain ⟨h1, h2, h3⟩ := srt_app.mp h
  refine srt_app.mpr ⟨h1, srt_cons.mpr ⟨hb, h2⟩, fun a ha2 b hb2 => ?_⟩
  rcases List.mem_cons.mp hb2 with e2 | hb2
  · rw [e2]
    exact ha a ha2
  · exact h3 a ha2 b hb2
theorem spl_z {α : Type} {pre post : List (Nat × UInt64 × α)} {x : UInt64} {zx : Int} (hx : fv x zx) (hk : ∀ r ∈ pre ++ post, ky r.2.1) (hs : srt (pre ++ post)) (h : spl pre post x) : (∀ r ∈ pre, zv r.2.1 ≤ zx) ∧ ∀ r ∈ post, zx < zv r.2.1 := by
  constructor
  · intro r hr
    have h1 := h.1 r hr
    rw [cv_gt (ky_fv (hk r (List.mem_append_left _ hr))) hx] at h1
    omega
  · intro r hr
    cases post with
    | nil => exact nomatch hr
    | cons a post =>
      have h1 := h.2 a rfl
      rw [cv_gt (ky_fv (hk a (List.mem_append_right _ List.mem_cons_self))) hx] at h1
      rcases List.mem_cons.mp hr with e | hr
      · rw [e]
        exact h1
      · have h2 := (srt_cons.mp (srt_app.mp hs).2.1).1 r hr
        omega
theorem lt_pre {α : Type} {pre : List (Nat × UInt64 × α)} {x : UInt64} {zx : Int} (hx : fv x zx) (hk : ∀ r ∈ pre, ky r.2.1) (hs : srt pre) (h : ∀ r ∈ pre, zv r.2.1 ≤ zx) (hn : lastne pre x) : ∀ r ∈ pre, zv r.2.1 < zx := by
  intro r hr
  rcases gx_last pre with e | ⟨l', b, e⟩
  · rw [e] at hr
    exact nomatch hr
  · have hb : b ∈ pre := by rw [e]; exact List.mem_append_right _ List.mem_cons_self
    have h1 := hn l' b e
    rw [cv_eq (ky_fv (hk b hb)) hx] at h1
    have h2 := h b hb
    rw [e] at hr hs
    rcases List.mem_append.mp hr with hr | hr
    · have := (srt_app.mp hs).2.2 r hr b List.mem_cons_self
      omega
    · rw [List.mem_singleton.mp hr]
      omega
/-! what a search finds -/
section SR
variable {α : Type} {L pre post : List (Nat × UInt64 × α)} {n : Nat} {P : Nat → Prop} {f : Nat → UInt64} {zx : Int}
theorem sr_below (he : L = pre ++ post) (hs : srt L) (h1 : ∀ r ∈ pre, zv r.2.1 ≤ zx) (h2 : ∀ r ∈ post, zx < zv r.2.1) (a1 : ∀ k, k < n → P k → ∃ r ∈ L, r.2.1 = f k) (a2 : ∀ r ∈ L, ∃ k, k < n ∧ P k ∧ f k = r.2.1) {jp : Nat} (hj : jp < n) (hP : P jp) (hz : zv (f jp) ≤ zx) (hm : ∀ k, k < n → P k → zv (f k) ≤ zx → zv (f k) ≤ zv (f jp)) : ∃ pre' r, pre = pre' ++ [r] ∧ r.2.1 = f jp := by
  subst he
  obtain ⟨r, hr, er⟩ := a1 jp hj hP
  rcases List.mem_append.mp hr with hr | hr
  · rcases gx_last pre with e | ⟨pre', r', e⟩
    · rw [e] at hr
      exact nomatch hr
    · refine ⟨pre', r', e, ?_⟩
      have hr' : r' ∈ pre := by rw [e]; exact List.mem_append_right _ List.mem_cons_self
      obtain ⟨k, hk, hPk, ek⟩ := a2 r' (List.mem_append_left _ hr')
      have hle := hm k hk hPk (by rw [ek]; exact h1 r' hr')
      rw [ek] at hle
      have hs1 := (srt_app.mp hs).1
      rw [e] at hr hs1
      rcases List.mem_append.mp hr with hr | hr
      · have := (srt_app.mp hs1).2.2 r hr r' List.mem_cons_self
        rw [er] at this
        omega
      · rw [List.mem_singleton.mp hr] at er
        exact er
  · have := h2 r hr
    rw [er] at this
    omega
theorem sr_above (he : L = pre ++ post) (hs : srt L) (h1 : ∀ r ∈ pre, zv r.2.1 ≤ zx) (h2 : ∀ r ∈ post, zx < zv r.2.1) (a1 : ∀ k, k < n → P k → ∃ r ∈ L, r.2.1 = f k) (a2 : ∀ r ∈ L, ∃ k, k < n ∧ P k ∧ f k = r.2.1) {jq : Nat} (hj : jq < n) (hP : P jq) (hz : zx < zv (f jq)) (hm : ∀ k, k < n → P k → zx < zv (f k) → zv (f jq) ≤ zv (f k)) : ∃ r post', post = r :: post' ∧ r.2.1 = f jq := by
  subst he
  obtain ⟨r, hr, er⟩ := a1 jq hj hP
  rcases List.mem_append.mp hr with hr | hr
  · have := h1 r hr
    rw [er] at this
    omega
  · cases post with
    | nil => exact nomatch hr
    | cons a post' =>
      refine ⟨a, post', rfl, ?_⟩
      obtain ⟨k, hk, hPk, ek⟩ := a2 a (List.mem_append_right _ List.mem_cons_self)
      have hle := hm k hk hPk (by rw [ek]; exact h2 a List.mem_cons_self)
      rw [ek] at hle
      rcases List.mem_cons.mp hr with e | hr
      · rw [← e]
        exact er
      · have := (srt_cons.mp (srt_app.mp hs).2.1).1 r hr
        rw [er] at this
        omega
theorem sr_nb (he : L = pre ++ post) (h1 : ∀ r ∈ pre, zv r.2.1 ≤ zx) (a2 : ∀ r ∈ L, ∃ k, k < n ∧ P k ∧ f k = r.2.1) (hn : ∀ k, k < n → P k → ¬ zv (f k) ≤ zx) : pre = [] := by
  subst he
  cases pre with
  | nil => rfl
  | cons r pre =>
    obtain ⟨k, hk, hP, ek⟩ := a2 r (List.mem_append_left _ List.mem_cons_self)
    exact absurd (by rw [ek]; exact h1 r List.mem_cons_self) (hn k hk hP)
theorem sr_na (he : L = pre ++ post) (h2 : ∀ r ∈ post, zx < zv r.2.1) (a2 : ∀ r ∈ L, ∃ k, k < n ∧ P k ∧ f k = r.2.1) (hn : ∀ k, k < n → P k → ¬ zx < zv (f k)) : post = [] := by
  subst he
  cases post with
  | nil => rfl
  | cons r post =>
    obtain ⟨k, hk, hP, ek⟩ := a2 r (List.mem_append_right _ List.mem_cons_self)
    exact absurd (by rw [ek]; exact h2 r List.mem_cons_self) (hn k hk hP)
end SR
theorem nil_ne_app {α : Type} {l : List α} {x : α} (h : [] = l ++ [x]) : False := by
  cases l <;> cases h
/-- a line as it should be -/
def dok (x : gx_L) : Prop := ky x.2.1 ∧ srt x.2.2 ∧ x.2.2 ≠ [] ∧ ∀ r ∈ x.2.2, ky r.2.1 ∧ bnd r.2.2 100
/-- the row (d, b) has g -/
def ent (xs : List gx_L) (d b g : UInt64) : Prop := ∃ x ∈ xs, ∃ r ∈ x.2.2, x.2.1 = d ∧ r.2.1 = b ∧ r.2.2 = g
def rel (xs : List gx_L) (n : Nat) (fw fb fa : Nat → UInt64) : Prop := n ≤ 30 ∧ srt xs ∧ (∀ x ∈ xs, dok x) ∧ (∀ k, k < n → ent xs (fw k) (fb k) (fa k)) ∧ (∀ d b g, ent xs d b g → ∃ k, k < n ∧ fw k = d ∧ fb k = b ∧ fa k = g) ∧ ∀ j, j < n → ∀ k, k < n → fw j = fw k → fb j = fb k → j = k
section RL
variable {xs : List gx_L} {n : Nat} {fw fb fa : Nat → UInt64}
theorem rel_kw (h : rel xs n fw fb fa) (k : Nat) (hk : k < n) : ky (fw k) ∧ ky (fb k) := by
  obtain ⟨x, hx, r, hr, e1, e2, -⟩ := h.2.2.2.1 k hk
  have hd := h.2.2.1 x hx
  rw [← e1, ← e2]
  exact ⟨hd.1, (hd.2.2.2 r hr).1⟩
theorem rel_S (h : rel xs n fw fb fa) : gm_S n fw fb (fun k => zv (fw k)) (fun k => zv (fb k)) := ⟨h.1, fun k hk => ky_fv (rel_kw h k hk).1, fun k hk => ky_fv (rel_kw h k hk).2⟩
theorem rel_line (h : rel xs n fw fb fa) {x : gx_L} (hx : x ∈ xs) {k : Nat} (hk : k < n) (hz : zv (fw k) = zv x.2.1) : ∃ r ∈ x.2.2, r.2.1 = fb k ∧ r.2.2 = fa k := by
  obtain ⟨y, hy, r, hr, e1, e2, e3⟩ := h.2.2.2.1 k hk
  have e : y = x := srt_uniq h.2.1 hy hx (by rw [e1]; exact hz)
  subst e
  exact ⟨r, hr, e2, e3⟩
theorem rel_row (h : rel xs n fw fb fa) {x : gx_L} (hx : x ∈ xs) {r : gx_R} (hr : r ∈ x.2.2) : ∃ k, k < n ∧ fw k = x.2.1 ∧ fb k = r.2.1 ∧ fa k = r.2.2 := h.2.2.2.2.1 _ _ _ ⟨x, hx, r, hr, rfl, rfl, rfl⟩
theorem rel_ent (h : rel xs n fw fb fa) {x : gx_L} (hx : x ∈ xs) {r : gx_R} (hr : r ∈ x.2.2) {j : Nat} (hj : j < n) (hz : zv (fw j) = zv x.2.1) (hb : fb j = r.2.1) : fa j = r.2.2 := by
  obtain ⟨k, hk, e1, e2, e3⟩ := rel_row h hx hr
  have e4 : fw j = x.2.1 := ky_inj (rel_kw h j hj).1 (h.2.2.1 x hx).1 hz
  have e : j = k := h.2.2.2.2.2 j hj k hk (by rw [e4, e1]) (by rw [hb, e2])
  rw [e]
  exact e3
theorem ln_both (h : rel xs n fw fb fa) {x : gx_L} (hx : x ∈ xs) {bar : UInt64} (hb : bnd bar 100) : ∃ v, lnv x.2.2 bar v ∧ ln_ok n (fun k => zv (fw k)) (fun k => zv (fb k)) fb fa (zv x.2.1) (zv bar) bar v ∧ bnd v 320100 := by
  obtain ⟨kx, sx, nx, rx⟩ := h.2.2.1 x hx
  have fz : fv bar (zv bar) := zv_fv (bnd_fin hb)
  obtain ⟨pre, post, e, hsp⟩ := spl_ex x.2.2 bar
  have hm1 : ∀ r ∈ pre, r ∈ x.2.2 := fun r hr => by rw [e]; exact List.mem_append_left _ hr
  have hm2 : ∀ r ∈ post, r ∈ x.2.2 := fun r hr => by rw [e]; exact List.mem_append_right _ hr
  have hspz := spl_z fz (fun r hr => (rx r (by rw [e]; exact hr)).1) (by rw [← e]; exact sx) hsp
  have a1 : ∀ k, k < n → zv (fw k) = zv x.2.1 → ∃ r ∈ x.2.2, r.2.1 = fb k := fun k hk hz => by
    obtain ⟨r, hr, e1, -⟩ := rel_line h hx hk hz
    exact ⟨r, hr, e1⟩
  have a2 : ∀ r ∈ x.2.2, ∃ k, k < n ∧ zv (fw k) = zv x.2.1 ∧ fb k = r.2.1 := fun r hr => by
    obtain ⟨k, hk, e1, e2, -⟩ := rel_row h hx hr
    exact ⟨k, hk, by rw [e1], e2⟩
  have hBel : ∀ jp, bst n (fun k => zv (fw k) = zv x.2.1 ∧ zv (fb k) ≤ zv bar) (fun k => zv (fb k)) jp → ∃ p2 r2, pre = p2 ++ [r2] ∧ fb jp = r2.2.1 ∧ fa jp = r2.2.2 := fun jp hp => by
    obtain ⟨p2, r2, e1, e2⟩ := sr_below (P := fun k => zv (fw k) = zv x.2.1) (f := fb) e sx hspz.1 hspz.2 a1 a2 hp.1 hp.2.1.1 hp.2.1.2 (fun k hk q1 q2 => hp.2.2 k hk ⟨q1, q2⟩)
    exact ⟨p2, r2, e1, e2.symm, rel_ent h hx (hm1 r2 (by rw [e1]; exact List.mem_append_right _ List.mem_cons_self)) hp.1 hp.2.1.1 e2.symm⟩
  have hAbo : ∀ jq, bst n (fun k => zv (fw k) = zv x.2.1 ∧ zv bar < zv (fb k)) (fun k => -zv (fb k)) jq → ∃ r2 p2, post = r2 :: p2 ∧ fb jq = r2.2.1 ∧ fa jq = r2.2.2 := fun jq hp => by
    obtain ⟨r2, p2, e1, e2⟩ := sr_above (P := fun k => zv (fw k) = zv x.2.1) (f := fb) e sx hspz.1 hspz.2 a1 a2 hp.1 hp.2.1.1 hp.2.1.2 (fun k hk q1 q2 => by have := hp.2.2 k hk ⟨q1, q2⟩; dsimp only at this; omega)
    exact ⟨r2, p2, e1, e2.symm, rel_ent h hx (hm2 r2 (by rw [e1]; exact List.mem_cons_self)) hp.1 hp.2.1.1 e2.symm⟩
  have hNb : (∀ k, k < n → ¬ (zv (fw k) = zv x.2.1 ∧ zv (fb k) ≤ zv bar)) → pre = [] := fun hn => sr_nb (P := fun k => zv (fw k) = zv x.2.1) (f := fb) e hspz.1 a2 (fun k hk q1 q2 => hn k hk ⟨q1, q2⟩)
  have hNa : (∀ k, k < n → ¬ (zv (fw k) = zv x.2.1 ∧ zv bar < zv (fb k))) → post = [] := fun hn => sr_na (P := fun k => zv (fw k) = zv x.2.1) (f := fb) e hspz.2 a2 (fun k hk q1 q2 => hn k hk ⟨q1, q2⟩)
  have ex : ∃ k, k < n ∧ zv (fw k) = zv x.2.1 := by
    obtain ⟨r, hr⟩ := List.exists_mem_of_ne_nil _ nx
    obtain ⟨k, hk, e1, -⟩ := a2 r hr
    exact ⟨k, hk, e1⟩
  rcases gx_last pre with rfl | ⟨pre', r, rfl⟩
  · cases post with
    | nil => exact absurd e nx
    | cons m post' =>
      refine ⟨m.2.2, ⟨[], m :: post', e, hsp, Or.inl ⟨rfl, m, post', rfl, rfl⟩⟩, ⟨?_, ?_, ?_, ex⟩, bnd_le (rx m (hm2 m List.mem_cons_self)).2 (by decide)⟩
      · intro jq hq _
        obtain ⟨r2, p2, e1, -, e3⟩ := hAbo jq hq
        cases e1
        exact e3
      · intro jp hp _
        obtain ⟨p2, r2, e1, -⟩ := hBel jp hp
        exact (nil_ne_app e1).elim
      · intro jp jq hp _
        obtain ⟨p2, r2, e1, -⟩ := hBel jp hp
        exact (nil_ne_app e1).elim
  · have hr := hm1 r (List.mem_append_right _ List.mem_cons_self)
    cases post with
    | nil =>
      refine ⟨r.2.2, ⟨pre' ++ [r], [], e, hsp, Or.inr (Or.inl ⟨pre', r, rfl, rfl, rfl⟩)⟩, ⟨?_, ?_, ?_, ex⟩, bnd_le (rx r hr).2 (by decide)⟩
      · intro jq _ hn
        exact (nil_ne_app (hNb hn).symm).elim
      · intro jp hp _
        obtain ⟨p2, r2, e1, -, e3⟩ := hBel jp hp
        rw [(gx_app_inj e1).2]
        exact e3
      · intro jp jq _ hq
        obtain ⟨r2, p2, e1, -⟩ := hAbo jq hq
        cases e1
    | cons m post' =>
      have hm := hm2 m List.mem_cons_self
      have hlt : zv r.2.1 < zv m.2.1 := by
        have q1 := hspz.1 r (List.mem_append_right _ List.mem_cons_self)
        have q2 := hspz.2 m List.mem_cons_self
        omega
      obtain ⟨jo, jb⟩ := join_ok (M := 100) (by decide) hb (rx r hr).1.2 (rx m hm).1.2 (rx r hr).2 (rx m hm).2 (ky_fv (rx r hr).1) (ky_fv (rx m hm).1) (ky_gap (rx r hr).1 (rx m hm).1 hlt)
      refine ⟨gr_join r.2.1 r.2.2 m.2.1 m.2.2 bar, ⟨pre' ++ [r], m :: post', e, hsp, Or.inr (Or.inr ⟨pre', r, m, post', rfl, rfl, jo, rfl⟩)⟩, ⟨?_, ?_, ?_, ex⟩, bnd_le jb (by decide)⟩
      · intro jq _ hn
        exact (nil_ne_app (hNb hn).symm).elim
      · intro jp _ hn
        exact nomatch hNa hn
      · intro jp jq hp hq
        obtain ⟨p2, r2, e1, e2, e3⟩ := hBel jp hp
        obtain ⟨m2, p3, e4, e5, e6⟩ := hAbo jq hq
        obtain ⟨-, rfl⟩ := gx_app_inj e1
        cases e4
        rw [e2, e3, e5, e6]
        exact ⟨jo, rfl⟩
theorem at_both (h : rel xs n fw fb fa) {dg bar : UInt64} (hd : bnd dg 100) (hb : bnd bar 100) : ∃ v, atv xs dg bar v ∧ rkv n (fun k => zv (fw k)) (fun k => zv (fb k)) fw fb fa dg bar v ∧ bnd v MM := by
  have fd : fv dg (zv dg) := zv_fv (bnd_fin hd)
  have fz : fv bar (zv bar) := zv_fv (bnd_fin hb)
  have c1 : ∀ x : gx_L, ∃ v, x ∈ xs → lnv x.2.2 bar v ∧ ln_ok n (fun k => zv (fw k)) (fun k => zv (fb k)) fb fa (zv x.2.1) (zv bar) bar v ∧ bnd v 320100 := fun x => by
    by_cases hx : x ∈ xs
    · obtain ⟨v, hv⟩ := ln_both h hx hb
      exact ⟨v, fun _ => hv⟩
    · exact ⟨0, fun c => absurd c hx⟩
  obtain ⟨LX, hLX⟩ := Classical.axiomOfChoice c1
  have c2 : ∀ j : Nat, ∃ x : gx_L, j < n → x ∈ xs ∧ x.2.1 = fw j := fun j => by
    by_cases hj : j < n
    · obtain ⟨x, hx, r, -, e1, -⟩ := h.2.2.2.1 j hj
      exact ⟨x, fun _ => ⟨hx, e1⟩⟩
    · exact ⟨(0, 0, []), fun c => absurd c hj⟩
  obtain ⟨X, hX⟩ := Classical.axiomOfChoice c2
  obtain ⟨pre, post, e, hsp⟩ := spl_ex xs dg
  have hm1 : ∀ r ∈ pre, r ∈ xs := fun r hr => by rw [e]; exact List.mem_append_left _ hr
  have hm2 : ∀ r ∈ post, r ∈ xs := fun r hr => by rw [e]; exact List.mem_append_right _ hr
  have hspz := spl_z fd (fun r hr => (h.2.2.1 r (by rw [e]; exact hr)).1) (by rw [← e]; exact h.2.1) hsp
  have a1 : ∀ k, k < n → True → ∃ r ∈ xs, r.2.1 = fw k := fun k hk _ => ⟨X k, (hX k hk).1, (hX k hk).2⟩
  have a2 : ∀ r ∈ xs, ∃ k, k < n ∧ True ∧ fw k = r.2.1 := fun r hr => by
    obtain ⟨q, hq⟩ := List.exists_mem_of_ne_nil _ (h.2.2.1 r hr).2.2.1
    obtain ⟨k, hk, e1, -⟩ := rel_row h hr hq
    exact ⟨k, hk, trivial, e1⟩
  have hXu : ∀ j, j < n → ∀ r ∈ xs, r.2.1 = fw j → X j = r := fun j hj r hr er => srt_uniq h.2.1 (hX j hj).1 hr (by rw [(hX j hj).2, er])
  have hBel : ∀ jp, bst n (fun k => zv (fw k) ≤ zv dg) (fun k => zv (fw k)) jp → ∃ p2 r2, pre = p2 ++ [r2] ∧ fw jp = r2.2.1 ∧ X jp = r2 := fun jp hp => by
    obtain ⟨p2, r2, e1, e2⟩ := sr_below (P := fun _ => True) (f := fw) e h.2.1 hspz.1 hspz.2 a1 a2 hp.1 trivial hp.2.1 (fun k hk _ q2 => hp.2.2 k hk q2)
    exact ⟨p2, r2, e1, e2.symm, hXu jp hp.1 r2 (hm1 r2 (by rw [e1]; exact List.mem_append_right _ List.mem_cons_self)) e2⟩
  have hAbo : ∀ jq, bst n (fun k => zv dg < zv (fw k)) (fun k => -zv (fw k)) jq → ∃ r2 p2, post = r2 :: p2 ∧ fw jq = r2.2.1 ∧ X jq = r2 := fun jq hp => by
    obtain ⟨r2, p2, e1, e2⟩ := sr_above (P := fun _ => True) (f := fw) e h.2.1 hspz.1 hspz.2 a1 a2 hp.1 trivial hp.2.1 (fun k hk _ q2 => by have := hp.2.2 k hk q2; dsimp only at this; omega)
    exact ⟨r2, p2, e1, e2.symm, hXu jq hp.1 r2 (hm2 r2 (by rw [e1]; exact List.mem_cons_self)) e2⟩
  have hNb : (∀ k, k < n → ¬ zv (fw k) ≤ zv dg) → pre = [] := fun hn => sr_nb (P := fun _ => True) (f := fw) e hspz.1 a2 (fun k hk _ q2 => hn k hk q2)
  have hNa : (∀ k, k < n → ¬ zv dg < zv (fw k)) → post = [] := fun hn => sr_na (P := fun _ => True) (f := fw) e hspz.2 a2 (fun k hk _ q2 => hn k hk q2)
  have hln : ∀ j, j < n → ln_ok n (fun k => zv (fw k)) (fun k => zv (fb k)) fb fa (zv (fw j)) (zv bar) bar (LX (X j)) := fun j hj => by
    rw [← (hX j hj).2]
    exact (hLX (X j) (hX j hj).1).2.1
  rcases gx_last pre with rfl | ⟨pre', r, rfl⟩
  · cases post with
    | nil =>
      refine ⟨FP.dconst0, Or.inl ⟨e, rfl⟩, ⟨zv dg, zv bar, fun j => LX (X j), fd, fz, hln, fun _ _ => rfl, ?_, ?_, ?_, ?_⟩, ⟨0, fv_d0, Nat.zero_le _⟩⟩
      · intro jq hq _
        obtain ⟨_, _, e1, -⟩ := hAbo jq hq
        cases e1
      · intro jp hp _
        obtain ⟨_, _, e1, -⟩ := hBel jp hp
        exact (nil_ne_app e1).elim
      · intro jp jq hp _ _
        obtain ⟨_, _, e1, -⟩ := hBel jp hp
        exact (nil_ne_app e1).elim
      · intro jp jq hp _ _
        obtain ⟨_, _, e1, -⟩ := hBel jp hp
        exact (nil_ne_app e1).elim
    | cons m post' =>
      have hm := hm2 m List.mem_cons_self
      refine ⟨LX m, Or.inr ⟨[], m :: post', e, hsp, Or.inl ⟨rfl, m, post', rfl, (hLX m hm).1⟩⟩, ⟨zv dg, zv bar, fun j => LX (X j), fd, fz, hln, ?_, ?_, ?_, ?_, ?_⟩, bnd_le (hLX m hm).2.2 (by decide)⟩
      · intro _ hn
        exact nomatch hNa hn
      · intro jq hq _
        obtain ⟨_, _, e1, -, e3⟩ := hAbo jq hq
        cases e1
        dsimp only
        rw [e3]
      · intro jp hp _
        obtain ⟨_, _, e1, -⟩ := hBel jp hp
        exact (nil_ne_app e1).elim
      · intro jp jq hp _ _
        obtain ⟨_, _, e1, -⟩ := hBel jp hp
        exact (nil_ne_app e1).elim
      · intro jp jq hp _ _
        obtain ⟨_, _, e1, -⟩ := hBel jp hp
        exact (nil_ne_app e1).elim
  · have hr := hm1 r (List.mem_append_right _ List.mem_cons_self)
    cases post with
    | nil =>
      refine ⟨LX r, Or.inr ⟨pre' ++ [r], [], e, hsp, Or.inr (Or.inl ⟨pre', r, rfl, rfl, (hLX r hr).1⟩)⟩, ⟨zv dg, zv bar, fun j => LX (X j), fd, fz, hln, ?_, ?_, ?_, ?_, ?_⟩, bnd_le (hLX r hr).2.2 (by decide)⟩
      · intro hn _
        exact (nil_ne_app (hNb hn).symm).elim
      · intro jq hq _
        obtain ⟨_, _, e1, -⟩ := hAbo jq hq
        cases e1
      · intro jp hp _
        obtain ⟨_, _, e1, -, e3⟩ := hBel jp hp
        dsimp only
        rw [e3, (gx_app_inj e1).2]
      · intro jp jq _ hq _
        obtain ⟨_, _, e1, -⟩ := hAbo jq hq
        cases e1
      · intro jp jq _ hq _
        obtain ⟨_, _, e1, -⟩ := hAbo jq hq
        cases e1
    | cons m post' =>
      have hm := hm2 m List.mem_cons_self
      have kr := (h.2.2.1 r hr).1
      have km := (h.2.2.1 m hm).1
      have hlt : zv r.2.1 < zv m.2.1 := by
        have q1 := hspz.1 r (List.mem_append_right _ List.mem_cons_self)
        have q2 := hspz.2 m List.mem_cons_self
        omega
      by_cases hc : Op.cmpValue (FP.dcmp r.2.1 dg) .l = 0
      · refine ⟨LX r, Or.inr ⟨pre' ++ [r], m :: post', e, hsp, Or.inr (Or.inr (Or.inl ⟨pre', r, m, post', rfl, rfl, hc, (hLX r hr).1⟩))⟩, ⟨zv dg, zv bar, fun j => LX (X j), fd, fz, hln, ?_, ?_, ?_, ?_, ?_⟩, bnd_le (hLX r hr).2.2 (by decide)⟩
        · intro hn _
          exact (nil_ne_app (hNb hn).symm).elim
        · intro jq _ hn
          exact (nil_ne_app (hNb hn).symm).elim
        · intro jp _ hn
          exact nomatch hNa hn
        · intro jp jq hp _ _
          obtain ⟨_, _, e1, -, e3⟩ := hBel jp hp
          dsimp only
          rw [e3, (gx_app_inj e1).2]
        · intro jp jq hp _ hz
          obtain ⟨_, _, e1, e2, -⟩ := hBel jp hp
          rw [cv_eq (ky_fv kr) fd] at hc
          exact absurd (by dsimp only; rw [e2, ← (gx_app_inj e1).2]; exact hc) hz
      · obtain ⟨jo, jb⟩ := join_ok (M := 320100) (by decide) hd kr.2 km.2 (hLX r hr).2.2 (hLX m hm).2.2 (ky_fv kr) (ky_fv km) (ky_gap kr km hlt)
        refine ⟨gr_join r.2.1 (LX r) m.2.1 (LX m) dg, Or.inr ⟨pre' ++ [r], m :: post', e, hsp, Or.inr (Or.inr (Or.inr ⟨pre', r, m, post', LX r, LX m, rfl, rfl, hc, (hLX r hr).1, (hLX m hm).1, jo, rfl⟩))⟩, ⟨zv dg, zv bar, fun j => LX (X j), fd, fz, hln, ?_, ?_, ?_, ?_, ?_⟩, bnd_le jb (by decide)⟩
        · intro hn _
          exact (nil_ne_app (hNb hn).symm).elim
        · intro jq _ hn
          exact (nil_ne_app (hNb hn).symm).elim
        · intro jp _ hn
          exact nomatch hNa hn
        · intro jp jq hp _ hz
          obtain ⟨_, _, e1, e2, -⟩ := hBel jp hp
          rw [cv_eq (ky_fv kr) fd] at hc
          refine absurd ?_ hc
          dsimp only at hz
          rw [e2, ← (gx_app_inj e1).2] at hz
          exact hz
        · intro jp jq hp hq _
          obtain ⟨_, _, e1, e2, e3⟩ := hBel jp hp
          obtain ⟨_, _, e4, e5, e6⟩ := hAbo jq hq
          cases e4
          dsimp only
          rw [e2, e3, e5, e6, ← (gx_app_inj e1).2]
          exact ⟨jo, rfl⟩
end RL
end
section
/-! row on both sides keeps the lists and the arrays alike -/
theorem ent_mid {A B : List gx_L} {x : gx_L} {d b g : UInt64} : ent (A ++ x :: B) d b g ↔ ent A d b g ∨ (x.2.1 = d ∧ ∃ r ∈ x.2.2, r.2.1 = b ∧ r.2.2 = g) ∨ ent B d b g := by
  constructor
  · rintro ⟨y, hy, r, hr, e1, e2, e3⟩
    rcases List.mem_append.mp hy with hy | hy
    · exact Or.inl ⟨y, hy, r, hr, e1, e2, e3⟩
    · rcases List.mem_cons.mp hy with e | hy
      · rw [e] at hr e1
        exact Or.inr (Or.inl ⟨e1, r, hr, e2, e3⟩)
      · exact Or.inr (Or.inr ⟨y, hy, r, hr, e1, e2, e3⟩)
  · rintro (⟨y, hy, r, hr, e1, e2, e3⟩ | ⟨e1, r, hr, e2, e3⟩ | ⟨y, hy, r, hr, e1, e2, e3⟩)
    · exact ⟨y, List.mem_append_left _ hy, r, hr, e1, e2, e3⟩
    · exact ⟨x, List.mem_append_right _ List.mem_cons_self, r, hr, e1, e2, e3⟩
    · exact ⟨y, List.mem_append_right _ (List.mem_cons_of_mem _ hy), r, hr, e1, e2, e3⟩
theorem ent_app {A B : List gx_L} {d b g : UInt64} : ent (A ++ B) d b g ↔ ent A d b g ∨ ent B d b g := by
  constructor
  · rintro ⟨y, hy, r⟩
    rcases List.mem_append.mp hy with hy | hy
    · exact Or.inl ⟨y, hy, r⟩
    · exact Or.inr ⟨y, hy, r⟩
  · rintro (⟨y, hy, r⟩ | ⟨y, hy, r⟩)
    · exact ⟨y, List.mem_append_left _ hy, r⟩
    · exact ⟨y, List.mem_append_right _ hy, r⟩
theorem ent_no {A : List gx_L} {d b g : UInt64} (h : ∀ x ∈ A, ¬ x.2.1 = d) : ¬ ent A d b g := by
  rintro ⟨y, hy, r, -, e1, -⟩
  exact h y hy e1
/-- both sides put (dg, bar, gg) in -/
theorem rel_put {xs xs' : List gx_L} {n : Nat} {fw fb fa : Nat → UInt64} (h : rel xs n fw fb fa) {dg bar gg : UInt64} {a : Nat} (ha : a ≤ n) (hn' : (if a = n then n + 1 else n) ≤ 30) (hu : ∀ k, k < n → fw k = dg → fb k = bar → k = a) (hva : a < n → fw a = dg ∧ fb a = bar) (hs : srt xs') (hd : ∀ x ∈ xs', dok x) (he : ∀ d b g, ent xs' d b g ↔ (d = dg ∧ b = bar ∧ g = gg) ∨ (¬ (d = dg ∧ b = bar) ∧ ent xs d b g)) : rel xs' (if a = n then n + 1 else n) (vf_upd fw a dg) (vf_upd fb a bar) (vf_upd fa a gg) := by
  have upd : ∀ (f : Nat → UInt64) (v : UInt64), vf_upd f a v a = v := fun f v => if_pos rfl
  have updn : ∀ (f : Nat → UInt64) (v : UInt64) (k : Nat), ¬ k = a → vf_upd f a v k = f k := fun f v k hk => if_neg hk
  have hlt : ∀ k, k < (if a = n then n + 1 else n) → ¬ k = a → k < n := fun k hk hka => by
    by_cases c : a = n
    · rw [if_pos c] at hk
      omega
    · rw [if_neg c] at hk
      exact hk
  have hge : ∀ k, k < n → k < (if a = n then n + 1 else n) := fun k hk => by
    by_cases c : a = n
    · rw [if_pos c]
      omega
    · rw [if_neg c]
      exact hk
  have hal : a < (if a = n then n + 1 else n) := by
    by_cases c : a = n
    · rw [if_pos c]
      omega
    · rw [if_neg c]
      omega
  refine ⟨hn', hs, hd, ?_, ?_, ?_⟩
  · intro k hk
    by_cases c : k = a
    · rw [c, upd, upd, upd]
      exact (he _ _ _).mpr (Or.inl ⟨rfl, rfl, rfl⟩)
    · rw [updn _ _ k c, updn _ _ k c, updn _ _ k c]
      have hk2 := hlt k hk c
      exact (he _ _ _).mpr (Or.inr ⟨fun q => c (hu k hk2 q.1 q.2), h.2.2.2.1 k hk2⟩)
  · intro d b g hE
    rcases (he d b g).mp hE with ⟨rfl, rfl, rfl⟩ | ⟨hne, hE⟩
    · exact ⟨a, hal, upd _ _, upd _ _, upd _ _⟩
    · obtain ⟨k, hk, e1, e2, e3⟩ := h.2.2.2.2.1 d b g hE
      have c : ¬ k = a := fun c => by
        subst c
        obtain ⟨q1, q2⟩ := hva hk
        exact hne ⟨by rw [← e1]; exact q1, by rw [← e2]; exact q2⟩
      exact ⟨k, hge k hk, by rw [updn _ _ k c]; exact e1, by rw [updn _ _ k c]; exact e2, by rw [updn _ _ k c]; exact e3⟩
  · intro j hj k hk q1 q2
    by_cases cj : j = a
    · by_cases ck : k = a
      · rw [cj, ck]
      · rw [cj, upd, updn _ _ k ck] at q1
        rw [cj, upd, updn _ _ k ck] at q2
        exact absurd (hu k (hlt k hk ck) q1.symm q2.symm) ck
    · by_cases ck : k = a
      · rw [ck, upd, updn _ _ j cj] at q1
        rw [ck, upd, updn _ _ j cj] at q2
        exact absurd (hu j (hlt j hj cj) q1 q2) cj
      · rw [updn _ _ j cj, updn _ _ k ck] at q1
        rw [updn _ _ j cj, updn _ _ k ck] at q2
        exact h.2.2.2.2.2 j (hlt j hj cj) k (hlt k hk ck) q1 q2
/-- the rows of one line change at bar alone -/
theorem ent_line {A B : List gx_L} {h3 : Nat} {dg bar gg : UInt64} {rs rs' : List gx_R} (hs : srt (A ++ (h3, dg, rs) :: B)) (hr : ∀ b g, (∃ r ∈ rs', r.2.1 = b ∧ r.2.2 = g) ↔ (b = bar ∧ g = gg) ∨ (¬ b = bar ∧ ∃ r ∈ rs, r.2.1 = b ∧ r.2.2 = g)) (d b g : UInt64) : ent (A ++ (h3, dg, rs') :: B) d b g ↔ (d = dg ∧ b = bar ∧ g = gg) ∨ (¬ (d = dg ∧ b = bar) ∧ ent (A ++ (h3, dg, rs) :: B) d b g) := by
  obtain ⟨h1, h2, h3'⟩ := srt_app.mp hs
  obtain ⟨h4, h5⟩ := srt_cons.mp h2
  have nA : ∀ x ∈ A, ¬ x.2.1 = dg := fun x hx q => by
    have := h3' x hx _ List.mem_cons_self
    rw [q] at this
    exact absurd this (Int.lt_irrefl _)
  have nB : ∀ x ∈ B, ¬ x.2.1 = dg := fun x hx q => by
    have := h4 x hx
    rw [q] at this
    exact absurd this (Int.lt_irrefl _)
  rw [ent_mid, ent_mid]
  constructor
  · rintro (hA | ⟨e1, hR⟩ | hB)
    · exact Or.inr ⟨fun q => ent_no nA (q.1 ▸ hA), Or.inl hA⟩
    · have e1 : dg = d := e1
      rcases (hr b g).mp hR with ⟨e2, e3⟩ | ⟨e2, hR⟩
      · exact Or.inl ⟨e1.symm, e2, e3⟩
      · exact Or.inr ⟨fun q => e2 q.2, Or.inr (Or.inl ⟨e1, hR⟩)⟩
    · exact Or.inr ⟨fun q => ent_no nB (q.1 ▸ hB), Or.inr (Or.inr hB)⟩
  · rintro (⟨e1, e2, e3⟩ | ⟨hne, hA | ⟨e1, hR⟩ | hB⟩)
    · exact Or.inr (Or.inl ⟨e1.symm, (hr b g).mpr (Or.inl ⟨e2, e3⟩)⟩)
    · exact Or.inl hA
    · have e1 : dg = d := e1
      exact Or.inr (Or.inl ⟨e1, (hr b g).mpr (Or.inr ⟨fun q => hne ⟨e1.symm, q⟩, hR⟩)⟩)
    · exact Or.inr (Or.inr hB)
theorem rows_upd {p q : List gx_R} {rr : gx_R} {bar gg : UInt64} (hs : srt (p ++ rr :: q)) (hb : rr.2.1 = bar) (b g : UInt64) : (∃ r ∈ p ++ (rr.1, rr.2.1, gg) :: q, r.2.1 = b ∧ r.2.2 = g) ↔ (b = bar ∧ g = gg) ∨ (¬ b = bar ∧ ∃ r ∈ p ++ rr :: q, r.2.1 = b ∧ r.2.2 = g) := by
  obtain ⟨h1, h2, h3⟩ := srt_app.mp hs
  obtain ⟨h4, h5⟩ := srt_cons.mp h2
  have nP : ∀ r ∈ p, ¬ r.2.1 = bar := fun r hr e => by
    have := h3 r hr rr List.mem_cons_self
    rw [e, hb] at this
    exact absurd this (Int.lt_irrefl _)
  have nQ : ∀ r ∈ q, ¬ r.2.1 = bar := fun r hr e => by
    have := h4 r hr
    rw [e, hb] at this
    exact absurd this (Int.lt_irrefl _)
  constructor
  · rintro ⟨r, hr, e1, e2⟩
    rcases List.mem_append.mp hr with hr | hr
    · exact Or.inr ⟨fun e => nP r hr (e1.trans e), r, List.mem_append_left _ hr, e1, e2⟩
    · rcases List.mem_cons.mp hr with e | hr
      · rw [e] at e1 e2
        have e1 : rr.2.1 = b := e1
        have e2 : gg = g := e2
        exact Or.inl ⟨by rw [← e1]; exact hb, e2.symm⟩
      · exact Or.inr ⟨fun e => nQ r hr (e1.trans e), r, List.mem_append_right _ (List.mem_cons_of_mem _ hr), e1, e2⟩
  · rintro (⟨e1, e2⟩ | ⟨hne, r, hr, e1, e2⟩)
    · exact ⟨(rr.1, rr.2.1, gg), List.mem_append_right _ List.mem_cons_self, by rw [e1]; exact hb, e2.symm⟩
    · rcases List.mem_append.mp hr with hr | hr
      · exact ⟨r, List.mem_append_left _ hr, e1, e2⟩
      · rcases List.mem_cons.mp hr with e | hr
        · rw [e] at e1
          exact absurd (by rw [← e1]; exact hb) hne
        · exact ⟨r, List.mem_append_right _ (List.mem_cons_of_mem _ hr), e1, e2⟩
theorem rows_ins {p q : List gx_R} {k : Nat} {bar gg : UInt64} (hp : ∀ r ∈ p, zv r.2.1 < zv bar) (hq : ∀ r ∈ q, zv bar < zv r.2.1) (b g : UInt64) : (∃ r ∈ p ++ (k, bar, gg) :: q, r.2.1 = b ∧ r.2.2 = g) ↔ (b = bar ∧ g = gg) ∨ (¬ b = bar ∧ ∃ r ∈ p ++ q, r.2.1 = b ∧ r.2.2 = g) := by
  have nP : ∀ r ∈ p, ¬ r.2.1 = bar := fun r hr e => by
    have := hp r hr
    rw [e] at this
    exact absurd this (Int.lt_irrefl _)
  have nQ : ∀ r ∈ q, ¬ r.2.1 = bar := fun r hr e => by
    have := hq r hr
    rw [e] at this
    exact absurd this (Int.lt_irrefl _)
  constructor
  · rintro ⟨r, hr, e1, e2⟩
    rcases List.mem_append.mp hr with hr | hr
    · exact Or.inr ⟨fun e => nP r hr (e1.trans e), r, List.mem_append_left _ hr, e1, e2⟩
    · rcases List.mem_cons.mp hr with e | hr
      · rw [e] at e1 e2
        have e1 : bar = b := e1
        have e2 : gg = g := e2
        exact Or.inl ⟨e1.symm, e2.symm⟩
      · exact Or.inr ⟨fun e => nQ r hr (e1.trans e), r, List.mem_append_right _ hr, e1, e2⟩
  · rintro (⟨e1, e2⟩ | ⟨hne, r, hr, e1, e2⟩)
    · exact ⟨(k, bar, gg), List.mem_append_right _ List.mem_cons_self, e1.symm, e2.symm⟩
    · rcases List.mem_append.mp hr with hr | hr
      · exact ⟨r, List.mem_append_left _ hr, e1, e2⟩
      · exact ⟨r, List.mem_append_right _ (List.mem_cons_of_mem _ hr), e1, e2⟩
theorem ent_ins {A B : List gx_L} {k k2 : Nat} {dg bar gg : UInt64} (hA : ∀ x ∈ A, ¬ x.2.1 = dg) (hB : ∀ x ∈ B, ¬ x.2.1 = dg) (d b g : UInt64) : ent (A ++ (k, dg, [(k2, bar, gg)]) :: B) d b g ↔ (d = dg ∧ b = bar ∧ g = gg) ∨ (¬ (d = dg ∧ b = bar) ∧ ent (A ++ B) d b g) := by
  rw [ent_mid, ent_app]
  constructor
  · rintro (h | ⟨e1, r, hr, e2, e3⟩ | h)
    · exact Or.inr ⟨fun q => ent_no hA (q.1 ▸ h), Or.inl h⟩
    · rw [List.mem_singleton.mp hr] at e2 e3
      exact Or.inl ⟨Eq.symm e1, Eq.symm e2, Eq.symm e3⟩
    · exact Or.inr ⟨fun q => ent_no hB (q.1 ▸ h), Or.inr h⟩
  · rintro (⟨e1, e2, e3⟩ | ⟨-, h | h⟩)
    · exact Or.inr (Or.inl ⟨e1.symm, _, List.mem_cons_self, e2.symm, e3.symm⟩)
    · exact Or.inl h
    · exact Or.inr (Or.inr h)
theorem dok_mid {A B : List gx_L} {x y : gx_L} (h : ∀ z ∈ A ++ x :: B, dok z) (hy : dok y) : ∀ z ∈ A ++ y :: B, dok z := by
  intro z hz
  rcases List.mem_append.mp hz with hz | hz
  · exact h z (List.mem_append_left _ hz)
  · rcases List.mem_cons.mp hz with e | hz
    · rw [e]
      exact hy
    · exact h z (List.mem_append_right _ (List.mem_cons_of_mem _ hz))
theorem dok_ins {A B : List gx_L} {y : gx_L} (h : ∀ z ∈ A ++ B, dok z) (hy : dok y) : ∀ z ∈ A ++ y :: B, dok z := by
  intro z hz
  rcases List.mem_append.mp hz with hz | hz
  · exact h z (List.mem_append_left _ hz)
  · rcases List.mem_cons.mp hz with e | hz
    · rw [e]
      exact hy
    · exact h z (List.mem_append_right _ hz)
/-- what the reference's row does, with its place known -/
theorem mr_new {n : Nat} {fw fb fa : Nat → UInt64} {xs xs' : List gx_L} (h : rel xs n fw fb fa) {dg bar gg : UInt64} (kd : ky dg) (kb : ky bar) {a : Nat} (hat : mr_at n n (fun k => zv (fw k)) (fun k => zv (fb k)) (zv dg) (zv bar) a) (hno : ∀ g, ¬ ent xs dg bar g) : a = n := by
  rcases hat with ⟨e, -⟩ | ⟨hlt, e1, e2⟩
  · exact e
  · have q1 : fw a = dg := ky_inj (rel_kw h a hlt).1 kd e1
    have q2 : fb a = bar := ky_inj (rel_kw h a hlt).2 kb e2
    have := h.2.2.2.1 a hlt
    rw [q1, q2] at this
    exact absurd this (hno _)
theorem row_both {xs : List gx_L} {n : Nat} {fw fb fa : Nat → UInt64} (h : rel xs n fw fb fa) {dg bar gg : UInt64} (hdg : ∃ j, dg = gk j) (hbar : ∃ j, bar = gk j) (hgg : fin_ gg) {r r' : Int32} {u : Nat × List gx_L} {u' : Nat × (Nat → UInt64) × (Nat → UInt64) × (Nat → UInt64)} (hx : xr_post n xs dg bar gg r u) (hm : mr_post n fw fb fa (fun k => zv (fw k)) (fun k => zv (fb k)) dg bar gg r' u') : r = r' ∧ u.1 = u'.1 ∧ rel u.2 u'.1 u'.2.1 u'.2.2.1 u'.2.2.2 := by
  rcases hx with ⟨hb, rfl, rfl⟩ | ⟨hp, hg, pre, post, rfl, hsp, hx⟩
  · rcases hm with ⟨-, rfl, rfl⟩ | ⟨hp', hg', -⟩
    · exact ⟨rfl, rfl, h⟩
    · rcases hb with hb | hb
      · exact absurd hb hp'
      · exact absurd hb hg'
  rcases hm with ⟨hb, -⟩ | ⟨-, -, zD, zB, a, fD, fB, hat, hm⟩
  · rcases hb with hb | hb
    · exact absurd hb hp
    · exact absurd hb hg
  have hfd : fin_ dg := by obtain ⟨j, rfl⟩ := hdg; exact fin_gk j
  have hfb : fin_ bar := by obtain ⟨j, rfl⟩ := hbar; exact fin_gk j
  obtain ⟨hp1, hp2⟩ := gr_place_iff.mp hp
  have kd : ky dg := ⟨hdg, in_deg hfd hp1⟩
  have kb : ky bar := ⟨hbar, by obtain ⟨z, q1, -, q2⟩ := in_bar hfb hp2; exact bnd_le ⟨z, q1, q2⟩ (by decide)⟩
  have bg : bnd gg 100 := by obtain ⟨z, q1, -, q2⟩ := in_gas hgg hg; exact ⟨z, q1, q2⟩
  obtain rfl : zv dg = zD := zv_eq fD
  obtain rfl : zv bar = zB := zv_eq fB
  have hkx : ∀ x ∈ pre ++ post, ky x.2.1 := fun x hx => (h.2.2.1 x hx).1
  have hspz := spl_z fD hkx h.2.1 hsp
  -- what is new on both sides
  have push : ∀ xs', (∀ g, ¬ ent (pre ++ post) dg bar g) → n < 30 → srt xs' → (∀ x ∈ xs', dok x) → (∀ d b g, ent xs' d b g ↔ (d = dg ∧ b = bar ∧ g = gg) ∨ (¬ (d = dg ∧ b = bar) ∧ ent (pre ++ post) d b g)) → r = 1 → u = (n + 1, xs') → r = r' ∧ u.1 = u'.1 ∧ rel u.2 u'.1 u'.2.1 u'.2.2.1 u'.2.2.2 := by
    intro xs' hno hlt hs' hd' he' er eu
    have ea := mr_new (xs' := xs') (gg := gg) h kd kb hat hno
    have hu : ∀ k, k < n → fw k = dg → fb k = bar → k = a := fun k hk q1 q2 => by
      have := h.2.2.2.1 k hk
      rw [q1, q2] at this
      exact absurd this (hno _)
    rcases hm with ⟨e30, -⟩ | ⟨-, er', eu'⟩
    · omega
    · rw [er, er', eu, eu']
      refine ⟨rfl, ?_, ?_⟩
      · show n + 1 = if a = n then n + 1 else n
        rw [if_pos ea]
      · exact rel_put h (by omega) (by rw [if_pos ea]; omega) hu (fun q => absurd q (by omega)) hs' hd' he'
  have full : (∀ g, ¬ ent (pre ++ post) dg bar g) → n = 30 → r = 0 → u = (n, pre ++ post) → r = r' ∧ u.1 = u'.1 ∧ rel u.2 u'.1 u'.2.1 u'.2.2.1 u'.2.2.2 := by
    intro hno e30 er eu
    have ea := mr_new (xs' := []) (gg := gg) h kd kb hat hno
    rcases hm with ⟨-, er', eu'⟩ | ⟨hlt, -⟩
    · rw [er, er', eu, eu']
      exact ⟨rfl, rfl, h⟩
    · omega
  rcases hx with ⟨pre', h3, dl, p, q, rfl, hcd, hsq, hx⟩ | ⟨hne, hx⟩
  · -- the line is there
    have hmem : (h3, dl, p ++ q) ∈ (pre' ++ [(h3, dl, p ++ q)]) ++ post := List.mem_append_left _ (List.mem_append_right _ List.mem_cons_self)
    have dl_ok := h.2.2.1 _ hmem
    rw [cv_eq (ky_fv dl_ok.1) fD] at hcd
    obtain rfl : dl = dg := ky_inj dl_ok.1 kd hcd
    obtain ⟨-, sx, -, rx⟩ := dl_ok
    have sx : srt (p ++ q) := sx
    have rx : ∀ r ∈ p ++ q, ky r.2.1 ∧ bnd r.2.2 100 := rx
    have hqz := spl_z fB (fun r hr => (rx r hr).1) sx hsq
    have eapp : (pre' ++ [(h3, dl, p ++ q)]) ++ post = pre' ++ (h3, dl, p ++ q) :: post := by rw [List.append_assoc]; rfl
    rw [eapp] at h push full hmem
    rcases hx with ⟨er, p', rr, rfl, hcb, eu⟩ | ⟨hnb, hx⟩
    · -- the row is there
      have eapp2 : (p' ++ [rr]) ++ q = p' ++ rr :: q := by rw [List.append_assoc]; rfl
      rw [eapp2] at h sx rx hmem
      have hrm : rr ∈ p' ++ rr :: q := List.mem_append_right _ List.mem_cons_self
      rw [cv_eq (ky_fv (rx rr hrm).1) fB] at hcb
      have ebar : rr.2.1 = bar := ky_inj (rx rr hrm).1 kb hcb
      obtain ⟨k0, hk0, e1, e2, -⟩ := rel_row h hmem hrm
      have e1 : fw k0 = dl := e1
      rw [ebar] at e2
      have hlt : a < n ∧ fw a = dl ∧ fb a = bar := by
        rcases hat with ⟨-, hn⟩ | ⟨hlt, q1, q2⟩
        · exact absurd ⟨by dsimp only; rw [e1], by dsimp only; rw [e2]⟩ (hn k0 hk0)
        · exact ⟨hlt, ky_inj (rel_kw h a hlt).1 kd q1, ky_inj (rel_kw h a hlt).2 kb q2⟩
      have hn30 := h.1
      rcases hm with ⟨e30, -⟩ | ⟨-, er', eu'⟩
      · omega
      · rw [er, er', eu, eu']
        refine ⟨rfl, ?_, ?_⟩
        · show n = if a = n then n + 1 else n
          rw [if_neg (by omega)]
        · refine rel_put h (by omega) (by rw [if_neg (by omega)]; exact hn30) (fun k hk q1 q2 => h.2.2.2.2.2 k hk a hlt.1 (by rw [q1, hlt.2.1]) (by rw [q2, hlt.2.2])) (fun _ => hlt.2) (srt_rep h.2.1 rfl) (dok_mid h.2.2.1 ?_) (ent_line h.2.1 (rows_upd sx ebar))
          refine ⟨kd, srt_rep sx rfl, fun q0 => ?_, ?_⟩
          · exact absurd (List.append_eq_nil_iff.mp q0).2 (List.cons_ne_nil _ _)
          · intro r hr
            have hr : r ∈ p' ++ (rr.1, rr.2.1, gg) :: q := hr
            rcases List.mem_append.mp hr with hr | hr
            · exact rx r (List.mem_append_left _ hr)
            · rcases List.mem_cons.mp hr with e | hr
              · rw [e]
                exact ⟨(rx rr hrm).1, bg⟩
              · exact rx r (List.mem_append_right _ (List.mem_cons_of_mem _ hr))
    · -- a new row of the line
      have hpz := lt_pre fB (fun r hr => (rx r (List.mem_append_left _ hr)).1) (srt_app.mp sx).1 hqz.1 hnb
      have hno : ∀ g, ¬ ent (pre' ++ (h3, dl, p ++ q) :: post) dl bar g := by
        rintro g ⟨y, hy, r, hr, e1, e2, -⟩
        have ey : y = (h3, dl, p ++ q) := srt_uniq h.2.1 hy hmem (by rw [e1])
        rw [ey] at hr
        rcases List.mem_append.mp hr with hr | hr
        · have := hpz r hr
          rw [e2] at this
          exact absurd this (Int.lt_irrefl _)
        · have := hqz.2 r hr
          rw [e2] at this
          exact absurd this (Int.lt_irrefl _)
      rcases hx with ⟨e30, er, eu⟩ | ⟨hlt, er, k, eu⟩
      · exact full hno e30 er (by rw [eu, eapp])
      · refine push (pre' ++ (h3, dl, p ++ (k, bar, gg) :: q) :: post) hno hlt (srt_rep (x := (h3, dl, p ++ q)) h.2.1 rfl) (dok_mid h.2.2.1 ?_) (ent_line h.2.1 (rows_ins hpz hqz.2)) er eu
        refine ⟨kd, srt_ins (y := (k, bar, gg)) sx hpz hqz.2, fun q0 => ?_, ?_⟩
        · exact absurd (List.append_eq_nil_iff.mp q0).2 (List.cons_ne_nil _ _)
        · intro r hr
          have hr : r ∈ p ++ (k, bar, gg) :: q := hr
          rcases List.mem_append.mp hr with hr | hr
          · exact rx r (List.mem_append_left _ hr)
          · rcases List.mem_cons.mp hr with e | hr
            · rw [e]
              exact ⟨kb, bg⟩
            · exact rx r (List.mem_append_right _ hr)
  · -- a new line
    have hpz := lt_pre fD (fun r hr => hkx r (List.mem_append_left _ hr)) (srt_app.mp h.2.1).1 hspz.1 hne
    have nA : ∀ x ∈ pre, ¬ x.2.1 = dg := fun x hx e => by
      have := hpz x hx
      rw [e] at this
      exact absurd this (Int.lt_irrefl _)
    have nB : ∀ x ∈ post, ¬ x.2.1 = dg := fun x hx e => by
      have := hspz.2 x hx
      rw [e] at this
      exact absurd this (Int.lt_irrefl _)
    have hno : ∀ g, ¬ ent (pre ++ post) dg bar g := fun g hE => by
      rcases ent_app.mp hE with hE | hE
      · exact ent_no nA hE
      · exact ent_no nB hE
    rcases hx with ⟨e30, er, eu⟩ | ⟨hlt, er, k, k2, eu⟩
    · exact full hno e30 er eu
    · refine push _ hno hlt (srt_ins h.2.1 hpz hspz.2) (dok_ins h.2.2.1 ?_) (ent_ins nA nB) er eu
      refine ⟨kd, List.pairwise_singleton _ _, List.cons_ne_nil _ _, ?_⟩
      intro r hr
      rw [List.mem_singleton.mp hr]
      exact ⟨kb, bg⟩
/-- nothing told yet -/
theorem rel_0 (fw fb fa : Nat → UInt64) : rel [] 0 fw fb fa := by
  refine ⟨by decide, List.Pairwise.nil, (fun x h => nomatch h), fun k h => absurd h (by omega), ?_, fun j h => absurd h (by omega)⟩
  rintro d b g ⟨x, hx, -⟩
  exact nomatch hx
end
section
/-! the law's own entry -/
set_option maxRecDepth 100000
abbrev cL_law : ByteArray := code
theorem dL_law_0 : decode cL_law 0 = .ok (.new 7, 3) := by decide +kernel
theorem dL_law_3 : decode cL_law 3 = .ok (.dup, 1) := by decide +kernel
theorem dL_law_4 : decode cL_law 4 = .ok (.invokespecial 9, 3) := by decide +kernel
theorem dL_law_7 : decode cL_law 7 = .ok (.astore_n 1, 1) := by decide +kernel
theorem dL_law_8 : decode cL_law 8 = .ok (.new 10, 3) := by decide +kernel
theorem dL_law_11 : decode cL_law 11 = .ok (.dup, 1) := by decide +kernel
theorem dL_law_12 : decode cL_law 12 = .ok (.invokespecial 12, 3) := by decide +kernel
theorem dL_law_15 : decode cL_law 15 = .ok (.astore_n 2, 1) := by decide +kernel
theorem dL_law_16 : decode cL_law 16 = .ok (.iconst 0, 1) := by decide +kernel
theorem dL_law_17 : decode cL_law 17 = .ok (.istore_n 3, 1) := by decide +kernel
theorem dL_law_18 : decode cL_law 18 = .ok (.iload_n 3, 1) := by decide +kernel
theorem dL_law_19 : decode cL_law 19 = .ok (.aload_n 0, 1) := by decide +kernel
theorem dL_law_20 : decode cL_law 20 = .ok (.arraylength, 1) := by decide +kernel
theorem dL_law_21 : decode cL_law 21 = .ok (.bipush 6, 2) := by decide +kernel
theorem dL_law_23 : decode cL_law 23 = .ok (.isub, 1) := by decide +kernel
theorem dL_law_24 : decode cL_law 24 = .ok (.if_icmp .gt 875, 3) := by decide +kernel
theorem dL_law_27 : decode cL_law 27 = .ok (.aload_n 0, 1) := by decide +kernel
theorem dL_law_28 : decode cL_law 28 = .ok (.iload_n 3, 1) := by decide +kernel
theorem dL_law_29 : decode cL_law 29 = .ok (.iaload, 1) := by decide +kernel
theorem dL_law_30 : decode cL_law 30 = .ok (.bipush 15, 2) := by decide +kernel
theorem dL_law_32 : decode cL_law 32 = .ok (.iand, 1) := by decide +kernel
theorem dL_law_33 : decode cL_law 33 = .ok (.tableswitch 860 0 8 #[51, 124, 205, 316, 397, 501, 605, 678, 749], 51) := by decide +kernel
theorem dL_law_84 : decode cL_law 84 = .ok (.aload_n 1, 1) := by decide +kernel
theorem dL_law_85 : decode cL_law 85 = .ok (.aload_n 0, 1) := by decide +kernel
theorem dL_law_86 : decode cL_law 86 = .ok (.iload_n 3, 1) := by decide +kernel
theorem dL_law_87 : decode cL_law 87 = .ok (.iconst 1, 1) := by decide +kernel
theorem dL_law_88 : decode cL_law 88 = .ok (.iadd, 1) := by decide +kernel
theorem dL_law_89 : decode cL_law 89 = .ok (.iaload, 1) := by decide +kernel
theorem dL_law_90 : decode cL_law 90 = .ok (.i2d, 1) := by decide +kernel
theorem dL_law_91 : decode cL_law 91 = .ok (.ldc2_w 13, 3) := by decide +kernel
theorem dL_law_94 : decode cL_law 94 = .ok (.dmul, 1) := by decide +kernel
theorem dL_law_95 : decode cL_law 95 = .ok (.aload_n 0, 1) := by decide +kernel
theorem dL_law_96 : decode cL_law 96 = .ok (.iload_n 3, 1) := by decide +kernel
theorem dL_law_97 : decode cL_law 97 = .ok (.iconst 2, 1) := by decide +kernel
theorem dL_law_98 : decode cL_law 98 = .ok (.iadd, 1) := by decide +kernel
theorem dL_law_99 : decode cL_law 99 = .ok (.iaload, 1) := by decide +kernel
theorem dL_law_100 : decode cL_law 100 = .ok (.i2d, 1) := by decide +kernel
theorem dL_law_101 : decode cL_law 101 = .ok (.ldc2_w 13, 3) := by decide +kernel
theorem dL_law_104 : decode cL_law 104 = .ok (.dmul, 1) := by decide +kernel
theorem dL_law_105 : decode cL_law 105 = .ok (.aload_n 0, 1) := by decide +kernel
theorem dL_law_106 : decode cL_law 106 = .ok (.iload_n 3, 1) := by decide +kernel
theorem dL_law_107 : decode cL_law 107 = .ok (.iconst 3, 1) := by decide +kernel
theorem dL_law_108 : decode cL_law 108 = .ok (.iadd, 1) := by decide +kernel
theorem dL_law_109 : decode cL_law 109 = .ok (.iaload, 1) := by decide +kernel
theorem dL_law_110 : decode cL_law 110 = .ok (.i2d, 1) := by decide +kernel
theorem dL_law_111 : decode cL_law 111 = .ok (.ldc2_w 13, 3) := by decide +kernel
theorem dL_law_114 : decode cL_law 114 = .ok (.dmul, 1) := by decide +kernel
theorem dL_law_115 : decode cL_law 115 = .ok (.invokevirtual 15, 3) := by decide +kernel
theorem dL_law_118 : decode cL_law 118 = .ok (.aload_n 2, 1) := by decide +kernel
theorem dL_law_119 : decode cL_law 119 = .ok (.aload_n 0, 1) := by decide +kernel
theorem dL_law_120 : decode cL_law 120 = .ok (.iload_n 3, 1) := by decide +kernel
theorem dL_law_121 : decode cL_law 121 = .ok (.iconst 1, 1) := by decide +kernel
theorem dL_law_122 : decode cL_law 122 = .ok (.iadd, 1) := by decide +kernel
theorem dL_law_123 : decode cL_law 123 = .ok (.iaload, 1) := by decide +kernel
theorem dL_law_124 : decode cL_law 124 = .ok (.i2d, 1) := by decide +kernel
theorem dL_law_125 : decode cL_law 125 = .ok (.ldc2_w 13, 3) := by decide +kernel
theorem dL_law_128 : decode cL_law 128 = .ok (.dmul, 1) := by decide +kernel
theorem dL_law_129 : decode cL_law 129 = .ok (.aload_n 0, 1) := by decide +kernel
theorem dL_law_130 : decode cL_law 130 = .ok (.iload_n 3, 1) := by decide +kernel
theorem dL_law_131 : decode cL_law 131 = .ok (.iconst 2, 1) := by decide +kernel
theorem dL_law_132 : decode cL_law 132 = .ok (.iadd, 1) := by decide +kernel
theorem dL_law_133 : decode cL_law 133 = .ok (.iaload, 1) := by decide +kernel
theorem dL_law_134 : decode cL_law 134 = .ok (.i2d, 1) := by decide +kernel
theorem dL_law_135 : decode cL_law 135 = .ok (.ldc2_w 13, 3) := by decide +kernel
theorem dL_law_138 : decode cL_law 138 = .ok (.dmul, 1) := by decide +kernel
theorem dL_law_139 : decode cL_law 139 = .ok (.aload_n 0, 1) := by decide +kernel
theorem dL_law_140 : decode cL_law 140 = .ok (.iload_n 3, 1) := by decide +kernel
theorem dL_law_141 : decode cL_law 141 = .ok (.iconst 3, 1) := by decide +kernel
theorem dL_law_142 : decode cL_law 142 = .ok (.iadd, 1) := by decide +kernel
theorem dL_law_143 : decode cL_law 143 = .ok (.iaload, 1) := by decide +kernel
theorem dL_law_144 : decode cL_law 144 = .ok (.i2d, 1) := by decide +kernel
theorem dL_law_145 : decode cL_law 145 = .ok (.ldc2_w 13, 3) := by decide +kernel
theorem dL_law_148 : decode cL_law 148 = .ok (.dmul, 1) := by decide +kernel
theorem dL_law_149 : decode cL_law 149 = .ok (.invokevirtual 19, 3) := by decide +kernel
theorem dL_law_152 : decode cL_law 152 = .ok (.if_icmp .eq 741, 3) := by decide +kernel
theorem dL_law_155 : decode cL_law 155 = .ok (.iconst 0, 1) := by decide +kernel
theorem dL_law_156 : decode cL_law 156 = .ok (.ireturn, 1) := by decide +kernel
theorem dL_law_157 : decode cL_law 157 = .ok (.aload_n 1, 1) := by decide +kernel
theorem dL_law_158 : decode cL_law 158 = .ok (.aload_n 0, 1) := by decide +kernel
theorem dL_law_159 : decode cL_law 159 = .ok (.iload_n 3, 1) := by decide +kernel
theorem dL_law_160 : decode cL_law 160 = .ok (.iconst 1, 1) := by decide +kernel
theorem dL_law_161 : decode cL_law 161 = .ok (.iadd, 1) := by decide +kernel
theorem dL_law_162 : decode cL_law 162 = .ok (.iaload, 1) := by decide +kernel
theorem dL_law_163 : decode cL_law 163 = .ok (.i2d, 1) := by decide +kernel
theorem dL_law_164 : decode cL_law 164 = .ok (.ldc2_w 13, 3) := by decide +kernel
theorem dL_law_167 : decode cL_law 167 = .ok (.dmul, 1) := by decide +kernel
theorem dL_law_168 : decode cL_law 168 = .ok (.aload_n 0, 1) := by decide +kernel
theorem dL_law_169 : decode cL_law 169 = .ok (.iload_n 3, 1) := by decide +kernel
theorem dL_law_170 : decode cL_law 170 = .ok (.iconst 2, 1) := by decide +kernel
theorem dL_law_171 : decode cL_law 171 = .ok (.iadd, 1) := by decide +kernel
theorem dL_law_172 : decode cL_law 172 = .ok (.iaload, 1) := by decide +kernel
theorem dL_law_173 : decode cL_law 173 = .ok (.i2d, 1) := by decide +kernel
theorem dL_law_174 : decode cL_law 174 = .ok (.ldc2_w 13, 3) := by decide +kernel
theorem dL_law_177 : decode cL_law 177 = .ok (.dmul, 1) := by decide +kernel
theorem dL_law_178 : decode cL_law 178 = .ok (.invokevirtual 20, 3) := by decide +kernel
theorem dL_law_181 : decode cL_law 181 = .ok (.dstore 4, 2) := by decide +kernel
theorem dL_law_183 : decode cL_law 183 = .ok (.aload_n 2, 1) := by decide +kernel
theorem dL_law_184 : decode cL_law 184 = .ok (.aload_n 0, 1) := by decide +kernel
theorem dL_law_185 : decode cL_law 185 = .ok (.iload_n 3, 1) := by decide +kernel
theorem dL_law_186 : decode cL_law 186 = .ok (.iconst 1, 1) := by decide +kernel
theorem dL_law_187 : decode cL_law 187 = .ok (.iadd, 1) := by decide +kernel
theorem dL_law_188 : decode cL_law 188 = .ok (.iaload, 1) := by decide +kernel
theorem dL_law_189 : decode cL_law 189 = .ok (.i2d, 1) := by decide +kernel
theorem dL_law_190 : decode cL_law 190 = .ok (.ldc2_w 13, 3) := by decide +kernel
theorem dL_law_193 : decode cL_law 193 = .ok (.dmul, 1) := by decide +kernel
theorem dL_law_194 : decode cL_law 194 = .ok (.aload_n 0, 1) := by decide +kernel
theorem dL_law_195 : decode cL_law 195 = .ok (.iload_n 3, 1) := by decide +kernel
theorem dL_law_196 : decode cL_law 196 = .ok (.iconst 2, 1) := by decide +kernel
theorem dL_law_197 : decode cL_law 197 = .ok (.iadd, 1) := by decide +kernel
theorem dL_law_198 : decode cL_law 198 = .ok (.iaload, 1) := by decide +kernel
theorem dL_law_199 : decode cL_law 199 = .ok (.i2d, 1) := by decide +kernel
theorem dL_law_200 : decode cL_law 200 = .ok (.ldc2_w 13, 3) := by decide +kernel
theorem dL_law_203 : decode cL_law 203 = .ok (.dmul, 1) := by decide +kernel
theorem dL_law_204 : decode cL_law 204 = .ok (.invokevirtual 24, 3) := by decide +kernel
theorem dL_law_207 : decode cL_law 207 = .ok (.dstore 6, 2) := by decide +kernel
theorem dL_law_209 : decode cL_law 209 = .ok (.dload 4, 2) := by decide +kernel
theorem dL_law_211 : decode cL_law 211 = .ok (.dload 6, 2) := by decide +kernel
theorem dL_law_213 : decode cL_law 213 = .ok (.dcmp .l, 1) := by decide +kernel
theorem dL_law_214 : decode cL_law 214 = .ok (.ifCond .eq 21, 3) := by decide +kernel
theorem dL_law_217 : decode cL_law 217 = .ok (.dload 4, 2) := by decide +kernel
theorem dL_law_219 : decode cL_law 219 = .ok (.dload 4, 2) := by decide +kernel
theorem dL_law_221 : decode cL_law 221 = .ok (.dcmp .l, 1) := by decide +kernel
theorem dL_law_222 : decode cL_law 222 = .ok (.ifCond .eq 11, 3) := by decide +kernel
theorem dL_law_225 : decode cL_law 225 = .ok (.dload 6, 2) := by decide +kernel
theorem dL_law_227 : decode cL_law 227 = .ok (.dload 6, 2) := by decide +kernel
theorem dL_law_229 : decode cL_law 229 = .ok (.dcmp .l, 1) := by decide +kernel
theorem dL_law_230 : decode cL_law 230 = .ok (.ifCond .ne 5, 3) := by decide +kernel
theorem dL_law_233 : decode cL_law 233 = .ok (.iconst 0, 1) := by decide +kernel
theorem dL_law_234 : decode cL_law 234 = .ok (.ireturn, 1) := by decide +kernel
theorem dL_law_235 : decode cL_law 235 = .ok (.goto 658, 3) := by decide +kernel
theorem dL_law_238 : decode cL_law 238 = .ok (.aload_n 1, 1) := by decide +kernel
theorem dL_law_239 : decode cL_law 239 = .ok (.aload_n 0, 1) := by decide +kernel
theorem dL_law_240 : decode cL_law 240 = .ok (.iload_n 3, 1) := by decide +kernel
theorem dL_law_241 : decode cL_law 241 = .ok (.iconst 1, 1) := by decide +kernel
theorem dL_law_242 : decode cL_law 242 = .ok (.iadd, 1) := by decide +kernel
theorem dL_law_243 : decode cL_law 243 = .ok (.iaload, 1) := by decide +kernel
theorem dL_law_244 : decode cL_law 244 = .ok (.i2d, 1) := by decide +kernel
theorem dL_law_245 : decode cL_law 245 = .ok (.ldc2_w 13, 3) := by decide +kernel
theorem dL_law_248 : decode cL_law 248 = .ok (.dmul, 1) := by decide +kernel
theorem dL_law_249 : decode cL_law 249 = .ok (.aload_n 0, 1) := by decide +kernel
theorem dL_law_250 : decode cL_law 250 = .ok (.iload_n 3, 1) := by decide +kernel
theorem dL_law_251 : decode cL_law 251 = .ok (.iconst 2, 1) := by decide +kernel
theorem dL_law_252 : decode cL_law 252 = .ok (.iadd, 1) := by decide +kernel
theorem dL_law_253 : decode cL_law 253 = .ok (.iaload, 1) := by decide +kernel
theorem dL_law_254 : decode cL_law 254 = .ok (.i2d, 1) := by decide +kernel
theorem dL_law_255 : decode cL_law 255 = .ok (.ldc2_w 13, 3) := by decide +kernel
theorem dL_law_258 : decode cL_law 258 = .ok (.dmul, 1) := by decide +kernel
theorem dL_law_259 : decode cL_law 259 = .ok (.aload_n 0, 1) := by decide +kernel
theorem dL_law_260 : decode cL_law 260 = .ok (.iload_n 3, 1) := by decide +kernel
theorem dL_law_261 : decode cL_law 261 = .ok (.iconst 3, 1) := by decide +kernel
theorem dL_law_262 : decode cL_law 262 = .ok (.iadd, 1) := by decide +kernel
theorem dL_law_263 : decode cL_law 263 = .ok (.iaload, 1) := by decide +kernel
theorem dL_law_264 : decode cL_law 264 = .ok (.i2d, 1) := by decide +kernel
theorem dL_law_265 : decode cL_law 265 = .ok (.ldc2_w 13, 3) := by decide +kernel
theorem dL_law_268 : decode cL_law 268 = .ok (.dmul, 1) := by decide +kernel
theorem dL_law_269 : decode cL_law 269 = .ok (.aload_n 0, 1) := by decide +kernel
theorem dL_law_270 : decode cL_law 270 = .ok (.iload_n 3, 1) := by decide +kernel
theorem dL_law_271 : decode cL_law 271 = .ok (.iconst 4, 1) := by decide +kernel
theorem dL_law_272 : decode cL_law 272 = .ok (.iadd, 1) := by decide +kernel
theorem dL_law_273 : decode cL_law 273 = .ok (.iaload, 1) := by decide +kernel
theorem dL_law_274 : decode cL_law 274 = .ok (.invokevirtual 25, 3) := by decide +kernel
theorem dL_law_277 : decode cL_law 277 = .ok (.dstore 4, 2) := by decide +kernel
theorem dL_law_279 : decode cL_law 279 = .ok (.aload_n 2, 1) := by decide +kernel
theorem dL_law_280 : decode cL_law 280 = .ok (.aload_n 0, 1) := by decide +kernel
theorem dL_law_281 : decode cL_law 281 = .ok (.iload_n 3, 1) := by decide +kernel
theorem dL_law_282 : decode cL_law 282 = .ok (.iconst 1, 1) := by decide +kernel
theorem dL_law_283 : decode cL_law 283 = .ok (.iadd, 1) := by decide +kernel
theorem dL_law_284 : decode cL_law 284 = .ok (.iaload, 1) := by decide +kernel
theorem dL_law_285 : decode cL_law 285 = .ok (.i2d, 1) := by decide +kernel
theorem dL_law_286 : decode cL_law 286 = .ok (.ldc2_w 13, 3) := by decide +kernel
theorem dL_law_289 : decode cL_law 289 = .ok (.dmul, 1) := by decide +kernel
theorem dL_law_290 : decode cL_law 290 = .ok (.aload_n 0, 1) := by decide +kernel
theorem dL_law_291 : decode cL_law 291 = .ok (.iload_n 3, 1) := by decide +kernel
theorem dL_law_292 : decode cL_law 292 = .ok (.iconst 2, 1) := by decide +kernel
theorem dL_law_293 : decode cL_law 293 = .ok (.iadd, 1) := by decide +kernel
theorem dL_law_294 : decode cL_law 294 = .ok (.iaload, 1) := by decide +kernel
theorem dL_law_295 : decode cL_law 295 = .ok (.i2d, 1) := by decide +kernel
theorem dL_law_296 : decode cL_law 296 = .ok (.ldc2_w 13, 3) := by decide +kernel
theorem dL_law_299 : decode cL_law 299 = .ok (.dmul, 1) := by decide +kernel
theorem dL_law_300 : decode cL_law 300 = .ok (.aload_n 0, 1) := by decide +kernel
theorem dL_law_301 : decode cL_law 301 = .ok (.iload_n 3, 1) := by decide +kernel
theorem dL_law_302 : decode cL_law 302 = .ok (.iconst 3, 1) := by decide +kernel
theorem dL_law_303 : decode cL_law 303 = .ok (.iadd, 1) := by decide +kernel
theorem dL_law_304 : decode cL_law 304 = .ok (.iaload, 1) := by decide +kernel
theorem dL_law_305 : decode cL_law 305 = .ok (.i2d, 1) := by decide +kernel
theorem dL_law_306 : decode cL_law 306 = .ok (.ldc2_w 13, 3) := by decide +kernel
theorem dL_law_309 : decode cL_law 309 = .ok (.dmul, 1) := by decide +kernel
theorem dL_law_310 : decode cL_law 310 = .ok (.aload_n 0, 1) := by decide +kernel
theorem dL_law_311 : decode cL_law 311 = .ok (.iload_n 3, 1) := by decide +kernel
theorem dL_law_312 : decode cL_law 312 = .ok (.iconst 4, 1) := by decide +kernel
theorem dL_law_313 : decode cL_law 313 = .ok (.iadd, 1) := by decide +kernel
theorem dL_law_314 : decode cL_law 314 = .ok (.iaload, 1) := by decide +kernel
theorem dL_law_315 : decode cL_law 315 = .ok (.invokevirtual 29, 3) := by decide +kernel
theorem dL_law_318 : decode cL_law 318 = .ok (.dstore 6, 2) := by decide +kernel
theorem dL_law_320 : decode cL_law 320 = .ok (.dload 4, 2) := by decide +kernel
theorem dL_law_322 : decode cL_law 322 = .ok (.dload 6, 2) := by decide +kernel
theorem dL_law_324 : decode cL_law 324 = .ok (.dcmp .l, 1) := by decide +kernel
theorem dL_law_325 : decode cL_law 325 = .ok (.ifCond .eq 21, 3) := by decide +kernel
theorem dL_law_328 : decode cL_law 328 = .ok (.dload 4, 2) := by decide +kernel
theorem dL_law_330 : decode cL_law 330 = .ok (.dload 4, 2) := by decide +kernel
theorem dL_law_332 : decode cL_law 332 = .ok (.dcmp .l, 1) := by decide +kernel
theorem dL_law_333 : decode cL_law 333 = .ok (.ifCond .eq 11, 3) := by decide +kernel
theorem dL_law_336 : decode cL_law 336 = .ok (.dload 6, 2) := by decide +kernel
theorem dL_law_338 : decode cL_law 338 = .ok (.dload 6, 2) := by decide +kernel
theorem dL_law_340 : decode cL_law 340 = .ok (.dcmp .l, 1) := by decide +kernel
theorem dL_law_341 : decode cL_law 341 = .ok (.ifCond .ne 5, 3) := by decide +kernel
theorem dL_law_344 : decode cL_law 344 = .ok (.iconst 0, 1) := by decide +kernel
theorem dL_law_345 : decode cL_law 345 = .ok (.ireturn, 1) := by decide +kernel
theorem dL_law_346 : decode cL_law 346 = .ok (.goto 547, 3) := by decide +kernel
theorem dL_law_349 : decode cL_law 349 = .ok (.aload_n 1, 1) := by decide +kernel
theorem dL_law_350 : decode cL_law 350 = .ok (.aload_n 0, 1) := by decide +kernel
theorem dL_law_351 : decode cL_law 351 = .ok (.iload_n 3, 1) := by decide +kernel
theorem dL_law_352 : decode cL_law 352 = .ok (.iconst 1, 1) := by decide +kernel
theorem dL_law_353 : decode cL_law 353 = .ok (.iadd, 1) := by decide +kernel
theorem dL_law_354 : decode cL_law 354 = .ok (.iaload, 1) := by decide +kernel
theorem dL_law_355 : decode cL_law 355 = .ok (.i2d, 1) := by decide +kernel
theorem dL_law_356 : decode cL_law 356 = .ok (.ldc2_w 13, 3) := by decide +kernel
theorem dL_law_359 : decode cL_law 359 = .ok (.dmul, 1) := by decide +kernel
theorem dL_law_360 : decode cL_law 360 = .ok (.aload_n 0, 1) := by decide +kernel
theorem dL_law_361 : decode cL_law 361 = .ok (.iload_n 3, 1) := by decide +kernel
theorem dL_law_362 : decode cL_law 362 = .ok (.iconst 2, 1) := by decide +kernel
theorem dL_law_363 : decode cL_law 363 = .ok (.iadd, 1) := by decide +kernel
theorem dL_law_364 : decode cL_law 364 = .ok (.iaload, 1) := by decide +kernel
theorem dL_law_365 : decode cL_law 365 = .ok (.i2d, 1) := by decide +kernel
theorem dL_law_366 : decode cL_law 366 = .ok (.ldc2_w 13, 3) := by decide +kernel
theorem dL_law_369 : decode cL_law 369 = .ok (.dmul, 1) := by decide +kernel
theorem dL_law_370 : decode cL_law 370 = .ok (.invokevirtual 30, 3) := by decide +kernel
theorem dL_law_373 : decode cL_law 373 = .ok (.dstore 4, 2) := by decide +kernel
theorem dL_law_375 : decode cL_law 375 = .ok (.aload_n 2, 1) := by decide +kernel
theorem dL_law_376 : decode cL_law 376 = .ok (.aload_n 0, 1) := by decide +kernel
theorem dL_law_377 : decode cL_law 377 = .ok (.iload_n 3, 1) := by decide +kernel
theorem dL_law_378 : decode cL_law 378 = .ok (.iconst 1, 1) := by decide +kernel
theorem dL_law_379 : decode cL_law 379 = .ok (.iadd, 1) := by decide +kernel
theorem dL_law_380 : decode cL_law 380 = .ok (.iaload, 1) := by decide +kernel
theorem dL_law_381 : decode cL_law 381 = .ok (.i2d, 1) := by decide +kernel
theorem dL_law_382 : decode cL_law 382 = .ok (.ldc2_w 13, 3) := by decide +kernel
theorem dL_law_385 : decode cL_law 385 = .ok (.dmul, 1) := by decide +kernel
theorem dL_law_386 : decode cL_law 386 = .ok (.aload_n 0, 1) := by decide +kernel
theorem dL_law_387 : decode cL_law 387 = .ok (.iload_n 3, 1) := by decide +kernel
theorem dL_law_388 : decode cL_law 388 = .ok (.iconst 2, 1) := by decide +kernel
theorem dL_law_389 : decode cL_law 389 = .ok (.iadd, 1) := by decide +kernel
theorem dL_law_390 : decode cL_law 390 = .ok (.iaload, 1) := by decide +kernel
theorem dL_law_391 : decode cL_law 391 = .ok (.i2d, 1) := by decide +kernel
theorem dL_law_392 : decode cL_law 392 = .ok (.ldc2_w 13, 3) := by decide +kernel
theorem dL_law_395 : decode cL_law 395 = .ok (.dmul, 1) := by decide +kernel
theorem dL_law_396 : decode cL_law 396 = .ok (.invokevirtual 33, 3) := by decide +kernel
theorem dL_law_399 : decode cL_law 399 = .ok (.dstore 6, 2) := by decide +kernel
theorem dL_law_401 : decode cL_law 401 = .ok (.dload 4, 2) := by decide +kernel
theorem dL_law_403 : decode cL_law 403 = .ok (.dload 6, 2) := by decide +kernel
theorem dL_law_405 : decode cL_law 405 = .ok (.dcmp .l, 1) := by decide +kernel
theorem dL_law_406 : decode cL_law 406 = .ok (.ifCond .eq 21, 3) := by decide +kernel
theorem dL_law_409 : decode cL_law 409 = .ok (.dload 4, 2) := by decide +kernel
theorem dL_law_411 : decode cL_law 411 = .ok (.dload 4, 2) := by decide +kernel
theorem dL_law_413 : decode cL_law 413 = .ok (.dcmp .l, 1) := by decide +kernel
theorem dL_law_414 : decode cL_law 414 = .ok (.ifCond .eq 11, 3) := by decide +kernel
theorem dL_law_417 : decode cL_law 417 = .ok (.dload 6, 2) := by decide +kernel
theorem dL_law_419 : decode cL_law 419 = .ok (.dload 6, 2) := by decide +kernel
theorem dL_law_421 : decode cL_law 421 = .ok (.dcmp .l, 1) := by decide +kernel
theorem dL_law_422 : decode cL_law 422 = .ok (.ifCond .ne 5, 3) := by decide +kernel
theorem dL_law_425 : decode cL_law 425 = .ok (.iconst 0, 1) := by decide +kernel
theorem dL_law_426 : decode cL_law 426 = .ok (.ireturn, 1) := by decide +kernel
theorem dL_law_427 : decode cL_law 427 = .ok (.goto 466, 3) := by decide +kernel
theorem dL_law_430 : decode cL_law 430 = .ok (.aload_n 1, 1) := by decide +kernel
theorem dL_law_431 : decode cL_law 431 = .ok (.aload_n 0, 1) := by decide +kernel
theorem dL_law_432 : decode cL_law 432 = .ok (.iload_n 3, 1) := by decide +kernel
theorem dL_law_433 : decode cL_law 433 = .ok (.iconst 1, 1) := by decide +kernel
theorem dL_law_434 : decode cL_law 434 = .ok (.iadd, 1) := by decide +kernel
theorem dL_law_435 : decode cL_law 435 = .ok (.iaload, 1) := by decide +kernel
theorem dL_law_436 : decode cL_law 436 = .ok (.i2l, 1) := by decide +kernel
theorem dL_law_437 : decode cL_law 437 = .ok (.bipush 32, 2) := by decide +kernel
theorem dL_law_439 : decode cL_law 439 = .ok (.lshl, 1) := by decide +kernel
theorem dL_law_440 : decode cL_law 440 = .ok (.aload_n 0, 1) := by decide +kernel
theorem dL_law_441 : decode cL_law 441 = .ok (.iload_n 3, 1) := by decide +kernel
theorem dL_law_442 : decode cL_law 442 = .ok (.iconst 2, 1) := by decide +kernel
theorem dL_law_443 : decode cL_law 443 = .ok (.iadd, 1) := by decide +kernel
theorem dL_law_444 : decode cL_law 444 = .ok (.iaload, 1) := by decide +kernel
theorem dL_law_445 : decode cL_law 445 = .ok (.i2l, 1) := by decide +kernel
theorem dL_law_446 : decode cL_law 446 = .ok (.ldc2_w 34, 3) := by decide +kernel
theorem dL_law_449 : decode cL_law 449 = .ok (.land, 1) := by decide +kernel
theorem dL_law_450 : decode cL_law 450 = .ok (.lor, 1) := by decide +kernel
theorem dL_law_451 : decode cL_law 451 = .ok (.aload_n 0, 1) := by decide +kernel
theorem dL_law_452 : decode cL_law 452 = .ok (.iload_n 3, 1) := by decide +kernel
theorem dL_law_453 : decode cL_law 453 = .ok (.iconst 3, 1) := by decide +kernel
theorem dL_law_454 : decode cL_law 454 = .ok (.iadd, 1) := by decide +kernel
theorem dL_law_455 : decode cL_law 455 = .ok (.iaload, 1) := by decide +kernel
theorem dL_law_456 : decode cL_law 456 = .ok (.i2l, 1) := by decide +kernel
theorem dL_law_457 : decode cL_law 457 = .ok (.bipush 32, 2) := by decide +kernel
theorem dL_law_459 : decode cL_law 459 = .ok (.lshl, 1) := by decide +kernel
theorem dL_law_460 : decode cL_law 460 = .ok (.aload_n 0, 1) := by decide +kernel
theorem dL_law_461 : decode cL_law 461 = .ok (.iload_n 3, 1) := by decide +kernel
theorem dL_law_462 : decode cL_law 462 = .ok (.iconst 4, 1) := by decide +kernel
theorem dL_law_463 : decode cL_law 463 = .ok (.iadd, 1) := by decide +kernel
theorem dL_law_464 : decode cL_law 464 = .ok (.iaload, 1) := by decide +kernel
theorem dL_law_465 : decode cL_law 465 = .ok (.i2l, 1) := by decide +kernel
theorem dL_law_466 : decode cL_law 466 = .ok (.ldc2_w 34, 3) := by decide +kernel
theorem dL_law_469 : decode cL_law 469 = .ok (.land, 1) := by decide +kernel
theorem dL_law_470 : decode cL_law 470 = .ok (.lor, 1) := by decide +kernel
theorem dL_law_471 : decode cL_law 471 = .ok (.aload_n 0, 1) := by decide +kernel
theorem dL_law_472 : decode cL_law 472 = .ok (.iload_n 3, 1) := by decide +kernel
theorem dL_law_473 : decode cL_law 473 = .ok (.iconst 5, 1) := by decide +kernel
theorem dL_law_474 : decode cL_law 474 = .ok (.iadd, 1) := by decide +kernel
theorem dL_law_475 : decode cL_law 475 = .ok (.iaload, 1) := by decide +kernel
theorem dL_law_476 : decode cL_law 476 = .ok (.invokevirtual 36, 3) := by decide +kernel
theorem dL_law_479 : decode cL_law 479 = .ok (.aload_n 2, 1) := by decide +kernel
theorem dL_law_480 : decode cL_law 480 = .ok (.aload_n 0, 1) := by decide +kernel
theorem dL_law_481 : decode cL_law 481 = .ok (.iload_n 3, 1) := by decide +kernel
theorem dL_law_482 : decode cL_law 482 = .ok (.iconst 1, 1) := by decide +kernel
theorem dL_law_483 : decode cL_law 483 = .ok (.iadd, 1) := by decide +kernel
theorem dL_law_484 : decode cL_law 484 = .ok (.iaload, 1) := by decide +kernel
theorem dL_law_485 : decode cL_law 485 = .ok (.i2l, 1) := by decide +kernel
theorem dL_law_486 : decode cL_law 486 = .ok (.bipush 32, 2) := by decide +kernel
theorem dL_law_488 : decode cL_law 488 = .ok (.lshl, 1) := by decide +kernel
theorem dL_law_489 : decode cL_law 489 = .ok (.aload_n 0, 1) := by decide +kernel
theorem dL_law_490 : decode cL_law 490 = .ok (.iload_n 3, 1) := by decide +kernel
theorem dL_law_491 : decode cL_law 491 = .ok (.iconst 2, 1) := by decide +kernel
theorem dL_law_492 : decode cL_law 492 = .ok (.iadd, 1) := by decide +kernel
theorem dL_law_493 : decode cL_law 493 = .ok (.iaload, 1) := by decide +kernel
theorem dL_law_494 : decode cL_law 494 = .ok (.i2l, 1) := by decide +kernel
theorem dL_law_495 : decode cL_law 495 = .ok (.ldc2_w 34, 3) := by decide +kernel
theorem dL_law_498 : decode cL_law 498 = .ok (.land, 1) := by decide +kernel
theorem dL_law_499 : decode cL_law 499 = .ok (.lor, 1) := by decide +kernel
theorem dL_law_500 : decode cL_law 500 = .ok (.aload_n 0, 1) := by decide +kernel
theorem dL_law_501 : decode cL_law 501 = .ok (.iload_n 3, 1) := by decide +kernel
theorem dL_law_502 : decode cL_law 502 = .ok (.iconst 3, 1) := by decide +kernel
theorem dL_law_503 : decode cL_law 503 = .ok (.iadd, 1) := by decide +kernel
theorem dL_law_504 : decode cL_law 504 = .ok (.iaload, 1) := by decide +kernel
theorem dL_law_505 : decode cL_law 505 = .ok (.i2l, 1) := by decide +kernel
theorem dL_law_506 : decode cL_law 506 = .ok (.bipush 32, 2) := by decide +kernel
theorem dL_law_508 : decode cL_law 508 = .ok (.lshl, 1) := by decide +kernel
theorem dL_law_509 : decode cL_law 509 = .ok (.aload_n 0, 1) := by decide +kernel
theorem dL_law_510 : decode cL_law 510 = .ok (.iload_n 3, 1) := by decide +kernel
theorem dL_law_511 : decode cL_law 511 = .ok (.iconst 4, 1) := by decide +kernel
theorem dL_law_512 : decode cL_law 512 = .ok (.iadd, 1) := by decide +kernel
theorem dL_law_513 : decode cL_law 513 = .ok (.iaload, 1) := by decide +kernel
theorem dL_law_514 : decode cL_law 514 = .ok (.i2l, 1) := by decide +kernel
theorem dL_law_515 : decode cL_law 515 = .ok (.ldc2_w 34, 3) := by decide +kernel
theorem dL_law_518 : decode cL_law 518 = .ok (.land, 1) := by decide +kernel
theorem dL_law_519 : decode cL_law 519 = .ok (.lor, 1) := by decide +kernel
theorem dL_law_520 : decode cL_law 520 = .ok (.aload_n 0, 1) := by decide +kernel
theorem dL_law_521 : decode cL_law 521 = .ok (.iload_n 3, 1) := by decide +kernel
theorem dL_law_522 : decode cL_law 522 = .ok (.iconst 5, 1) := by decide +kernel
theorem dL_law_523 : decode cL_law 523 = .ok (.iadd, 1) := by decide +kernel
theorem dL_law_524 : decode cL_law 524 = .ok (.iaload, 1) := by decide +kernel
theorem dL_law_525 : decode cL_law 525 = .ok (.invokevirtual 40, 3) := by decide +kernel
theorem dL_law_528 : decode cL_law 528 = .ok (.lcmp, 1) := by decide +kernel
theorem dL_law_529 : decode cL_law 529 = .ok (.ifCond .eq 364, 3) := by decide +kernel
theorem dL_law_532 : decode cL_law 532 = .ok (.iconst 0, 1) := by decide +kernel
theorem dL_law_533 : decode cL_law 533 = .ok (.ireturn, 1) := by decide +kernel
theorem dL_law_534 : decode cL_law 534 = .ok (.aload_n 1, 1) := by decide +kernel
theorem dL_law_535 : decode cL_law 535 = .ok (.aload_n 0, 1) := by decide +kernel
theorem dL_law_536 : decode cL_law 536 = .ok (.iload_n 3, 1) := by decide +kernel
theorem dL_law_537 : decode cL_law 537 = .ok (.iconst 1, 1) := by decide +kernel
theorem dL_law_538 : decode cL_law 538 = .ok (.iadd, 1) := by decide +kernel
theorem dL_law_539 : decode cL_law 539 = .ok (.iaload, 1) := by decide +kernel
theorem dL_law_540 : decode cL_law 540 = .ok (.i2l, 1) := by decide +kernel
theorem dL_law_541 : decode cL_law 541 = .ok (.bipush 32, 2) := by decide +kernel
theorem dL_law_543 : decode cL_law 543 = .ok (.lshl, 1) := by decide +kernel
theorem dL_law_544 : decode cL_law 544 = .ok (.aload_n 0, 1) := by decide +kernel
theorem dL_law_545 : decode cL_law 545 = .ok (.iload_n 3, 1) := by decide +kernel
theorem dL_law_546 : decode cL_law 546 = .ok (.iconst 2, 1) := by decide +kernel
theorem dL_law_547 : decode cL_law 547 = .ok (.iadd, 1) := by decide +kernel
theorem dL_law_548 : decode cL_law 548 = .ok (.iaload, 1) := by decide +kernel
theorem dL_law_549 : decode cL_law 549 = .ok (.i2l, 1) := by decide +kernel
theorem dL_law_550 : decode cL_law 550 = .ok (.ldc2_w 34, 3) := by decide +kernel
theorem dL_law_553 : decode cL_law 553 = .ok (.land, 1) := by decide +kernel
theorem dL_law_554 : decode cL_law 554 = .ok (.lor, 1) := by decide +kernel
theorem dL_law_555 : decode cL_law 555 = .ok (.aload_n 0, 1) := by decide +kernel
theorem dL_law_556 : decode cL_law 556 = .ok (.iload_n 3, 1) := by decide +kernel
theorem dL_law_557 : decode cL_law 557 = .ok (.iconst 3, 1) := by decide +kernel
theorem dL_law_558 : decode cL_law 558 = .ok (.iadd, 1) := by decide +kernel
theorem dL_law_559 : decode cL_law 559 = .ok (.iaload, 1) := by decide +kernel
theorem dL_law_560 : decode cL_law 560 = .ok (.i2l, 1) := by decide +kernel
theorem dL_law_561 : decode cL_law 561 = .ok (.bipush 32, 2) := by decide +kernel
theorem dL_law_563 : decode cL_law 563 = .ok (.lshl, 1) := by decide +kernel
theorem dL_law_564 : decode cL_law 564 = .ok (.aload_n 0, 1) := by decide +kernel
theorem dL_law_565 : decode cL_law 565 = .ok (.iload_n 3, 1) := by decide +kernel
theorem dL_law_566 : decode cL_law 566 = .ok (.iconst 4, 1) := by decide +kernel
theorem dL_law_567 : decode cL_law 567 = .ok (.iadd, 1) := by decide +kernel
theorem dL_law_568 : decode cL_law 568 = .ok (.iaload, 1) := by decide +kernel
theorem dL_law_569 : decode cL_law 569 = .ok (.i2l, 1) := by decide +kernel
theorem dL_law_570 : decode cL_law 570 = .ok (.ldc2_w 34, 3) := by decide +kernel
theorem dL_law_573 : decode cL_law 573 = .ok (.land, 1) := by decide +kernel
theorem dL_law_574 : decode cL_law 574 = .ok (.lor, 1) := by decide +kernel
theorem dL_law_575 : decode cL_law 575 = .ok (.aload_n 0, 1) := by decide +kernel
theorem dL_law_576 : decode cL_law 576 = .ok (.iload_n 3, 1) := by decide +kernel
theorem dL_law_577 : decode cL_law 577 = .ok (.iconst 5, 1) := by decide +kernel
theorem dL_law_578 : decode cL_law 578 = .ok (.iadd, 1) := by decide +kernel
theorem dL_law_579 : decode cL_law 579 = .ok (.iaload, 1) := by decide +kernel
theorem dL_law_580 : decode cL_law 580 = .ok (.invokevirtual 41, 3) := by decide +kernel
theorem dL_law_583 : decode cL_law 583 = .ok (.aload_n 2, 1) := by decide +kernel
theorem dL_law_584 : decode cL_law 584 = .ok (.aload_n 0, 1) := by decide +kernel
theorem dL_law_585 : decode cL_law 585 = .ok (.iload_n 3, 1) := by decide +kernel
theorem dL_law_586 : decode cL_law 586 = .ok (.iconst 1, 1) := by decide +kernel
theorem dL_law_587 : decode cL_law 587 = .ok (.iadd, 1) := by decide +kernel
theorem dL_law_588 : decode cL_law 588 = .ok (.iaload, 1) := by decide +kernel
theorem dL_law_589 : decode cL_law 589 = .ok (.i2l, 1) := by decide +kernel
theorem dL_law_590 : decode cL_law 590 = .ok (.bipush 32, 2) := by decide +kernel
theorem dL_law_592 : decode cL_law 592 = .ok (.lshl, 1) := by decide +kernel
theorem dL_law_593 : decode cL_law 593 = .ok (.aload_n 0, 1) := by decide +kernel
theorem dL_law_594 : decode cL_law 594 = .ok (.iload_n 3, 1) := by decide +kernel
theorem dL_law_595 : decode cL_law 595 = .ok (.iconst 2, 1) := by decide +kernel
theorem dL_law_596 : decode cL_law 596 = .ok (.iadd, 1) := by decide +kernel
theorem dL_law_597 : decode cL_law 597 = .ok (.iaload, 1) := by decide +kernel
theorem dL_law_598 : decode cL_law 598 = .ok (.i2l, 1) := by decide +kernel
theorem dL_law_599 : decode cL_law 599 = .ok (.ldc2_w 34, 3) := by decide +kernel
theorem dL_law_602 : decode cL_law 602 = .ok (.land, 1) := by decide +kernel
theorem dL_law_603 : decode cL_law 603 = .ok (.lor, 1) := by decide +kernel
theorem dL_law_604 : decode cL_law 604 = .ok (.aload_n 0, 1) := by decide +kernel
theorem dL_law_605 : decode cL_law 605 = .ok (.iload_n 3, 1) := by decide +kernel
theorem dL_law_606 : decode cL_law 606 = .ok (.iconst 3, 1) := by decide +kernel
theorem dL_law_607 : decode cL_law 607 = .ok (.iadd, 1) := by decide +kernel
theorem dL_law_608 : decode cL_law 608 = .ok (.iaload, 1) := by decide +kernel
theorem dL_law_609 : decode cL_law 609 = .ok (.i2l, 1) := by decide +kernel
theorem dL_law_610 : decode cL_law 610 = .ok (.bipush 32, 2) := by decide +kernel
theorem dL_law_612 : decode cL_law 612 = .ok (.lshl, 1) := by decide +kernel
theorem dL_law_613 : decode cL_law 613 = .ok (.aload_n 0, 1) := by decide +kernel
theorem dL_law_614 : decode cL_law 614 = .ok (.iload_n 3, 1) := by decide +kernel
theorem dL_law_615 : decode cL_law 615 = .ok (.iconst 4, 1) := by decide +kernel
theorem dL_law_616 : decode cL_law 616 = .ok (.iadd, 1) := by decide +kernel
theorem dL_law_617 : decode cL_law 617 = .ok (.iaload, 1) := by decide +kernel
theorem dL_law_618 : decode cL_law 618 = .ok (.i2l, 1) := by decide +kernel
theorem dL_law_619 : decode cL_law 619 = .ok (.ldc2_w 34, 3) := by decide +kernel
theorem dL_law_622 : decode cL_law 622 = .ok (.land, 1) := by decide +kernel
theorem dL_law_623 : decode cL_law 623 = .ok (.lor, 1) := by decide +kernel
theorem dL_law_624 : decode cL_law 624 = .ok (.aload_n 0, 1) := by decide +kernel
theorem dL_law_625 : decode cL_law 625 = .ok (.iload_n 3, 1) := by decide +kernel
theorem dL_law_626 : decode cL_law 626 = .ok (.iconst 5, 1) := by decide +kernel
theorem dL_law_627 : decode cL_law 627 = .ok (.iadd, 1) := by decide +kernel
theorem dL_law_628 : decode cL_law 628 = .ok (.iaload, 1) := by decide +kernel
theorem dL_law_629 : decode cL_law 629 = .ok (.invokevirtual 44, 3) := by decide +kernel
theorem dL_law_632 : decode cL_law 632 = .ok (.lcmp, 1) := by decide +kernel
theorem dL_law_633 : decode cL_law 633 = .ok (.ifCond .eq 260, 3) := by decide +kernel
theorem dL_law_636 : decode cL_law 636 = .ok (.iconst 0, 1) := by decide +kernel
theorem dL_law_637 : decode cL_law 637 = .ok (.ireturn, 1) := by decide +kernel
theorem dL_law_638 : decode cL_law 638 = .ok (.aload_n 1, 1) := by decide +kernel
theorem dL_law_639 : decode cL_law 639 = .ok (.aload_n 0, 1) := by decide +kernel
theorem dL_law_640 : decode cL_law 640 = .ok (.iload_n 3, 1) := by decide +kernel
theorem dL_law_641 : decode cL_law 641 = .ok (.iconst 1, 1) := by decide +kernel
theorem dL_law_642 : decode cL_law 642 = .ok (.iadd, 1) := by decide +kernel
theorem dL_law_643 : decode cL_law 643 = .ok (.iaload, 1) := by decide +kernel
theorem dL_law_644 : decode cL_law 644 = .ok (.i2d, 1) := by decide +kernel
theorem dL_law_645 : decode cL_law 645 = .ok (.ldc2_w 13, 3) := by decide +kernel
theorem dL_law_648 : decode cL_law 648 = .ok (.dmul, 1) := by decide +kernel
theorem dL_law_649 : decode cL_law 649 = .ok (.aload_n 0, 1) := by decide +kernel
theorem dL_law_650 : decode cL_law 650 = .ok (.iload_n 3, 1) := by decide +kernel
theorem dL_law_651 : decode cL_law 651 = .ok (.iconst 2, 1) := by decide +kernel
theorem dL_law_652 : decode cL_law 652 = .ok (.iadd, 1) := by decide +kernel
theorem dL_law_653 : decode cL_law 653 = .ok (.iaload, 1) := by decide +kernel
theorem dL_law_654 : decode cL_law 654 = .ok (.i2d, 1) := by decide +kernel
theorem dL_law_655 : decode cL_law 655 = .ok (.ldc2_w 13, 3) := by decide +kernel
theorem dL_law_658 : decode cL_law 658 = .ok (.dmul, 1) := by decide +kernel
theorem dL_law_659 : decode cL_law 659 = .ok (.aload_n 0, 1) := by decide +kernel
theorem dL_law_660 : decode cL_law 660 = .ok (.iload_n 3, 1) := by decide +kernel
theorem dL_law_661 : decode cL_law 661 = .ok (.iconst 3, 1) := by decide +kernel
theorem dL_law_662 : decode cL_law 662 = .ok (.iadd, 1) := by decide +kernel
theorem dL_law_663 : decode cL_law 663 = .ok (.iaload, 1) := by decide +kernel
theorem dL_law_664 : decode cL_law 664 = .ok (.i2d, 1) := by decide +kernel
theorem dL_law_665 : decode cL_law 665 = .ok (.ldc2_w 13, 3) := by decide +kernel
theorem dL_law_668 : decode cL_law 668 = .ok (.dmul, 1) := by decide +kernel
theorem dL_law_669 : decode cL_law 669 = .ok (.invokevirtual 45, 3) := by decide +kernel
theorem dL_law_672 : decode cL_law 672 = .ok (.aload_n 2, 1) := by decide +kernel
theorem dL_law_673 : decode cL_law 673 = .ok (.aload_n 0, 1) := by decide +kernel
theorem dL_law_674 : decode cL_law 674 = .ok (.iload_n 3, 1) := by decide +kernel
theorem dL_law_675 : decode cL_law 675 = .ok (.iconst 1, 1) := by decide +kernel
theorem dL_law_676 : decode cL_law 676 = .ok (.iadd, 1) := by decide +kernel
theorem dL_law_677 : decode cL_law 677 = .ok (.iaload, 1) := by decide +kernel
theorem dL_law_678 : decode cL_law 678 = .ok (.i2d, 1) := by decide +kernel
theorem dL_law_679 : decode cL_law 679 = .ok (.ldc2_w 13, 3) := by decide +kernel
theorem dL_law_682 : decode cL_law 682 = .ok (.dmul, 1) := by decide +kernel
theorem dL_law_683 : decode cL_law 683 = .ok (.aload_n 0, 1) := by decide +kernel
theorem dL_law_684 : decode cL_law 684 = .ok (.iload_n 3, 1) := by decide +kernel
theorem dL_law_685 : decode cL_law 685 = .ok (.iconst 2, 1) := by decide +kernel
theorem dL_law_686 : decode cL_law 686 = .ok (.iadd, 1) := by decide +kernel
theorem dL_law_687 : decode cL_law 687 = .ok (.iaload, 1) := by decide +kernel
theorem dL_law_688 : decode cL_law 688 = .ok (.i2d, 1) := by decide +kernel
theorem dL_law_689 : decode cL_law 689 = .ok (.ldc2_w 13, 3) := by decide +kernel
theorem dL_law_692 : decode cL_law 692 = .ok (.dmul, 1) := by decide +kernel
theorem dL_law_693 : decode cL_law 693 = .ok (.aload_n 0, 1) := by decide +kernel
theorem dL_law_694 : decode cL_law 694 = .ok (.iload_n 3, 1) := by decide +kernel
theorem dL_law_695 : decode cL_law 695 = .ok (.iconst 3, 1) := by decide +kernel
theorem dL_law_696 : decode cL_law 696 = .ok (.iadd, 1) := by decide +kernel
theorem dL_law_697 : decode cL_law 697 = .ok (.iaload, 1) := by decide +kernel
theorem dL_law_698 : decode cL_law 698 = .ok (.i2d, 1) := by decide +kernel
theorem dL_law_699 : decode cL_law 699 = .ok (.ldc2_w 13, 3) := by decide +kernel
theorem dL_law_702 : decode cL_law 702 = .ok (.dmul, 1) := by decide +kernel
theorem dL_law_703 : decode cL_law 703 = .ok (.invokevirtual 49, 3) := by decide +kernel
theorem dL_law_706 : decode cL_law 706 = .ok (.if_icmp .eq 187, 3) := by decide +kernel
theorem dL_law_709 : decode cL_law 709 = .ok (.iconst 0, 1) := by decide +kernel
theorem dL_law_710 : decode cL_law 710 = .ok (.ireturn, 1) := by decide +kernel
theorem dL_law_711 : decode cL_law 711 = .ok (.aload_n 1, 1) := by decide +kernel
theorem dL_law_712 : decode cL_law 712 = .ok (.aload_n 0, 1) := by decide +kernel
theorem dL_law_713 : decode cL_law 713 = .ok (.iload_n 3, 1) := by decide +kernel
theorem dL_law_714 : decode cL_law 714 = .ok (.iconst 1, 1) := by decide +kernel
theorem dL_law_715 : decode cL_law 715 = .ok (.iadd, 1) := by decide +kernel
theorem dL_law_716 : decode cL_law 716 = .ok (.iaload, 1) := by decide +kernel
theorem dL_law_717 : decode cL_law 717 = .ok (.aload_n 0, 1) := by decide +kernel
theorem dL_law_718 : decode cL_law 718 = .ok (.iload_n 3, 1) := by decide +kernel
theorem dL_law_719 : decode cL_law 719 = .ok (.iconst 2, 1) := by decide +kernel
theorem dL_law_720 : decode cL_law 720 = .ok (.iadd, 1) := by decide +kernel
theorem dL_law_721 : decode cL_law 721 = .ok (.iaload, 1) := by decide +kernel
theorem dL_law_722 : decode cL_law 722 = .ok (.i2d, 1) := by decide +kernel
theorem dL_law_723 : decode cL_law 723 = .ok (.ldc2_w 13, 3) := by decide +kernel
theorem dL_law_726 : decode cL_law 726 = .ok (.dmul, 1) := by decide +kernel
theorem dL_law_727 : decode cL_law 727 = .ok (.invokevirtual 50, 3) := by decide +kernel
theorem dL_law_730 : decode cL_law 730 = .ok (.dstore 4, 2) := by decide +kernel
theorem dL_law_732 : decode cL_law 732 = .ok (.aload_n 2, 1) := by decide +kernel
theorem dL_law_733 : decode cL_law 733 = .ok (.aload_n 0, 1) := by decide +kernel
theorem dL_law_734 : decode cL_law 734 = .ok (.iload_n 3, 1) := by decide +kernel
theorem dL_law_735 : decode cL_law 735 = .ok (.iconst 1, 1) := by decide +kernel
theorem dL_law_736 : decode cL_law 736 = .ok (.iadd, 1) := by decide +kernel
theorem dL_law_737 : decode cL_law 737 = .ok (.iaload, 1) := by decide +kernel
theorem dL_law_738 : decode cL_law 738 = .ok (.aload_n 0, 1) := by decide +kernel
theorem dL_law_739 : decode cL_law 739 = .ok (.iload_n 3, 1) := by decide +kernel
theorem dL_law_740 : decode cL_law 740 = .ok (.iconst 2, 1) := by decide +kernel
theorem dL_law_741 : decode cL_law 741 = .ok (.iadd, 1) := by decide +kernel
theorem dL_law_742 : decode cL_law 742 = .ok (.iaload, 1) := by decide +kernel
theorem dL_law_743 : decode cL_law 743 = .ok (.i2d, 1) := by decide +kernel
theorem dL_law_744 : decode cL_law 744 = .ok (.ldc2_w 13, 3) := by decide +kernel
theorem dL_law_747 : decode cL_law 747 = .ok (.dmul, 1) := by decide +kernel
theorem dL_law_748 : decode cL_law 748 = .ok (.invokevirtual 54, 3) := by decide +kernel
theorem dL_law_751 : decode cL_law 751 = .ok (.dstore 6, 2) := by decide +kernel
theorem dL_law_753 : decode cL_law 753 = .ok (.dload 4, 2) := by decide +kernel
theorem dL_law_755 : decode cL_law 755 = .ok (.dload 6, 2) := by decide +kernel
theorem dL_law_757 : decode cL_law 757 = .ok (.dcmp .l, 1) := by decide +kernel
theorem dL_law_758 : decode cL_law 758 = .ok (.ifCond .eq 21, 3) := by decide +kernel
theorem dL_law_761 : decode cL_law 761 = .ok (.dload 4, 2) := by decide +kernel
theorem dL_law_763 : decode cL_law 763 = .ok (.dload 4, 2) := by decide +kernel
theorem dL_law_765 : decode cL_law 765 = .ok (.dcmp .l, 1) := by decide +kernel
theorem dL_law_766 : decode cL_law 766 = .ok (.ifCond .eq 11, 3) := by decide +kernel
theorem dL_law_769 : decode cL_law 769 = .ok (.dload 6, 2) := by decide +kernel
theorem dL_law_771 : decode cL_law 771 = .ok (.dload 6, 2) := by decide +kernel
theorem dL_law_773 : decode cL_law 773 = .ok (.dcmp .l, 1) := by decide +kernel
theorem dL_law_774 : decode cL_law 774 = .ok (.ifCond .ne 5, 3) := by decide +kernel
theorem dL_law_777 : decode cL_law 777 = .ok (.iconst 0, 1) := by decide +kernel
theorem dL_law_778 : decode cL_law 778 = .ok (.ireturn, 1) := by decide +kernel
theorem dL_law_779 : decode cL_law 779 = .ok (.goto 114, 3) := by decide +kernel
theorem dL_law_782 : decode cL_law 782 = .ok (.aload_n 1, 1) := by decide +kernel
theorem dL_law_783 : decode cL_law 783 = .ok (.aload_n 0, 1) := by decide +kernel
theorem dL_law_784 : decode cL_law 784 = .ok (.iload_n 3, 1) := by decide +kernel
theorem dL_law_785 : decode cL_law 785 = .ok (.iconst 1, 1) := by decide +kernel
theorem dL_law_786 : decode cL_law 786 = .ok (.iadd, 1) := by decide +kernel
theorem dL_law_787 : decode cL_law 787 = .ok (.iaload, 1) := by decide +kernel
theorem dL_law_788 : decode cL_law 788 = .ok (.i2d, 1) := by decide +kernel
theorem dL_law_789 : decode cL_law 789 = .ok (.ldc2_w 13, 3) := by decide +kernel
theorem dL_law_792 : decode cL_law 792 = .ok (.dmul, 1) := by decide +kernel
theorem dL_law_793 : decode cL_law 793 = .ok (.aload_n 0, 1) := by decide +kernel
theorem dL_law_794 : decode cL_law 794 = .ok (.iload_n 3, 1) := by decide +kernel
theorem dL_law_795 : decode cL_law 795 = .ok (.iconst 2, 1) := by decide +kernel
theorem dL_law_796 : decode cL_law 796 = .ok (.iadd, 1) := by decide +kernel
theorem dL_law_797 : decode cL_law 797 = .ok (.iaload, 1) := by decide +kernel
theorem dL_law_798 : decode cL_law 798 = .ok (.i2d, 1) := by decide +kernel
theorem dL_law_799 : decode cL_law 799 = .ok (.ldc2_w 13, 3) := by decide +kernel
theorem dL_law_802 : decode cL_law 802 = .ok (.dmul, 1) := by decide +kernel
theorem dL_law_803 : decode cL_law 803 = .ok (.aload_n 0, 1) := by decide +kernel
theorem dL_law_804 : decode cL_law 804 = .ok (.iload_n 3, 1) := by decide +kernel
theorem dL_law_805 : decode cL_law 805 = .ok (.iconst 3, 1) := by decide +kernel
theorem dL_law_806 : decode cL_law 806 = .ok (.iadd, 1) := by decide +kernel
theorem dL_law_807 : decode cL_law 807 = .ok (.iaload, 1) := by decide +kernel
theorem dL_law_808 : decode cL_law 808 = .ok (.i2d, 1) := by decide +kernel
theorem dL_law_809 : decode cL_law 809 = .ok (.ldc2_w 13, 3) := by decide +kernel
theorem dL_law_812 : decode cL_law 812 = .ok (.dmul, 1) := by decide +kernel
theorem dL_law_813 : decode cL_law 813 = .ok (.aload_n 0, 1) := by decide +kernel
theorem dL_law_814 : decode cL_law 814 = .ok (.iload_n 3, 1) := by decide +kernel
theorem dL_law_815 : decode cL_law 815 = .ok (.iconst 4, 1) := by decide +kernel
theorem dL_law_816 : decode cL_law 816 = .ok (.iadd, 1) := by decide +kernel
theorem dL_law_817 : decode cL_law 817 = .ok (.iaload, 1) := by decide +kernel
theorem dL_law_818 : decode cL_law 818 = .ok (.invokevirtual 55, 3) := by decide +kernel
theorem dL_law_821 : decode cL_law 821 = .ok (.dstore 4, 2) := by decide +kernel
theorem dL_law_823 : decode cL_law 823 = .ok (.aload_n 2, 1) := by decide +kernel
theorem dL_law_824 : decode cL_law 824 = .ok (.aload_n 0, 1) := by decide +kernel
theorem dL_law_825 : decode cL_law 825 = .ok (.iload_n 3, 1) := by decide +kernel
theorem dL_law_826 : decode cL_law 826 = .ok (.iconst 1, 1) := by decide +kernel
theorem dL_law_827 : decode cL_law 827 = .ok (.iadd, 1) := by decide +kernel
theorem dL_law_828 : decode cL_law 828 = .ok (.iaload, 1) := by decide +kernel
theorem dL_law_829 : decode cL_law 829 = .ok (.i2d, 1) := by decide +kernel
theorem dL_law_830 : decode cL_law 830 = .ok (.ldc2_w 13, 3) := by decide +kernel
theorem dL_law_833 : decode cL_law 833 = .ok (.dmul, 1) := by decide +kernel
theorem dL_law_834 : decode cL_law 834 = .ok (.aload_n 0, 1) := by decide +kernel
theorem dL_law_835 : decode cL_law 835 = .ok (.iload_n 3, 1) := by decide +kernel
theorem dL_law_836 : decode cL_law 836 = .ok (.iconst 2, 1) := by decide +kernel
theorem dL_law_837 : decode cL_law 837 = .ok (.iadd, 1) := by decide +kernel
theorem dL_law_838 : decode cL_law 838 = .ok (.iaload, 1) := by decide +kernel
theorem dL_law_839 : decode cL_law 839 = .ok (.i2d, 1) := by decide +kernel
theorem dL_law_840 : decode cL_law 840 = .ok (.ldc2_w 13, 3) := by decide +kernel
theorem dL_law_843 : decode cL_law 843 = .ok (.dmul, 1) := by decide +kernel
theorem dL_law_844 : decode cL_law 844 = .ok (.aload_n 0, 1) := by decide +kernel
theorem dL_law_845 : decode cL_law 845 = .ok (.iload_n 3, 1) := by decide +kernel
theorem dL_law_846 : decode cL_law 846 = .ok (.iconst 3, 1) := by decide +kernel
theorem dL_law_847 : decode cL_law 847 = .ok (.iadd, 1) := by decide +kernel
theorem dL_law_848 : decode cL_law 848 = .ok (.iaload, 1) := by decide +kernel
theorem dL_law_849 : decode cL_law 849 = .ok (.i2d, 1) := by decide +kernel
theorem dL_law_850 : decode cL_law 850 = .ok (.ldc2_w 13, 3) := by decide +kernel
theorem dL_law_853 : decode cL_law 853 = .ok (.dmul, 1) := by decide +kernel
theorem dL_law_854 : decode cL_law 854 = .ok (.aload_n 0, 1) := by decide +kernel
theorem dL_law_855 : decode cL_law 855 = .ok (.iload_n 3, 1) := by decide +kernel
theorem dL_law_856 : decode cL_law 856 = .ok (.iconst 4, 1) := by decide +kernel
theorem dL_law_857 : decode cL_law 857 = .ok (.iadd, 1) := by decide +kernel
theorem dL_law_858 : decode cL_law 858 = .ok (.iaload, 1) := by decide +kernel
theorem dL_law_859 : decode cL_law 859 = .ok (.invokevirtual 58, 3) := by decide +kernel
theorem dL_law_862 : decode cL_law 862 = .ok (.dstore 6, 2) := by decide +kernel
theorem dL_law_864 : decode cL_law 864 = .ok (.dload 4, 2) := by decide +kernel
theorem dL_law_866 : decode cL_law 866 = .ok (.dload 6, 2) := by decide +kernel
theorem dL_law_868 : decode cL_law 868 = .ok (.dcmp .l, 1) := by decide +kernel
theorem dL_law_869 : decode cL_law 869 = .ok (.ifCond .eq 21, 3) := by decide +kernel
theorem dL_law_872 : decode cL_law 872 = .ok (.dload 4, 2) := by decide +kernel
theorem dL_law_874 : decode cL_law 874 = .ok (.dload 4, 2) := by decide +kernel
theorem dL_law_876 : decode cL_law 876 = .ok (.dcmp .l, 1) := by decide +kernel
theorem dL_law_877 : decode cL_law 877 = .ok (.ifCond .eq 11, 3) := by decide +kernel
theorem dL_law_880 : decode cL_law 880 = .ok (.dload 6, 2) := by decide +kernel
theorem dL_law_882 : decode cL_law 882 = .ok (.dload 6, 2) := by decide +kernel
theorem dL_law_884 : decode cL_law 884 = .ok (.dcmp .l, 1) := by decide +kernel
theorem dL_law_885 : decode cL_law 885 = .ok (.ifCond .ne 5, 3) := by decide +kernel
theorem dL_law_888 : decode cL_law 888 = .ok (.iconst 0, 1) := by decide +kernel
theorem dL_law_889 : decode cL_law 889 = .ok (.ireturn, 1) := by decide +kernel
theorem dL_law_890 : decode cL_law 890 = .ok (.goto 3, 3) := by decide +kernel
theorem dL_law_893 : decode cL_law 893 = .ok (.iinc 3 6, 3) := by decide +kernel
theorem dL_law_896 : decode cL_law 896 = .ok (.goto (-878), 3) := by decide +kernel
theorem dL_law_899 : decode cL_law 899 = .ok (.iconst 1, 1) := by decide +kernel
theorem dL_law_900 : decode cL_law 900 = .ok (.ireturn, 1) := by decide +kernel
end
section
set_option maxRecDepth 100000
/-! THE CLAIM OUT OF ONE WALK OF THE LAW'S BODY. Your part is whole_start (and what it stands on); all else here is the same for every law, but numbers. -/
def R_law : String := "GasRowsLaw"
def lw_P (b : Addr) (xs : List Int32) (args : Array Value) (s : State) : Prop := args = #[.ref b] ∧ s.IntsAt b xs ∧ xs.length ≤ 384 ∧ (Jvm.Cond.and given_1 narrow_1).before args s = true
def lw_Q (_ : Array Value) (s : State) (o : Outcome) (t : State) : Prop := o = .returned (some (.int 1)) ∧ Framed s o t [] 600359 7301170
def lw_Z (below : List Frame) (a : Array Value) (s : State) : State → Prop := fun t => ∃ o, t.status = .running ∧ Ended t below o ∧ lw_Q a s o t
/-- the law's own end, with 1 on the stack, nothing written that was there before, its room as the claim has it -/
theorem lw_ret {p : Program} {l : Launch} {e : Env} {s : State} {m : MethodId} {below : List Frame} {meth : Method} {c : Code} {b : Nat} (hx : p.tables.exec = Jvm.exec) (hb : c.code = code) (hr : meth.sig.returnType = ret) (hlocks : meth.locks = false) {pc : Nat} {H : Heap} {ls : Array Slot} (hdg : decode code pc = .ok (.ireturn, 1)) : W p l e room_1 s m #[Value.ref b] below meth c H [] 600359 7301170 (lw_Z below #[Value.ref b] s) (F0 m pc ls [.int 1]) := by
  intro T hT X
  obtain ⟨fs, hret, hrun, hended, hW, hframe⟩ := X.leave (v := some (.int 1)) (hlocks := hlocks) (fun h => by rw [hr] at h; cases h)
  have hmeth' : T.vm.method? m = some meth := X.method'
  refine ⟨T.setFrames fs, ?_, .returned (some (.int 1)), hrun, hended, rfl, ⟨_, rfl⟩, hW, hframe⟩
  jvm_step X.here [X.here.top, hx, hb, hdg, hmeth', hr, ret, narrow_b1]
  (try refine ⟨rfl, ?_⟩); (try refine ⟨rfl, ?_⟩)
  first | (intro acts; rw [hret _ acts rfl rfl rfl]) | rw [hret _ _ rfl rfl rfl]
  exact Steps.refl _
/-- what holds at the law's entry: the machine, the code, the tables' words (any of lw_tbl by 'hts w (by decide +kernel)'), the script of L ints xs at the cell b, what the Statement gives of the start (any of its parts by flat_of_before) -/
def lw_At (p : Program) (s : State) (m : MethodId) (meth : Method) (c : Code) (b L : Nat) (xs : Nat → Int32) : Prop :=
  p.tables.exec = Jvm.exec ∧ c.code = code ∧ meth.sig.returnType = ret ∧ c.maxLocals = 8 ∧ s.vm.findClass R_law = some m.cls ∧ (∀ w ∈ lw_tbl, w.before #[Value.ref b] s = true) ∧ va_X b L xs s s.heap ∧ b < s.heap.size ∧ meth.locks = false ∧ (Jvm.Cond.and given_1 narrow_1).before #[Value.ref b] s = true
/-! what the law's cases rest on -/
theorem lg_cmp_self (x : Int64) : lg_cmp x x = 0 := by
  unfold lg_cmp
  rw [if_neg (by exact Int64.lt_irrefl), if_pos rfl]
def lgj (a b : Int32) : Int64 := (a.toInt64 <<< ((32 : Int32).toInt64 &&& 63)) ||| (b.toInt64 &&& 4294967295)
section LP
variable {xs : List gx_L} {n : Nat} {fw fb fa : Nat → UInt64}
theorem pl_bnd {d b : UInt64} (hd : fin_ d) (hb : fin_ b) (h : ¬ gr_place d b = 0) : bnd d 100 ∧ bnd b 100 := by
  obtain ⟨h1, h2⟩ := gr_place_iff.mp h
  refine ⟨in_deg hd h1, ?_⟩
  obtain ⟨z, q1, -, q2⟩ := in_bar hb h2
  exact bnd_le ⟨z, q1, q2⟩ (by decide)
theorem lw_bal (h : rel xs n fw fb fa) (d b : Int32) : ∃ v, ¬ gr_place (gk d) (gk b) = 0 → atv xs (gk d) (gk b) v ∧ rkv n (fun k => zv (fw k)) (fun k => zv (fb k)) fw fb fa (gk d) (gk b) v ∧ bnd v MM := by
  by_cases hp : gr_place (gk d) (gk b) = 0
  · exact ⟨0, fun q => absurd hp q⟩
  · obtain ⟨h1, h2⟩ := pl_bnd (fin_gk d) (fin_gk b) hp
    obtain ⟨v, hv⟩ := at_both h h1 h2
    exact ⟨v, fun _ => hv⟩
theorem gk_bnd {k : Nat} (hk : k ≤ 160) : bnd (gk (nI k)) 100 := by
  have h1 := fv_gk (nI k)
  rw [nI_toInt (by omega)] at h1
  refine ⟨_, h1, ?_⟩
  rw [Int.natAbs_mul, Int.natAbs_natCast, Int.natAbs_natCast, ← e8_one, ← Nat.mul_assoc]
  exact Nat.mul_le_mul_right _ (by omega)
theorem lw_bst (h : rel xs n fw fb fa) (d : Int32) : ∃ V : Nat → UInt64, ¬ gr_in (gk d) k_m10 k_100 = 0 → ∀ k, k ≤ 160 → atv xs (gk d) (gk (nI k)) (V k) ∧ rkv n (fun k => zv (fw k)) (fun k => zv (fb k)) fw fb fa (gk d) (gk (nI k)) (V k) ∧ bnd (V k) MM := by
  by_cases hp : gr_in (gk d) k_m10 k_100 = 0
  · exact ⟨fun _ => 0, fun q => absurd hp q⟩
  · have c1 : ∀ k : Nat, ∃ v, k ≤ 160 → atv xs (gk d) (gk (nI k)) v ∧ rkv n (fun k => zv (fw k)) (fun k => zv (fb k)) fw fb fa (gk d) (gk (nI k)) v ∧ bnd v MM := fun k => by
      by_cases hk : k ≤ 160
      · obtain ⟨v, hv⟩ := at_both h (in_deg (fin_gk d) hp) (gk_bnd hk)
        exact ⟨v, fun _ => hv⟩
      · exact ⟨0, fun q => absurd q hk⟩
    obtain ⟨V, hV⟩ := Classical.axiomOfChoice c1
    exact ⟨V, fun _ => hV⟩
theorem lw_mix (h : rel xs n fw fb fa) (t d b : Int32) : ∃ v, ¬ gr_in (gk t) FP.dconst0 FP.dconst1 = 0 → ¬ gr_place (gk d) (gk b) = 0 → atv xs (gk d) (mi_bar (gk b) (gk t)) v ∧ rkv n (fun k => zv (fw k)) (fun k => zv (fb k)) fw fb fa (gk d) (mi_bar (gk b) (gk t)) v ∧ bnd v MM := by
  by_cases hq : gr_in (gk t) FP.dconst0 FP.dconst1 = 0
  · exact ⟨0, fun q => absurd hq q⟩
  · by_cases hp : gr_place (gk d) (gk b) = 0
    · exact ⟨0, fun _ q => absurd hp q⟩
    · obtain ⟨h1, h2⟩ := pl_bnd (fin_gk d) (fin_gk b) hp
      obtain ⟨v, hv⟩ := at_both h h1 (mi_ok (fin_gk t) (fin_gk b) hq (gr_place_iff.mp hp).2).2.2.1
      exact ⟨v, fun _ _ => hv⟩
end LP
theorem bl_fin {v d b : UInt64} (h : ¬ gr_place d b = 0 → bnd v MM) : fin_ (bl_val v d b) := by
  unfold bl_val
  by_cases c : gr_place d b = 0
  · rw [if_pos c]
    exact ⟨_, fv_m1⟩
  · rw [if_neg c]
    exact bnd_fin (h c)
theorem fl_fin {g s : UInt64} (hg : fin_ g) (hs : fin_ s) : fin_ (fl_val g s) := by
  unfold fl_val
  by_cases c : gr_in g FP.dconst0 k_100 = 0
  · rw [if_pos c]
    exact ⟨_, fv_m1⟩
  · rw [if_neg c]
    by_cases c2 : gr_in s FP.dconst0 k_1000 = 0
    · rw [if_pos c2]
      exact ⟨_, fv_m1⟩
    · rw [if_neg c2]
      exact (fi_ok hg hs c c2).2.2.2.2.2
theorem mx_fin {v n d b : UInt64} {gas : Int32} (hn : fin_ n) (hb : fin_ b) (h : ¬ gr_in n FP.dconst0 FP.dconst1 = 0 → ¬ gr_place d b = 0 → bnd v MM) : fin_ (mx_val v n d b gas) := by
  unfold mx_val
  by_cases c1 : gr_in n FP.dconst0 FP.dconst1 = 0
  · rw [if_pos c1]
    exact ⟨_, fv_m1⟩
  · rw [if_neg c1]
    by_cases c2 : gr_place d b = 0
    · rw [if_pos c2]
      exact ⟨_, fv_m1⟩
    · rw [if_neg c2]
      have ok := mi_ok hn hb c1 (gr_place_iff.mp c2).2
      split
      · exact ⟨_, fv_m1⟩
      · split
        · split
          · exact bnd_fin (h c1 c2)
          · split
            · exact ok.2.2.2.2.2.2.1
            · exact ok.2.2.2.2.2.2.2
        · exact ⟨_, fv_m1⟩
theorem fin_cmp {a : UInt64} (h : fin_ a) : Op.cmpValue (FP.dcmp a a) .l = 0 := by
  obtain ⟨z, hz⟩ := h
  exact (cv_eq hz hz .l).mpr rfl
/-- the world between two calls of the law: the lists, the arrays, and that they are alike -/
def lx_S (dC : Nat → ClassId) (dI : Nat → Nat → Nat) (s : State) (H : Heap) (locs : List Loc) (qg hm hw hb_ ha : Nat) (A0 A1 A2 : ClassId) (n : Nat) (ls_ : List gx_L) (fw fb fa : Nat → UInt64) : Prop := va_K (dC, dI) vwCl (gm_T A0 A1 A2) s ∧ va_P (dC, dI) vwCl (gx_W qg n ls_ ++ gm_W hm hw hb_ ha A0 A1 A2 n fw fb fa) H ∧ va_D (fun q : Nat => s.heap.size ≤ q) (gx_W qg n ls_ ++ gm_W hm hw hb_ ha A0 A1 A2 n fw fb fa) ∧ va_S (fun q : Nat => s.heap.size ≤ q) s.heap H locs ∧ rel ls_ n fw fb fa
theorem lx_N {s : State} {b : Nat} (hts : ∀ w ∈ lw_tbl, w.before #[Value.ref b] s = true) : gx_N s := ⟨va_Nw.of rfl (hts _ q65), va_Nw.of rfl (hts _ q67), va_Nw.of rfl (hts _ q69), va_Nw.of rfl (hts _ q83), va_Nw.of rfl (hts _ q86), va_Nw.of rfl (hts _ q106)⟩
theorem lx_lt {L i : Nat} (hL : L ≤ 384) (hi : i ≤ 400) : (nI L - 6 < nI i) ↔ L < i + 6 := by
  rw [Int32.lt_iff_toInt_lt, Int32.toInt_sub, nI_toInt (by omega), nI_toInt (by omega), show (6 : Int32).toInt = 6 from rfl]
  have e : ((L : Int) - 6).bmod (2 ^ 32) = (L : Int) - 6 := Int.bmod_eq_of_le (by omega) (by omega)
  rw [e]
  omega
end
section
/-! the law's cases -/
set_option maxHeartbeats 4000000 in
set_option maxRecDepth 100000 in
theorem law_c0 {p : Program} {l : Launch} {e : Env} {s : State} {m : MethodId} {below : List Frame} {meth : Method} {c : Code} {b L : Nat} {xs : Nat → Int32} {dC : Nat → ClassId} {dI : Nat → Nat → Nat} {H : Heap} {locs : List Loc} {qg hm hw hb_ ha : Nat} {A0 A1 A2 : ClassId} {n : Nat} {ls_ : List gx_L} {fw fb fa : Nat → UInt64} {cells slots i : Nat} {Q : State → Prop} {ls : Array Slot} (C0 : lw_At p s m meth c b L xs) (hL : L ≤ 384) (hi : i + 6 ≤ L) (hcl : cells + 2 ≤ 600359) (hsl : slots + 6 ≤ 7301170) (S0 : lx_S dC dI s H locs qg hm hw hb_ ha A0 A1 A2 n ls_ fw fb fa) (hl : lv_has ls 8 [(0, .ref b), (1, .ref qg), (2, .ref hm), (3, .int (nI i))])
    (cont : ∀ (H : Heap) (locs : List Loc) (n : Nat) (ls_ : List gx_L) (fw fb fa : Nat → UInt64), lx_S dC dI s H locs qg hm hw hb_ ha A0 A1 A2 n ls_ fw fb fa → ∀ ls : Array Slot, lv_has ls 8 [(0, .ref b), (1, .ref qg), (2, .ref hm), (3, .int (nI i))] → W p l e room_1 s m #[Value.ref b] below meth c H locs (cells + 2) (slots + 6) Q (F0 m 893 ls [])) :
    W p l e room_1 s m #[Value.ref b] below meth c H locs cells slots Q (F0 m 84 ls []) := by
  obtain ⟨hx, hb, hr, hml, hown, hts0, hX, hbl, hlocks, hgv⟩ := C0
  obtain ⟨hK, hP, hD, hS, hR⟩ := S0
  have hts : ∀ w ∈ lw_all, w.before #[Value.ref b] s = true := fun w h => hts0 w (lw_all_tbl h)
  have hN := lx_N hts0
  have hbA : ¬ (fun q : Nat => s.heap.size ≤ q) b := Nat.not_le.mpr hbl
  have hA : ∀ q : Nat, s.heap.size ≤ q → (fun q : Nat => s.heap.size ≤ q) q := fun _ h => h
  have hPg : va_P (dC, dI) vwCl (gx_W qg n ls_) H := va_P_sub hP (fun q hq => List.mem_append_left _ hq)
  have hPm : va_P (dC, dI) vwCl (gm_W hm hw hb_ ha A0 A1 A2 n fw fb fa) H := va_P_sub hP (fun q hq => List.mem_append_right _ hq)
  have hKg : va_K (dC, dI) vwCl [] s := hK.sub (tys' := []) [] rfl
  have hfit : cells + 0 ≤ room_1.cells ∧ slots + 0 ≤ room_1.slots := ⟨by show cells + 0 ≤ 600359; omega, by show slots + 0 ≤ 7301170; omega⟩
  have hSm := rel_S hR
  refine lv_aload_n hx hb dL_law_84 rfl (lv_at hl 1 rfl) ?_
  refine lv_aload_n hx hb dL_law_85 rfl (lv_at hl 0 rfl) ?_
  refine lv_iload_n hx hb dL_law_86 rfl (lv_at hl 3 rfl) ?_
  refine lv_iconst (v := 1) hx hb dL_law_87 (by decide) ?_
  refine lv_iadd hx hb dL_law_88 ?_
  refine lv_topi (fun f_1 ef_1 => ?_)
  obtain rfl : f_1 = nI (i + 1) := by rw [ef_1]; exact nI_add i 1
  refine va_sld hx hb hX hbl hbA hS (vp_in_nI (show i + 1 < L by omega) (by omega)) dL_law_89 ?_
  refine lv_topi (fun f_2 ef_2 => ?_)
  obtain rfl : f_2 = xs (i + 1) := by rw [ef_2, nI_clamp (by omega)]
  refine lv_i2d hx hb dL_law_90 ?_
  refine lv_ldc2d (own := R_law) (v := k_8) hx hb hown (hts _ q258) dL_law_91 ?_
  refine lv_dmul hx hb dL_law_94 (n_gk _) ?_
  refine lv_topd (fun f_3 ef_3 => ?_)
  obtain rfl : f_3 = gk (xs (i + 1)) := by rw [ef_3]; rfl
  refine lv_aload_n hx hb dL_law_95 rfl (lv_at hl 0 rfl) ?_
  refine lv_iload_n hx hb dL_law_96 rfl (lv_at hl 3 rfl) ?_
  refine lv_iconst (v := 2) hx hb dL_law_97 (by decide) ?_
  refine lv_iadd hx hb dL_law_98 ?_
  refine lv_topi (fun f_4 ef_4 => ?_)
  obtain rfl : f_4 = nI (i + 2) := by rw [ef_4]; exact nI_add i 2
  refine va_sld hx hb hX hbl hbA hS (vp_in_nI (show i + 2 < L by omega) (by omega)) dL_law_99 ?_
  refine lv_topi (fun f_5 ef_5 => ?_)
  obtain rfl : f_5 = xs (i + 2) := by rw [ef_5, nI_clamp (by omega)]
  refine lv_i2d hx hb dL_law_100 ?_
  refine lv_ldc2d (own := R_law) (v := k_8) hx hb hown (hts _ q258) dL_law_101 ?_
  refine lv_dmul hx hb dL_law_104 (n_gk _) ?_
  refine lv_topd (fun f_6 ef_6 => ?_)
  obtain rfl : f_6 = gk (xs (i + 2)) := by rw [ef_6]; rfl
  refine lv_aload_n hx hb dL_law_105 rfl (lv_at hl 0 rfl) ?_
  refine lv_iload_n hx hb dL_law_106 rfl (lv_at hl 3 rfl) ?_
  refine lv_iconst (v := 3) hx hb dL_law_107 (by decide) ?_
  refine lv_iadd hx hb dL_law_108 ?_
  refine lv_topi (fun f_7 ef_7 => ?_)
  obtain rfl : f_7 = nI (i + 3) := by rw [ef_7]; exact nI_add i 3
  refine va_sld hx hb hX hbl hbA hS (vp_in_nI (show i + 3 < L by omega) (by omega)) dL_law_109 ?_
  refine lv_topi (fun f_8 ef_8 => ?_)
  obtain rfl : f_8 = xs (i + 3) := by rw [ef_8, nI_clamp (by omega)]
  refine lv_i2d hx hb dL_law_110 ?_
  refine lv_ldc2d (own := R_law) (v := k_8) hx hb hown (hts _ q258) dL_law_111 ?_
  refine lv_dmul hx hb dL_law_114 (n_gk _) ?_
  refine lv_topd (fun f_9 ef_9 => ?_)
  obtain rfl : f_9 = gk (xs (i + 3)) := by rw [ef_9]; rfl
  have hpm : List.Perm _ ((gx_W qg n ls_) ++ (gm_W hm hw hb_ ha A0 A1 A2 n fw fb fa)) := List.Perm.refl _
  have hDc : va_D (fun _ => True) (gx_W qg n ls_) := va_D_part hD hpm
  have hFc := va_freeM (wc := gx_W qg n ls_) hD hS hA (fun q hq => hpm.mem_iff.mpr (List.mem_append_left _ hq))
  refine va_calli (va_runV (As := [.double (gk (xs (i + 1))), .double (gk (xs (i + 2))), .double (gk (xs (i + 3)))]) (rest := []) ⟨hx, hb, hml, hown, hts⟩ (m_X0_row l H.size dC dI qg n ls_ (gk (xs (i + 1))) (gk (xs (i + 2))) (gk (xs (i + 3))) hR.1) (cwV 3 hts (lw_V q25 q26 q27 q6 q28) rfl rfl rfl (by decide +kernel) ⟨Nat.le_of_ble_eq_true rfl, Nat.le_of_ble_eq_true rfl⟩) ⟨gy_fb, va_recv hKg hPg (ci := 0) (q0 := 0) rfl rfl, fun U hU hW => ⟨rfl, by rw [hU], gx_pre hPg hKg hN hU hW, hDc⟩⟩ rfl rfl hl.1 rfl (lv_room (Nat.le_of_ble_eq_true rfl)) dL_law_115 ⟨by show cells + 2 ≤ 600359; exact hcl, by show slots + 6 ≤ 7301170; exact hsl⟩) hS (fun q _ h => hFc q h) hFc (fun rx_ u1 t H1 locs ht hvm hw_X0 hB hz1 hk1 hS => ?_)
  obtain ⟨⟨hP1, hK1, hN1⟩, hD1⟩ := hB
  rw [ht] at hP1
  obtain ⟨hP, hD⟩ := va_joinM hP hD hpm hk1 hFc hP1 hD1
  generalize H1 = H at hP hS ⊢
  refine lv_aload_n hx hb dL_law_118 rfl (lv_at hl 2 rfl) ?_
  refine lv_aload_n hx hb dL_law_119 rfl (lv_at hl 0 rfl) ?_
  refine lv_iload_n hx hb dL_law_120 rfl (lv_at hl 3 rfl) ?_
  refine lv_iconst (v := 1) hx hb dL_law_121 (by decide) ?_
  refine lv_iadd hx hb dL_law_122 ?_
  refine lv_topi (fun f_10 ef_10 => ?_)
  obtain rfl : f_10 = nI (i + 1) := by rw [ef_10]; exact nI_add i 1
  refine va_sld hx hb hX hbl hbA hS (vp_in_nI (show i + 1 < L by omega) (by omega)) dL_law_123 ?_
  refine lv_topi (fun f_11 ef_11 => ?_)
  obtain rfl : f_11 = xs (i + 1) := by rw [ef_11, nI_clamp (by omega)]
  refine lv_i2d hx hb dL_law_124 ?_
  refine lv_ldc2d (own := R_law) (v := k_8) hx hb hown (hts _ q258) dL_law_125 ?_
  refine lv_dmul hx hb dL_law_128 (n_gk _) ?_
  refine lv_topd (fun f_12 ef_12 => ?_)
  obtain rfl : f_12 = gk (xs (i + 1)) := by rw [ef_12]; rfl
  refine lv_aload_n hx hb dL_law_129 rfl (lv_at hl 0 rfl) ?_
  refine lv_iload_n hx hb dL_law_130 rfl (lv_at hl 3 rfl) ?_
  refine lv_iconst (v := 2) hx hb dL_law_131 (by decide) ?_
  refine lv_iadd hx hb dL_law_132 ?_
  refine lv_topi (fun f_13 ef_13 => ?_)
  obtain rfl : f_13 = nI (i + 2) := by rw [ef_13]; exact nI_add i 2
  refine va_sld hx hb hX hbl hbA hS (vp_in_nI (show i + 2 < L by omega) (by omega)) dL_law_133 ?_
  refine lv_topi (fun f_14 ef_14 => ?_)
  obtain rfl : f_14 = xs (i + 2) := by rw [ef_14, nI_clamp (by omega)]
  refine lv_i2d hx hb dL_law_134 ?_
  refine lv_ldc2d (own := R_law) (v := k_8) hx hb hown (hts _ q258) dL_law_135 ?_
  refine lv_dmul hx hb dL_law_138 (n_gk _) ?_
  refine lv_topd (fun f_15 ef_15 => ?_)
  obtain rfl : f_15 = gk (xs (i + 2)) := by rw [ef_15]; rfl
  refine lv_aload_n hx hb dL_law_139 rfl (lv_at hl 0 rfl) ?_
  refine lv_iload_n hx hb dL_law_140 rfl (lv_at hl 3 rfl) ?_
  refine lv_iconst (v := 3) hx hb dL_law_141 (by decide) ?_
  refine lv_iadd hx hb dL_law_142 ?_
  refine lv_topi (fun f_16 ef_16 => ?_)
  obtain rfl : f_16 = nI (i + 3) := by rw [ef_16]; exact nI_add i 3
  refine va_sld hx hb hX hbl hbA hS (vp_in_nI (show i + 3 < L by omega) (by omega)) dL_law_143 ?_
  refine lv_topi (fun f_17 ef_17 => ?_)
  obtain rfl : f_17 = xs (i + 3) := by rw [ef_17, nI_clamp (by omega)]
  refine lv_i2d hx hb dL_law_144 ?_
  refine lv_ldc2d (own := R_law) (v := k_8) hx hb hown (hts _ q258) dL_law_145 ?_
  refine lv_dmul hx hb dL_law_148 (n_gk _) ?_
  refine lv_topd (fun f_18 ef_18 => ?_)
  obtain rfl : f_18 = gk (xs (i + 3)) := by rw [ef_18]; rfl
  have hpm : List.Perm _ ((gm_W hm hw hb_ ha A0 A1 A2 n fw fb fa) ++ (gx_W qg u1.1 u1.2)) := List.perm_append_comm
  have hPm : va_P (dC, dI) vwCl (gm_W hm hw hb_ ha A0 A1 A2 n fw fb fa) H := va_P_sub hP (fun q hq => List.mem_append_right _ hq)
  have hDc : va_D (fun _ => True) (gm_W hm hw hb_ ha A0 A1 A2 n fw fb fa) := va_D_part hD hpm
  have hFc := va_freeM (wc := gm_W hm hw hb_ ha A0 A1 A2 n fw fb fa) hD hS hA (fun q hq => hpm.mem_iff.mpr (List.mem_append_left _ hq))
  refine va_calli (va_runV (As := [.double (gk (xs (i + 1))), .double (gk (xs (i + 2))), .double (gk (xs (i + 3)))]) (rest := [.int rx_]) ⟨hx, hb, hml, hown, hts⟩ (m_X1_row l H.size dC dI hm hw hb_ ha A0 A1 A2 n fw fb fa (fun k => zv (fw k)) (fun k => zv (fb k)) hSm (gk (xs (i + 1))) (gk (xs (i + 2))) (gk (xs (i + 3))) (fin_gk _) (fin_gk _)) (cwV 3 hts (lw_V q183 q184 q185 q7 q186) rfl rfl rfl (by decide +kernel) ⟨Nat.le_of_ble_eq_true rfl, Nat.le_of_ble_eq_true rfl⟩) ⟨gw_fb, va_recv hK hPm (ci := 1) (q0 := 0) rfl rfl, fun U hU hW => ⟨rfl, by rw [hU], gm_pre hPm hK hU hW, hDc⟩⟩ rfl rfl hl.1 rfl (lv_room (Nat.le_of_ble_eq_true rfl)) dL_law_149 ⟨by show cells + 2 + 0 ≤ 600359; exact hcl, by show slots + 6 + 0 ≤ 7301170; exact hsl⟩) hS (fun q _ h => hFc q h) hFc (fun rm_ u2 t H1 locs ht hvm hw_X1 hB hz1 hk1 hS => ?_)
  obtain ⟨⟨hP1, hK1⟩, hD1⟩ := hB
  rw [ht] at hP1
  obtain ⟨hP, hD⟩ := va_joinM hP hD hpm hk1 hFc hP1 hD1
  generalize H1 = H at hP hS ⊢
  have hP := va_P_perm hP List.perm_append_comm
  have hD := va_D_perm hD List.perm_append_comm
  obtain ⟨er, en, hR2⟩ := row_both hR ⟨_, rfl⟩ ⟨_, rfl⟩ (fin_gk _) hw_X0 hw_X1
  rw [en] at hP hD
  refine lv_icmp_eq (tgt := 893) hx hb dL_law_152 (by decide) (fun c_19 => ?_) (fun c_19 => ?_)
  · exact cont _ _ _ _ _ _ _ ⟨hK, hP, hD, hS, hR2⟩ ls (lv_sub hl [0, 1, 2, 3] rfl)
  · exact absurd (er) c_19

set_option maxHeartbeats 4000000 in
set_option maxRecDepth 100000 in
theorem law_c1 {p : Program} {l : Launch} {e : Env} {s : State} {m : MethodId} {below : List Frame} {meth : Method} {c : Code} {b L : Nat} {xs : Nat → Int32} {dC : Nat → ClassId} {dI : Nat → Nat → Nat} {H : Heap} {locs : List Loc} {qg hm hw hb_ ha : Nat} {A0 A1 A2 : ClassId} {n : Nat} {ls_ : List gx_L} {fw fb fa : Nat → UInt64} {cells slots i : Nat} {Q : State → Prop} {ls : Array Slot} (C0 : lw_At p s m meth c b L xs) (hL : L ≤ 384) (hi : i + 6 ≤ L) (hcl : cells + 2 ≤ 600359) (hsl : slots + 6 ≤ 7301170) (S0 : lx_S dC dI s H locs qg hm hw hb_ ha A0 A1 A2 n ls_ fw fb fa) (hl : lv_has ls 8 [(0, .ref b), (1, .ref qg), (2, .ref hm), (3, .int (nI i))])
    (cont : ∀ (H : Heap) (locs : List Loc) (n : Nat) (ls_ : List gx_L) (fw fb fa : Nat → UInt64), lx_S dC dI s H locs qg hm hw hb_ ha A0 A1 A2 n ls_ fw fb fa → ∀ ls : Array Slot, lv_has ls 8 [(0, .ref b), (1, .ref qg), (2, .ref hm), (3, .int (nI i))] → W p l e room_1 s m #[Value.ref b] below meth c H locs (cells + 2) (slots + 6) Q (F0 m 893 ls [])) :
    W p l e room_1 s m #[Value.ref b] below meth c H locs cells slots Q (F0 m 157 ls []) := by
  obtain ⟨hx, hb, hr, hml, hown, hts0, hX, hbl, hlocks, hgv⟩ := C0
  obtain ⟨hK, hP, hD, hS, hR⟩ := S0
  have hts : ∀ w ∈ lw_all, w.before #[Value.ref b] s = true := fun w h => hts0 w (lw_all_tbl h)
  have hN := lx_N hts0
  have hbA : ¬ (fun q : Nat => s.heap.size ≤ q) b := Nat.not_le.mpr hbl
  have hA : ∀ q : Nat, s.heap.size ≤ q → (fun q : Nat => s.heap.size ≤ q) q := fun _ h => h
  have hPg : va_P (dC, dI) vwCl (gx_W qg n ls_) H := va_P_sub hP (fun q hq => List.mem_append_left _ hq)
  have hPm : va_P (dC, dI) vwCl (gm_W hm hw hb_ ha A0 A1 A2 n fw fb fa) H := va_P_sub hP (fun q hq => List.mem_append_right _ hq)
  have hKg : va_K (dC, dI) vwCl [] s := hK.sub (tys' := []) [] rfl
  have hfit : cells + 0 ≤ room_1.cells ∧ slots + 0 ≤ room_1.slots := ⟨by show cells + 0 ≤ 600359; omega, by show slots + 0 ≤ 7301170; omega⟩
  have hSm := rel_S hR
  obtain ⟨v, hv⟩ := lw_bal hR (xs (i + 1)) (xs (i + 2))
  refine lv_aload_n hx hb dL_law_157 rfl (lv_at hl 1 rfl) ?_
  refine lv_aload_n hx hb dL_law_158 rfl (lv_at hl 0 rfl) ?_
  refine lv_iload_n hx hb dL_law_159 rfl (lv_at hl 3 rfl) ?_
  refine lv_iconst (v := 1) hx hb dL_law_160 (by decide) ?_
  refine lv_iadd hx hb dL_law_161 ?_
  refine lv_topi (fun f_1 ef_1 => ?_)
  obtain rfl : f_1 = nI (i + 1) := by rw [ef_1]; exact nI_add i 1
  refine va_sld hx hb hX hbl hbA hS (vp_in_nI (show i + 1 < L by omega) (by omega)) dL_law_162 ?_
  refine lv_topi (fun f_2 ef_2 => ?_)
  obtain rfl : f_2 = xs (i + 1) := by rw [ef_2, nI_clamp (by omega)]
  refine lv_i2d hx hb dL_law_163 ?_
  refine lv_ldc2d (own := R_law) (v := k_8) hx hb hown (hts _ q258) dL_law_164 ?_
  refine lv_dmul hx hb dL_law_167 (n_gk _) ?_
  refine lv_topd (fun f_3 ef_3 => ?_)
  obtain rfl : f_3 = gk (xs (i + 1)) := by rw [ef_3]; rfl
  refine lv_aload_n hx hb dL_law_168 rfl (lv_at hl 0 rfl) ?_
  refine lv_iload_n hx hb dL_law_169 rfl (lv_at hl 3 rfl) ?_
  refine lv_iconst (v := 2) hx hb dL_law_170 (by decide) ?_
  refine lv_iadd hx hb dL_law_171 ?_
  refine lv_topi (fun f_4 ef_4 => ?_)
  obtain rfl : f_4 = nI (i + 2) := by rw [ef_4]; exact nI_add i 2
  refine va_sld hx hb hX hbl hbA hS (vp_in_nI (show i + 2 < L by omega) (by omega)) dL_law_172 ?_
  refine lv_topi (fun f_5 ef_5 => ?_)
  obtain rfl : f_5 = xs (i + 2) := by rw [ef_5, nI_clamp (by omega)]
  refine lv_i2d hx hb dL_law_173 ?_
  refine lv_ldc2d (own := R_law) (v := k_8) hx hb hown (hts _ q258) dL_law_174 ?_
  refine lv_dmul hx hb dL_law_177 (n_gk _) ?_
  refine lv_topd (fun f_6 ef_6 => ?_)
  obtain rfl : f_6 = gk (xs (i + 2)) := by rw [ef_6]; rfl
  refine vp_callSd (va_Run.run (va_runV (As := [.double (gk (xs (i + 1))), .double (gk (xs (i + 2)))]) (rest := []) ⟨hx, hb, hml, hown, hts⟩ (m_X0_balance l dC dI qg n ls_ (gk (xs (i + 1))) (gk (xs (i + 2))) v (fun h => (hv h).1)) (cwV 2 hts (lw_V q94 q95 q96 q6 q97) rfl rfl rfl (by decide +kernel) ⟨Nat.le_of_ble_eq_true rfl, Nat.le_of_ble_eq_true rfl⟩) ⟨gx_fb, va_recv hKg hPg (ci := 0) (q0 := 0) rfl rfl, fun U hU hW => ⟨rfl, gx_pre hPg hKg hN hU hW⟩⟩ rfl rfl hl.1 rfl (lv_room (Nat.le_of_ble_eq_true rfl)) dL_law_178 hfit)) (fun r_7 hr_7 => ?_)
  subst hr_7
  refine lv_dstore (lv' := [(4, .double (bl_val v (gk (xs (i + 1))) (gk (xs (i + 2))))), (0, .ref b), (1, .ref qg), (2, .ref hm), (3, .int (nI i))]) hx hb dL_law_181 hl (by decide) rfl (fun ls hl => ?_)
  refine lv_aload_n hx hb dL_law_183 rfl (lv_at hl 3 rfl) ?_
  refine lv_aload_n hx hb dL_law_184 rfl (lv_at hl 1 rfl) ?_
  refine lv_iload_n hx hb dL_law_185 rfl (lv_at hl 4 rfl) ?_
  refine lv_iconst (v := 1) hx hb dL_law_186 (by decide) ?_
  refine lv_iadd hx hb dL_law_187 ?_
  refine lv_topi (fun f_8 ef_8 => ?_)
  obtain rfl : f_8 = nI (i + 1) := by rw [ef_8]; exact nI_add i 1
  refine va_sld hx hb hX hbl hbA hS (vp_in_nI (show i + 1 < L by omega) (by omega)) dL_law_188 ?_
  refine lv_topi (fun f_9 ef_9 => ?_)
  obtain rfl : f_9 = xs (i + 1) := by rw [ef_9, nI_clamp (by omega)]
  refine lv_i2d hx hb dL_law_189 ?_
  refine lv_ldc2d (own := R_law) (v := k_8) hx hb hown (hts _ q258) dL_law_190 ?_
  refine lv_dmul hx hb dL_law_193 (n_gk _) ?_
  refine lv_topd (fun f_10 ef_10 => ?_)
  obtain rfl : f_10 = gk (xs (i + 1)) := by rw [ef_10]; rfl
  refine lv_aload_n hx hb dL_law_194 rfl (lv_at hl 1 rfl) ?_
  refine lv_iload_n hx hb dL_law_195 rfl (lv_at hl 4 rfl) ?_
  refine lv_iconst (v := 2) hx hb dL_law_196 (by decide) ?_
  refine lv_iadd hx hb dL_law_197 ?_
  refine lv_topi (fun f_11 ef_11 => ?_)
  obtain rfl : f_11 = nI (i + 2) := by rw [ef_11]; exact nI_add i 2
  refine va_sld hx hb hX hbl hbA hS (vp_in_nI (show i + 2 < L by omega) (by omega)) dL_law_198 ?_
  refine lv_topi (fun f_12 ef_12 => ?_)
  obtain rfl : f_12 = xs (i + 2) := by rw [ef_12, nI_clamp (by omega)]
  refine lv_i2d hx hb dL_law_199 ?_
  refine lv_ldc2d (own := R_law) (v := k_8) hx hb hown (hts _ q258) dL_law_200 ?_
  refine lv_dmul hx hb dL_law_203 (n_gk _) ?_
  refine lv_topd (fun f_13 ef_13 => ?_)
  obtain rfl : f_13 = gk (xs (i + 2)) := by rw [ef_13]; rfl
  refine vp_callSd (va_Run.run (va_runV (As := [.double (gk (xs (i + 1))), .double (gk (xs (i + 2)))]) (rest := []) ⟨hx, hb, hml, hown, hts⟩ (m_X1_balance l dC dI hm hw hb_ ha A0 A1 A2 n fw fb fa (fun k => zv (fw k)) (fun k => zv (fb k)) hSm (gk (xs (i + 1))) (gk (xs (i + 2))) v (fun h => (hv h).2.1)) (cwV 2 hts (lw_V q196 q197 q198 q7 q199) rfl rfl rfl (by decide +kernel) ⟨Nat.le_of_ble_eq_true rfl, Nat.le_of_ble_eq_true rfl⟩) ⟨gm_fb, va_recv hK hPm (ci := 1) (q0 := 0) rfl rfl, fun U hU hW => ⟨rfl, gm_pre hPm hK hU hW⟩⟩ rfl rfl hl.1 rfl (lv_room (Nat.le_of_ble_eq_true rfl)) dL_law_204 hfit)) (fun r_14 hr_14 => ?_)
  subst hr_14
  refine lv_dstore (lv' := [(6, .double (bl_val v (gk (xs (i + 1))) (gk (xs (i + 2))))), (4, .double (bl_val v (gk (xs (i + 1))) (gk (xs (i + 2))))), (0, .ref b), (1, .ref qg), (2, .ref hm), (3, .int (nI i))]) hx hb dL_law_207 hl (by decide) rfl (fun ls hl => ?_)
  refine lv_dload hx hb dL_law_209 (lv_at hl 1 rfl) ?_
  refine lv_dload hx hb dL_law_211 (lv_at hl 0 rfl) ?_
  refine lv_dcmp hx hb dL_law_213 ?_
  refine lv_if_eq (tgt := 235) hx hb dL_law_214 (by decide) (fun c_15 => ?_) (fun c_15 => ?_)
  · refine lv_goto (tgt := 893) hx hb dL_law_235 (by decide) ?_
    refine W.widen (k := cells + 2) (n := slots + 6) (by omega) (by omega) ?_
    exact cont H locs n ls_ fw fb fa ⟨hK, hP, hD, hS, hR⟩ ls (lv_sub hl [2, 3, 4, 5] rfl)
  · exact absurd (fin_cmp (bl_fin (fun h => (hv h).2.2))) c_15

set_option maxHeartbeats 4000000 in
set_option maxRecDepth 100000 in
theorem law_c2 {p : Program} {l : Launch} {e : Env} {s : State} {m : MethodId} {below : List Frame} {meth : Method} {c : Code} {b L : Nat} {xs : Nat → Int32} {dC : Nat → ClassId} {dI : Nat → Nat → Nat} {H : Heap} {locs : List Loc} {qg hm hw hb_ ha : Nat} {A0 A1 A2 : ClassId} {n : Nat} {ls_ : List gx_L} {fw fb fa : Nat → UInt64} {cells slots i : Nat} {Q : State → Prop} {ls : Array Slot} (C0 : lw_At p s m meth c b L xs) (hL : L ≤ 384) (hi : i + 6 ≤ L) (hcl : cells + 2 ≤ 600359) (hsl : slots + 6 ≤ 7301170) (S0 : lx_S dC dI s H locs qg hm hw hb_ ha A0 A1 A2 n ls_ fw fb fa) (hl : lv_has ls 8 [(0, .ref b), (1, .ref qg), (2, .ref hm), (3, .int (nI i))])
    (cont : ∀ (H : Heap) (locs : List Loc) (n : Nat) (ls_ : List gx_L) (fw fb fa : Nat → UInt64), lx_S dC dI s H locs qg hm hw hb_ ha A0 A1 A2 n ls_ fw fb fa → ∀ ls : Array Slot, lv_has ls 8 [(0, .ref b), (1, .ref qg), (2, .ref hm), (3, .int (nI i))] → W p l e room_1 s m #[Value.ref b] below meth c H locs (cells + 2) (slots + 6) Q (F0 m 893 ls [])) :
    W p l e room_1 s m #[Value.ref b] below meth c H locs cells slots Q (F0 m 238 ls []) := by
  obtain ⟨hx, hb, hr, hml, hown, hts0, hX, hbl, hlocks, hgv⟩ := C0
  obtain ⟨hK, hP, hD, hS, hR⟩ := S0
  have hts : ∀ w ∈ lw_all, w.before #[Value.ref b] s = true := fun w h => hts0 w (lw_all_tbl h)
  have hN := lx_N hts0
  have hbA : ¬ (fun q : Nat => s.heap.size ≤ q) b := Nat.not_le.mpr hbl
  have hA : ∀ q : Nat, s.heap.size ≤ q → (fun q : Nat => s.heap.size ≤ q) q := fun _ h => h
  have hPg : va_P (dC, dI) vwCl (gx_W qg n ls_) H := va_P_sub hP (fun q hq => List.mem_append_left _ hq)
  have hPm : va_P (dC, dI) vwCl (gm_W hm hw hb_ ha A0 A1 A2 n fw fb fa) H := va_P_sub hP (fun q hq => List.mem_append_right _ hq)
  have hKg : va_K (dC, dI) vwCl [] s := hK.sub (tys' := []) [] rfl
  have hfit : cells + 0 ≤ room_1.cells ∧ slots + 0 ≤ room_1.slots := ⟨by show cells + 0 ≤ 600359; omega, by show slots + 0 ≤ 7301170; omega⟩
  have hSm := rel_S hR
  obtain ⟨v, hv⟩ := lw_bal hR (xs (i + 2)) (xs (i + 3))
  refine lv_aload_n hx hb dL_law_238 rfl (lv_at hl 1 rfl) ?_
  refine lv_aload_n hx hb dL_law_239 rfl (lv_at hl 0 rfl) ?_
  refine lv_iload_n hx hb dL_law_240 rfl (lv_at hl 3 rfl) ?_
  refine lv_iconst (v := 1) hx hb dL_law_241 (by decide) ?_
  refine lv_iadd hx hb dL_law_242 ?_
  refine lv_topi (fun f_1 ef_1 => ?_)
  obtain rfl : f_1 = nI (i + 1) := by rw [ef_1]; exact nI_add i 1
  refine va_sld hx hb hX hbl hbA hS (vp_in_nI (show i + 1 < L by omega) (by omega)) dL_law_243 ?_
  refine lv_topi (fun f_2 ef_2 => ?_)
  obtain rfl : f_2 = xs (i + 1) := by rw [ef_2, nI_clamp (by omega)]
  refine lv_i2d hx hb dL_law_244 ?_
  refine lv_ldc2d (own := R_law) (v := k_8) hx hb hown (hts _ q258) dL_law_245 ?_
  refine lv_dmul hx hb dL_law_248 (n_gk _) ?_
  refine lv_topd (fun f_3 ef_3 => ?_)
  obtain rfl : f_3 = gk (xs (i + 1)) := by rw [ef_3]; rfl
  refine lv_aload_n hx hb dL_law_249 rfl (lv_at hl 0 rfl) ?_
  refine lv_iload_n hx hb dL_law_250 rfl (lv_at hl 3 rfl) ?_
  refine lv_iconst (v := 2) hx hb dL_law_251 (by decide) ?_
  refine lv_iadd hx hb dL_law_252 ?_
  refine lv_topi (fun f_4 ef_4 => ?_)
  obtain rfl : f_4 = nI (i + 2) := by rw [ef_4]; exact nI_add i 2
  refine va_sld hx hb hX hbl hbA hS (vp_in_nI (show i + 2 < L by omega) (by omega)) dL_law_253 ?_
  refine lv_topi (fun f_5 ef_5 => ?_)
  obtain rfl : f_5 = xs (i + 2) := by rw [ef_5, nI_clamp (by omega)]
  refine lv_i2d hx hb dL_law_254 ?_
  refine lv_ldc2d (own := R_law) (v := k_8) hx hb hown (hts _ q258) dL_law_255 ?_
  refine lv_dmul hx hb dL_law_258 (n_gk _) ?_
  refine lv_topd (fun f_6 ef_6 => ?_)
  obtain rfl : f_6 = gk (xs (i + 2)) := by rw [ef_6]; rfl
  refine lv_aload_n hx hb dL_law_259 rfl (lv_at hl 0 rfl) ?_
  refine lv_iload_n hx hb dL_law_260 rfl (lv_at hl 3 rfl) ?_
  refine lv_iconst (v := 3) hx hb dL_law_261 (by decide) ?_
  refine lv_iadd hx hb dL_law_262 ?_
  refine lv_topi (fun f_7 ef_7 => ?_)
  obtain rfl : f_7 = nI (i + 3) := by rw [ef_7]; exact nI_add i 3
  refine va_sld hx hb hX hbl hbA hS (vp_in_nI (show i + 3 < L by omega) (by omega)) dL_law_263 ?_
  refine lv_topi (fun f_8 ef_8 => ?_)
  obtain rfl : f_8 = xs (i + 3) := by rw [ef_8, nI_clamp (by omega)]
  refine lv_i2d hx hb dL_law_264 ?_
  refine lv_ldc2d (own := R_law) (v := k_8) hx hb hown (hts _ q258) dL_law_265 ?_
  refine lv_dmul hx hb dL_law_268 (n_gk _) ?_
  refine lv_topd (fun f_9 ef_9 => ?_)
  obtain rfl : f_9 = gk (xs (i + 3)) := by rw [ef_9]; rfl
  refine lv_aload_n hx hb dL_law_269 rfl (lv_at hl 0 rfl) ?_
  refine lv_iload_n hx hb dL_law_270 rfl (lv_at hl 3 rfl) ?_
  refine lv_iconst (v := 4) hx hb dL_law_271 (by decide) ?_
  refine lv_iadd hx hb dL_law_272 ?_
  refine lv_topi (fun f_10 ef_10 => ?_)
  obtain rfl : f_10 = nI (i + 4) := by rw [ef_10]; exact nI_add i 4
  refine va_sld hx hb hX hbl hbA hS (vp_in_nI (show i + 4 < L by omega) (by omega)) dL_law_273 ?_
  refine lv_topi (fun f_11 ef_11 => ?_)
  obtain rfl : f_11 = xs (i + 4) := by rw [ef_11, nI_clamp (by omega)]
  refine vp_callSd (va_Run.run (va_runV (As := [.double (gk (xs (i + 1))), .double (gk (xs (i + 2))), .double (gk (xs (i + 3))), .int (xs (i + 4))]) (rest := []) ⟨hx, hb, hml, hown, hts⟩ (m_X0_after l dC dI qg n ls_ (gk (xs (i + 1))) (gk (xs (i + 2))) (gk (xs (i + 3))) v (xs (i + 4)) (fin_gk _) (fun h => ⟨(hv h).1, (hv h).2.2⟩)) (cwV 4 hts (lw_V q111 q112 q113 q6 q114) rfl rfl rfl (by decide +kernel) ⟨Nat.le_of_ble_eq_true rfl, Nat.le_of_ble_eq_true rfl⟩) ⟨gx_fb, va_recv hKg hPg (ci := 0) (q0 := 0) rfl rfl, fun U hU hW => ⟨rfl, gx_pre hPg hKg hN hU hW⟩⟩ rfl rfl hl.1 rfl (lv_room (Nat.le_of_ble_eq_true rfl)) dL_law_274 hfit)) (fun r_12 hr_12 => ?_)
  subst hr_12
  refine lv_dstore (lv' := [(4, .double (an_val v (gk (xs (i + 1))) (gk (xs (i + 2))) (gk (xs (i + 3))) (xs (i + 4)))), (0, .ref b), (1, .ref qg), (2, .ref hm), (3, .int (nI i))]) hx hb dL_law_277 hl (by decide) rfl (fun ls hl => ?_)
  refine lv_aload_n hx hb dL_law_279 rfl (lv_at hl 3 rfl) ?_
  refine lv_aload_n hx hb dL_law_280 rfl (lv_at hl 1 rfl) ?_
  refine lv_iload_n hx hb dL_law_281 rfl (lv_at hl 4 rfl) ?_
  refine lv_iconst (v := 1) hx hb dL_law_282 (by decide) ?_
  refine lv_iadd hx hb dL_law_283 ?_
  refine lv_topi (fun f_13 ef_13 => ?_)
  obtain rfl : f_13 = nI (i + 1) := by rw [ef_13]; exact nI_add i 1
  refine va_sld hx hb hX hbl hbA hS (vp_in_nI (show i + 1 < L by omega) (by omega)) dL_law_284 ?_
  refine lv_topi (fun f_14 ef_14 => ?_)
  obtain rfl : f_14 = xs (i + 1) := by rw [ef_14, nI_clamp (by omega)]
  refine lv_i2d hx hb dL_law_285 ?_
  refine lv_ldc2d (own := R_law) (v := k_8) hx hb hown (hts _ q258) dL_law_286 ?_
  refine lv_dmul hx hb dL_law_289 (n_gk _) ?_
  refine lv_topd (fun f_15 ef_15 => ?_)
  obtain rfl : f_15 = gk (xs (i + 1)) := by rw [ef_15]; rfl
  refine lv_aload_n hx hb dL_law_290 rfl (lv_at hl 1 rfl) ?_
  refine lv_iload_n hx hb dL_law_291 rfl (lv_at hl 4 rfl) ?_
  refine lv_iconst (v := 2) hx hb dL_law_292 (by decide) ?_
  refine lv_iadd hx hb dL_law_293 ?_
  refine lv_topi (fun f_16 ef_16 => ?_)
  obtain rfl : f_16 = nI (i + 2) := by rw [ef_16]; exact nI_add i 2
  refine va_sld hx hb hX hbl hbA hS (vp_in_nI (show i + 2 < L by omega) (by omega)) dL_law_294 ?_
  refine lv_topi (fun f_17 ef_17 => ?_)
  obtain rfl : f_17 = xs (i + 2) := by rw [ef_17, nI_clamp (by omega)]
  refine lv_i2d hx hb dL_law_295 ?_
  refine lv_ldc2d (own := R_law) (v := k_8) hx hb hown (hts _ q258) dL_law_296 ?_
  refine lv_dmul hx hb dL_law_299 (n_gk _) ?_
  refine lv_topd (fun f_18 ef_18 => ?_)
  obtain rfl : f_18 = gk (xs (i + 2)) := by rw [ef_18]; rfl
  refine lv_aload_n hx hb dL_law_300 rfl (lv_at hl 1 rfl) ?_
  refine lv_iload_n hx hb dL_law_301 rfl (lv_at hl 4 rfl) ?_
  refine lv_iconst (v := 3) hx hb dL_law_302 (by decide) ?_
  refine lv_iadd hx hb dL_law_303 ?_
  refine lv_topi (fun f_19 ef_19 => ?_)
  obtain rfl : f_19 = nI (i + 3) := by rw [ef_19]; exact nI_add i 3
  refine va_sld hx hb hX hbl hbA hS (vp_in_nI (show i + 3 < L by omega) (by omega)) dL_law_304 ?_
  refine lv_topi (fun f_20 ef_20 => ?_)
  obtain rfl : f_20 = xs (i + 3) := by rw [ef_20, nI_clamp (by omega)]
  refine lv_i2d hx hb dL_law_305 ?_
  refine lv_ldc2d (own := R_law) (v := k_8) hx hb hown (hts _ q258) dL_law_306 ?_
  refine lv_dmul hx hb dL_law_309 (n_gk _) ?_
  refine lv_topd (fun f_21 ef_21 => ?_)
  obtain rfl : f_21 = gk (xs (i + 3)) := by rw [ef_21]; rfl
  refine lv_aload_n hx hb dL_law_310 rfl (lv_at hl 1 rfl) ?_
  refine lv_iload_n hx hb dL_law_311 rfl (lv_at hl 4 rfl) ?_
  refine lv_iconst (v := 4) hx hb dL_law_312 (by decide) ?_
  refine lv_iadd hx hb dL_law_313 ?_
  refine lv_topi (fun f_22 ef_22 => ?_)
  obtain rfl : f_22 = nI (i + 4) := by rw [ef_22]; exact nI_add i 4
  refine va_sld hx hb hX hbl hbA hS (vp_in_nI (show i + 4 < L by omega) (by omega)) dL_law_314 ?_
  refine lv_topi (fun f_23 ef_23 => ?_)
  obtain rfl : f_23 = xs (i + 4) := by rw [ef_23, nI_clamp (by omega)]
  refine vp_callSd (va_Run.run (va_runV (As := [.double (gk (xs (i + 1))), .double (gk (xs (i + 2))), .double (gk (xs (i + 3))), .int (xs (i + 4))]) (rest := []) ⟨hx, hb, hml, hown, hts⟩ (m_X1_after l dC dI hm hw hb_ ha A0 A1 A2 n fw fb fa (fun k => zv (fw k)) (fun k => zv (fb k)) hSm (gk (xs (i + 1))) (gk (xs (i + 2))) (gk (xs (i + 3))) v (xs (i + 4)) (fin_gk _) (fun h => ⟨(hv h).2.1, (hv h).2.2⟩)) (cwV 4 hts (lw_V q209 q210 q211 q7 q212) rfl rfl rfl (by decide +kernel) ⟨Nat.le_of_ble_eq_true rfl, Nat.le_of_ble_eq_true rfl⟩) ⟨gm_fb, va_recv hK hPm (ci := 1) (q0 := 0) rfl rfl, fun U hU hW => ⟨rfl, gm_pre hPm hK hU hW⟩⟩ rfl rfl hl.1 rfl (lv_room (Nat.le_of_ble_eq_true rfl)) dL_law_315 hfit)) (fun r_24 hr_24 => ?_)
  subst hr_24
  refine lv_dstore (lv' := [(6, .double (an_m v (gk (xs (i + 1))) (gk (xs (i + 2))) (gk (xs (i + 3))) (xs (i + 4)))), (4, .double (an_val v (gk (xs (i + 1))) (gk (xs (i + 2))) (gk (xs (i + 3))) (xs (i + 4)))), (0, .ref b), (1, .ref qg), (2, .ref hm), (3, .int (nI i))]) hx hb dL_law_318 hl (by decide) rfl (fun ls hl => ?_)
  refine lv_dload hx hb dL_law_320 (lv_at hl 1 rfl) ?_
  refine lv_dload hx hb dL_law_322 (lv_at hl 0 rfl) ?_
  refine lv_dcmp hx hb dL_law_324 ?_
  refine lv_if_eq (tgt := 346) hx hb dL_law_325 (by decide) (fun c_25 => ?_) (fun c_25 => ?_)
  · refine lv_goto (tgt := 893) hx hb dL_law_346 (by decide) ?_
    refine W.widen (k := cells + 2) (n := slots + 6) (by omega) (by omega) ?_
    exact cont H locs n ls_ fw fb fa ⟨hK, hP, hD, hS, hR⟩ ls (lv_sub hl [2, 3, 4, 5] rfl)
  · exact absurd (by rw [an_eq]; exact fin_cmp (an_fin (fin_gk _) (fun h => (hv h).2.2))) c_25

set_option maxHeartbeats 4000000 in
set_option maxRecDepth 100000 in
theorem law_c3 {p : Program} {l : Launch} {e : Env} {s : State} {m : MethodId} {below : List Frame} {meth : Method} {c : Code} {b L : Nat} {xs : Nat → Int32} {dC : Nat → ClassId} {dI : Nat → Nat → Nat} {H : Heap} {locs : List Loc} {qg hm hw hb_ ha : Nat} {A0 A1 A2 : ClassId} {n : Nat} {ls_ : List gx_L} {fw fb fa : Nat → UInt64} {cells slots i : Nat} {Q : State → Prop} {ls : Array Slot} (C0 : lw_At p s m meth c b L xs) (hL : L ≤ 384) (hi : i + 6 ≤ L) (hcl : cells + 2 ≤ 600359) (hsl : slots + 6 ≤ 7301170) (S0 : lx_S dC dI s H locs qg hm hw hb_ ha A0 A1 A2 n ls_ fw fb fa) (hl : lv_has ls 8 [(0, .ref b), (1, .ref qg), (2, .ref hm), (3, .int (nI i))])
    (cont : ∀ (H : Heap) (locs : List Loc) (n : Nat) (ls_ : List gx_L) (fw fb fa : Nat → UInt64), lx_S dC dI s H locs qg hm hw hb_ ha A0 A1 A2 n ls_ fw fb fa → ∀ ls : Array Slot, lv_has ls 8 [(0, .ref b), (1, .ref qg), (2, .ref hm), (3, .int (nI i))] → W p l e room_1 s m #[Value.ref b] below meth c H locs (cells + 2) (slots + 6) Q (F0 m 893 ls [])) :
    W p l e room_1 s m #[Value.ref b] below meth c H locs cells slots Q (F0 m 349 ls []) := by
  obtain ⟨hx, hb, hr, hml, hown, hts0, hX, hbl, hlocks, hgv⟩ := C0
  obtain ⟨hK, hP, hD, hS, hR⟩ := S0
  have hts : ∀ w ∈ lw_all, w.before #[Value.ref b] s = true := fun w h => hts0 w (lw_all_tbl h)
  have hN := lx_N hts0
  have hbA : ¬ (fun q : Nat => s.heap.size ≤ q) b := Nat.not_le.mpr hbl
  have hA : ∀ q : Nat, s.heap.size ≤ q → (fun q : Nat => s.heap.size ≤ q) q := fun _ h => h
  have hPg : va_P (dC, dI) vwCl (gx_W qg n ls_) H := va_P_sub hP (fun q hq => List.mem_append_left _ hq)
  have hPm : va_P (dC, dI) vwCl (gm_W hm hw hb_ ha A0 A1 A2 n fw fb fa) H := va_P_sub hP (fun q hq => List.mem_append_right _ hq)
  have hKg : va_K (dC, dI) vwCl [] s := hK.sub (tys' := []) [] rfl
  have hfit : cells + 0 ≤ room_1.cells ∧ slots + 0 ≤ room_1.slots := ⟨by show cells + 0 ≤ 600359; omega, by show slots + 0 ≤ 7301170; omega⟩
  have hSm := rel_S hR
  refine lv_aload_n hx hb dL_law_349 rfl (lv_at hl 1 rfl) ?_
  refine lv_aload_n hx hb dL_law_350 rfl (lv_at hl 0 rfl) ?_
  refine lv_iload_n hx hb dL_law_351 rfl (lv_at hl 3 rfl) ?_
  refine lv_iconst (v := 1) hx hb dL_law_352 (by decide) ?_
  refine lv_iadd hx hb dL_law_353 ?_
  refine lv_topi (fun f_1 ef_1 => ?_)
  obtain rfl : f_1 = nI (i + 1) := by rw [ef_1]; exact nI_add i 1
  refine va_sld hx hb hX hbl hbA hS (vp_in_nI (show i + 1 < L by omega) (by omega)) dL_law_354 ?_
  refine lv_topi (fun f_2 ef_2 => ?_)
  obtain rfl : f_2 = xs (i + 1) := by rw [ef_2, nI_clamp (by omega)]
  refine lv_i2d hx hb dL_law_355 ?_
  refine lv_ldc2d (own := R_law) (v := k_8) hx hb hown (hts _ q258) dL_law_356 ?_
  refine lv_dmul hx hb dL_law_359 (n_gk _) ?_
  refine lv_topd (fun f_3 ef_3 => ?_)
  obtain rfl : f_3 = gk (xs (i + 1)) := by rw [ef_3]; rfl
  refine lv_aload_n hx hb dL_law_360 rfl (lv_at hl 0 rfl) ?_
  refine lv_iload_n hx hb dL_law_361 rfl (lv_at hl 3 rfl) ?_
  refine lv_iconst (v := 2) hx hb dL_law_362 (by decide) ?_
  refine lv_iadd hx hb dL_law_363 ?_
  refine lv_topi (fun f_4 ef_4 => ?_)
  obtain rfl : f_4 = nI (i + 2) := by rw [ef_4]; exact nI_add i 2
  refine va_sld hx hb hX hbl hbA hS (vp_in_nI (show i + 2 < L by omega) (by omega)) dL_law_364 ?_
  refine lv_topi (fun f_5 ef_5 => ?_)
  obtain rfl : f_5 = xs (i + 2) := by rw [ef_5, nI_clamp (by omega)]
  refine lv_i2d hx hb dL_law_365 ?_
  refine lv_ldc2d (own := R_law) (v := k_8) hx hb hown (hts _ q258) dL_law_366 ?_
  refine lv_dmul hx hb dL_law_369 (n_gk _) ?_
  refine lv_topd (fun f_6 ef_6 => ?_)
  obtain rfl : f_6 = gk (xs (i + 2)) := by rw [ef_6]; rfl
  refine vp_callSd (va_Run.run (va_runV (As := [.double (gk (xs (i + 1))), .double (gk (xs (i + 2)))]) (rest := []) ⟨hx, hb, hml, hown, hts⟩ (m_X0_fill l qg (gk (xs (i + 1))) (gk (xs (i + 2))) (fin_gk _) (fin_gk _)) (cwV 2 hts (lw_V q120 q121 q122 q6 q123) rfl rfl rfl (by decide +kernel) ⟨Nat.le_of_ble_eq_true rfl, Nat.le_of_ble_eq_true rfl⟩) ⟨fun _ _ _ _ q => q, va_recv hKg hPg (ci := 0) (q0 := 0) rfl rfl, fun U hU hW => ⟨rfl, trivial⟩⟩ rfl rfl hl.1 rfl (lv_room (Nat.le_of_ble_eq_true rfl)) dL_law_370 hfit)) (fun r_7 hr_7 => ?_)
  subst hr_7
  refine lv_dstore (lv' := [(4, .double (fl_val (gk (xs (i + 1))) (gk (xs (i + 2))))), (0, .ref b), (1, .ref qg), (2, .ref hm), (3, .int (nI i))]) hx hb dL_law_373 hl (by decide) rfl (fun ls hl => ?_)
  refine lv_aload_n hx hb dL_law_375 rfl (lv_at hl 3 rfl) ?_
  refine lv_aload_n hx hb dL_law_376 rfl (lv_at hl 1 rfl) ?_
  refine lv_iload_n hx hb dL_law_377 rfl (lv_at hl 4 rfl) ?_
  refine lv_iconst (v := 1) hx hb dL_law_378 (by decide) ?_
  refine lv_iadd hx hb dL_law_379 ?_
  refine lv_topi (fun f_8 ef_8 => ?_)
  obtain rfl : f_8 = nI (i + 1) := by rw [ef_8]; exact nI_add i 1
  refine va_sld hx hb hX hbl hbA hS (vp_in_nI (show i + 1 < L by omega) (by omega)) dL_law_380 ?_
  refine lv_topi (fun f_9 ef_9 => ?_)
  obtain rfl : f_9 = xs (i + 1) := by rw [ef_9, nI_clamp (by omega)]
  refine lv_i2d hx hb dL_law_381 ?_
  refine lv_ldc2d (own := R_law) (v := k_8) hx hb hown (hts _ q258) dL_law_382 ?_
  refine lv_dmul hx hb dL_law_385 (n_gk _) ?_
  refine lv_topd (fun f_10 ef_10 => ?_)
  obtain rfl : f_10 = gk (xs (i + 1)) := by rw [ef_10]; rfl
  refine lv_aload_n hx hb dL_law_386 rfl (lv_at hl 1 rfl) ?_
  refine lv_iload_n hx hb dL_law_387 rfl (lv_at hl 4 rfl) ?_
  refine lv_iconst (v := 2) hx hb dL_law_388 (by decide) ?_
  refine lv_iadd hx hb dL_law_389 ?_
  refine lv_topi (fun f_11 ef_11 => ?_)
  obtain rfl : f_11 = nI (i + 2) := by rw [ef_11]; exact nI_add i 2
  refine va_sld hx hb hX hbl hbA hS (vp_in_nI (show i + 2 < L by omega) (by omega)) dL_law_390 ?_
  refine lv_topi (fun f_12 ef_12 => ?_)
  obtain rfl : f_12 = xs (i + 2) := by rw [ef_12, nI_clamp (by omega)]
  refine lv_i2d hx hb dL_law_391 ?_
  refine lv_ldc2d (own := R_law) (v := k_8) hx hb hown (hts _ q258) dL_law_392 ?_
  refine lv_dmul hx hb dL_law_395 (n_gk _) ?_
  refine lv_topd (fun f_13 ef_13 => ?_)
  obtain rfl : f_13 = gk (xs (i + 2)) := by rw [ef_13]; rfl
  refine vp_callSd (va_Run.run (va_runV (As := [.double (gk (xs (i + 1))), .double (gk (xs (i + 2)))]) (rest := []) ⟨hx, hb, hml, hown, hts⟩ (m_X1_fill l hm (gk (xs (i + 1))) (gk (xs (i + 2))) (fin_gk _) (fin_gk _)) (cwV 2 hts (lw_V q215 q216 q217 q7 q218) rfl rfl rfl (by decide +kernel) ⟨Nat.le_of_ble_eq_true rfl, Nat.le_of_ble_eq_true rfl⟩) ⟨fun _ _ _ _ q => q, va_recv hK hPm (ci := 1) (q0 := 0) rfl rfl, fun U hU hW => ⟨rfl, trivial⟩⟩ rfl rfl hl.1 rfl (lv_room (Nat.le_of_ble_eq_true rfl)) dL_law_396 hfit)) (fun r_14 hr_14 => ?_)
  subst hr_14
  refine lv_dstore (lv' := [(6, .double (fl_val (gk (xs (i + 1))) (gk (xs (i + 2))))), (4, .double (fl_val (gk (xs (i + 1))) (gk (xs (i + 2))))), (0, .ref b), (1, .ref qg), (2, .ref hm), (3, .int (nI i))]) hx hb dL_law_399 hl (by decide) rfl (fun ls hl => ?_)
  refine lv_dload hx hb dL_law_401 (lv_at hl 1 rfl) ?_
  refine lv_dload hx hb dL_law_403 (lv_at hl 0 rfl) ?_
  refine lv_dcmp hx hb dL_law_405 ?_
  refine lv_if_eq (tgt := 427) hx hb dL_law_406 (by decide) (fun c_15 => ?_) (fun c_15 => ?_)
  · refine lv_goto (tgt := 893) hx hb dL_law_427 (by decide) ?_
    refine W.widen (k := cells + 2) (n := slots + 6) (by omega) (by omega) ?_
    exact cont H locs n ls_ fw fb fa ⟨hK, hP, hD, hS, hR⟩ ls (lv_sub hl [2, 3, 4, 5] rfl)
  · exact absurd (fin_cmp (fl_fin (fin_gk _) (fin_gk _))) c_15

set_option maxHeartbeats 4000000 in
set_option maxRecDepth 100000 in
theorem law_c4 {p : Program} {l : Launch} {e : Env} {s : State} {m : MethodId} {below : List Frame} {meth : Method} {c : Code} {b L : Nat} {xs : Nat → Int32} {dC : Nat → ClassId} {dI : Nat → Nat → Nat} {H : Heap} {locs : List Loc} {qg hm hw hb_ ha : Nat} {A0 A1 A2 : ClassId} {n : Nat} {ls_ : List gx_L} {fw fb fa : Nat → UInt64} {cells slots i : Nat} {Q : State → Prop} {ls : Array Slot} (C0 : lw_At p s m meth c b L xs) (hL : L ≤ 384) (hi : i + 6 ≤ L) (hcl : cells + 2 ≤ 600359) (hsl : slots + 6 ≤ 7301170) (S0 : lx_S dC dI s H locs qg hm hw hb_ ha A0 A1 A2 n ls_ fw fb fa) (hl : lv_has ls 8 [(0, .ref b), (1, .ref qg), (2, .ref hm), (3, .int (nI i))])
    (cont : ∀ (H : Heap) (locs : List Loc) (n : Nat) (ls_ : List gx_L) (fw fb fa : Nat → UInt64), lx_S dC dI s H locs qg hm hw hb_ ha A0 A1 A2 n ls_ fw fb fa → ∀ ls : Array Slot, lv_has ls 8 [(0, .ref b), (1, .ref qg), (2, .ref hm), (3, .int (nI i))] → W p l e room_1 s m #[Value.ref b] below meth c H locs (cells + 2) (slots + 6) Q (F0 m 893 ls [])) :
    W p l e room_1 s m #[Value.ref b] below meth c H locs cells slots Q (F0 m 430 ls []) := by
  obtain ⟨hx, hb, hr, hml, hown, hts0, hX, hbl, hlocks, hgv⟩ := C0
  obtain ⟨hK, hP, hD, hS, hR⟩ := S0
  have hts : ∀ w ∈ lw_all, w.before #[Value.ref b] s = true := fun w h => hts0 w (lw_all_tbl h)
  have hN := lx_N hts0
  have hbA : ¬ (fun q : Nat => s.heap.size ≤ q) b := Nat.not_le.mpr hbl
  have hA : ∀ q : Nat, s.heap.size ≤ q → (fun q : Nat => s.heap.size ≤ q) q := fun _ h => h
  have hPg : va_P (dC, dI) vwCl (gx_W qg n ls_) H := va_P_sub hP (fun q hq => List.mem_append_left _ hq)
  have hPm : va_P (dC, dI) vwCl (gm_W hm hw hb_ ha A0 A1 A2 n fw fb fa) H := va_P_sub hP (fun q hq => List.mem_append_right _ hq)
  have hKg : va_K (dC, dI) vwCl [] s := hK.sub (tys' := []) [] rfl
  have hfit : cells + 0 ≤ room_1.cells ∧ slots + 0 ≤ room_1.slots := ⟨by show cells + 0 ≤ 600359; omega, by show slots + 0 ≤ 7301170; omega⟩
  have hSm := rel_S hR
  refine lv_aload_n hx hb dL_law_430 rfl (lv_at hl 1 rfl) ?_
  refine lv_aload_n hx hb dL_law_431 rfl (lv_at hl 0 rfl) ?_
  refine lv_iload_n hx hb dL_law_432 rfl (lv_at hl 3 rfl) ?_
  refine lv_iconst (v := 1) hx hb dL_law_433 (by decide) ?_
  refine lv_iadd hx hb dL_law_434 ?_
  refine lv_topi (fun f_1 ef_1 => ?_)
  obtain rfl : f_1 = nI (i + 1) := by rw [ef_1]; exact nI_add i 1
  refine va_sld hx hb hX hbl hbA hS (vp_in_nI (show i + 1 < L by omega) (by omega)) dL_law_435 ?_
  refine lv_topi (fun f_2 ef_2 => ?_)
  obtain rfl : f_2 = xs (i + 1) := by rw [ef_2, nI_clamp (by omega)]
  refine lv_i2l hx hb dL_law_436 rfl ?_
  refine lv_bipush (v := 32) hx hb dL_law_437 (by decide) ?_
  refine lv_lshl hx hb dL_law_439 rfl ?_
  refine lv_aload_n hx hb dL_law_440 rfl (lv_at hl 0 rfl) ?_
  refine lv_iload_n hx hb dL_law_441 rfl (lv_at hl 3 rfl) ?_
  refine lv_iconst (v := 2) hx hb dL_law_442 (by decide) ?_
  refine lv_iadd hx hb dL_law_443 ?_
  refine lv_topi (fun f_3 ef_3 => ?_)
  obtain rfl : f_3 = nI (i + 2) := by rw [ef_3]; exact nI_add i 2
  refine va_sld hx hb hX hbl hbA hS (vp_in_nI (show i + 2 < L by omega) (by omega)) dL_law_444 ?_
  refine lv_topi (fun f_4 ef_4 => ?_)
  obtain rfl : f_4 = xs (i + 2) := by rw [ef_4, nI_clamp (by omega)]
  refine lv_i2l hx hb dL_law_445 rfl ?_
  refine lv_ldc2 (own := R_law) (v := 4294967295) hx hb hown (hts _ q259) dL_law_446 ?_
  refine lv_land hx hb dL_law_449 ?_
  refine lv_lor hx hb dL_law_450 ?_
  refine lv_topl (fun f_5 ef_5 => ?_)
  obtain rfl : f_5 = lgj (xs (i + 1)) (xs (i + 2)) := by rw [ef_5]; rfl
  refine lv_aload_n hx hb dL_law_451 rfl (lv_at hl 0 rfl) ?_
  refine lv_iload_n hx hb dL_law_452 rfl (lv_at hl 3 rfl) ?_
  refine lv_iconst (v := 3) hx hb dL_law_453 (by decide) ?_
  refine lv_iadd hx hb dL_law_454 ?_
  refine lv_topi (fun f_6 ef_6 => ?_)
  obtain rfl : f_6 = nI (i + 3) := by rw [ef_6]; exact nI_add i 3
  refine va_sld hx hb hX hbl hbA hS (vp_in_nI (show i + 3 < L by omega) (by omega)) dL_law_455 ?_
  refine lv_topi (fun f_7 ef_7 => ?_)
  obtain rfl : f_7 = xs (i + 3) := by rw [ef_7, nI_clamp (by omega)]
  refine lv_i2l hx hb dL_law_456 rfl ?_
  refine lv_bipush (v := 32) hx hb dL_law_457 (by decide) ?_
  refine lv_lshl hx hb dL_law_459 rfl ?_
  refine lv_aload_n hx hb dL_law_460 rfl (lv_at hl 0 rfl) ?_
  refine lv_iload_n hx hb dL_law_461 rfl (lv_at hl 3 rfl) ?_
  refine lv_iconst (v := 4) hx hb dL_law_462 (by decide) ?_
  refine lv_iadd hx hb dL_law_463 ?_
  refine lv_topi (fun f_8 ef_8 => ?_)
  obtain rfl : f_8 = nI (i + 4) := by rw [ef_8]; exact nI_add i 4
  refine va_sld hx hb hX hbl hbA hS (vp_in_nI (show i + 4 < L by omega) (by omega)) dL_law_464 ?_
  refine lv_topi (fun f_9 ef_9 => ?_)
  obtain rfl : f_9 = xs (i + 4) := by rw [ef_9, nI_clamp (by omega)]
  refine lv_i2l hx hb dL_law_465 rfl ?_
  refine lv_ldc2 (own := R_law) (v := 4294967295) hx hb hown (hts _ q259) dL_law_466 ?_
  refine lv_land hx hb dL_law_469 ?_
  refine lv_lor hx hb dL_law_470 ?_
  refine lv_topl (fun f_10 ef_10 => ?_)
  obtain rfl : f_10 = lgj (xs (i + 3)) (xs (i + 4)) := by rw [ef_10]; rfl
  refine lv_aload_n hx hb dL_law_471 rfl (lv_at hl 0 rfl) ?_
  refine lv_iload_n hx hb dL_law_472 rfl (lv_at hl 3 rfl) ?_
  refine lv_iconst (v := 5) hx hb dL_law_473 (by decide) ?_
  refine lv_iadd hx hb dL_law_474 ?_
  refine lv_topi (fun f_11 ef_11 => ?_)
  obtain rfl : f_11 = nI (i + 5) := by rw [ef_11]; exact nI_add i 5
  refine va_sld hx hb hX hbl hbA hS (vp_in_nI (show i + 5 < L by omega) (by omega)) dL_law_475 ?_
  refine lv_topi (fun f_12 ef_12 => ?_)
  obtain rfl : f_12 = xs (i + 5) := by rw [ef_12, nI_clamp (by omega)]
  refine vp_callSl (va_Run.run (va_runV (As := [.long (lgj (xs (i + 1)) (xs (i + 2))), .long (lgj (xs (i + 3)) (xs (i + 4))), .int (xs (i + 5))]) (rest := []) ⟨hx, hb, hml, hown, hts⟩ (m_X0_bunging l qg (lgj (xs (i + 1)) (xs (i + 2))) (lgj (xs (i + 3)) (xs (i + 4))) (xs (i + 5))) (cwV 3 hts (lw_V q126 q127 q128 q6 q129) rfl rfl rfl (by decide +kernel) ⟨Nat.le_of_ble_eq_true rfl, Nat.le_of_ble_eq_true rfl⟩) ⟨fun _ _ _ _ q => q, va_recv hKg hPg (ci := 0) (q0 := 0) rfl rfl, fun U hU hW => ⟨rfl, trivial⟩⟩ rfl rfl hl.1 rfl (lv_room (Nat.le_of_ble_eq_true rfl)) dL_law_476 hfit)) (fun r_13 hr_13 => ?_)
  subst hr_13
  refine lv_aload_n hx hb dL_law_479 rfl (lv_at hl 2 rfl) ?_
  refine lv_aload_n hx hb dL_law_480 rfl (lv_at hl 0 rfl) ?_
  refine lv_iload_n hx hb dL_law_481 rfl (lv_at hl 3 rfl) ?_
  refine lv_iconst (v := 1) hx hb dL_law_482 (by decide) ?_
  refine lv_iadd hx hb dL_law_483 ?_
  refine lv_topi (fun f_14 ef_14 => ?_)
  obtain rfl : f_14 = nI (i + 1) := by rw [ef_14]; exact nI_add i 1
  refine va_sld hx hb hX hbl hbA hS (vp_in_nI (show i + 1 < L by omega) (by omega)) dL_law_484 ?_
  refine lv_topi (fun f_15 ef_15 => ?_)
  obtain rfl : f_15 = xs (i + 1) := by rw [ef_15, nI_clamp (by omega)]
  refine lv_i2l hx hb dL_law_485 rfl ?_
  refine lv_bipush (v := 32) hx hb dL_law_486 (by decide) ?_
  refine lv_lshl hx hb dL_law_488 rfl ?_
  refine lv_aload_n hx hb dL_law_489 rfl (lv_at hl 0 rfl) ?_
  refine lv_iload_n hx hb dL_law_490 rfl (lv_at hl 3 rfl) ?_
  refine lv_iconst (v := 2) hx hb dL_law_491 (by decide) ?_
  refine lv_iadd hx hb dL_law_492 ?_
  refine lv_topi (fun f_16 ef_16 => ?_)
  obtain rfl : f_16 = nI (i + 2) := by rw [ef_16]; exact nI_add i 2
  refine va_sld hx hb hX hbl hbA hS (vp_in_nI (show i + 2 < L by omega) (by omega)) dL_law_493 ?_
  refine lv_topi (fun f_17 ef_17 => ?_)
  obtain rfl : f_17 = xs (i + 2) := by rw [ef_17, nI_clamp (by omega)]
  refine lv_i2l hx hb dL_law_494 rfl ?_
  refine lv_ldc2 (own := R_law) (v := 4294967295) hx hb hown (hts _ q259) dL_law_495 ?_
  refine lv_land hx hb dL_law_498 ?_
  refine lv_lor hx hb dL_law_499 ?_
  refine lv_topl (fun f_18 ef_18 => ?_)
  obtain rfl : f_18 = lgj (xs (i + 1)) (xs (i + 2)) := by rw [ef_18]; rfl
  refine lv_aload_n hx hb dL_law_500 rfl (lv_at hl 0 rfl) ?_
  refine lv_iload_n hx hb dL_law_501 rfl (lv_at hl 3 rfl) ?_
  refine lv_iconst (v := 3) hx hb dL_law_502 (by decide) ?_
  refine lv_iadd hx hb dL_law_503 ?_
  refine lv_topi (fun f_19 ef_19 => ?_)
  obtain rfl : f_19 = nI (i + 3) := by rw [ef_19]; exact nI_add i 3
  refine va_sld hx hb hX hbl hbA hS (vp_in_nI (show i + 3 < L by omega) (by omega)) dL_law_504 ?_
  refine lv_topi (fun f_20 ef_20 => ?_)
  obtain rfl : f_20 = xs (i + 3) := by rw [ef_20, nI_clamp (by omega)]
  refine lv_i2l hx hb dL_law_505 rfl ?_
  refine lv_bipush (v := 32) hx hb dL_law_506 (by decide) ?_
  refine lv_lshl hx hb dL_law_508 rfl ?_
  refine lv_aload_n hx hb dL_law_509 rfl (lv_at hl 0 rfl) ?_
  refine lv_iload_n hx hb dL_law_510 rfl (lv_at hl 3 rfl) ?_
  refine lv_iconst (v := 4) hx hb dL_law_511 (by decide) ?_
  refine lv_iadd hx hb dL_law_512 ?_
  refine lv_topi (fun f_21 ef_21 => ?_)
  obtain rfl : f_21 = nI (i + 4) := by rw [ef_21]; exact nI_add i 4
  refine va_sld hx hb hX hbl hbA hS (vp_in_nI (show i + 4 < L by omega) (by omega)) dL_law_513 ?_
  refine lv_topi (fun f_22 ef_22 => ?_)
  obtain rfl : f_22 = xs (i + 4) := by rw [ef_22, nI_clamp (by omega)]
  refine lv_i2l hx hb dL_law_514 rfl ?_
  refine lv_ldc2 (own := R_law) (v := 4294967295) hx hb hown (hts _ q259) dL_law_515 ?_
  refine lv_land hx hb dL_law_518 ?_
  refine lv_lor hx hb dL_law_519 ?_
  refine lv_topl (fun f_23 ef_23 => ?_)
  obtain rfl : f_23 = lgj (xs (i + 3)) (xs (i + 4)) := by rw [ef_23]; rfl
  refine lv_aload_n hx hb dL_law_520 rfl (lv_at hl 0 rfl) ?_
  refine lv_iload_n hx hb dL_law_521 rfl (lv_at hl 3 rfl) ?_
  refine lv_iconst (v := 5) hx hb dL_law_522 (by decide) ?_
  refine lv_iadd hx hb dL_law_523 ?_
  refine lv_topi (fun f_24 ef_24 => ?_)
  obtain rfl : f_24 = nI (i + 5) := by rw [ef_24]; exact nI_add i 5
  refine va_sld hx hb hX hbl hbA hS (vp_in_nI (show i + 5 < L by omega) (by omega)) dL_law_524 ?_
  refine lv_topi (fun f_25 ef_25 => ?_)
  obtain rfl : f_25 = xs (i + 5) := by rw [ef_25, nI_clamp (by omega)]
  refine vp_callSl (va_Run.run (va_runV (As := [.long (lgj (xs (i + 1)) (xs (i + 2))), .long (lgj (xs (i + 3)) (xs (i + 4))), .int (xs (i + 5))]) (rest := [.long (bu_val (lgj (xs (i + 1)) (xs (i + 2))) (lgj (xs (i + 3)) (xs (i + 4))) (xs (i + 5)))]) ⟨hx, hb, hml, hown, hts⟩ (m_X1_bunging l hm (lgj (xs (i + 1)) (xs (i + 2))) (lgj (xs (i + 3)) (xs (i + 4))) (xs (i + 5))) (cwV 3 hts (lw_V q221 q222 q223 q7 q224) rfl rfl rfl (by decide +kernel) ⟨Nat.le_of_ble_eq_true rfl, Nat.le_of_ble_eq_true rfl⟩) ⟨fun _ _ _ _ q => q, va_recv hK hPm (ci := 1) (q0 := 0) rfl rfl, fun U hU hW => ⟨rfl, trivial⟩⟩ rfl rfl hl.1 rfl (lv_room (Nat.le_of_ble_eq_true rfl)) dL_law_525 hfit)) (fun r_26 hr_26 => ?_)
  subst hr_26
  refine W.lcmp hx hb dL_law_528 ?_
  refine lv_if_eq (tgt := 893) hx hb dL_law_529 (by decide) (fun c_27 => ?_) (fun c_27 => ?_)
  · refine W.widen (k := cells + 2) (n := slots + 6) (by omega) (by omega) ?_
    exact cont H locs n ls_ fw fb fa ⟨hK, hP, hD, hS, hR⟩ ls (lv_sub hl [0, 1, 2, 3] rfl)
  · exact absurd (lg_cmp_self _) c_27

set_option maxHeartbeats 4000000 in
set_option maxRecDepth 100000 in
theorem law_c5 {p : Program} {l : Launch} {e : Env} {s : State} {m : MethodId} {below : List Frame} {meth : Method} {c : Code} {b L : Nat} {xs : Nat → Int32} {dC : Nat → ClassId} {dI : Nat → Nat → Nat} {H : Heap} {locs : List Loc} {qg hm hw hb_ ha : Nat} {A0 A1 A2 : ClassId} {n : Nat} {ls_ : List gx_L} {fw fb fa : Nat → UInt64} {cells slots i : Nat} {Q : State → Prop} {ls : Array Slot} (C0 : lw_At p s m meth c b L xs) (hL : L ≤ 384) (hi : i + 6 ≤ L) (hcl : cells + 2 ≤ 600359) (hsl : slots + 6 ≤ 7301170) (S0 : lx_S dC dI s H locs qg hm hw hb_ ha A0 A1 A2 n ls_ fw fb fa) (hl : lv_has ls 8 [(0, .ref b), (1, .ref qg), (2, .ref hm), (3, .int (nI i))])
    (cont : ∀ (H : Heap) (locs : List Loc) (n : Nat) (ls_ : List gx_L) (fw fb fa : Nat → UInt64), lx_S dC dI s H locs qg hm hw hb_ ha A0 A1 A2 n ls_ fw fb fa → ∀ ls : Array Slot, lv_has ls 8 [(0, .ref b), (1, .ref qg), (2, .ref hm), (3, .int (nI i))] → W p l e room_1 s m #[Value.ref b] below meth c H locs (cells + 2) (slots + 6) Q (F0 m 893 ls [])) :
    W p l e room_1 s m #[Value.ref b] below meth c H locs cells slots Q (F0 m 534 ls []) := by
  obtain ⟨hx, hb, hr, hml, hown, hts0, hX, hbl, hlocks, hgv⟩ := C0
  obtain ⟨hK, hP, hD, hS, hR⟩ := S0
  have hts : ∀ w ∈ lw_all, w.before #[Value.ref b] s = true := fun w h => hts0 w (lw_all_tbl h)
  have hN := lx_N hts0
  have hbA : ¬ (fun q : Nat => s.heap.size ≤ q) b := Nat.not_le.mpr hbl
  have hA : ∀ q : Nat, s.heap.size ≤ q → (fun q : Nat => s.heap.size ≤ q) q := fun _ h => h
  have hPg : va_P (dC, dI) vwCl (gx_W qg n ls_) H := va_P_sub hP (fun q hq => List.mem_append_left _ hq)
  have hPm : va_P (dC, dI) vwCl (gm_W hm hw hb_ ha A0 A1 A2 n fw fb fa) H := va_P_sub hP (fun q hq => List.mem_append_right _ hq)
  have hKg : va_K (dC, dI) vwCl [] s := hK.sub (tys' := []) [] rfl
  have hfit : cells + 0 ≤ room_1.cells ∧ slots + 0 ≤ room_1.slots := ⟨by show cells + 0 ≤ 600359; omega, by show slots + 0 ≤ 7301170; omega⟩
  have hSm := rel_S hR
  refine lv_aload_n hx hb dL_law_534 rfl (lv_at hl 1 rfl) ?_
  refine lv_aload_n hx hb dL_law_535 rfl (lv_at hl 0 rfl) ?_
  refine lv_iload_n hx hb dL_law_536 rfl (lv_at hl 3 rfl) ?_
  refine lv_iconst (v := 1) hx hb dL_law_537 (by decide) ?_
  refine lv_iadd hx hb dL_law_538 ?_
  refine lv_topi (fun f_1 ef_1 => ?_)
  obtain rfl : f_1 = nI (i + 1) := by rw [ef_1]; exact nI_add i 1
  refine va_sld hx hb hX hbl hbA hS (vp_in_nI (show i + 1 < L by omega) (by omega)) dL_law_539 ?_
  refine lv_topi (fun f_2 ef_2 => ?_)
  obtain rfl : f_2 = xs (i + 1) := by rw [ef_2, nI_clamp (by omega)]
  refine lv_i2l hx hb dL_law_540 rfl ?_
  refine lv_bipush (v := 32) hx hb dL_law_541 (by decide) ?_
  refine lv_lshl hx hb dL_law_543 rfl ?_
  refine lv_aload_n hx hb dL_law_544 rfl (lv_at hl 0 rfl) ?_
  refine lv_iload_n hx hb dL_law_545 rfl (lv_at hl 3 rfl) ?_
  refine lv_iconst (v := 2) hx hb dL_law_546 (by decide) ?_
  refine lv_iadd hx hb dL_law_547 ?_
  refine lv_topi (fun f_3 ef_3 => ?_)
  obtain rfl : f_3 = nI (i + 2) := by rw [ef_3]; exact nI_add i 2
  refine va_sld hx hb hX hbl hbA hS (vp_in_nI (show i + 2 < L by omega) (by omega)) dL_law_548 ?_
  refine lv_topi (fun f_4 ef_4 => ?_)
  obtain rfl : f_4 = xs (i + 2) := by rw [ef_4, nI_clamp (by omega)]
  refine lv_i2l hx hb dL_law_549 rfl ?_
  refine lv_ldc2 (own := R_law) (v := 4294967295) hx hb hown (hts _ q259) dL_law_550 ?_
  refine lv_land hx hb dL_law_553 ?_
  refine lv_lor hx hb dL_law_554 ?_
  refine lv_topl (fun f_5 ef_5 => ?_)
  obtain rfl : f_5 = lgj (xs (i + 1)) (xs (i + 2)) := by rw [ef_5]; rfl
  refine lv_aload_n hx hb dL_law_555 rfl (lv_at hl 0 rfl) ?_
  refine lv_iload_n hx hb dL_law_556 rfl (lv_at hl 3 rfl) ?_
  refine lv_iconst (v := 3) hx hb dL_law_557 (by decide) ?_
  refine lv_iadd hx hb dL_law_558 ?_
  refine lv_topi (fun f_6 ef_6 => ?_)
  obtain rfl : f_6 = nI (i + 3) := by rw [ef_6]; exact nI_add i 3
  refine va_sld hx hb hX hbl hbA hS (vp_in_nI (show i + 3 < L by omega) (by omega)) dL_law_559 ?_
  refine lv_topi (fun f_7 ef_7 => ?_)
  obtain rfl : f_7 = xs (i + 3) := by rw [ef_7, nI_clamp (by omega)]
  refine lv_i2l hx hb dL_law_560 rfl ?_
  refine lv_bipush (v := 32) hx hb dL_law_561 (by decide) ?_
  refine lv_lshl hx hb dL_law_563 rfl ?_
  refine lv_aload_n hx hb dL_law_564 rfl (lv_at hl 0 rfl) ?_
  refine lv_iload_n hx hb dL_law_565 rfl (lv_at hl 3 rfl) ?_
  refine lv_iconst (v := 4) hx hb dL_law_566 (by decide) ?_
  refine lv_iadd hx hb dL_law_567 ?_
  refine lv_topi (fun f_8 ef_8 => ?_)
  obtain rfl : f_8 = nI (i + 4) := by rw [ef_8]; exact nI_add i 4
  refine va_sld hx hb hX hbl hbA hS (vp_in_nI (show i + 4 < L by omega) (by omega)) dL_law_568 ?_
  refine lv_topi (fun f_9 ef_9 => ?_)
  obtain rfl : f_9 = xs (i + 4) := by rw [ef_9, nI_clamp (by omega)]
  refine lv_i2l hx hb dL_law_569 rfl ?_
  refine lv_ldc2 (own := R_law) (v := 4294967295) hx hb hown (hts _ q259) dL_law_570 ?_
  refine lv_land hx hb dL_law_573 ?_
  refine lv_lor hx hb dL_law_574 ?_
  refine lv_topl (fun f_10 ef_10 => ?_)
  obtain rfl : f_10 = lgj (xs (i + 3)) (xs (i + 4)) := by rw [ef_10]; rfl
  refine lv_aload_n hx hb dL_law_575 rfl (lv_at hl 0 rfl) ?_
  refine lv_iload_n hx hb dL_law_576 rfl (lv_at hl 3 rfl) ?_
  refine lv_iconst (v := 5) hx hb dL_law_577 (by decide) ?_
  refine lv_iadd hx hb dL_law_578 ?_
  refine lv_topi (fun f_11 ef_11 => ?_)
  obtain rfl : f_11 = nI (i + 5) := by rw [ef_11]; exact nI_add i 5
  refine va_sld hx hb hX hbl hbA hS (vp_in_nI (show i + 5 < L by omega) (by omega)) dL_law_579 ?_
  refine lv_topi (fun f_12 ef_12 => ?_)
  obtain rfl : f_12 = xs (i + 5) := by rw [ef_12, nI_clamp (by omega)]
  refine vp_callSl (va_Run.run (va_runV (As := [.long (lgj (xs (i + 1)) (xs (i + 2))), .long (lgj (xs (i + 3)) (xs (i + 4))), .int (xs (i + 5))]) (rest := []) ⟨hx, hb, hml, hown, hts⟩ (m_X0_sugar l qg (lgj (xs (i + 1)) (xs (i + 2))) (lgj (xs (i + 3)) (xs (i + 4))) (xs (i + 5))) (cwV 3 hts (lw_V q140 q141 q142 q6 q143) rfl rfl rfl (by decide +kernel) ⟨Nat.le_of_ble_eq_true rfl, Nat.le_of_ble_eq_true rfl⟩) ⟨fun _ _ _ _ q => q, va_recv hKg hPg (ci := 0) (q0 := 0) rfl rfl, fun U hU hW => ⟨rfl, trivial⟩⟩ rfl rfl hl.1 rfl (lv_room (Nat.le_of_ble_eq_true rfl)) dL_law_580 hfit)) (fun r_13 hr_13 => ?_)
  subst hr_13
  refine lv_aload_n hx hb dL_law_583 rfl (lv_at hl 2 rfl) ?_
  refine lv_aload_n hx hb dL_law_584 rfl (lv_at hl 0 rfl) ?_
  refine lv_iload_n hx hb dL_law_585 rfl (lv_at hl 3 rfl) ?_
  refine lv_iconst (v := 1) hx hb dL_law_586 (by decide) ?_
  refine lv_iadd hx hb dL_law_587 ?_
  refine lv_topi (fun f_14 ef_14 => ?_)
  obtain rfl : f_14 = nI (i + 1) := by rw [ef_14]; exact nI_add i 1
  refine va_sld hx hb hX hbl hbA hS (vp_in_nI (show i + 1 < L by omega) (by omega)) dL_law_588 ?_
  refine lv_topi (fun f_15 ef_15 => ?_)
  obtain rfl : f_15 = xs (i + 1) := by rw [ef_15, nI_clamp (by omega)]
  refine lv_i2l hx hb dL_law_589 rfl ?_
  refine lv_bipush (v := 32) hx hb dL_law_590 (by decide) ?_
  refine lv_lshl hx hb dL_law_592 rfl ?_
  refine lv_aload_n hx hb dL_law_593 rfl (lv_at hl 0 rfl) ?_
  refine lv_iload_n hx hb dL_law_594 rfl (lv_at hl 3 rfl) ?_
  refine lv_iconst (v := 2) hx hb dL_law_595 (by decide) ?_
  refine lv_iadd hx hb dL_law_596 ?_
  refine lv_topi (fun f_16 ef_16 => ?_)
  obtain rfl : f_16 = nI (i + 2) := by rw [ef_16]; exact nI_add i 2
  refine va_sld hx hb hX hbl hbA hS (vp_in_nI (show i + 2 < L by omega) (by omega)) dL_law_597 ?_
  refine lv_topi (fun f_17 ef_17 => ?_)
  obtain rfl : f_17 = xs (i + 2) := by rw [ef_17, nI_clamp (by omega)]
  refine lv_i2l hx hb dL_law_598 rfl ?_
  refine lv_ldc2 (own := R_law) (v := 4294967295) hx hb hown (hts _ q259) dL_law_599 ?_
  refine lv_land hx hb dL_law_602 ?_
  refine lv_lor hx hb dL_law_603 ?_
  refine lv_topl (fun f_18 ef_18 => ?_)
  obtain rfl : f_18 = lgj (xs (i + 1)) (xs (i + 2)) := by rw [ef_18]; rfl
  refine lv_aload_n hx hb dL_law_604 rfl (lv_at hl 0 rfl) ?_
  refine lv_iload_n hx hb dL_law_605 rfl (lv_at hl 3 rfl) ?_
  refine lv_iconst (v := 3) hx hb dL_law_606 (by decide) ?_
  refine lv_iadd hx hb dL_law_607 ?_
  refine lv_topi (fun f_19 ef_19 => ?_)
  obtain rfl : f_19 = nI (i + 3) := by rw [ef_19]; exact nI_add i 3
  refine va_sld hx hb hX hbl hbA hS (vp_in_nI (show i + 3 < L by omega) (by omega)) dL_law_608 ?_
  refine lv_topi (fun f_20 ef_20 => ?_)
  obtain rfl : f_20 = xs (i + 3) := by rw [ef_20, nI_clamp (by omega)]
  refine lv_i2l hx hb dL_law_609 rfl ?_
  refine lv_bipush (v := 32) hx hb dL_law_610 (by decide) ?_
  refine lv_lshl hx hb dL_law_612 rfl ?_
  refine lv_aload_n hx hb dL_law_613 rfl (lv_at hl 0 rfl) ?_
  refine lv_iload_n hx hb dL_law_614 rfl (lv_at hl 3 rfl) ?_
  refine lv_iconst (v := 4) hx hb dL_law_615 (by decide) ?_
  refine lv_iadd hx hb dL_law_616 ?_
  refine lv_topi (fun f_21 ef_21 => ?_)
  obtain rfl : f_21 = nI (i + 4) := by rw [ef_21]; exact nI_add i 4
  refine va_sld hx hb hX hbl hbA hS (vp_in_nI (show i + 4 < L by omega) (by omega)) dL_law_617 ?_
  refine lv_topi (fun f_22 ef_22 => ?_)
  obtain rfl : f_22 = xs (i + 4) := by rw [ef_22, nI_clamp (by omega)]
  refine lv_i2l hx hb dL_law_618 rfl ?_
  refine lv_ldc2 (own := R_law) (v := 4294967295) hx hb hown (hts _ q259) dL_law_619 ?_
  refine lv_land hx hb dL_law_622 ?_
  refine lv_lor hx hb dL_law_623 ?_
  refine lv_topl (fun f_23 ef_23 => ?_)
  obtain rfl : f_23 = lgj (xs (i + 3)) (xs (i + 4)) := by rw [ef_23]; rfl
  refine lv_aload_n hx hb dL_law_624 rfl (lv_at hl 0 rfl) ?_
  refine lv_iload_n hx hb dL_law_625 rfl (lv_at hl 3 rfl) ?_
  refine lv_iconst (v := 5) hx hb dL_law_626 (by decide) ?_
  refine lv_iadd hx hb dL_law_627 ?_
  refine lv_topi (fun f_24 ef_24 => ?_)
  obtain rfl : f_24 = nI (i + 5) := by rw [ef_24]; exact nI_add i 5
  refine va_sld hx hb hX hbl hbA hS (vp_in_nI (show i + 5 < L by omega) (by omega)) dL_law_628 ?_
  refine lv_topi (fun f_25 ef_25 => ?_)
  obtain rfl : f_25 = xs (i + 5) := by rw [ef_25, nI_clamp (by omega)]
  refine vp_callSl (va_Run.run (va_runV (As := [.long (lgj (xs (i + 1)) (xs (i + 2))), .long (lgj (xs (i + 3)) (xs (i + 4))), .int (xs (i + 5))]) (rest := [.long (su_val (lgj (xs (i + 1)) (xs (i + 2))) (lgj (xs (i + 3)) (xs (i + 4))) (xs (i + 5)))]) ⟨hx, hb, hml, hown, hts⟩ (m_X1_sugar l hm (lgj (xs (i + 1)) (xs (i + 2))) (lgj (xs (i + 3)) (xs (i + 4))) (xs (i + 5))) (cwV 3 hts (lw_V q235 q236 q237 q7 q238) rfl rfl rfl (by decide +kernel) ⟨Nat.le_of_ble_eq_true rfl, Nat.le_of_ble_eq_true rfl⟩) ⟨fun _ _ _ _ q => q, va_recv hK hPm (ci := 1) (q0 := 0) rfl rfl, fun U hU hW => ⟨rfl, trivial⟩⟩ rfl rfl hl.1 rfl (lv_room (Nat.le_of_ble_eq_true rfl)) dL_law_629 hfit)) (fun r_26 hr_26 => ?_)
  subst hr_26
  refine W.lcmp hx hb dL_law_632 ?_
  refine lv_if_eq (tgt := 893) hx hb dL_law_633 (by decide) (fun c_27 => ?_) (fun c_27 => ?_)
  · refine W.widen (k := cells + 2) (n := slots + 6) (by omega) (by omega) ?_
    exact cont H locs n ls_ fw fb fa ⟨hK, hP, hD, hS, hR⟩ ls (lv_sub hl [0, 1, 2, 3] rfl)
  · exact absurd (lg_cmp_self _) c_27

set_option maxHeartbeats 4000000 in
set_option maxRecDepth 100000 in
theorem law_c6 {p : Program} {l : Launch} {e : Env} {s : State} {m : MethodId} {below : List Frame} {meth : Method} {c : Code} {b L : Nat} {xs : Nat → Int32} {dC : Nat → ClassId} {dI : Nat → Nat → Nat} {H : Heap} {locs : List Loc} {qg hm hw hb_ ha : Nat} {A0 A1 A2 : ClassId} {n : Nat} {ls_ : List gx_L} {fw fb fa : Nat → UInt64} {cells slots i : Nat} {Q : State → Prop} {ls : Array Slot} (C0 : lw_At p s m meth c b L xs) (hL : L ≤ 384) (hi : i + 6 ≤ L) (hcl : cells + 2 ≤ 600359) (hsl : slots + 6 ≤ 7301170) (S0 : lx_S dC dI s H locs qg hm hw hb_ ha A0 A1 A2 n ls_ fw fb fa) (hl : lv_has ls 8 [(0, .ref b), (1, .ref qg), (2, .ref hm), (3, .int (nI i))])
    (cont : ∀ (H : Heap) (locs : List Loc) (n : Nat) (ls_ : List gx_L) (fw fb fa : Nat → UInt64), lx_S dC dI s H locs qg hm hw hb_ ha A0 A1 A2 n ls_ fw fb fa → ∀ ls : Array Slot, lv_has ls 8 [(0, .ref b), (1, .ref qg), (2, .ref hm), (3, .int (nI i))] → W p l e room_1 s m #[Value.ref b] below meth c H locs (cells + 2) (slots + 6) Q (F0 m 893 ls [])) :
    W p l e room_1 s m #[Value.ref b] below meth c H locs cells slots Q (F0 m 638 ls []) := by
  obtain ⟨hx, hb, hr, hml, hown, hts0, hX, hbl, hlocks, hgv⟩ := C0
  obtain ⟨hK, hP, hD, hS, hR⟩ := S0
  have hts : ∀ w ∈ lw_all, w.before #[Value.ref b] s = true := fun w h => hts0 w (lw_all_tbl h)
  have hN := lx_N hts0
  have hbA : ¬ (fun q : Nat => s.heap.size ≤ q) b := Nat.not_le.mpr hbl
  have hA : ∀ q : Nat, s.heap.size ≤ q → (fun q : Nat => s.heap.size ≤ q) q := fun _ h => h
  have hPg : va_P (dC, dI) vwCl (gx_W qg n ls_) H := va_P_sub hP (fun q hq => List.mem_append_left _ hq)
  have hPm : va_P (dC, dI) vwCl (gm_W hm hw hb_ ha A0 A1 A2 n fw fb fa) H := va_P_sub hP (fun q hq => List.mem_append_right _ hq)
  have hKg : va_K (dC, dI) vwCl [] s := hK.sub (tys' := []) [] rfl
  have hfit : cells + 0 ≤ room_1.cells ∧ slots + 0 ≤ room_1.slots := ⟨by show cells + 0 ≤ 600359; omega, by show slots + 0 ≤ 7301170; omega⟩
  have hSm := rel_S hR
  obtain ⟨V, hv⟩ := lw_bst hR (xs (i + 2))
  refine lv_aload_n hx hb dL_law_638 rfl (lv_at hl 1 rfl) ?_
  refine lv_aload_n hx hb dL_law_639 rfl (lv_at hl 0 rfl) ?_
  refine lv_iload_n hx hb dL_law_640 rfl (lv_at hl 3 rfl) ?_
  refine lv_iconst (v := 1) hx hb dL_law_641 (by decide) ?_
  refine lv_iadd hx hb dL_law_642 ?_
  refine lv_topi (fun f_1 ef_1 => ?_)
  obtain rfl : f_1 = nI (i + 1) := by rw [ef_1]; exact nI_add i 1
  refine va_sld hx hb hX hbl hbA hS (vp_in_nI (show i + 1 < L by omega) (by omega)) dL_law_643 ?_
  refine lv_topi (fun f_2 ef_2 => ?_)
  obtain rfl : f_2 = xs (i + 1) := by rw [ef_2, nI_clamp (by omega)]
  refine lv_i2d hx hb dL_law_644 ?_
  refine lv_ldc2d (own := R_law) (v := k_8) hx hb hown (hts _ q258) dL_law_645 ?_
  refine lv_dmul hx hb dL_law_648 (n_gk _) ?_
  refine lv_topd (fun f_3 ef_3 => ?_)
  obtain rfl : f_3 = gk (xs (i + 1)) := by rw [ef_3]; rfl
  refine lv_aload_n hx hb dL_law_649 rfl (lv_at hl 0 rfl) ?_
  refine lv_iload_n hx hb dL_law_650 rfl (lv_at hl 3 rfl) ?_
  refine lv_iconst (v := 2) hx hb dL_law_651 (by decide) ?_
  refine lv_iadd hx hb dL_law_652 ?_
  refine lv_topi (fun f_4 ef_4 => ?_)
  obtain rfl : f_4 = nI (i + 2) := by rw [ef_4]; exact nI_add i 2
  refine va_sld hx hb hX hbl hbA hS (vp_in_nI (show i + 2 < L by omega) (by omega)) dL_law_653 ?_
  refine lv_topi (fun f_5 ef_5 => ?_)
  obtain rfl : f_5 = xs (i + 2) := by rw [ef_5, nI_clamp (by omega)]
  refine lv_i2d hx hb dL_law_654 ?_
  refine lv_ldc2d (own := R_law) (v := k_8) hx hb hown (hts _ q258) dL_law_655 ?_
  refine lv_dmul hx hb dL_law_658 (n_gk _) ?_
  refine lv_topd (fun f_6 ef_6 => ?_)
  obtain rfl : f_6 = gk (xs (i + 2)) := by rw [ef_6]; rfl
  refine lv_aload_n hx hb dL_law_659 rfl (lv_at hl 0 rfl) ?_
  refine lv_iload_n hx hb dL_law_660 rfl (lv_at hl 3 rfl) ?_
  refine lv_iconst (v := 3) hx hb dL_law_661 (by decide) ?_
  refine lv_iadd hx hb dL_law_662 ?_
  refine lv_topi (fun f_7 ef_7 => ?_)
  obtain rfl : f_7 = nI (i + 3) := by rw [ef_7]; exact nI_add i 3
  refine va_sld hx hb hX hbl hbA hS (vp_in_nI (show i + 3 < L by omega) (by omega)) dL_law_663 ?_
  refine lv_topi (fun f_8 ef_8 => ?_)
  obtain rfl : f_8 = xs (i + 3) := by rw [ef_8, nI_clamp (by omega)]
  refine lv_i2d hx hb dL_law_664 ?_
  refine lv_ldc2d (own := R_law) (v := k_8) hx hb hown (hts _ q258) dL_law_665 ?_
  refine lv_dmul hx hb dL_law_668 (n_gk _) ?_
  refine lv_topd (fun f_9 ef_9 => ?_)
  obtain rfl : f_9 = gk (xs (i + 3)) := by rw [ef_9]; rfl
  refine vp_callSi (va_Run.run (va_runV (As := [.double (gk (xs (i + 1))), .double (gk (xs (i + 2))), .double (gk (xs (i + 3)))]) (rest := []) ⟨hx, hb, hml, hown, hts⟩ (m_X0_burst l dC dI qg n ls_ (gk (xs (i + 1))) (gk (xs (i + 2))) (gk (xs (i + 3))) V (fin_gk _) (fun h k hk => ⟨(hv h k hk).1, bnd_fin (hv h k hk).2.2⟩)) (cwV 3 hts (lw_V q146 q147 q148 q6 q149) rfl rfl rfl (by decide +kernel) ⟨Nat.le_of_ble_eq_true rfl, Nat.le_of_ble_eq_true rfl⟩) ⟨gx_fb, va_recv hKg hPg (ci := 0) (q0 := 0) rfl rfl, fun U hU hW => ⟨rfl, gx_pre hPg hKg hN hU hW⟩⟩ rfl rfl hl.1 rfl (lv_room (Nat.le_of_ble_eq_true rfl)) dL_law_669 hfit)) (fun r_10 hr_10 => ?_)
  subst hr_10
  refine lv_aload_n hx hb dL_law_672 rfl (lv_at hl 2 rfl) ?_
  refine lv_aload_n hx hb dL_law_673 rfl (lv_at hl 0 rfl) ?_
  refine lv_iload_n hx hb dL_law_674 rfl (lv_at hl 3 rfl) ?_
  refine lv_iconst (v := 1) hx hb dL_law_675 (by decide) ?_
  refine lv_iadd hx hb dL_law_676 ?_
  refine lv_topi (fun f_11 ef_11 => ?_)
  obtain rfl : f_11 = nI (i + 1) := by rw [ef_11]; exact nI_add i 1
  refine va_sld hx hb hX hbl hbA hS (vp_in_nI (show i + 1 < L by omega) (by omega)) dL_law_677 ?_
  refine lv_topi (fun f_12 ef_12 => ?_)
  obtain rfl : f_12 = xs (i + 1) := by rw [ef_12, nI_clamp (by omega)]
  refine lv_i2d hx hb dL_law_678 ?_
  refine lv_ldc2d (own := R_law) (v := k_8) hx hb hown (hts _ q258) dL_law_679 ?_
  refine lv_dmul hx hb dL_law_682 (n_gk _) ?_
  refine lv_topd (fun f_13 ef_13 => ?_)
  obtain rfl : f_13 = gk (xs (i + 1)) := by rw [ef_13]; rfl
  refine lv_aload_n hx hb dL_law_683 rfl (lv_at hl 0 rfl) ?_
  refine lv_iload_n hx hb dL_law_684 rfl (lv_at hl 3 rfl) ?_
  refine lv_iconst (v := 2) hx hb dL_law_685 (by decide) ?_
  refine lv_iadd hx hb dL_law_686 ?_
  refine lv_topi (fun f_14 ef_14 => ?_)
  obtain rfl : f_14 = nI (i + 2) := by rw [ef_14]; exact nI_add i 2
  refine va_sld hx hb hX hbl hbA hS (vp_in_nI (show i + 2 < L by omega) (by omega)) dL_law_687 ?_
  refine lv_topi (fun f_15 ef_15 => ?_)
  obtain rfl : f_15 = xs (i + 2) := by rw [ef_15, nI_clamp (by omega)]
  refine lv_i2d hx hb dL_law_688 ?_
  refine lv_ldc2d (own := R_law) (v := k_8) hx hb hown (hts _ q258) dL_law_689 ?_
  refine lv_dmul hx hb dL_law_692 (n_gk _) ?_
  refine lv_topd (fun f_16 ef_16 => ?_)
  obtain rfl : f_16 = gk (xs (i + 2)) := by rw [ef_16]; rfl
  refine lv_aload_n hx hb dL_law_693 rfl (lv_at hl 0 rfl) ?_
  refine lv_iload_n hx hb dL_law_694 rfl (lv_at hl 3 rfl) ?_
  refine lv_iconst (v := 3) hx hb dL_law_695 (by decide) ?_
  refine lv_iadd hx hb dL_law_696 ?_
  refine lv_topi (fun f_17 ef_17 => ?_)
  obtain rfl : f_17 = nI (i + 3) := by rw [ef_17]; exact nI_add i 3
  refine va_sld hx hb hX hbl hbA hS (vp_in_nI (show i + 3 < L by omega) (by omega)) dL_law_697 ?_
  refine lv_topi (fun f_18 ef_18 => ?_)
  obtain rfl : f_18 = xs (i + 3) := by rw [ef_18, nI_clamp (by omega)]
  refine lv_i2d hx hb dL_law_698 ?_
  refine lv_ldc2d (own := R_law) (v := k_8) hx hb hown (hts _ q258) dL_law_699 ?_
  refine lv_dmul hx hb dL_law_702 (n_gk _) ?_
  refine lv_topd (fun f_19 ef_19 => ?_)
  obtain rfl : f_19 = gk (xs (i + 3)) := by rw [ef_19]; rfl
  refine vp_callSi (va_Run.run (va_runV (As := [.double (gk (xs (i + 1))), .double (gk (xs (i + 2))), .double (gk (xs (i + 3)))]) (rest := [.int (bs_val V (gk (xs (i + 1))) (gk (xs (i + 2))) (gk (xs (i + 3))))]) ⟨hx, hb, hml, hown, hts⟩ (m_X1_burst l dC dI hm hw hb_ ha A0 A1 A2 n fw fb fa (fun k => zv (fw k)) (fun k => zv (fb k)) hSm (gk (xs (i + 1))) (gk (xs (i + 2))) (gk (xs (i + 3))) V (fin_gk _) (fun h k hk => ⟨(hv h k hk).2.1, bnd_fin (hv h k hk).2.2⟩)) (cwV 3 hts (lw_V q241 q242 q243 q7 q244) rfl rfl rfl (by decide +kernel) ⟨Nat.le_of_ble_eq_true rfl, Nat.le_of_ble_eq_true rfl⟩) ⟨gm_fb, va_recv hK hPm (ci := 1) (q0 := 0) rfl rfl, fun U hU hW => ⟨rfl, gm_pre hPm hK hU hW⟩⟩ rfl rfl hl.1 rfl (lv_room (Nat.le_of_ble_eq_true rfl)) dL_law_703 hfit)) (fun r_20 hr_20 => ?_)
  subst hr_20
  refine lv_icmp_eq (tgt := 893) hx hb dL_law_706 (by decide) (fun c_21 => ?_) (fun c_21 => ?_)
  · refine W.widen (k := cells + 2) (n := slots + 6) (by omega) (by omega) ?_
    exact cont H locs n ls_ fw fb fa ⟨hK, hP, hD, hS, hR⟩ ls (lv_sub hl [0, 1, 2, 3] rfl)
  · exact absurd (rfl) c_21

set_option maxHeartbeats 4000000 in
set_option maxRecDepth 100000 in
theorem law_c7 {p : Program} {l : Launch} {e : Env} {s : State} {m : MethodId} {below : List Frame} {meth : Method} {c : Code} {b L : Nat} {xs : Nat → Int32} {dC : Nat → ClassId} {dI : Nat → Nat → Nat} {H : Heap} {locs : List Loc} {qg hm hw hb_ ha : Nat} {A0 A1 A2 : ClassId} {n : Nat} {ls_ : List gx_L} {fw fb fa : Nat → UInt64} {cells slots i : Nat} {Q : State → Prop} {ls : Array Slot} (C0 : lw_At p s m meth c b L xs) (hL : L ≤ 384) (hi : i + 6 ≤ L) (hcl : cells + 2 ≤ 600359) (hsl : slots + 6 ≤ 7301170) (S0 : lx_S dC dI s H locs qg hm hw hb_ ha A0 A1 A2 n ls_ fw fb fa) (hl : lv_has ls 8 [(0, .ref b), (1, .ref qg), (2, .ref hm), (3, .int (nI i))])
    (cont : ∀ (H : Heap) (locs : List Loc) (n : Nat) (ls_ : List gx_L) (fw fb fa : Nat → UInt64), lx_S dC dI s H locs qg hm hw hb_ ha A0 A1 A2 n ls_ fw fb fa → ∀ ls : Array Slot, lv_has ls 8 [(0, .ref b), (1, .ref qg), (2, .ref hm), (3, .int (nI i))] → W p l e room_1 s m #[Value.ref b] below meth c H locs (cells + 2) (slots + 6) Q (F0 m 893 ls [])) :
    W p l e room_1 s m #[Value.ref b] below meth c H locs cells slots Q (F0 m 711 ls []) := by
  obtain ⟨hx, hb, hr, hml, hown, hts0, hX, hbl, hlocks, hgv⟩ := C0
  obtain ⟨hK, hP, hD, hS, hR⟩ := S0
  have hts : ∀ w ∈ lw_all, w.before #[Value.ref b] s = true := fun w h => hts0 w (lw_all_tbl h)
  have hN := lx_N hts0
  have hbA : ¬ (fun q : Nat => s.heap.size ≤ q) b := Nat.not_le.mpr hbl
  have hA : ∀ q : Nat, s.heap.size ≤ q → (fun q : Nat => s.heap.size ≤ q) q := fun _ h => h
  have hPg : va_P (dC, dI) vwCl (gx_W qg n ls_) H := va_P_sub hP (fun q hq => List.mem_append_left _ hq)
  have hPm : va_P (dC, dI) vwCl (gm_W hm hw hb_ ha A0 A1 A2 n fw fb fa) H := va_P_sub hP (fun q hq => List.mem_append_right _ hq)
  have hKg : va_K (dC, dI) vwCl [] s := hK.sub (tys' := []) [] rfl
  have hfit : cells + 0 ≤ room_1.cells ∧ slots + 0 ≤ room_1.slots := ⟨by show cells + 0 ≤ 600359; omega, by show slots + 0 ≤ 7301170; omega⟩
  have hSm := rel_S hR
  refine lv_aload_n hx hb dL_law_711 rfl (lv_at hl 1 rfl) ?_
  refine lv_aload_n hx hb dL_law_712 rfl (lv_at hl 0 rfl) ?_
  refine lv_iload_n hx hb dL_law_713 rfl (lv_at hl 3 rfl) ?_
  refine lv_iconst (v := 1) hx hb dL_law_714 (by decide) ?_
  refine lv_iadd hx hb dL_law_715 ?_
  refine lv_topi (fun f_1 ef_1 => ?_)
  obtain rfl : f_1 = nI (i + 1) := by rw [ef_1]; exact nI_add i 1
  refine va_sld hx hb hX hbl hbA hS (vp_in_nI (show i + 1 < L by omega) (by omega)) dL_law_716 ?_
  refine lv_topi (fun f_2 ef_2 => ?_)
  obtain rfl : f_2 = xs (i + 1) := by rw [ef_2, nI_clamp (by omega)]
  refine lv_aload_n hx hb dL_law_717 rfl (lv_at hl 0 rfl) ?_
  refine lv_iload_n hx hb dL_law_718 rfl (lv_at hl 3 rfl) ?_
  refine lv_iconst (v := 2) hx hb dL_law_719 (by decide) ?_
  refine lv_iadd hx hb dL_law_720 ?_
  refine lv_topi (fun f_3 ef_3 => ?_)
  obtain rfl : f_3 = nI (i + 2) := by rw [ef_3]; exact nI_add i 2
  refine va_sld hx hb hX hbl hbA hS (vp_in_nI (show i + 2 < L by omega) (by omega)) dL_law_721 ?_
  refine lv_topi (fun f_4 ef_4 => ?_)
  obtain rfl : f_4 = xs (i + 2) := by rw [ef_4, nI_clamp (by omega)]
  refine lv_i2d hx hb dL_law_722 ?_
  refine lv_ldc2d (own := R_law) (v := k_8) hx hb hown (hts _ q258) dL_law_723 ?_
  refine lv_dmul hx hb dL_law_726 (n_gk _) ?_
  refine lv_topd (fun f_5 ef_5 => ?_)
  obtain rfl : f_5 = gk (xs (i + 2)) := by rw [ef_5]; rfl
  refine vp_callSd (va_Run.run (va_runV (As := [.int (xs (i + 1)), .double (gk (xs (i + 2)))]) (rest := []) ⟨hx, hb, hml, hown, hts⟩ (m_X0_foam l qg (xs (i + 1)) (gk (xs (i + 2))) (fin_gk _)) (cwV 2 hts (lw_V q151 q152 q153 q6 q154) rfl rfl rfl (by decide +kernel) ⟨Nat.le_of_ble_eq_true rfl, Nat.le_of_ble_eq_true rfl⟩) ⟨fun _ _ _ _ q => q, va_recv hKg hPg (ci := 0) (q0 := 0) rfl rfl, fun U hU hW => ⟨rfl, trivial⟩⟩ rfl rfl hl.1 rfl (lv_room (Nat.le_of_ble_eq_true rfl)) dL_law_727 hfit)) (fun r_6 hr_6 => ?_)
  subst hr_6
  refine lv_dstore (lv' := [(4, .double (fm_x (xs (i + 1)) (gk (xs (i + 2))))), (0, .ref b), (1, .ref qg), (2, .ref hm), (3, .int (nI i))]) hx hb dL_law_730 hl (by decide) rfl (fun ls hl => ?_)
  refine lv_aload_n hx hb dL_law_732 rfl (lv_at hl 3 rfl) ?_
  refine lv_aload_n hx hb dL_law_733 rfl (lv_at hl 1 rfl) ?_
  refine lv_iload_n hx hb dL_law_734 rfl (lv_at hl 4 rfl) ?_
  refine lv_iconst (v := 1) hx hb dL_law_735 (by decide) ?_
  refine lv_iadd hx hb dL_law_736 ?_
  refine lv_topi (fun f_7 ef_7 => ?_)
  obtain rfl : f_7 = nI (i + 1) := by rw [ef_7]; exact nI_add i 1
  refine va_sld hx hb hX hbl hbA hS (vp_in_nI (show i + 1 < L by omega) (by omega)) dL_law_737 ?_
  refine lv_topi (fun f_8 ef_8 => ?_)
  obtain rfl : f_8 = xs (i + 1) := by rw [ef_8, nI_clamp (by omega)]
  refine lv_aload_n hx hb dL_law_738 rfl (lv_at hl 1 rfl) ?_
  refine lv_iload_n hx hb dL_law_739 rfl (lv_at hl 4 rfl) ?_
  refine lv_iconst (v := 2) hx hb dL_law_740 (by decide) ?_
  refine lv_iadd hx hb dL_law_741 ?_
  refine lv_topi (fun f_9 ef_9 => ?_)
  obtain rfl : f_9 = nI (i + 2) := by rw [ef_9]; exact nI_add i 2
  refine va_sld hx hb hX hbl hbA hS (vp_in_nI (show i + 2 < L by omega) (by omega)) dL_law_742 ?_
  refine lv_topi (fun f_10 ef_10 => ?_)
  obtain rfl : f_10 = xs (i + 2) := by rw [ef_10, nI_clamp (by omega)]
  refine lv_i2d hx hb dL_law_743 ?_
  refine lv_ldc2d (own := R_law) (v := k_8) hx hb hown (hts _ q258) dL_law_744 ?_
  refine lv_dmul hx hb dL_law_747 (n_gk _) ?_
  refine lv_topd (fun f_11 ef_11 => ?_)
  obtain rfl : f_11 = gk (xs (i + 2)) := by rw [ef_11]; rfl
  refine vp_callSd (va_Run.run (va_runV (As := [.int (xs (i + 1)), .double (gk (xs (i + 2)))]) (rest := []) ⟨hx, hb, hml, hown, hts⟩ (m_X1_foam l hm (xs (i + 1)) (gk (xs (i + 2))) (fin_gk _)) (cwV 2 hts (lw_V q246 q247 q248 q7 q249) rfl rfl rfl (by decide +kernel) ⟨Nat.le_of_ble_eq_true rfl, Nat.le_of_ble_eq_true rfl⟩) ⟨fun _ _ _ _ q => q, va_recv hK hPm (ci := 1) (q0 := 0) rfl rfl, fun U hU hW => ⟨rfl, trivial⟩⟩ rfl rfl hl.1 rfl (lv_room (Nat.le_of_ble_eq_true rfl)) dL_law_748 hfit)) (fun r_12 hr_12 => ?_)
  subst hr_12
  refine lv_dstore (lv' := [(6, .double (fm_m (xs (i + 1)) (gk (xs (i + 2))))), (4, .double (fm_x (xs (i + 1)) (gk (xs (i + 2))))), (0, .ref b), (1, .ref qg), (2, .ref hm), (3, .int (nI i))]) hx hb dL_law_751 hl (by decide) rfl (fun ls hl => ?_)
  refine lv_dload hx hb dL_law_753 (lv_at hl 1 rfl) ?_
  refine lv_dload hx hb dL_law_755 (lv_at hl 0 rfl) ?_
  refine lv_dcmp hx hb dL_law_757 ?_
  refine lv_if_eq (tgt := 779) hx hb dL_law_758 (by decide) (fun c_13 => ?_) (fun c_13 => ?_)
  · refine lv_goto (tgt := 893) hx hb dL_law_779 (by decide) ?_
    refine W.widen (k := cells + 2) (n := slots + 6) (by omega) (by omega) ?_
    exact cont H locs n ls_ fw fb fa ⟨hK, hP, hD, hS, hR⟩ ls (lv_sub hl [2, 3, 4, 5] rfl)
  · exact absurd (by obtain ⟨z, h1, h2⟩ := fm_eq (xs (i + 1)) (fin_gk (xs (i + 2))); exact (cv_eq h1 h2 .l).mpr rfl) c_13

set_option maxHeartbeats 4000000 in
set_option maxRecDepth 100000 in
theorem law_c8 {p : Program} {l : Launch} {e : Env} {s : State} {m : MethodId} {below : List Frame} {meth : Method} {c : Code} {b L : Nat} {xs : Nat → Int32} {dC : Nat → ClassId} {dI : Nat → Nat → Nat} {H : Heap} {locs : List Loc} {qg hm hw hb_ ha : Nat} {A0 A1 A2 : ClassId} {n : Nat} {ls_ : List gx_L} {fw fb fa : Nat → UInt64} {cells slots i : Nat} {Q : State → Prop} {ls : Array Slot} (C0 : lw_At p s m meth c b L xs) (hL : L ≤ 384) (hi : i + 6 ≤ L) (hcl : cells + 2 ≤ 600359) (hsl : slots + 6 ≤ 7301170) (S0 : lx_S dC dI s H locs qg hm hw hb_ ha A0 A1 A2 n ls_ fw fb fa) (hl : lv_has ls 8 [(0, .ref b), (1, .ref qg), (2, .ref hm), (3, .int (nI i))])
    (cont : ∀ (H : Heap) (locs : List Loc) (n : Nat) (ls_ : List gx_L) (fw fb fa : Nat → UInt64), lx_S dC dI s H locs qg hm hw hb_ ha A0 A1 A2 n ls_ fw fb fa → ∀ ls : Array Slot, lv_has ls 8 [(0, .ref b), (1, .ref qg), (2, .ref hm), (3, .int (nI i))] → W p l e room_1 s m #[Value.ref b] below meth c H locs (cells + 2) (slots + 6) Q (F0 m 893 ls [])) :
    W p l e room_1 s m #[Value.ref b] below meth c H locs cells slots Q (F0 m 782 ls []) := by
  obtain ⟨hx, hb, hr, hml, hown, hts0, hX, hbl, hlocks, hgv⟩ := C0
  obtain ⟨hK, hP, hD, hS, hR⟩ := S0
  have hts : ∀ w ∈ lw_all, w.before #[Value.ref b] s = true := fun w h => hts0 w (lw_all_tbl h)
  have hN := lx_N hts0
  have hbA : ¬ (fun q : Nat => s.heap.size ≤ q) b := Nat.not_le.mpr hbl
  have hA : ∀ q : Nat, s.heap.size ≤ q → (fun q : Nat => s.heap.size ≤ q) q := fun _ h => h
  have hPg : va_P (dC, dI) vwCl (gx_W qg n ls_) H := va_P_sub hP (fun q hq => List.mem_append_left _ hq)
  have hPm : va_P (dC, dI) vwCl (gm_W hm hw hb_ ha A0 A1 A2 n fw fb fa) H := va_P_sub hP (fun q hq => List.mem_append_right _ hq)
  have hKg : va_K (dC, dI) vwCl [] s := hK.sub (tys' := []) [] rfl
  have hfit : cells + 0 ≤ room_1.cells ∧ slots + 0 ≤ room_1.slots := ⟨by show cells + 0 ≤ 600359; omega, by show slots + 0 ≤ 7301170; omega⟩
  have hSm := rel_S hR
  obtain ⟨v, hv⟩ := lw_mix hR (xs (i + 1)) (xs (i + 2)) (xs (i + 3))
  refine lv_aload_n hx hb dL_law_782 rfl (lv_at hl 1 rfl) ?_
  refine lv_aload_n hx hb dL_law_783 rfl (lv_at hl 0 rfl) ?_
  refine lv_iload_n hx hb dL_law_784 rfl (lv_at hl 3 rfl) ?_
  refine lv_iconst (v := 1) hx hb dL_law_785 (by decide) ?_
  refine lv_iadd hx hb dL_law_786 ?_
  refine lv_topi (fun f_1 ef_1 => ?_)
  obtain rfl : f_1 = nI (i + 1) := by rw [ef_1]; exact nI_add i 1
  refine va_sld hx hb hX hbl hbA hS (vp_in_nI (show i + 1 < L by omega) (by omega)) dL_law_787 ?_
  refine lv_topi (fun f_2 ef_2 => ?_)
  obtain rfl : f_2 = xs (i + 1) := by rw [ef_2, nI_clamp (by omega)]
  refine lv_i2d hx hb dL_law_788 ?_
  refine lv_ldc2d (own := R_law) (v := k_8) hx hb hown (hts _ q258) dL_law_789 ?_
  refine lv_dmul hx hb dL_law_792 (n_gk _) ?_
  refine lv_topd (fun f_3 ef_3 => ?_)
  obtain rfl : f_3 = gk (xs (i + 1)) := by rw [ef_3]; rfl
  refine lv_aload_n hx hb dL_law_793 rfl (lv_at hl 0 rfl) ?_
  refine lv_iload_n hx hb dL_law_794 rfl (lv_at hl 3 rfl) ?_
  refine lv_iconst (v := 2) hx hb dL_law_795 (by decide) ?_
  refine lv_iadd hx hb dL_law_796 ?_
  refine lv_topi (fun f_4 ef_4 => ?_)
  obtain rfl : f_4 = nI (i + 2) := by rw [ef_4]; exact nI_add i 2
  refine va_sld hx hb hX hbl hbA hS (vp_in_nI (show i + 2 < L by omega) (by omega)) dL_law_797 ?_
  refine lv_topi (fun f_5 ef_5 => ?_)
  obtain rfl : f_5 = xs (i + 2) := by rw [ef_5, nI_clamp (by omega)]
  refine lv_i2d hx hb dL_law_798 ?_
  refine lv_ldc2d (own := R_law) (v := k_8) hx hb hown (hts _ q258) dL_law_799 ?_
  refine lv_dmul hx hb dL_law_802 (n_gk _) ?_
  refine lv_topd (fun f_6 ef_6 => ?_)
  obtain rfl : f_6 = gk (xs (i + 2)) := by rw [ef_6]; rfl
  refine lv_aload_n hx hb dL_law_803 rfl (lv_at hl 0 rfl) ?_
  refine lv_iload_n hx hb dL_law_804 rfl (lv_at hl 3 rfl) ?_
  refine lv_iconst (v := 3) hx hb dL_law_805 (by decide) ?_
  refine lv_iadd hx hb dL_law_806 ?_
  refine lv_topi (fun f_7 ef_7 => ?_)
  obtain rfl : f_7 = nI (i + 3) := by rw [ef_7]; exact nI_add i 3
  refine va_sld hx hb hX hbl hbA hS (vp_in_nI (show i + 3 < L by omega) (by omega)) dL_law_807 ?_
  refine lv_topi (fun f_8 ef_8 => ?_)
  obtain rfl : f_8 = xs (i + 3) := by rw [ef_8, nI_clamp (by omega)]
  refine lv_i2d hx hb dL_law_808 ?_
  refine lv_ldc2d (own := R_law) (v := k_8) hx hb hown (hts _ q258) dL_law_809 ?_
  refine lv_dmul hx hb dL_law_812 (n_gk _) ?_
  refine lv_topd (fun f_9 ef_9 => ?_)
  obtain rfl : f_9 = gk (xs (i + 3)) := by rw [ef_9]; rfl
  refine lv_aload_n hx hb dL_law_813 rfl (lv_at hl 0 rfl) ?_
  refine lv_iload_n hx hb dL_law_814 rfl (lv_at hl 3 rfl) ?_
  refine lv_iconst (v := 4) hx hb dL_law_815 (by decide) ?_
  refine lv_iadd hx hb dL_law_816 ?_
  refine lv_topi (fun f_10 ef_10 => ?_)
  obtain rfl : f_10 = nI (i + 4) := by rw [ef_10]; exact nI_add i 4
  refine va_sld hx hb hX hbl hbA hS (vp_in_nI (show i + 4 < L by omega) (by omega)) dL_law_817 ?_
  refine lv_topi (fun f_11 ef_11 => ?_)
  obtain rfl : f_11 = xs (i + 4) := by rw [ef_11, nI_clamp (by omega)]
  refine vp_callSd (va_Run.run (va_runV (As := [.double (gk (xs (i + 1))), .double (gk (xs (i + 2))), .double (gk (xs (i + 3))), .int (xs (i + 4))]) (rest := []) ⟨hx, hb, hml, hown, hts⟩ (m_X0_mixed l dC dI qg n ls_ (gk (xs (i + 1))) (gk (xs (i + 2))) (gk (xs (i + 3))) v (xs (i + 4)) (fin_gk _) (fin_gk _) (fun h1 h2 => (hv h1 h2).1)) (cwV 4 hts (lw_V q157 q158 q159 q6 q160) rfl rfl rfl (by decide +kernel) ⟨Nat.le_of_ble_eq_true rfl, Nat.le_of_ble_eq_true rfl⟩) ⟨gx_fb, va_recv hKg hPg (ci := 0) (q0 := 0) rfl rfl, fun U hU hW => ⟨rfl, gx_pre hPg hKg hN hU hW⟩⟩ rfl rfl hl.1 rfl (lv_room (Nat.le_of_ble_eq_true rfl)) dL_law_818 hfit)) (fun r_12 hr_12 => ?_)
  subst hr_12
  refine lv_dstore (lv' := [(4, .double (mx_val v (gk (xs (i + 1))) (gk (xs (i + 2))) (gk (xs (i + 3))) (xs (i + 4)))), (0, .ref b), (1, .ref qg), (2, .ref hm), (3, .int (nI i))]) hx hb dL_law_821 hl (by decide) rfl (fun ls hl => ?_)
  refine lv_aload_n hx hb dL_law_823 rfl (lv_at hl 3 rfl) ?_
  refine lv_aload_n hx hb dL_law_824 rfl (lv_at hl 1 rfl) ?_
  refine lv_iload_n hx hb dL_law_825 rfl (lv_at hl 4 rfl) ?_
  refine lv_iconst (v := 1) hx hb dL_law_826 (by decide) ?_
  refine lv_iadd hx hb dL_law_827 ?_
  refine lv_topi (fun f_13 ef_13 => ?_)
  obtain rfl : f_13 = nI (i + 1) := by rw [ef_13]; exact nI_add i 1
  refine va_sld hx hb hX hbl hbA hS (vp_in_nI (show i + 1 < L by omega) (by omega)) dL_law_828 ?_
  refine lv_topi (fun f_14 ef_14 => ?_)
  obtain rfl : f_14 = xs (i + 1) := by rw [ef_14, nI_clamp (by omega)]
  refine lv_i2d hx hb dL_law_829 ?_
  refine lv_ldc2d (own := R_law) (v := k_8) hx hb hown (hts _ q258) dL_law_830 ?_
  refine lv_dmul hx hb dL_law_833 (n_gk _) ?_
  refine lv_topd (fun f_15 ef_15 => ?_)
  obtain rfl : f_15 = gk (xs (i + 1)) := by rw [ef_15]; rfl
  refine lv_aload_n hx hb dL_law_834 rfl (lv_at hl 1 rfl) ?_
  refine lv_iload_n hx hb dL_law_835 rfl (lv_at hl 4 rfl) ?_
  refine lv_iconst (v := 2) hx hb dL_law_836 (by decide) ?_
  refine lv_iadd hx hb dL_law_837 ?_
  refine lv_topi (fun f_16 ef_16 => ?_)
  obtain rfl : f_16 = nI (i + 2) := by rw [ef_16]; exact nI_add i 2
  refine va_sld hx hb hX hbl hbA hS (vp_in_nI (show i + 2 < L by omega) (by omega)) dL_law_838 ?_
  refine lv_topi (fun f_17 ef_17 => ?_)
  obtain rfl : f_17 = xs (i + 2) := by rw [ef_17, nI_clamp (by omega)]
  refine lv_i2d hx hb dL_law_839 ?_
  refine lv_ldc2d (own := R_law) (v := k_8) hx hb hown (hts _ q258) dL_law_840 ?_
  refine lv_dmul hx hb dL_law_843 (n_gk _) ?_
  refine lv_topd (fun f_18 ef_18 => ?_)
  obtain rfl : f_18 = gk (xs (i + 2)) := by rw [ef_18]; rfl
  refine lv_aload_n hx hb dL_law_844 rfl (lv_at hl 1 rfl) ?_
  refine lv_iload_n hx hb dL_law_845 rfl (lv_at hl 4 rfl) ?_
  refine lv_iconst (v := 3) hx hb dL_law_846 (by decide) ?_
  refine lv_iadd hx hb dL_law_847 ?_
  refine lv_topi (fun f_19 ef_19 => ?_)
  obtain rfl : f_19 = nI (i + 3) := by rw [ef_19]; exact nI_add i 3
  refine va_sld hx hb hX hbl hbA hS (vp_in_nI (show i + 3 < L by omega) (by omega)) dL_law_848 ?_
  refine lv_topi (fun f_20 ef_20 => ?_)
  obtain rfl : f_20 = xs (i + 3) := by rw [ef_20, nI_clamp (by omega)]
  refine lv_i2d hx hb dL_law_849 ?_
  refine lv_ldc2d (own := R_law) (v := k_8) hx hb hown (hts _ q258) dL_law_850 ?_
  refine lv_dmul hx hb dL_law_853 (n_gk _) ?_
  refine lv_topd (fun f_21 ef_21 => ?_)
  obtain rfl : f_21 = gk (xs (i + 3)) := by rw [ef_21]; rfl
  refine lv_aload_n hx hb dL_law_854 rfl (lv_at hl 1 rfl) ?_
  refine lv_iload_n hx hb dL_law_855 rfl (lv_at hl 4 rfl) ?_
  refine lv_iconst (v := 4) hx hb dL_law_856 (by decide) ?_
  refine lv_iadd hx hb dL_law_857 ?_
  refine lv_topi (fun f_22 ef_22 => ?_)
  obtain rfl : f_22 = nI (i + 4) := by rw [ef_22]; exact nI_add i 4
  refine va_sld hx hb hX hbl hbA hS (vp_in_nI (show i + 4 < L by omega) (by omega)) dL_law_858 ?_
  refine lv_topi (fun f_23 ef_23 => ?_)
  obtain rfl : f_23 = xs (i + 4) := by rw [ef_23, nI_clamp (by omega)]
  refine vp_callSd (va_Run.run (va_runV (As := [.double (gk (xs (i + 1))), .double (gk (xs (i + 2))), .double (gk (xs (i + 3))), .int (xs (i + 4))]) (rest := []) ⟨hx, hb, hml, hown, hts⟩ (m_X1_mixed l dC dI hm hw hb_ ha A0 A1 A2 n fw fb fa (fun k => zv (fw k)) (fun k => zv (fb k)) hSm (gk (xs (i + 1))) (gk (xs (i + 2))) (gk (xs (i + 3))) v (xs (i + 4)) (fin_gk _) (fin_gk _) (fun h1 h2 => (hv h1 h2).2.1)) (cwV 4 hts (lw_V q252 q253 q254 q7 q255) rfl rfl rfl (by decide +kernel) ⟨Nat.le_of_ble_eq_true rfl, Nat.le_of_ble_eq_true rfl⟩) ⟨gm_fb, va_recv hK hPm (ci := 1) (q0 := 0) rfl rfl, fun U hU hW => ⟨rfl, gm_pre hPm hK hU hW⟩⟩ rfl rfl hl.1 rfl (lv_room (Nat.le_of_ble_eq_true rfl)) dL_law_859 hfit)) (fun r_24 hr_24 => ?_)
  subst hr_24
  refine lv_dstore (lv' := [(6, .double (mx_val v (gk (xs (i + 1))) (gk (xs (i + 2))) (gk (xs (i + 3))) (xs (i + 4)))), (4, .double (mx_val v (gk (xs (i + 1))) (gk (xs (i + 2))) (gk (xs (i + 3))) (xs (i + 4)))), (0, .ref b), (1, .ref qg), (2, .ref hm), (3, .int (nI i))]) hx hb dL_law_862 hl (by decide) rfl (fun ls hl => ?_)
  refine lv_dload hx hb dL_law_864 (lv_at hl 1 rfl) ?_
  refine lv_dload hx hb dL_law_866 (lv_at hl 0 rfl) ?_
  refine lv_dcmp hx hb dL_law_868 ?_
  refine lv_if_eq (tgt := 890) hx hb dL_law_869 (by decide) (fun c_25 => ?_) (fun c_25 => ?_)
  · refine lv_goto (tgt := 893) hx hb dL_law_890 (by decide) ?_
    refine W.widen (k := cells + 2) (n := slots + 6) (by omega) (by omega) ?_
    exact cont H locs n ls_ fw fb fa ⟨hK, hP, hD, hS, hR⟩ ls (lv_sub hl [2, 3, 4, 5] rfl)
  · exact absurd (fin_cmp (mx_fin (fin_gk _) (fin_gk _) (fun h1 h2 => (hv h1 h2).2.2))) c_25
end
section
/-! the law's loop, and its start -/
theorem sw_out {y : Int32} (h0 : ¬ y = 0) (h1 : ¬ y = 1) (h2 : ¬ y = 2) (h3 : ¬ y = 3) (h4 : ¬ y = 4) (h5 : ¬ y = 5) (h6 : ¬ y = 6) (h7 : ¬ y = 7) (h8 : ¬ y = 8) : y.toInt < 0 ∨ 8 < y.toInt := by
  have g0 : ¬ y.toInt = 0 := fun h => h0 (Int32.toInt_inj.mp h)
  have g1 : ¬ y.toInt = 1 := fun h => h1 (Int32.toInt_inj.mp h)
  have g2 : ¬ y.toInt = 2 := fun h => h2 (Int32.toInt_inj.mp h)
  have g3 : ¬ y.toInt = 3 := fun h => h3 (Int32.toInt_inj.mp h)
  have g4 : ¬ y.toInt = 4 := fun h => h4 (Int32.toInt_inj.mp h)
  have g5 : ¬ y.toInt = 5 := fun h => h5 (Int32.toInt_inj.mp h)
  have g6 : ¬ y.toInt = 6 := fun h => h6 (Int32.toInt_inj.mp h)
  have g7 : ¬ y.toInt = 7 := fun h => h7 (Int32.toInt_inj.mp h)
  have g8 : ¬ y.toInt = 8 := fun h => h8 (Int32.toInt_inj.mp h)
  omega

set_option maxHeartbeats 4000000 in
set_option maxRecDepth 100000 in
theorem law_loop {p : Program} {l : Launch} {e : Env} {s : State} {m : MethodId} {below : List Frame} {meth : Method} {c : Code} {b L : Nat} {xs : Nat → Int32} {dC : Nat → ClassId} {dI : Nat → Nat → Nat} {qg hm hw hb_ ha : Nat} {A0 A1 A2 : ClassId} (C0 : lw_At p s m meth c b L xs) (hL : L ≤ 384) : ∀ (f k i : Nat), i = 6 * k → i ≤ L → L < i + 6 * f → ∀ (H : Heap) (locs : List Loc) (n : Nat) (ls_ : List gx_L) (fw fb fa : Nat → UInt64), lx_S dC dI s H locs qg hm hw hb_ ha A0 A1 A2 n ls_ fw fb fa → ∀ ls : Array Slot, lv_has ls 8 [(0, .ref b), (1, .ref qg), (2, .ref hm), (3, .int (nI i))] → W p l e room_1 s m #[Value.ref b] below meth c H locs (5 + 2 * k) (96 + 6 * k) (lw_Z below #[Value.ref b] s) (F0 m 18 ls []) := by
  obtain ⟨hx, hb, hr, hml, hown, hts0, hX, hbl, hlocks, hgv⟩ := id C0
  have hbA : ¬ (fun q : Nat => s.heap.size ≤ q) b := Nat.not_le.mpr hbl
  intro f
  induction f with
  | zero =>
    intro k i hk h1 h2
    exact absurd h2 (by omega)
  | succ f ih =>
    intro k i hk h1 h2 H locs n ls_ fw fb fa S0 ls hl
    obtain ⟨hK, hP, hD, hS, hR⟩ := id S0
    refine lv_iload_n hx hb dL_law_18 rfl (lv_at hl 3 rfl) ?_
    refine lv_aload_n hx hb dL_law_19 rfl (lv_at hl 0 rfl) ?_
    refine va_slen hx hb hX hbl hbA hS dL_law_20 ?_
    refine lv_bipush (v := 6) hx hb dL_law_21 (by decide) ?_
    refine lv_isub hx hb dL_law_23 ?_
    refine lv_icmp_gt (tgt := 899) hx hb dL_law_24 (by decide) (fun c_1 => ?_) (fun c_1 => ?_)
    · refine lv_iconst (v := 1) hx hb dL_law_899 (by decide) ?_
      refine va_forget (fun q hq => hS.2.2 q hq) ?_
      refine W.widen (k := 600359) (n := 7301170) (by omega) (by omega) ?_
      exact lw_ret hx hb hr hlocks dL_law_900
    · have hi : i + 6 ≤ L := Nat.not_lt.mp (fun q => c_1 ((lx_lt hL (by omega)).mpr q))
      refine lv_aload_n hx hb dL_law_27 rfl (lv_at hl 0 rfl) ?_
      refine lv_iload_n hx hb dL_law_28 rfl (lv_at hl 3 rfl) ?_
      refine va_sld hx hb hX hbl hbA hS (vp_in_nI (show i < L by omega) (by omega)) dL_law_29 ?_
      refine lv_topi (fun f_2 ef_2 => ?_)
      obtain rfl : f_2 = xs (i) := by rw [ef_2, nI_clamp (by omega)]
      refine lv_bipush (v := 15) hx hb dL_law_30 (by decide) ?_
      refine lv_iand hx hb dL_law_32 ?_
      have nxt : ∀ (H : Heap) (locs : List Loc) (n : Nat) (ls_ : List gx_L) (fw fb fa : Nat → UInt64), lx_S dC dI s H locs qg hm hw hb_ ha A0 A1 A2 n ls_ fw fb fa → ∀ ls : Array Slot, lv_has ls 8 [(0, .ref b), (1, .ref qg), (2, .ref hm), (3, .int (nI i))] → W p l e room_1 s m #[Value.ref b] below meth c H locs (5 + 2 * k + 2) (96 + 6 * k + 6) (lw_Z below #[Value.ref b] s) (F0 m 893 ls []) := by
        intro H locs n ls_ fw fb fa S0 ls hl
        refine lv_iinc (v := nI (i + 6)) (lv' := [(3, .int (nI (i + 6))), (0, .ref b), (1, .ref qg), (2, .ref hm)]) hx hb dL_law_893 hl (k := 3) rfl (nI_add i 6) (by decide) rfl (fun ls hl => ?_)
        refine lv_goto (tgt := 18) hx hb dL_law_896 (by decide) ?_
        exact ih (k + 1) (i + 6) (by omega) (by omega) (by omega) H locs n ls_ fw fb fa S0 ls (lv_sub hl [1, 2, 3, 0] rfl)
      generalize (xs i &&& 15) = y
      by_cases h0_ : y = 0
      · subst h0_
        refine lv_tableIn (tgt := 84) hx hb dL_law_33 (by decide) (by decide) rfl (by decide) ?_
        exact law_c0 C0 hL (by omega) (by omega) (by omega) S0 hl nxt
      by_cases h1_ : y = 1
      · subst h1_
        refine lv_tableIn (tgt := 157) hx hb dL_law_33 (by decide) (by decide) rfl (by decide) ?_
        exact law_c1 C0 hL (by omega) (by omega) (by omega) S0 hl nxt
      by_cases h2_ : y = 2
      · subst h2_
        refine lv_tableIn (tgt := 238) hx hb dL_law_33 (by decide) (by decide) rfl (by decide) ?_
        exact law_c2 C0 hL (by omega) (by omega) (by omega) S0 hl nxt
      by_cases h3_ : y = 3
      · subst h3_
        refine lv_tableIn (tgt := 349) hx hb dL_law_33 (by decide) (by decide) rfl (by decide) ?_
        exact law_c3 C0 hL (by omega) (by omega) (by omega) S0 hl nxt
      by_cases h4_ : y = 4
      · subst h4_
        refine lv_tableIn (tgt := 430) hx hb dL_law_33 (by decide) (by decide) rfl (by decide) ?_
        exact law_c4 C0 hL (by omega) (by omega) (by omega) S0 hl nxt
      by_cases h5_ : y = 5
      · subst h5_
        refine lv_tableIn (tgt := 534) hx hb dL_law_33 (by decide) (by decide) rfl (by decide) ?_
        exact law_c5 C0 hL (by omega) (by omega) (by omega) S0 hl nxt
      by_cases h6_ : y = 6
      · subst h6_
        refine lv_tableIn (tgt := 638) hx hb dL_law_33 (by decide) (by decide) rfl (by decide) ?_
        exact law_c6 C0 hL (by omega) (by omega) (by omega) S0 hl nxt
      by_cases h7_ : y = 7
      · subst h7_
        refine lv_tableIn (tgt := 711) hx hb dL_law_33 (by decide) (by decide) rfl (by decide) ?_
        exact law_c7 C0 hL (by omega) (by omega) (by omega) S0 hl nxt
      by_cases h8_ : y = 8
      · subst h8_
        refine lv_tableIn (tgt := 782) hx hb dL_law_33 (by decide) (by decide) rfl (by decide) ?_
        exact law_c8 C0 hL (by omega) (by omega) (by omega) S0 hl nxt
      refine lv_tableOut (tgt := 893) hx hb dL_law_33 (sw_out h0_ h1_ h2_ h3_ h4_ h5_ h6_ h7_ h8_) (by decide) ?_
      refine W.widen (k := 5 + 2 * k + 2) (n := 96 + 6 * k + 6) (by omega) (by omega) ?_
      exact nxt H locs n ls_ fw fb fa S0 ls hl

set_option maxHeartbeats 4000000 in
set_option maxRecDepth 100000 in
theorem whole_start {p : Program} {e : Env} {s : State} {m : MethodId} {below : List Frame} {meth : Method} {c : Code} (l : Launch) {b L : Nat} {xs : Nat → Int32} (hL : L ≤ 384) (C0 : lw_At p s m meth c b L xs) : W p l e room_1 s m #[Value.ref b] below meth c s.heap [] 0 0 (lw_Z below #[Value.ref b] s) (entryFrame m ([Value.ref b] : List Value).toArray 8) := by
  obtain ⟨hx, hb, hr, hml, hown, hts0, hX, hbl, hlocks, hgv⟩ := id C0
  have hts : ∀ w ∈ lw_all, w.before #[Value.ref b] s = true := fun w h => hts0 w (lw_all_tbl h)
  have hN := lx_N hts0
  have hA : ∀ q : Nat, s.heap.size ≤ q → (fun q : Nat => s.heap.size ≤ q) q := fun _ h => h
  obtain ⟨c0, iS0, hKn0⟩ := u_known (C := RX0) (T := TX0) (N := 2) (n := 2) hts0 (fun w h => lw_all_tbl (in_X0 w h)) (hts0 _ (lw_all_tbl q11))
  obtain ⟨c1, iS1, hKn1⟩ := u_known (C := RX1) (T := TX1) (N := 4) (n := 4) hts0 (fun w h => lw_all_tbl (in_X1 w h)) (hts0 _ (lw_all_tbl q164))
  obtain ⟨c2, iS2, hKn2⟩ := u_known (C := RX2) (T := TX2) (N := 3) (n := 3) hts0 (fun w h => lw_all_tbl (in_X2 w h)) (hts0 _ (lw_all_tbl q59))
  obtain ⟨c3, iS3, hKn3⟩ := u_known (C := RX3) (T := TX3) (N := 3) (n := 3) hts0 (fun w h => lw_all_tbl (in_X3 w h)) (hts0 _ (lw_all_tbl q52))
  obtain ⟨dC, dI, hKc⟩ : ∃ (dC : Nat → ClassId) (dI : Nat → Nat → Nat), ∀ (k : Nat) (q : vw_C), vwCl[k]? = some q → u_Kn s q.1 q.2.1 q.2.2 (dC k) (dI k) := by
    refine ⟨fun k => if k = 0 then c0 else if k = 1 then c1 else if k = 2 then c2 else c3, fun k => if k = 0 then iS0 else if k = 1 then iS1 else if k = 2 then iS2 else iS3, ?_⟩
    intro k q hq
    match k, hq with
    | 0, hq => cases hq; exact hKn0
    | 1, hq => cases hq; exact hKn1
    | 2, hq => cases hq; exact hKn2
    | 3, hq => cases hq; exact hKn3
    | k + 4, hq => simp [vwCl] at hq
  have hS : va_S (fun q : Nat => s.heap.size ≤ q) s.heap s.heap [] := va_S.rf
  have hK : va_K (dC, dI) vwCl [] s := ⟨hKc, fun k q h => by simp at h⟩
  have hP : va_P (dC, dI) vwCl [] s.heap := fun k q h => by simp at h
  have hD : va_D (fun q : Nat => s.heap.size ≤ q) [] := ⟨fun i j p q h => by simp at h, fun k q h => by simp at h⟩
  have hl := lv_entry ([.ref b]) (n := 8) (Nat.le_of_ble_eq_true rfl)
  rw [lg_entry_eq]
  generalize (lg_sl ([.ref b]) ++ List.replicate (8 - (lg_sl ([.ref b])).length) Slot.unset).toArray = ls at hl ⊢
  have hl : lv_has ls 8 [(0, .ref b)] := hl
  refine va_new (ci := 0) (fs := [.null, .int 0]) (C := RX0) (T := TX0) (N := 2) hx hb hts in_X0 tyX0 tyX0_ok hown (hts _ q10) (hts _ q11) (hts _ q6) hK hP hD hS hA rfl (fun j hj => by rcases (show j = 0 ∨ j = 1 by omega) with rfl | rfl <;> rfl) (Nat.le_of_ble_eq_true rfl) (Nat.le_of_ble_eq_true rfl) dL_law_0 (fun qg H hP hD hS => ?_)
  have hP : va_P (dC, dI) vwCl ([(qg, .inr (0, [.null, .int 0]))]) H := hP
  have hD : va_D (fun q : Nat => s.heap.size ≤ q) ([(qg, .inr (0, [.null, .int 0]))]) := hD
  refine lv_dup hx hb dL_law_3 rfl ?_
  have hpm : List.Perm _ (([(qg, .inr (0, [.null, .int 0]))]) ++ (([] : va_W))) := List.Perm.refl _
  have hPc : va_P (dC, dI) vwCl ([(qg, .inr (0, [.null, .int 0]))]) H := va_P_sub hP (fun q hq => hpm.mem_iff.mpr (List.mem_append_left _ hq))
  have hDc : va_D (fun _ => True) ([(qg, .inr (0, [.null, .int 0]))]) := va_D_part hD hpm
  have hFc := va_freeM (wc := [(qg, .inr (0, [.null, .int 0]))]) hD hS hA (fun q hq => hpm.mem_iff.mpr (List.mem_append_left _ hq))
  refine va_callv (va_runI (As := []) (rest := [.ref qg]) ⟨hx, hb, hml, hown, hts⟩ (m_X0_init l H.size dC dI qg) (cwI 0 hts (lw_meth q14) rfl rfl rfl (hts _ q6) (hts _ q12) (hts _ q13) rfl (by decide +kernel) ⟨Nat.le_of_ble_eq_true rfl, Nat.le_of_ble_eq_true rfl⟩) ⟨gy_fb, fun U hU hW => ⟨rfl, by rw [hU], gx_pre hPc hK hN hU hW, hDc⟩⟩ rfl rfl hl.1 rfl (lv_room (Nat.le_of_ble_eq_true rfl)) dL_law_4 ⟨Nat.le_of_ble_eq_true rfl, Nat.le_of_ble_eq_true rfl⟩) hS (fun q _ h => hFc q h) hFc (fun u t H1 locs ht hvm hw_ hB hz1 hk1 hS => ?_)
  obtain ⟨⟨hP1, hK1, hN1⟩, hD1⟩ := hB
  rw [ht] at hP1
  obtain ⟨hP, hD⟩ := va_joinM hP hD hpm hk1 hFc hP1 hD1
  generalize H1 = H at hP hS ⊢
  have hP : va_P (dC, dI) vwCl (gx_W qg 0 []) H := hP
  have hD : va_D (fun q : Nat => s.heap.size ≤ q) (gx_W qg 0 []) := hD
  refine lv_astore_n (lv' := [(1, .ref qg), (0, .ref b)]) hx hb dL_law_7 rfl hl (by decide) rfl (fun ls hl => ?_)
  refine va_new (ci := 1) (fs := [.int 0, .null, .null, .null]) (C := RX1) (T := TX1) (N := 4) hx hb hts in_X1 tyX1 tyX1_ok hown (hts _ q163) (hts _ q164) (hts _ q7) hK hP hD hS hA rfl (fun j hj => by rcases (show j = 0 ∨ j = 1 ∨ j = 2 ∨ j = 3 by omega) with rfl | rfl | rfl | rfl <;> rfl) (Nat.le_of_ble_eq_true rfl) (Nat.le_of_ble_eq_true rfl) dL_law_8 (fun hm H hP hD hS => ?_)
  have hP : va_P (dC, dI) vwCl (gx_W qg 0 [] ++ [(hm, .inr (1, [.int 0, .null, .null, .null]))]) H := hP
  have hD : va_D (fun q : Nat => s.heap.size ≤ q) (gx_W qg 0 [] ++ [(hm, .inr (1, [.int 0, .null, .null, .null]))]) := hD
  refine lv_dup hx hb dL_law_11 rfl ?_
  have hpm : List.Perm _ (([(hm, .inr (1, [.int 0, .null, .null, .null]))]) ++ (gx_W qg 0 [])) := List.perm_append_comm
  have hPc : va_P (dC, dI) vwCl ([(hm, .inr (1, [.int 0, .null, .null, .null]))]) H := va_P_sub hP (fun q hq => hpm.mem_iff.mpr (List.mem_append_left _ hq))
  have hDc : va_D (fun _ => True) ([(hm, .inr (1, [.int 0, .null, .null, .null]))]) := va_D_part hD hpm
  have hFc := va_freeM (wc := [(hm, .inr (1, [.int 0, .null, .null, .null]))]) hD hS hA (fun q hq => hpm.mem_iff.mpr (List.mem_append_left _ hq))
  refine va_callv (va_runI (As := []) (rest := [.ref hm]) ⟨hx, hb, hml, hown, hts⟩ (m_X1_init l H.size dC dI hm) (cwI 0 hts (lw_meth q167) rfl rfl rfl (hts _ q7) (hts _ q165) (hts _ q166) rfl (by decide +kernel) ⟨Nat.le_of_ble_eq_true rfl, Nat.le_of_ble_eq_true rfl⟩) ⟨gw_fb, fun U hU hW => ⟨rfl, by rw [hU], gm_pre hPc hK hU hW, hDc⟩⟩ rfl rfl hl.1 rfl (lv_room (Nat.le_of_ble_eq_true rfl)) dL_law_12 ⟨Nat.le_of_ble_eq_true rfl, Nat.le_of_ble_eq_true rfl⟩) hS (fun q _ h => hFc q h) hFc (fun u t H1 locs ht hvm hw_ hB hz1 hk1 hS => ?_)
  obtain ⟨⟨h1_, h2_, h3_⟩, ⟨A0, A1, A2⟩⟩ := u
  obtain ⟨⟨hP1, hK1⟩, hD1⟩ := hB
  have hK := va_K.moved hvm.symm hK1
  rw [ht] at hP1
  obtain ⟨hP, hD⟩ := va_joinM hP hD hpm hk1 hFc hP1 hD1
  generalize H1 = H at hP hS ⊢
  have hP := va_P_perm hP List.perm_append_comm
  have hD := va_D_perm hD List.perm_append_comm
  refine lv_astore_n (lv' := [(2, .ref hm), (1, .ref qg), (0, .ref b)]) hx hb dL_law_15 rfl hl (by decide) rfl (fun ls hl => ?_)
  refine lv_iconst (v := 0) hx hb dL_law_16 (by decide) ?_
  refine lv_istore_n (lv' := [(3, .int 0), (2, .ref hm), (1, .ref qg), (0, .ref b)]) hx hb dL_law_17 rfl hl (by decide) rfl (fun ls hl => ?_)
  exact law_loop C0 hL (L + 1) 0 0 (by omega) (by omega) (by omega) _ _ 0 [] (fun _ => 0) (fun _ => 0) (fun _ => 0) ⟨hK, hP, hD, hS, rel_0 _ _ _⟩ ls (lv_sub hl [3, 2, 1, 0] rfl)
end
section
set_option maxHeartbeats 4000000 in
theorem lw_walk (l : Launch) (b : Addr) (xs : List Int32) : MetFree l x (headSpec (Jvm.Cond.code x code maxLocals ret :: tables_1) room_1) (lw_P b xs) (fun _ _ _ _ _ => True) lw_Q := by
  refine MetFree.of_bodyS (code := code) (maxLocals := maxLocals) (ret := ret) (by decide) ?_ ?_
  · intro args s m h hn
    obtain ⟨meth, c, h1, h2, h3, h4, h5, h6, -, -⟩ := Cond.code_spec hn (atoms_spec (ws := Jvm.Cond.code x code maxLocals ret :: tables_1) h _ List.mem_cons_self)
    exact ⟨meth, c, h1, h2, h3, h4, h5, h6⟩
  · intro p e s m args below meth c s₁ B hml0 hP _
    obtain ⟨rfl, hx, hbd, hgv⟩ := hP
    obtain ⟨scr, harrAt, hlist, hof, hsmall⟩ := hx
    obtain ⟨hcb, hkn, -, -⟩ := State.arrayAt?_spec harrAt
    have hown : s.vm.findClass R_law = some m.cls := findClass_of_methodNamed B.named
    have hts0 : ∀ c ∈ (Jvm.Cond.code x code maxLocals ret :: tables_1), c.before #[Value.ref b] s = true := atoms_spec (ws := Jvm.Cond.code x code maxLocals ret :: tables_1) B.pre
    have hts : ∀ w ∈ lw_tbl, w.before #[Value.ref b] s = true := k2_hts_sels lw_privs (fun w hw => hts0 w (List.mem_cons_of_mem _ hw)) lw_privs_ok
    have hml : c.maxLocals = 8 := B.maxLocals_eq (hts0 _ List.mem_cons_self)
    have X₀ : Stand p l e room_1 s m #[Value.ref b] below meth c s₁ [] 0 0 := Stand.of_body B
    have hh0 : s₁.heap = s.heap := by rw [B.state]; rfl
    have hsz : scr.slots.size = xs.length := by rw [← Array.length_toList, hlist, List.length_map]
    have hval : ∀ j : Nat, j < xs.length → scr.slots[j]? = some (.int (xs.getD j 0)) := fun j hj => by
      rw [← Array.getElem?_toList, hlist]
      simp [hj]
    have hbl : b < s.heap.size := (Array.getElem?_eq_some_iff.mp hcb).1
    have hX : va_X b xs.length (fun j => xs.getD j 0) s s.heap := ⟨scr, hcb, hof, hkn, hsz, hval⟩
    have K : W p l e room_1 s m #[Value.ref b] below meth c s₁.heap [] 0 0 (lw_Z below #[Value.ref b] s) (entryFrame m ([Value.ref b] : List Value).toArray 8) := by
      rw [hh0]
      exact whole_start l hbd ⟨B.exec, B.bytes, B.returns, hml, hown, hts, hX, hbl, B.notSynchronized, hgv⟩
    obtain ⟨t, a1, o, b1, b2, b3⟩ := K s₁ rfl X₀
    exact ⟨t, o, a1, b1, b2, b3⟩
theorem lw_pre_spec {args : Array Value} {s : State} (h : (Jvm.Cond.and given_1 narrow_1).before args s = true) (hr : rest_1_c.before args s = true) : ∃ (b : Addr) (xs : List Int32), lw_P b xs args s := by
  have hs := flat_of_before _ h
  have hq := flat_of_before _ hr
  have hc : (Cond.count 1).before args s = true := hs _ (by decide +kernel)
  have harr : (Cond.arrayOf (.arg 0) .int).before args s = true := hs _ (by decide +kernel)
  have hle : (Cond.le (.length (.arg 0)) (.int 384)).before args s = true := hs _ (by decide +kernel)
  have hlen : (Cond.isInt (.length (.arg 0))).before args s = true := hq _ (by decide +kernel)
  have hall : (Cond.all (.arg 0) (.isInt (.elem (.arg 0) (.index 0)))).before args s = true := hq _ (by decide +kernel)
  obtain ⟨b, xs, hb, hx⟩ := State.ints_of_pre rfl harr hlen hall
  have hsm : xs.length < 2 ^ 31 := hx.choose_spec.2.2.2
  have hev : (Term.length (.arg 0)).eval args s none [] s = some (.int xs.length.toInt32) := hx.length_eval hb
  have hv := Cond.le_ints hev (show (Term.int 384).eval args s none [] s = some (.int 384) from rfl)
  have hd : xs.length.toInt32 ≤ 384 := by
    simpa [Cond.before, Cond.holds, hv] using hle
  have hN : xs.length ≤ 384 := (Int32.ofNat_le_ofNat hsm (by decide)).mp (show Int32.ofNat xs.length ≤ Int32.ofNat 384 from hd)
  exact ⟨b, xs, Cond.one_arg hc (show args[0]? = some (.ref b) from hb), hx, hN, h⟩
theorem lw_comes (l : Launch) : Comes l x (Jvm.Cond.code x code maxLocals ret :: tables_1) room_1 (fun tb e args s => Calls_1 tb e args s ∧ rest_1 tb e args s ∧ Pre_1 tb e args s)
    (fun _ _ args s o t => lw_Q args s o t) := by
  intro p e ha hc hk s m args below hf hfit hheap happ hpre
  obtain ⟨b, xs, hP⟩ := lw_pre_spec hpre.2.2 hpre.2.1
  obtain ⟨k, o, h1, h2, h3, hQ⟩ := lw_walk l b xs p e ha hc hk s m args below hf ((Spec.applies_iff_loose hf).mp happ).1 hP trivial
  exact ⟨k, o, h1, h2, h3, hQ⟩
theorem lw_frame {s t : State} {o : Outcome} {args : Array Value} (h : Framed s o t [] 600359 7301170) :
    Framed s o t (fieldLocs frame_1_writes args s ++ arrayLocs frame_1_arrays args s ++ staticLocs frame_1_statics s) 600359 7301170 := h
theorem lw_limb (L : Cond) (hL : ∀ (args : Array Value) (s t : State), L.after args s (.returned (some (.int 1))) t = true) :
    ArmFor flags0 classFile x code maxLocals ret World_1 tables_1 room_1 Calls_1 rest_1 Pre_1
      (fun tb e a s o t => postC L tb e a s o t ∧ Framed s o t (fieldLocs frame_1_writes a s ++ arrayLocs frame_1_arrays a s ++ staticLocs frame_1_statics s) 600359 7301170) := by
  intro l _ _ _ p e ha hc hk s m args below hf hfit hheap happ hpre
  obtain ⟨k, o, h1, h2, h3, rfl, hF⟩ := lw_comes l p e ha hc hk s m args below hf hfit hheap happ hpre
  exact ⟨k, _, h1, h2, h3, hL args s _, lw_frame hF⟩
theorem i_vc : Claimed_1_1 ∧ Claimed_1_2 := ⟨lw_limb limb_1_1 (fun args s t => by simp [limb_1_1, Cond.after, Cond.holds, Cond.value]), lw_limb limb_1_2 (fun args s t => Cond.after_iff.mpr (by
  first | (rw [show limb_1_2 = Cond.eq .result (.int 1) from rfl, Cond.eq_ints (x := 1) (y := 1) rfl rfl]; simp; done) | (simp [limb_1_2, Cond.value, Term.eval]; done)))⟩
end
