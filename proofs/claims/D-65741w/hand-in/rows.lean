section
/-! the tables' words (PART A of the starting text SKELETON.whole), and a list of those that every state of the run keeps -/
/-- a private method of a class that the tables say can be made, by its rows of tables_1 -/
def lw_okq (q : MethodName × Nat) : Prop := (q.1.cls ≠ "java/lang/invoke/MethodHandle" ∧ q.1.cls ≠ "java/lang/invoke/VarHandle") ∧ Cond.instantiable q.1.cls q.2 ∈ tables_1 ∧ Cond.privateMethod q.1 ∈ tables_1 ∧ Cond.instanceMethod q.1 ∈ tables_1
theorem lw_p0 : lw_okq (⟨"FoldRow", "nothing", "(I)V"⟩, 8) := ⟨⟨by decide +kernel, by decide +kernel⟩, List.mem_of_getElem? (i := 11) (by decide +kernel), List.mem_of_getElem? (i := 19) (by decide +kernel), List.mem_of_getElem? (i := 20) (by decide +kernel)⟩
theorem lw_p1 : lw_okq (⟨"java/lang/Throwable", "fillInStackTrace", "(I)Ljava/lang/Throwable;"⟩, 6) := ⟨⟨by decide +kernel, by decide +kernel⟩, List.mem_of_getElem? (i := 109) (by decide +kernel), List.mem_of_getElem? (i := 107) (by decide +kernel), List.mem_of_getElem? (i := 108) (by decide +kernel)⟩
theorem lw_p2 : lw_okq (⟨"FoldRow", "rule", "(IIJ)V"⟩, 8) := ⟨⟨by decide +kernel, by decide +kernel⟩, List.mem_of_getElem? (i := 11) (by decide +kernel), List.mem_of_getElem? (i := 155) (by decide +kernel), List.mem_of_getElem? (i := 156) (by decide +kernel)⟩
theorem lw_p3 : lw_okq (⟨"FoldRow", "up", "(I)V"⟩, 8) := ⟨⟨by decide +kernel, by decide +kernel⟩, List.mem_of_getElem? (i := 11) (by decide +kernel), List.mem_of_getElem? (i := 159) (by decide +kernel), List.mem_of_getElem? (i := 160) (by decide +kernel)⟩
theorem lw_p4 : lw_okq (⟨"FoldRow", "begin", "()V"⟩, 8) := ⟨⟨by decide +kernel, by decide +kernel⟩, List.mem_of_getElem? (i := 11) (by decide +kernel), List.mem_of_getElem? (i := 163) (by decide +kernel), List.mem_of_getElem? (i := 164) (by decide +kernel)⟩
theorem lw_p5 : lw_okq (⟨"FoldRow", "node", "(I)V"⟩, 8) := ⟨⟨by decide +kernel, by decide +kernel⟩, List.mem_of_getElem? (i := 11) (by decide +kernel), List.mem_of_getElem? (i := 167) (by decide +kernel), List.mem_of_getElem? (i := 168) (by decide +kernel)⟩
theorem lw_p6 : lw_okq (⟨"FoldRow", "behind", "(JJJ)V"⟩, 8) := ⟨⟨by decide +kernel, by decide +kernel⟩, List.mem_of_getElem? (i := 11) (by decide +kernel), List.mem_of_getElem? (i := 171) (by decide +kernel), List.mem_of_getElem? (i := 172) (by decide +kernel)⟩
theorem lw_p7 : lw_okq (⟨"FoldRow", "keep", "(I)V"⟩, 8) := ⟨⟨by decide +kernel, by decide +kernel⟩, List.mem_of_getElem? (i := 11) (by decide +kernel), List.mem_of_getElem? (i := 187) (by decide +kernel), List.mem_of_getElem? (i := 188) (by decide +kernel)⟩
theorem lw_p8 : lw_okq (⟨"FoldRow", "join", "(II)V"⟩, 8) := ⟨⟨by decide +kernel, by decide +kernel⟩, List.mem_of_getElem? (i := 11) (by decide +kernel), List.mem_of_getElem? (i := 216) (by decide +kernel), List.mem_of_getElem? (i := 217) (by decide +kernel)⟩
theorem lw_p9 : lw_okq (⟨"FoldRow", "made", "(J)J"⟩, 8) := ⟨⟨by decide +kernel, by decide +kernel⟩, List.mem_of_getElem? (i := 11) (by decide +kernel), List.mem_of_getElem? (i := 220) (by decide +kernel), List.mem_of_getElem? (i := 221) (by decide +kernel)⟩
theorem lw_p10 : lw_okq (⟨"FoldRowModel", "fails", "(ZI)Z"⟩, 3) := ⟨⟨by decide +kernel, by decide +kernel⟩, List.mem_of_getElem? (i := 278) (by decide +kernel), List.mem_of_getElem? (i := 311) (by decide +kernel), List.mem_of_getElem? (i := 312) (by decide +kernel)⟩
theorem lw_p11 : lw_okq (⟨"FoldRowModel", "made", "(IIJ)J"⟩, 3) := ⟨⟨by decide +kernel, by decide +kernel⟩, List.mem_of_getElem? (i := 278) (by decide +kernel), List.mem_of_getElem? (i := 336) (by decide +kernel), List.mem_of_getElem? (i := 337) (by decide +kernel)⟩
theorem lw_p12 : lw_okq (⟨"FoldRowModel", "ends", "(IIJ)Z"⟩, 3) := ⟨⟨by decide +kernel, by decide +kernel⟩, List.mem_of_getElem? (i := 278) (by decide +kernel), List.mem_of_getElem? (i := 350) (by decide +kernel), List.mem_of_getElem? (i := 351) (by decide +kernel)⟩
def lw_privs_1 : List (MethodName × Nat) := [(⟨"FoldRow", "nothing", "(I)V"⟩, 8), (⟨"java/lang/Throwable", "fillInStackTrace", "(I)Ljava/lang/Throwable;"⟩, 6), (⟨"FoldRow", "rule", "(IIJ)V"⟩, 8), (⟨"FoldRow", "up", "(I)V"⟩, 8), (⟨"FoldRow", "begin", "()V"⟩, 8), (⟨"FoldRow", "node", "(I)V"⟩, 8), (⟨"FoldRow", "behind", "(JJJ)V"⟩, 8), (⟨"FoldRow", "keep", "(I)V"⟩, 8), (⟨"FoldRow", "join", "(II)V"⟩, 8), (⟨"FoldRow", "made", "(J)J"⟩, 8), (⟨"FoldRowModel", "fails", "(ZI)Z"⟩, 3), (⟨"FoldRowModel", "made", "(IIJ)J"⟩, 3), (⟨"FoldRowModel", "ends", "(IIJ)Z"⟩, 3)]
theorem lw_r1 : ∀ q ∈ lw_privs_1, lw_okq q := List.forall_mem_cons.mpr ⟨lw_p0, List.forall_mem_cons.mpr ⟨lw_p1, List.forall_mem_cons.mpr ⟨lw_p2, List.forall_mem_cons.mpr ⟨lw_p3, List.forall_mem_cons.mpr ⟨lw_p4, List.forall_mem_cons.mpr ⟨lw_p5, List.forall_mem_cons.mpr ⟨lw_p6, List.forall_mem_cons.mpr ⟨lw_p7, List.forall_mem_cons.mpr ⟨lw_p8, List.forall_mem_cons.mpr ⟨lw_p9, List.forall_mem_cons.mpr ⟨lw_p10, List.forall_mem_cons.mpr ⟨lw_p11, List.forall_mem_cons.mpr ⟨lw_p12, fun _ h => absurd h List.not_mem_nil⟩⟩⟩⟩⟩⟩⟩⟩⟩⟩⟩⟩⟩
def lw_privs : List (MethodName × Nat) := lw_privs_1
def lw_tbl : List Cond := k2_sels lw_privs ++ tables_1
theorem lw_privs_ok : ∀ q ∈ lw_privs, lw_okq q := lw_r1
/-- the words that hold at every warmer table -/
def xg (w : Cond) : Bool := (w.onTables && w.keeps) || (match w with | .arrayClass _ => true | _ => false)
def tb : List Cond := lw_tbl.filter xg
theorem tb_of {w : Cond} (h : w ∈ lw_tbl) (hg : xg w = true) : w ∈ tb := List.mem_filter.mpr ⟨h, hg⟩
theorem tb_in {w : Cond} (h : w ∈ tb) : w ∈ lw_tbl := (List.mem_filter.mp h).1
theorem tb_good {w : Cond} (h : w ∈ tb) : (w.onTables && w.keeps) = true ∨ ∃ ty, w = .arrayClass ty := by
  have h1 := (List.mem_filter.mp h).2
  unfold xg at h1
  rcases Bool.or_eq_true_iff.mp h1 with h2 | h2
  · exact Or.inl h2
  · cases w <;> first | exact Or.inr ⟨_, rfl⟩ | simp at h2
theorem tb_gi {ws : List Cond} (h : ∀ w ∈ ws, w ∈ tb) : GoodIn tb ws := fun w hw => ⟨h w hw, tb_good (h w hw)⟩
theorem tb_gc {w : Cond} (h : w ∈ tb) : GoodIn tb (w :: tb) := tb_gi (fun v hv => by
  rcases List.mem_cons.mp hv with rfl | hv
  · exact h
  · exact hv)
theorem tb_g4 {a b c d w : Cond} (ha : a ∈ tb) (hb : b ∈ tb) (hc : c ∈ tb) (hd : d ∈ tb) (h : w ∈ tb) : GoodIn tb (([a, b, c, d] : List Cond) ++ (w :: tb)) := tb_gi (fun v hv => by
  rcases List.mem_append.mp hv with hv | hv
  · simp only [List.mem_cons, List.not_mem_nil, or_false] at hv
    rcases hv with rfl | rfl | rfl | rfl <;> assumption
  · exact (tb_gc h v hv).1)
theorem tb_g3 {a b c w : Cond} (ha : a ∈ tb) (hb : b ∈ tb) (hc : c ∈ tb) (h : w ∈ tb) : GoodIn tb (([a, b, c] : List Cond) ++ (w :: tb)) := tb_gi (fun v hv => by
  rcases List.mem_append.mp hv with hv | hv
  · simp only [List.mem_cons, List.not_mem_nil, or_false] at hv
    rcases hv with rfl | rfl | rfl <;> assumption
  · exact (tb_gc h v hv).1)
theorem tws_0 : Cond.selects "FoldRow" ⟨"FoldRow", "nothing", "(I)V"⟩ ⟨"FoldRow", "nothing", "(I)V"⟩ ∈ tb := tb_of (List.mem_append_left _ (List.mem_of_getElem? (i := 0) rfl)) rfl
theorem tws_1 : Cond.selects "java/lang/Throwable" ⟨"java/lang/Throwable", "fillInStackTrace", "(I)Ljava/lang/Throwable;"⟩ ⟨"java/lang/Throwable", "fillInStackTrace", "(I)Ljava/lang/Throwable;"⟩ ∈ tb := tb_of (List.mem_append_left _ (List.mem_of_getElem? (i := 1) rfl)) rfl
theorem tws_2 : Cond.selects "FoldRow" ⟨"FoldRow", "rule", "(IIJ)V"⟩ ⟨"FoldRow", "rule", "(IIJ)V"⟩ ∈ tb := tb_of (List.mem_append_left _ (List.mem_of_getElem? (i := 2) rfl)) rfl
theorem tws_3 : Cond.selects "FoldRow" ⟨"FoldRow", "up", "(I)V"⟩ ⟨"FoldRow", "up", "(I)V"⟩ ∈ tb := tb_of (List.mem_append_left _ (List.mem_of_getElem? (i := 3) rfl)) rfl
theorem tws_4 : Cond.selects "FoldRow" ⟨"FoldRow", "begin", "()V"⟩ ⟨"FoldRow", "begin", "()V"⟩ ∈ tb := tb_of (List.mem_append_left _ (List.mem_of_getElem? (i := 4) rfl)) rfl
theorem tws_5 : Cond.selects "FoldRow" ⟨"FoldRow", "node", "(I)V"⟩ ⟨"FoldRow", "node", "(I)V"⟩ ∈ tb := tb_of (List.mem_append_left _ (List.mem_of_getElem? (i := 5) rfl)) rfl
theorem tws_6 : Cond.selects "FoldRow" ⟨"FoldRow", "behind", "(JJJ)V"⟩ ⟨"FoldRow", "behind", "(JJJ)V"⟩ ∈ tb := tb_of (List.mem_append_left _ (List.mem_of_getElem? (i := 6) rfl)) rfl
theorem tws_7 : Cond.selects "FoldRow" ⟨"FoldRow", "keep", "(I)V"⟩ ⟨"FoldRow", "keep", "(I)V"⟩ ∈ tb := tb_of (List.mem_append_left _ (List.mem_of_getElem? (i := 7) rfl)) rfl
theorem tws_8 : Cond.selects "FoldRow" ⟨"FoldRow", "join", "(II)V"⟩ ⟨"FoldRow", "join", "(II)V"⟩ ∈ tb := tb_of (List.mem_append_left _ (List.mem_of_getElem? (i := 8) rfl)) rfl
theorem tws_9 : Cond.selects "FoldRow" ⟨"FoldRow", "made", "(J)J"⟩ ⟨"FoldRow", "made", "(J)J"⟩ ∈ tb := tb_of (List.mem_append_left _ (List.mem_of_getElem? (i := 9) rfl)) rfl
theorem tws_10 : Cond.selects "FoldRowModel" ⟨"FoldRowModel", "fails", "(ZI)Z"⟩ ⟨"FoldRowModel", "fails", "(ZI)Z"⟩ ∈ tb := tb_of (List.mem_append_left _ (List.mem_of_getElem? (i := 10) rfl)) rfl
theorem tws_11 : Cond.selects "FoldRowModel" ⟨"FoldRowModel", "made", "(IIJ)J"⟩ ⟨"FoldRowModel", "made", "(IIJ)J"⟩ ∈ tb := tb_of (List.mem_append_left _ (List.mem_of_getElem? (i := 11) rfl)) rfl
theorem tws_12 : Cond.selects "FoldRowModel" ⟨"FoldRowModel", "ends", "(IIJ)Z"⟩ ⟨"FoldRowModel", "ends", "(IIJ)Z"⟩ ∈ tb := tb_of (List.mem_append_left _ (List.mem_of_getElem? (i := 12) rfl)) rfl
theorem tw_0 : Cond.initialized "FoldRowLaw" ∈ tb := tb_of (List.mem_append_right _ (List.mem_of_getElem? (i := 0) rfl)) rfl
theorem tw_1 : Cond.initialized "FoldRow" ∈ tb := tb_of (List.mem_append_right _ (List.mem_of_getElem? (i := 1) rfl)) rfl
theorem tw_2 : Cond.initialized "FoldRowModel" ∈ tb := tb_of (List.mem_append_right _ (List.mem_of_getElem? (i := 2) rfl)) rfl
theorem tw_3 : Cond.initialized "java/lang/Throwable" ∈ tb := tb_of (List.mem_append_right _ (List.mem_of_getElem? (i := 3) rfl)) rfl
theorem tw_4 : Cond.initialized "java/lang/Exception" ∈ tb := tb_of (List.mem_append_right _ (List.mem_of_getElem? (i := 4) rfl)) rfl
theorem tw_5 : Cond.initialized "java/lang/RuntimeException" ∈ tb := tb_of (List.mem_append_right _ (List.mem_of_getElem? (i := 5) rfl)) rfl
theorem tw_6 : Cond.initialized "java/lang/IllegalArgumentException" ∈ tb := tb_of (List.mem_append_right _ (List.mem_of_getElem? (i := 6) rfl)) rfl
theorem tw_7 : Cond.initialized "java/lang/IndexOutOfBoundsException" ∈ tb := tb_of (List.mem_append_right _ (List.mem_of_getElem? (i := 7) rfl)) rfl
theorem tw_8 : Cond.initialized "java/lang/Math" ∈ tb := tb_of (List.mem_append_right _ (List.mem_of_getElem? (i := 8) rfl)) rfl
theorem tw_9 : Cond.initialized "java/lang/UnsupportedOperationException" ∈ tb := tb_of (List.mem_append_right _ (List.mem_of_getElem? (i := 9) rfl)) rfl
theorem tw_10 : Cond.classLink "FoldRowLaw" 8 "FoldRow" ∈ tb := tb_of (List.mem_append_right _ (List.mem_of_getElem? (i := 10) rfl)) rfl
theorem tw_11 : Cond.instantiable "FoldRow" 8 ∈ tb := tb_of (List.mem_append_right _ (List.mem_of_getElem? (i := 11) rfl)) rfl
theorem tw_12 : Cond.methodLink "FoldRowLaw" 50 ⟨"FoldRow", "<init>", "()V"⟩ ∈ tb := tb_of (List.mem_append_right _ (List.mem_of_getElem? (i := 12) rfl)) rfl
theorem tw_13 : Cond.instanceMethod ⟨"FoldRow", "<init>", "()V"⟩ ∈ tb := tb_of (List.mem_append_right _ (List.mem_of_getElem? (i := 13) rfl)) rfl
theorem tw_14 : Cond.code ⟨"FoldRow", "<init>", "()V"⟩ prog_1_method_1_code 2 none ∈ tb := tb_of (List.mem_append_right _ (List.mem_of_getElem? (i := 14) rfl)) rfl
theorem tw_15 : Cond.methodLink "FoldRow" 1 ⟨"java/lang/Object", "<init>", "()V"⟩ ∈ tb := tb_of (List.mem_append_right _ (List.mem_of_getElem? (i := 15) rfl)) rfl
theorem tw_16 : Cond.instanceMethod ⟨"java/lang/Object", "<init>", "()V"⟩ ∈ tb := tb_of (List.mem_append_right _ (List.mem_of_getElem? (i := 16) rfl)) rfl
theorem tw_17 : Cond.code ⟨"java/lang/Object", "<init>", "()V"⟩ object_method_1_code 1 none ∈ tb := tb_of (List.mem_append_right _ (List.mem_of_getElem? (i := 17) rfl)) rfl
theorem tw_18 : Cond.methodLink "FoldRow" 26 ⟨"FoldRow", "nothing", "(I)V"⟩ ∈ tb := tb_of (List.mem_append_right _ (List.mem_of_getElem? (i := 18) rfl)) rfl
theorem tw_20 : Cond.instanceMethod ⟨"FoldRow", "nothing", "(I)V"⟩ ∈ tb := tb_of (List.mem_append_right _ (List.mem_of_getElem? (i := 20) rfl)) rfl
theorem tw_21 : Cond.code ⟨"FoldRow", "nothing", "(I)V"⟩ prog_1_method_5_code 2 none ∈ tb := tb_of (List.mem_append_right _ (List.mem_of_getElem? (i := 21) rfl)) rfl
theorem tw_22 : Cond.constantLong "FoldRow" 36 (-4611686018427387904 : Int64) ∈ tb := tb_of (List.mem_append_right _ (List.mem_of_getElem? (i := 22) rfl)) rfl
theorem tw_23 : Cond.constantLong "FoldRow" 38 (4611686018427387904 : Int64) ∈ tb := tb_of (List.mem_append_right _ (List.mem_of_getElem? (i := 23) rfl)) rfl
theorem tw_24 : Cond.fieldLink "FoldRow" 9 "FoldRow" "more" "[J" ∈ tb := tb_of (List.mem_append_right _ (List.mem_of_getElem? (i := 24) rfl)) rfl
theorem tw_25 : Cond.fieldLink "FoldRow" 13 "FoldRow" "low" "[J" ∈ tb := tb_of (List.mem_append_right _ (List.mem_of_getElem? (i := 25) rfl)) rfl
theorem tw_26 : Cond.fieldLink "FoldRow" 16 "FoldRow" "high" "[J" ∈ tb := tb_of (List.mem_append_right _ (List.mem_of_getElem? (i := 26) rfl)) rfl
theorem tw_27 : Cond.fieldLink "FoldRow" 19 "FoldRow" "kind" "[I" ∈ tb := tb_of (List.mem_append_right _ (List.mem_of_getElem? (i := 27) rfl)) rfl
theorem tw_28 : Cond.fieldLink "FoldRow" 23 "FoldRow" "value" "[J" ∈ tb := tb_of (List.mem_append_right _ (List.mem_of_getElem? (i := 28) rfl)) rfl
theorem tw_29 : Cond.fieldLink "FoldRow" 49 "FoldRow" "add" "J" ∈ tb := tb_of (List.mem_append_right _ (List.mem_of_getElem? (i := 29) rfl)) rfl
theorem tw_30 : Cond.fieldLink "FoldRow" 53 "FoldRow" "bottom" "J" ∈ tb := tb_of (List.mem_append_right _ (List.mem_of_getElem? (i := 30) rfl)) rfl
theorem tw_31 : Cond.fieldLink "FoldRow" 63 "FoldRow" "top" "J" ∈ tb := tb_of (List.mem_append_right _ (List.mem_of_getElem? (i := 31) rfl)) rfl
theorem tw_32 : Cond.laysFinal "FoldRow" "FoldRow" "more" "[J" ∈ tb := tb_of (List.mem_append_right _ (List.mem_of_getElem? (i := 32) rfl)) rfl
theorem tw_33 : Cond.soleField "FoldRow" "more" ∈ tb := tb_of (List.mem_append_right _ (List.mem_of_getElem? (i := 33) rfl)) rfl
theorem tw_34 : Cond.laysFinal "FoldRow" "FoldRow" "low" "[J" ∈ tb := tb_of (List.mem_append_right _ (List.mem_of_getElem? (i := 34) rfl)) rfl
theorem tw_35 : Cond.soleField "FoldRow" "low" ∈ tb := tb_of (List.mem_append_right _ (List.mem_of_getElem? (i := 35) rfl)) rfl
theorem tw_36 : Cond.laysFinal "FoldRow" "FoldRow" "high" "[J" ∈ tb := tb_of (List.mem_append_right _ (List.mem_of_getElem? (i := 36) rfl)) rfl
theorem tw_37 : Cond.soleField "FoldRow" "high" ∈ tb := tb_of (List.mem_append_right _ (List.mem_of_getElem? (i := 37) rfl)) rfl
theorem tw_38 : Cond.laysFinal "FoldRow" "FoldRow" "kind" "[I" ∈ tb := tb_of (List.mem_append_right _ (List.mem_of_getElem? (i := 38) rfl)) rfl
theorem tw_39 : Cond.soleField "FoldRow" "kind" ∈ tb := tb_of (List.mem_append_right _ (List.mem_of_getElem? (i := 39) rfl)) rfl
theorem tw_40 : Cond.laysFinal "FoldRow" "FoldRow" "value" "[J" ∈ tb := tb_of (List.mem_append_right _ (List.mem_of_getElem? (i := 40) rfl)) rfl
theorem tw_41 : Cond.soleField "FoldRow" "value" ∈ tb := tb_of (List.mem_append_right _ (List.mem_of_getElem? (i := 41) rfl)) rfl
theorem tw_42 : Cond.lays "FoldRow" "FoldRow" "add" "J" ∈ tb := tb_of (List.mem_append_right _ (List.mem_of_getElem? (i := 42) rfl)) rfl
theorem tw_43 : Cond.soleField "FoldRow" "add" ∈ tb := tb_of (List.mem_append_right _ (List.mem_of_getElem? (i := 43) rfl)) rfl
theorem tw_44 : Cond.lays "FoldRow" "FoldRow" "bottom" "J" ∈ tb := tb_of (List.mem_append_right _ (List.mem_of_getElem? (i := 44) rfl)) rfl
theorem tw_45 : Cond.soleField "FoldRow" "bottom" ∈ tb := tb_of (List.mem_append_right _ (List.mem_of_getElem? (i := 45) rfl)) rfl
theorem tw_46 : Cond.lays "FoldRow" "FoldRow" "top" "J" ∈ tb := tb_of (List.mem_append_right _ (List.mem_of_getElem? (i := 46) rfl)) rfl
theorem tw_47 : Cond.soleField "FoldRow" "top" ∈ tb := tb_of (List.mem_append_right _ (List.mem_of_getElem? (i := 47) rfl)) rfl
theorem tw_48 : Cond.superclass "FoldRow" "java/lang/Object" ∈ tb := tb_of (List.mem_append_right _ (List.mem_of_getElem? (i := 48) rfl)) rfl
theorem tw_49 : Cond.arrayClass FieldType.long ∈ tb := tb_of (List.mem_append_right _ (List.mem_of_getElem? (i := 49) rfl)) rfl
theorem tw_50 : Cond.arrayClass FieldType.int ∈ tb := tb_of (List.mem_append_right _ (List.mem_of_getElem? (i := 50) rfl)) rfl
theorem tw_51 : Cond.methodLink "FoldRowLaw" 56 ⟨"FoldRowLaw", "set", "(LFoldRow;IIJ)I"⟩ ∈ tb := tb_of (List.mem_append_right _ (List.mem_of_getElem? (i := 51) rfl)) rfl
theorem tw_52 : Cond.static ⟨"FoldRowLaw", "set", "(LFoldRow;IIJ)I"⟩ ∈ tb := tb_of (List.mem_append_right _ (List.mem_of_getElem? (i := 52) rfl)) rfl
theorem tw_53 : Cond.codeWith ⟨"FoldRowLaw", "set", "(LFoldRow;IIJ)I"⟩ method_3_code 6 (some FieldType.int) [(0, 7, 10, 13), (0, 7, 14, 15)] ∈ tb := tb_of (List.mem_append_right _ (List.mem_of_getElem? (i := 53) rfl)) rfl
theorem tw_54 : Cond.classLink "FoldRowLaw" 13 "java/lang/IllegalArgumentException" ∈ tb := tb_of (List.mem_append_right _ (List.mem_of_getElem? (i := 54) rfl)) rfl
theorem tw_55 : Cond.classLink "FoldRowLaw" 15 "java/lang/IndexOutOfBoundsException" ∈ tb := tb_of (List.mem_append_right _ (List.mem_of_getElem? (i := 55) rfl)) rfl
theorem tw_56 : Cond.methodLink "FoldRowLaw" 7 ⟨"FoldRow", "set", "(IIJ)V"⟩ ∈ tb := tb_of (List.mem_append_right _ (List.mem_of_getElem? (i := 56) rfl)) rfl
theorem tw_57 : Cond.instanceMethod ⟨"FoldRow", "set", "(IIJ)V"⟩ ∈ tb := tb_of (List.mem_append_right _ (List.mem_of_getElem? (i := 57) rfl)) rfl
theorem tw_58 : Cond.selects "FoldRow" ⟨"FoldRow", "set", "(IIJ)V"⟩ ⟨"FoldRow", "set", "(IIJ)V"⟩ ∈ tb := tb_of (List.mem_append_right _ (List.mem_of_getElem? (i := 58) rfl)) rfl
theorem tw_59 : Cond.code ⟨"FoldRow", "set", "(IIJ)V"⟩ prog_1_method_16_code 5 none ∈ tb := tb_of (List.mem_append_right _ (List.mem_of_getElem? (i := 59) rfl)) rfl
theorem tw_60 : Cond.methodLink "FoldRow" 92 ⟨"FoldRow", "rightRule", "(IJ)V"⟩ ∈ tb := tb_of (List.mem_append_right _ (List.mem_of_getElem? (i := 60) rfl)) rfl
theorem tw_61 : Cond.static ⟨"FoldRow", "rightRule", "(IJ)V"⟩ ∈ tb := tb_of (List.mem_append_right _ (List.mem_of_getElem? (i := 61) rfl)) rfl
theorem tw_62 : Cond.code ⟨"FoldRow", "rightRule", "(IJ)V"⟩ prog_1_method_14_code 3 none ∈ tb := tb_of (List.mem_append_right _ (List.mem_of_getElem? (i := 62) rfl)) rfl
theorem tw_63 : Cond.constantLong "FoldRow" 79 (1000000000 : Int64) ∈ tb := tb_of (List.mem_append_right _ (List.mem_of_getElem? (i := 63) rfl)) rfl
theorem tw_64 : Cond.methodLink "FoldRow" 81 ⟨"FoldRow", "in", "(JJ)Z"⟩ ∈ tb := tb_of (List.mem_append_right _ (List.mem_of_getElem? (i := 64) rfl)) rfl
theorem tw_65 : Cond.static ⟨"FoldRow", "in", "(JJ)Z"⟩ ∈ tb := tb_of (List.mem_append_right _ (List.mem_of_getElem? (i := 65) rfl)) rfl
theorem tw_66 : Cond.code ⟨"FoldRow", "in", "(JJ)Z"⟩ prog_1_method_4_code 4 (some FieldType.boolean) ∈ tb := tb_of (List.mem_append_right _ (List.mem_of_getElem? (i := 66) rfl)) rfl
theorem tw_67 : Cond.methodLink "FoldRow" 85 ⟨"FoldRow", "good", "(Z)V"⟩ ∈ tb := tb_of (List.mem_append_right _ (List.mem_of_getElem? (i := 67) rfl)) rfl
theorem tw_68 : Cond.static ⟨"FoldRow", "good", "(Z)V"⟩ ∈ tb := tb_of (List.mem_append_right _ (List.mem_of_getElem? (i := 68) rfl)) rfl
theorem tw_69 : Cond.code ⟨"FoldRow", "good", "(Z)V"⟩ prog_1_method_2_code 1 none ∈ tb := tb_of (List.mem_append_right _ (List.mem_of_getElem? (i := 69) rfl)) rfl
theorem tw_70 : Cond.classLink "FoldRow" 30 "java/lang/IllegalArgumentException" ∈ tb := tb_of (List.mem_append_right _ (List.mem_of_getElem? (i := 70) rfl)) rfl
theorem tw_71 : Cond.instantiable "java/lang/IllegalArgumentException" 6 ∈ tb := tb_of (List.mem_append_right _ (List.mem_of_getElem? (i := 71) rfl)) rfl
theorem tw_79 : Cond.selects "java/lang/IllegalArgumentException" ⟨"java/lang/Throwable", "fillInStackTrace", "(I)Ljava/lang/Throwable;"⟩ ⟨"java/lang/Throwable", "fillInStackTrace", "(I)Ljava/lang/Throwable;"⟩ ∈ tb := tb_of (List.mem_append_right _ (List.mem_of_getElem? (i := 79) rfl)) rfl
theorem tw_80 : Cond.selects "java/lang/IllegalArgumentException" ⟨"java/lang/Throwable", "fillInStackTrace", "()Ljava/lang/Throwable;"⟩ ⟨"java/lang/Throwable", "fillInStackTrace", "()Ljava/lang/Throwable;"⟩ ∈ tb := tb_of (List.mem_append_right _ (List.mem_of_getElem? (i := 80) rfl)) rfl
theorem tw_81 : Cond.lays "java/lang/IllegalArgumentException" "java/lang/Throwable" "cause" "Ljava/lang/Throwable;" ∈ tb := tb_of (List.mem_append_right _ (List.mem_of_getElem? (i := 81) rfl)) rfl
theorem tw_82 : Cond.lays "java/lang/Throwable" "java/lang/Throwable" "cause" "Ljava/lang/Throwable;" ∈ tb := tb_of (List.mem_append_right _ (List.mem_of_getElem? (i := 82) rfl)) rfl
theorem tw_83 : Cond.lays "java/lang/IllegalArgumentException" "java/lang/Throwable" "stackTrace" "[Ljava/lang/StackTraceElement;" ∈ tb := tb_of (List.mem_append_right _ (List.mem_of_getElem? (i := 83) rfl)) rfl
theorem tw_84 : Cond.lays "java/lang/Throwable" "java/lang/Throwable" "stackTrace" "[Ljava/lang/StackTraceElement;" ∈ tb := tb_of (List.mem_append_right _ (List.mem_of_getElem? (i := 84) rfl)) rfl
theorem tw_85 : Cond.lays "java/lang/IllegalArgumentException" "java/lang/Throwable" "suppressedExceptions" "Ljava/util/List;" ∈ tb := tb_of (List.mem_append_right _ (List.mem_of_getElem? (i := 85) rfl)) rfl
theorem tw_86 : Cond.lays "java/lang/Throwable" "java/lang/Throwable" "suppressedExceptions" "Ljava/util/List;" ∈ tb := tb_of (List.mem_append_right _ (List.mem_of_getElem? (i := 86) rfl)) rfl
theorem tw_87 : Cond.lays "java/lang/IllegalArgumentException" "java/lang/Throwable" "detailMessage" "Ljava/lang/String;" ∈ tb := tb_of (List.mem_append_right _ (List.mem_of_getElem? (i := 87) rfl)) rfl
theorem tw_88 : Cond.lays "java/lang/Throwable" "java/lang/Throwable" "detailMessage" "Ljava/lang/String;" ∈ tb := tb_of (List.mem_append_right _ (List.mem_of_getElem? (i := 88) rfl)) rfl
theorem tw_89 : Cond.lays "java/lang/IllegalArgumentException" "java/lang/Throwable" "backtrace" "Ljava/lang/Object;" ∈ tb := tb_of (List.mem_append_right _ (List.mem_of_getElem? (i := 89) rfl)) rfl
theorem tw_90 : Cond.lays "java/lang/Throwable" "java/lang/Throwable" "backtrace" "Ljava/lang/Object;" ∈ tb := tb_of (List.mem_append_right _ (List.mem_of_getElem? (i := 90) rfl)) rfl
theorem tw_91 : Cond.fieldLink "java/lang/Throwable" 198 "java/lang/Throwable" "backtrace" "Ljava/lang/Object;" ∈ tb := tb_of (List.mem_append_right _ (List.mem_of_getElem? (i := 91) rfl)) rfl
theorem tw_92 : Cond.superclass "java/lang/Throwable" "java/lang/Object" ∈ tb := tb_of (List.mem_append_right _ (List.mem_of_getElem? (i := 92) rfl)) rfl
theorem tw_93 : Cond.instanceMethod ⟨"java/lang/Throwable", "<init>", "()V"⟩ ∈ tb := tb_of (List.mem_append_right _ (List.mem_of_getElem? (i := 93) rfl)) rfl
theorem tw_94 : Cond.code ⟨"java/lang/Throwable", "<init>", "()V"⟩ prog_9_method_1_code 1 none ∈ tb := tb_of (List.mem_append_right _ (List.mem_of_getElem? (i := 94) rfl)) rfl
theorem tw_95 : Cond.methodLink "java/lang/Throwable" 1 ⟨"java/lang/Object", "<init>", "()V"⟩ ∈ tb := tb_of (List.mem_append_right _ (List.mem_of_getElem? (i := 95) rfl)) rfl
theorem tw_96 : Cond.fieldLink "java/lang/Throwable" 13 "java/lang/Throwable" "UNASSIGNED_STACK" "[Ljava/lang/StackTraceElement;" ∈ tb := tb_of (List.mem_append_right _ (List.mem_of_getElem? (i := 96) rfl)) rfl
theorem tw_98 : Cond.fieldLink "java/lang/Throwable" 20 "java/lang/Throwable" "SUPPRESSED_SENTINEL" "Ljava/util/List;" ∈ tb := tb_of (List.mem_append_right _ (List.mem_of_getElem? (i := 98) rfl)) rfl
theorem tw_100 : Cond.methodLink "java/lang/Throwable" 27 ⟨"java/lang/Throwable", "fillInStackTrace", "()Ljava/lang/Throwable;"⟩ ∈ tb := tb_of (List.mem_append_right _ (List.mem_of_getElem? (i := 100) rfl)) rfl
theorem tw_101 : Cond.instanceMethod ⟨"java/lang/Throwable", "fillInStackTrace", "()Ljava/lang/Throwable;"⟩ ∈ tb := tb_of (List.mem_append_right _ (List.mem_of_getElem? (i := 101) rfl)) rfl
theorem tw_102 : Cond.sameMethod "java/lang/Throwable" "java/lang/Throwable" "fillInStackTrace" "()Ljava/lang/Throwable;" ∈ tb := tb_of (List.mem_append_right _ (List.mem_of_getElem? (i := 102) rfl)) rfl
theorem tw_103 : Cond.selects "java/lang/IndexOutOfBoundsException" ⟨"java/lang/Throwable", "fillInStackTrace", "()Ljava/lang/Throwable;"⟩ ⟨"java/lang/Throwable", "fillInStackTrace", "()Ljava/lang/Throwable;"⟩ ∈ tb := tb_of (List.mem_append_right _ (List.mem_of_getElem? (i := 103) rfl)) rfl
theorem tw_104 : Cond.selects "java/lang/UnsupportedOperationException" ⟨"java/lang/Throwable", "fillInStackTrace", "()Ljava/lang/Throwable;"⟩ ⟨"java/lang/Throwable", "fillInStackTrace", "()Ljava/lang/Throwable;"⟩ ∈ tb := tb_of (List.mem_append_right _ (List.mem_of_getElem? (i := 104) rfl)) rfl
theorem tw_105 : Cond.codeSync ⟨"java/lang/Throwable", "fillInStackTrace", "()Ljava/lang/Throwable;"⟩ prog_9_method_18_code 1 (some (FieldType.object "java/lang/Throwable")) ∈ tb := tb_of (List.mem_append_right _ (List.mem_of_getElem? (i := 105) rfl)) rfl
theorem tw_106 : Cond.methodLink "java/lang/Throwable" 202 ⟨"java/lang/Throwable", "fillInStackTrace", "(I)Ljava/lang/Throwable;"⟩ ∈ tb := tb_of (List.mem_append_right _ (List.mem_of_getElem? (i := 106) rfl)) rfl
theorem tw_108 : Cond.instanceMethod ⟨"java/lang/Throwable", "fillInStackTrace", "(I)Ljava/lang/Throwable;"⟩ ∈ tb := tb_of (List.mem_append_right _ (List.mem_of_getElem? (i := 108) rfl)) rfl
theorem tw_109 : Cond.instantiable "java/lang/Throwable" 6 ∈ tb := tb_of (List.mem_append_right _ (List.mem_of_getElem? (i := 109) rfl)) rfl
theorem tw_110 : Cond.native ⟨"java/lang/Throwable", "fillInStackTrace", "(I)Ljava/lang/Throwable;"⟩ ∈ tb := tb_of (List.mem_append_right _ (List.mem_of_getElem? (i := 110) rfl)) rfl
theorem tw_111 : Cond.methodLink "FoldRow" 32 ⟨"java/lang/IllegalArgumentException", "<init>", "()V"⟩ ∈ tb := tb_of (List.mem_append_right _ (List.mem_of_getElem? (i := 111) rfl)) rfl
theorem tw_112 : Cond.instanceMethod ⟨"java/lang/IllegalArgumentException", "<init>", "()V"⟩ ∈ tb := tb_of (List.mem_append_right _ (List.mem_of_getElem? (i := 112) rfl)) rfl
theorem tw_113 : Cond.code ⟨"java/lang/IllegalArgumentException", "<init>", "()V"⟩ prog_5_method_1_code 1 none ∈ tb := tb_of (List.mem_append_right _ (List.mem_of_getElem? (i := 113) rfl)) rfl
theorem tw_114 : Cond.methodLink "java/lang/IllegalArgumentException" 1 ⟨"java/lang/RuntimeException", "<init>", "()V"⟩ ∈ tb := tb_of (List.mem_append_right _ (List.mem_of_getElem? (i := 114) rfl)) rfl
theorem tw_115 : Cond.instanceMethod ⟨"java/lang/RuntimeException", "<init>", "()V"⟩ ∈ tb := tb_of (List.mem_append_right _ (List.mem_of_getElem? (i := 115) rfl)) rfl
theorem tw_116 : Cond.code ⟨"java/lang/RuntimeException", "<init>", "()V"⟩ prog_8_method_1_code 1 none ∈ tb := tb_of (List.mem_append_right _ (List.mem_of_getElem? (i := 116) rfl)) rfl
theorem tw_117 : Cond.methodLink "java/lang/RuntimeException" 1 ⟨"java/lang/Exception", "<init>", "()V"⟩ ∈ tb := tb_of (List.mem_append_right _ (List.mem_of_getElem? (i := 117) rfl)) rfl
theorem tw_118 : Cond.instanceMethod ⟨"java/lang/Exception", "<init>", "()V"⟩ ∈ tb := tb_of (List.mem_append_right _ (List.mem_of_getElem? (i := 118) rfl)) rfl
theorem tw_119 : Cond.code ⟨"java/lang/Exception", "<init>", "()V"⟩ prog_4_method_1_code 1 none ∈ tb := tb_of (List.mem_append_right _ (List.mem_of_getElem? (i := 119) rfl)) rfl
theorem tw_120 : Cond.methodLink "java/lang/Exception" 1 ⟨"java/lang/Throwable", "<init>", "()V"⟩ ∈ tb := tb_of (List.mem_append_right _ (List.mem_of_getElem? (i := 120) rfl)) rfl
theorem tw_121 : Cond.fieldLink "java/lang/Throwable" 198 "java/lang/Throwable" "backtrace" "Ljava/lang/Object;" ∈ tb := tb_of (List.mem_append_right _ (List.mem_of_getElem? (i := 121) rfl)) rfl
theorem tw_122 : Cond.fieldLink "java/lang/Throwable" 7 "java/lang/Throwable" "cause" "Ljava/lang/Throwable;" ∈ tb := tb_of (List.mem_append_right _ (List.mem_of_getElem? (i := 122) rfl)) rfl
theorem tw_123 : Cond.fieldLink "java/lang/Throwable" 17 "java/lang/Throwable" "stackTrace" "[Ljava/lang/StackTraceElement;" ∈ tb := tb_of (List.mem_append_right _ (List.mem_of_getElem? (i := 123) rfl)) rfl
theorem tw_124 : Cond.fieldLink "java/lang/Throwable" 24 "java/lang/Throwable" "suppressedExceptions" "Ljava/util/List;" ∈ tb := tb_of (List.mem_append_right _ (List.mem_of_getElem? (i := 124) rfl)) rfl
theorem tw_125 : Cond.soleField "java/lang/Throwable" "backtrace" ∈ tb := tb_of (List.mem_append_right _ (List.mem_of_getElem? (i := 125) rfl)) rfl
theorem tw_126 : Cond.soleField "java/lang/Throwable" "detailMessage" ∈ tb := tb_of (List.mem_append_right _ (List.mem_of_getElem? (i := 126) rfl)) rfl
theorem tw_127 : Cond.soleField "java/lang/Throwable" "cause" ∈ tb := tb_of (List.mem_append_right _ (List.mem_of_getElem? (i := 127) rfl)) rfl
theorem tw_128 : Cond.soleField "java/lang/Throwable" "stackTrace" ∈ tb := tb_of (List.mem_append_right _ (List.mem_of_getElem? (i := 128) rfl)) rfl
theorem tw_129 : Cond.lays "java/lang/IllegalArgumentException" "java/lang/Throwable" "depth" "I" ∈ tb := tb_of (List.mem_append_right _ (List.mem_of_getElem? (i := 129) rfl)) rfl
theorem tw_130 : Cond.soleField "java/lang/Throwable" "depth" ∈ tb := tb_of (List.mem_append_right _ (List.mem_of_getElem? (i := 130) rfl)) rfl
theorem tw_131 : Cond.soleField "java/lang/Throwable" "suppressedExceptions" ∈ tb := tb_of (List.mem_append_right _ (List.mem_of_getElem? (i := 131) rfl)) rfl
theorem tw_132 : Cond.superclass "java/lang/IllegalArgumentException" "java/lang/RuntimeException" ∈ tb := tb_of (List.mem_append_right _ (List.mem_of_getElem? (i := 132) rfl)) rfl
theorem tw_133 : Cond.methodLink "FoldRow" 96 ⟨"FoldRow", "rule", "(I)V"⟩ ∈ tb := tb_of (List.mem_append_right _ (List.mem_of_getElem? (i := 133) rfl)) rfl
theorem tw_134 : Cond.static ⟨"FoldRow", "rule", "(I)V"⟩ ∈ tb := tb_of (List.mem_append_right _ (List.mem_of_getElem? (i := 134) rfl)) rfl
theorem tw_135 : Cond.code ⟨"FoldRow", "rule", "(I)V"⟩ prog_1_method_15_code 1 none ∈ tb := tb_of (List.mem_append_right _ (List.mem_of_getElem? (i := 135) rfl)) rfl
theorem tw_136 : Cond.methodLink "FoldRow" 89 ⟨"FoldRow", "there", "(Z)V"⟩ ∈ tb := tb_of (List.mem_append_right _ (List.mem_of_getElem? (i := 136) rfl)) rfl
theorem tw_137 : Cond.static ⟨"FoldRow", "there", "(Z)V"⟩ ∈ tb := tb_of (List.mem_append_right _ (List.mem_of_getElem? (i := 137) rfl)) rfl
theorem tw_138 : Cond.code ⟨"FoldRow", "there", "(Z)V"⟩ prog_1_method_3_code 1 none ∈ tb := tb_of (List.mem_append_right _ (List.mem_of_getElem? (i := 138) rfl)) rfl
theorem tw_139 : Cond.classLink "FoldRow" 33 "java/lang/IndexOutOfBoundsException" ∈ tb := tb_of (List.mem_append_right _ (List.mem_of_getElem? (i := 139) rfl)) rfl
theorem tw_140 : Cond.instantiable "java/lang/IndexOutOfBoundsException" 6 ∈ tb := tb_of (List.mem_append_right _ (List.mem_of_getElem? (i := 140) rfl)) rfl
theorem tw_142 : Cond.selects "java/lang/IndexOutOfBoundsException" ⟨"java/lang/Throwable", "fillInStackTrace", "(I)Ljava/lang/Throwable;"⟩ ⟨"java/lang/Throwable", "fillInStackTrace", "(I)Ljava/lang/Throwable;"⟩ ∈ tb := tb_of (List.mem_append_right _ (List.mem_of_getElem? (i := 142) rfl)) rfl
theorem tw_143 : Cond.lays "java/lang/IndexOutOfBoundsException" "java/lang/Throwable" "cause" "Ljava/lang/Throwable;" ∈ tb := tb_of (List.mem_append_right _ (List.mem_of_getElem? (i := 143) rfl)) rfl
theorem tw_144 : Cond.lays "java/lang/IndexOutOfBoundsException" "java/lang/Throwable" "stackTrace" "[Ljava/lang/StackTraceElement;" ∈ tb := tb_of (List.mem_append_right _ (List.mem_of_getElem? (i := 144) rfl)) rfl
theorem tw_145 : Cond.lays "java/lang/IndexOutOfBoundsException" "java/lang/Throwable" "suppressedExceptions" "Ljava/util/List;" ∈ tb := tb_of (List.mem_append_right _ (List.mem_of_getElem? (i := 145) rfl)) rfl
theorem tw_146 : Cond.lays "java/lang/IndexOutOfBoundsException" "java/lang/Throwable" "detailMessage" "Ljava/lang/String;" ∈ tb := tb_of (List.mem_append_right _ (List.mem_of_getElem? (i := 146) rfl)) rfl
theorem tw_147 : Cond.lays "java/lang/IndexOutOfBoundsException" "java/lang/Throwable" "backtrace" "Ljava/lang/Object;" ∈ tb := tb_of (List.mem_append_right _ (List.mem_of_getElem? (i := 147) rfl)) rfl
theorem tw_148 : Cond.methodLink "FoldRow" 35 ⟨"java/lang/IndexOutOfBoundsException", "<init>", "()V"⟩ ∈ tb := tb_of (List.mem_append_right _ (List.mem_of_getElem? (i := 148) rfl)) rfl
theorem tw_149 : Cond.instanceMethod ⟨"java/lang/IndexOutOfBoundsException", "<init>", "()V"⟩ ∈ tb := tb_of (List.mem_append_right _ (List.mem_of_getElem? (i := 149) rfl)) rfl
theorem tw_150 : Cond.code ⟨"java/lang/IndexOutOfBoundsException", "<init>", "()V"⟩ prog_6_method_1_code 1 none ∈ tb := tb_of (List.mem_append_right _ (List.mem_of_getElem? (i := 150) rfl)) rfl
theorem tw_151 : Cond.methodLink "java/lang/IndexOutOfBoundsException" 1 ⟨"java/lang/RuntimeException", "<init>", "()V"⟩ ∈ tb := tb_of (List.mem_append_right _ (List.mem_of_getElem? (i := 151) rfl)) rfl
theorem tw_152 : Cond.lays "java/lang/IndexOutOfBoundsException" "java/lang/Throwable" "depth" "I" ∈ tb := tb_of (List.mem_append_right _ (List.mem_of_getElem? (i := 152) rfl)) rfl
theorem tw_153 : Cond.superclass "java/lang/IndexOutOfBoundsException" "java/lang/RuntimeException" ∈ tb := tb_of (List.mem_append_right _ (List.mem_of_getElem? (i := 153) rfl)) rfl
theorem tw_154 : Cond.methodLink "FoldRow" 99 ⟨"FoldRow", "rule", "(IIJ)V"⟩ ∈ tb := tb_of (List.mem_append_right _ (List.mem_of_getElem? (i := 154) rfl)) rfl
theorem tw_156 : Cond.instanceMethod ⟨"FoldRow", "rule", "(IIJ)V"⟩ ∈ tb := tb_of (List.mem_append_right _ (List.mem_of_getElem? (i := 156) rfl)) rfl
theorem tw_157 : Cond.code ⟨"FoldRow", "rule", "(IIJ)V"⟩ prog_1_method_12_code 6 none ∈ tb := tb_of (List.mem_append_right _ (List.mem_of_getElem? (i := 157) rfl)) rfl
theorem tw_158 : Cond.methodLink "FoldRow" 102 ⟨"FoldRow", "up", "(I)V"⟩ ∈ tb := tb_of (List.mem_append_right _ (List.mem_of_getElem? (i := 158) rfl)) rfl
theorem tw_160 : Cond.instanceMethod ⟨"FoldRow", "up", "(I)V"⟩ ∈ tb := tb_of (List.mem_append_right _ (List.mem_of_getElem? (i := 160) rfl)) rfl
theorem tw_161 : Cond.code ⟨"FoldRow", "up", "(I)V"⟩ prog_1_method_13_code 3 none ∈ tb := tb_of (List.mem_append_right _ (List.mem_of_getElem? (i := 161) rfl)) rfl
theorem tw_162 : Cond.methodLink "FoldRow" 70 ⟨"FoldRow", "begin", "()V"⟩ ∈ tb := tb_of (List.mem_append_right _ (List.mem_of_getElem? (i := 162) rfl)) rfl
theorem tw_164 : Cond.instanceMethod ⟨"FoldRow", "begin", "()V"⟩ ∈ tb := tb_of (List.mem_append_right _ (List.mem_of_getElem? (i := 164) rfl)) rfl
theorem tw_165 : Cond.code ⟨"FoldRow", "begin", "()V"⟩ prog_1_method_9_code 1 none ∈ tb := tb_of (List.mem_append_right _ (List.mem_of_getElem? (i := 165) rfl)) rfl
theorem tw_166 : Cond.methodLink "FoldRow" 73 ⟨"FoldRow", "node", "(I)V"⟩ ∈ tb := tb_of (List.mem_append_right _ (List.mem_of_getElem? (i := 166) rfl)) rfl
theorem tw_168 : Cond.instanceMethod ⟨"FoldRow", "node", "(I)V"⟩ ∈ tb := tb_of (List.mem_append_right _ (List.mem_of_getElem? (i := 168) rfl)) rfl
theorem tw_169 : Cond.code ⟨"FoldRow", "node", "(I)V"⟩ prog_1_method_10_code 2 none ∈ tb := tb_of (List.mem_append_right _ (List.mem_of_getElem? (i := 169) rfl)) rfl
theorem tw_170 : Cond.methodLink "FoldRow" 66 ⟨"FoldRow", "behind", "(JJJ)V"⟩ ∈ tb := tb_of (List.mem_append_right _ (List.mem_of_getElem? (i := 170) rfl)) rfl
theorem tw_172 : Cond.instanceMethod ⟨"FoldRow", "behind", "(JJJ)V"⟩ ∈ tb := tb_of (List.mem_append_right _ (List.mem_of_getElem? (i := 172) rfl)) rfl
theorem tw_173 : Cond.code ⟨"FoldRow", "behind", "(JJJ)V"⟩ prog_1_method_8_code 7 none ∈ tb := tb_of (List.mem_append_right _ (List.mem_of_getElem? (i := 173) rfl)) rfl
theorem tw_174 : Cond.methodLink "FoldRow" 56 ⟨"FoldRow", "bound", "(JJ)J"⟩ ∈ tb := tb_of (List.mem_append_right _ (List.mem_of_getElem? (i := 174) rfl)) rfl
theorem tw_175 : Cond.static ⟨"FoldRow", "bound", "(JJ)J"⟩ ∈ tb := tb_of (List.mem_append_right _ (List.mem_of_getElem? (i := 175) rfl)) rfl
theorem tw_176 : Cond.code ⟨"FoldRow", "bound", "(JJ)J"⟩ prog_1_method_6_code 4 (some FieldType.long) ∈ tb := tb_of (List.mem_append_right _ (List.mem_of_getElem? (i := 176) rfl)) rfl
theorem tw_177 : Cond.methodLink "FoldRow" 59 ⟨"FoldRow", "within", "(JJJ)J"⟩ ∈ tb := tb_of (List.mem_append_right _ (List.mem_of_getElem? (i := 177) rfl)) rfl
theorem tw_178 : Cond.static ⟨"FoldRow", "within", "(JJJ)J"⟩ ∈ tb := tb_of (List.mem_append_right _ (List.mem_of_getElem? (i := 178) rfl)) rfl
theorem tw_179 : Cond.code ⟨"FoldRow", "within", "(JJJ)J"⟩ prog_1_method_7_code 6 (some FieldType.long) ∈ tb := tb_of (List.mem_append_right _ (List.mem_of_getElem? (i := 179) rfl)) rfl
theorem tw_180 : Cond.methodLink "FoldRow" 40 ⟨"java/lang/Math", "min", "(JJ)J"⟩ ∈ tb := tb_of (List.mem_append_right _ (List.mem_of_getElem? (i := 180) rfl)) rfl
theorem tw_181 : Cond.static ⟨"java/lang/Math", "min", "(JJ)J"⟩ ∈ tb := tb_of (List.mem_append_right _ (List.mem_of_getElem? (i := 181) rfl)) rfl
theorem tw_182 : Cond.code ⟨"java/lang/Math", "min", "(JJ)J"⟩ prog_7_method_70_code 4 (some FieldType.long) ∈ tb := tb_of (List.mem_append_right _ (List.mem_of_getElem? (i := 182) rfl)) rfl
theorem tw_183 : Cond.methodLink "FoldRow" 46 ⟨"java/lang/Math", "max", "(JJ)J"⟩ ∈ tb := tb_of (List.mem_append_right _ (List.mem_of_getElem? (i := 183) rfl)) rfl
theorem tw_184 : Cond.static ⟨"java/lang/Math", "max", "(JJ)J"⟩ ∈ tb := tb_of (List.mem_append_right _ (List.mem_of_getElem? (i := 184) rfl)) rfl
theorem tw_185 : Cond.code ⟨"java/lang/Math", "max", "(JJ)J"⟩ prog_7_method_66_code 4 (some FieldType.long) ∈ tb := tb_of (List.mem_append_right _ (List.mem_of_getElem? (i := 185) rfl)) rfl
theorem tw_186 : Cond.methodLink "FoldRow" 76 ⟨"FoldRow", "keep", "(I)V"⟩ ∈ tb := tb_of (List.mem_append_right _ (List.mem_of_getElem? (i := 186) rfl)) rfl
theorem tw_188 : Cond.instanceMethod ⟨"FoldRow", "keep", "(I)V"⟩ ∈ tb := tb_of (List.mem_append_right _ (List.mem_of_getElem? (i := 188) rfl)) rfl
theorem tw_189 : Cond.code ⟨"FoldRow", "keep", "(I)V"⟩ prog_1_method_11_code 2 none ∈ tb := tb_of (List.mem_append_right _ (List.mem_of_getElem? (i := 189) rfl)) rfl
theorem tw_190 : Cond.methodLink "FoldRowLaw" 66 ⟨"FoldRowLaw", "fill", "(LFoldRow;IIIJ)I"⟩ ∈ tb := tb_of (List.mem_append_right _ (List.mem_of_getElem? (i := 190) rfl)) rfl
theorem tw_191 : Cond.static ⟨"FoldRowLaw", "fill", "(LFoldRow;IIIJ)I"⟩ ∈ tb := tb_of (List.mem_append_right _ (List.mem_of_getElem? (i := 191) rfl)) rfl
theorem tw_192 : Cond.codeWith ⟨"FoldRowLaw", "fill", "(LFoldRow;IIIJ)I"⟩ method_4_code 7 (some FieldType.int) [(0, 9, 12, 13), (0, 9, 16, 15)] ∈ tb := tb_of (List.mem_append_right _ (List.mem_of_getElem? (i := 192) rfl)) rfl
theorem tw_193 : Cond.methodLink "FoldRowLaw" 17 ⟨"FoldRow", "fill", "(IIIJ)V"⟩ ∈ tb := tb_of (List.mem_append_right _ (List.mem_of_getElem? (i := 193) rfl)) rfl
theorem tw_194 : Cond.instanceMethod ⟨"FoldRow", "fill", "(IIIJ)V"⟩ ∈ tb := tb_of (List.mem_append_right _ (List.mem_of_getElem? (i := 194) rfl)) rfl
theorem tw_195 : Cond.selects "FoldRow" ⟨"FoldRow", "fill", "(IIIJ)V"⟩ ⟨"FoldRow", "fill", "(IIIJ)V"⟩ ∈ tb := tb_of (List.mem_append_right _ (List.mem_of_getElem? (i := 195) rfl)) rfl
theorem tw_196 : Cond.code ⟨"FoldRow", "fill", "(IIIJ)V"⟩ prog_1_method_17_code 7 none ∈ tb := tb_of (List.mem_append_right _ (List.mem_of_getElem? (i := 196) rfl)) rfl
theorem tw_197 : Cond.methodLink "FoldRow" 105 ⟨"FoldRow", "part", "(II)V"⟩ ∈ tb := tb_of (List.mem_append_right _ (List.mem_of_getElem? (i := 197) rfl)) rfl
theorem tw_198 : Cond.static ⟨"FoldRow", "part", "(II)V"⟩ ∈ tb := tb_of (List.mem_append_right _ (List.mem_of_getElem? (i := 198) rfl)) rfl
theorem tw_199 : Cond.code ⟨"FoldRow", "part", "(II)V"⟩ prog_1_method_19_code 2 none ∈ tb := tb_of (List.mem_append_right _ (List.mem_of_getElem? (i := 199) rfl)) rfl
theorem tw_200 : Cond.methodLink "FoldRowLaw" 70 ⟨"FoldRowLaw", "swap", "(LFoldRow;II)I"⟩ ∈ tb := tb_of (List.mem_append_right _ (List.mem_of_getElem? (i := 200) rfl)) rfl
theorem tw_201 : Cond.static ⟨"FoldRowLaw", "swap", "(LFoldRow;II)I"⟩ ∈ tb := tb_of (List.mem_append_right _ (List.mem_of_getElem? (i := 201) rfl)) rfl
theorem tw_202 : Cond.codeWith ⟨"FoldRowLaw", "swap", "(LFoldRow;II)I"⟩ method_5_code 4 (some FieldType.int) [(0, 6, 9, 15)] ∈ tb := tb_of (List.mem_append_right _ (List.mem_of_getElem? (i := 202) rfl)) rfl
theorem tw_203 : Cond.methodLink "FoldRowLaw" 21 ⟨"FoldRow", "swap", "(II)V"⟩ ∈ tb := tb_of (List.mem_append_right _ (List.mem_of_getElem? (i := 203) rfl)) rfl
theorem tw_204 : Cond.instanceMethod ⟨"FoldRow", "swap", "(II)V"⟩ ∈ tb := tb_of (List.mem_append_right _ (List.mem_of_getElem? (i := 204) rfl)) rfl
theorem tw_205 : Cond.selects "FoldRow" ⟨"FoldRow", "swap", "(II)V"⟩ ⟨"FoldRow", "swap", "(II)V"⟩ ∈ tb := tb_of (List.mem_append_right _ (List.mem_of_getElem? (i := 205) rfl)) rfl
theorem tw_206 : Cond.code ⟨"FoldRow", "swap", "(II)V"⟩ prog_1_method_18_code 6 none ∈ tb := tb_of (List.mem_append_right _ (List.mem_of_getElem? (i := 206) rfl)) rfl
theorem tw_207 : Cond.methodLink "FoldRowLaw" 74 ⟨"FoldRowLaw", "fold", "(LFoldRow;IIJ[J)I"⟩ ∈ tb := tb_of (List.mem_append_right _ (List.mem_of_getElem? (i := 207) rfl)) rfl
theorem tw_208 : Cond.static ⟨"FoldRowLaw", "fold", "(LFoldRow;IIJ[J)I"⟩ ∈ tb := tb_of (List.mem_append_right _ (List.mem_of_getElem? (i := 208) rfl)) rfl
theorem tw_209 : Cond.codeWith ⟨"FoldRowLaw", "fold", "(LFoldRow;IIJ[J)I"⟩ method_6_code 7 (some FieldType.int) [(0, 11, 14, 13), (0, 11, 18, 15)] ∈ tb := tb_of (List.mem_append_right _ (List.mem_of_getElem? (i := 209) rfl)) rfl
theorem tw_210 : Cond.methodLink "FoldRowLaw" 25 ⟨"FoldRow", "fold", "(IIJ)J"⟩ ∈ tb := tb_of (List.mem_append_right _ (List.mem_of_getElem? (i := 210) rfl)) rfl
theorem tw_211 : Cond.instanceMethod ⟨"FoldRow", "fold", "(IIJ)J"⟩ ∈ tb := tb_of (List.mem_append_right _ (List.mem_of_getElem? (i := 211) rfl)) rfl
theorem tw_212 : Cond.selects "FoldRow" ⟨"FoldRow", "fold", "(IIJ)J"⟩ ⟨"FoldRow", "fold", "(IIJ)J"⟩ ∈ tb := tb_of (List.mem_append_right _ (List.mem_of_getElem? (i := 212) rfl)) rfl
theorem tw_213 : Cond.code ⟨"FoldRow", "fold", "(IIJ)J"⟩ prog_1_method_22_code 5 (some FieldType.long) ∈ tb := tb_of (List.mem_append_right _ (List.mem_of_getElem? (i := 213) rfl)) rfl
theorem tw_214 : Cond.constantLong "FoldRow" 109 (1000000000000 : Int64) ∈ tb := tb_of (List.mem_append_right _ (List.mem_of_getElem? (i := 214) rfl)) rfl
theorem tw_215 : Cond.methodLink "FoldRow" 111 ⟨"FoldRow", "join", "(II)V"⟩ ∈ tb := tb_of (List.mem_append_right _ (List.mem_of_getElem? (i := 215) rfl)) rfl
theorem tw_217 : Cond.instanceMethod ⟨"FoldRow", "join", "(II)V"⟩ ∈ tb := tb_of (List.mem_append_right _ (List.mem_of_getElem? (i := 217) rfl)) rfl
theorem tw_218 : Cond.code ⟨"FoldRow", "join", "(II)V"⟩ prog_1_method_20_code 6 none ∈ tb := tb_of (List.mem_append_right _ (List.mem_of_getElem? (i := 218) rfl)) rfl
theorem tw_219 : Cond.methodLink "FoldRow" 114 ⟨"FoldRow", "made", "(J)J"⟩ ∈ tb := tb_of (List.mem_append_right _ (List.mem_of_getElem? (i := 219) rfl)) rfl
theorem tw_221 : Cond.instanceMethod ⟨"FoldRow", "made", "(J)J"⟩ ∈ tb := tb_of (List.mem_append_right _ (List.mem_of_getElem? (i := 221) rfl)) rfl
theorem tw_222 : Cond.code ⟨"FoldRow", "made", "(J)J"⟩ prog_1_method_21_code 3 (some FieldType.long) ∈ tb := tb_of (List.mem_append_right _ (List.mem_of_getElem? (i := 222) rfl)) rfl
theorem tw_223 : Cond.methodLink "FoldRowLaw" 78 ⟨"FoldRowLaw", "again", "(LFoldRow;IIJI[J)I"⟩ ∈ tb := tb_of (List.mem_append_right _ (List.mem_of_getElem? (i := 223) rfl)) rfl
theorem tw_224 : Cond.static ⟨"FoldRowLaw", "again", "(LFoldRow;IIJI[J)I"⟩ ∈ tb := tb_of (List.mem_append_right _ (List.mem_of_getElem? (i := 224) rfl)) rfl
theorem tw_225 : Cond.codeWith ⟨"FoldRowLaw", "again", "(LFoldRow;IIJI[J)I"⟩ method_7_code 8 (some FieldType.int) [(0, 13, 16, 13), (0, 13, 20, 15)] ∈ tb := tb_of (List.mem_append_right _ (List.mem_of_getElem? (i := 225) rfl)) rfl
theorem tw_226 : Cond.methodLink "FoldRowLaw" 29 ⟨"FoldRow", "again", "(IIJI)J"⟩ ∈ tb := tb_of (List.mem_append_right _ (List.mem_of_getElem? (i := 226) rfl)) rfl
theorem tw_227 : Cond.instanceMethod ⟨"FoldRow", "again", "(IIJI)J"⟩ ∈ tb := tb_of (List.mem_append_right _ (List.mem_of_getElem? (i := 227) rfl)) rfl
theorem tw_228 : Cond.selects "FoldRow" ⟨"FoldRow", "again", "(IIJI)J"⟩ ⟨"FoldRow", "again", "(IIJI)J"⟩ ∈ tb := tb_of (List.mem_append_right _ (List.mem_of_getElem? (i := 228) rfl)) rfl
theorem tw_229 : Cond.code ⟨"FoldRow", "again", "(IIJI)J"⟩ prog_1_method_23_code 9 (some FieldType.long) ∈ tb := tb_of (List.mem_append_right _ (List.mem_of_getElem? (i := 229) rfl)) rfl
theorem tw_230 : Cond.methodLink "FoldRowLaw" 82 ⟨"FoldRowLaw", "least", "(LFoldRow;II[J)I"⟩ ∈ tb := tb_of (List.mem_append_right _ (List.mem_of_getElem? (i := 230) rfl)) rfl
theorem tw_231 : Cond.static ⟨"FoldRowLaw", "least", "(LFoldRow;II[J)I"⟩ ∈ tb := tb_of (List.mem_append_right _ (List.mem_of_getElem? (i := 231) rfl)) rfl
theorem tw_232 : Cond.codeWith ⟨"FoldRowLaw", "least", "(LFoldRow;II[J)I"⟩ method_8_code 5 (some FieldType.int) [(0, 9, 12, 15), (0, 9, 16, 37)] ∈ tb := tb_of (List.mem_append_right _ (List.mem_of_getElem? (i := 232) rfl)) rfl
theorem tw_233 : Cond.classLink "FoldRowLaw" 37 "java/lang/UnsupportedOperationException" ∈ tb := tb_of (List.mem_append_right _ (List.mem_of_getElem? (i := 233) rfl)) rfl
theorem tw_234 : Cond.methodLink "FoldRowLaw" 33 ⟨"FoldRow", "least", "(II)J"⟩ ∈ tb := tb_of (List.mem_append_right _ (List.mem_of_getElem? (i := 234) rfl)) rfl
theorem tw_235 : Cond.instanceMethod ⟨"FoldRow", "least", "(II)J"⟩ ∈ tb := tb_of (List.mem_append_right _ (List.mem_of_getElem? (i := 235) rfl)) rfl
theorem tw_236 : Cond.selects "FoldRow" ⟨"FoldRow", "least", "(II)J"⟩ ⟨"FoldRow", "least", "(II)J"⟩ ∈ tb := tb_of (List.mem_append_right _ (List.mem_of_getElem? (i := 236) rfl)) rfl
theorem tw_237 : Cond.code ⟨"FoldRow", "least", "(II)J"⟩ prog_1_method_25_code 3 (some FieldType.long) ∈ tb := tb_of (List.mem_append_right _ (List.mem_of_getElem? (i := 237) rfl)) rfl
theorem tw_238 : Cond.methodLink "FoldRow" 121 ⟨"FoldRow", "told", "(J)J"⟩ ∈ tb := tb_of (List.mem_append_right _ (List.mem_of_getElem? (i := 238) rfl)) rfl
theorem tw_239 : Cond.static ⟨"FoldRow", "told", "(J)J"⟩ ∈ tb := tb_of (List.mem_append_right _ (List.mem_of_getElem? (i := 239) rfl)) rfl
theorem tw_240 : Cond.code ⟨"FoldRow", "told", "(J)J"⟩ prog_1_method_24_code 2 (some FieldType.long) ∈ tb := tb_of (List.mem_append_right _ (List.mem_of_getElem? (i := 240) rfl)) rfl
theorem tw_241 : Cond.classLink "FoldRow" 118 "java/lang/UnsupportedOperationException" ∈ tb := tb_of (List.mem_append_right _ (List.mem_of_getElem? (i := 241) rfl)) rfl
theorem tw_242 : Cond.instantiable "java/lang/UnsupportedOperationException" 6 ∈ tb := tb_of (List.mem_append_right _ (List.mem_of_getElem? (i := 242) rfl)) rfl
theorem tw_244 : Cond.selects "java/lang/UnsupportedOperationException" ⟨"java/lang/Throwable", "fillInStackTrace", "(I)Ljava/lang/Throwable;"⟩ ⟨"java/lang/Throwable", "fillInStackTrace", "(I)Ljava/lang/Throwable;"⟩ ∈ tb := tb_of (List.mem_append_right _ (List.mem_of_getElem? (i := 244) rfl)) rfl
theorem tw_245 : Cond.lays "java/lang/UnsupportedOperationException" "java/lang/Throwable" "cause" "Ljava/lang/Throwable;" ∈ tb := tb_of (List.mem_append_right _ (List.mem_of_getElem? (i := 245) rfl)) rfl
theorem tw_246 : Cond.lays "java/lang/UnsupportedOperationException" "java/lang/Throwable" "stackTrace" "[Ljava/lang/StackTraceElement;" ∈ tb := tb_of (List.mem_append_right _ (List.mem_of_getElem? (i := 246) rfl)) rfl
theorem tw_247 : Cond.lays "java/lang/UnsupportedOperationException" "java/lang/Throwable" "suppressedExceptions" "Ljava/util/List;" ∈ tb := tb_of (List.mem_append_right _ (List.mem_of_getElem? (i := 247) rfl)) rfl
theorem tw_248 : Cond.lays "java/lang/UnsupportedOperationException" "java/lang/Throwable" "detailMessage" "Ljava/lang/String;" ∈ tb := tb_of (List.mem_append_right _ (List.mem_of_getElem? (i := 248) rfl)) rfl
theorem tw_249 : Cond.lays "java/lang/UnsupportedOperationException" "java/lang/Throwable" "backtrace" "Ljava/lang/Object;" ∈ tb := tb_of (List.mem_append_right _ (List.mem_of_getElem? (i := 249) rfl)) rfl
theorem tw_250 : Cond.methodLink "FoldRow" 120 ⟨"java/lang/UnsupportedOperationException", "<init>", "()V"⟩ ∈ tb := tb_of (List.mem_append_right _ (List.mem_of_getElem? (i := 250) rfl)) rfl
theorem tw_251 : Cond.instanceMethod ⟨"java/lang/UnsupportedOperationException", "<init>", "()V"⟩ ∈ tb := tb_of (List.mem_append_right _ (List.mem_of_getElem? (i := 251) rfl)) rfl
theorem tw_252 : Cond.code ⟨"java/lang/UnsupportedOperationException", "<init>", "()V"⟩ prog_10_method_1_code 1 none ∈ tb := tb_of (List.mem_append_right _ (List.mem_of_getElem? (i := 252) rfl)) rfl
theorem tw_253 : Cond.methodLink "java/lang/UnsupportedOperationException" 1 ⟨"java/lang/RuntimeException", "<init>", "()V"⟩ ∈ tb := tb_of (List.mem_append_right _ (List.mem_of_getElem? (i := 253) rfl)) rfl
theorem tw_254 : Cond.lays "java/lang/UnsupportedOperationException" "java/lang/Throwable" "depth" "I" ∈ tb := tb_of (List.mem_append_right _ (List.mem_of_getElem? (i := 254) rfl)) rfl
theorem tw_255 : Cond.superclass "java/lang/UnsupportedOperationException" "java/lang/RuntimeException" ∈ tb := tb_of (List.mem_append_right _ (List.mem_of_getElem? (i := 255) rfl)) rfl
theorem tw_256 : Cond.methodLink "FoldRowLaw" 86 ⟨"FoldRowLaw", "greatest", "(LFoldRow;II[J)I"⟩ ∈ tb := tb_of (List.mem_append_right _ (List.mem_of_getElem? (i := 256) rfl)) rfl
theorem tw_257 : Cond.static ⟨"FoldRowLaw", "greatest", "(LFoldRow;II[J)I"⟩ ∈ tb := tb_of (List.mem_append_right _ (List.mem_of_getElem? (i := 257) rfl)) rfl
theorem tw_258 : Cond.codeWith ⟨"FoldRowLaw", "greatest", "(LFoldRow;II[J)I"⟩ method_9_code 5 (some FieldType.int) [(0, 9, 12, 15), (0, 9, 16, 37)] ∈ tb := tb_of (List.mem_append_right _ (List.mem_of_getElem? (i := 258) rfl)) rfl
theorem tw_259 : Cond.methodLink "FoldRowLaw" 39 ⟨"FoldRow", "greatest", "(II)J"⟩ ∈ tb := tb_of (List.mem_append_right _ (List.mem_of_getElem? (i := 259) rfl)) rfl
theorem tw_260 : Cond.instanceMethod ⟨"FoldRow", "greatest", "(II)J"⟩ ∈ tb := tb_of (List.mem_append_right _ (List.mem_of_getElem? (i := 260) rfl)) rfl
theorem tw_261 : Cond.selects "FoldRow" ⟨"FoldRow", "greatest", "(II)J"⟩ ⟨"FoldRow", "greatest", "(II)J"⟩ ∈ tb := tb_of (List.mem_append_right _ (List.mem_of_getElem? (i := 261) rfl)) rfl
theorem tw_262 : Cond.code ⟨"FoldRow", "greatest", "(II)J"⟩ prog_1_method_26_code 3 (some FieldType.long) ∈ tb := tb_of (List.mem_append_right _ (List.mem_of_getElem? (i := 262) rfl)) rfl
theorem tw_263 : Cond.methodLink "FoldRowLaw" 89 ⟨"FoldRowLaw", "fixed", "(LFoldRow;IIZ[J)I"⟩ ∈ tb := tb_of (List.mem_append_right _ (List.mem_of_getElem? (i := 263) rfl)) rfl
theorem tw_264 : Cond.static ⟨"FoldRowLaw", "fixed", "(LFoldRow;IIZ[J)I"⟩ ∈ tb := tb_of (List.mem_append_right _ (List.mem_of_getElem? (i := 264) rfl)) rfl
theorem tw_265 : Cond.codeWith ⟨"FoldRowLaw", "fixed", "(LFoldRow;IIZ[J)I"⟩ method_10_code 6 (some FieldType.int) [(0, 11, 14, 15), (0, 11, 18, 37)] ∈ tb := tb_of (List.mem_append_right _ (List.mem_of_getElem? (i := 265) rfl)) rfl
theorem tw_266 : Cond.methodLink "FoldRowLaw" 42 ⟨"FoldRow", "fixed", "(IIZ)J"⟩ ∈ tb := tb_of (List.mem_append_right _ (List.mem_of_getElem? (i := 266) rfl)) rfl
theorem tw_267 : Cond.instanceMethod ⟨"FoldRow", "fixed", "(IIZ)J"⟩ ∈ tb := tb_of (List.mem_append_right _ (List.mem_of_getElem? (i := 267) rfl)) rfl
theorem tw_268 : Cond.selects "FoldRow" ⟨"FoldRow", "fixed", "(IIZ)J"⟩ ⟨"FoldRow", "fixed", "(IIZ)J"⟩ ∈ tb := tb_of (List.mem_append_right _ (List.mem_of_getElem? (i := 268) rfl)) rfl
theorem tw_269 : Cond.code ⟨"FoldRow", "fixed", "(IIZ)J"⟩ prog_1_method_27_code 4 (some FieldType.long) ∈ tb := tb_of (List.mem_append_right _ (List.mem_of_getElem? (i := 269) rfl)) rfl
theorem tw_270 : Cond.methodLink "FoldRowLaw" 93 ⟨"FoldRowLaw", "about", "(LFoldRow;III[J)I"⟩ ∈ tb := tb_of (List.mem_append_right _ (List.mem_of_getElem? (i := 270) rfl)) rfl
theorem tw_271 : Cond.static ⟨"FoldRowLaw", "about", "(LFoldRow;III[J)I"⟩ ∈ tb := tb_of (List.mem_append_right _ (List.mem_of_getElem? (i := 271) rfl)) rfl
theorem tw_272 : Cond.codeWith ⟨"FoldRowLaw", "about", "(LFoldRow;III[J)I"⟩ method_11_code 6 (some FieldType.int) [(0, 12, 15, 13), (0, 12, 19, 15)] ∈ tb := tb_of (List.mem_append_right _ (List.mem_of_getElem? (i := 272) rfl)) rfl
theorem tw_273 : Cond.methodLink "FoldRowLaw" 46 ⟨"FoldRow", "about", "(III)I"⟩ ∈ tb := tb_of (List.mem_append_right _ (List.mem_of_getElem? (i := 273) rfl)) rfl
theorem tw_274 : Cond.instanceMethod ⟨"FoldRow", "about", "(III)I"⟩ ∈ tb := tb_of (List.mem_append_right _ (List.mem_of_getElem? (i := 274) rfl)) rfl
theorem tw_275 : Cond.selects "FoldRow" ⟨"FoldRow", "about", "(III)I"⟩ ⟨"FoldRow", "about", "(III)I"⟩ ∈ tb := tb_of (List.mem_append_right _ (List.mem_of_getElem? (i := 275) rfl)) rfl
theorem tw_276 : Cond.code ⟨"FoldRow", "about", "(III)I"⟩ prog_1_method_28_code 6 (some FieldType.int) ∈ tb := tb_of (List.mem_append_right _ (List.mem_of_getElem? (i := 276) rfl)) rfl
theorem tw_277 : Cond.classLink "FoldRowLaw" 51 "FoldRowModel" ∈ tb := tb_of (List.mem_append_right _ (List.mem_of_getElem? (i := 277) rfl)) rfl
theorem tw_278 : Cond.instantiable "FoldRowModel" 3 ∈ tb := tb_of (List.mem_append_right _ (List.mem_of_getElem? (i := 278) rfl)) rfl
theorem tw_279 : Cond.methodLink "FoldRowLaw" 53 ⟨"FoldRowModel", "<init>", "()V"⟩ ∈ tb := tb_of (List.mem_append_right _ (List.mem_of_getElem? (i := 279) rfl)) rfl
theorem tw_280 : Cond.instanceMethod ⟨"FoldRowModel", "<init>", "()V"⟩ ∈ tb := tb_of (List.mem_append_right _ (List.mem_of_getElem? (i := 280) rfl)) rfl
theorem tw_281 : Cond.code ⟨"FoldRowModel", "<init>", "()V"⟩ prog_3_method_1_code 1 none ∈ tb := tb_of (List.mem_append_right _ (List.mem_of_getElem? (i := 281) rfl)) rfl
theorem tw_282 : Cond.methodLink "FoldRowModel" 1 ⟨"java/lang/Object", "<init>", "()V"⟩ ∈ tb := tb_of (List.mem_append_right _ (List.mem_of_getElem? (i := 282) rfl)) rfl
theorem tw_283 : Cond.fieldLink "FoldRowModel" 17 "FoldRowModel" "err" "I" ∈ tb := tb_of (List.mem_append_right _ (List.mem_of_getElem? (i := 283) rfl)) rfl
theorem tw_284 : Cond.fieldLink "FoldRowModel" 9 "FoldRowModel" "kinds" "[I" ∈ tb := tb_of (List.mem_append_right _ (List.mem_of_getElem? (i := 284) rfl)) rfl
theorem tw_285 : Cond.fieldLink "FoldRowModel" 13 "FoldRowModel" "numbers" "[J" ∈ tb := tb_of (List.mem_append_right _ (List.mem_of_getElem? (i := 285) rfl)) rfl
theorem tw_286 : Cond.lays "FoldRowModel" "FoldRowModel" "err" "I" ∈ tb := tb_of (List.mem_append_right _ (List.mem_of_getElem? (i := 286) rfl)) rfl
theorem tw_287 : Cond.soleField "FoldRowModel" "err" ∈ tb := tb_of (List.mem_append_right _ (List.mem_of_getElem? (i := 287) rfl)) rfl
theorem tw_288 : Cond.laysFinal "FoldRowModel" "FoldRowModel" "kinds" "[I" ∈ tb := tb_of (List.mem_append_right _ (List.mem_of_getElem? (i := 288) rfl)) rfl
theorem tw_289 : Cond.soleField "FoldRowModel" "kinds" ∈ tb := tb_of (List.mem_append_right _ (List.mem_of_getElem? (i := 289) rfl)) rfl
theorem tw_290 : Cond.laysFinal "FoldRowModel" "FoldRowModel" "numbers" "[J" ∈ tb := tb_of (List.mem_append_right _ (List.mem_of_getElem? (i := 290) rfl)) rfl
theorem tw_291 : Cond.soleField "FoldRowModel" "numbers" ∈ tb := tb_of (List.mem_append_right _ (List.mem_of_getElem? (i := 291) rfl)) rfl
theorem tw_292 : Cond.superclass "FoldRowModel" "java/lang/Object" ∈ tb := tb_of (List.mem_append_right _ (List.mem_of_getElem? (i := 292) rfl)) rfl
theorem tw_293 : Cond.methodLink "FoldRowLaw" 62 ⟨"FoldRowModel", "thrown", "()I"⟩ ∈ tb := tb_of (List.mem_append_right _ (List.mem_of_getElem? (i := 293) rfl)) rfl
theorem tw_294 : Cond.instanceMethod ⟨"FoldRowModel", "thrown", "()I"⟩ ∈ tb := tb_of (List.mem_append_right _ (List.mem_of_getElem? (i := 294) rfl)) rfl
theorem tw_295 : Cond.selects "FoldRowModel" ⟨"FoldRowModel", "thrown", "()I"⟩ ⟨"FoldRowModel", "thrown", "()I"⟩ ∈ tb := tb_of (List.mem_append_right _ (List.mem_of_getElem? (i := 295) rfl)) rfl
theorem tw_296 : Cond.code ⟨"FoldRowModel", "thrown", "()I"⟩ prog_3_method_2_code 1 (some FieldType.int) ∈ tb := tb_of (List.mem_append_right _ (List.mem_of_getElem? (i := 296) rfl)) rfl
theorem tw_297 : Cond.methodLink "FoldRowLaw" 61 ⟨"FoldRowModel", "set", "(IIJ)V"⟩ ∈ tb := tb_of (List.mem_append_right _ (List.mem_of_getElem? (i := 297) rfl)) rfl
theorem tw_298 : Cond.instanceMethod ⟨"FoldRowModel", "set", "(IIJ)V"⟩ ∈ tb := tb_of (List.mem_append_right _ (List.mem_of_getElem? (i := 298) rfl)) rfl
theorem tw_299 : Cond.selects "FoldRowModel" ⟨"FoldRowModel", "set", "(IIJ)V"⟩ ⟨"FoldRowModel", "set", "(IIJ)V"⟩ ∈ tb := tb_of (List.mem_append_right _ (List.mem_of_getElem? (i := 299) rfl)) rfl
theorem tw_300 : Cond.code ⟨"FoldRowModel", "set", "(IIJ)V"⟩ prog_3_method_8_code 5 none ∈ tb := tb_of (List.mem_append_right _ (List.mem_of_getElem? (i := 300) rfl)) rfl
theorem tw_301 : Cond.methodLink "FoldRowModel" 35 ⟨"FoldRowModel", "isRule", "(IJ)Z"⟩ ∈ tb := tb_of (List.mem_append_right _ (List.mem_of_getElem? (i := 301) rfl)) rfl
theorem tw_302 : Cond.static ⟨"FoldRowModel", "isRule", "(IJ)Z"⟩ ∈ tb := tb_of (List.mem_append_right _ (List.mem_of_getElem? (i := 302) rfl)) rfl
theorem tw_303 : Cond.code ⟨"FoldRowModel", "isRule", "(IJ)Z"⟩ prog_3_method_5_code 3 (some FieldType.boolean) ∈ tb := tb_of (List.mem_append_right _ (List.mem_of_getElem? (i := 303) rfl)) rfl
theorem tw_304 : Cond.constantLong "FoldRowModel" 21 (4 : Int64) ∈ tb := tb_of (List.mem_append_right _ (List.mem_of_getElem? (i := 304) rfl)) rfl
theorem tw_305 : Cond.methodLink "FoldRowModel" 23 ⟨"FoldRowModel", "in", "(JJJ)Z"⟩ ∈ tb := tb_of (List.mem_append_right _ (List.mem_of_getElem? (i := 305) rfl)) rfl
theorem tw_306 : Cond.static ⟨"FoldRowModel", "in", "(JJJ)Z"⟩ ∈ tb := tb_of (List.mem_append_right _ (List.mem_of_getElem? (i := 306) rfl)) rfl
theorem tw_307 : Cond.code ⟨"FoldRowModel", "in", "(JJJ)Z"⟩ prog_3_method_3_code 6 (some FieldType.boolean) ∈ tb := tb_of (List.mem_append_right _ (List.mem_of_getElem? (i := 307) rfl)) rfl
theorem tw_308 : Cond.constantLong "FoldRowModel" 27 (-1000000000 : Int64) ∈ tb := tb_of (List.mem_append_right _ (List.mem_of_getElem? (i := 308) rfl)) rfl
theorem tw_309 : Cond.constantLong "FoldRowModel" 29 (1000000000 : Int64) ∈ tb := tb_of (List.mem_append_right _ (List.mem_of_getElem? (i := 309) rfl)) rfl
theorem tw_310 : Cond.methodLink "FoldRowModel" 39 ⟨"FoldRowModel", "fails", "(ZI)Z"⟩ ∈ tb := tb_of (List.mem_append_right _ (List.mem_of_getElem? (i := 310) rfl)) rfl
theorem tw_312 : Cond.instanceMethod ⟨"FoldRowModel", "fails", "(ZI)Z"⟩ ∈ tb := tb_of (List.mem_append_right _ (List.mem_of_getElem? (i := 312) rfl)) rfl
theorem tw_313 : Cond.code ⟨"FoldRowModel", "fails", "(ZI)Z"⟩ prog_3_method_4_code 3 (some FieldType.boolean) ∈ tb := tb_of (List.mem_append_right _ (List.mem_of_getElem? (i := 313) rfl)) rfl
theorem tw_314 : Cond.constantLong "FoldRowModel" 43 (255 : Int64) ∈ tb := tb_of (List.mem_append_right _ (List.mem_of_getElem? (i := 314) rfl)) rfl
theorem tw_315 : Cond.methodLink "FoldRowLaw" 69 ⟨"FoldRowModel", "fill", "(IIIJ)V"⟩ ∈ tb := tb_of (List.mem_append_right _ (List.mem_of_getElem? (i := 315) rfl)) rfl
theorem tw_316 : Cond.instanceMethod ⟨"FoldRowModel", "fill", "(IIIJ)V"⟩ ∈ tb := tb_of (List.mem_append_right _ (List.mem_of_getElem? (i := 316) rfl)) rfl
theorem tw_317 : Cond.selects "FoldRowModel" ⟨"FoldRowModel", "fill", "(IIIJ)V"⟩ ⟨"FoldRowModel", "fill", "(IIIJ)V"⟩ ∈ tb := tb_of (List.mem_append_right _ (List.mem_of_getElem? (i := 317) rfl)) rfl
theorem tw_318 : Cond.code ⟨"FoldRowModel", "fill", "(IIIJ)V"⟩ prog_3_method_9_code 7 none ∈ tb := tb_of (List.mem_append_right _ (List.mem_of_getElem? (i := 318) rfl)) rfl
theorem tw_319 : Cond.methodLink "FoldRowModel" 45 ⟨"FoldRowModel", "isPart", "(II)Z"⟩ ∈ tb := tb_of (List.mem_append_right _ (List.mem_of_getElem? (i := 319) rfl)) rfl
theorem tw_320 : Cond.static ⟨"FoldRowModel", "isPart", "(II)Z"⟩ ∈ tb := tb_of (List.mem_append_right _ (List.mem_of_getElem? (i := 320) rfl)) rfl
theorem tw_321 : Cond.code ⟨"FoldRowModel", "isPart", "(II)Z"⟩ prog_3_method_6_code 2 (some FieldType.boolean) ∈ tb := tb_of (List.mem_append_right _ (List.mem_of_getElem? (i := 321) rfl)) rfl
theorem tw_322 : Cond.methodLink "FoldRowLaw" 73 ⟨"FoldRowModel", "swap", "(II)V"⟩ ∈ tb := tb_of (List.mem_append_right _ (List.mem_of_getElem? (i := 322) rfl)) rfl
theorem tw_323 : Cond.instanceMethod ⟨"FoldRowModel", "swap", "(II)V"⟩ ∈ tb := tb_of (List.mem_append_right _ (List.mem_of_getElem? (i := 323) rfl)) rfl
theorem tw_324 : Cond.selects "FoldRowModel" ⟨"FoldRowModel", "swap", "(II)V"⟩ ⟨"FoldRowModel", "swap", "(II)V"⟩ ∈ tb := tb_of (List.mem_append_right _ (List.mem_of_getElem? (i := 324) rfl)) rfl
theorem tw_325 : Cond.code ⟨"FoldRowModel", "swap", "(II)V"⟩ prog_3_method_10_code 6 none ∈ tb := tb_of (List.mem_append_right _ (List.mem_of_getElem? (i := 325) rfl)) rfl
theorem tw_326 : Cond.methodLink "FoldRowLaw" 77 ⟨"FoldRowModel", "fold", "(IIJ)J"⟩ ∈ tb := tb_of (List.mem_append_right _ (List.mem_of_getElem? (i := 326) rfl)) rfl
theorem tw_327 : Cond.instanceMethod ⟨"FoldRowModel", "fold", "(IIJ)J"⟩ ∈ tb := tb_of (List.mem_append_right _ (List.mem_of_getElem? (i := 327) rfl)) rfl
theorem tw_328 : Cond.selects "FoldRowModel" ⟨"FoldRowModel", "fold", "(IIJ)J"⟩ ⟨"FoldRowModel", "fold", "(IIJ)J"⟩ ∈ tb := tb_of (List.mem_append_right _ (List.mem_of_getElem? (i := 328) rfl)) rfl
theorem tw_329 : Cond.code ⟨"FoldRowModel", "fold", "(IIJ)J"⟩ prog_3_method_12_code 5 (some FieldType.long) ∈ tb := tb_of (List.mem_append_right _ (List.mem_of_getElem? (i := 329) rfl)) rfl
theorem tw_330 : Cond.methodLink "FoldRowModel" 49 ⟨"FoldRowModel", "isNumber", "(J)Z"⟩ ∈ tb := tb_of (List.mem_append_right _ (List.mem_of_getElem? (i := 330) rfl)) rfl
theorem tw_331 : Cond.static ⟨"FoldRowModel", "isNumber", "(J)Z"⟩ ∈ tb := tb_of (List.mem_append_right _ (List.mem_of_getElem? (i := 331) rfl)) rfl
theorem tw_332 : Cond.code ⟨"FoldRowModel", "isNumber", "(J)Z"⟩ prog_3_method_7_code 2 (some FieldType.boolean) ∈ tb := tb_of (List.mem_append_right _ (List.mem_of_getElem? (i := 332) rfl)) rfl
theorem tw_333 : Cond.constantLong "FoldRowModel" 31 (-1000000000000 : Int64) ∈ tb := tb_of (List.mem_append_right _ (List.mem_of_getElem? (i := 333) rfl)) rfl
theorem tw_334 : Cond.constantLong "FoldRowModel" 33 (1000000000000 : Int64) ∈ tb := tb_of (List.mem_append_right _ (List.mem_of_getElem? (i := 334) rfl)) rfl
theorem tw_335 : Cond.methodLink "FoldRowModel" 53 ⟨"FoldRowModel", "made", "(IIJ)J"⟩ ∈ tb := tb_of (List.mem_append_right _ (List.mem_of_getElem? (i := 335) rfl)) rfl
theorem tw_337 : Cond.instanceMethod ⟨"FoldRowModel", "made", "(IIJ)J"⟩ ∈ tb := tb_of (List.mem_append_right _ (List.mem_of_getElem? (i := 337) rfl)) rfl
theorem tw_338 : Cond.code ⟨"FoldRowModel", "made", "(IIJ)J"⟩ prog_3_method_11_code 8 (some FieldType.long) ∈ tb := tb_of (List.mem_append_right _ (List.mem_of_getElem? (i := 338) rfl)) rfl
theorem tw_339 : Cond.methodLink "FoldRowLaw" 81 ⟨"FoldRowModel", "again", "(IIJI)J"⟩ ∈ tb := tb_of (List.mem_append_right _ (List.mem_of_getElem? (i := 339) rfl)) rfl
theorem tw_340 : Cond.instanceMethod ⟨"FoldRowModel", "again", "(IIJI)J"⟩ ∈ tb := tb_of (List.mem_append_right _ (List.mem_of_getElem? (i := 340) rfl)) rfl
theorem tw_341 : Cond.selects "FoldRowModel" ⟨"FoldRowModel", "again", "(IIJI)J"⟩ ⟨"FoldRowModel", "again", "(IIJI)J"⟩ ∈ tb := tb_of (List.mem_append_right _ (List.mem_of_getElem? (i := 341) rfl)) rfl
theorem tw_342 : Cond.code ⟨"FoldRowModel", "again", "(IIJI)J"⟩ prog_3_method_13_code 9 (some FieldType.long) ∈ tb := tb_of (List.mem_append_right _ (List.mem_of_getElem? (i := 342) rfl)) rfl
theorem tw_343 : Cond.constantLong "FoldRowModel" 57 (1000 : Int64) ∈ tb := tb_of (List.mem_append_right _ (List.mem_of_getElem? (i := 343) rfl)) rfl
theorem tw_344 : Cond.methodLink "FoldRowLaw" 85 ⟨"FoldRowModel", "least", "(II)J"⟩ ∈ tb := tb_of (List.mem_append_right _ (List.mem_of_getElem? (i := 344) rfl)) rfl
theorem tw_345 : Cond.instanceMethod ⟨"FoldRowModel", "least", "(II)J"⟩ ∈ tb := tb_of (List.mem_append_right _ (List.mem_of_getElem? (i := 345) rfl)) rfl
theorem tw_346 : Cond.selects "FoldRowModel" ⟨"FoldRowModel", "least", "(II)J"⟩ ⟨"FoldRowModel", "least", "(II)J"⟩ ∈ tb := tb_of (List.mem_append_right _ (List.mem_of_getElem? (i := 346) rfl)) rfl
theorem tw_347 : Cond.code ⟨"FoldRowModel", "least", "(II)J"⟩ prog_3_method_15_code 3 (some FieldType.long) ∈ tb := tb_of (List.mem_append_right _ (List.mem_of_getElem? (i := 347) rfl)) rfl
theorem tw_348 : Cond.constantLong "FoldRowModel" 61 (-1000000000000000 : Int64) ∈ tb := tb_of (List.mem_append_right _ (List.mem_of_getElem? (i := 348) rfl)) rfl
theorem tw_349 : Cond.methodLink "FoldRowModel" 63 ⟨"FoldRowModel", "ends", "(IIJ)Z"⟩ ∈ tb := tb_of (List.mem_append_right _ (List.mem_of_getElem? (i := 349) rfl)) rfl
theorem tw_351 : Cond.instanceMethod ⟨"FoldRowModel", "ends", "(IIJ)Z"⟩ ∈ tb := tb_of (List.mem_append_right _ (List.mem_of_getElem? (i := 351) rfl)) rfl
theorem tw_352 : Cond.code ⟨"FoldRowModel", "ends", "(IIJ)Z"⟩ prog_3_method_14_code 5 (some FieldType.boolean) ∈ tb := tb_of (List.mem_append_right _ (List.mem_of_getElem? (i := 352) rfl)) rfl
theorem tw_353 : Cond.constantLong "FoldRowModel" 59 (2 : Int64) ∈ tb := tb_of (List.mem_append_right _ (List.mem_of_getElem? (i := 353) rfl)) rfl
theorem tw_354 : Cond.methodLink "FoldRowLaw" 88 ⟨"FoldRowModel", "greatest", "(II)J"⟩ ∈ tb := tb_of (List.mem_append_right _ (List.mem_of_getElem? (i := 354) rfl)) rfl
theorem tw_355 : Cond.instanceMethod ⟨"FoldRowModel", "greatest", "(II)J"⟩ ∈ tb := tb_of (List.mem_append_right _ (List.mem_of_getElem? (i := 355) rfl)) rfl
theorem tw_356 : Cond.selects "FoldRowModel" ⟨"FoldRowModel", "greatest", "(II)J"⟩ ⟨"FoldRowModel", "greatest", "(II)J"⟩ ∈ tb := tb_of (List.mem_append_right _ (List.mem_of_getElem? (i := 356) rfl)) rfl
theorem tw_357 : Cond.code ⟨"FoldRowModel", "greatest", "(II)J"⟩ prog_3_method_16_code 3 (some FieldType.long) ∈ tb := tb_of (List.mem_append_right _ (List.mem_of_getElem? (i := 357) rfl)) rfl
theorem tw_358 : Cond.constantLong "FoldRowModel" 67 (1000000000000000 : Int64) ∈ tb := tb_of (List.mem_append_right _ (List.mem_of_getElem? (i := 358) rfl)) rfl
theorem tw_359 : Cond.methodLink "FoldRowLaw" 92 ⟨"FoldRowModel", "fixed", "(IIZ)J"⟩ ∈ tb := tb_of (List.mem_append_right _ (List.mem_of_getElem? (i := 359) rfl)) rfl
theorem tw_360 : Cond.instanceMethod ⟨"FoldRowModel", "fixed", "(IIZ)J"⟩ ∈ tb := tb_of (List.mem_append_right _ (List.mem_of_getElem? (i := 360) rfl)) rfl
theorem tw_361 : Cond.selects "FoldRowModel" ⟨"FoldRowModel", "fixed", "(IIZ)J"⟩ ⟨"FoldRowModel", "fixed", "(IIZ)J"⟩ ∈ tb := tb_of (List.mem_append_right _ (List.mem_of_getElem? (i := 361) rfl)) rfl
theorem tw_362 : Cond.code ⟨"FoldRowModel", "fixed", "(IIZ)J"⟩ prog_3_method_17_code 9 (some FieldType.long) ∈ tb := tb_of (List.mem_append_right _ (List.mem_of_getElem? (i := 362) rfl)) rfl
theorem tw_363 : Cond.methodLink "FoldRowLaw" 96 ⟨"FoldRowModel", "about", "(III)I"⟩ ∈ tb := tb_of (List.mem_append_right _ (List.mem_of_getElem? (i := 363) rfl)) rfl
theorem tw_364 : Cond.instanceMethod ⟨"FoldRowModel", "about", "(III)I"⟩ ∈ tb := tb_of (List.mem_append_right _ (List.mem_of_getElem? (i := 364) rfl)) rfl
theorem tw_365 : Cond.selects "FoldRowModel" ⟨"FoldRowModel", "about", "(III)I"⟩ ⟨"FoldRowModel", "about", "(III)I"⟩ ∈ tb := tb_of (List.mem_append_right _ (List.mem_of_getElem? (i := 365) rfl)) rfl
theorem tw_366 : Cond.code ⟨"FoldRowModel", "about", "(III)I"⟩ prog_3_method_18_code 10 (some FieldType.int) ∈ tb := tb_of (List.mem_append_right _ (List.mem_of_getElem? (i := 366) rfl)) rfl
theorem tw_367 : Cond.constantLong "FoldRowLaw" 54 (4294967295 : Int64) ∈ tb := tb_of (List.mem_append_right _ (List.mem_of_getElem? (i := 367) rfl)) rfl
theorem tw_368 : Cond.sameMethod "java/lang/Throwable" "java/lang/Throwable" "fillInStackTrace" "(I)Ljava/lang/Throwable;" ∈ tb := tb_of (List.mem_append_right _ (List.mem_of_getElem? (i := 368) rfl)) rfl
theorem twx_72 : Cond.castable "java/lang/IllegalArgumentException" "java/lang/IllegalArgumentException" ∈ lw_tbl := List.mem_append_right _ (List.mem_of_getElem? (i := 72) rfl)
theorem twx_73 : Cond.declares ⟨"java/lang/RuntimeException", "<init>", "()V"⟩ ∈ lw_tbl := List.mem_append_right _ (List.mem_of_getElem? (i := 73) rfl)
theorem twx_74 : Cond.declares ⟨"java/lang/RuntimeException", "<init>", "(Ljava/lang/String;)V"⟩ ∈ lw_tbl := List.mem_append_right _ (List.mem_of_getElem? (i := 74) rfl)
theorem twx_75 : Cond.declares ⟨"java/lang/Exception", "<init>", "()V"⟩ ∈ lw_tbl := List.mem_append_right _ (List.mem_of_getElem? (i := 75) rfl)
theorem twx_76 : Cond.declares ⟨"java/lang/Exception", "<init>", "(Ljava/lang/String;)V"⟩ ∈ lw_tbl := List.mem_append_right _ (List.mem_of_getElem? (i := 76) rfl)
theorem twx_77 : Cond.declares ⟨"java/lang/Throwable", "<init>", "()V"⟩ ∈ lw_tbl := List.mem_append_right _ (List.mem_of_getElem? (i := 77) rfl)
theorem twx_78 : Cond.declares ⟨"java/lang/Throwable", "<init>", "(Ljava/lang/String;)V"⟩ ∈ lw_tbl := List.mem_append_right _ (List.mem_of_getElem? (i := 78) rfl)
theorem twx_97 : Cond.laysStatic "java/lang/Throwable" "UNASSIGNED_STACK" "[Ljava/lang/StackTraceElement;" ∈ lw_tbl := List.mem_append_right _ (List.mem_of_getElem? (i := 97) rfl)
theorem twx_99 : Cond.laysStatic "java/lang/Throwable" "SUPPRESSED_SENTINEL" "Ljava/util/List;" ∈ lw_tbl := List.mem_append_right _ (List.mem_of_getElem? (i := 99) rfl)
theorem twx_141 : Cond.castable "java/lang/IndexOutOfBoundsException" "java/lang/IndexOutOfBoundsException" ∈ lw_tbl := List.mem_append_right _ (List.mem_of_getElem? (i := 141) rfl)
theorem twx_243 : Cond.castable "java/lang/UnsupportedOperationException" "java/lang/UnsupportedOperationException" ∈ lw_tbl := List.mem_append_right _ (List.mem_of_getElem? (i := 243) rfl)
end
section
/-! names of classes, fields, methods; rows that decode each instruction: printed by gen/gen_names.py -/
abbrev R_F : String := "FoldRow"
abbrev R_M : String := "FoldRowModel"
abbrev R_L : String := "FoldRowLaw"
def F_F : u_T := fun k => match k with
  | 0 => ("FoldRow", "more", "[J", true)
  | 1 => ("FoldRow", "low", "[J", true)
  | 2 => ("FoldRow", "high", "[J", true)
  | 3 => ("FoldRow", "kind", "[I", true)
  | 4 => ("FoldRow", "value", "[J", true)
  | 5 => ("FoldRow", "add", "J", false)
  | 6 => ("FoldRow", "bottom", "J", false)
  | _ => ("FoldRow", "top", "J", false)
def t_F : Nat → FieldType := fun k => match k with
  | 0 => .array .long
  | 1 => .array .long
  | 2 => .array .long
  | 3 => .array .int
  | 4 => .array .long
  | 5 => .long
  | 6 => .long
  | _ => .long
def F_M : u_T := fun k => match k with
  | 0 => ("FoldRowModel", "err", "I", false)
  | 1 => ("FoldRowModel", "kinds", "[I", true)
  | _ => ("FoldRowModel", "numbers", "[J", true)
def t_M : Nat → FieldType := fun k => match k with
  | 0 => .int
  | 1 => .array .int
  | _ => .array .long
theorem n_F : ∀ a, a < 8 → ∀ b, b < 8 → a ≠ b → (F_F a).2.1 ≠ (F_F b).2.1 := by decide +kernel
theorem t_F_ok : ∀ k, k < 8 → parseFieldDescriptor (F_F k).2.2.1 = some (t_F k) := by decide +kernel
theorem n_M : ∀ a, a < 3 → ∀ b, b < 3 → a ≠ b → (F_M a).2.1 ≠ (F_M b).2.1 := by decide +kernel
theorem t_M_ok : ∀ k, k < 3 → parseFieldDescriptor (F_M k).2.2.1 = some (t_M k) := by decide +kernel
abbrev xcl : List vw_C := [(R_F, F_F, 8), (R_M, F_M, 3)]
theorem uF_in : ∀ w ∈ u_ws R_F F_F 8, w ∈ tb := by
  intro w hw
  obtain ⟨k, hk, rfl⟩ := List.mem_map.mp hw
  have hk := List.mem_range.mp hk
  match k, hk with
  | 0, _ => exact tw_32
  | 1, _ => exact tw_34
  | 2, _ => exact tw_36
  | 3, _ => exact tw_38
  | 4, _ => exact tw_40
  | 5, _ => exact tw_42
  | 6, _ => exact tw_44
  | 7, _ => exact tw_46
  | n + 8, h => exact absurd h (by omega)
theorem uM_in : ∀ w ∈ u_ws R_M F_M 3, w ∈ tb := by
  intro w hw
  obtain ⟨k, hk, rfl⟩ := List.mem_map.mp hw
  have hk := List.mem_range.mp hk
  match k, hk with
  | 0, _ => exact tw_286
  | 1, _ => exact tw_288
  | 2, _ => exact tw_290
  | n + 3, h => exact absurd h (by omega)
abbrev b_F_init : ByteArray := prog_1_method_1_code
abbrev y_F_init : MethodName := ⟨R_F, "<init>", "()V"⟩
abbrev ws_F_init : List Cond := Cond.code y_F_init b_F_init 2 none :: tb
theorem tc_F_init : ws_F_init.head? = some (Cond.code ⟨"FoldRow", "<init>", "()V"⟩ prog_1_method_1_code 2 none) ∧ Cond.code ⟨"FoldRow", "<init>", "()V"⟩ prog_1_method_1_code 2 none ∈ tb := ⟨rfl, tw_14⟩
abbrev b_F_good : ByteArray := prog_1_method_2_code
abbrev y_F_good : MethodName := ⟨R_F, "good", "(Z)V"⟩
abbrev ws_F_good : List Cond := Cond.code y_F_good b_F_good 1 none :: tb
theorem tc_F_good : ws_F_good.head? = some (Cond.code ⟨"FoldRow", "good", "(Z)V"⟩ prog_1_method_2_code 1 none) ∧ Cond.code ⟨"FoldRow", "good", "(Z)V"⟩ prog_1_method_2_code 1 none ∈ tb := ⟨rfl, tw_69⟩
abbrev b_F_there : ByteArray := prog_1_method_3_code
abbrev y_F_there : MethodName := ⟨R_F, "there", "(Z)V"⟩
abbrev ws_F_there : List Cond := Cond.code y_F_there b_F_there 1 none :: tb
theorem tc_F_there : ws_F_there.head? = some (Cond.code ⟨"FoldRow", "there", "(Z)V"⟩ prog_1_method_3_code 1 none) ∧ Cond.code ⟨"FoldRow", "there", "(Z)V"⟩ prog_1_method_3_code 1 none ∈ tb := ⟨rfl, tw_138⟩
abbrev b_F_in : ByteArray := prog_1_method_4_code
abbrev y_F_in : MethodName := ⟨R_F, "in", "(JJ)Z"⟩
abbrev ws_F_in : List Cond := Cond.code y_F_in b_F_in 4 (some .boolean) :: tb
theorem tc_F_in : ws_F_in.head? = some (Cond.code ⟨"FoldRow", "in", "(JJ)Z"⟩ prog_1_method_4_code 4 (some FieldType.boolean)) ∧ Cond.code ⟨"FoldRow", "in", "(JJ)Z"⟩ prog_1_method_4_code 4 (some FieldType.boolean) ∈ tb := ⟨rfl, tw_66⟩
abbrev b_F_nothing : ByteArray := prog_1_method_5_code
abbrev y_F_nothing : MethodName := ⟨R_F, "nothing", "(I)V"⟩
abbrev ws_F_nothing : List Cond := Cond.code y_F_nothing b_F_nothing 2 none :: tb
theorem tc_F_nothing : ws_F_nothing.head? = some (Cond.code ⟨"FoldRow", "nothing", "(I)V"⟩ prog_1_method_5_code 2 none) ∧ Cond.code ⟨"FoldRow", "nothing", "(I)V"⟩ prog_1_method_5_code 2 none ∈ tb := ⟨rfl, tw_21⟩
abbrev b_F_bound : ByteArray := prog_1_method_6_code
abbrev y_F_bound : MethodName := ⟨R_F, "bound", "(JJ)J"⟩
abbrev ws_F_bound : List Cond := Cond.code y_F_bound b_F_bound 4 (some .long) :: tb
theorem tc_F_bound : ws_F_bound.head? = some (Cond.code ⟨"FoldRow", "bound", "(JJ)J"⟩ prog_1_method_6_code 4 (some FieldType.long)) ∧ Cond.code ⟨"FoldRow", "bound", "(JJ)J"⟩ prog_1_method_6_code 4 (some FieldType.long) ∈ tb := ⟨rfl, tw_176⟩
abbrev b_F_within : ByteArray := prog_1_method_7_code
abbrev y_F_within : MethodName := ⟨R_F, "within", "(JJJ)J"⟩
abbrev ws_F_within : List Cond := Cond.code y_F_within b_F_within 6 (some .long) :: tb
theorem tc_F_within : ws_F_within.head? = some (Cond.code ⟨"FoldRow", "within", "(JJJ)J"⟩ prog_1_method_7_code 6 (some FieldType.long)) ∧ Cond.code ⟨"FoldRow", "within", "(JJJ)J"⟩ prog_1_method_7_code 6 (some FieldType.long) ∈ tb := ⟨rfl, tw_179⟩
abbrev b_F_behind : ByteArray := prog_1_method_8_code
abbrev y_F_behind : MethodName := ⟨R_F, "behind", "(JJJ)V"⟩
abbrev ws_F_behind : List Cond := Cond.code y_F_behind b_F_behind 7 none :: tb
theorem tc_F_behind : ws_F_behind.head? = some (Cond.code ⟨"FoldRow", "behind", "(JJJ)V"⟩ prog_1_method_8_code 7 none) ∧ Cond.code ⟨"FoldRow", "behind", "(JJJ)V"⟩ prog_1_method_8_code 7 none ∈ tb := ⟨rfl, tw_173⟩
abbrev b_F_begin : ByteArray := prog_1_method_9_code
abbrev y_F_begin : MethodName := ⟨R_F, "begin", "()V"⟩
abbrev ws_F_begin : List Cond := Cond.code y_F_begin b_F_begin 1 none :: tb
theorem tc_F_begin : ws_F_begin.head? = some (Cond.code ⟨"FoldRow", "begin", "()V"⟩ prog_1_method_9_code 1 none) ∧ Cond.code ⟨"FoldRow", "begin", "()V"⟩ prog_1_method_9_code 1 none ∈ tb := ⟨rfl, tw_165⟩
abbrev b_F_node : ByteArray := prog_1_method_10_code
abbrev y_F_node : MethodName := ⟨R_F, "node", "(I)V"⟩
abbrev ws_F_node : List Cond := Cond.code y_F_node b_F_node 2 none :: tb
theorem tc_F_node : ws_F_node.head? = some (Cond.code ⟨"FoldRow", "node", "(I)V"⟩ prog_1_method_10_code 2 none) ∧ Cond.code ⟨"FoldRow", "node", "(I)V"⟩ prog_1_method_10_code 2 none ∈ tb := ⟨rfl, tw_169⟩
abbrev b_F_keep : ByteArray := prog_1_method_11_code
abbrev y_F_keep : MethodName := ⟨R_F, "keep", "(I)V"⟩
abbrev ws_F_keep : List Cond := Cond.code y_F_keep b_F_keep 2 none :: tb
theorem tc_F_keep : ws_F_keep.head? = some (Cond.code ⟨"FoldRow", "keep", "(I)V"⟩ prog_1_method_11_code 2 none) ∧ Cond.code ⟨"FoldRow", "keep", "(I)V"⟩ prog_1_method_11_code 2 none ∈ tb := ⟨rfl, tw_189⟩
abbrev b_F_rule3 : ByteArray := prog_1_method_12_code
abbrev y_F_rule3 : MethodName := ⟨R_F, "rule", "(IIJ)V"⟩
abbrev ws_F_rule3 : List Cond := Cond.code y_F_rule3 b_F_rule3 6 none :: tb
theorem tc_F_rule3 : ws_F_rule3.head? = some (Cond.code ⟨"FoldRow", "rule", "(IIJ)V"⟩ prog_1_method_12_code 6 none) ∧ Cond.code ⟨"FoldRow", "rule", "(IIJ)V"⟩ prog_1_method_12_code 6 none ∈ tb := ⟨rfl, tw_157⟩
abbrev b_F_up : ByteArray := prog_1_method_13_code
abbrev y_F_up : MethodName := ⟨R_F, "up", "(I)V"⟩
abbrev ws_F_up : List Cond := Cond.code y_F_up b_F_up 3 none :: tb
theorem tc_F_up : ws_F_up.head? = some (Cond.code ⟨"FoldRow", "up", "(I)V"⟩ prog_1_method_13_code 3 none) ∧ Cond.code ⟨"FoldRow", "up", "(I)V"⟩ prog_1_method_13_code 3 none ∈ tb := ⟨rfl, tw_161⟩
abbrev b_F_rightRule : ByteArray := prog_1_method_14_code
abbrev y_F_rightRule : MethodName := ⟨R_F, "rightRule", "(IJ)V"⟩
abbrev ws_F_rightRule : List Cond := Cond.code y_F_rightRule b_F_rightRule 3 none :: tb
theorem tc_F_rightRule : ws_F_rightRule.head? = some (Cond.code ⟨"FoldRow", "rightRule", "(IJ)V"⟩ prog_1_method_14_code 3 none) ∧ Cond.code ⟨"FoldRow", "rightRule", "(IJ)V"⟩ prog_1_method_14_code 3 none ∈ tb := ⟨rfl, tw_62⟩
abbrev b_F_rule1 : ByteArray := prog_1_method_15_code
abbrev y_F_rule1 : MethodName := ⟨R_F, "rule", "(I)V"⟩
abbrev ws_F_rule1 : List Cond := Cond.code y_F_rule1 b_F_rule1 1 none :: tb
theorem tc_F_rule1 : ws_F_rule1.head? = some (Cond.code ⟨"FoldRow", "rule", "(I)V"⟩ prog_1_method_15_code 1 none) ∧ Cond.code ⟨"FoldRow", "rule", "(I)V"⟩ prog_1_method_15_code 1 none ∈ tb := ⟨rfl, tw_135⟩
abbrev b_F_set : ByteArray := prog_1_method_16_code
abbrev y_F_set : MethodName := ⟨R_F, "set", "(IIJ)V"⟩
abbrev ws_F_set : List Cond := Cond.code y_F_set b_F_set 5 none :: tb
theorem tc_F_set : ws_F_set.head? = some (Cond.code ⟨"FoldRow", "set", "(IIJ)V"⟩ prog_1_method_16_code 5 none) ∧ Cond.code ⟨"FoldRow", "set", "(IIJ)V"⟩ prog_1_method_16_code 5 none ∈ tb := ⟨rfl, tw_59⟩
abbrev b_F_fill : ByteArray := prog_1_method_17_code
abbrev y_F_fill : MethodName := ⟨R_F, "fill", "(IIIJ)V"⟩
abbrev ws_F_fill : List Cond := Cond.code y_F_fill b_F_fill 7 none :: tb
theorem tc_F_fill : ws_F_fill.head? = some (Cond.code ⟨"FoldRow", "fill", "(IIIJ)V"⟩ prog_1_method_17_code 7 none) ∧ Cond.code ⟨"FoldRow", "fill", "(IIIJ)V"⟩ prog_1_method_17_code 7 none ∈ tb := ⟨rfl, tw_196⟩
abbrev b_F_swap : ByteArray := prog_1_method_18_code
abbrev y_F_swap : MethodName := ⟨R_F, "swap", "(II)V"⟩
abbrev ws_F_swap : List Cond := Cond.code y_F_swap b_F_swap 6 none :: tb
theorem tc_F_swap : ws_F_swap.head? = some (Cond.code ⟨"FoldRow", "swap", "(II)V"⟩ prog_1_method_18_code 6 none) ∧ Cond.code ⟨"FoldRow", "swap", "(II)V"⟩ prog_1_method_18_code 6 none ∈ tb := ⟨rfl, tw_206⟩
abbrev b_F_part : ByteArray := prog_1_method_19_code
abbrev y_F_part : MethodName := ⟨R_F, "part", "(II)V"⟩
abbrev ws_F_part : List Cond := Cond.code y_F_part b_F_part 2 none :: tb
theorem tc_F_part : ws_F_part.head? = some (Cond.code ⟨"FoldRow", "part", "(II)V"⟩ prog_1_method_19_code 2 none) ∧ Cond.code ⟨"FoldRow", "part", "(II)V"⟩ prog_1_method_19_code 2 none ∈ tb := ⟨rfl, tw_199⟩
abbrev b_F_join : ByteArray := prog_1_method_20_code
abbrev y_F_join : MethodName := ⟨R_F, "join", "(II)V"⟩
abbrev ws_F_join : List Cond := Cond.code y_F_join b_F_join 6 none :: tb
theorem tc_F_join : ws_F_join.head? = some (Cond.code ⟨"FoldRow", "join", "(II)V"⟩ prog_1_method_20_code 6 none) ∧ Cond.code ⟨"FoldRow", "join", "(II)V"⟩ prog_1_method_20_code 6 none ∈ tb := ⟨rfl, tw_218⟩
abbrev b_F_made : ByteArray := prog_1_method_21_code
abbrev y_F_made : MethodName := ⟨R_F, "made", "(J)J"⟩
abbrev ws_F_made : List Cond := Cond.code y_F_made b_F_made 3 (some .long) :: tb
theorem tc_F_made : ws_F_made.head? = some (Cond.code ⟨"FoldRow", "made", "(J)J"⟩ prog_1_method_21_code 3 (some FieldType.long)) ∧ Cond.code ⟨"FoldRow", "made", "(J)J"⟩ prog_1_method_21_code 3 (some FieldType.long) ∈ tb := ⟨rfl, tw_222⟩
abbrev b_F_fold : ByteArray := prog_1_method_22_code
abbrev y_F_fold : MethodName := ⟨R_F, "fold", "(IIJ)J"⟩
abbrev ws_F_fold : List Cond := Cond.code y_F_fold b_F_fold 5 (some .long) :: tb
theorem tc_F_fold : ws_F_fold.head? = some (Cond.code ⟨"FoldRow", "fold", "(IIJ)J"⟩ prog_1_method_22_code 5 (some FieldType.long)) ∧ Cond.code ⟨"FoldRow", "fold", "(IIJ)J"⟩ prog_1_method_22_code 5 (some FieldType.long) ∈ tb := ⟨rfl, tw_213⟩
abbrev b_F_again : ByteArray := prog_1_method_23_code
abbrev y_F_again : MethodName := ⟨R_F, "again", "(IIJI)J"⟩
abbrev ws_F_again : List Cond := Cond.code y_F_again b_F_again 9 (some .long) :: tb
theorem tc_F_again : ws_F_again.head? = some (Cond.code ⟨"FoldRow", "again", "(IIJI)J"⟩ prog_1_method_23_code 9 (some FieldType.long)) ∧ Cond.code ⟨"FoldRow", "again", "(IIJI)J"⟩ prog_1_method_23_code 9 (some FieldType.long) ∈ tb := ⟨rfl, tw_229⟩
abbrev b_F_told : ByteArray := prog_1_method_24_code
abbrev y_F_told : MethodName := ⟨R_F, "told", "(J)J"⟩
abbrev ws_F_told : List Cond := Cond.code y_F_told b_F_told 2 (some .long) :: tb
theorem tc_F_told : ws_F_told.head? = some (Cond.code ⟨"FoldRow", "told", "(J)J"⟩ prog_1_method_24_code 2 (some FieldType.long)) ∧ Cond.code ⟨"FoldRow", "told", "(J)J"⟩ prog_1_method_24_code 2 (some FieldType.long) ∈ tb := ⟨rfl, tw_240⟩
abbrev b_F_least : ByteArray := prog_1_method_25_code
abbrev y_F_least : MethodName := ⟨R_F, "least", "(II)J"⟩
abbrev ws_F_least : List Cond := Cond.code y_F_least b_F_least 3 (some .long) :: tb
theorem tc_F_least : ws_F_least.head? = some (Cond.code ⟨"FoldRow", "least", "(II)J"⟩ prog_1_method_25_code 3 (some FieldType.long)) ∧ Cond.code ⟨"FoldRow", "least", "(II)J"⟩ prog_1_method_25_code 3 (some FieldType.long) ∈ tb := ⟨rfl, tw_237⟩
abbrev b_F_greatest : ByteArray := prog_1_method_26_code
abbrev y_F_greatest : MethodName := ⟨R_F, "greatest", "(II)J"⟩
abbrev ws_F_greatest : List Cond := Cond.code y_F_greatest b_F_greatest 3 (some .long) :: tb
theorem tc_F_greatest : ws_F_greatest.head? = some (Cond.code ⟨"FoldRow", "greatest", "(II)J"⟩ prog_1_method_26_code 3 (some FieldType.long)) ∧ Cond.code ⟨"FoldRow", "greatest", "(II)J"⟩ prog_1_method_26_code 3 (some FieldType.long) ∈ tb := ⟨rfl, tw_262⟩
abbrev b_F_fixed : ByteArray := prog_1_method_27_code
abbrev y_F_fixed : MethodName := ⟨R_F, "fixed", "(IIZ)J"⟩
abbrev ws_F_fixed : List Cond := Cond.code y_F_fixed b_F_fixed 4 (some .long) :: tb
theorem tc_F_fixed : ws_F_fixed.head? = some (Cond.code ⟨"FoldRow", "fixed", "(IIZ)J"⟩ prog_1_method_27_code 4 (some FieldType.long)) ∧ Cond.code ⟨"FoldRow", "fixed", "(IIZ)J"⟩ prog_1_method_27_code 4 (some FieldType.long) ∈ tb := ⟨rfl, tw_269⟩
abbrev b_F_about : ByteArray := prog_1_method_28_code
abbrev y_F_about : MethodName := ⟨R_F, "about", "(III)I"⟩
abbrev ws_F_about : List Cond := Cond.code y_F_about b_F_about 6 (some .int) :: tb
theorem tc_F_about : ws_F_about.head? = some (Cond.code ⟨"FoldRow", "about", "(III)I"⟩ prog_1_method_28_code 6 (some FieldType.int)) ∧ Cond.code ⟨"FoldRow", "about", "(III)I"⟩ prog_1_method_28_code 6 (some FieldType.int) ∈ tb := ⟨rfl, tw_276⟩
abbrev b_M_init : ByteArray := prog_3_method_1_code
abbrev y_M_init : MethodName := ⟨R_M, "<init>", "()V"⟩
abbrev ws_M_init : List Cond := Cond.code y_M_init b_M_init 1 none :: tb
theorem tc_M_init : ws_M_init.head? = some (Cond.code ⟨"FoldRowModel", "<init>", "()V"⟩ prog_3_method_1_code 1 none) ∧ Cond.code ⟨"FoldRowModel", "<init>", "()V"⟩ prog_3_method_1_code 1 none ∈ tb := ⟨rfl, tw_281⟩
abbrev b_M_thrown : ByteArray := prog_3_method_2_code
abbrev y_M_thrown : MethodName := ⟨R_M, "thrown", "()I"⟩
abbrev ws_M_thrown : List Cond := Cond.code y_M_thrown b_M_thrown 1 (some .int) :: tb
theorem tc_M_thrown : ws_M_thrown.head? = some (Cond.code ⟨"FoldRowModel", "thrown", "()I"⟩ prog_3_method_2_code 1 (some FieldType.int)) ∧ Cond.code ⟨"FoldRowModel", "thrown", "()I"⟩ prog_3_method_2_code 1 (some FieldType.int) ∈ tb := ⟨rfl, tw_296⟩
abbrev b_M_in : ByteArray := prog_3_method_3_code
abbrev y_M_in : MethodName := ⟨R_M, "in", "(JJJ)Z"⟩
abbrev ws_M_in : List Cond := Cond.code y_M_in b_M_in 6 (some .boolean) :: tb
theorem tc_M_in : ws_M_in.head? = some (Cond.code ⟨"FoldRowModel", "in", "(JJJ)Z"⟩ prog_3_method_3_code 6 (some FieldType.boolean)) ∧ Cond.code ⟨"FoldRowModel", "in", "(JJJ)Z"⟩ prog_3_method_3_code 6 (some FieldType.boolean) ∈ tb := ⟨rfl, tw_307⟩
abbrev b_M_fails : ByteArray := prog_3_method_4_code
abbrev y_M_fails : MethodName := ⟨R_M, "fails", "(ZI)Z"⟩
abbrev ws_M_fails : List Cond := Cond.code y_M_fails b_M_fails 3 (some .boolean) :: tb
theorem tc_M_fails : ws_M_fails.head? = some (Cond.code ⟨"FoldRowModel", "fails", "(ZI)Z"⟩ prog_3_method_4_code 3 (some FieldType.boolean)) ∧ Cond.code ⟨"FoldRowModel", "fails", "(ZI)Z"⟩ prog_3_method_4_code 3 (some FieldType.boolean) ∈ tb := ⟨rfl, tw_313⟩
abbrev b_M_isRule : ByteArray := prog_3_method_5_code
abbrev y_M_isRule : MethodName := ⟨R_M, "isRule", "(IJ)Z"⟩
abbrev ws_M_isRule : List Cond := Cond.code y_M_isRule b_M_isRule 3 (some .boolean) :: tb
theorem tc_M_isRule : ws_M_isRule.head? = some (Cond.code ⟨"FoldRowModel", "isRule", "(IJ)Z"⟩ prog_3_method_5_code 3 (some FieldType.boolean)) ∧ Cond.code ⟨"FoldRowModel", "isRule", "(IJ)Z"⟩ prog_3_method_5_code 3 (some FieldType.boolean) ∈ tb := ⟨rfl, tw_303⟩
abbrev b_M_isPart : ByteArray := prog_3_method_6_code
abbrev y_M_isPart : MethodName := ⟨R_M, "isPart", "(II)Z"⟩
abbrev ws_M_isPart : List Cond := Cond.code y_M_isPart b_M_isPart 2 (some .boolean) :: tb
theorem tc_M_isPart : ws_M_isPart.head? = some (Cond.code ⟨"FoldRowModel", "isPart", "(II)Z"⟩ prog_3_method_6_code 2 (some FieldType.boolean)) ∧ Cond.code ⟨"FoldRowModel", "isPart", "(II)Z"⟩ prog_3_method_6_code 2 (some FieldType.boolean) ∈ tb := ⟨rfl, tw_321⟩
abbrev b_M_isNumber : ByteArray := prog_3_method_7_code
abbrev y_M_isNumber : MethodName := ⟨R_M, "isNumber", "(J)Z"⟩
abbrev ws_M_isNumber : List Cond := Cond.code y_M_isNumber b_M_isNumber 2 (some .boolean) :: tb
theorem tc_M_isNumber : ws_M_isNumber.head? = some (Cond.code ⟨"FoldRowModel", "isNumber", "(J)Z"⟩ prog_3_method_7_code 2 (some FieldType.boolean)) ∧ Cond.code ⟨"FoldRowModel", "isNumber", "(J)Z"⟩ prog_3_method_7_code 2 (some FieldType.boolean) ∈ tb := ⟨rfl, tw_332⟩
abbrev b_M_set : ByteArray := prog_3_method_8_code
abbrev y_M_set : MethodName := ⟨R_M, "set", "(IIJ)V"⟩
abbrev ws_M_set : List Cond := Cond.code y_M_set b_M_set 5 none :: tb
theorem tc_M_set : ws_M_set.head? = some (Cond.code ⟨"FoldRowModel", "set", "(IIJ)V"⟩ prog_3_method_8_code 5 none) ∧ Cond.code ⟨"FoldRowModel", "set", "(IIJ)V"⟩ prog_3_method_8_code 5 none ∈ tb := ⟨rfl, tw_300⟩
abbrev b_M_fill : ByteArray := prog_3_method_9_code
abbrev y_M_fill : MethodName := ⟨R_M, "fill", "(IIIJ)V"⟩
abbrev ws_M_fill : List Cond := Cond.code y_M_fill b_M_fill 7 none :: tb
theorem tc_M_fill : ws_M_fill.head? = some (Cond.code ⟨"FoldRowModel", "fill", "(IIIJ)V"⟩ prog_3_method_9_code 7 none) ∧ Cond.code ⟨"FoldRowModel", "fill", "(IIIJ)V"⟩ prog_3_method_9_code 7 none ∈ tb := ⟨rfl, tw_318⟩
abbrev b_M_swap : ByteArray := prog_3_method_10_code
abbrev y_M_swap : MethodName := ⟨R_M, "swap", "(II)V"⟩
abbrev ws_M_swap : List Cond := Cond.code y_M_swap b_M_swap 6 none :: tb
theorem tc_M_swap : ws_M_swap.head? = some (Cond.code ⟨"FoldRowModel", "swap", "(II)V"⟩ prog_3_method_10_code 6 none) ∧ Cond.code ⟨"FoldRowModel", "swap", "(II)V"⟩ prog_3_method_10_code 6 none ∈ tb := ⟨rfl, tw_325⟩
abbrev b_M_made : ByteArray := prog_3_method_11_code
abbrev y_M_made : MethodName := ⟨R_M, "made", "(IIJ)J"⟩
abbrev ws_M_made : List Cond := Cond.code y_M_made b_M_made 8 (some .long) :: tb
theorem tc_M_made : ws_M_made.head? = some (Cond.code ⟨"FoldRowModel", "made", "(IIJ)J"⟩ prog_3_method_11_code 8 (some FieldType.long)) ∧ Cond.code ⟨"FoldRowModel", "made", "(IIJ)J"⟩ prog_3_method_11_code 8 (some FieldType.long) ∈ tb := ⟨rfl, tw_338⟩
abbrev b_M_fold : ByteArray := prog_3_method_12_code
abbrev y_M_fold : MethodName := ⟨R_M, "fold", "(IIJ)J"⟩
abbrev ws_M_fold : List Cond := Cond.code y_M_fold b_M_fold 5 (some .long) :: tb
theorem tc_M_fold : ws_M_fold.head? = some (Cond.code ⟨"FoldRowModel", "fold", "(IIJ)J"⟩ prog_3_method_12_code 5 (some FieldType.long)) ∧ Cond.code ⟨"FoldRowModel", "fold", "(IIJ)J"⟩ prog_3_method_12_code 5 (some FieldType.long) ∈ tb := ⟨rfl, tw_329⟩
abbrev b_M_again : ByteArray := prog_3_method_13_code
abbrev y_M_again : MethodName := ⟨R_M, "again", "(IIJI)J"⟩
abbrev ws_M_again : List Cond := Cond.code y_M_again b_M_again 9 (some .long) :: tb
theorem tc_M_again : ws_M_again.head? = some (Cond.code ⟨"FoldRowModel", "again", "(IIJI)J"⟩ prog_3_method_13_code 9 (some FieldType.long)) ∧ Cond.code ⟨"FoldRowModel", "again", "(IIJI)J"⟩ prog_3_method_13_code 9 (some FieldType.long) ∈ tb := ⟨rfl, tw_342⟩
abbrev b_M_ends : ByteArray := prog_3_method_14_code
abbrev y_M_ends : MethodName := ⟨R_M, "ends", "(IIJ)Z"⟩
abbrev ws_M_ends : List Cond := Cond.code y_M_ends b_M_ends 5 (some .boolean) :: tb
theorem tc_M_ends : ws_M_ends.head? = some (Cond.code ⟨"FoldRowModel", "ends", "(IIJ)Z"⟩ prog_3_method_14_code 5 (some FieldType.boolean)) ∧ Cond.code ⟨"FoldRowModel", "ends", "(IIJ)Z"⟩ prog_3_method_14_code 5 (some FieldType.boolean) ∈ tb := ⟨rfl, tw_352⟩
abbrev b_M_least : ByteArray := prog_3_method_15_code
abbrev y_M_least : MethodName := ⟨R_M, "least", "(II)J"⟩
abbrev ws_M_least : List Cond := Cond.code y_M_least b_M_least 3 (some .long) :: tb
theorem tc_M_least : ws_M_least.head? = some (Cond.code ⟨"FoldRowModel", "least", "(II)J"⟩ prog_3_method_15_code 3 (some FieldType.long)) ∧ Cond.code ⟨"FoldRowModel", "least", "(II)J"⟩ prog_3_method_15_code 3 (some FieldType.long) ∈ tb := ⟨rfl, tw_347⟩
abbrev b_M_greatest : ByteArray := prog_3_method_16_code
abbrev y_M_greatest : MethodName := ⟨R_M, "greatest", "(II)J"⟩
abbrev ws_M_greatest : List Cond := Cond.code y_M_greatest b_M_greatest 3 (some .long) :: tb
theorem tc_M_greatest : ws_M_greatest.head? = some (Cond.code ⟨"FoldRowModel", "greatest", "(II)J"⟩ prog_3_method_16_code 3 (some FieldType.long)) ∧ Cond.code ⟨"FoldRowModel", "greatest", "(II)J"⟩ prog_3_method_16_code 3 (some FieldType.long) ∈ tb := ⟨rfl, tw_357⟩
abbrev b_M_fixed : ByteArray := prog_3_method_17_code
abbrev y_M_fixed : MethodName := ⟨R_M, "fixed", "(IIZ)J"⟩
abbrev ws_M_fixed : List Cond := Cond.code y_M_fixed b_M_fixed 9 (some .long) :: tb
theorem tc_M_fixed : ws_M_fixed.head? = some (Cond.code ⟨"FoldRowModel", "fixed", "(IIZ)J"⟩ prog_3_method_17_code 9 (some FieldType.long)) ∧ Cond.code ⟨"FoldRowModel", "fixed", "(IIZ)J"⟩ prog_3_method_17_code 9 (some FieldType.long) ∈ tb := ⟨rfl, tw_362⟩
abbrev b_M_about : ByteArray := prog_3_method_18_code
abbrev y_M_about : MethodName := ⟨R_M, "about", "(III)I"⟩
abbrev ws_M_about : List Cond := Cond.code y_M_about b_M_about 10 (some .int) :: tb
theorem tc_M_about : ws_M_about.head? = some (Cond.code ⟨"FoldRowModel", "about", "(III)I"⟩ prog_3_method_18_code 10 (some FieldType.int)) ∧ Cond.code ⟨"FoldRowModel", "about", "(III)I"⟩ prog_3_method_18_code 10 (some FieldType.int) ∈ tb := ⟨rfl, tw_366⟩
abbrev b_L_set : ByteArray := method_3_code
abbrev y_L_set : MethodName := ⟨R_L, "set", "(LFoldRow;IIJ)I"⟩
abbrev ws_L_set : List Cond := Cond.codeWith y_L_set b_L_set 6 (some .int) [(0, 7, 10, 13), (0, 7, 14, 15)] :: tb
theorem tc_L_set : ws_L_set.head? = some (Cond.codeWith ⟨"FoldRowLaw", "set", "(LFoldRow;IIJ)I"⟩ method_3_code 6 (some FieldType.int) [(0, 7, 10, 13), (0, 7, 14, 15)]) ∧ Cond.codeWith ⟨"FoldRowLaw", "set", "(LFoldRow;IIJ)I"⟩ method_3_code 6 (some FieldType.int) [(0, 7, 10, 13), (0, 7, 14, 15)] ∈ tb := ⟨rfl, tw_53⟩
abbrev b_L_fill : ByteArray := method_4_code
abbrev y_L_fill : MethodName := ⟨R_L, "fill", "(LFoldRow;IIIJ)I"⟩
abbrev ws_L_fill : List Cond := Cond.codeWith y_L_fill b_L_fill 7 (some .int) [(0, 9, 12, 13), (0, 9, 16, 15)] :: tb
theorem tc_L_fill : ws_L_fill.head? = some (Cond.codeWith ⟨"FoldRowLaw", "fill", "(LFoldRow;IIIJ)I"⟩ method_4_code 7 (some FieldType.int) [(0, 9, 12, 13), (0, 9, 16, 15)]) ∧ Cond.codeWith ⟨"FoldRowLaw", "fill", "(LFoldRow;IIIJ)I"⟩ method_4_code 7 (some FieldType.int) [(0, 9, 12, 13), (0, 9, 16, 15)] ∈ tb := ⟨rfl, tw_192⟩
abbrev b_L_swap : ByteArray := method_5_code
abbrev y_L_swap : MethodName := ⟨R_L, "swap", "(LFoldRow;II)I"⟩
abbrev ws_L_swap : List Cond := Cond.codeWith y_L_swap b_L_swap 4 (some .int) [(0, 6, 9, 15)] :: tb
theorem tc_L_swap : ws_L_swap.head? = some (Cond.codeWith ⟨"FoldRowLaw", "swap", "(LFoldRow;II)I"⟩ method_5_code 4 (some FieldType.int) [(0, 6, 9, 15)]) ∧ Cond.codeWith ⟨"FoldRowLaw", "swap", "(LFoldRow;II)I"⟩ method_5_code 4 (some FieldType.int) [(0, 6, 9, 15)] ∈ tb := ⟨rfl, tw_202⟩
abbrev b_L_fold : ByteArray := method_6_code
abbrev y_L_fold : MethodName := ⟨R_L, "fold", "(LFoldRow;IIJ[J)I"⟩
abbrev ws_L_fold : List Cond := Cond.codeWith y_L_fold b_L_fold 7 (some .int) [(0, 11, 14, 13), (0, 11, 18, 15)] :: tb
theorem tc_L_fold : ws_L_fold.head? = some (Cond.codeWith ⟨"FoldRowLaw", "fold", "(LFoldRow;IIJ[J)I"⟩ method_6_code 7 (some FieldType.int) [(0, 11, 14, 13), (0, 11, 18, 15)]) ∧ Cond.codeWith ⟨"FoldRowLaw", "fold", "(LFoldRow;IIJ[J)I"⟩ method_6_code 7 (some FieldType.int) [(0, 11, 14, 13), (0, 11, 18, 15)] ∈ tb := ⟨rfl, tw_209⟩
abbrev b_L_again : ByteArray := method_7_code
abbrev y_L_again : MethodName := ⟨R_L, "again", "(LFoldRow;IIJI[J)I"⟩
abbrev ws_L_again : List Cond := Cond.codeWith y_L_again b_L_again 8 (some .int) [(0, 13, 16, 13), (0, 13, 20, 15)] :: tb
theorem tc_L_again : ws_L_again.head? = some (Cond.codeWith ⟨"FoldRowLaw", "again", "(LFoldRow;IIJI[J)I"⟩ method_7_code 8 (some FieldType.int) [(0, 13, 16, 13), (0, 13, 20, 15)]) ∧ Cond.codeWith ⟨"FoldRowLaw", "again", "(LFoldRow;IIJI[J)I"⟩ method_7_code 8 (some FieldType.int) [(0, 13, 16, 13), (0, 13, 20, 15)] ∈ tb := ⟨rfl, tw_225⟩
abbrev b_L_least : ByteArray := method_8_code
abbrev y_L_least : MethodName := ⟨R_L, "least", "(LFoldRow;II[J)I"⟩
abbrev ws_L_least : List Cond := Cond.codeWith y_L_least b_L_least 5 (some .int) [(0, 9, 12, 15), (0, 9, 16, 37)] :: tb
theorem tc_L_least : ws_L_least.head? = some (Cond.codeWith ⟨"FoldRowLaw", "least", "(LFoldRow;II[J)I"⟩ method_8_code 5 (some FieldType.int) [(0, 9, 12, 15), (0, 9, 16, 37)]) ∧ Cond.codeWith ⟨"FoldRowLaw", "least", "(LFoldRow;II[J)I"⟩ method_8_code 5 (some FieldType.int) [(0, 9, 12, 15), (0, 9, 16, 37)] ∈ tb := ⟨rfl, tw_232⟩
abbrev b_L_greatest : ByteArray := method_9_code
abbrev y_L_greatest : MethodName := ⟨R_L, "greatest", "(LFoldRow;II[J)I"⟩
abbrev ws_L_greatest : List Cond := Cond.codeWith y_L_greatest b_L_greatest 5 (some .int) [(0, 9, 12, 15), (0, 9, 16, 37)] :: tb
theorem tc_L_greatest : ws_L_greatest.head? = some (Cond.codeWith ⟨"FoldRowLaw", "greatest", "(LFoldRow;II[J)I"⟩ method_9_code 5 (some FieldType.int) [(0, 9, 12, 15), (0, 9, 16, 37)]) ∧ Cond.codeWith ⟨"FoldRowLaw", "greatest", "(LFoldRow;II[J)I"⟩ method_9_code 5 (some FieldType.int) [(0, 9, 12, 15), (0, 9, 16, 37)] ∈ tb := ⟨rfl, tw_258⟩
abbrev b_L_fixed : ByteArray := method_10_code
abbrev y_L_fixed : MethodName := ⟨R_L, "fixed", "(LFoldRow;IIZ[J)I"⟩
abbrev ws_L_fixed : List Cond := Cond.codeWith y_L_fixed b_L_fixed 6 (some .int) [(0, 11, 14, 15), (0, 11, 18, 37)] :: tb
theorem tc_L_fixed : ws_L_fixed.head? = some (Cond.codeWith ⟨"FoldRowLaw", "fixed", "(LFoldRow;IIZ[J)I"⟩ method_10_code 6 (some FieldType.int) [(0, 11, 14, 15), (0, 11, 18, 37)]) ∧ Cond.codeWith ⟨"FoldRowLaw", "fixed", "(LFoldRow;IIZ[J)I"⟩ method_10_code 6 (some FieldType.int) [(0, 11, 14, 15), (0, 11, 18, 37)] ∈ tb := ⟨rfl, tw_265⟩
abbrev b_L_about : ByteArray := method_11_code
abbrev y_L_about : MethodName := ⟨R_L, "about", "(LFoldRow;III[J)I"⟩
abbrev ws_L_about : List Cond := Cond.codeWith y_L_about b_L_about 6 (some .int) [(0, 12, 15, 13), (0, 12, 19, 15)] :: tb
theorem tc_L_about : ws_L_about.head? = some (Cond.codeWith ⟨"FoldRowLaw", "about", "(LFoldRow;III[J)I"⟩ method_11_code 6 (some FieldType.int) [(0, 12, 15, 13), (0, 12, 19, 15)]) ∧ Cond.codeWith ⟨"FoldRowLaw", "about", "(LFoldRow;III[J)I"⟩ method_11_code 6 (some FieldType.int) [(0, 12, 15, 13), (0, 12, 19, 15)] ∈ tb := ⟨rfl, tw_272⟩
theorem d_F_init_0 : decode b_F_init 0 = .ok (.aload_n 0, 1) := by decide +kernel
theorem d_F_init_1 : decode b_F_init 1 = .ok (.invokespecial 1, 3) := by decide +kernel
theorem d_F_init_4 : decode b_F_init 4 = .ok (.aload_n 0, 1) := by decide +kernel
theorem d_F_init_5 : decode b_F_init 5 = .ok (.sipush 512, 3) := by decide +kernel
theorem d_F_init_8 : decode b_F_init 8 = .ok (.newarray .long, 2) := by decide +kernel
theorem d_F_init_10 : decode b_F_init 10 = .ok (.putfield 9, 3) := by decide +kernel
theorem d_F_init_13 : decode b_F_init 13 = .ok (.aload_n 0, 1) := by decide +kernel
theorem d_F_init_14 : decode b_F_init 14 = .ok (.sipush 512, 3) := by decide +kernel
theorem d_F_init_17 : decode b_F_init 17 = .ok (.newarray .long, 2) := by decide +kernel
theorem d_F_init_19 : decode b_F_init 19 = .ok (.putfield 13, 3) := by decide +kernel
theorem d_F_init_22 : decode b_F_init 22 = .ok (.aload_n 0, 1) := by decide +kernel
theorem d_F_init_23 : decode b_F_init 23 = .ok (.sipush 512, 3) := by decide +kernel
theorem d_F_init_26 : decode b_F_init 26 = .ok (.newarray .long, 2) := by decide +kernel
theorem d_F_init_28 : decode b_F_init 28 = .ok (.putfield 16, 3) := by decide +kernel
theorem d_F_init_31 : decode b_F_init 31 = .ok (.aload_n 0, 1) := by decide +kernel
theorem d_F_init_32 : decode b_F_init 32 = .ok (.sipush 256, 3) := by decide +kernel
theorem d_F_init_35 : decode b_F_init 35 = .ok (.newarray .int, 2) := by decide +kernel
theorem d_F_init_37 : decode b_F_init 37 = .ok (.putfield 19, 3) := by decide +kernel
theorem d_F_init_40 : decode b_F_init 40 = .ok (.aload_n 0, 1) := by decide +kernel
theorem d_F_init_41 : decode b_F_init 41 = .ok (.sipush 256, 3) := by decide +kernel
theorem d_F_init_44 : decode b_F_init 44 = .ok (.newarray .long, 2) := by decide +kernel
theorem d_F_init_46 : decode b_F_init 46 = .ok (.putfield 23, 3) := by decide +kernel
theorem d_F_init_49 : decode b_F_init 49 = .ok (.iconst 0, 1) := by decide +kernel
theorem d_F_init_50 : decode b_F_init 50 = .ok (.istore_n 1, 1) := by decide +kernel
theorem d_F_init_51 : decode b_F_init 51 = .ok (.iload_n 1, 1) := by decide +kernel
theorem d_F_init_52 : decode b_F_init 52 = .ok (.sipush 512, 3) := by decide +kernel
theorem d_F_init_55 : decode b_F_init 55 = .ok (.if_icmp .ge 14, 3) := by decide +kernel
theorem d_F_init_58 : decode b_F_init 58 = .ok (.aload_n 0, 1) := by decide +kernel
theorem d_F_init_59 : decode b_F_init 59 = .ok (.iload_n 1, 1) := by decide +kernel
theorem d_F_init_60 : decode b_F_init 60 = .ok (.invokevirtual 26, 3) := by decide +kernel
theorem d_F_init_63 : decode b_F_init 63 = .ok (.iinc 1 1, 3) := by decide +kernel
theorem d_F_init_66 : decode b_F_init 66 = .ok (.goto (-15), 3) := by decide +kernel
theorem d_F_init_69 : decode b_F_init 69 = .ok (.return_, 1) := by decide +kernel
theorem d_F_good_0 : decode b_F_good 0 = .ok (.iload_n 0, 1) := by decide +kernel
theorem d_F_good_1 : decode b_F_good 1 = .ok (.ifCond .ne 11, 3) := by decide +kernel
theorem d_F_good_4 : decode b_F_good 4 = .ok (.new 30, 3) := by decide +kernel
theorem d_F_good_7 : decode b_F_good 7 = .ok (.dup, 1) := by decide +kernel
theorem d_F_good_8 : decode b_F_good 8 = .ok (.invokespecial 32, 3) := by decide +kernel
theorem d_F_good_11 : decode b_F_good 11 = .ok (.athrow, 1) := by decide +kernel
theorem d_F_good_12 : decode b_F_good 12 = .ok (.return_, 1) := by decide +kernel
theorem d_F_there_0 : decode b_F_there 0 = .ok (.iload_n 0, 1) := by decide +kernel
theorem d_F_there_1 : decode b_F_there 1 = .ok (.ifCond .ne 11, 3) := by decide +kernel
theorem d_F_there_4 : decode b_F_there 4 = .ok (.new 33, 3) := by decide +kernel
theorem d_F_there_7 : decode b_F_there 7 = .ok (.dup, 1) := by decide +kernel
theorem d_F_there_8 : decode b_F_there 8 = .ok (.invokespecial 35, 3) := by decide +kernel
theorem d_F_there_11 : decode b_F_there 11 = .ok (.athrow, 1) := by decide +kernel
theorem d_F_there_12 : decode b_F_there 12 = .ok (.return_, 1) := by decide +kernel
theorem d_F_in_0 : decode b_F_in 0 = .ok (.lload_n 0, 1) := by decide +kernel
theorem d_F_in_1 : decode b_F_in 1 = .ok (.lload_n 2, 1) := by decide +kernel
theorem d_F_in_2 : decode b_F_in 2 = .ok (.lneg, 1) := by decide +kernel
theorem d_F_in_3 : decode b_F_in 3 = .ok (.lcmp, 1) := by decide +kernel
theorem d_F_in_4 : decode b_F_in 4 = .ok (.ifCond .lt 13, 3) := by decide +kernel
theorem d_F_in_7 : decode b_F_in 7 = .ok (.lload_n 0, 1) := by decide +kernel
theorem d_F_in_8 : decode b_F_in 8 = .ok (.lload_n 2, 1) := by decide +kernel
theorem d_F_in_9 : decode b_F_in 9 = .ok (.lcmp, 1) := by decide +kernel
theorem d_F_in_10 : decode b_F_in 10 = .ok (.ifCond .gt 7, 3) := by decide +kernel
theorem d_F_in_13 : decode b_F_in 13 = .ok (.iconst 1, 1) := by decide +kernel
theorem d_F_in_14 : decode b_F_in 14 = .ok (.goto 4, 3) := by decide +kernel
theorem d_F_in_17 : decode b_F_in 17 = .ok (.iconst 0, 1) := by decide +kernel
theorem d_F_in_18 : decode b_F_in 18 = .ok (.ireturn, 1) := by decide +kernel
theorem d_F_nothing_0 : decode b_F_nothing 0 = .ok (.aload_n 0, 1) := by decide +kernel
theorem d_F_nothing_1 : decode b_F_nothing 1 = .ok (.getfield 9, 3) := by decide +kernel
theorem d_F_nothing_4 : decode b_F_nothing 4 = .ok (.iload_n 1, 1) := by decide +kernel
theorem d_F_nothing_5 : decode b_F_nothing 5 = .ok (.lconst 0, 1) := by decide +kernel
theorem d_F_nothing_6 : decode b_F_nothing 6 = .ok (.lastore, 1) := by decide +kernel
theorem d_F_nothing_7 : decode b_F_nothing 7 = .ok (.aload_n 0, 1) := by decide +kernel
theorem d_F_nothing_8 : decode b_F_nothing 8 = .ok (.getfield 13, 3) := by decide +kernel
theorem d_F_nothing_11 : decode b_F_nothing 11 = .ok (.iload_n 1, 1) := by decide +kernel
theorem d_F_nothing_12 : decode b_F_nothing 12 = .ok (.ldc2_w 36, 3) := by decide +kernel
theorem d_F_nothing_15 : decode b_F_nothing 15 = .ok (.lastore, 1) := by decide +kernel
theorem d_F_nothing_16 : decode b_F_nothing 16 = .ok (.aload_n 0, 1) := by decide +kernel
theorem d_F_nothing_17 : decode b_F_nothing 17 = .ok (.getfield 16, 3) := by decide +kernel
theorem d_F_nothing_20 : decode b_F_nothing 20 = .ok (.iload_n 1, 1) := by decide +kernel
theorem d_F_nothing_21 : decode b_F_nothing 21 = .ok (.ldc2_w 38, 3) := by decide +kernel
theorem d_F_nothing_24 : decode b_F_nothing 24 = .ok (.lastore, 1) := by decide +kernel
theorem d_F_nothing_25 : decode b_F_nothing 25 = .ok (.return_, 1) := by decide +kernel
theorem d_F_bound_0 : decode b_F_bound 0 = .ok (.lload_n 0, 1) := by decide +kernel
theorem d_F_bound_1 : decode b_F_bound 1 = .ok (.ldc2_w 38, 3) := by decide +kernel
theorem d_F_bound_4 : decode b_F_bound 4 = .ok (.lcmp, 1) := by decide +kernel
theorem d_F_bound_5 : decode b_F_bound 5 = .ok (.ifCond .eq 11, 3) := by decide +kernel
theorem d_F_bound_8 : decode b_F_bound 8 = .ok (.lload_n 0, 1) := by decide +kernel
theorem d_F_bound_9 : decode b_F_bound 9 = .ok (.ldc2_w 36, 3) := by decide +kernel
theorem d_F_bound_12 : decode b_F_bound 12 = .ok (.lcmp, 1) := by decide +kernel
theorem d_F_bound_13 : decode b_F_bound 13 = .ok (.ifCond .ne 7, 3) := by decide +kernel
theorem d_F_bound_16 : decode b_F_bound 16 = .ok (.lload_n 0, 1) := by decide +kernel
theorem d_F_bound_17 : decode b_F_bound 17 = .ok (.goto 6, 3) := by decide +kernel
theorem d_F_bound_20 : decode b_F_bound 20 = .ok (.lload_n 0, 1) := by decide +kernel
theorem d_F_bound_21 : decode b_F_bound 21 = .ok (.lload_n 2, 1) := by decide +kernel
theorem d_F_bound_22 : decode b_F_bound 22 = .ok (.ladd, 1) := by decide +kernel
theorem d_F_bound_23 : decode b_F_bound 23 = .ok (.lreturn, 1) := by decide +kernel
theorem d_F_within_0 : decode b_F_within 0 = .ok (.lload_n 2, 1) := by decide +kernel
theorem d_F_within_1 : decode b_F_within 1 = .ok (.lload 4, 2) := by decide +kernel
theorem d_F_within_3 : decode b_F_within 3 = .ok (.lload_n 0, 1) := by decide +kernel
theorem d_F_within_4 : decode b_F_within 4 = .ok (.invokestatic 40, 3) := by decide +kernel
theorem d_F_within_7 : decode b_F_within 7 = .ok (.invokestatic 46, 3) := by decide +kernel
theorem d_F_within_10 : decode b_F_within 10 = .ok (.lreturn, 1) := by decide +kernel
theorem d_F_behind_0 : decode b_F_behind 0 = .ok (.aload_n 0, 1) := by decide +kernel
theorem d_F_behind_1 : decode b_F_behind 1 = .ok (.dup, 1) := by decide +kernel
theorem d_F_behind_2 : decode b_F_behind 2 = .ok (.getfield 49, 3) := by decide +kernel
theorem d_F_behind_5 : decode b_F_behind 5 = .ok (.lload_n 1, 1) := by decide +kernel
theorem d_F_behind_6 : decode b_F_behind 6 = .ok (.ladd, 1) := by decide +kernel
theorem d_F_behind_7 : decode b_F_behind 7 = .ok (.putfield 49, 3) := by decide +kernel
theorem d_F_behind_10 : decode b_F_behind 10 = .ok (.aload_n 0, 1) := by decide +kernel
theorem d_F_behind_11 : decode b_F_behind 11 = .ok (.aload_n 0, 1) := by decide +kernel
theorem d_F_behind_12 : decode b_F_behind 12 = .ok (.getfield 53, 3) := by decide +kernel
theorem d_F_behind_15 : decode b_F_behind 15 = .ok (.lload_n 1, 1) := by decide +kernel
theorem d_F_behind_16 : decode b_F_behind 16 = .ok (.invokestatic 56, 3) := by decide +kernel
theorem d_F_behind_19 : decode b_F_behind 19 = .ok (.lload_n 3, 1) := by decide +kernel
theorem d_F_behind_20 : decode b_F_behind 20 = .ok (.lload 5, 2) := by decide +kernel
theorem d_F_behind_22 : decode b_F_behind 22 = .ok (.invokestatic 59, 3) := by decide +kernel
theorem d_F_behind_25 : decode b_F_behind 25 = .ok (.putfield 53, 3) := by decide +kernel
theorem d_F_behind_28 : decode b_F_behind 28 = .ok (.aload_n 0, 1) := by decide +kernel
theorem d_F_behind_29 : decode b_F_behind 29 = .ok (.aload_n 0, 1) := by decide +kernel
theorem d_F_behind_30 : decode b_F_behind 30 = .ok (.getfield 63, 3) := by decide +kernel
theorem d_F_behind_33 : decode b_F_behind 33 = .ok (.lload_n 1, 1) := by decide +kernel
theorem d_F_behind_34 : decode b_F_behind 34 = .ok (.invokestatic 56, 3) := by decide +kernel
theorem d_F_behind_37 : decode b_F_behind 37 = .ok (.lload_n 3, 1) := by decide +kernel
theorem d_F_behind_38 : decode b_F_behind 38 = .ok (.lload 5, 2) := by decide +kernel
theorem d_F_behind_40 : decode b_F_behind 40 = .ok (.invokestatic 59, 3) := by decide +kernel
theorem d_F_behind_43 : decode b_F_behind 43 = .ok (.putfield 63, 3) := by decide +kernel
theorem d_F_behind_46 : decode b_F_behind 46 = .ok (.return_, 1) := by decide +kernel
theorem d_F_begin_0 : decode b_F_begin 0 = .ok (.aload_n 0, 1) := by decide +kernel
theorem d_F_begin_1 : decode b_F_begin 1 = .ok (.lconst 0, 1) := by decide +kernel
theorem d_F_begin_2 : decode b_F_begin 2 = .ok (.putfield 49, 3) := by decide +kernel
theorem d_F_begin_5 : decode b_F_begin 5 = .ok (.aload_n 0, 1) := by decide +kernel
theorem d_F_begin_6 : decode b_F_begin 6 = .ok (.ldc2_w 36, 3) := by decide +kernel
theorem d_F_begin_9 : decode b_F_begin 9 = .ok (.putfield 53, 3) := by decide +kernel
theorem d_F_begin_12 : decode b_F_begin 12 = .ok (.aload_n 0, 1) := by decide +kernel
theorem d_F_begin_13 : decode b_F_begin 13 = .ok (.ldc2_w 38, 3) := by decide +kernel
theorem d_F_begin_16 : decode b_F_begin 16 = .ok (.putfield 63, 3) := by decide +kernel
theorem d_F_begin_19 : decode b_F_begin 19 = .ok (.return_, 1) := by decide +kernel
theorem d_F_node_0 : decode b_F_node 0 = .ok (.aload_n 0, 1) := by decide +kernel
theorem d_F_node_1 : decode b_F_node 1 = .ok (.aload_n 0, 1) := by decide +kernel
theorem d_F_node_2 : decode b_F_node 2 = .ok (.getfield 9, 3) := by decide +kernel
theorem d_F_node_5 : decode b_F_node 5 = .ok (.iload_n 1, 1) := by decide +kernel
theorem d_F_node_6 : decode b_F_node 6 = .ok (.laload, 1) := by decide +kernel
theorem d_F_node_7 : decode b_F_node 7 = .ok (.aload_n 0, 1) := by decide +kernel
theorem d_F_node_8 : decode b_F_node 8 = .ok (.getfield 13, 3) := by decide +kernel
theorem d_F_node_11 : decode b_F_node 11 = .ok (.iload_n 1, 1) := by decide +kernel
theorem d_F_node_12 : decode b_F_node 12 = .ok (.laload, 1) := by decide +kernel
theorem d_F_node_13 : decode b_F_node 13 = .ok (.aload_n 0, 1) := by decide +kernel
theorem d_F_node_14 : decode b_F_node 14 = .ok (.getfield 16, 3) := by decide +kernel
theorem d_F_node_17 : decode b_F_node 17 = .ok (.iload_n 1, 1) := by decide +kernel
theorem d_F_node_18 : decode b_F_node 18 = .ok (.laload, 1) := by decide +kernel
theorem d_F_node_19 : decode b_F_node 19 = .ok (.invokevirtual 66, 3) := by decide +kernel
theorem d_F_node_22 : decode b_F_node 22 = .ok (.return_, 1) := by decide +kernel
theorem d_F_keep_0 : decode b_F_keep 0 = .ok (.aload_n 0, 1) := by decide +kernel
theorem d_F_keep_1 : decode b_F_keep 1 = .ok (.getfield 9, 3) := by decide +kernel
theorem d_F_keep_4 : decode b_F_keep 4 = .ok (.iload_n 1, 1) := by decide +kernel
theorem d_F_keep_5 : decode b_F_keep 5 = .ok (.aload_n 0, 1) := by decide +kernel
theorem d_F_keep_6 : decode b_F_keep 6 = .ok (.getfield 49, 3) := by decide +kernel
theorem d_F_keep_9 : decode b_F_keep 9 = .ok (.lastore, 1) := by decide +kernel
theorem d_F_keep_10 : decode b_F_keep 10 = .ok (.aload_n 0, 1) := by decide +kernel
theorem d_F_keep_11 : decode b_F_keep 11 = .ok (.getfield 13, 3) := by decide +kernel
theorem d_F_keep_14 : decode b_F_keep 14 = .ok (.iload_n 1, 1) := by decide +kernel
theorem d_F_keep_15 : decode b_F_keep 15 = .ok (.aload_n 0, 1) := by decide +kernel
theorem d_F_keep_16 : decode b_F_keep 16 = .ok (.getfield 53, 3) := by decide +kernel
theorem d_F_keep_19 : decode b_F_keep 19 = .ok (.lastore, 1) := by decide +kernel
theorem d_F_keep_20 : decode b_F_keep 20 = .ok (.aload_n 0, 1) := by decide +kernel
theorem d_F_keep_21 : decode b_F_keep 21 = .ok (.getfield 16, 3) := by decide +kernel
theorem d_F_keep_24 : decode b_F_keep 24 = .ok (.iload_n 1, 1) := by decide +kernel
theorem d_F_keep_25 : decode b_F_keep 25 = .ok (.aload_n 0, 1) := by decide +kernel
theorem d_F_keep_26 : decode b_F_keep 26 = .ok (.getfield 63, 3) := by decide +kernel
theorem d_F_keep_29 : decode b_F_keep 29 = .ok (.lastore, 1) := by decide +kernel
theorem d_F_keep_30 : decode b_F_keep 30 = .ok (.return_, 1) := by decide +kernel
theorem d_F_rule3_0 : decode b_F_rule3 0 = .ok (.aload_n 0, 1) := by decide +kernel
theorem d_F_rule3_1 : decode b_F_rule3 1 = .ok (.getfield 19, 3) := by decide +kernel
theorem d_F_rule3_4 : decode b_F_rule3 4 = .ok (.iload_n 1, 1) := by decide +kernel
theorem d_F_rule3_5 : decode b_F_rule3 5 = .ok (.iload_n 2, 1) := by decide +kernel
theorem d_F_rule3_6 : decode b_F_rule3 6 = .ok (.iastore, 1) := by decide +kernel
theorem d_F_rule3_7 : decode b_F_rule3 7 = .ok (.aload_n 0, 1) := by decide +kernel
theorem d_F_rule3_8 : decode b_F_rule3 8 = .ok (.getfield 23, 3) := by decide +kernel
theorem d_F_rule3_11 : decode b_F_rule3 11 = .ok (.iload_n 1, 1) := by decide +kernel
theorem d_F_rule3_12 : decode b_F_rule3 12 = .ok (.lload_n 3, 1) := by decide +kernel
theorem d_F_rule3_13 : decode b_F_rule3 13 = .ok (.lastore, 1) := by decide +kernel
theorem d_F_rule3_14 : decode b_F_rule3 14 = .ok (.sipush 256, 3) := by decide +kernel
theorem d_F_rule3_17 : decode b_F_rule3 17 = .ok (.iload_n 1, 1) := by decide +kernel
theorem d_F_rule3_18 : decode b_F_rule3 18 = .ok (.iadd, 1) := by decide +kernel
theorem d_F_rule3_19 : decode b_F_rule3 19 = .ok (.istore 5, 2) := by decide +kernel
theorem d_F_rule3_21 : decode b_F_rule3 21 = .ok (.aload_n 0, 1) := by decide +kernel
theorem d_F_rule3_22 : decode b_F_rule3 22 = .ok (.iload 5, 2) := by decide +kernel
theorem d_F_rule3_24 : decode b_F_rule3 24 = .ok (.invokevirtual 26, 3) := by decide +kernel
theorem d_F_rule3_27 : decode b_F_rule3 27 = .ok (.iload_n 2, 1) := by decide +kernel
theorem d_F_rule3_28 : decode b_F_rule3 28 = .ok (.iconst 1, 1) := by decide +kernel
theorem d_F_rule3_29 : decode b_F_rule3 29 = .ok (.if_icmp .ne 11, 3) := by decide +kernel
theorem d_F_rule3_32 : decode b_F_rule3 32 = .ok (.aload_n 0, 1) := by decide +kernel
theorem d_F_rule3_33 : decode b_F_rule3 33 = .ok (.getfield 9, 3) := by decide +kernel
theorem d_F_rule3_36 : decode b_F_rule3 36 = .ok (.iload 5, 2) := by decide +kernel
theorem d_F_rule3_38 : decode b_F_rule3 38 = .ok (.lload_n 3, 1) := by decide +kernel
theorem d_F_rule3_39 : decode b_F_rule3 39 = .ok (.lastore, 1) := by decide +kernel
theorem d_F_rule3_40 : decode b_F_rule3 40 = .ok (.iload_n 2, 1) := by decide +kernel
theorem d_F_rule3_41 : decode b_F_rule3 41 = .ok (.iconst 2, 1) := by decide +kernel
theorem d_F_rule3_42 : decode b_F_rule3 42 = .ok (.if_icmp .eq 8, 3) := by decide +kernel
theorem d_F_rule3_45 : decode b_F_rule3 45 = .ok (.iload_n 2, 1) := by decide +kernel
theorem d_F_rule3_46 : decode b_F_rule3 46 = .ok (.iconst 3, 1) := by decide +kernel
theorem d_F_rule3_47 : decode b_F_rule3 47 = .ok (.if_icmp .ne 11, 3) := by decide +kernel
theorem d_F_rule3_50 : decode b_F_rule3 50 = .ok (.aload_n 0, 1) := by decide +kernel
theorem d_F_rule3_51 : decode b_F_rule3 51 = .ok (.getfield 13, 3) := by decide +kernel
theorem d_F_rule3_54 : decode b_F_rule3 54 = .ok (.iload 5, 2) := by decide +kernel
theorem d_F_rule3_56 : decode b_F_rule3 56 = .ok (.lload_n 3, 1) := by decide +kernel
theorem d_F_rule3_57 : decode b_F_rule3 57 = .ok (.lastore, 1) := by decide +kernel
theorem d_F_rule3_58 : decode b_F_rule3 58 = .ok (.iload_n 2, 1) := by decide +kernel
theorem d_F_rule3_59 : decode b_F_rule3 59 = .ok (.iconst 2, 1) := by decide +kernel
theorem d_F_rule3_60 : decode b_F_rule3 60 = .ok (.if_icmp .eq 8, 3) := by decide +kernel
theorem d_F_rule3_63 : decode b_F_rule3 63 = .ok (.iload_n 2, 1) := by decide +kernel
theorem d_F_rule3_64 : decode b_F_rule3 64 = .ok (.iconst 4, 1) := by decide +kernel
theorem d_F_rule3_65 : decode b_F_rule3 65 = .ok (.if_icmp .ne 11, 3) := by decide +kernel
theorem d_F_rule3_68 : decode b_F_rule3 68 = .ok (.aload_n 0, 1) := by decide +kernel
theorem d_F_rule3_69 : decode b_F_rule3 69 = .ok (.getfield 16, 3) := by decide +kernel
theorem d_F_rule3_72 : decode b_F_rule3 72 = .ok (.iload 5, 2) := by decide +kernel
theorem d_F_rule3_74 : decode b_F_rule3 74 = .ok (.lload_n 3, 1) := by decide +kernel
theorem d_F_rule3_75 : decode b_F_rule3 75 = .ok (.lastore, 1) := by decide +kernel
theorem d_F_rule3_76 : decode b_F_rule3 76 = .ok (.return_, 1) := by decide +kernel
theorem d_F_up_0 : decode b_F_up 0 = .ok (.sipush 256, 3) := by decide +kernel
theorem d_F_up_3 : decode b_F_up 3 = .ok (.iload_n 1, 1) := by decide +kernel
theorem d_F_up_4 : decode b_F_up 4 = .ok (.iadd, 1) := by decide +kernel
theorem d_F_up_5 : decode b_F_up 5 = .ok (.iconst 1, 1) := by decide +kernel
theorem d_F_up_6 : decode b_F_up 6 = .ok (.ishr, 1) := by decide +kernel
theorem d_F_up_7 : decode b_F_up 7 = .ok (.istore_n 2, 1) := by decide +kernel
theorem d_F_up_8 : decode b_F_up 8 = .ok (.iload_n 2, 1) := by decide +kernel
theorem d_F_up_9 : decode b_F_up 9 = .ok (.ifCond .le 35, 3) := by decide +kernel
theorem d_F_up_12 : decode b_F_up 12 = .ok (.aload_n 0, 1) := by decide +kernel
theorem d_F_up_13 : decode b_F_up 13 = .ok (.invokevirtual 70, 3) := by decide +kernel
theorem d_F_up_16 : decode b_F_up 16 = .ok (.aload_n 0, 1) := by decide +kernel
theorem d_F_up_17 : decode b_F_up 17 = .ok (.iconst 2, 1) := by decide +kernel
theorem d_F_up_18 : decode b_F_up 18 = .ok (.iload_n 2, 1) := by decide +kernel
theorem d_F_up_19 : decode b_F_up 19 = .ok (.imul, 1) := by decide +kernel
theorem d_F_up_20 : decode b_F_up 20 = .ok (.invokevirtual 73, 3) := by decide +kernel
theorem d_F_up_23 : decode b_F_up 23 = .ok (.aload_n 0, 1) := by decide +kernel
theorem d_F_up_24 : decode b_F_up 24 = .ok (.iconst 2, 1) := by decide +kernel
theorem d_F_up_25 : decode b_F_up 25 = .ok (.iload_n 2, 1) := by decide +kernel
theorem d_F_up_26 : decode b_F_up 26 = .ok (.imul, 1) := by decide +kernel
theorem d_F_up_27 : decode b_F_up 27 = .ok (.iconst 1, 1) := by decide +kernel
theorem d_F_up_28 : decode b_F_up 28 = .ok (.iadd, 1) := by decide +kernel
theorem d_F_up_29 : decode b_F_up 29 = .ok (.invokevirtual 73, 3) := by decide +kernel
theorem d_F_up_32 : decode b_F_up 32 = .ok (.aload_n 0, 1) := by decide +kernel
theorem d_F_up_33 : decode b_F_up 33 = .ok (.iload_n 2, 1) := by decide +kernel
theorem d_F_up_34 : decode b_F_up 34 = .ok (.invokevirtual 76, 3) := by decide +kernel
theorem d_F_up_37 : decode b_F_up 37 = .ok (.iload_n 2, 1) := by decide +kernel
theorem d_F_up_38 : decode b_F_up 38 = .ok (.iconst 1, 1) := by decide +kernel
theorem d_F_up_39 : decode b_F_up 39 = .ok (.ishr, 1) := by decide +kernel
theorem d_F_up_40 : decode b_F_up 40 = .ok (.istore_n 2, 1) := by decide +kernel
theorem d_F_up_41 : decode b_F_up 41 = .ok (.goto (-33), 3) := by decide +kernel
theorem d_F_up_44 : decode b_F_up 44 = .ok (.return_, 1) := by decide +kernel
theorem d_F_rightRule_0 : decode b_F_rightRule 0 = .ok (.iload_n 0, 1) := by decide +kernel
theorem d_F_rightRule_1 : decode b_F_rightRule 1 = .ok (.ifCond .lt 22, 3) := by decide +kernel
theorem d_F_rightRule_4 : decode b_F_rightRule 4 = .ok (.iload_n 0, 1) := by decide +kernel
theorem d_F_rightRule_5 : decode b_F_rightRule 5 = .ok (.iconst 5, 1) := by decide +kernel
theorem d_F_rightRule_6 : decode b_F_rightRule 6 = .ok (.if_icmp .ge 17, 3) := by decide +kernel
theorem d_F_rightRule_9 : decode b_F_rightRule 9 = .ok (.lload_n 1, 1) := by decide +kernel
theorem d_F_rightRule_10 : decode b_F_rightRule 10 = .ok (.ldc2_w 79, 3) := by decide +kernel
theorem d_F_rightRule_13 : decode b_F_rightRule 13 = .ok (.invokestatic 81, 3) := by decide +kernel
theorem d_F_rightRule_16 : decode b_F_rightRule 16 = .ok (.ifCond .eq 7, 3) := by decide +kernel
theorem d_F_rightRule_19 : decode b_F_rightRule 19 = .ok (.iconst 1, 1) := by decide +kernel
theorem d_F_rightRule_20 : decode b_F_rightRule 20 = .ok (.goto 4, 3) := by decide +kernel
theorem d_F_rightRule_23 : decode b_F_rightRule 23 = .ok (.iconst 0, 1) := by decide +kernel
theorem d_F_rightRule_24 : decode b_F_rightRule 24 = .ok (.invokestatic 85, 3) := by decide +kernel
theorem d_F_rightRule_27 : decode b_F_rightRule 27 = .ok (.return_, 1) := by decide +kernel
theorem d_F_rule1_0 : decode b_F_rule1 0 = .ok (.iload_n 0, 1) := by decide +kernel
theorem d_F_rule1_1 : decode b_F_rule1 1 = .ok (.ifCond .lt 14, 3) := by decide +kernel
theorem d_F_rule1_4 : decode b_F_rule1 4 = .ok (.iload_n 0, 1) := by decide +kernel
theorem d_F_rule1_5 : decode b_F_rule1 5 = .ok (.sipush 256, 3) := by decide +kernel
theorem d_F_rule1_8 : decode b_F_rule1 8 = .ok (.if_icmp .ge 7, 3) := by decide +kernel
theorem d_F_rule1_11 : decode b_F_rule1 11 = .ok (.iconst 1, 1) := by decide +kernel
theorem d_F_rule1_12 : decode b_F_rule1 12 = .ok (.goto 4, 3) := by decide +kernel
theorem d_F_rule1_15 : decode b_F_rule1 15 = .ok (.iconst 0, 1) := by decide +kernel
theorem d_F_rule1_16 : decode b_F_rule1 16 = .ok (.invokestatic 89, 3) := by decide +kernel
theorem d_F_rule1_19 : decode b_F_rule1 19 = .ok (.return_, 1) := by decide +kernel
theorem d_F_set_0 : decode b_F_set 0 = .ok (.iload_n 2, 1) := by decide +kernel
theorem d_F_set_1 : decode b_F_set 1 = .ok (.lload_n 3, 1) := by decide +kernel
theorem d_F_set_2 : decode b_F_set 2 = .ok (.invokestatic 92, 3) := by decide +kernel
theorem d_F_set_5 : decode b_F_set 5 = .ok (.iload_n 1, 1) := by decide +kernel
theorem d_F_set_6 : decode b_F_set 6 = .ok (.invokestatic 96, 3) := by decide +kernel
theorem d_F_set_9 : decode b_F_set 9 = .ok (.aload_n 0, 1) := by decide +kernel
theorem d_F_set_10 : decode b_F_set 10 = .ok (.iload_n 1, 1) := by decide +kernel
theorem d_F_set_11 : decode b_F_set 11 = .ok (.iload_n 2, 1) := by decide +kernel
theorem d_F_set_12 : decode b_F_set 12 = .ok (.lload_n 3, 1) := by decide +kernel
theorem d_F_set_13 : decode b_F_set 13 = .ok (.invokevirtual 99, 3) := by decide +kernel
theorem d_F_set_16 : decode b_F_set 16 = .ok (.aload_n 0, 1) := by decide +kernel
theorem d_F_set_17 : decode b_F_set 17 = .ok (.iload_n 1, 1) := by decide +kernel
theorem d_F_set_18 : decode b_F_set 18 = .ok (.invokevirtual 102, 3) := by decide +kernel
theorem d_F_set_21 : decode b_F_set 21 = .ok (.return_, 1) := by decide +kernel
theorem d_F_fill_0 : decode b_F_fill 0 = .ok (.iload_n 3, 1) := by decide +kernel
theorem d_F_fill_1 : decode b_F_fill 1 = .ok (.lload 4, 2) := by decide +kernel
theorem d_F_fill_3 : decode b_F_fill 3 = .ok (.invokestatic 92, 3) := by decide +kernel
theorem d_F_fill_6 : decode b_F_fill 6 = .ok (.iload_n 1, 1) := by decide +kernel
theorem d_F_fill_7 : decode b_F_fill 7 = .ok (.iload_n 2, 1) := by decide +kernel
theorem d_F_fill_8 : decode b_F_fill 8 = .ok (.invokestatic 105, 3) := by decide +kernel
theorem d_F_fill_11 : decode b_F_fill 11 = .ok (.iload_n 1, 1) := by decide +kernel
theorem d_F_fill_12 : decode b_F_fill 12 = .ok (.istore 6, 2) := by decide +kernel
theorem d_F_fill_14 : decode b_F_fill 14 = .ok (.iload 6, 2) := by decide +kernel
theorem d_F_fill_16 : decode b_F_fill 16 = .ok (.iload_n 2, 1) := by decide +kernel
theorem d_F_fill_17 : decode b_F_fill 17 = .ok (.if_icmp .ge 24, 3) := by decide +kernel
theorem d_F_fill_20 : decode b_F_fill 20 = .ok (.aload_n 0, 1) := by decide +kernel
theorem d_F_fill_21 : decode b_F_fill 21 = .ok (.iload 6, 2) := by decide +kernel
theorem d_F_fill_23 : decode b_F_fill 23 = .ok (.iload_n 3, 1) := by decide +kernel
theorem d_F_fill_24 : decode b_F_fill 24 = .ok (.lload 4, 2) := by decide +kernel
theorem d_F_fill_26 : decode b_F_fill 26 = .ok (.invokevirtual 99, 3) := by decide +kernel
theorem d_F_fill_29 : decode b_F_fill 29 = .ok (.aload_n 0, 1) := by decide +kernel
theorem d_F_fill_30 : decode b_F_fill 30 = .ok (.iload 6, 2) := by decide +kernel
theorem d_F_fill_32 : decode b_F_fill 32 = .ok (.invokevirtual 102, 3) := by decide +kernel
theorem d_F_fill_35 : decode b_F_fill 35 = .ok (.iinc 6 1, 3) := by decide +kernel
theorem d_F_fill_38 : decode b_F_fill 38 = .ok (.goto (-24), 3) := by decide +kernel
theorem d_F_fill_41 : decode b_F_fill 41 = .ok (.return_, 1) := by decide +kernel
theorem d_F_swap_0 : decode b_F_swap 0 = .ok (.iload_n 1, 1) := by decide +kernel
theorem d_F_swap_1 : decode b_F_swap 1 = .ok (.invokestatic 96, 3) := by decide +kernel
theorem d_F_swap_4 : decode b_F_swap 4 = .ok (.iload_n 2, 1) := by decide +kernel
theorem d_F_swap_5 : decode b_F_swap 5 = .ok (.invokestatic 96, 3) := by decide +kernel
theorem d_F_swap_8 : decode b_F_swap 8 = .ok (.aload_n 0, 1) := by decide +kernel
theorem d_F_swap_9 : decode b_F_swap 9 = .ok (.getfield 19, 3) := by decide +kernel
theorem d_F_swap_12 : decode b_F_swap 12 = .ok (.iload_n 1, 1) := by decide +kernel
theorem d_F_swap_13 : decode b_F_swap 13 = .ok (.iaload, 1) := by decide +kernel
theorem d_F_swap_14 : decode b_F_swap 14 = .ok (.istore_n 3, 1) := by decide +kernel
theorem d_F_swap_15 : decode b_F_swap 15 = .ok (.aload_n 0, 1) := by decide +kernel
theorem d_F_swap_16 : decode b_F_swap 16 = .ok (.getfield 23, 3) := by decide +kernel
theorem d_F_swap_19 : decode b_F_swap 19 = .ok (.iload_n 1, 1) := by decide +kernel
theorem d_F_swap_20 : decode b_F_swap 20 = .ok (.laload, 1) := by decide +kernel
theorem d_F_swap_21 : decode b_F_swap 21 = .ok (.lstore 4, 2) := by decide +kernel
theorem d_F_swap_23 : decode b_F_swap 23 = .ok (.aload_n 0, 1) := by decide +kernel
theorem d_F_swap_24 : decode b_F_swap 24 = .ok (.iload_n 1, 1) := by decide +kernel
theorem d_F_swap_25 : decode b_F_swap 25 = .ok (.aload_n 0, 1) := by decide +kernel
theorem d_F_swap_26 : decode b_F_swap 26 = .ok (.getfield 19, 3) := by decide +kernel
theorem d_F_swap_29 : decode b_F_swap 29 = .ok (.iload_n 2, 1) := by decide +kernel
theorem d_F_swap_30 : decode b_F_swap 30 = .ok (.iaload, 1) := by decide +kernel
theorem d_F_swap_31 : decode b_F_swap 31 = .ok (.aload_n 0, 1) := by decide +kernel
theorem d_F_swap_32 : decode b_F_swap 32 = .ok (.getfield 23, 3) := by decide +kernel
theorem d_F_swap_35 : decode b_F_swap 35 = .ok (.iload_n 2, 1) := by decide +kernel
theorem d_F_swap_36 : decode b_F_swap 36 = .ok (.laload, 1) := by decide +kernel
theorem d_F_swap_37 : decode b_F_swap 37 = .ok (.invokevirtual 99, 3) := by decide +kernel
theorem d_F_swap_40 : decode b_F_swap 40 = .ok (.aload_n 0, 1) := by decide +kernel
theorem d_F_swap_41 : decode b_F_swap 41 = .ok (.iload_n 2, 1) := by decide +kernel
theorem d_F_swap_42 : decode b_F_swap 42 = .ok (.iload_n 3, 1) := by decide +kernel
theorem d_F_swap_43 : decode b_F_swap 43 = .ok (.lload 4, 2) := by decide +kernel
theorem d_F_swap_45 : decode b_F_swap 45 = .ok (.invokevirtual 99, 3) := by decide +kernel
theorem d_F_swap_48 : decode b_F_swap 48 = .ok (.aload_n 0, 1) := by decide +kernel
theorem d_F_swap_49 : decode b_F_swap 49 = .ok (.iload_n 1, 1) := by decide +kernel
theorem d_F_swap_50 : decode b_F_swap 50 = .ok (.invokevirtual 102, 3) := by decide +kernel
theorem d_F_swap_53 : decode b_F_swap 53 = .ok (.aload_n 0, 1) := by decide +kernel
theorem d_F_swap_54 : decode b_F_swap 54 = .ok (.iload_n 2, 1) := by decide +kernel
theorem d_F_swap_55 : decode b_F_swap 55 = .ok (.invokevirtual 102, 3) := by decide +kernel
theorem d_F_swap_58 : decode b_F_swap 58 = .ok (.return_, 1) := by decide +kernel
theorem d_F_part_0 : decode b_F_part 0 = .ok (.iload_n 0, 1) := by decide +kernel
theorem d_F_part_1 : decode b_F_part 1 = .ok (.ifCond .lt 19, 3) := by decide +kernel
theorem d_F_part_4 : decode b_F_part 4 = .ok (.iload_n 0, 1) := by decide +kernel
theorem d_F_part_5 : decode b_F_part 5 = .ok (.iload_n 1, 1) := by decide +kernel
theorem d_F_part_6 : decode b_F_part 6 = .ok (.if_icmp .gt 14, 3) := by decide +kernel
theorem d_F_part_9 : decode b_F_part 9 = .ok (.iload_n 1, 1) := by decide +kernel
theorem d_F_part_10 : decode b_F_part 10 = .ok (.sipush 256, 3) := by decide +kernel
theorem d_F_part_13 : decode b_F_part 13 = .ok (.if_icmp .gt 7, 3) := by decide +kernel
theorem d_F_part_16 : decode b_F_part 16 = .ok (.iconst 1, 1) := by decide +kernel
theorem d_F_part_17 : decode b_F_part 17 = .ok (.goto 4, 3) := by decide +kernel
theorem d_F_part_20 : decode b_F_part 20 = .ok (.iconst 0, 1) := by decide +kernel
theorem d_F_part_21 : decode b_F_part 21 = .ok (.invokestatic 89, 3) := by decide +kernel
theorem d_F_part_24 : decode b_F_part 24 = .ok (.return_, 1) := by decide +kernel
theorem d_F_join_0 : decode b_F_join 0 = .ok (.iload_n 1, 1) := by decide +kernel
theorem d_F_join_1 : decode b_F_join 1 = .ok (.iload_n 2, 1) := by decide +kernel
theorem d_F_join_2 : decode b_F_join 2 = .ok (.invokestatic 105, 3) := by decide +kernel
theorem d_F_join_5 : decode b_F_join 5 = .ok (.aload_n 0, 1) := by decide +kernel
theorem d_F_join_6 : decode b_F_join 6 = .ok (.invokevirtual 70, 3) := by decide +kernel
theorem d_F_join_9 : decode b_F_join 9 = .ok (.iload_n 1, 1) := by decide +kernel
theorem d_F_join_10 : decode b_F_join 10 = .ok (.istore_n 3, 1) := by decide +kernel
theorem d_F_join_11 : decode b_F_join 11 = .ok (.iload_n 3, 1) := by decide +kernel
theorem d_F_join_12 : decode b_F_join 12 = .ok (.iload_n 2, 1) := by decide +kernel
theorem d_F_join_13 : decode b_F_join 13 = .ok (.if_icmp .ge 67, 3) := by decide +kernel
theorem d_F_join_16 : decode b_F_join 16 = .ok (.iconst 1, 1) := by decide +kernel
theorem d_F_join_17 : decode b_F_join 17 = .ok (.istore 4, 2) := by decide +kernel
theorem d_F_join_19 : decode b_F_join 19 = .ok (.sipush 256, 3) := by decide +kernel
theorem d_F_join_22 : decode b_F_join 22 = .ok (.iload_n 3, 1) := by decide +kernel
theorem d_F_join_23 : decode b_F_join 23 = .ok (.iadd, 1) := by decide +kernel
theorem d_F_join_24 : decode b_F_join 24 = .ok (.istore 5, 2) := by decide +kernel
theorem d_F_join_26 : decode b_F_join 26 = .ok (.iload_n 3, 1) := by decide +kernel
theorem d_F_join_27 : decode b_F_join 27 = .ok (.iload 4, 2) := by decide +kernel
theorem d_F_join_29 : decode b_F_join 29 = .ok (.iand, 1) := by decide +kernel
theorem d_F_join_30 : decode b_F_join 30 = .ok (.ifCond .ne 36, 3) := by decide +kernel
theorem d_F_join_33 : decode b_F_join 33 = .ok (.iload_n 3, 1) := by decide +kernel
theorem d_F_join_34 : decode b_F_join 34 = .ok (.iconst 2, 1) := by decide +kernel
theorem d_F_join_35 : decode b_F_join 35 = .ok (.iload 4, 2) := by decide +kernel
theorem d_F_join_37 : decode b_F_join 37 = .ok (.imul, 1) := by decide +kernel
theorem d_F_join_38 : decode b_F_join 38 = .ok (.iadd, 1) := by decide +kernel
theorem d_F_join_39 : decode b_F_join 39 = .ok (.iload_n 2, 1) := by decide +kernel
theorem d_F_join_40 : decode b_F_join 40 = .ok (.if_icmp .gt 26, 3) := by decide +kernel
theorem d_F_join_43 : decode b_F_join 43 = .ok (.iload 4, 2) := by decide +kernel
theorem d_F_join_45 : decode b_F_join 45 = .ok (.sipush 256, 3) := by decide +kernel
theorem d_F_join_48 : decode b_F_join 48 = .ok (.if_icmp .ge 18, 3) := by decide +kernel
theorem d_F_join_51 : decode b_F_join 51 = .ok (.iload 4, 2) := by decide +kernel
theorem d_F_join_53 : decode b_F_join 53 = .ok (.iconst 2, 1) := by decide +kernel
theorem d_F_join_54 : decode b_F_join 54 = .ok (.imul, 1) := by decide +kernel
theorem d_F_join_55 : decode b_F_join 55 = .ok (.istore 4, 2) := by decide +kernel
theorem d_F_join_57 : decode b_F_join 57 = .ok (.iload 5, 2) := by decide +kernel
theorem d_F_join_59 : decode b_F_join 59 = .ok (.iconst 1, 1) := by decide +kernel
theorem d_F_join_60 : decode b_F_join 60 = .ok (.ishr, 1) := by decide +kernel
theorem d_F_join_61 : decode b_F_join 61 = .ok (.istore 5, 2) := by decide +kernel
theorem d_F_join_63 : decode b_F_join 63 = .ok (.goto (-37), 3) := by decide +kernel
theorem d_F_join_66 : decode b_F_join 66 = .ok (.aload_n 0, 1) := by decide +kernel
theorem d_F_join_67 : decode b_F_join 67 = .ok (.iload 5, 2) := by decide +kernel
theorem d_F_join_69 : decode b_F_join 69 = .ok (.invokevirtual 73, 3) := by decide +kernel
theorem d_F_join_72 : decode b_F_join 72 = .ok (.iload_n 3, 1) := by decide +kernel
theorem d_F_join_73 : decode b_F_join 73 = .ok (.iload 4, 2) := by decide +kernel
theorem d_F_join_75 : decode b_F_join 75 = .ok (.iadd, 1) := by decide +kernel
theorem d_F_join_76 : decode b_F_join 76 = .ok (.istore_n 3, 1) := by decide +kernel
theorem d_F_join_77 : decode b_F_join 77 = .ok (.goto (-66), 3) := by decide +kernel
theorem d_F_join_80 : decode b_F_join 80 = .ok (.return_, 1) := by decide +kernel
theorem d_F_made_0 : decode b_F_made 0 = .ok (.lload_n 1, 1) := by decide +kernel
theorem d_F_made_1 : decode b_F_made 1 = .ok (.aload_n 0, 1) := by decide +kernel
theorem d_F_made_2 : decode b_F_made 2 = .ok (.getfield 49, 3) := by decide +kernel
theorem d_F_made_5 : decode b_F_made 5 = .ok (.ladd, 1) := by decide +kernel
theorem d_F_made_6 : decode b_F_made 6 = .ok (.aload_n 0, 1) := by decide +kernel
theorem d_F_made_7 : decode b_F_made 7 = .ok (.getfield 53, 3) := by decide +kernel
theorem d_F_made_10 : decode b_F_made 10 = .ok (.aload_n 0, 1) := by decide +kernel
theorem d_F_made_11 : decode b_F_made 11 = .ok (.getfield 63, 3) := by decide +kernel
theorem d_F_made_14 : decode b_F_made 14 = .ok (.invokestatic 59, 3) := by decide +kernel
theorem d_F_made_17 : decode b_F_made 17 = .ok (.lreturn, 1) := by decide +kernel
theorem d_F_fold_0 : decode b_F_fold 0 = .ok (.lload_n 3, 1) := by decide +kernel
theorem d_F_fold_1 : decode b_F_fold 1 = .ok (.ldc2_w 109, 3) := by decide +kernel
theorem d_F_fold_4 : decode b_F_fold 4 = .ok (.invokestatic 81, 3) := by decide +kernel
theorem d_F_fold_7 : decode b_F_fold 7 = .ok (.invokestatic 85, 3) := by decide +kernel
theorem d_F_fold_10 : decode b_F_fold 10 = .ok (.aload_n 0, 1) := by decide +kernel
theorem d_F_fold_11 : decode b_F_fold 11 = .ok (.iload_n 1, 1) := by decide +kernel
theorem d_F_fold_12 : decode b_F_fold 12 = .ok (.iload_n 2, 1) := by decide +kernel
theorem d_F_fold_13 : decode b_F_fold 13 = .ok (.invokevirtual 111, 3) := by decide +kernel
theorem d_F_fold_16 : decode b_F_fold 16 = .ok (.aload_n 0, 1) := by decide +kernel
theorem d_F_fold_17 : decode b_F_fold 17 = .ok (.lload_n 3, 1) := by decide +kernel
theorem d_F_fold_18 : decode b_F_fold 18 = .ok (.invokevirtual 114, 3) := by decide +kernel
theorem d_F_fold_21 : decode b_F_fold 21 = .ok (.lreturn, 1) := by decide +kernel
theorem d_F_again_0 : decode b_F_again 0 = .ok (.lload_n 3, 1) := by decide +kernel
theorem d_F_again_1 : decode b_F_again 1 = .ok (.ldc2_w 109, 3) := by decide +kernel
theorem d_F_again_4 : decode b_F_again 4 = .ok (.invokestatic 81, 3) := by decide +kernel
theorem d_F_again_7 : decode b_F_again 7 = .ok (.ifCond .eq 20, 3) := by decide +kernel
theorem d_F_again_10 : decode b_F_again 10 = .ok (.iload 5, 2) := by decide +kernel
theorem d_F_again_12 : decode b_F_again 12 = .ok (.ifCond .lt 15, 3) := by decide +kernel
theorem d_F_again_15 : decode b_F_again 15 = .ok (.iload 5, 2) := by decide +kernel
theorem d_F_again_17 : decode b_F_again 17 = .ok (.sipush 1000, 3) := by decide +kernel
theorem d_F_again_20 : decode b_F_again 20 = .ok (.if_icmp .gt 7, 3) := by decide +kernel
theorem d_F_again_23 : decode b_F_again 23 = .ok (.iconst 1, 1) := by decide +kernel
theorem d_F_again_24 : decode b_F_again 24 = .ok (.goto 4, 3) := by decide +kernel
theorem d_F_again_27 : decode b_F_again 27 = .ok (.iconst 0, 1) := by decide +kernel
theorem d_F_again_28 : decode b_F_again 28 = .ok (.invokestatic 85, 3) := by decide +kernel
theorem d_F_again_31 : decode b_F_again 31 = .ok (.aload_n 0, 1) := by decide +kernel
theorem d_F_again_32 : decode b_F_again 32 = .ok (.iload_n 1, 1) := by decide +kernel
theorem d_F_again_33 : decode b_F_again 33 = .ok (.iload_n 2, 1) := by decide +kernel
theorem d_F_again_34 : decode b_F_again 34 = .ok (.invokevirtual 111, 3) := by decide +kernel
theorem d_F_again_37 : decode b_F_again 37 = .ok (.lload_n 3, 1) := by decide +kernel
theorem d_F_again_38 : decode b_F_again 38 = .ok (.lstore 6, 2) := by decide +kernel
theorem d_F_again_40 : decode b_F_again 40 = .ok (.iload 5, 2) := by decide +kernel
theorem d_F_again_42 : decode b_F_again 42 = .ok (.istore 8, 2) := by decide +kernel
theorem d_F_again_44 : decode b_F_again 44 = .ok (.iload 8, 2) := by decide +kernel
theorem d_F_again_46 : decode b_F_again 46 = .ok (.ifCond .le 44, 3) := by decide +kernel
theorem d_F_again_49 : decode b_F_again 49 = .ok (.iload 8, 2) := by decide +kernel
theorem d_F_again_51 : decode b_F_again 51 = .ok (.iconst 1, 1) := by decide +kernel
theorem d_F_again_52 : decode b_F_again 52 = .ok (.iand, 1) := by decide +kernel
theorem d_F_again_53 : decode b_F_again 53 = .ok (.iconst 1, 1) := by decide +kernel
theorem d_F_again_54 : decode b_F_again 54 = .ok (.if_icmp .ne 11, 3) := by decide +kernel
theorem d_F_again_57 : decode b_F_again 57 = .ok (.aload_n 0, 1) := by decide +kernel
theorem d_F_again_58 : decode b_F_again 58 = .ok (.lload 6, 2) := by decide +kernel
theorem d_F_again_60 : decode b_F_again 60 = .ok (.invokevirtual 114, 3) := by decide +kernel
theorem d_F_again_63 : decode b_F_again 63 = .ok (.lstore 6, 2) := by decide +kernel
theorem d_F_again_65 : decode b_F_again 65 = .ok (.aload_n 0, 1) := by decide +kernel
theorem d_F_again_66 : decode b_F_again 66 = .ok (.aload_n 0, 1) := by decide +kernel
theorem d_F_again_67 : decode b_F_again 67 = .ok (.getfield 49, 3) := by decide +kernel
theorem d_F_again_70 : decode b_F_again 70 = .ok (.aload_n 0, 1) := by decide +kernel
theorem d_F_again_71 : decode b_F_again 71 = .ok (.getfield 53, 3) := by decide +kernel
theorem d_F_again_74 : decode b_F_again 74 = .ok (.aload_n 0, 1) := by decide +kernel
theorem d_F_again_75 : decode b_F_again 75 = .ok (.getfield 63, 3) := by decide +kernel
theorem d_F_again_78 : decode b_F_again 78 = .ok (.invokevirtual 66, 3) := by decide +kernel
theorem d_F_again_81 : decode b_F_again 81 = .ok (.iload 8, 2) := by decide +kernel
theorem d_F_again_83 : decode b_F_again 83 = .ok (.iconst 1, 1) := by decide +kernel
theorem d_F_again_84 : decode b_F_again 84 = .ok (.ishr, 1) := by decide +kernel
theorem d_F_again_85 : decode b_F_again 85 = .ok (.istore 8, 2) := by decide +kernel
theorem d_F_again_87 : decode b_F_again 87 = .ok (.goto (-43), 3) := by decide +kernel
theorem d_F_again_90 : decode b_F_again 90 = .ok (.lload 6, 2) := by decide +kernel
theorem d_F_again_92 : decode b_F_again 92 = .ok (.lreturn, 1) := by decide +kernel
theorem d_F_told_0 : decode b_F_told 0 = .ok (.lload_n 0, 1) := by decide +kernel
theorem d_F_told_1 : decode b_F_told 1 = .ok (.ldc2_w 38, 3) := by decide +kernel
theorem d_F_told_4 : decode b_F_told 4 = .ok (.lcmp, 1) := by decide +kernel
theorem d_F_told_5 : decode b_F_told 5 = .ok (.ifCond .eq 11, 3) := by decide +kernel
theorem d_F_told_8 : decode b_F_told 8 = .ok (.lload_n 0, 1) := by decide +kernel
theorem d_F_told_9 : decode b_F_told 9 = .ok (.ldc2_w 36, 3) := by decide +kernel
theorem d_F_told_12 : decode b_F_told 12 = .ok (.lcmp, 1) := by decide +kernel
theorem d_F_told_13 : decode b_F_told 13 = .ok (.ifCond .ne 11, 3) := by decide +kernel
theorem d_F_told_16 : decode b_F_told 16 = .ok (.new 118, 3) := by decide +kernel
theorem d_F_told_19 : decode b_F_told 19 = .ok (.dup, 1) := by decide +kernel
theorem d_F_told_20 : decode b_F_told 20 = .ok (.invokespecial 120, 3) := by decide +kernel
theorem d_F_told_23 : decode b_F_told 23 = .ok (.athrow, 1) := by decide +kernel
theorem d_F_told_24 : decode b_F_told 24 = .ok (.lload_n 0, 1) := by decide +kernel
theorem d_F_told_25 : decode b_F_told 25 = .ok (.lreturn, 1) := by decide +kernel
theorem d_F_least_0 : decode b_F_least 0 = .ok (.aload_n 0, 1) := by decide +kernel
theorem d_F_least_1 : decode b_F_least 1 = .ok (.iload_n 1, 1) := by decide +kernel
theorem d_F_least_2 : decode b_F_least 2 = .ok (.iload_n 2, 1) := by decide +kernel
theorem d_F_least_3 : decode b_F_least 3 = .ok (.invokevirtual 111, 3) := by decide +kernel
theorem d_F_least_6 : decode b_F_least 6 = .ok (.aload_n 0, 1) := by decide +kernel
theorem d_F_least_7 : decode b_F_least 7 = .ok (.getfield 53, 3) := by decide +kernel
theorem d_F_least_10 : decode b_F_least 10 = .ok (.invokestatic 121, 3) := by decide +kernel
theorem d_F_least_13 : decode b_F_least 13 = .ok (.lreturn, 1) := by decide +kernel
theorem d_F_greatest_0 : decode b_F_greatest 0 = .ok (.aload_n 0, 1) := by decide +kernel
theorem d_F_greatest_1 : decode b_F_greatest 1 = .ok (.iload_n 1, 1) := by decide +kernel
theorem d_F_greatest_2 : decode b_F_greatest 2 = .ok (.iload_n 2, 1) := by decide +kernel
theorem d_F_greatest_3 : decode b_F_greatest 3 = .ok (.invokevirtual 111, 3) := by decide +kernel
theorem d_F_greatest_6 : decode b_F_greatest 6 = .ok (.aload_n 0, 1) := by decide +kernel
theorem d_F_greatest_7 : decode b_F_greatest 7 = .ok (.getfield 63, 3) := by decide +kernel
theorem d_F_greatest_10 : decode b_F_greatest 10 = .ok (.invokestatic 121, 3) := by decide +kernel
theorem d_F_greatest_13 : decode b_F_greatest 13 = .ok (.lreturn, 1) := by decide +kernel
theorem d_F_fixed_0 : decode b_F_fixed 0 = .ok (.aload_n 0, 1) := by decide +kernel
theorem d_F_fixed_1 : decode b_F_fixed 1 = .ok (.iload_n 1, 1) := by decide +kernel
theorem d_F_fixed_2 : decode b_F_fixed 2 = .ok (.iload_n 2, 1) := by decide +kernel
theorem d_F_fixed_3 : decode b_F_fixed 3 = .ok (.invokevirtual 111, 3) := by decide +kernel
theorem d_F_fixed_6 : decode b_F_fixed 6 = .ok (.aload_n 0, 1) := by decide +kernel
theorem d_F_fixed_7 : decode b_F_fixed 7 = .ok (.getfield 49, 3) := by decide +kernel
theorem d_F_fixed_10 : decode b_F_fixed 10 = .ok (.lconst 0, 1) := by decide +kernel
theorem d_F_fixed_11 : decode b_F_fixed 11 = .ok (.lcmp, 1) := by decide +kernel
theorem d_F_fixed_12 : decode b_F_fixed 12 = .ok (.ifCond .le 10, 3) := by decide +kernel
theorem d_F_fixed_15 : decode b_F_fixed 15 = .ok (.aload_n 0, 1) := by decide +kernel
theorem d_F_fixed_16 : decode b_F_fixed 16 = .ok (.getfield 63, 3) := by decide +kernel
theorem d_F_fixed_19 : decode b_F_fixed 19 = .ok (.goto 34, 3) := by decide +kernel
theorem d_F_fixed_22 : decode b_F_fixed 22 = .ok (.aload_n 0, 1) := by decide +kernel
theorem d_F_fixed_23 : decode b_F_fixed 23 = .ok (.getfield 49, 3) := by decide +kernel
theorem d_F_fixed_26 : decode b_F_fixed 26 = .ok (.lconst 0, 1) := by decide +kernel
theorem d_F_fixed_27 : decode b_F_fixed 27 = .ok (.lcmp, 1) := by decide +kernel
theorem d_F_fixed_28 : decode b_F_fixed 28 = .ok (.ifCond .ge 10, 3) := by decide +kernel
theorem d_F_fixed_31 : decode b_F_fixed 31 = .ok (.aload_n 0, 1) := by decide +kernel
theorem d_F_fixed_32 : decode b_F_fixed 32 = .ok (.getfield 53, 3) := by decide +kernel
theorem d_F_fixed_35 : decode b_F_fixed 35 = .ok (.goto 18, 3) := by decide +kernel
theorem d_F_fixed_38 : decode b_F_fixed 38 = .ok (.iload_n 3, 1) := by decide +kernel
theorem d_F_fixed_39 : decode b_F_fixed 39 = .ok (.ifCond .eq 10, 3) := by decide +kernel
theorem d_F_fixed_42 : decode b_F_fixed 42 = .ok (.aload_n 0, 1) := by decide +kernel
theorem d_F_fixed_43 : decode b_F_fixed 43 = .ok (.getfield 63, 3) := by decide +kernel
theorem d_F_fixed_46 : decode b_F_fixed 46 = .ok (.goto 7, 3) := by decide +kernel
theorem d_F_fixed_49 : decode b_F_fixed 49 = .ok (.aload_n 0, 1) := by decide +kernel
theorem d_F_fixed_50 : decode b_F_fixed 50 = .ok (.getfield 53, 3) := by decide +kernel
theorem d_F_fixed_53 : decode b_F_fixed 53 = .ok (.invokestatic 121, 3) := by decide +kernel
theorem d_F_fixed_56 : decode b_F_fixed 56 = .ok (.lreturn, 1) := by decide +kernel
theorem d_F_about_0 : decode b_F_about 0 = .ok (.iload_n 3, 1) := by decide +kernel
theorem d_F_about_1 : decode b_F_about 1 = .ok (.ifCond .lt 12, 3) := by decide +kernel
theorem d_F_about_4 : decode b_F_about 4 = .ok (.iload_n 3, 1) := by decide +kernel
theorem d_F_about_5 : decode b_F_about 5 = .ok (.iconst 3, 1) := by decide +kernel
theorem d_F_about_6 : decode b_F_about 6 = .ok (.if_icmp .ge 7, 3) := by decide +kernel
theorem d_F_about_9 : decode b_F_about 9 = .ok (.iconst 1, 1) := by decide +kernel
theorem d_F_about_10 : decode b_F_about 10 = .ok (.goto 4, 3) := by decide +kernel
theorem d_F_about_13 : decode b_F_about 13 = .ok (.iconst 0, 1) := by decide +kernel
theorem d_F_about_14 : decode b_F_about 14 = .ok (.invokestatic 85, 3) := by decide +kernel
theorem d_F_about_17 : decode b_F_about 17 = .ok (.aload_n 0, 1) := by decide +kernel
theorem d_F_about_18 : decode b_F_about 18 = .ok (.iload_n 1, 1) := by decide +kernel
theorem d_F_about_19 : decode b_F_about 19 = .ok (.iload_n 2, 1) := by decide +kernel
theorem d_F_about_20 : decode b_F_about 20 = .ok (.invokevirtual 111, 3) := by decide +kernel
theorem d_F_about_23 : decode b_F_about 23 = .ok (.iload_n 3, 1) := by decide +kernel
theorem d_F_about_24 : decode b_F_about 24 = .ok (.ifCond .ne 21, 3) := by decide +kernel
theorem d_F_about_27 : decode b_F_about 27 = .ok (.aload_n 0, 1) := by decide +kernel
theorem d_F_about_28 : decode b_F_about 28 = .ok (.getfield 53, 3) := by decide +kernel
theorem d_F_about_31 : decode b_F_about 31 = .ok (.aload_n 0, 1) := by decide +kernel
theorem d_F_about_32 : decode b_F_about 32 = .ok (.getfield 63, 3) := by decide +kernel
theorem d_F_about_35 : decode b_F_about 35 = .ok (.lcmp, 1) := by decide +kernel
theorem d_F_about_36 : decode b_F_about 36 = .ok (.ifCond .ne 7, 3) := by decide +kernel
theorem d_F_about_39 : decode b_F_about 39 = .ok (.iconst 1, 1) := by decide +kernel
theorem d_F_about_40 : decode b_F_about 40 = .ok (.goto 4, 3) := by decide +kernel
theorem d_F_about_43 : decode b_F_about 43 = .ok (.iconst 0, 1) := by decide +kernel
theorem d_F_about_44 : decode b_F_about 44 = .ok (.ireturn, 1) := by decide +kernel
theorem d_F_about_45 : decode b_F_about 45 = .ok (.iload_n 3, 1) := by decide +kernel
theorem d_F_about_46 : decode b_F_about 46 = .ok (.iconst 2, 1) := by decide +kernel
theorem d_F_about_47 : decode b_F_about 47 = .ok (.if_icmp .ne 40, 3) := by decide +kernel
theorem d_F_about_50 : decode b_F_about 50 = .ok (.aload_n 0, 1) := by decide +kernel
theorem d_F_about_51 : decode b_F_about 51 = .ok (.getfield 49, 3) := by decide +kernel
theorem d_F_about_54 : decode b_F_about 54 = .ok (.lconst 0, 1) := by decide +kernel
theorem d_F_about_55 : decode b_F_about 55 = .ok (.lcmp, 1) := by decide +kernel
theorem d_F_about_56 : decode b_F_about 56 = .ok (.ifCond .ne 29, 3) := by decide +kernel
theorem d_F_about_59 : decode b_F_about 59 = .ok (.aload_n 0, 1) := by decide +kernel
theorem d_F_about_60 : decode b_F_about 60 = .ok (.getfield 53, 3) := by decide +kernel
theorem d_F_about_63 : decode b_F_about 63 = .ok (.ldc2_w 36, 3) := by decide +kernel
theorem d_F_about_66 : decode b_F_about 66 = .ok (.lcmp, 1) := by decide +kernel
theorem d_F_about_67 : decode b_F_about 67 = .ok (.ifCond .ne 18, 3) := by decide +kernel
theorem d_F_about_70 : decode b_F_about 70 = .ok (.aload_n 0, 1) := by decide +kernel
theorem d_F_about_71 : decode b_F_about 71 = .ok (.getfield 63, 3) := by decide +kernel
theorem d_F_about_74 : decode b_F_about 74 = .ok (.ldc2_w 38, 3) := by decide +kernel
theorem d_F_about_77 : decode b_F_about 77 = .ok (.lcmp, 1) := by decide +kernel
theorem d_F_about_78 : decode b_F_about 78 = .ok (.ifCond .ne 7, 3) := by decide +kernel
theorem d_F_about_81 : decode b_F_about 81 = .ok (.iconst 1, 1) := by decide +kernel
theorem d_F_about_82 : decode b_F_about 82 = .ok (.goto 4, 3) := by decide +kernel
theorem d_F_about_85 : decode b_F_about 85 = .ok (.iconst 0, 1) := by decide +kernel
theorem d_F_about_86 : decode b_F_about 86 = .ok (.ireturn, 1) := by decide +kernel
theorem d_F_about_87 : decode b_F_about 87 = .ok (.iconst 0, 1) := by decide +kernel
theorem d_F_about_88 : decode b_F_about 88 = .ok (.istore 4, 2) := by decide +kernel
theorem d_F_about_90 : decode b_F_about 90 = .ok (.iload_n 1, 1) := by decide +kernel
theorem d_F_about_91 : decode b_F_about 91 = .ok (.istore 5, 2) := by decide +kernel
theorem d_F_about_93 : decode b_F_about 93 = .ok (.iload 5, 2) := by decide +kernel
theorem d_F_about_95 : decode b_F_about 95 = .ok (.iload_n 2, 1) := by decide +kernel
theorem d_F_about_96 : decode b_F_about 96 = .ok (.if_icmp .ge 22, 3) := by decide +kernel
theorem d_F_about_99 : decode b_F_about 99 = .ok (.aload_n 0, 1) := by decide +kernel
theorem d_F_about_100 : decode b_F_about 100 = .ok (.getfield 19, 3) := by decide +kernel
theorem d_F_about_103 : decode b_F_about 103 = .ok (.iload 5, 2) := by decide +kernel
theorem d_F_about_105 : decode b_F_about 105 = .ok (.iaload, 1) := by decide +kernel
theorem d_F_about_106 : decode b_F_about 106 = .ok (.ifCond .eq 6, 3) := by decide +kernel
theorem d_F_about_109 : decode b_F_about 109 = .ok (.iinc 4 1, 3) := by decide +kernel
theorem d_F_about_112 : decode b_F_about 112 = .ok (.iinc 5 1, 3) := by decide +kernel
theorem d_F_about_115 : decode b_F_about 115 = .ok (.goto (-22), 3) := by decide +kernel
theorem d_F_about_118 : decode b_F_about 118 = .ok (.iload 4, 2) := by decide +kernel
theorem d_F_about_120 : decode b_F_about 120 = .ok (.ireturn, 1) := by decide +kernel
theorem d_M_init_0 : decode b_M_init 0 = .ok (.aload_n 0, 1) := by decide +kernel
theorem d_M_init_1 : decode b_M_init 1 = .ok (.invokespecial 1, 3) := by decide +kernel
theorem d_M_init_4 : decode b_M_init 4 = .ok (.aload_n 0, 1) := by decide +kernel
theorem d_M_init_5 : decode b_M_init 5 = .ok (.sipush 256, 3) := by decide +kernel
theorem d_M_init_8 : decode b_M_init 8 = .ok (.newarray .int, 2) := by decide +kernel
theorem d_M_init_10 : decode b_M_init 10 = .ok (.putfield 9, 3) := by decide +kernel
theorem d_M_init_13 : decode b_M_init 13 = .ok (.aload_n 0, 1) := by decide +kernel
theorem d_M_init_14 : decode b_M_init 14 = .ok (.sipush 256, 3) := by decide +kernel
theorem d_M_init_17 : decode b_M_init 17 = .ok (.newarray .long, 2) := by decide +kernel
theorem d_M_init_19 : decode b_M_init 19 = .ok (.putfield 13, 3) := by decide +kernel
theorem d_M_init_22 : decode b_M_init 22 = .ok (.return_, 1) := by decide +kernel
theorem d_M_thrown_0 : decode b_M_thrown 0 = .ok (.aload_n 0, 1) := by decide +kernel
theorem d_M_thrown_1 : decode b_M_thrown 1 = .ok (.getfield 17, 3) := by decide +kernel
theorem d_M_thrown_4 : decode b_M_thrown 4 = .ok (.ireturn, 1) := by decide +kernel
theorem d_M_in_0 : decode b_M_in 0 = .ok (.lload_n 0, 1) := by decide +kernel
theorem d_M_in_1 : decode b_M_in 1 = .ok (.lload_n 2, 1) := by decide +kernel
theorem d_M_in_2 : decode b_M_in 2 = .ok (.lcmp, 1) := by decide +kernel
theorem d_M_in_3 : decode b_M_in 3 = .ok (.ifCond .lt 14, 3) := by decide +kernel
theorem d_M_in_6 : decode b_M_in 6 = .ok (.lload_n 0, 1) := by decide +kernel
theorem d_M_in_7 : decode b_M_in 7 = .ok (.lload 4, 2) := by decide +kernel
theorem d_M_in_9 : decode b_M_in 9 = .ok (.lcmp, 1) := by decide +kernel
theorem d_M_in_10 : decode b_M_in 10 = .ok (.ifCond .gt 7, 3) := by decide +kernel
theorem d_M_in_13 : decode b_M_in 13 = .ok (.iconst 1, 1) := by decide +kernel
theorem d_M_in_14 : decode b_M_in 14 = .ok (.goto 4, 3) := by decide +kernel
theorem d_M_in_17 : decode b_M_in 17 = .ok (.iconst 0, 1) := by decide +kernel
theorem d_M_in_18 : decode b_M_in 18 = .ok (.ireturn, 1) := by decide +kernel
theorem d_M_fails_0 : decode b_M_fails 0 = .ok (.iload_n 1, 1) := by decide +kernel
theorem d_M_fails_1 : decode b_M_fails 1 = .ok (.ifCond .eq 15, 3) := by decide +kernel
theorem d_M_fails_4 : decode b_M_fails 4 = .ok (.aload_n 0, 1) := by decide +kernel
theorem d_M_fails_5 : decode b_M_fails 5 = .ok (.getfield 17, 3) := by decide +kernel
theorem d_M_fails_8 : decode b_M_fails 8 = .ok (.ifCond .ne 8, 3) := by decide +kernel
theorem d_M_fails_11 : decode b_M_fails 11 = .ok (.aload_n 0, 1) := by decide +kernel
theorem d_M_fails_12 : decode b_M_fails 12 = .ok (.iload_n 2, 1) := by decide +kernel
theorem d_M_fails_13 : decode b_M_fails 13 = .ok (.putfield 17, 3) := by decide +kernel
theorem d_M_fails_16 : decode b_M_fails 16 = .ok (.aload_n 0, 1) := by decide +kernel
theorem d_M_fails_17 : decode b_M_fails 17 = .ok (.getfield 17, 3) := by decide +kernel
theorem d_M_fails_20 : decode b_M_fails 20 = .ok (.ifCond .eq 7, 3) := by decide +kernel
theorem d_M_fails_23 : decode b_M_fails 23 = .ok (.iconst 1, 1) := by decide +kernel
theorem d_M_fails_24 : decode b_M_fails 24 = .ok (.goto 4, 3) := by decide +kernel
theorem d_M_fails_27 : decode b_M_fails 27 = .ok (.iconst 0, 1) := by decide +kernel
theorem d_M_fails_28 : decode b_M_fails 28 = .ok (.ireturn, 1) := by decide +kernel
theorem d_M_isRule_0 : decode b_M_isRule 0 = .ok (.iload_n 0, 1) := by decide +kernel
theorem d_M_isRule_1 : decode b_M_isRule 1 = .ok (.i2l, 1) := by decide +kernel
theorem d_M_isRule_2 : decode b_M_isRule 2 = .ok (.lconst 0, 1) := by decide +kernel
theorem d_M_isRule_3 : decode b_M_isRule 3 = .ok (.ldc2_w 21, 3) := by decide +kernel
theorem d_M_isRule_6 : decode b_M_isRule 6 = .ok (.invokestatic 23, 3) := by decide +kernel
theorem d_M_isRule_9 : decode b_M_isRule 9 = .ok (.ifCond .eq 20, 3) := by decide +kernel
theorem d_M_isRule_12 : decode b_M_isRule 12 = .ok (.lload_n 1, 1) := by decide +kernel
theorem d_M_isRule_13 : decode b_M_isRule 13 = .ok (.ldc2_w 27, 3) := by decide +kernel
theorem d_M_isRule_16 : decode b_M_isRule 16 = .ok (.ldc2_w 29, 3) := by decide +kernel
theorem d_M_isRule_19 : decode b_M_isRule 19 = .ok (.invokestatic 23, 3) := by decide +kernel
theorem d_M_isRule_22 : decode b_M_isRule 22 = .ok (.ifCond .eq 7, 3) := by decide +kernel
theorem d_M_isRule_25 : decode b_M_isRule 25 = .ok (.iconst 1, 1) := by decide +kernel
theorem d_M_isRule_26 : decode b_M_isRule 26 = .ok (.goto 4, 3) := by decide +kernel
theorem d_M_isRule_29 : decode b_M_isRule 29 = .ok (.iconst 0, 1) := by decide +kernel
theorem d_M_isRule_30 : decode b_M_isRule 30 = .ok (.ireturn, 1) := by decide +kernel
theorem d_M_isPart_0 : decode b_M_isPart 0 = .ok (.iconst 0, 1) := by decide +kernel
theorem d_M_isPart_1 : decode b_M_isPart 1 = .ok (.iload_n 0, 1) := by decide +kernel
theorem d_M_isPart_2 : decode b_M_isPart 2 = .ok (.if_icmp .gt 19, 3) := by decide +kernel
theorem d_M_isPart_5 : decode b_M_isPart 5 = .ok (.iload_n 0, 1) := by decide +kernel
theorem d_M_isPart_6 : decode b_M_isPart 6 = .ok (.iload_n 1, 1) := by decide +kernel
theorem d_M_isPart_7 : decode b_M_isPart 7 = .ok (.if_icmp .gt 14, 3) := by decide +kernel
theorem d_M_isPart_10 : decode b_M_isPart 10 = .ok (.iload_n 1, 1) := by decide +kernel
theorem d_M_isPart_11 : decode b_M_isPart 11 = .ok (.sipush 256, 3) := by decide +kernel
theorem d_M_isPart_14 : decode b_M_isPart 14 = .ok (.if_icmp .gt 7, 3) := by decide +kernel
theorem d_M_isPart_17 : decode b_M_isPart 17 = .ok (.iconst 1, 1) := by decide +kernel
theorem d_M_isPart_18 : decode b_M_isPart 18 = .ok (.goto 4, 3) := by decide +kernel
theorem d_M_isPart_21 : decode b_M_isPart 21 = .ok (.iconst 0, 1) := by decide +kernel
theorem d_M_isPart_22 : decode b_M_isPart 22 = .ok (.ireturn, 1) := by decide +kernel
theorem d_M_isNumber_0 : decode b_M_isNumber 0 = .ok (.lload_n 0, 1) := by decide +kernel
theorem d_M_isNumber_1 : decode b_M_isNumber 1 = .ok (.ldc2_w 31, 3) := by decide +kernel
theorem d_M_isNumber_4 : decode b_M_isNumber 4 = .ok (.ldc2_w 33, 3) := by decide +kernel
theorem d_M_isNumber_7 : decode b_M_isNumber 7 = .ok (.invokestatic 23, 3) := by decide +kernel
theorem d_M_isNumber_10 : decode b_M_isNumber 10 = .ok (.ireturn, 1) := by decide +kernel
theorem d_M_set_0 : decode b_M_set 0 = .ok (.aload_n 0, 1) := by decide +kernel
theorem d_M_set_1 : decode b_M_set 1 = .ok (.iconst 0, 1) := by decide +kernel
theorem d_M_set_2 : decode b_M_set 2 = .ok (.putfield 17, 3) := by decide +kernel
theorem d_M_set_5 : decode b_M_set 5 = .ok (.aload_n 0, 1) := by decide +kernel
theorem d_M_set_6 : decode b_M_set 6 = .ok (.iload_n 2, 1) := by decide +kernel
theorem d_M_set_7 : decode b_M_set 7 = .ok (.lload_n 3, 1) := by decide +kernel
theorem d_M_set_8 : decode b_M_set 8 = .ok (.invokestatic 35, 3) := by decide +kernel
theorem d_M_set_11 : decode b_M_set 11 = .ok (.ifCond .ne 7, 3) := by decide +kernel
theorem d_M_set_14 : decode b_M_set 14 = .ok (.iconst 1, 1) := by decide +kernel
theorem d_M_set_15 : decode b_M_set 15 = .ok (.goto 4, 3) := by decide +kernel
theorem d_M_set_18 : decode b_M_set 18 = .ok (.iconst 0, 1) := by decide +kernel
theorem d_M_set_19 : decode b_M_set 19 = .ok (.iconst 1, 1) := by decide +kernel
theorem d_M_set_20 : decode b_M_set 20 = .ok (.invokevirtual 39, 3) := by decide +kernel
theorem d_M_set_23 : decode b_M_set 23 = .ok (.ifCond .ne 28, 3) := by decide +kernel
theorem d_M_set_26 : decode b_M_set 26 = .ok (.aload_n 0, 1) := by decide +kernel
theorem d_M_set_27 : decode b_M_set 27 = .ok (.iload_n 1, 1) := by decide +kernel
theorem d_M_set_28 : decode b_M_set 28 = .ok (.i2l, 1) := by decide +kernel
theorem d_M_set_29 : decode b_M_set 29 = .ok (.lconst 0, 1) := by decide +kernel
theorem d_M_set_30 : decode b_M_set 30 = .ok (.ldc2_w 43, 3) := by decide +kernel
theorem d_M_set_33 : decode b_M_set 33 = .ok (.invokestatic 23, 3) := by decide +kernel
theorem d_M_set_36 : decode b_M_set 36 = .ok (.ifCond .ne 7, 3) := by decide +kernel
theorem d_M_set_39 : decode b_M_set 39 = .ok (.iconst 1, 1) := by decide +kernel
theorem d_M_set_40 : decode b_M_set 40 = .ok (.goto 4, 3) := by decide +kernel
theorem d_M_set_43 : decode b_M_set 43 = .ok (.iconst 0, 1) := by decide +kernel
theorem d_M_set_44 : decode b_M_set 44 = .ok (.iconst 2, 1) := by decide +kernel
theorem d_M_set_45 : decode b_M_set 45 = .ok (.invokevirtual 39, 3) := by decide +kernel
theorem d_M_set_48 : decode b_M_set 48 = .ok (.ifCond .eq 4, 3) := by decide +kernel
theorem d_M_set_51 : decode b_M_set 51 = .ok (.return_, 1) := by decide +kernel
theorem d_M_set_52 : decode b_M_set 52 = .ok (.aload_n 0, 1) := by decide +kernel
theorem d_M_set_53 : decode b_M_set 53 = .ok (.getfield 9, 3) := by decide +kernel
theorem d_M_set_56 : decode b_M_set 56 = .ok (.iload_n 1, 1) := by decide +kernel
theorem d_M_set_57 : decode b_M_set 57 = .ok (.iload_n 2, 1) := by decide +kernel
theorem d_M_set_58 : decode b_M_set 58 = .ok (.iastore, 1) := by decide +kernel
theorem d_M_set_59 : decode b_M_set 59 = .ok (.aload_n 0, 1) := by decide +kernel
theorem d_M_set_60 : decode b_M_set 60 = .ok (.getfield 13, 3) := by decide +kernel
theorem d_M_set_63 : decode b_M_set 63 = .ok (.iload_n 1, 1) := by decide +kernel
theorem d_M_set_64 : decode b_M_set 64 = .ok (.lload_n 3, 1) := by decide +kernel
theorem d_M_set_65 : decode b_M_set 65 = .ok (.lastore, 1) := by decide +kernel
theorem d_M_set_66 : decode b_M_set 66 = .ok (.return_, 1) := by decide +kernel
theorem d_M_fill_0 : decode b_M_fill 0 = .ok (.aload_n 0, 1) := by decide +kernel
theorem d_M_fill_1 : decode b_M_fill 1 = .ok (.iconst 0, 1) := by decide +kernel
theorem d_M_fill_2 : decode b_M_fill 2 = .ok (.putfield 17, 3) := by decide +kernel
theorem d_M_fill_5 : decode b_M_fill 5 = .ok (.aload_n 0, 1) := by decide +kernel
theorem d_M_fill_6 : decode b_M_fill 6 = .ok (.iload_n 3, 1) := by decide +kernel
theorem d_M_fill_7 : decode b_M_fill 7 = .ok (.lload 4, 2) := by decide +kernel
theorem d_M_fill_9 : decode b_M_fill 9 = .ok (.invokestatic 35, 3) := by decide +kernel
theorem d_M_fill_12 : decode b_M_fill 12 = .ok (.ifCond .ne 7, 3) := by decide +kernel
theorem d_M_fill_15 : decode b_M_fill 15 = .ok (.iconst 1, 1) := by decide +kernel
theorem d_M_fill_16 : decode b_M_fill 16 = .ok (.goto 4, 3) := by decide +kernel
theorem d_M_fill_19 : decode b_M_fill 19 = .ok (.iconst 0, 1) := by decide +kernel
theorem d_M_fill_20 : decode b_M_fill 20 = .ok (.iconst 1, 1) := by decide +kernel
theorem d_M_fill_21 : decode b_M_fill 21 = .ok (.invokevirtual 39, 3) := by decide +kernel
theorem d_M_fill_24 : decode b_M_fill 24 = .ok (.ifCond .ne 24, 3) := by decide +kernel
theorem d_M_fill_27 : decode b_M_fill 27 = .ok (.aload_n 0, 1) := by decide +kernel
theorem d_M_fill_28 : decode b_M_fill 28 = .ok (.iload_n 1, 1) := by decide +kernel
theorem d_M_fill_29 : decode b_M_fill 29 = .ok (.iload_n 2, 1) := by decide +kernel
theorem d_M_fill_30 : decode b_M_fill 30 = .ok (.invokestatic 45, 3) := by decide +kernel
theorem d_M_fill_33 : decode b_M_fill 33 = .ok (.ifCond .ne 7, 3) := by decide +kernel
theorem d_M_fill_36 : decode b_M_fill 36 = .ok (.iconst 1, 1) := by decide +kernel
theorem d_M_fill_37 : decode b_M_fill 37 = .ok (.goto 4, 3) := by decide +kernel
theorem d_M_fill_40 : decode b_M_fill 40 = .ok (.iconst 0, 1) := by decide +kernel
theorem d_M_fill_41 : decode b_M_fill 41 = .ok (.iconst 2, 1) := by decide +kernel
theorem d_M_fill_42 : decode b_M_fill 42 = .ok (.invokevirtual 39, 3) := by decide +kernel
theorem d_M_fill_45 : decode b_M_fill 45 = .ok (.ifCond .eq 4, 3) := by decide +kernel
theorem d_M_fill_48 : decode b_M_fill 48 = .ok (.return_, 1) := by decide +kernel
theorem d_M_fill_49 : decode b_M_fill 49 = .ok (.iload_n 1, 1) := by decide +kernel
theorem d_M_fill_50 : decode b_M_fill 50 = .ok (.istore 6, 2) := by decide +kernel
theorem d_M_fill_52 : decode b_M_fill 52 = .ok (.iload 6, 2) := by decide +kernel
theorem d_M_fill_54 : decode b_M_fill 54 = .ok (.iload_n 2, 1) := by decide +kernel
theorem d_M_fill_55 : decode b_M_fill 55 = .ok (.if_icmp .ge 26, 3) := by decide +kernel
theorem d_M_fill_58 : decode b_M_fill 58 = .ok (.aload_n 0, 1) := by decide +kernel
theorem d_M_fill_59 : decode b_M_fill 59 = .ok (.getfield 9, 3) := by decide +kernel
theorem d_M_fill_62 : decode b_M_fill 62 = .ok (.iload 6, 2) := by decide +kernel
theorem d_M_fill_64 : decode b_M_fill 64 = .ok (.iload_n 3, 1) := by decide +kernel
theorem d_M_fill_65 : decode b_M_fill 65 = .ok (.iastore, 1) := by decide +kernel
theorem d_M_fill_66 : decode b_M_fill 66 = .ok (.aload_n 0, 1) := by decide +kernel
theorem d_M_fill_67 : decode b_M_fill 67 = .ok (.getfield 13, 3) := by decide +kernel
theorem d_M_fill_70 : decode b_M_fill 70 = .ok (.iload 6, 2) := by decide +kernel
theorem d_M_fill_72 : decode b_M_fill 72 = .ok (.lload 4, 2) := by decide +kernel
theorem d_M_fill_74 : decode b_M_fill 74 = .ok (.lastore, 1) := by decide +kernel
theorem d_M_fill_75 : decode b_M_fill 75 = .ok (.iinc 6 1, 3) := by decide +kernel
theorem d_M_fill_78 : decode b_M_fill 78 = .ok (.goto (-26), 3) := by decide +kernel
theorem d_M_fill_81 : decode b_M_fill 81 = .ok (.return_, 1) := by decide +kernel
theorem d_M_swap_0 : decode b_M_swap 0 = .ok (.aload_n 0, 1) := by decide +kernel
theorem d_M_swap_1 : decode b_M_swap 1 = .ok (.iconst 0, 1) := by decide +kernel
theorem d_M_swap_2 : decode b_M_swap 2 = .ok (.putfield 17, 3) := by decide +kernel
theorem d_M_swap_5 : decode b_M_swap 5 = .ok (.aload_n 0, 1) := by decide +kernel
theorem d_M_swap_6 : decode b_M_swap 6 = .ok (.iload_n 1, 1) := by decide +kernel
theorem d_M_swap_7 : decode b_M_swap 7 = .ok (.i2l, 1) := by decide +kernel
theorem d_M_swap_8 : decode b_M_swap 8 = .ok (.lconst 0, 1) := by decide +kernel
theorem d_M_swap_9 : decode b_M_swap 9 = .ok (.ldc2_w 43, 3) := by decide +kernel
theorem d_M_swap_12 : decode b_M_swap 12 = .ok (.invokestatic 23, 3) := by decide +kernel
theorem d_M_swap_15 : decode b_M_swap 15 = .ok (.ifCond .eq 15, 3) := by decide +kernel
theorem d_M_swap_18 : decode b_M_swap 18 = .ok (.iload_n 2, 1) := by decide +kernel
theorem d_M_swap_19 : decode b_M_swap 19 = .ok (.i2l, 1) := by decide +kernel
theorem d_M_swap_20 : decode b_M_swap 20 = .ok (.lconst 0, 1) := by decide +kernel
theorem d_M_swap_21 : decode b_M_swap 21 = .ok (.ldc2_w 43, 3) := by decide +kernel
theorem d_M_swap_24 : decode b_M_swap 24 = .ok (.invokestatic 23, 3) := by decide +kernel
theorem d_M_swap_27 : decode b_M_swap 27 = .ok (.ifCond .ne 7, 3) := by decide +kernel
theorem d_M_swap_30 : decode b_M_swap 30 = .ok (.iconst 1, 1) := by decide +kernel
theorem d_M_swap_31 : decode b_M_swap 31 = .ok (.goto 4, 3) := by decide +kernel
theorem d_M_swap_34 : decode b_M_swap 34 = .ok (.iconst 0, 1) := by decide +kernel
theorem d_M_swap_35 : decode b_M_swap 35 = .ok (.iconst 1, 1) := by decide +kernel
theorem d_M_swap_36 : decode b_M_swap 36 = .ok (.invokevirtual 39, 3) := by decide +kernel
theorem d_M_swap_39 : decode b_M_swap 39 = .ok (.ifCond .eq 4, 3) := by decide +kernel
theorem d_M_swap_42 : decode b_M_swap 42 = .ok (.return_, 1) := by decide +kernel
theorem d_M_swap_43 : decode b_M_swap 43 = .ok (.aload_n 0, 1) := by decide +kernel
theorem d_M_swap_44 : decode b_M_swap 44 = .ok (.getfield 9, 3) := by decide +kernel
theorem d_M_swap_47 : decode b_M_swap 47 = .ok (.iload_n 1, 1) := by decide +kernel
theorem d_M_swap_48 : decode b_M_swap 48 = .ok (.iaload, 1) := by decide +kernel
theorem d_M_swap_49 : decode b_M_swap 49 = .ok (.istore_n 3, 1) := by decide +kernel
theorem d_M_swap_50 : decode b_M_swap 50 = .ok (.aload_n 0, 1) := by decide +kernel
theorem d_M_swap_51 : decode b_M_swap 51 = .ok (.getfield 13, 3) := by decide +kernel
theorem d_M_swap_54 : decode b_M_swap 54 = .ok (.iload_n 1, 1) := by decide +kernel
theorem d_M_swap_55 : decode b_M_swap 55 = .ok (.laload, 1) := by decide +kernel
theorem d_M_swap_56 : decode b_M_swap 56 = .ok (.lstore 4, 2) := by decide +kernel
theorem d_M_swap_58 : decode b_M_swap 58 = .ok (.aload_n 0, 1) := by decide +kernel
theorem d_M_swap_59 : decode b_M_swap 59 = .ok (.getfield 9, 3) := by decide +kernel
theorem d_M_swap_62 : decode b_M_swap 62 = .ok (.iload_n 1, 1) := by decide +kernel
theorem d_M_swap_63 : decode b_M_swap 63 = .ok (.aload_n 0, 1) := by decide +kernel
theorem d_M_swap_64 : decode b_M_swap 64 = .ok (.getfield 9, 3) := by decide +kernel
theorem d_M_swap_67 : decode b_M_swap 67 = .ok (.iload_n 2, 1) := by decide +kernel
theorem d_M_swap_68 : decode b_M_swap 68 = .ok (.iaload, 1) := by decide +kernel
theorem d_M_swap_69 : decode b_M_swap 69 = .ok (.iastore, 1) := by decide +kernel
theorem d_M_swap_70 : decode b_M_swap 70 = .ok (.aload_n 0, 1) := by decide +kernel
theorem d_M_swap_71 : decode b_M_swap 71 = .ok (.getfield 13, 3) := by decide +kernel
theorem d_M_swap_74 : decode b_M_swap 74 = .ok (.iload_n 1, 1) := by decide +kernel
theorem d_M_swap_75 : decode b_M_swap 75 = .ok (.aload_n 0, 1) := by decide +kernel
theorem d_M_swap_76 : decode b_M_swap 76 = .ok (.getfield 13, 3) := by decide +kernel
theorem d_M_swap_79 : decode b_M_swap 79 = .ok (.iload_n 2, 1) := by decide +kernel
theorem d_M_swap_80 : decode b_M_swap 80 = .ok (.laload, 1) := by decide +kernel
theorem d_M_swap_81 : decode b_M_swap 81 = .ok (.lastore, 1) := by decide +kernel
theorem d_M_swap_82 : decode b_M_swap 82 = .ok (.aload_n 0, 1) := by decide +kernel
theorem d_M_swap_83 : decode b_M_swap 83 = .ok (.getfield 9, 3) := by decide +kernel
theorem d_M_swap_86 : decode b_M_swap 86 = .ok (.iload_n 2, 1) := by decide +kernel
theorem d_M_swap_87 : decode b_M_swap 87 = .ok (.iload_n 3, 1) := by decide +kernel
theorem d_M_swap_88 : decode b_M_swap 88 = .ok (.iastore, 1) := by decide +kernel
theorem d_M_swap_89 : decode b_M_swap 89 = .ok (.aload_n 0, 1) := by decide +kernel
theorem d_M_swap_90 : decode b_M_swap 90 = .ok (.getfield 13, 3) := by decide +kernel
theorem d_M_swap_93 : decode b_M_swap 93 = .ok (.iload_n 2, 1) := by decide +kernel
theorem d_M_swap_94 : decode b_M_swap 94 = .ok (.lload 4, 2) := by decide +kernel
theorem d_M_swap_96 : decode b_M_swap 96 = .ok (.lastore, 1) := by decide +kernel
theorem d_M_swap_97 : decode b_M_swap 97 = .ok (.return_, 1) := by decide +kernel
theorem d_M_made_0 : decode b_M_made 0 = .ok (.lload_n 3, 1) := by decide +kernel
theorem d_M_made_1 : decode b_M_made 1 = .ok (.lstore 5, 2) := by decide +kernel
theorem d_M_made_3 : decode b_M_made 3 = .ok (.iload_n 1, 1) := by decide +kernel
theorem d_M_made_4 : decode b_M_made 4 = .ok (.istore 7, 2) := by decide +kernel
theorem d_M_made_6 : decode b_M_made 6 = .ok (.iload 7, 2) := by decide +kernel
theorem d_M_made_8 : decode b_M_made 8 = .ok (.iload_n 2, 1) := by decide +kernel
theorem d_M_made_9 : decode b_M_made 9 = .ok (.if_icmp .ge 122, 3) := by decide +kernel
theorem d_M_made_12 : decode b_M_made 12 = .ok (.aload_n 0, 1) := by decide +kernel
theorem d_M_made_13 : decode b_M_made 13 = .ok (.getfield 9, 3) := by decide +kernel
theorem d_M_made_16 : decode b_M_made 16 = .ok (.iload 7, 2) := by decide +kernel
theorem d_M_made_18 : decode b_M_made 18 = .ok (.iaload, 1) := by decide +kernel
theorem d_M_made_19 : decode b_M_made 19 = .ok (.tableswitch 106 1 4 #[29, 44, 56, 81], 29) := by decide +kernel
theorem d_M_made_48 : decode b_M_made 48 = .ok (.lload 5, 2) := by decide +kernel
theorem d_M_made_50 : decode b_M_made 50 = .ok (.aload_n 0, 1) := by decide +kernel
theorem d_M_made_51 : decode b_M_made 51 = .ok (.getfield 13, 3) := by decide +kernel
theorem d_M_made_54 : decode b_M_made 54 = .ok (.iload 7, 2) := by decide +kernel
theorem d_M_made_56 : decode b_M_made 56 = .ok (.laload, 1) := by decide +kernel
theorem d_M_made_57 : decode b_M_made 57 = .ok (.ladd, 1) := by decide +kernel
theorem d_M_made_58 : decode b_M_made 58 = .ok (.lstore 5, 2) := by decide +kernel
theorem d_M_made_60 : decode b_M_made 60 = .ok (.goto 65, 3) := by decide +kernel
theorem d_M_made_63 : decode b_M_made 63 = .ok (.aload_n 0, 1) := by decide +kernel
theorem d_M_made_64 : decode b_M_made 64 = .ok (.getfield 13, 3) := by decide +kernel
theorem d_M_made_67 : decode b_M_made 67 = .ok (.iload 7, 2) := by decide +kernel
theorem d_M_made_69 : decode b_M_made 69 = .ok (.laload, 1) := by decide +kernel
theorem d_M_made_70 : decode b_M_made 70 = .ok (.lstore 5, 2) := by decide +kernel
theorem d_M_made_72 : decode b_M_made 72 = .ok (.goto 53, 3) := by decide +kernel
theorem d_M_made_75 : decode b_M_made 75 = .ok (.aload_n 0, 1) := by decide +kernel
theorem d_M_made_76 : decode b_M_made 76 = .ok (.getfield 13, 3) := by decide +kernel
theorem d_M_made_79 : decode b_M_made 79 = .ok (.iload 7, 2) := by decide +kernel
theorem d_M_made_81 : decode b_M_made 81 = .ok (.laload, 1) := by decide +kernel
theorem d_M_made_82 : decode b_M_made 82 = .ok (.lload 5, 2) := by decide +kernel
theorem d_M_made_84 : decode b_M_made 84 = .ok (.lcmp, 1) := by decide +kernel
theorem d_M_made_85 : decode b_M_made 85 = .ok (.ifCond .le 40, 3) := by decide +kernel
theorem d_M_made_88 : decode b_M_made 88 = .ok (.aload_n 0, 1) := by decide +kernel
theorem d_M_made_89 : decode b_M_made 89 = .ok (.getfield 13, 3) := by decide +kernel
theorem d_M_made_92 : decode b_M_made 92 = .ok (.iload 7, 2) := by decide +kernel
theorem d_M_made_94 : decode b_M_made 94 = .ok (.laload, 1) := by decide +kernel
theorem d_M_made_95 : decode b_M_made 95 = .ok (.lstore 5, 2) := by decide +kernel
theorem d_M_made_97 : decode b_M_made 97 = .ok (.goto 28, 3) := by decide +kernel
theorem d_M_made_100 : decode b_M_made 100 = .ok (.aload_n 0, 1) := by decide +kernel
theorem d_M_made_101 : decode b_M_made 101 = .ok (.getfield 13, 3) := by decide +kernel
theorem d_M_made_104 : decode b_M_made 104 = .ok (.iload 7, 2) := by decide +kernel
theorem d_M_made_106 : decode b_M_made 106 = .ok (.laload, 1) := by decide +kernel
theorem d_M_made_107 : decode b_M_made 107 = .ok (.lload 5, 2) := by decide +kernel
theorem d_M_made_109 : decode b_M_made 109 = .ok (.lcmp, 1) := by decide +kernel
theorem d_M_made_110 : decode b_M_made 110 = .ok (.ifCond .ge 15, 3) := by decide +kernel
theorem d_M_made_113 : decode b_M_made 113 = .ok (.aload_n 0, 1) := by decide +kernel
theorem d_M_made_114 : decode b_M_made 114 = .ok (.getfield 13, 3) := by decide +kernel
theorem d_M_made_117 : decode b_M_made 117 = .ok (.iload 7, 2) := by decide +kernel
theorem d_M_made_119 : decode b_M_made 119 = .ok (.laload, 1) := by decide +kernel
theorem d_M_made_120 : decode b_M_made 120 = .ok (.lstore 5, 2) := by decide +kernel
theorem d_M_made_122 : decode b_M_made 122 = .ok (.goto 3, 3) := by decide +kernel
theorem d_M_made_125 : decode b_M_made 125 = .ok (.iinc 7 1, 3) := by decide +kernel
theorem d_M_made_128 : decode b_M_made 128 = .ok (.goto (-122), 3) := by decide +kernel
theorem d_M_made_131 : decode b_M_made 131 = .ok (.lload 5, 2) := by decide +kernel
theorem d_M_made_133 : decode b_M_made 133 = .ok (.lreturn, 1) := by decide +kernel
theorem d_M_fold_0 : decode b_M_fold 0 = .ok (.aload_n 0, 1) := by decide +kernel
theorem d_M_fold_1 : decode b_M_fold 1 = .ok (.iconst 0, 1) := by decide +kernel
theorem d_M_fold_2 : decode b_M_fold 2 = .ok (.putfield 17, 3) := by decide +kernel
theorem d_M_fold_5 : decode b_M_fold 5 = .ok (.aload_n 0, 1) := by decide +kernel
theorem d_M_fold_6 : decode b_M_fold 6 = .ok (.lload_n 3, 1) := by decide +kernel
theorem d_M_fold_7 : decode b_M_fold 7 = .ok (.invokestatic 49, 3) := by decide +kernel
theorem d_M_fold_10 : decode b_M_fold 10 = .ok (.ifCond .ne 7, 3) := by decide +kernel
theorem d_M_fold_13 : decode b_M_fold 13 = .ok (.iconst 1, 1) := by decide +kernel
theorem d_M_fold_14 : decode b_M_fold 14 = .ok (.goto 4, 3) := by decide +kernel
theorem d_M_fold_17 : decode b_M_fold 17 = .ok (.iconst 0, 1) := by decide +kernel
theorem d_M_fold_18 : decode b_M_fold 18 = .ok (.iconst 1, 1) := by decide +kernel
theorem d_M_fold_19 : decode b_M_fold 19 = .ok (.invokevirtual 39, 3) := by decide +kernel
theorem d_M_fold_22 : decode b_M_fold 22 = .ok (.ifCond .ne 24, 3) := by decide +kernel
theorem d_M_fold_25 : decode b_M_fold 25 = .ok (.aload_n 0, 1) := by decide +kernel
theorem d_M_fold_26 : decode b_M_fold 26 = .ok (.iload_n 1, 1) := by decide +kernel
theorem d_M_fold_27 : decode b_M_fold 27 = .ok (.iload_n 2, 1) := by decide +kernel
theorem d_M_fold_28 : decode b_M_fold 28 = .ok (.invokestatic 45, 3) := by decide +kernel
theorem d_M_fold_31 : decode b_M_fold 31 = .ok (.ifCond .ne 7, 3) := by decide +kernel
theorem d_M_fold_34 : decode b_M_fold 34 = .ok (.iconst 1, 1) := by decide +kernel
theorem d_M_fold_35 : decode b_M_fold 35 = .ok (.goto 4, 3) := by decide +kernel
theorem d_M_fold_38 : decode b_M_fold 38 = .ok (.iconst 0, 1) := by decide +kernel
theorem d_M_fold_39 : decode b_M_fold 39 = .ok (.iconst 2, 1) := by decide +kernel
theorem d_M_fold_40 : decode b_M_fold 40 = .ok (.invokevirtual 39, 3) := by decide +kernel
theorem d_M_fold_43 : decode b_M_fold 43 = .ok (.ifCond .eq 7, 3) := by decide +kernel
theorem d_M_fold_46 : decode b_M_fold 46 = .ok (.lconst 0, 1) := by decide +kernel
theorem d_M_fold_47 : decode b_M_fold 47 = .ok (.goto 10, 3) := by decide +kernel
theorem d_M_fold_50 : decode b_M_fold 50 = .ok (.aload_n 0, 1) := by decide +kernel
theorem d_M_fold_51 : decode b_M_fold 51 = .ok (.iload_n 1, 1) := by decide +kernel
theorem d_M_fold_52 : decode b_M_fold 52 = .ok (.iload_n 2, 1) := by decide +kernel
theorem d_M_fold_53 : decode b_M_fold 53 = .ok (.lload_n 3, 1) := by decide +kernel
theorem d_M_fold_54 : decode b_M_fold 54 = .ok (.invokevirtual 53, 3) := by decide +kernel
theorem d_M_fold_57 : decode b_M_fold 57 = .ok (.lreturn, 1) := by decide +kernel
theorem d_M_again_0 : decode b_M_again 0 = .ok (.aload_n 0, 1) := by decide +kernel
theorem d_M_again_1 : decode b_M_again 1 = .ok (.iconst 0, 1) := by decide +kernel
theorem d_M_again_2 : decode b_M_again 2 = .ok (.putfield 17, 3) := by decide +kernel
theorem d_M_again_5 : decode b_M_again 5 = .ok (.aload_n 0, 1) := by decide +kernel
theorem d_M_again_6 : decode b_M_again 6 = .ok (.lload_n 3, 1) := by decide +kernel
theorem d_M_again_7 : decode b_M_again 7 = .ok (.invokestatic 49, 3) := by decide +kernel
theorem d_M_again_10 : decode b_M_again 10 = .ok (.ifCond .eq 16, 3) := by decide +kernel
theorem d_M_again_13 : decode b_M_again 13 = .ok (.iload 5, 2) := by decide +kernel
theorem d_M_again_15 : decode b_M_again 15 = .ok (.i2l, 1) := by decide +kernel
theorem d_M_again_16 : decode b_M_again 16 = .ok (.lconst 0, 1) := by decide +kernel
theorem d_M_again_17 : decode b_M_again 17 = .ok (.ldc2_w 57, 3) := by decide +kernel
theorem d_M_again_20 : decode b_M_again 20 = .ok (.invokestatic 23, 3) := by decide +kernel
theorem d_M_again_23 : decode b_M_again 23 = .ok (.ifCond .ne 7, 3) := by decide +kernel
theorem d_M_again_26 : decode b_M_again 26 = .ok (.iconst 1, 1) := by decide +kernel
theorem d_M_again_27 : decode b_M_again 27 = .ok (.goto 4, 3) := by decide +kernel
theorem d_M_again_30 : decode b_M_again 30 = .ok (.iconst 0, 1) := by decide +kernel
theorem d_M_again_31 : decode b_M_again 31 = .ok (.iconst 1, 1) := by decide +kernel
theorem d_M_again_32 : decode b_M_again 32 = .ok (.invokevirtual 39, 3) := by decide +kernel
theorem d_M_again_35 : decode b_M_again 35 = .ok (.ifCond .ne 24, 3) := by decide +kernel
theorem d_M_again_38 : decode b_M_again 38 = .ok (.aload_n 0, 1) := by decide +kernel
theorem d_M_again_39 : decode b_M_again 39 = .ok (.iload_n 1, 1) := by decide +kernel
theorem d_M_again_40 : decode b_M_again 40 = .ok (.iload_n 2, 1) := by decide +kernel
theorem d_M_again_41 : decode b_M_again 41 = .ok (.invokestatic 45, 3) := by decide +kernel
theorem d_M_again_44 : decode b_M_again 44 = .ok (.ifCond .ne 7, 3) := by decide +kernel
theorem d_M_again_47 : decode b_M_again 47 = .ok (.iconst 1, 1) := by decide +kernel
theorem d_M_again_48 : decode b_M_again 48 = .ok (.goto 4, 3) := by decide +kernel
theorem d_M_again_51 : decode b_M_again 51 = .ok (.iconst 0, 1) := by decide +kernel
theorem d_M_again_52 : decode b_M_again 52 = .ok (.iconst 2, 1) := by decide +kernel
theorem d_M_again_53 : decode b_M_again 53 = .ok (.invokevirtual 39, 3) := by decide +kernel
theorem d_M_again_56 : decode b_M_again 56 = .ok (.ifCond .eq 5, 3) := by decide +kernel
theorem d_M_again_59 : decode b_M_again 59 = .ok (.lconst 0, 1) := by decide +kernel
theorem d_M_again_60 : decode b_M_again 60 = .ok (.lreturn, 1) := by decide +kernel
theorem d_M_again_61 : decode b_M_again 61 = .ok (.lload_n 3, 1) := by decide +kernel
theorem d_M_again_62 : decode b_M_again 62 = .ok (.lstore 6, 2) := by decide +kernel
theorem d_M_again_64 : decode b_M_again 64 = .ok (.iconst 0, 1) := by decide +kernel
theorem d_M_again_65 : decode b_M_again 65 = .ok (.istore 8, 2) := by decide +kernel
theorem d_M_again_67 : decode b_M_again 67 = .ok (.iload 8, 2) := by decide +kernel
theorem d_M_again_69 : decode b_M_again 69 = .ok (.iload 5, 2) := by decide +kernel
theorem d_M_again_71 : decode b_M_again 71 = .ok (.if_icmp .ge 19, 3) := by decide +kernel
theorem d_M_again_74 : decode b_M_again 74 = .ok (.aload_n 0, 1) := by decide +kernel
theorem d_M_again_75 : decode b_M_again 75 = .ok (.iload_n 1, 1) := by decide +kernel
theorem d_M_again_76 : decode b_M_again 76 = .ok (.iload_n 2, 1) := by decide +kernel
theorem d_M_again_77 : decode b_M_again 77 = .ok (.lload 6, 2) := by decide +kernel
theorem d_M_again_79 : decode b_M_again 79 = .ok (.invokevirtual 53, 3) := by decide +kernel
theorem d_M_again_82 : decode b_M_again 82 = .ok (.lstore 6, 2) := by decide +kernel
theorem d_M_again_84 : decode b_M_again 84 = .ok (.iinc 8 1, 3) := by decide +kernel
theorem d_M_again_87 : decode b_M_again 87 = .ok (.goto (-20), 3) := by decide +kernel
theorem d_M_again_90 : decode b_M_again 90 = .ok (.lload 6, 2) := by decide +kernel
theorem d_M_again_92 : decode b_M_again 92 = .ok (.lreturn, 1) := by decide +kernel
theorem d_M_ends_0 : decode b_M_ends 0 = .ok (.aload_n 0, 1) := by decide +kernel
theorem d_M_ends_1 : decode b_M_ends 1 = .ok (.iload_n 1, 1) := by decide +kernel
theorem d_M_ends_2 : decode b_M_ends 2 = .ok (.iload_n 2, 1) := by decide +kernel
theorem d_M_ends_3 : decode b_M_ends 3 = .ok (.lload_n 3, 1) := by decide +kernel
theorem d_M_ends_4 : decode b_M_ends 4 = .ok (.invokevirtual 53, 3) := by decide +kernel
theorem d_M_ends_7 : decode b_M_ends 7 = .ok (.aload_n 0, 1) := by decide +kernel
theorem d_M_ends_8 : decode b_M_ends 8 = .ok (.iload_n 1, 1) := by decide +kernel
theorem d_M_ends_9 : decode b_M_ends 9 = .ok (.iload_n 2, 1) := by decide +kernel
theorem d_M_ends_10 : decode b_M_ends 10 = .ok (.ldc2_w 59, 3) := by decide +kernel
theorem d_M_ends_13 : decode b_M_ends 13 = .ok (.lload_n 3, 1) := by decide +kernel
theorem d_M_ends_14 : decode b_M_ends 14 = .ok (.lmul, 1) := by decide +kernel
theorem d_M_ends_15 : decode b_M_ends 15 = .ok (.invokevirtual 53, 3) := by decide +kernel
theorem d_M_ends_18 : decode b_M_ends 18 = .ok (.lcmp, 1) := by decide +kernel
theorem d_M_ends_19 : decode b_M_ends 19 = .ok (.ifCond .ne 7, 3) := by decide +kernel
theorem d_M_ends_22 : decode b_M_ends 22 = .ok (.iconst 1, 1) := by decide +kernel
theorem d_M_ends_23 : decode b_M_ends 23 = .ok (.goto 4, 3) := by decide +kernel
theorem d_M_ends_26 : decode b_M_ends 26 = .ok (.iconst 0, 1) := by decide +kernel
theorem d_M_ends_27 : decode b_M_ends 27 = .ok (.ireturn, 1) := by decide +kernel
theorem d_M_least_0 : decode b_M_least 0 = .ok (.aload_n 0, 1) := by decide +kernel
theorem d_M_least_1 : decode b_M_least 1 = .ok (.iconst 0, 1) := by decide +kernel
theorem d_M_least_2 : decode b_M_least 2 = .ok (.putfield 17, 3) := by decide +kernel
theorem d_M_least_5 : decode b_M_least 5 = .ok (.aload_n 0, 1) := by decide +kernel
theorem d_M_least_6 : decode b_M_least 6 = .ok (.iload_n 1, 1) := by decide +kernel
theorem d_M_least_7 : decode b_M_least 7 = .ok (.iload_n 2, 1) := by decide +kernel
theorem d_M_least_8 : decode b_M_least 8 = .ok (.invokestatic 45, 3) := by decide +kernel
theorem d_M_least_11 : decode b_M_least 11 = .ok (.ifCond .ne 7, 3) := by decide +kernel
theorem d_M_least_14 : decode b_M_least 14 = .ok (.iconst 1, 1) := by decide +kernel
theorem d_M_least_15 : decode b_M_least 15 = .ok (.goto 4, 3) := by decide +kernel
theorem d_M_least_18 : decode b_M_least 18 = .ok (.iconst 0, 1) := by decide +kernel
theorem d_M_least_19 : decode b_M_least 19 = .ok (.iconst 1, 1) := by decide +kernel
theorem d_M_least_20 : decode b_M_least 20 = .ok (.invokevirtual 39, 3) := by decide +kernel
theorem d_M_least_23 : decode b_M_least 23 = .ok (.ifCond .ne 28, 3) := by decide +kernel
theorem d_M_least_26 : decode b_M_least 26 = .ok (.aload_n 0, 1) := by decide +kernel
theorem d_M_least_27 : decode b_M_least 27 = .ok (.aload_n 0, 1) := by decide +kernel
theorem d_M_least_28 : decode b_M_least 28 = .ok (.iload_n 1, 1) := by decide +kernel
theorem d_M_least_29 : decode b_M_least 29 = .ok (.iload_n 2, 1) := by decide +kernel
theorem d_M_least_30 : decode b_M_least 30 = .ok (.ldc2_w 61, 3) := by decide +kernel
theorem d_M_least_33 : decode b_M_least 33 = .ok (.invokevirtual 63, 3) := by decide +kernel
theorem d_M_least_36 : decode b_M_least 36 = .ok (.ifCond .ne 7, 3) := by decide +kernel
theorem d_M_least_39 : decode b_M_least 39 = .ok (.iconst 1, 1) := by decide +kernel
theorem d_M_least_40 : decode b_M_least 40 = .ok (.goto 4, 3) := by decide +kernel
theorem d_M_least_43 : decode b_M_least 43 = .ok (.iconst 0, 1) := by decide +kernel
theorem d_M_least_44 : decode b_M_least 44 = .ok (.iconst 2, 1) := by decide +kernel
theorem d_M_least_45 : decode b_M_least 45 = .ok (.invokevirtual 39, 3) := by decide +kernel
theorem d_M_least_48 : decode b_M_least 48 = .ok (.ifCond .eq 7, 3) := by decide +kernel
theorem d_M_least_51 : decode b_M_least 51 = .ok (.lconst 0, 1) := by decide +kernel
theorem d_M_least_52 : decode b_M_least 52 = .ok (.goto 12, 3) := by decide +kernel
theorem d_M_least_55 : decode b_M_least 55 = .ok (.aload_n 0, 1) := by decide +kernel
theorem d_M_least_56 : decode b_M_least 56 = .ok (.iload_n 1, 1) := by decide +kernel
theorem d_M_least_57 : decode b_M_least 57 = .ok (.iload_n 2, 1) := by decide +kernel
theorem d_M_least_58 : decode b_M_least 58 = .ok (.ldc2_w 61, 3) := by decide +kernel
theorem d_M_least_61 : decode b_M_least 61 = .ok (.invokevirtual 53, 3) := by decide +kernel
theorem d_M_least_64 : decode b_M_least 64 = .ok (.lreturn, 1) := by decide +kernel
theorem d_M_greatest_0 : decode b_M_greatest 0 = .ok (.aload_n 0, 1) := by decide +kernel
theorem d_M_greatest_1 : decode b_M_greatest 1 = .ok (.iconst 0, 1) := by decide +kernel
theorem d_M_greatest_2 : decode b_M_greatest 2 = .ok (.putfield 17, 3) := by decide +kernel
theorem d_M_greatest_5 : decode b_M_greatest 5 = .ok (.aload_n 0, 1) := by decide +kernel
theorem d_M_greatest_6 : decode b_M_greatest 6 = .ok (.iload_n 1, 1) := by decide +kernel
theorem d_M_greatest_7 : decode b_M_greatest 7 = .ok (.iload_n 2, 1) := by decide +kernel
theorem d_M_greatest_8 : decode b_M_greatest 8 = .ok (.invokestatic 45, 3) := by decide +kernel
theorem d_M_greatest_11 : decode b_M_greatest 11 = .ok (.ifCond .ne 7, 3) := by decide +kernel
theorem d_M_greatest_14 : decode b_M_greatest 14 = .ok (.iconst 1, 1) := by decide +kernel
theorem d_M_greatest_15 : decode b_M_greatest 15 = .ok (.goto 4, 3) := by decide +kernel
theorem d_M_greatest_18 : decode b_M_greatest 18 = .ok (.iconst 0, 1) := by decide +kernel
theorem d_M_greatest_19 : decode b_M_greatest 19 = .ok (.iconst 1, 1) := by decide +kernel
theorem d_M_greatest_20 : decode b_M_greatest 20 = .ok (.invokevirtual 39, 3) := by decide +kernel
theorem d_M_greatest_23 : decode b_M_greatest 23 = .ok (.ifCond .ne 28, 3) := by decide +kernel
theorem d_M_greatest_26 : decode b_M_greatest 26 = .ok (.aload_n 0, 1) := by decide +kernel
theorem d_M_greatest_27 : decode b_M_greatest 27 = .ok (.aload_n 0, 1) := by decide +kernel
theorem d_M_greatest_28 : decode b_M_greatest 28 = .ok (.iload_n 1, 1) := by decide +kernel
theorem d_M_greatest_29 : decode b_M_greatest 29 = .ok (.iload_n 2, 1) := by decide +kernel
theorem d_M_greatest_30 : decode b_M_greatest 30 = .ok (.ldc2_w 67, 3) := by decide +kernel
theorem d_M_greatest_33 : decode b_M_greatest 33 = .ok (.invokevirtual 63, 3) := by decide +kernel
theorem d_M_greatest_36 : decode b_M_greatest 36 = .ok (.ifCond .ne 7, 3) := by decide +kernel
theorem d_M_greatest_39 : decode b_M_greatest 39 = .ok (.iconst 1, 1) := by decide +kernel
theorem d_M_greatest_40 : decode b_M_greatest 40 = .ok (.goto 4, 3) := by decide +kernel
theorem d_M_greatest_43 : decode b_M_greatest 43 = .ok (.iconst 0, 1) := by decide +kernel
theorem d_M_greatest_44 : decode b_M_greatest 44 = .ok (.iconst 2, 1) := by decide +kernel
theorem d_M_greatest_45 : decode b_M_greatest 45 = .ok (.invokevirtual 39, 3) := by decide +kernel
theorem d_M_greatest_48 : decode b_M_greatest 48 = .ok (.ifCond .eq 7, 3) := by decide +kernel
theorem d_M_greatest_51 : decode b_M_greatest 51 = .ok (.lconst 0, 1) := by decide +kernel
theorem d_M_greatest_52 : decode b_M_greatest 52 = .ok (.goto 12, 3) := by decide +kernel
theorem d_M_greatest_55 : decode b_M_greatest 55 = .ok (.aload_n 0, 1) := by decide +kernel
theorem d_M_greatest_56 : decode b_M_greatest 56 = .ok (.iload_n 1, 1) := by decide +kernel
theorem d_M_greatest_57 : decode b_M_greatest 57 = .ok (.iload_n 2, 1) := by decide +kernel
theorem d_M_greatest_58 : decode b_M_greatest 58 = .ok (.ldc2_w 67, 3) := by decide +kernel
theorem d_M_greatest_61 : decode b_M_greatest 61 = .ok (.invokevirtual 53, 3) := by decide +kernel
theorem d_M_greatest_64 : decode b_M_greatest 64 = .ok (.lreturn, 1) := by decide +kernel
theorem d_M_fixed_0 : decode b_M_fixed 0 = .ok (.aload_n 0, 1) := by decide +kernel
theorem d_M_fixed_1 : decode b_M_fixed 1 = .ok (.iconst 0, 1) := by decide +kernel
theorem d_M_fixed_2 : decode b_M_fixed 2 = .ok (.putfield 17, 3) := by decide +kernel
theorem d_M_fixed_5 : decode b_M_fixed 5 = .ok (.aload_n 0, 1) := by decide +kernel
theorem d_M_fixed_6 : decode b_M_fixed 6 = .ok (.iload_n 1, 1) := by decide +kernel
theorem d_M_fixed_7 : decode b_M_fixed 7 = .ok (.iload_n 2, 1) := by decide +kernel
theorem d_M_fixed_8 : decode b_M_fixed 8 = .ok (.invokestatic 45, 3) := by decide +kernel
theorem d_M_fixed_11 : decode b_M_fixed 11 = .ok (.ifCond .ne 7, 3) := by decide +kernel
theorem d_M_fixed_14 : decode b_M_fixed 14 = .ok (.iconst 1, 1) := by decide +kernel
theorem d_M_fixed_15 : decode b_M_fixed 15 = .ok (.goto 4, 3) := by decide +kernel
theorem d_M_fixed_18 : decode b_M_fixed 18 = .ok (.iconst 0, 1) := by decide +kernel
theorem d_M_fixed_19 : decode b_M_fixed 19 = .ok (.iconst 1, 1) := by decide +kernel
theorem d_M_fixed_20 : decode b_M_fixed 20 = .ok (.invokevirtual 39, 3) := by decide +kernel
theorem d_M_fixed_23 : decode b_M_fixed 23 = .ok (.ifCond .eq 5, 3) := by decide +kernel
theorem d_M_fixed_26 : decode b_M_fixed 26 = .ok (.lconst 0, 1) := by decide +kernel
theorem d_M_fixed_27 : decode b_M_fixed 27 = .ok (.lreturn, 1) := by decide +kernel
theorem d_M_fixed_28 : decode b_M_fixed 28 = .ok (.iload_n 3, 1) := by decide +kernel
theorem d_M_fixed_29 : decode b_M_fixed 29 = .ok (.ifCond .eq 9, 3) := by decide +kernel
theorem d_M_fixed_32 : decode b_M_fixed 32 = .ok (.ldc2_w 67, 3) := by decide +kernel
theorem d_M_fixed_35 : decode b_M_fixed 35 = .ok (.goto 6, 3) := by decide +kernel
theorem d_M_fixed_38 : decode b_M_fixed 38 = .ok (.ldc2_w 61, 3) := by decide +kernel
theorem d_M_fixed_41 : decode b_M_fixed 41 = .ok (.lstore 4, 2) := by decide +kernel
theorem d_M_fixed_43 : decode b_M_fixed 43 = .ok (.aload_n 0, 1) := by decide +kernel
theorem d_M_fixed_44 : decode b_M_fixed 44 = .ok (.aload_n 0, 1) := by decide +kernel
theorem d_M_fixed_45 : decode b_M_fixed 45 = .ok (.iload_n 1, 1) := by decide +kernel
theorem d_M_fixed_46 : decode b_M_fixed 46 = .ok (.iload_n 2, 1) := by decide +kernel
theorem d_M_fixed_47 : decode b_M_fixed 47 = .ok (.lload 4, 2) := by decide +kernel
theorem d_M_fixed_49 : decode b_M_fixed 49 = .ok (.invokevirtual 53, 3) := by decide +kernel
theorem d_M_fixed_52 : decode b_M_fixed 52 = .ok (.lload 4, 2) := by decide +kernel
theorem d_M_fixed_54 : decode b_M_fixed 54 = .ok (.lcmp, 1) := by decide +kernel
theorem d_M_fixed_55 : decode b_M_fixed 55 = .ok (.ifCond .ne 7, 3) := by decide +kernel
theorem d_M_fixed_58 : decode b_M_fixed 58 = .ok (.iconst 1, 1) := by decide +kernel
theorem d_M_fixed_59 : decode b_M_fixed 59 = .ok (.goto 4, 3) := by decide +kernel
theorem d_M_fixed_62 : decode b_M_fixed 62 = .ok (.iconst 0, 1) := by decide +kernel
theorem d_M_fixed_63 : decode b_M_fixed 63 = .ok (.iconst 2, 1) := by decide +kernel
theorem d_M_fixed_64 : decode b_M_fixed 64 = .ok (.invokevirtual 39, 3) := by decide +kernel
theorem d_M_fixed_67 : decode b_M_fixed 67 = .ok (.ifCond .eq 5, 3) := by decide +kernel
theorem d_M_fixed_70 : decode b_M_fixed 70 = .ok (.lconst 0, 1) := by decide +kernel
theorem d_M_fixed_71 : decode b_M_fixed 71 = .ok (.lreturn, 1) := by decide +kernel
theorem d_M_fixed_72 : decode b_M_fixed 72 = .ok (.iconst 0, 1) := by decide +kernel
theorem d_M_fixed_73 : decode b_M_fixed 73 = .ok (.istore 6, 2) := by decide +kernel
theorem d_M_fixed_75 : decode b_M_fixed 75 = .ok (.iload 6, 2) := by decide +kernel
theorem d_M_fixed_77 : decode b_M_fixed 77 = .ok (.iconst 2, 1) := by decide +kernel
theorem d_M_fixed_78 : decode b_M_fixed 78 = .ok (.if_icmp .ge 55, 3) := by decide +kernel
theorem d_M_fixed_81 : decode b_M_fixed 81 = .ok (.aload_n 0, 1) := by decide +kernel
theorem d_M_fixed_82 : decode b_M_fixed 82 = .ok (.iload_n 1, 1) := by decide +kernel
theorem d_M_fixed_83 : decode b_M_fixed 83 = .ok (.iload_n 2, 1) := by decide +kernel
theorem d_M_fixed_84 : decode b_M_fixed 84 = .ok (.lload 4, 2) := by decide +kernel
theorem d_M_fixed_86 : decode b_M_fixed 86 = .ok (.invokevirtual 63, 3) := by decide +kernel
theorem d_M_fixed_89 : decode b_M_fixed 89 = .ok (.ifCond .ne 6, 3) := by decide +kernel
theorem d_M_fixed_92 : decode b_M_fixed 92 = .ok (.goto 30, 3) := by decide +kernel
theorem d_M_fixed_95 : decode b_M_fixed 95 = .ok (.aload_n 0, 1) := by decide +kernel
theorem d_M_fixed_96 : decode b_M_fixed 96 = .ok (.iload_n 1, 1) := by decide +kernel
theorem d_M_fixed_97 : decode b_M_fixed 97 = .ok (.iload_n 2, 1) := by decide +kernel
theorem d_M_fixed_98 : decode b_M_fixed 98 = .ok (.lload 4, 2) := by decide +kernel
theorem d_M_fixed_100 : decode b_M_fixed 100 = .ok (.invokevirtual 53, 3) := by decide +kernel
theorem d_M_fixed_103 : decode b_M_fixed 103 = .ok (.lstore 7, 2) := by decide +kernel
theorem d_M_fixed_105 : decode b_M_fixed 105 = .ok (.aload_n 0, 1) := by decide +kernel
theorem d_M_fixed_106 : decode b_M_fixed 106 = .ok (.iload_n 1, 1) := by decide +kernel
theorem d_M_fixed_107 : decode b_M_fixed 107 = .ok (.iload_n 2, 1) := by decide +kernel
theorem d_M_fixed_108 : decode b_M_fixed 108 = .ok (.lload 7, 2) := by decide +kernel
theorem d_M_fixed_110 : decode b_M_fixed 110 = .ok (.invokevirtual 53, 3) := by decide +kernel
theorem d_M_fixed_113 : decode b_M_fixed 113 = .ok (.lload 7, 2) := by decide +kernel
theorem d_M_fixed_115 : decode b_M_fixed 115 = .ok (.lcmp, 1) := by decide +kernel
theorem d_M_fixed_116 : decode b_M_fixed 116 = .ok (.ifCond .ne 6, 3) := by decide +kernel
theorem d_M_fixed_119 : decode b_M_fixed 119 = .ok (.lload 7, 2) := by decide +kernel
theorem d_M_fixed_121 : decode b_M_fixed 121 = .ok (.lreturn, 1) := by decide +kernel
theorem d_M_fixed_122 : decode b_M_fixed 122 = .ok (.iinc 6 1, 3) := by decide +kernel
theorem d_M_fixed_125 : decode b_M_fixed 125 = .ok (.lload 4, 2) := by decide +kernel
theorem d_M_fixed_127 : decode b_M_fixed 127 = .ok (.lneg, 1) := by decide +kernel
theorem d_M_fixed_128 : decode b_M_fixed 128 = .ok (.lstore 4, 2) := by decide +kernel
theorem d_M_fixed_130 : decode b_M_fixed 130 = .ok (.goto (-55), 3) := by decide +kernel
theorem d_M_fixed_133 : decode b_M_fixed 133 = .ok (.aload_n 0, 1) := by decide +kernel
theorem d_M_fixed_134 : decode b_M_fixed 134 = .ok (.iconst 1, 1) := by decide +kernel
theorem d_M_fixed_135 : decode b_M_fixed 135 = .ok (.iconst 2, 1) := by decide +kernel
theorem d_M_fixed_136 : decode b_M_fixed 136 = .ok (.invokevirtual 39, 3) := by decide +kernel
theorem d_M_fixed_139 : decode b_M_fixed 139 = .ok (.pop, 1) := by decide +kernel
theorem d_M_fixed_140 : decode b_M_fixed 140 = .ok (.lconst 0, 1) := by decide +kernel
theorem d_M_fixed_141 : decode b_M_fixed 141 = .ok (.lreturn, 1) := by decide +kernel
theorem d_M_about_0 : decode b_M_about 0 = .ok (.aload_n 0, 1) := by decide +kernel
theorem d_M_about_1 : decode b_M_about 1 = .ok (.iconst 0, 1) := by decide +kernel
theorem d_M_about_2 : decode b_M_about 2 = .ok (.putfield 17, 3) := by decide +kernel
theorem d_M_about_5 : decode b_M_about 5 = .ok (.aload_n 0, 1) := by decide +kernel
theorem d_M_about_6 : decode b_M_about 6 = .ok (.iload_n 3, 1) := by decide +kernel
theorem d_M_about_7 : decode b_M_about 7 = .ok (.i2l, 1) := by decide +kernel
theorem d_M_about_8 : decode b_M_about 8 = .ok (.lconst 0, 1) := by decide +kernel
theorem d_M_about_9 : decode b_M_about 9 = .ok (.ldc2_w 59, 3) := by decide +kernel
theorem d_M_about_12 : decode b_M_about 12 = .ok (.invokestatic 23, 3) := by decide +kernel
theorem d_M_about_15 : decode b_M_about 15 = .ok (.ifCond .ne 7, 3) := by decide +kernel
theorem d_M_about_18 : decode b_M_about 18 = .ok (.iconst 1, 1) := by decide +kernel
theorem d_M_about_19 : decode b_M_about 19 = .ok (.goto 4, 3) := by decide +kernel
theorem d_M_about_22 : decode b_M_about 22 = .ok (.iconst 0, 1) := by decide +kernel
theorem d_M_about_23 : decode b_M_about 23 = .ok (.iconst 1, 1) := by decide +kernel
theorem d_M_about_24 : decode b_M_about 24 = .ok (.invokevirtual 39, 3) := by decide +kernel
theorem d_M_about_27 : decode b_M_about 27 = .ok (.ifCond .ne 24, 3) := by decide +kernel
theorem d_M_about_30 : decode b_M_about 30 = .ok (.aload_n 0, 1) := by decide +kernel
theorem d_M_about_31 : decode b_M_about 31 = .ok (.iload_n 1, 1) := by decide +kernel
theorem d_M_about_32 : decode b_M_about 32 = .ok (.iload_n 2, 1) := by decide +kernel
theorem d_M_about_33 : decode b_M_about 33 = .ok (.invokestatic 45, 3) := by decide +kernel
theorem d_M_about_36 : decode b_M_about 36 = .ok (.ifCond .ne 7, 3) := by decide +kernel
theorem d_M_about_39 : decode b_M_about 39 = .ok (.iconst 1, 1) := by decide +kernel
theorem d_M_about_40 : decode b_M_about 40 = .ok (.goto 4, 3) := by decide +kernel
theorem d_M_about_43 : decode b_M_about 43 = .ok (.iconst 0, 1) := by decide +kernel
theorem d_M_about_44 : decode b_M_about 44 = .ok (.iconst 2, 1) := by decide +kernel
theorem d_M_about_45 : decode b_M_about 45 = .ok (.invokevirtual 39, 3) := by decide +kernel
theorem d_M_about_48 : decode b_M_about 48 = .ok (.ifCond .eq 5, 3) := by decide +kernel
theorem d_M_about_51 : decode b_M_about 51 = .ok (.iconst 0, 1) := by decide +kernel
theorem d_M_about_52 : decode b_M_about 52 = .ok (.ireturn, 1) := by decide +kernel
theorem d_M_about_53 : decode b_M_about 53 = .ok (.aload_n 0, 1) := by decide +kernel
theorem d_M_about_54 : decode b_M_about 54 = .ok (.iload_n 1, 1) := by decide +kernel
theorem d_M_about_55 : decode b_M_about 55 = .ok (.iload_n 2, 1) := by decide +kernel
theorem d_M_about_56 : decode b_M_about 56 = .ok (.ldc2_w 61, 3) := by decide +kernel
theorem d_M_about_59 : decode b_M_about 59 = .ok (.invokevirtual 53, 3) := by decide +kernel
theorem d_M_about_62 : decode b_M_about 62 = .ok (.lstore 4, 2) := by decide +kernel
theorem d_M_about_64 : decode b_M_about 64 = .ok (.aload_n 0, 1) := by decide +kernel
theorem d_M_about_65 : decode b_M_about 65 = .ok (.iload_n 1, 1) := by decide +kernel
theorem d_M_about_66 : decode b_M_about 66 = .ok (.iload_n 2, 1) := by decide +kernel
theorem d_M_about_67 : decode b_M_about 67 = .ok (.ldc2_w 67, 3) := by decide +kernel
theorem d_M_about_70 : decode b_M_about 70 = .ok (.invokevirtual 53, 3) := by decide +kernel
theorem d_M_about_73 : decode b_M_about 73 = .ok (.lstore 6, 2) := by decide +kernel
theorem d_M_about_75 : decode b_M_about 75 = .ok (.iload_n 3, 1) := by decide +kernel
theorem d_M_about_76 : decode b_M_about 76 = .ok (.ifCond .ne 17, 3) := by decide +kernel
theorem d_M_about_79 : decode b_M_about 79 = .ok (.lload 4, 2) := by decide +kernel
theorem d_M_about_81 : decode b_M_about 81 = .ok (.lload 6, 2) := by decide +kernel
theorem d_M_about_83 : decode b_M_about 83 = .ok (.lcmp, 1) := by decide +kernel
theorem d_M_about_84 : decode b_M_about 84 = .ok (.ifCond .ne 7, 3) := by decide +kernel
theorem d_M_about_87 : decode b_M_about 87 = .ok (.iconst 1, 1) := by decide +kernel
theorem d_M_about_88 : decode b_M_about 88 = .ok (.goto 4, 3) := by decide +kernel
theorem d_M_about_91 : decode b_M_about 91 = .ok (.iconst 0, 1) := by decide +kernel
theorem d_M_about_92 : decode b_M_about 92 = .ok (.ireturn, 1) := by decide +kernel
theorem d_M_about_93 : decode b_M_about 93 = .ok (.iload_n 3, 1) := by decide +kernel
theorem d_M_about_94 : decode b_M_about 94 = .ok (.iconst 2, 1) := by decide +kernel
theorem d_M_about_95 : decode b_M_about 95 = .ok (.if_icmp .ne 27, 3) := by decide +kernel
theorem d_M_about_98 : decode b_M_about 98 = .ok (.lload 4, 2) := by decide +kernel
theorem d_M_about_100 : decode b_M_about 100 = .ok (.ldc2_w 61, 3) := by decide +kernel
theorem d_M_about_103 : decode b_M_about 103 = .ok (.lcmp, 1) := by decide +kernel
theorem d_M_about_104 : decode b_M_about 104 = .ok (.ifCond .ne 16, 3) := by decide +kernel
theorem d_M_about_107 : decode b_M_about 107 = .ok (.lload 6, 2) := by decide +kernel
theorem d_M_about_109 : decode b_M_about 109 = .ok (.ldc2_w 67, 3) := by decide +kernel
theorem d_M_about_112 : decode b_M_about 112 = .ok (.lcmp, 1) := by decide +kernel
theorem d_M_about_113 : decode b_M_about 113 = .ok (.ifCond .ne 7, 3) := by decide +kernel
theorem d_M_about_116 : decode b_M_about 116 = .ok (.iconst 1, 1) := by decide +kernel
theorem d_M_about_117 : decode b_M_about 117 = .ok (.goto 4, 3) := by decide +kernel
theorem d_M_about_120 : decode b_M_about 120 = .ok (.iconst 0, 1) := by decide +kernel
theorem d_M_about_121 : decode b_M_about 121 = .ok (.ireturn, 1) := by decide +kernel
theorem d_M_about_122 : decode b_M_about 122 = .ok (.iconst 0, 1) := by decide +kernel
theorem d_M_about_123 : decode b_M_about 123 = .ok (.istore 8, 2) := by decide +kernel
theorem d_M_about_125 : decode b_M_about 125 = .ok (.iload_n 1, 1) := by decide +kernel
theorem d_M_about_126 : decode b_M_about 126 = .ok (.istore 9, 2) := by decide +kernel
theorem d_M_about_128 : decode b_M_about 128 = .ok (.iload 9, 2) := by decide +kernel
theorem d_M_about_130 : decode b_M_about 130 = .ok (.iload_n 2, 1) := by decide +kernel
theorem d_M_about_131 : decode b_M_about 131 = .ok (.if_icmp .ge 22, 3) := by decide +kernel
theorem d_M_about_134 : decode b_M_about 134 = .ok (.aload_n 0, 1) := by decide +kernel
theorem d_M_about_135 : decode b_M_about 135 = .ok (.getfield 9, 3) := by decide +kernel
theorem d_M_about_138 : decode b_M_about 138 = .ok (.iload 9, 2) := by decide +kernel
theorem d_M_about_140 : decode b_M_about 140 = .ok (.iaload, 1) := by decide +kernel
theorem d_M_about_141 : decode b_M_about 141 = .ok (.ifCond .eq 6, 3) := by decide +kernel
theorem d_M_about_144 : decode b_M_about 144 = .ok (.iinc 8 1, 3) := by decide +kernel
theorem d_M_about_147 : decode b_M_about 147 = .ok (.iinc 9 1, 3) := by decide +kernel
theorem d_M_about_150 : decode b_M_about 150 = .ok (.goto (-22), 3) := by decide +kernel
theorem d_M_about_153 : decode b_M_about 153 = .ok (.iload 8, 2) := by decide +kernel
theorem d_M_about_155 : decode b_M_about 155 = .ok (.ireturn, 1) := by decide +kernel
theorem d_L_set_0 : decode b_L_set 0 = .ok (.aload_n 0, 1) := by decide +kernel
theorem d_L_set_1 : decode b_L_set 1 = .ok (.iload_n 1, 1) := by decide +kernel
theorem d_L_set_2 : decode b_L_set 2 = .ok (.iload_n 2, 1) := by decide +kernel
theorem d_L_set_3 : decode b_L_set 3 = .ok (.lload_n 3, 1) := by decide +kernel
theorem d_L_set_4 : decode b_L_set 4 = .ok (.invokevirtual 7, 3) := by decide +kernel
theorem d_L_set_7 : decode b_L_set 7 = .ok (.goto 11, 3) := by decide +kernel
theorem d_L_set_10 : decode b_L_set 10 = .ok (.astore 5, 2) := by decide +kernel
theorem d_L_set_12 : decode b_L_set 12 = .ok (.iconst 1, 1) := by decide +kernel
theorem d_L_set_13 : decode b_L_set 13 = .ok (.ireturn, 1) := by decide +kernel
theorem d_L_set_14 : decode b_L_set 14 = .ok (.astore 5, 2) := by decide +kernel
theorem d_L_set_16 : decode b_L_set 16 = .ok (.iconst 2, 1) := by decide +kernel
theorem d_L_set_17 : decode b_L_set 17 = .ok (.ireturn, 1) := by decide +kernel
theorem d_L_set_18 : decode b_L_set 18 = .ok (.iconst 0, 1) := by decide +kernel
theorem d_L_set_19 : decode b_L_set 19 = .ok (.ireturn, 1) := by decide +kernel
theorem d_L_fill_0 : decode b_L_fill 0 = .ok (.aload_n 0, 1) := by decide +kernel
theorem d_L_fill_1 : decode b_L_fill 1 = .ok (.iload_n 1, 1) := by decide +kernel
theorem d_L_fill_2 : decode b_L_fill 2 = .ok (.iload_n 2, 1) := by decide +kernel
theorem d_L_fill_3 : decode b_L_fill 3 = .ok (.iload_n 3, 1) := by decide +kernel
theorem d_L_fill_4 : decode b_L_fill 4 = .ok (.lload 4, 2) := by decide +kernel
theorem d_L_fill_6 : decode b_L_fill 6 = .ok (.invokevirtual 17, 3) := by decide +kernel
theorem d_L_fill_9 : decode b_L_fill 9 = .ok (.goto 11, 3) := by decide +kernel
theorem d_L_fill_12 : decode b_L_fill 12 = .ok (.astore 6, 2) := by decide +kernel
theorem d_L_fill_14 : decode b_L_fill 14 = .ok (.iconst 1, 1) := by decide +kernel
theorem d_L_fill_15 : decode b_L_fill 15 = .ok (.ireturn, 1) := by decide +kernel
theorem d_L_fill_16 : decode b_L_fill 16 = .ok (.astore 6, 2) := by decide +kernel
theorem d_L_fill_18 : decode b_L_fill 18 = .ok (.iconst 2, 1) := by decide +kernel
theorem d_L_fill_19 : decode b_L_fill 19 = .ok (.ireturn, 1) := by decide +kernel
theorem d_L_fill_20 : decode b_L_fill 20 = .ok (.iconst 0, 1) := by decide +kernel
theorem d_L_fill_21 : decode b_L_fill 21 = .ok (.ireturn, 1) := by decide +kernel
theorem d_L_swap_0 : decode b_L_swap 0 = .ok (.aload_n 0, 1) := by decide +kernel
theorem d_L_swap_1 : decode b_L_swap 1 = .ok (.iload_n 1, 1) := by decide +kernel
theorem d_L_swap_2 : decode b_L_swap 2 = .ok (.iload_n 2, 1) := by decide +kernel
theorem d_L_swap_3 : decode b_L_swap 3 = .ok (.invokevirtual 21, 3) := by decide +kernel
theorem d_L_swap_6 : decode b_L_swap 6 = .ok (.goto 6, 3) := by decide +kernel
theorem d_L_swap_9 : decode b_L_swap 9 = .ok (.astore_n 3, 1) := by decide +kernel
theorem d_L_swap_10 : decode b_L_swap 10 = .ok (.iconst 1, 1) := by decide +kernel
theorem d_L_swap_11 : decode b_L_swap 11 = .ok (.ireturn, 1) := by decide +kernel
theorem d_L_swap_12 : decode b_L_swap 12 = .ok (.iconst 0, 1) := by decide +kernel
theorem d_L_swap_13 : decode b_L_swap 13 = .ok (.ireturn, 1) := by decide +kernel
theorem d_L_fold_0 : decode b_L_fold 0 = .ok (.aload 5, 2) := by decide +kernel
theorem d_L_fold_2 : decode b_L_fold 2 = .ok (.iconst 0, 1) := by decide +kernel
theorem d_L_fold_3 : decode b_L_fold 3 = .ok (.aload_n 0, 1) := by decide +kernel
theorem d_L_fold_4 : decode b_L_fold 4 = .ok (.iload_n 1, 1) := by decide +kernel
theorem d_L_fold_5 : decode b_L_fold 5 = .ok (.iload_n 2, 1) := by decide +kernel
theorem d_L_fold_6 : decode b_L_fold 6 = .ok (.lload_n 3, 1) := by decide +kernel
theorem d_L_fold_7 : decode b_L_fold 7 = .ok (.invokevirtual 25, 3) := by decide +kernel
theorem d_L_fold_10 : decode b_L_fold 10 = .ok (.lastore, 1) := by decide +kernel
theorem d_L_fold_11 : decode b_L_fold 11 = .ok (.goto 11, 3) := by decide +kernel
theorem d_L_fold_14 : decode b_L_fold 14 = .ok (.astore 6, 2) := by decide +kernel
theorem d_L_fold_16 : decode b_L_fold 16 = .ok (.iconst 1, 1) := by decide +kernel
theorem d_L_fold_17 : decode b_L_fold 17 = .ok (.ireturn, 1) := by decide +kernel
theorem d_L_fold_18 : decode b_L_fold 18 = .ok (.astore 6, 2) := by decide +kernel
theorem d_L_fold_20 : decode b_L_fold 20 = .ok (.iconst 2, 1) := by decide +kernel
theorem d_L_fold_21 : decode b_L_fold 21 = .ok (.ireturn, 1) := by decide +kernel
theorem d_L_fold_22 : decode b_L_fold 22 = .ok (.iconst 0, 1) := by decide +kernel
theorem d_L_fold_23 : decode b_L_fold 23 = .ok (.ireturn, 1) := by decide +kernel
theorem d_L_again_0 : decode b_L_again 0 = .ok (.aload 6, 2) := by decide +kernel
theorem d_L_again_2 : decode b_L_again 2 = .ok (.iconst 0, 1) := by decide +kernel
theorem d_L_again_3 : decode b_L_again 3 = .ok (.aload_n 0, 1) := by decide +kernel
theorem d_L_again_4 : decode b_L_again 4 = .ok (.iload_n 1, 1) := by decide +kernel
theorem d_L_again_5 : decode b_L_again 5 = .ok (.iload_n 2, 1) := by decide +kernel
theorem d_L_again_6 : decode b_L_again 6 = .ok (.lload_n 3, 1) := by decide +kernel
theorem d_L_again_7 : decode b_L_again 7 = .ok (.iload 5, 2) := by decide +kernel
theorem d_L_again_9 : decode b_L_again 9 = .ok (.invokevirtual 29, 3) := by decide +kernel
theorem d_L_again_12 : decode b_L_again 12 = .ok (.lastore, 1) := by decide +kernel
theorem d_L_again_13 : decode b_L_again 13 = .ok (.goto 11, 3) := by decide +kernel
theorem d_L_again_16 : decode b_L_again 16 = .ok (.astore 7, 2) := by decide +kernel
theorem d_L_again_18 : decode b_L_again 18 = .ok (.iconst 1, 1) := by decide +kernel
theorem d_L_again_19 : decode b_L_again 19 = .ok (.ireturn, 1) := by decide +kernel
theorem d_L_again_20 : decode b_L_again 20 = .ok (.astore 7, 2) := by decide +kernel
theorem d_L_again_22 : decode b_L_again 22 = .ok (.iconst 2, 1) := by decide +kernel
theorem d_L_again_23 : decode b_L_again 23 = .ok (.ireturn, 1) := by decide +kernel
theorem d_L_again_24 : decode b_L_again 24 = .ok (.iconst 0, 1) := by decide +kernel
theorem d_L_again_25 : decode b_L_again 25 = .ok (.ireturn, 1) := by decide +kernel
theorem d_L_least_0 : decode b_L_least 0 = .ok (.aload_n 3, 1) := by decide +kernel
theorem d_L_least_1 : decode b_L_least 1 = .ok (.iconst 0, 1) := by decide +kernel
theorem d_L_least_2 : decode b_L_least 2 = .ok (.aload_n 0, 1) := by decide +kernel
theorem d_L_least_3 : decode b_L_least 3 = .ok (.iload_n 1, 1) := by decide +kernel
theorem d_L_least_4 : decode b_L_least 4 = .ok (.iload_n 2, 1) := by decide +kernel
theorem d_L_least_5 : decode b_L_least 5 = .ok (.invokevirtual 33, 3) := by decide +kernel
theorem d_L_least_8 : decode b_L_least 8 = .ok (.lastore, 1) := by decide +kernel
theorem d_L_least_9 : decode b_L_least 9 = .ok (.goto 11, 3) := by decide +kernel
theorem d_L_least_12 : decode b_L_least 12 = .ok (.astore 4, 2) := by decide +kernel
theorem d_L_least_14 : decode b_L_least 14 = .ok (.iconst 1, 1) := by decide +kernel
theorem d_L_least_15 : decode b_L_least 15 = .ok (.ireturn, 1) := by decide +kernel
theorem d_L_least_16 : decode b_L_least 16 = .ok (.astore 4, 2) := by decide +kernel
theorem d_L_least_18 : decode b_L_least 18 = .ok (.iconst 2, 1) := by decide +kernel
theorem d_L_least_19 : decode b_L_least 19 = .ok (.ireturn, 1) := by decide +kernel
theorem d_L_least_20 : decode b_L_least 20 = .ok (.iconst 0, 1) := by decide +kernel
theorem d_L_least_21 : decode b_L_least 21 = .ok (.ireturn, 1) := by decide +kernel
theorem d_L_greatest_0 : decode b_L_greatest 0 = .ok (.aload_n 3, 1) := by decide +kernel
theorem d_L_greatest_1 : decode b_L_greatest 1 = .ok (.iconst 0, 1) := by decide +kernel
theorem d_L_greatest_2 : decode b_L_greatest 2 = .ok (.aload_n 0, 1) := by decide +kernel
theorem d_L_greatest_3 : decode b_L_greatest 3 = .ok (.iload_n 1, 1) := by decide +kernel
theorem d_L_greatest_4 : decode b_L_greatest 4 = .ok (.iload_n 2, 1) := by decide +kernel
theorem d_L_greatest_5 : decode b_L_greatest 5 = .ok (.invokevirtual 39, 3) := by decide +kernel
theorem d_L_greatest_8 : decode b_L_greatest 8 = .ok (.lastore, 1) := by decide +kernel
theorem d_L_greatest_9 : decode b_L_greatest 9 = .ok (.goto 11, 3) := by decide +kernel
theorem d_L_greatest_12 : decode b_L_greatest 12 = .ok (.astore 4, 2) := by decide +kernel
theorem d_L_greatest_14 : decode b_L_greatest 14 = .ok (.iconst 1, 1) := by decide +kernel
theorem d_L_greatest_15 : decode b_L_greatest 15 = .ok (.ireturn, 1) := by decide +kernel
theorem d_L_greatest_16 : decode b_L_greatest 16 = .ok (.astore 4, 2) := by decide +kernel
theorem d_L_greatest_18 : decode b_L_greatest 18 = .ok (.iconst 2, 1) := by decide +kernel
theorem d_L_greatest_19 : decode b_L_greatest 19 = .ok (.ireturn, 1) := by decide +kernel
theorem d_L_greatest_20 : decode b_L_greatest 20 = .ok (.iconst 0, 1) := by decide +kernel
theorem d_L_greatest_21 : decode b_L_greatest 21 = .ok (.ireturn, 1) := by decide +kernel
theorem d_L_fixed_0 : decode b_L_fixed 0 = .ok (.aload 4, 2) := by decide +kernel
theorem d_L_fixed_2 : decode b_L_fixed 2 = .ok (.iconst 0, 1) := by decide +kernel
theorem d_L_fixed_3 : decode b_L_fixed 3 = .ok (.aload_n 0, 1) := by decide +kernel
theorem d_L_fixed_4 : decode b_L_fixed 4 = .ok (.iload_n 1, 1) := by decide +kernel
theorem d_L_fixed_5 : decode b_L_fixed 5 = .ok (.iload_n 2, 1) := by decide +kernel
theorem d_L_fixed_6 : decode b_L_fixed 6 = .ok (.iload_n 3, 1) := by decide +kernel
theorem d_L_fixed_7 : decode b_L_fixed 7 = .ok (.invokevirtual 42, 3) := by decide +kernel
theorem d_L_fixed_10 : decode b_L_fixed 10 = .ok (.lastore, 1) := by decide +kernel
theorem d_L_fixed_11 : decode b_L_fixed 11 = .ok (.goto 11, 3) := by decide +kernel
theorem d_L_fixed_14 : decode b_L_fixed 14 = .ok (.astore 5, 2) := by decide +kernel
theorem d_L_fixed_16 : decode b_L_fixed 16 = .ok (.iconst 1, 1) := by decide +kernel
theorem d_L_fixed_17 : decode b_L_fixed 17 = .ok (.ireturn, 1) := by decide +kernel
theorem d_L_fixed_18 : decode b_L_fixed 18 = .ok (.astore 5, 2) := by decide +kernel
theorem d_L_fixed_20 : decode b_L_fixed 20 = .ok (.iconst 2, 1) := by decide +kernel
theorem d_L_fixed_21 : decode b_L_fixed 21 = .ok (.ireturn, 1) := by decide +kernel
theorem d_L_fixed_22 : decode b_L_fixed 22 = .ok (.iconst 0, 1) := by decide +kernel
theorem d_L_fixed_23 : decode b_L_fixed 23 = .ok (.ireturn, 1) := by decide +kernel
theorem d_L_about_0 : decode b_L_about 0 = .ok (.aload 4, 2) := by decide +kernel
theorem d_L_about_2 : decode b_L_about 2 = .ok (.iconst 0, 1) := by decide +kernel
theorem d_L_about_3 : decode b_L_about 3 = .ok (.aload_n 0, 1) := by decide +kernel
theorem d_L_about_4 : decode b_L_about 4 = .ok (.iload_n 1, 1) := by decide +kernel
theorem d_L_about_5 : decode b_L_about 5 = .ok (.iload_n 2, 1) := by decide +kernel
theorem d_L_about_6 : decode b_L_about 6 = .ok (.iload_n 3, 1) := by decide +kernel
theorem d_L_about_7 : decode b_L_about 7 = .ok (.invokevirtual 46, 3) := by decide +kernel
theorem d_L_about_10 : decode b_L_about 10 = .ok (.i2l, 1) := by decide +kernel
theorem d_L_about_11 : decode b_L_about 11 = .ok (.lastore, 1) := by decide +kernel
theorem d_L_about_12 : decode b_L_about 12 = .ok (.goto 11, 3) := by decide +kernel
theorem d_L_about_15 : decode b_L_about 15 = .ok (.astore 5, 2) := by decide +kernel
theorem d_L_about_17 : decode b_L_about 17 = .ok (.iconst 1, 1) := by decide +kernel
theorem d_L_about_18 : decode b_L_about 18 = .ok (.ireturn, 1) := by decide +kernel
theorem d_L_about_19 : decode b_L_about 19 = .ok (.astore 5, 2) := by decide +kernel
theorem d_L_about_21 : decode b_L_about 21 = .ok (.iconst 2, 1) := by decide +kernel
theorem d_L_about_22 : decode b_L_about 22 = .ok (.ireturn, 1) := by decide +kernel
theorem d_L_about_23 : decode b_L_about 23 = .ok (.iconst 0, 1) := by decide +kernel
theorem d_L_about_24 : decode b_L_about 24 = .ok (.ireturn, 1) := by decide +kernel
end
section
/-! methods that throw: a contract 'Thr' beside the kit's 'Met', calls of such methods, the way out, the handler -/
/-- what a static of Throwable holds: a reference or null, in a cell of statics -/
def xzs (o n d : String) (U : State) : Prop := ∃ (c : ClassId) (k : Class) (i : Nat) (f : Field) (a : Addr) (cell : Cell) (v : Value), U.vm.findClass o = some c ∧ U.fieldFound? o n d = some (c, k, i, f) ∧ f.isStatic = true ∧ k.statics = some a ∧ U.heap[a]? = some cell ∧ cell.vm.isStatics = true ∧ cell.cls = c ∧ f.slot < cell.slots.size ∧ k.staticTypes[f.slot]? = some f.type ∧ cell.slots[f.slot]? = some v ∧ (v = .null ∨ ∃ q, v = .ref q)
theorem xzs.of {o n d : String} {args : Array Value} {U : State} (h1 : (Cond.laysStatic o n d).before args U = true) (h2 : (Cond.isRef (.static o n d)).before args U = true) : xzs o n d U := by
  obtain ⟨c, k, i, f, a, cell, hc, hi, hst, ha, hcell, hs, hcls, hlt, hty⟩ := Cond.laysStatic_spec h1
  cases hv : (Term.static o n d).eval args U none [] U with
  | none => simp [Cond.before, Cond.holds, Cond.value, hv] at h2
  | some w =>
    obtain ⟨-, a', cell', ha', hcell', -, hslot⟩ := Term.static_spec hi hv
    cases ha.symm.trans ha'
    cases hcell.symm.trans hcell'
    simp only [Cond.before, Cond.holds, Cond.value, hv] at h2
    refine ⟨c, k, i, f, a, cell, w, hc, hi, hst, ha, hcell, hs, hcls, hlt, hty, hslot, ?_⟩
    cases w with
    | null => exact Or.inl rfl
    | ref q => exact Or.inr ⟨q, rfl⟩
    | _ => simp at h2
theorem xzs.lays {o n d : String} {U : State} (args : Array Value) (h : xzs o n d U) : (Cond.laysStatic o n d).before args U = true := by
  obtain ⟨c, k, i, f, a, cell, v, h1, h2, h3, h4, h5, h6, h7, h8, h9, h10, h11⟩ := h
  simp [Cond.before, Cond.holds, Cond.value, h1, h2, h3, h4, h5, h6, h7, h8, h9]
theorem xzs.isRef {o n d : String} {U : State} (args : Array Value) (h : xzs o n d U) : (Cond.isRef (.static o n d)).before args U = true := by
  obtain ⟨c, k, i, f, a, cell, v, h1, h2, h3, h4, h5, h6, h7, h8, h9, h10, h11⟩ := h
  have hv : (Term.static o n d).eval args U none [] U = some v := by
    simp [Term.eval, State.fieldNamed?, h2, h3, h4, h5, h6, h10]
  rcases h11 with rfl | ⟨q, rfl⟩ <;> simp [Cond.before, Cond.holds, Cond.value, hv]
/-- the cells of statics are as they were -/
def xh (H H1 : Heap) : Prop := ∀ (a : Addr) (cell : Cell), H[a]? = some cell → cell.vm.isStatics = true → H1[a]? = some cell
theorem xzs.moved {o n d : String} {U V : State} (hvm : U.vm.Alike V.vm) (hh : xh U.heap V.heap) (h : xzs o n d U) : xzs o n d V := by
  obtain ⟨c, k, i, f, a, cell, v, h1, h2, h3, h4, h5, h6, h7, h8, h9, h10, h11⟩ := h
  obtain ⟨k', hi', he⟩ := State.fieldFound?_setVm hvm h2
  exact ⟨c, k', i, f, a, cell, v, by rw [hvm.findClass]; exact h1, hi', h3, by rw [he]; exact h4, hh a cell h5 h6, h6, h7, h8, by rw [he]; exact h9, h10, h11⟩
/-- words of the tables that every state of the run keeps, beside tb -/
def xface : List Cond := [.declares ⟨"java/lang/RuntimeException", "<init>", "()V"⟩, .declares ⟨"java/lang/Exception", "<init>", "()V"⟩, .declares ⟨"java/lang/Throwable", "<init>", "()V"⟩, .castable "java/lang/IllegalArgumentException" "java/lang/IllegalArgumentException", .castable "java/lang/IndexOutOfBoundsException" "java/lang/IndexOutOfBoundsException", .castable "java/lang/UnsupportedOperationException" "java/lang/UnsupportedOperationException"]
theorem xface_moved {u U : State} (hvm : u.vm.Alike U.vm) (h : ∀ w ∈ xface, w.before #[] u = true) : ∀ w ∈ xface, w.before #[] U = true := by
  have tr : ∀ {c : Cond}, c.onTables = true → c.before #[] (u.setVm U.vm) = true → c.before #[] U = true := by
    intro c hc h
    have e := Cond.onTables_vm (A := #[]) (A' := #[]) (U := u) (U' := U) U.vm c hc
    have hU : U.setVm U.vm = U := rfl
    rw [hU] at e
    rw [← e]
    exact h
  intro w hw
  have h1 := h w hw
  simp only [xface, List.mem_cons, List.not_mem_nil, or_false] at hw
  rcases hw with rfl | rfl | rfl | rfl | rfl | rfl
  · exact tr rfl (by rw [Cond.declares_setVm hvm]; exact h1)
  · exact tr rfl (by rw [Cond.declares_setVm hvm]; exact h1)
  · exact tr rfl (by rw [Cond.declares_setVm hvm]; exact h1)
  · exact tr rfl (by rw [Cond.castable_setVm hvm]; exact h1)
  · exact tr rfl (by rw [Cond.castable_setVm hvm]; exact h1)
  · exact tr rfl (by rw [Cond.castable_setVm hvm]; exact h1)
def xz (U : State) : Prop := xzs "java/lang/Throwable" "UNASSIGNED_STACK" "[Ljava/lang/StackTraceElement;" U ∧ xzs "java/lang/Throwable" "SUPPRESSED_SENTINEL" "Ljava/util/List;" U ∧ (∀ w ∈ xface, w.before #[] U = true) ∧ va_Nc "java/lang/IndexOutOfBoundsException" "java/lang/IllegalArgumentException" U ∧ va_Nc "java/lang/UnsupportedOperationException" "java/lang/IndexOutOfBoundsException" U
theorem xz.moved {U V : State} (h : xz U) (hvm : U.vm.Alike V.vm) (hh : xh U.heap V.heap) : xz V := ⟨h.1.moved hvm hh, h.2.1.moved hvm hh, xface_moved hvm h.2.2.1, h.2.2.2.1.moved hvm, h.2.2.2.2.moved hvm⟩
theorem xz.face {U : State} (h : xz U) (args : Array Value) (k : Nat) {w : Cond} (hk : xface[k]? = some w) (hw : w.onTables = true) : w.before args U = true := va_any hw (h.2.2.1 w (List.mem_of_getElem? hk))
/-- no cell of statics lies in A -/
def xn (A : Nat → Prop) (H : Heap) : Prop := ∀ (q : Nat) (cell : Cell), A q → H[q]? = some cell → cell.vm.isStatics = false
theorem xh_of_S {A : Nat → Prop} {H0 H : Heap} {locs : List Loc} (hN : xn A H0) (hS : va_S A H0 H locs) : xh H0 H := by
  intro a cell h hst
  have hlt : a < H0.size := (Array.getElem?_eq_some_iff.mp h).1
  rw [hS.2.1 a hlt (fun hA => by rw [hN a cell hA h] at hst; cases hst)]
  exact h
theorem xn_new (H : Heap) : xn (fun q => H.size ≤ q) H := fun q cell h hc => absurd (Array.getElem?_eq_some_iff.mp hc).1 (Nat.not_lt.mpr h)
theorem xn_A {D : va_G} {cl : List vw_C} {ws : va_W} {H : Heap} (hP : va_P D cl ws H) : xn (va_A ws H.size) H := by
  intro q cell h hc
  rcases h with ⟨k, e, h⟩ | h
  · have h1 := hP k _ h
    cases e with
    | inl x =>
      have h2 : H[q]? = some (vp_cell x.1 x.2) := h1
      rw [h2] at hc
      cases hc
      obtain ⟨cA, n, f | f | f | f | f⟩ := x <;> rfl
    | inr o =>
      obtain ⟨r, -, cell', g1, -, g3, -⟩ := h1
      rw [show H[q]? = some cell' from g1] at hc
      cases hc
      rw [g3]; rfl
  · exact xn_new H q cell h hc
section XT
variable {p : Program} {l : Launch} {e : Env} {R : Room} {s : State} {m : MethodId} {args : Array Value} {below : List Frame} {meth : Method} {c : Code} {H : Heap} {locs : List Loc} {cells slots : Nat} {Q : State → Prop}
theorem xz_at {A : Nat → Prop} {U : State} (hz : xz s) (hN : xn A s.heap) (hS : va_S A s.heap H locs) (hU : U.heap = H) (hW : s.WarmedH U.vm) : xz U := hz.moved hW.alike (by rw [hU]; exact xh_of_S hN hS)
/-- the contract of a method that throws -/
def Thr (l : Launch) (y : MethodName) (ws : List Cond) (rm : Room) (Pc : Array Value → State → Prop) (Qc : Array Value → State → Addr → State → Prop) (mc ms : Nat) (free : Addr → Prop) : Prop :=
  MetFree l y (headSpec ws rm) Pc (fun _ _ _ _ _ => True) (fun a st o t => ∃ x, o = .threw x ∧ Qc a st x t ∧ ∃ L, (st.WarmedH t.vm ∧ st.sameButNew ({ t with vm := st.vm } : State) L mc ms) ∧ ∀ q ∈ L, free q.base)
def TQ (below : List Frame) (Qc : Array Value → State → Addr → State → Prop) (a : Array Value) (s : State) (mc ms : Nat) (free : Addr → Prop) : State → Prop := fun t =>
  ∃ x, t.status = .running ∧ Ended t below (.threw x) ∧ Qc a s x t ∧ ∃ L, (s.WarmedH t.vm ∧ s.sameButNew ({ t with vm := s.vm } : State) L mc ms) ∧ ∀ q ∈ L, free q.base
theorem Thr.ofW {y : MethodName} {ws ws' : List Cond} {rm : Room} {Pc : Array Value → State → Prop} {Qc : Array Value → State → Addr → State → Prop} {mc ms : Nat} {free : Addr → Prop} {cc : ByteArray} {maxL : Nat} {ret : Option FieldType}
    (hy : plainName y.cls = true) (hw : ws = Cond.code y cc maxL ret :: ws')
    (body : ∀ p e s m args below meth c s₁, BodyLoose p l y (headSpec ws rm) cc maxL ret e s m args below meth c s₁ → c.maxLocals = maxL → Pc args s →
      W p l e (headSpec ws rm).room s m args below meth c s.heap [] 0 0 (TQ below Qc args s mc ms free) (entryFrame m args maxL)) : Thr l y ws rm Pc Qc mc ms free := by
  refine MetFree.of_bodyS (code := cc) (maxLocals := maxL) (ret := ret) hy ?_ ?_
  · intro args s m h hn
    obtain ⟨meth, c, h1, h2, h3, h4, h5, h6, -, -⟩ := Cond.code_spec hn (atoms_spec (ws := ws) h _ (by rw [hw]; exact List.mem_cons_self))
    exact ⟨meth, c, h1, h2, h3, h4, h5, h6⟩
  · intro p e s m args below meth c s₁ B hml hP _
    have hh0 : s₁.heap = s.heap := by rw [B.state]; rfl
    obtain ⟨t, a1, x, b1, b2, b3, b4⟩ := body p e s m args below meth c s₁ B hml hP s₁ hh0 (Stand.of_body B)
    exact ⟨t, .threw x, a1, b1, b2, x, rfl, b3, b4⟩
/-- from the invocation of a method that throws to the note over the caller's frame -/
theorem thr_back {y : MethodName} {ws : List Cond} {rm : Room} {Pc : Array Value → State → Prop} {Qc : Array Value → State → Addr → State → Prop} {mc ms Wd : Nat} {free : Addr → Prop} {bytes : ByteArray} {maxL : Nat} {ret : Option FieldType}
    (hM : Thr l y ws rm Pc Qc mc ms free) (hblind : FrameBlind Pc) (hrc : rm.cells = mc) (hrs : rm.slots = ms)
    (hframes : rm.frames + 1 ≤ R.frames) (hlocals : Wd + (maxL + 11) + rm.locals ≤ R.locals)
    (hws : ∀ w ∈ ws, ∀ (a' : Array Value) (U : State), s.WarmedH U.vm → w.before a' U = true) (hcode : Cond.code y bytes maxL ret ∈ ws) (hinit : ∀ (a' : Array Value) (U : State), s.WarmedH U.vm → (Cond.initialized y.cls).before a' U = true)
    {U : State} {g : JFrame} {ig : Instr} {len : Nat} {mk : MethodId} {a : Array Value}
    (X : Stand p l e R s m args below meth c U locs cells slots) (hg : g.method = m) (hsize : g.locals.size = c.maxLocals) (hdg : decode c.code g.pc = .ok (ig, len)) (hW : 2 * g.monitorRoom + (g.stack.map fun v => v.category).sum ≤ Wd)
    (hn : U.methodNamed? y = some mk) (hc1 : cells + mc ≤ R.cells) (hs1 : slots + ms ≤ R.slots) (hPc : Pc a U) :
    ∃ (x : Addr) (t T' : State) (L : List Loc), Stand p l e R s m args below meth c T' (locs ++ L) (cells + mc) (slots + ms) ∧ (∀ q ∈ L, free q.base) ∧ T'.heap = t.heap ∧ T'.vm = t.vm ∧ Qc a (U.calling g mk a) x t ∧
      Steps p.tables e below (doInvoke e (U.setTop g) [] mk a).1 ((T'.setTop g).pushFrame (.throwing x)) := by
  have h2 := hws _ hcode a U X.warmed
  obtain ⟨methY, cY, hmY, hcY, -, hlY, -, -, -, -⟩ := Cond.code_spec hn h2
  obtain ⟨kY, hkY, -⟩ := className_of_methodNamed hn
  have hinitY : kY.init = .initialized := Cond.initialized_spec (findClass_of_methodNamed hn) hkY (hinit a U X.warmed)
  have h : At U g.method c below := by rw [hg]; exact X.here
  have happ : (headSpec ws rm).appliesLoose y e.platform (U.calling g mk a) = true :=
    Spec.appliesLoose_calling (g := g) h hdg hn hkY hinitY
      (X.room_calling (g := g) (R' := (headSpec ws rm).room) hsize hmY hcY hframes (by rw [hlY]; show _ + (maxL + 11) + rm.locals ≤ _; omega) (by show cells + rm.cells ≤ _; rw [hrc]; exact hc1) (by show slots + rm.slots ≤ _; rw [hrs]; exact hs1)) (atoms_intro fun w hw => hws w hw _ _ X.warmed)
  obtain ⟨mid, hmid⟩ := h.above
  have hfr : (U.setTop g).frames = (.java g :: mid) ++ below := by rw [State.frames_setTop' g h.top, hmid]; rfl
  obtain ⟨o, s₂, hsteps, -, hend, hq⟩ := Steps.callFree hM p X.admits X.cas X.clock (acts := []) hfr happ (hblind _ _ g mk hPc) trivial
  obtain ⟨x, rfl, hq1, L, ⟨hW₂, e2, q2, q3, q4, q5, q6⟩, hL⟩ := hq
  rw [State.frames_setTop' g h.top] at hend
  have e3 : s₂ = ({ (U.calling g mk a).setFrames s₂.frames with heap := s₂.heap, slotsUsed := s₂.slotsUsed } : State).setVm s₂.vm := by
    have : s₂ = ({ s₂ with vm := (U.calling g mk a).vm } : State).setVm s₂.vm := rfl
    rw [show ({ s₂ with vm := (U.calling g mk a).vm } : State) = { (U.calling g mk a).setFrames s₂.frames with heap := s₂.heap, slotsUsed := s₂.slotsUsed } from e2] at this
    exact this
  have hW' : U.WarmedH s₂.vm := hW₂
  have hf₂ : s₂.frames = .throwing x :: .java g :: U.frames.tail := hend
  obtain ⟨g₀, hg0⟩ := Option.isSome_iff_exists.mp h.top
  obtain ⟨r, hr⟩ := State.topJava?_eq_some.mp hg0
  have hr' : (({ U with heap := s₂.heap, slotsUsed := s₂.slotsUsed } : State).setVm s₂.vm).frames = .java g₀ :: r := hr
  have hs₂ : s₂ = ((({ U with heap := s₂.heap, slotsUsed := s₂.slotsUsed } : State).setVm s₂.vm).setTop g).pushFrame (.throwing x) := by
    refine e3.trans ?_
    rw [hf₂, State.calling_eq h.top, State.setFrames_setFrames, State.pushFrame, State.frames_setTop _ hr', State.setTop_of_frames _ hr', State.setFrames_setFrames, hr]
    rfl
  have hsame : U.sameButNew ({ U with heap := s₂.heap, slotsUsed := s₂.slotsUsed } : State) L mc ms := by
    refine ⟨?_, q2, q3, q4, q5, q6⟩
    obtain ⟨t, ht, -⟩ := State.frames_cons hr
    show ({ U with heap := s₂.heap, slotsUsed := s₂.slotsUsed } : State) = { U.setFrames U.frames with heap := s₂.heap, slotsUsed := s₂.slotsUsed }
    rw [State.setFrames_self ht]
  subst hg
  refine ⟨x, s₂, (({ U with heap := s₂.heap, slotsUsed := s₂.slotsUsed } : State).setVm s₂.vm), L,
    ⟨X.admits, X.cas, X.clock, X.frames, X.room, X.hears, X.method, X.code, (X.here.setHeapUsed s₂.heap s₂.slotsUsed).setVm hW'.alike, X.tail, State.WarmedH.trans X.warmed hW', X.limits, X.bytes, X.same.trans (hsame.setVm s.vm)⟩, hL, rfl, rfl, hq1, ?_⟩
  rw [← hs₂]
  exact hsteps
/-- a call of a method that throws -/
def TRun (p : Program) (l : Launch) (e : Env) (R : Room) (s : State) (m : MethodId) (args : Array Value) (below : List Frame) (meth : Method) (c : Code) (H : Heap) (locs : List Loc) (cells slots mc ms : Nat) (g : JFrame) (rest : List Value) (Qa : State → Addr → State → Prop) (free : Addr → Prop) : Prop :=
  ∀ T : State, T.heap = H → Stand p l e R s m args below meth c T locs cells slots → ∃ (x : Addr) (st₀ t T' : State) (L : List Loc), st₀.heap = H ∧ Stand p l e R s m args below meth c T' (locs ++ L) (cells + mc) (slots + ms) ∧ (∀ q ∈ L, free q.base) ∧ T'.heap = t.heap ∧ T'.vm = t.vm ∧ Qa st₀ x t ∧
    ∀ target, Steps p.tables e below ((T'.setTop { g with stack := rest }).pushFrame (.throwing x)) target → Steps p.tables e below (T.setTop g) target
variable {y : MethodName} {bytes cc : ByteArray} {maxL nL mc ms n index : Nat} {ret : Option FieldType} {ws : List Cond} {rm : Room} {Pc : Array Value → State → Prop} {Qc : Array Value → State → Addr → State → Prop} {free : Addr → Prop} {Ts : List Cond} {own C : String} {b : Addr} {As rest : List Value} {g : JFrame}
theorem thr_runS (S : CallFix p m c cc nL s args Ts own) (hM : Thr l y ws rm Pc Qc mc ms free) (cw : CallB R s args own index y bytes maxL ret ws rm mc ms n ∧ (Cond.static y).before args s = true) (hp : PreS s H Pc As)
    (hg : g.method = m) (hn : As.length = n) (hsize : g.locals.size = nL) (hstack : g.stack = As.reverse ++ rest) (hW : 2 * g.monitorRoom + (rest.map fun v => v.category).sum ≤ 8) (hdg : decode cc g.pc = .ok (.invokestatic index, 3)) (hf : cells + mc ≤ R.cells ∧ slots + ms ≤ R.slots) :
    TRun p l e R s m args below meth c H locs cells slots mc ms g rest (Qc As.toArray) free := by
  obtain ⟨⟨hrc, hrs, hfr, hlo, hws, hcw, hcode, hini, hy, hlen, hl⟩, hstt⟩ := cw
  obtain ⟨hx, hb, hml, ho, -⟩ := S
  intro T hT X
  obtain ⟨mk, hnamed⟩ := Cond.code_named hcode
  obtain ⟨methM, cM, hmethM, -, -, -, -, -, -, hsigM⟩ := Cond.code_spec hnamed hcode
  have hstatic : methM.isStatic = true := Cond.static_spec hnamed hmethM hstt
  obtain ⟨kP, hkP, -⟩ := className_of_methodNamed hnamed
  have hinitP : kP.init = .initialized := Cond.initialized_spec (findClass_of_methodNamed hnamed) hkP hini
  obtain ⟨vm₁, X₁, hstep₁⟩ := X.invokestatic hx ho hl hnamed hmethM hstatic hkP hinitP hy (g := g) hg (argsL := As) (rest := rest) (hn.trans (hlen _ hsigM)) hstack (by rw [hb]; exact hdg)
  obtain ⟨x, t, T', L, X', hL, e1, e2, hq, st⟩ := thr_back (Wd := 8) (ig := .invokestatic index) (len := 3) (g := { g with stack := rest }) (mk := mk) (a := As.toArray) hM hp.1 hrc hrs hfr hlo hws hcw (fun a' U hW => word_at hW (Or.inl (by first | rfl | simp [Cond.onTables, Cond.keeps, Cond.steady])) hini) X₁ hg (hsize.trans hml.symm) (by rw [hb]; exact hdg) hW (X₁.named hnamed) hf.1 hf.2 (hp.2 (T.setVm vm₁) hT X₁.warmed)
  exact ⟨x, _, t, T', L, by show (T.setVm vm₁).heap = H; exact hT, X', hL, e1, e2, hq, fun target h => hstep₁ _ fun acts => by rw [doInvoke_state]; exact st.trans h⟩
theorem thr_runV (S : CallFix p m c cc nL s args Ts own) (hM : Thr l y ws rm Pc Qc mc ms free) (cw : CallW R s args own C index y bytes maxL ret ws rm mc ms n) (hp : PreV s H C b Pc As)
    (hg : g.method = m) (hn : As.length = n) (hsize : g.locals.size = nL) (hstack : g.stack = As.reverse ++ .ref b :: rest) (hW : 2 * g.monitorRoom + (rest.map fun v => v.category).sum ≤ 8) (hdg : decode cc g.pc = .ok (.invokevirtual index, 3)) (hf : cells + mc ≤ R.cells ∧ slots + ms ≤ R.slots) :
    TRun p l e R s m args below meth c H locs cells slots mc ms g rest (Qc (Value.ref b :: As).toArray) free := by
  obtain ⟨⟨hrc, hrs, hfr, hlo, hws, hcw, hcode, hini, hy, hlen, hl⟩, hinst, hsel⟩ := cw
  obtain ⟨hx, hb, hml, ho, -⟩ := S
  obtain ⟨hbl, ⟨cellB, hcB, hobj, hcls⟩, hPc⟩ := hp
  intro T hT X
  obtain ⟨mk, methM, hnamed, hmethM, hstM, habM⟩ := Cond.instanceMethod_spec hinst
  obtain ⟨methM', cM, hmethM', -, -, -, -, -, -, hsigM⟩ := Cond.code_spec hnamed hcode
  cases hmethM.symm.trans hmethM'
  obtain ⟨c2, r2, m2, q1, q2, q3, q4, kP, hkP, hkPi⟩ := Cond.selects_spec hsel
  cases hcls.symm.trans q1
  cases (State.methodFound?_of_named hnamed hy).symm.trans q2
  cases hnamed.symm.trans q3
  have hselP : selectMethod e.platform s.vm cellB.cls mk = .method mk := by rw [Launch.admits_selectMethod X.admits]; exact q4
  obtain ⟨vm₁, X₁, hstep₁⟩ := X.invokevirtual hx ho hl hnamed hmethM hstM hkP hkPi hy (a := b) (cell := cellB) (by rw [hT]; exact hcB)
    (fun z h => by rw [h] at hobj; cases hobj) hselP hmethM habM hkP hkPi (g := g) hg (argsL := As) (rest := rest) (hn.trans (hlen _ hsigM)) hstack (by rw [hb]; exact hdg)
  obtain ⟨x, t, T', L, X', hL, e1, e2, hq, st⟩ := thr_back (Wd := 8) (ig := .invokevirtual index) (len := 3) (g := { g with stack := rest }) (mk := mk) (a := (Value.ref b :: As).toArray) hM hbl hrc hrs hfr hlo hws hcw (fun a' U hW => word_at hW (Or.inl (by first | rfl | simp [Cond.onTables, Cond.keeps, Cond.steady])) hini) X₁ hg (hsize.trans hml.symm) (by rw [hb]; exact hdg) hW (X₁.named hnamed) hf.1 hf.2 (hPc (T.setVm vm₁) hT X₁.warmed)
  exact ⟨x, _, t, T', L, by show (T.setVm vm₁).heap = H; exact hT, X', hL, e1, e2, hq, fun target h => hstep₁ _ fun acts => by rw [doInvoke_state]; exact st.trans h⟩
/-- the end of a method that throws: of which class the object is, what the world is, the frame -/
def xQ (cls : String) (B : State → Prop) (A : Nat → Prop) : Array Value → State → Addr → State → Prop := fun _ st x t => (∃ ce : Cell, t.heap[x]? = some ce ∧ ce.vm.isStatics = false ∧ t.vm.findClass cls = some ce.cls) ∧ B t ∧ va_F A st t
variable {pc : Nat} {ls : Array Slot} {st0 : List Value} {a : Array Value} {A0 A1 : Nat → Prop} {H0 : Heap}
/-- what is thrown in a callee goes on out of the caller -/
theorem xt_prop {cls : String} {B B' : State → Prop} (hr : TRun p l e R s m args below meth c H locs cells slots mc ms (F0 m pc ls st0) rest (xQ cls B A1 a) free) (hS : va_S A0 s.heap H locs) (hA : ∀ q, q < H.size → A1 q → A0 q) (hf : ∀ q, free q → A0 q)
    (hnh : c.exceptionTable.isEmpty = true) (hlocks : meth.locks = false) (hB : ∀ t : State, s.vm.Alike t.vm → B t → H.size ≤ t.heap.size → (∀ q : Nat, q < H.size → ¬ A1 q → t.heap[q]? = H[q]?) → ∀ t' : State, t'.heap = t.heap → s.vm.Alike t'.vm → B' t') :
    W p l e R s m args below meth c H locs cells slots (TQ below (xQ cls B' A0) args s (cells + mc) (slots + ms) A0) (F0 m pc ls st0) := by
  intro T hT X
  obtain ⟨x, st₀, t, T', L, h0, X', hL, e1, e2, ⟨⟨ce, g1, g2, g3⟩, hb, hz, hk⟩, st⟩ := hr T hT X
  rw [h0] at hz hk
  have hvm : s.vm.Alike t.vm := by rw [← e2]; exact X'.warmed.alike
  obtain ⟨w1, w2, w3, w4, w5⟩ := X'.leaveThrown x (g := { F0 m pc ls st0 with stack := rest }) rfl rfl rfl (covers_of_empty hnh _) hlocks
  refine ⟨_, st _ w1, x, w2, w3, ⟨⟨ce, ?_, g2, ?_⟩, ?_, ?_, ?_⟩, locs ++ L, ⟨w4, w5⟩, fun q hq => ?_⟩
  · show T'.heap[x]? = some ce
    rw [e1]; exact g1
  · show T'.vm.findClass cls = some ce.cls
    rw [e2]; exact g3
  · exact hB t hvm hb hz hk _ e1 (by rw [show (T'.setFrames (.throwing x :: below)).vm = t.vm from e2]; exact hvm)
  · show s.heap.size ≤ T'.heap.size
    rw [e1]; exact Nat.le_trans hS.1 hz
  · intro q h1 h2
    show T'.heap[q]? = s.heap[q]?
    rw [e1, hk q (Nat.lt_of_lt_of_le h1 hS.1) (fun z => h2 (hA q (Nat.lt_of_lt_of_le h1 hS.1) z))]
    exact hS.2.1 q h1 h2
  · rcases List.mem_append.mp hq with h | h
    · exact hS.2.2 q h
    · exact hf _ (hL q h)
theorem xt_frame {s U : State} {k n : Nat} (h : s.sameButNew ({ U with vm := s.vm } : State) [] k n) : va_F (fun q => s.heap.size ≤ q) s U := by
  refine ⟨h.2.1, fun q hq _ => ?_⟩
  have hc : s.heap[q]? = some s.heap[q] := Array.getElem?_eq_getElem hq
  rw [hc]
  exact kept_of_same (keep := fun _ => True) h (fun _ h => by cases h) q _ trivial hc
/-- new X(); dup; <init>; athrow in a method that has changed nothing -/
theorem xt_throw {cls own : String} {ia ic : Nat} {names : List String} (hx : p.tables.exec = Jvm.exec) (hb : c.code = cc) (hml : c.maxLocals = nL) (hown : s.vm.findClass own = some m.cls) (htr : e.platform.stackTraces = false)
    (hcls : Bundle.fit cls = true) (hnames : ∀ n ∈ names, Bundle.fit n = true) (hat : ∀ a ∈ Bundle.ownAtoms0 own ic cls names, a.before args s = true)
    (hcl : (Cond.classLink own ia cls).before args s = true) (hins : (Cond.instantiable cls 6).before args s = true) (hini : (Cond.initialized cls).before args s = true)
    (hsz : ls.size = nL) (hnh : c.exceptionTable.isEmpty = true) (hlocks : meth.locks = false) (hRc : 1 ≤ R.cells) (hRs : 6 ≤ R.slots) (hRf : names.length + 3 < R.frames) (hRl : 1 + (13 * (names.length + 1) + 41) ≤ R.locals)
    (hd0 : decode cc pc = .ok (.new ia, 3)) (hd3 : decode cc (pc + 3) = .ok (.dup, 1)) (hd4 : decode cc (pc + 4) = .ok (.invokespecial ic, 3)) (hd7 : decode cc (pc + 7) = .ok (.athrow, 1)) :
    W p l e R s m args below meth c s.heap [] 0 0 (TQ below (xQ cls (fun _ => True) (fun q => s.heap.size ≤ q)) args s 1 6 (fun q => s.heap.size ≤ q)) (F0 m pc ls []) := by
  intro T hT X
  subst hb
  obtain ⟨vm₁, cX, kX, hfX, hkX, -, -, X₁, st1⟩ := X.newCold hx (own := own) (C := cls) (index := ia) (n := 6) hown hcl hins hini (g := F0 m pc ls []) rfl hd0 (by omega) (by omega)
  have X2 : Stand p l e R s m args below meth c ((T.setVm vm₁).pushCell { cls := cX, slots := kX.instanceTypes.map defaultValue, vm := .none }) [] 1 6 := X₁
  have hcellA : ((T.setVm vm₁).pushCell { cls := cX, slots := kX.instanceTypes.map defaultValue, vm := .none }).heap[T.heap.size]? = some (freshCell cX kX) := State.heap_pushCell_size _ _
  generalize (T.setVm vm₁).pushCell { cls := cX, slots := kX.instanceTypes.map defaultValue, vm := .none } = T2 at X2 hcellA st1
  obtain ⟨U, hsteps, hrun, hend, hW, hsame, ce, hce, K⟩ := X2.ctorThrow0 hx htr (own := own) (cls := cls) (names := names) (ic := ic) hown hcls hnames hat (fun y hy => by cases hy) hfX hkX hcellA (by rw [hT]; exact Nat.le_refl _)
    (g := F0 m (pc + 4) ls [.ref T.heap.size, .ref T.heap.size]) rfl (by show ls.size = _; rw [hsz, hml]) rfl rfl (rest := []) rfl hd4 hd7 (covers_of_empty hnh _) hRf (by simpa [Value.category, JFrame.monitorRoom] using hRl)
  refine ⟨U, ?_, T.heap.size, hrun, hend, ⟨⟨ce, hce, by rw [K.vm]; rfl, by rw [hW.alike.findClass]; exact K.cls⟩, trivial, xt_frame hsame⟩, [], ⟨hW, hsame⟩, fun q hq => by cases hq⟩
  refine st1 _ ?_
  show Steps p.tables e below (T2.setTop (F0 m (pc + 3) ls [.ref T.heap.size])) _
  jvm_step X2.here [X2.here.top, ↓top_set X2.here.top, hx, hd3, Value.category]
  exact hsteps
end XT
section XC
variable {e : Env} {s : State} {f : JFrame} {a : Addr}
theorem xc_go {x : ExceptionTableEntry} {t : List ExceptionTableEntry} {c : ClassId} {vm' : Vm} {Q : Handler → Jvm.Pre} {E : Jvm.CtlPost} {d : Bool} {acts : List Action} (hx : covers x f.pc = true) (h0 : x.catchType ≠ 0)
    (hg : (Jvm.resolveClass f.method.cls x.catchType).Gives e.toSetting s.vm (.ok c) vm') (hr : vm'.classReady f.method.cls x.catchType c) (hsz : vm'.classes.size ≤ s.vm.classes.size) :
    Sem.wp (findHandler.go f a (x :: t)) Q E e d acts s ↔ Sem.wp (findHandler.go f a (x :: t)) Q E e d acts (s.setVm vm') := by
  obtain ⟨ha, ht⟩ := hg.op (op := VmOp.resolveClass f.method.cls x.catchType) rfl
  obtain ⟨k, hkd, hres⟩ := hr
  simp only [covers] at hx
  simp [findHandler.go, hx, h0, ha, ht, hsz, resolveClass_memo e hkd hres, VmOp.dirties, VmOp.acts]
  try exact Iff.rfl
end XC
end
section
/-! the handler: the search of a table whose classes may not be resolved yet -/
section XC2
variable {e : Env} {s s0 : State} {f : JFrame} {a : Addr}
theorem xc_first {meth : Method} {code : Code} {x : ExceptionTableEntry} {t : List ExceptionTableEntry} {c : ClassId} {cell : Cell} (hm : s.vm.method? f.method = some meth) (hc : meth.code = some code) (hsp : code.exceptionTable.toList = x :: t) (hx : covers x f.pc = true) (h0 : x.catchType ≠ 0)
    (hW : s0.WarmedH s.vm) (hl : s0.vm.ClassLinks e.platform f.method.cls x.catchType c) (hcell : s.heap[a]? = some cell) (hobj : cell.vm.isStatics = false) (hk : ∃ k, s0.vm.classes[cell.cls]? = some k) (hkc : ∃ k, s0.vm.classes[c]? = some k) (has : s0.vm.assignable cell.cls c = true) :
    ∃ vm', s0.WarmedH vm' ∧ ∀ (Q : Handler → Jvm.Pre) (E : Jvm.CtlPost) (d : Bool) (acts : List Action), Sem.wp (findHandler f a) Q E e d acts s ↔ Q (.found x.handlerPc) d acts (s.setVm vm') := by
  obtain ⟨hg, hwarm, hready⟩ := State.classEntry (e := e) hW hl
  obtain ⟨k1, hk1⟩ := hk
  obtain ⟨k2, hk2⟩ := hkc
  obtain ⟨k1', hk1', -⟩ := hwarm.alike.2.2 _ _ hk1
  obtain ⟨k2', hk2', -⟩ := hwarm.alike.2.2 _ _ hk2
  have hsz : (s.vm.noted f.method.cls x.catchType (.cls c)).classes.size ≤ s.vm.classes.size := Nat.le_of_eq (Vm.size_noted _ _ _ _)
  generalize s.vm.noted f.method.cls x.catchType (.cls c) = vm' at hg hwarm hready hk1' hk2' hsz
  refine ⟨vm', hwarm, fun Q E d acts => ?_⟩
  rw [W.findHandler_eq hm hc, hsp, xc_go hx h0 hg hready hsz, W.findHandler_go_class (s := s.setVm vm') (cell := cell) hx h0 hready hcell (VmData.ne_statics_of hobj) ⟨_, hk1'⟩ ⟨_, hk2'⟩, if_pos (by show vm'.assignable cell.cls c = true; rw [hwarm.alike.assignable]; exact has)]
theorem xc_second {meth : Method} {code : Code} {x z : ExceptionTableEntry} {t : List ExceptionTableEntry} {c c2 : ClassId} {cell : Cell} (hm : s.vm.method? f.method = some meth) (hc : meth.code = some code) (hsp : code.exceptionTable.toList = x :: z :: t) (hx : covers x f.pc = true) (h0 : x.catchType ≠ 0) (hz : covers z f.pc = true) (h02 : z.catchType ≠ 0)
    (hW : s0.WarmedH s.vm) (hl : s0.vm.ClassLinks e.platform f.method.cls x.catchType c) (hl2 : s0.vm.ClassLinks e.platform f.method.cls z.catchType c2) (hcell : s.heap[a]? = some cell) (hobj : cell.vm.isStatics = false) (hk : ∃ k, s0.vm.classes[cell.cls]? = some k) (hkc : ∃ k, s0.vm.classes[c]? = some k) (hkc2 : ∃ k, s0.vm.classes[c2]? = some k) (has : s0.vm.assignable cell.cls c = false) (has2 : s0.vm.assignable cell.cls c2 = true) :
    ∃ vm', s0.WarmedH vm' ∧ ∀ (Q : Handler → Jvm.Pre) (E : Jvm.CtlPost) (d : Bool) (acts : List Action), Sem.wp (findHandler f a) Q E e d acts s ↔ Q (.found z.handlerPc) d acts (s.setVm vm') := by
  obtain ⟨hg, hwarm, hready⟩ := State.classEntry (e := e) hW hl
  obtain ⟨k1, hk1⟩ := hk
  obtain ⟨k2, hk2⟩ := hkc
  obtain ⟨k3, hk3⟩ := hkc2
  obtain ⟨k1', hk1', -⟩ := hwarm.alike.2.2 _ _ hk1
  obtain ⟨k2', hk2', -⟩ := hwarm.alike.2.2 _ _ hk2
  have hsz : (s.vm.noted f.method.cls x.catchType (.cls c)).classes.size ≤ s.vm.classes.size := Nat.le_of_eq (Vm.size_noted _ _ _ _)
  generalize s.vm.noted f.method.cls x.catchType (.cls c) = vm1 at hg hwarm hready hk1' hk2' hsz
  obtain ⟨hg2, hwarm2, hready2⟩ := State.classEntry (e := e) hwarm hl2
  obtain ⟨k4', hk4', -⟩ := hwarm2.alike.2.2 _ _ hk1
  obtain ⟨k5', hk5', -⟩ := hwarm2.alike.2.2 _ _ hk3
  have hsz2 : (vm1.noted f.method.cls z.catchType (.cls c2)).classes.size ≤ vm1.classes.size := Nat.le_of_eq (Vm.size_noted _ _ _ _)
  generalize vm1.noted f.method.cls z.catchType (.cls c2) = vm2 at hg2 hwarm2 hready2 hk4' hk5' hsz2
  refine ⟨vm2, hwarm2, fun Q E d acts => ?_⟩
  rw [W.findHandler_eq hm hc, hsp, xc_go hx h0 hg hready hsz, W.findHandler_go_class (s := s.setVm vm1) (cell := cell) hx h0 hready hcell (VmData.ne_statics_of hobj) ⟨_, hk1'⟩ ⟨_, hk2'⟩, if_neg (by show ¬ vm1.assignable cell.cls c = true; rw [hwarm.alike.assignable, has]; decide),
    xc_go (s := s.setVm vm1) hz h02 hg2 hready2 hsz2, W.findHandler_go_class (s := (s.setVm vm1).setVm vm2) (cell := cell) hz h02 hready2 hcell (VmData.ne_statics_of hobj) ⟨_, hk4'⟩ ⟨_, hk5'⟩, if_pos (by show vm2.assignable cell.cls c2 = true; rw [hwarm2.alike.assignable]; exact has2)]
  exact Iff.rfl
theorem xc_step {r : List Frame} {pc : Nat} {vm' : Vm} (hfind : ∀ (Q : Handler → Jvm.Pre) (E : Jvm.CtlPost) (d : Bool) (acts : List Action), Sem.wp (findHandler f a) Q E e d acts s ↔ Q (.found pc) d acts (s.setVm vm')) :
    (stepThrowing e s a (.java f :: r)).Is ((s.setVm vm').setFrames (.java { f with pc := pc, stack := [.ref a] } :: r)) [] := by
  simp only [stepThrowing, searchFrame, vmDo]
  generalize hr : Sem.go _ e false [] s = res
  obtain ⟨as, rfl, ha⟩ := Sem.eq_ok_of hr (a := Handler.found pc) (s' := s.setVm vm') (acts' := []) (by simp [hfind _ _ _ _])
  exact ⟨rfl, ha⟩
theorem xc_caught {tbl : Tables} {below : List Frame} {g : JFrame} {c : Code} {target : State} (h : At s g.method c below) {pc : Nat} {vm' : Vm} (hfind : ∀ (Q : Handler → Jvm.Pre) (E : Jvm.CtlPost) (d : Bool) (acts : List Action), Sem.wp (findHandler g a) Q E e d acts ((s.setTop g).pushFrame (.throwing a)) ↔ Q (.found pc) d acts (((s.setTop g).pushFrame (.throwing a)).setVm vm'))
    (hrest : Steps tbl e below ((s.setVm vm').setTop { g with pc := pc, stack := [.ref a] }) target) :
    Steps tbl e below ((s.setTop g).pushFrame (.throwing a)) target := by
  obtain ⟨hgo, hw⟩ := h.throwing a
  refine Steps.head hgo hw ?_
  rw [stepThread_throwing (frames_entered h.top _), (xc_step (s := (s.setTop g).pushFrame (.throwing a)) hfind).1]
  obtain ⟨g₀, hg⟩ := Option.isSome_iff_exists.mp h.top
  obtain ⟨r, hr⟩ := State.topJava?_eq_some.mp hg
  have hr' : (s.setVm vm').frames = .java g₀ :: r := hr
  rw [State.setTop_of_frames _ hr'] at hrest
  rw [State.pushFrame, State.setTop_of_frames _ hr, State.setFrames_setFrames, hr]
  have key : ((s.setFrames (.throwing a :: (s.setFrames (.java g :: r)).frames)).setVm vm').setFrames (.java { g with pc := pc, stack := [.ref a] } :: r) = ((s.setVm vm').setFrames (.throwing a :: (s.setFrames (.java g :: r)).frames)).setFrames (.java { g with pc := pc, stack := [.ref a] } :: r) := rfl
  first
    | exact hrest
    | (rw [State.setFrames_setFrames] at key; rw [show List.tail (Frame.java g₀ :: r) = r from rfl, key]; exact hrest)
    | (rw [State.setFrames_setFrames] at key; rw [key]; exact hrest)
end XC2
section XC3
variable {p : Program} {l : Launch} {e : Env} {R : Room} {s : State} {m : MethodId} {args : Array Value} {below : List Frame} {meth : Method} {c : Code} {H : Heap} {locs : List Loc} {cells slots mc ms : Nat} {Q : State → Prop} {free : Addr → Prop} {rest : List Value}
variable {pc : Nat} {ls : Array Slot} {st0 : List Value} {a : Array Value} {A0 A1 : Nat → Prop} {H0 : Heap}
theorem xc_cls {cls tgt : String} {x t : ClassId} (h : (Cond.castable cls tgt).before args s = true) (h1 : s.vm.findClass cls = some x) (h2 : s.vm.findClass tgt = some t) : s.vm.assignable x t = true := by
  obtain ⟨c3, c4, hc3, hc4, hasg⟩ := Cond.castable_spec h
  cases hc3.symm.trans h1
  cases hc4.symm.trans h2
  exact hasg
theorem xc_ncls {cls tgt : String} {x t : ClassId} (h : va_Nc cls tgt s) (h1 : s.vm.findClass cls = some x) (h2 : s.vm.findClass tgt = some t) : s.vm.assignable x t = false := by
  obtain ⟨c3, c4, hc3, hc4, hasg⟩ := h
  cases hc3.symm.trans h1
  cases hc4.symm.trans h2
  exact hasg
/-- what is thrown in a callee is caught here -/
theorem xt_catch {cls : String} {B : State → Prop} {pcH : Nat} (hr : TRun p l e R s m args below meth c H locs cells slots mc ms (F0 m pc ls st0) rest (xQ cls B A1 a) free) (hS : va_S A0 H0 H locs) (hA : ∀ q, q < H.size → A1 q → A0 q) (hf : ∀ q, free q → A0 q)
    (hfind : ∀ (S : State) (x : Addr) (ce : Cell), S.vm.method? m = some meth → s.WarmedH S.vm → S.heap[x]? = some ce → ce.vm.isStatics = false → s.vm.findClass cls = some ce.cls →
      ∃ vm', s.WarmedH vm' ∧ ∀ (Q : Handler → Jvm.Pre) (E : Jvm.CtlPost) (d : Bool) (acts : List Action), Sem.wp (findHandler (F0 m pc ls rest) x) Q E e d acts S ↔ Q (.found pcH) d acts (S.setVm vm'))
    (kk : ∀ (x : Addr) (t : State) (H1 : Heap) (locs1 : List Loc), t.heap = H1 → s.vm.Alike t.vm → B t → H.size ≤ H1.size → (∀ q : Nat, q < H.size → ¬ A1 q → H1[q]? = H[q]?) → va_S A0 H0 H1 locs1 → W p l e R s m args below meth c H1 locs1 (cells + mc) (slots + ms) Q (F0 m pcH ls [.ref x])) :
    W p l e R s m args below meth c H locs cells slots Q (F0 m pc ls st0) := by
  intro T hT X
  obtain ⟨x, st₀, t, T', L, h0, X', hL, e1, e2, ⟨⟨ce, g1, g2, g3⟩, hb, hz, hk⟩, st⟩ := hr T hT X
  rw [h0] at hz hk
  have hvm : s.vm.Alike t.vm := by rw [← e2]; exact X'.warmed.alike
  obtain ⟨vm', hW', hF⟩ := hfind ((T'.setTop (F0 m pc ls rest)).pushFrame (.throwing x)) x ce (by rw [Stand.throwing_vm]; exact X'.method') (by rw [Stand.throwing_vm]; exact X'.warmed) (by rw [Stand.throwing_heap, e1]; exact g1) g2 (by rw [← hvm.findClass]; exact g3)
  have X2 := X'.noted hW'
  obtain ⟨t2, a1, b1⟩ := kk x t T'.heap (locs ++ L) e1.symm hvm hb (by rw [e1]; exact hz) (fun q h1 h2 => by rw [e1]; exact hk q h1 h2)
    ⟨Nat.le_trans hS.1 (by rw [e1]; exact hz), fun q h1 h2 => by rw [e1, hk q (Nat.lt_of_lt_of_le h1 hS.1) (fun z => h2 (hA q (Nat.lt_of_lt_of_le h1 hS.1) z))]; exact hS.2.1 q h1 h2, fun q hq => by
      rcases List.mem_append.mp hq with h | h
      · exact hS.2.2 q h
      · exact hf _ (hL q h)⟩ (T'.setVm vm') rfl X2
  exact ⟨t2, st t2 (xc_caught (g := F0 m pc ls rest) X'.here hF a1), b1⟩
/-- the two ways into a handler of this program's tables: the first row's class, the second's -/
theorem xc_way1 {cls own : String} {s1 e1 h1 k1 : Nat} {t : List (Nat × Nat × Nat × Nat)} (hex : c.exceptionTable.toList.map (fun h => (h.startPc, h.endPc, h.handlerPc, h.catchType)) = (s1, e1, h1, k1) :: t) (hmc : meth.code = some c) (hown : s.vm.findClass own = some m.cls) (hpl : e.platform.magicAccessors = ({} : Platform).magicAccessors)
    (hlk : (Cond.classLink own k1 cls).before args s = true) (hcast : (Cond.castable cls cls).before args s = true) (hk0 : k1 ≠ 0) (hcv : (decide (s1 ≤ pc) && decide (pc < e1)) = true) :
    ∀ (S : State) (x : Addr) (ce : Cell), S.vm.method? m = some meth → s.WarmedH S.vm → S.heap[x]? = some ce → ce.vm.isStatics = false → s.vm.findClass cls = some ce.cls →
      ∃ vm', s.WarmedH vm' ∧ ∀ (Q : Handler → Jvm.Pre) (E : Jvm.CtlPost) (d : Bool) (acts : List Action), Sem.wp (findHandler (F0 m pc ls rest) x) Q E e d acts S ↔ Q (.found h1) d acts (S.setVm vm') := by
  intro S x ce hm hW hce hst hfc
  obtain ⟨cc, hfcc, hcl⟩ := Cond.classLink_spec hown hlk e.platform hpl
  cases hl : c.exceptionTable.toList with
  | nil => rw [hl] at hex; simp at hex
  | cons z zs =>
    rw [hl] at hex
    simp only [List.map_cons, List.cons.injEq, Prod.mk.injEq] at hex
    obtain ⟨⟨rfl, rfl, rfl, rfl⟩, -⟩ := hex
    exact xc_first (f := F0 m pc ls rest) hm hmc hl hcv hk0 hW hcl hce hst (Vm.classAt_of_findClass hfc) (Vm.classAt_of_findClass hfcc) (xc_cls hcast hfc hfcc)
theorem xc_way2 {cls cls1 own : String} {s1 e1 h1 k1 s2 e2 h2 k2 : Nat} {t : List (Nat × Nat × Nat × Nat)} (hex : c.exceptionTable.toList.map (fun h => (h.startPc, h.endPc, h.handlerPc, h.catchType)) = (s1, e1, h1, k1) :: (s2, e2, h2, k2) :: t) (hmc : meth.code = some c) (hown : s.vm.findClass own = some m.cls) (hpl : e.platform.magicAccessors = ({} : Platform).magicAccessors)
    (hlk1 : (Cond.classLink own k1 cls1).before args s = true) (hlk : (Cond.classLink own k2 cls).before args s = true) (hno : va_Nc cls cls1 s) (hcast : (Cond.castable cls cls).before args s = true) (hk1 : k1 ≠ 0) (hk2 : k2 ≠ 0) (hcv1 : (decide (s1 ≤ pc) && decide (pc < e1)) = true) (hcv2 : (decide (s2 ≤ pc) && decide (pc < e2)) = true) :
    ∀ (S : State) (x : Addr) (ce : Cell), S.vm.method? m = some meth → s.WarmedH S.vm → S.heap[x]? = some ce → ce.vm.isStatics = false → s.vm.findClass cls = some ce.cls →
      ∃ vm', s.WarmedH vm' ∧ ∀ (Q : Handler → Jvm.Pre) (E : Jvm.CtlPost) (d : Bool) (acts : List Action), Sem.wp (findHandler (F0 m pc ls rest) x) Q E e d acts S ↔ Q (.found h2) d acts (S.setVm vm') := by
  intro S x ce hm hW hce hst hfc
  obtain ⟨c1, hfc1, hcl1⟩ := Cond.classLink_spec hown hlk1 e.platform hpl
  obtain ⟨cc, hfcc, hcl⟩ := Cond.classLink_spec hown hlk e.platform hpl
  cases hl : c.exceptionTable.toList with
  | nil => rw [hl] at hex; simp at hex
  | cons z zs =>
    rw [hl] at hex
    cases zs with
    | nil => simp at hex
    | cons z2 zs =>
      simp only [List.map_cons, List.cons.injEq, Prod.mk.injEq] at hex
      obtain ⟨⟨rfl, rfl, rfl, rfl⟩, ⟨rfl, rfl, rfl, rfl⟩, -⟩ := hex
      exact xc_second (f := F0 m pc ls rest) hm hmc hl hcv1 hk1 hcv2 hk2 hW hcl1 hcl hce hst (Vm.classAt_of_findClass hfc) (Vm.classAt_of_findClass hfc1) (Vm.classAt_of_findClass hfcc) (xc_ncls hno hfc hfc1) (xc_cls hcast hfc hfcc)
end XC3
end
section
/-! the worlds of a FoldRow and of a FoldRowModel, and rows over them: printed by gen/gen_world.py -/
abbrev xty (cJ cI : ClassId) : List (ClassId × FieldType) := [(cJ, .long), (cI, .int)]
abbrev CX (p : Program) (m : MethodId) (c : Code) (cc : ByteArray) (nL : Nat) (s : State) (args : Array Value) (own : String) (D : va_G) (cJ cI : ClassId) : Prop := CallFix p m c cc nL s args tb own ∧ va_K D xcl (xty cJ cI) s
/-- the cells of a FoldRow -/
abbrev wF (o : Nat → Nat) (cJ cI : ClassId) (M : Nat → Int64) (L : Nat → Int64) (G : Nat → Int64) (K : Nat → Int32) (V : Nat → Int64) (a : Int64) (b : Int64) (t : Int64) : va_W := [(o 0, .inr (0, [.ref (o 1), .ref (o 2), .ref (o 3), .ref (o 4), .ref (o 5), .long a, .long b, .long t])), (o 1, .inl (cJ, 512, .inr (.inl M))), (o 2, .inl (cJ, 512, .inr (.inl L))), (o 3, .inl (cJ, 512, .inr (.inl G))), (o 4, .inl (cI, 256, .inl K)), (o 5, .inl (cJ, 256, .inr (.inl V)))]
def aF (o : Nat → Nat) (sz : Nat) : Nat → Prop := fun q => q = o 0 ∨ q = o 1 ∨ q = o 2 ∨ q = o 3 ∨ q = o 4 ∨ q = o 5 ∨ sz ≤ q
def iF (D : va_G) (o : Nat → Nat) (cJ cI : ClassId) (A : Nat → Prop) (H0 H : Heap) (locs : List Loc) (M : Nat → Int64) (L : Nat → Int64) (G : Nat → Int64) (K : Nat → Int32) (V : Nat → Int64) (a : Int64) (b : Int64) (t : Int64) : Prop := va_P D xcl (wF o cJ cI M L G K V a b t) H ∧ va_D A (wF o cJ cI M L G K V a b t) ∧ va_S A H0 H locs
def pF (D : va_G) (o : Nat → Nat) (cJ cI : ClassId) (sz : Nat) (M : Nat → Int64) (L : Nat → Int64) (G : Nat → Int64) (K : Nat → Int32) (V : Nat → Int64) (a : Int64) (b : Int64) (t : Int64) (U : State) : Prop := U.heap.size = sz ∧ va_P D xcl (wF o cJ cI M L G K V a b t) U.heap ∧ va_K D xcl (xty cJ cI) U ∧ va_D (fun _ => True) (wF o cJ cI M L G K V a b t)
def bF (D : va_G) (o : Nat → Nat) (cJ cI : ClassId) (A : Nat → Prop) (M : Nat → Int64) (L : Nat → Int64) (G : Nat → Int64) (K : Nat → Int32) (V : Nat → Int64) (a : Int64) (b : Int64) (t : Int64) (U : State) : Prop := va_P D xcl (wF o cJ cI M L G K V a b t) U.heap ∧ va_K D xcl (xty cJ cI) U ∧ va_D A (wF o cJ cI M L G K V a b t)
section WF
variable {p : Program} {l : Launch} {e : Env} {R : Room} {s : State} {m : MethodId} {args : Array Value} {below : List Frame} {meth : Method} {c : Code} {H : Heap} {locs : List Loc} {cells slots : Nat} {Q : State → Prop}
variable {cc : ByteArray} {pc nL : Nat} {ls : Array Slot} {rest : List Value} {D : va_G} {cJ cI : ClassId} {A : Nat → Prop} {H0 : Heap} {own : String}
variable {o : Nat → Nat} {sz : Nat} {M : Nat → Int64} {L : Nat → Int64} {G : Nat → Int64} {K : Nat → Int32} {V : Nat → Int64} {a : Int64} {b : Int64} {t : Int64}
theorem aF_new {q : Nat} (h : sz ≤ q) : aF o sz q := by unfold aF; omega
theorem aF_eq : va_A (wF o cJ cI M L G K V a b t) sz = aF o sz := by
  funext q
  refine propext ⟨fun h => ?_, fun h => ?_⟩
  · rcases h with ⟨k, e, h⟩ | h
    · match k, h with
      | 0, h => cases h; unfold aF; simp
      | 1, h => cases h; unfold aF; simp
      | 2, h => cases h; unfold aF; simp
      | 3, h => cases h; unfold aF; simp
      | 4, h => cases h; unfold aF; simp
      | 5, h => cases h; unfold aF; simp
      | k + 6, h => simp at h
    · exact aF_new h
  · unfold aF at h
    rcases h with rfl | rfl | rfl | rfl | rfl | rfl | h
    · exact Or.inl ⟨0, _, rfl⟩
    · exact Or.inl ⟨1, _, rfl⟩
    · exact Or.inl ⟨2, _, rfl⟩
    · exact Or.inl ⟨3, _, rfl⟩
    · exact Or.inl ⟨4, _, rfl⟩
    · exact Or.inl ⟨5, _, rfl⟩
    · exact Or.inr h
theorem iF_free (hI : iF D o cJ cI A H0 H locs M L G K V a b t) (hA : ∀ q, H0.size ≤ q → A q) : ∀ q, aF o H.size q → A q := by
  intro q h
  unfold aF at h
  rcases h with rfl | rfl | rfl | rfl | rfl | rfl | h
  · exact hI.2.1.2 0 _ rfl
  · exact hI.2.1.2 1 _ rfl
  · exact hI.2.1.2 2 _ rfl
  · exact hI.2.1.2 3 _ rfl
  · exact hI.2.1.2 4 _ rfl
  · exact hI.2.1.2 5 _ rfl
  · exact hA q (Nat.le_trans hI.2.2.1 h)
theorem pF_blind {av : List Value} : FrameBlind (va_Pc av (pF D o cJ cI sz M L G K V a b t)) := fun a U g mk q => by
  obtain ⟨q0, q1, qP, qK, qD⟩ := q
  exact ⟨q0, q1, qP, va_K.moved (u := U) (U := U.calling g mk a) (Vm.Alike.refl U.vm) qK, qD⟩
theorem pF_at {av : List Value} {U : State} (hK : va_K D xcl (xty cJ cI) s) (hI : iF D o cJ cI A H0 H locs M L G K V a b t) (hU : U.heap = H) (hW : s.WarmedH U.vm) : va_Pc av (pF D o cJ cI H.size M L G K V a b t) av.toArray U := ⟨rfl, by rw [hU], by rw [hU]; exact hI.1, va_K.moved hW.alike hK, hI.2.1.weaken (fun _ _ _ _ => trivial)⟩
theorem iF_xn (hI : iF D o cJ cI (aF o sz) s.heap s.heap [] M L G K V a b t) (hsz : s.heap.size = sz) : xn (aF o sz) s.heap := by
  subst hsz
  rw [← aF_eq (cJ := cJ) (cI := cI) (M := M) (L := L) (G := G) (K := K) (V := V) (a := a) (b := b) (t := t)]
  exact xn_A hI.1
theorem xF_get0 (hC : CX p m c cc nL s args R_F D cJ cI) (hI : iF D o cJ cI A H0 H locs M L G K V a b t) (hdg : decode cc pc = .ok (.getfield 9, 3)) (kk : W p l e R s m args below meth c H locs cells slots Q (F0 m (pc + 3) ls (.ref (o 1) :: rest))) : W p l e R s m args below meth c H locs cells slots Q (F0 m (pc) ls (.ref (o 0) :: rest)) :=
  va_get (D := D) (ci := 0) (C := R_F) (T := F_F) (N := 8) hC.1.1 hC.1.2.1 hC.1.2.2.2.2 uF_in hC.1.2.2.2.1 hC.2 hI.1 0 rfl rfl 0 (by decide) (hC.1.2.2.2.2 _ tw_24) (fun _ h9 => h9) rfl hdg kk
theorem xF_get1 (hC : CX p m c cc nL s args R_F D cJ cI) (hI : iF D o cJ cI A H0 H locs M L G K V a b t) (hdg : decode cc pc = .ok (.getfield 13, 3)) (kk : W p l e R s m args below meth c H locs cells slots Q (F0 m (pc + 3) ls (.ref (o 2) :: rest))) : W p l e R s m args below meth c H locs cells slots Q (F0 m (pc) ls (.ref (o 0) :: rest)) :=
  va_get (D := D) (ci := 0) (C := R_F) (T := F_F) (N := 8) hC.1.1 hC.1.2.1 hC.1.2.2.2.2 uF_in hC.1.2.2.2.1 hC.2 hI.1 0 rfl rfl 1 (by decide) (hC.1.2.2.2.2 _ tw_25) (fun _ h9 => h9) rfl hdg kk
theorem xF_get2 (hC : CX p m c cc nL s args R_F D cJ cI) (hI : iF D o cJ cI A H0 H locs M L G K V a b t) (hdg : decode cc pc = .ok (.getfield 16, 3)) (kk : W p l e R s m args below meth c H locs cells slots Q (F0 m (pc + 3) ls (.ref (o 3) :: rest))) : W p l e R s m args below meth c H locs cells slots Q (F0 m (pc) ls (.ref (o 0) :: rest)) :=
  va_get (D := D) (ci := 0) (C := R_F) (T := F_F) (N := 8) hC.1.1 hC.1.2.1 hC.1.2.2.2.2 uF_in hC.1.2.2.2.1 hC.2 hI.1 0 rfl rfl 2 (by decide) (hC.1.2.2.2.2 _ tw_26) (fun _ h9 => h9) rfl hdg kk
theorem xF_get3 (hC : CX p m c cc nL s args R_F D cJ cI) (hI : iF D o cJ cI A H0 H locs M L G K V a b t) (hdg : decode cc pc = .ok (.getfield 19, 3)) (kk : W p l e R s m args below meth c H locs cells slots Q (F0 m (pc + 3) ls (.ref (o 4) :: rest))) : W p l e R s m args below meth c H locs cells slots Q (F0 m (pc) ls (.ref (o 0) :: rest)) :=
  va_get (D := D) (ci := 0) (C := R_F) (T := F_F) (N := 8) hC.1.1 hC.1.2.1 hC.1.2.2.2.2 uF_in hC.1.2.2.2.1 hC.2 hI.1 0 rfl rfl 3 (by decide) (hC.1.2.2.2.2 _ tw_27) (fun _ h9 => h9) rfl hdg kk
theorem xF_get4 (hC : CX p m c cc nL s args R_F D cJ cI) (hI : iF D o cJ cI A H0 H locs M L G K V a b t) (hdg : decode cc pc = .ok (.getfield 23, 3)) (kk : W p l e R s m args below meth c H locs cells slots Q (F0 m (pc + 3) ls (.ref (o 5) :: rest))) : W p l e R s m args below meth c H locs cells slots Q (F0 m (pc) ls (.ref (o 0) :: rest)) :=
  va_get (D := D) (ci := 0) (C := R_F) (T := F_F) (N := 8) hC.1.1 hC.1.2.1 hC.1.2.2.2.2 uF_in hC.1.2.2.2.1 hC.2 hI.1 0 rfl rfl 4 (by decide) (hC.1.2.2.2.2 _ tw_28) (fun _ h9 => h9) rfl hdg kk
theorem xF_get5 (hC : CX p m c cc nL s args R_F D cJ cI) (hI : iF D o cJ cI A H0 H locs M L G K V a b t) (hdg : decode cc pc = .ok (.getfield 49, 3)) (kk : W p l e R s m args below meth c H locs cells slots Q (F0 m (pc + 3) ls (.long a :: rest))) : W p l e R s m args below meth c H locs cells slots Q (F0 m (pc) ls (.ref (o 0) :: rest)) :=
  va_get (D := D) (ci := 0) (C := R_F) (T := F_F) (N := 8) hC.1.1 hC.1.2.1 hC.1.2.2.2.2 uF_in hC.1.2.2.2.1 hC.2 hI.1 0 rfl rfl 5 (by decide) (hC.1.2.2.2.2 _ tw_29) (fun _ h9 => h9) rfl hdg kk
theorem xF_put5 {x : Int64} (hC : CX p m c cc nL s args R_F D cJ cI) (hI : iF D o cJ cI A H0 H locs M L G K V a b t) (hdg : decode cc pc = .ok (.putfield 49, 3)) (kk : ∀ (H1 : Heap) (locs1 : List Loc), iF D o cJ cI A H0 H1 locs1 M L G K V x b t → W p l e R s m args below meth c H1 locs1 cells slots Q (F0 m (pc + 3) ls rest)) : W p l e R s m args below meth c H locs cells slots Q (F0 m (pc) ls (.long x :: .ref (o 0) :: rest)) :=
  va_put (D := D) (ci := 0) (v := .long x) (ty := .long) (C := R_F) (T := F_F) (N := 8) hC.1.1 hC.1.2.1 hC.1.2.2.2.2 uF_in t_F t_F_ok n_F hC.1.2.2.2.1 hC.2 hI.1 hI.2.1 hI.2.2 0 rfl rfl 5 (by decide) (hC.1.2.2.2.2 _ tw_29) (fun _ h9 => h9) rfl (by decide +kernel) rfl rfl (Nat.le_of_ble_eq_true rfl) hdg (fun H1 locs1 h1 h2 h3 => kk H1 locs1 ⟨h1, h2, h3⟩)
theorem xF_get6 (hC : CX p m c cc nL s args R_F D cJ cI) (hI : iF D o cJ cI A H0 H locs M L G K V a b t) (hdg : decode cc pc = .ok (.getfield 53, 3)) (kk : W p l e R s m args below meth c H locs cells slots Q (F0 m (pc + 3) ls (.long b :: rest))) : W p l e R s m args below meth c H locs cells slots Q (F0 m (pc) ls (.ref (o 0) :: rest)) :=
  va_get (D := D) (ci := 0) (C := R_F) (T := F_F) (N := 8) hC.1.1 hC.1.2.1 hC.1.2.2.2.2 uF_in hC.1.2.2.2.1 hC.2 hI.1 0 rfl rfl 6 (by decide) (hC.1.2.2.2.2 _ tw_30) (fun _ h9 => h9) rfl hdg kk
theorem xF_put6 {x : Int64} (hC : CX p m c cc nL s args R_F D cJ cI) (hI : iF D o cJ cI A H0 H locs M L G K V a b t) (hdg : decode cc pc = .ok (.putfield 53, 3)) (kk : ∀ (H1 : Heap) (locs1 : List Loc), iF D o cJ cI A H0 H1 locs1 M L G K V a x t → W p l e R s m args below meth c H1 locs1 cells slots Q (F0 m (pc + 3) ls rest)) : W p l e R s m args below meth c H locs cells slots Q (F0 m (pc) ls (.long x :: .ref (o 0) :: rest)) :=
  va_put (D := D) (ci := 0) (v := .long x) (ty := .long) (C := R_F) (T := F_F) (N := 8) hC.1.1 hC.1.2.1 hC.1.2.2.2.2 uF_in t_F t_F_ok n_F hC.1.2.2.2.1 hC.2 hI.1 hI.2.1 hI.2.2 0 rfl rfl 6 (by decide) (hC.1.2.2.2.2 _ tw_30) (fun _ h9 => h9) rfl (by decide +kernel) rfl rfl (Nat.le_of_ble_eq_true rfl) hdg (fun H1 locs1 h1 h2 h3 => kk H1 locs1 ⟨h1, h2, h3⟩)
theorem xF_get7 (hC : CX p m c cc nL s args R_F D cJ cI) (hI : iF D o cJ cI A H0 H locs M L G K V a b t) (hdg : decode cc pc = .ok (.getfield 63, 3)) (kk : W p l e R s m args below meth c H locs cells slots Q (F0 m (pc + 3) ls (.long t :: rest))) : W p l e R s m args below meth c H locs cells slots Q (F0 m (pc) ls (.ref (o 0) :: rest)) :=
  va_get (D := D) (ci := 0) (C := R_F) (T := F_F) (N := 8) hC.1.1 hC.1.2.1 hC.1.2.2.2.2 uF_in hC.1.2.2.2.1 hC.2 hI.1 0 rfl rfl 7 (by decide) (hC.1.2.2.2.2 _ tw_31) (fun _ h9 => h9) rfl hdg kk
theorem xF_put7 {x : Int64} (hC : CX p m c cc nL s args R_F D cJ cI) (hI : iF D o cJ cI A H0 H locs M L G K V a b t) (hdg : decode cc pc = .ok (.putfield 63, 3)) (kk : ∀ (H1 : Heap) (locs1 : List Loc), iF D o cJ cI A H0 H1 locs1 M L G K V a b x → W p l e R s m args below meth c H1 locs1 cells slots Q (F0 m (pc + 3) ls rest)) : W p l e R s m args below meth c H locs cells slots Q (F0 m (pc) ls (.long x :: .ref (o 0) :: rest)) :=
  va_put (D := D) (ci := 0) (v := .long x) (ty := .long) (C := R_F) (T := F_F) (N := 8) hC.1.1 hC.1.2.1 hC.1.2.2.2.2 uF_in t_F t_F_ok n_F hC.1.2.2.2.1 hC.2 hI.1 hI.2.1 hI.2.2 0 rfl rfl 7 (by decide) (hC.1.2.2.2.2 _ tw_31) (fun _ h9 => h9) rfl (by decide +kernel) rfl rfl (Nat.le_of_ble_eq_true rfl) hdg (fun H1 locs1 h1 h2 h3 => kk H1 locs1 ⟨h1, h2, h3⟩)
theorem xF_ld1 {k : Nat} (hC : CX p m c cc nL s args own D cJ cI) (hI : iF D o cJ cI A H0 H locs M L G K V a b t) (hk : k < 512) (hdg : decode cc pc = .ok (.laload, 1)) (kk : W p l e R s m args below meth c H locs cells slots Q (F0 m (pc + 1) ls (.long (M k) :: rest))) : W p l e R s m args below meth c H locs cells slots Q (F0 m (pc) ls (.int (nI k) :: .ref (o 1) :: rest)) := by
  refine va_lald hC.1.1 hC.1.2.1 hC.2 hI.1 1 0 rfl rfl (vp_in_nI hk (by decide)) hdg ?_
  rw [nI_clamp (by omega)]
  exact kk
theorem xF_st1 {k : Nat} {x : Int64} (hC : CX p m c cc nL s args own D cJ cI) (hI : iF D o cJ cI A H0 H locs M L G K V a b t) (hk : k < 512) (hdg : decode cc pc = .ok (.lastore, 1)) (kk : ∀ (H1 : Heap) (locs1 : List Loc), iF D o cJ cI A H0 H1 locs1 (vp_updL M k x) L G K V a b t → W p l e R s m args below meth c H1 locs1 cells slots Q (F0 m (pc + 1) ls rest)) : W p l e R s m args below meth c H locs cells slots Q (F0 m (pc) ls (.long x :: .int (nI k) :: .ref (o 1) :: rest)) := by
  refine va_last hC.1.1 hC.1.2.1 hC.2 hI.1 hI.2.1 hI.2.2 1 0 rfl rfl (vp_in_nI hk (by decide)) hdg (fun H1 locs1 h1 h2 h3 => ?_)
  rw [nI_clamp (by omega)] at h1 h2
  exact kk H1 locs1 ⟨h1, h2, h3⟩
theorem xF_ld2 {k : Nat} (hC : CX p m c cc nL s args own D cJ cI) (hI : iF D o cJ cI A H0 H locs M L G K V a b t) (hk : k < 512) (hdg : decode cc pc = .ok (.laload, 1)) (kk : W p l e R s m args below meth c H locs cells slots Q (F0 m (pc + 1) ls (.long (L k) :: rest))) : W p l e R s m args below meth c H locs cells slots Q (F0 m (pc) ls (.int (nI k) :: .ref (o 2) :: rest)) := by
  refine va_lald hC.1.1 hC.1.2.1 hC.2 hI.1 2 0 rfl rfl (vp_in_nI hk (by decide)) hdg ?_
  rw [nI_clamp (by omega)]
  exact kk
theorem xF_st2 {k : Nat} {x : Int64} (hC : CX p m c cc nL s args own D cJ cI) (hI : iF D o cJ cI A H0 H locs M L G K V a b t) (hk : k < 512) (hdg : decode cc pc = .ok (.lastore, 1)) (kk : ∀ (H1 : Heap) (locs1 : List Loc), iF D o cJ cI A H0 H1 locs1 M (vp_updL L k x) G K V a b t → W p l e R s m args below meth c H1 locs1 cells slots Q (F0 m (pc + 1) ls rest)) : W p l e R s m args below meth c H locs cells slots Q (F0 m (pc) ls (.long x :: .int (nI k) :: .ref (o 2) :: rest)) := by
  refine va_last hC.1.1 hC.1.2.1 hC.2 hI.1 hI.2.1 hI.2.2 2 0 rfl rfl (vp_in_nI hk (by decide)) hdg (fun H1 locs1 h1 h2 h3 => ?_)
  rw [nI_clamp (by omega)] at h1 h2
  exact kk H1 locs1 ⟨h1, h2, h3⟩
theorem xF_ld3 {k : Nat} (hC : CX p m c cc nL s args own D cJ cI) (hI : iF D o cJ cI A H0 H locs M L G K V a b t) (hk : k < 512) (hdg : decode cc pc = .ok (.laload, 1)) (kk : W p l e R s m args below meth c H locs cells slots Q (F0 m (pc + 1) ls (.long (G k) :: rest))) : W p l e R s m args below meth c H locs cells slots Q (F0 m (pc) ls (.int (nI k) :: .ref (o 3) :: rest)) := by
  refine va_lald hC.1.1 hC.1.2.1 hC.2 hI.1 3 0 rfl rfl (vp_in_nI hk (by decide)) hdg ?_
  rw [nI_clamp (by omega)]
  exact kk
theorem xF_st3 {k : Nat} {x : Int64} (hC : CX p m c cc nL s args own D cJ cI) (hI : iF D o cJ cI A H0 H locs M L G K V a b t) (hk : k < 512) (hdg : decode cc pc = .ok (.lastore, 1)) (kk : ∀ (H1 : Heap) (locs1 : List Loc), iF D o cJ cI A H0 H1 locs1 M L (vp_updL G k x) K V a b t → W p l e R s m args below meth c H1 locs1 cells slots Q (F0 m (pc + 1) ls rest)) : W p l e R s m args below meth c H locs cells slots Q (F0 m (pc) ls (.long x :: .int (nI k) :: .ref (o 3) :: rest)) := by
  refine va_last hC.1.1 hC.1.2.1 hC.2 hI.1 hI.2.1 hI.2.2 3 0 rfl rfl (vp_in_nI hk (by decide)) hdg (fun H1 locs1 h1 h2 h3 => ?_)
  rw [nI_clamp (by omega)] at h1 h2
  exact kk H1 locs1 ⟨h1, h2, h3⟩
theorem xF_ld4 {k : Nat} (hC : CX p m c cc nL s args own D cJ cI) (hI : iF D o cJ cI A H0 H locs M L G K V a b t) (hk : k < 256) (hdg : decode cc pc = .ok (.iaload, 1)) (kk : W p l e R s m args below meth c H locs cells slots Q (F0 m (pc + 1) ls (.int (K k) :: rest))) : W p l e R s m args below meth c H locs cells slots Q (F0 m (pc) ls (.int (nI k) :: .ref (o 4) :: rest)) := by
  refine va_iald hC.1.1 hC.1.2.1 hC.2 hI.1 4 1 rfl rfl (vp_in_nI hk (by decide)) hdg ?_
  rw [nI_clamp (by omega)]
  exact kk
theorem xF_st4 {k : Nat} {x : Int32} (hC : CX p m c cc nL s args own D cJ cI) (hI : iF D o cJ cI A H0 H locs M L G K V a b t) (hk : k < 256) (hdg : decode cc pc = .ok (.iastore, 1)) (kk : ∀ (H1 : Heap) (locs1 : List Loc), iF D o cJ cI A H0 H1 locs1 M L G (upd K k x) V a b t → W p l e R s m args below meth c H1 locs1 cells slots Q (F0 m (pc + 1) ls rest)) : W p l e R s m args below meth c H locs cells slots Q (F0 m (pc) ls (.int x :: .int (nI k) :: .ref (o 4) :: rest)) := by
  refine va_iast hC.1.1 hC.1.2.1 hC.2 hI.1 hI.2.1 hI.2.2 4 1 rfl rfl (vp_in_nI hk (by decide)) hdg (fun H1 locs1 h1 h2 h3 => ?_)
  rw [nI_clamp (by omega)] at h1 h2
  exact kk H1 locs1 ⟨h1, h2, h3⟩
theorem xF_ld5 {k : Nat} (hC : CX p m c cc nL s args own D cJ cI) (hI : iF D o cJ cI A H0 H locs M L G K V a b t) (hk : k < 256) (hdg : decode cc pc = .ok (.laload, 1)) (kk : W p l e R s m args below meth c H locs cells slots Q (F0 m (pc + 1) ls (.long (V k) :: rest))) : W p l e R s m args below meth c H locs cells slots Q (F0 m (pc) ls (.int (nI k) :: .ref (o 5) :: rest)) := by
  refine va_lald hC.1.1 hC.1.2.1 hC.2 hI.1 5 0 rfl rfl (vp_in_nI hk (by decide)) hdg ?_
  rw [nI_clamp (by omega)]
  exact kk
theorem xF_st5 {k : Nat} {x : Int64} (hC : CX p m c cc nL s args own D cJ cI) (hI : iF D o cJ cI A H0 H locs M L G K V a b t) (hk : k < 256) (hdg : decode cc pc = .ok (.lastore, 1)) (kk : ∀ (H1 : Heap) (locs1 : List Loc), iF D o cJ cI A H0 H1 locs1 M L G K (vp_updL V k x) a b t → W p l e R s m args below meth c H1 locs1 cells slots Q (F0 m (pc + 1) ls rest)) : W p l e R s m args below meth c H locs cells slots Q (F0 m (pc) ls (.long x :: .int (nI k) :: .ref (o 5) :: rest)) := by
  refine va_last hC.1.1 hC.1.2.1 hC.2 hI.1 hI.2.1 hI.2.2 5 0 rfl rfl (vp_in_nI hk (by decide)) hdg (fun H1 locs1 h1 h2 h3 => ?_)
  rw [nI_clamp (by omega)] at h1 h2
  exact kk H1 locs1 ⟨h1, h2, h3⟩
theorem xF_vret (hC : CX p m c cc nL s args own D cJ cI) (hI : iF D o cJ cI (aF o sz) s.heap H locs M L G K V a b t) (hr : meth.sig.returnType = none) (hlocks : meth.locks = false) (hdg : decode cc pc = .ok (.return_, 1)) : W p l e R s m args below meth c H locs cells slots (MQ below (va_Qv (fun _ : Unit => True) (fun _ => bF D o cJ cI (aF o sz) M L G K V a b t) (aF o sz)) args s cells slots (aF o sz)) (F0 m pc ls []) :=
  W.vret hC.1.1 hC.1.2.1 hr (fun t ht hW => ⟨⟨(), rfl, trivial, by rw [ht]; exact hI.1, va_K.moved hW.alike hC.2, hI.2.1⟩, hI.2.2.F ht⟩) hI.2.2.2.2 hdg hlocks
theorem xF_lret {rv : Int64} (hC : CX p m c cc nL s args own D cJ cI) (hI : iF D o cJ cI (aF o sz) s.heap H locs M L G K V a b t) (hr : meth.sig.returnType = some .long) (hlocks : meth.locks = false) (hdg : decode cc pc = .ok (.lreturn, 1)) : W p l e R s m args below meth c H locs cells slots (MQ below (va_Ql (fun (r : Int64) (_ : Unit) => r = rv) (fun _ => bF D o cJ cI (aF o sz) M L G K V a b t) (aF o sz)) args s cells slots (aF o sz)) (F0 m pc ls [.long rv]) :=
  W.lret hC.1.1 hC.1.2.1 hr (fun t ht hW => ⟨⟨rv, (), rfl, rfl, by rw [ht]; exact hI.1, va_K.moved hW.alike hC.2, hI.2.1⟩, hI.2.2.F ht⟩) hI.2.2.2.2 hdg hlocks
theorem xF_iret {rv : Int32} (hC : CX p m c cc nL s args own D cJ cI) (hI : iF D o cJ cI (aF o sz) s.heap H locs M L G K V a b t) (hr : meth.sig.returnType = some .int) (hlocks : meth.locks = false) (hdg : decode cc pc = .ok (.ireturn, 1)) : W p l e R s m args below meth c H locs cells slots (MQ below (va_Qi (fun (r : Int32) (_ : Unit) => r = rv) (fun _ => bF D o cJ cI (aF o sz) M L G K V a b t) (aF o sz)) args s cells slots (aF o sz)) (F0 m pc ls [.int rv]) :=
  W.iret hC.1.1 hC.1.2.1 hr (fun t ht hW => ⟨⟨rv, (), rfl, rfl, by rw [ht]; exact hI.1, va_K.moved hW.alike hC.2, hI.2.1⟩, hI.2.2.F ht⟩) hI.2.2.2.2 hdg hlocks
theorem xF_zret {rv : Int32} (hC : CX p m c cc nL s args own D cJ cI) (hI : iF D o cJ cI (aF o sz) s.heap H locs M L G K V a b t) (hr : meth.sig.returnType = some .boolean) (hlocks : meth.locks = false) (hn : narrow .boolean (.int rv) = .int rv) (hdg : decode cc pc = .ok (.ireturn, 1)) : W p l e R s m args below meth c H locs cells slots (MQ below (va_Qi (fun (r : Int32) (_ : Unit) => r = rv) (fun _ => bF D o cJ cI (aF o sz) M L G K V a b t) (aF o sz)) args s cells slots (aF o sz)) (F0 m pc ls [.int rv]) :=
  W.zret hC.1.1 hC.1.2.1 hr hn (fun t ht hW => ⟨⟨rv, (), rfl, rfl, by rw [ht]; exact hI.1, va_K.moved hW.alike hC.2, hI.2.1⟩, hI.2.2.F ht⟩) hI.2.2.2.2 hdg hlocks
theorem xF_met {y : MethodName} {maxL : Nat} {ret : Option FieldType} {rm : Room} {av : List Value} {Qc : Array Value → State → Outcome → State → Prop} {mc ms : Nat} (hy : plainName y.cls = true) (hyc : y.cls = R_F) (hlen : (lg_sl (.ref (o 0) :: av)).length ≤ maxL)
    (body : ∀ (p : Program) (e : Env) (s : State) (m : MethodId) (below : List Frame) (meth : Method) (c : Code) (ls : Array Slot), CX p m c cc maxL s (Value.ref (o 0) :: av).toArray R_F D cJ cI → s.heap.size = sz → meth.sig.returnType = ret → meth.locks = false → meth.name = y.name → c.exceptionTable.isEmpty = true → l.admits e → lv_has ls maxL (lv_args 0 (.ref (o 0) :: av)) → iF D o cJ cI (aF o sz) s.heap s.heap [] M L G K V a b t →
      W p l e rm s m (Value.ref (o 0) :: av).toArray below meth c s.heap [] 0 0 (MQ below Qc (Value.ref (o 0) :: av).toArray s mc ms (aF o sz)) (F0 m 0 ls [])) :
    Met l y (Cond.code y cc maxL ret :: tb) rm (va_Pc (.ref (o 0) :: av) (pF D o cJ cI sz M L G K V a b t)) Qc mc ms (aF o sz) := by
  refine Met.ofW (cc := cc) (maxL := maxL) (ret := ret) hy rfl ?_
  intro p e s m args below meth c s₁ B hml hv
  obtain ⟨rfl, hsz, hP, hK, hD0⟩ := hv
  have hts := atoms_spec (ws := Cond.code y cc maxL ret :: tb) B.pre
  have hown : s.vm.findClass R_F = some m.cls := by rw [← hyc]; exact findClass_of_methodNamed B.named
  have hl := lv_entry (.ref (o 0) :: av) (n := maxL) hlen
  rw [lg_entry_eq]
  have hD := hD0.self (sz := sz)
  rw [aF_eq] at hD
  exact body p e s m below meth c _ ⟨⟨B.exec, B.bytes, hml, hown, fun w hw => hts w (List.mem_cons_of_mem _ hw)⟩, hK⟩ hsz B.returns B.notSynchronized (name_of_methodNamed B.named B.method).1 (B.noHandlers (hts _ List.mem_cons_self)) B.admits hl ⟨hP, hD, va_S.rf⟩
theorem xF_thr {y : MethodName} {maxL : Nat} {ret : Option FieldType} {rm : Room} {av : List Value} {Qc : Array Value → State → Addr → State → Prop} {mc ms : Nat} (hy : plainName y.cls = true) (hyc : y.cls = R_F) (hlen : (lg_sl (.ref (o 0) :: av)).length ≤ maxL)
    (body : ∀ (p : Program) (e : Env) (s : State) (m : MethodId) (below : List Frame) (meth : Method) (c : Code) (ls : Array Slot), CX p m c cc maxL s (Value.ref (o 0) :: av).toArray R_F D cJ cI → s.heap.size = sz → xz s → meth.locks = false → c.exceptionTable.isEmpty = true → l.admits e → lv_has ls maxL (lv_args 0 (.ref (o 0) :: av)) → iF D o cJ cI (aF o sz) s.heap s.heap [] M L G K V a b t →
      W p l e rm s m (Value.ref (o 0) :: av).toArray below meth c s.heap [] 0 0 (TQ below Qc (Value.ref (o 0) :: av).toArray s mc ms (aF o sz)) (F0 m 0 ls [])) :
    Thr l y (Cond.code y cc maxL ret :: tb) rm (va_Pc (.ref (o 0) :: av) (fun U => pF D o cJ cI sz M L G K V a b t U ∧ xz U)) Qc mc ms (aF o sz) := by
  refine Thr.ofW (cc := cc) (maxL := maxL) (ret := ret) hy rfl ?_
  intro p e s m args below meth c s₁ B hml hv
  obtain ⟨rfl, ⟨hsz, hP, hK, hD0⟩, hz⟩ := hv
  have hts := atoms_spec (ws := Cond.code y cc maxL ret :: tb) B.pre
  have hown : s.vm.findClass R_F = some m.cls := by rw [← hyc]; exact findClass_of_methodNamed B.named
  have hl := lv_entry (.ref (o 0) :: av) (n := maxL) hlen
  rw [lg_entry_eq]
  have hD := hD0.self (sz := sz)
  rw [aF_eq] at hD
  exact body p e s m below meth c _ ⟨⟨B.exec, B.bytes, hml, hown, fun w hw => hts w (List.mem_cons_of_mem _ hw)⟩, hK⟩ hsz hz B.notSynchronized (B.noHandlers (hts _ List.mem_cons_self)) B.admits hl ⟨hP, hD, va_S.rf⟩
theorem xF_callv {M' : Nat → Int64} {L' : Nat → Int64} {G' : Nat → Int64} {K' : Nat → Int32} {V' : Nat → Int64} {a' : Int64} {b' : Int64} {t' : Int64} {y : MethodName} {bytes : ByteArray} {maxL idx k mc ms : Nat} {rm : Room} {As st0 : List Value} {own : String} (hC : CX p m c cc nL s args own D cJ cI) (hI : iF D o cJ cI A H0 H locs M L G K V a b t) (hA : ∀ q, H0.size ≤ q → A q)
    (hM : Met l y (Cond.code y bytes maxL none :: tb) rm (va_Pc (.ref (o 0) :: As) (pF D o cJ cI H.size M L G K V a b t)) (va_Qv (fun _ : Unit => True) (fun _ => bF D o cJ cI (aF o H.size) M' L' G' K' V' a' b' t') (aF o H.size)) mc ms (aF o H.size))
    (cw : CallW R s args own R_F idx y bytes maxL none (Cond.code y bytes maxL none :: tb) rm mc ms k) (hk : As.length = k) (hsz : ls.size = nL) (hst : st0 = As.reverse ++ .ref (o 0) :: rest) (hrm : (rest.map fun v => v.category).sum ≤ 8) (hdg : decode cc pc = .ok (.invokevirtual idx, 3)) (hf : cells + mc ≤ R.cells ∧ slots + ms ≤ R.slots)
    (kk : ∀ (H1 : Heap) (locs1 : List Loc), iF D o cJ cI A H0 H1 locs1 M' L' G' K' V' a' b' t' → H.size ≤ H1.size → (∀ q : Nat, q < H.size → ¬ aF o H.size q → H1[q]? = H[q]?) → W p l e R s m args below meth c H1 locs1 (cells + mc) (slots + ms) Q (F0 m (pc + 3) ls rest)) : W p l e R s m args below meth c H locs cells slots Q (F0 m pc ls st0) :=
  va_callv (va_runV (As := As) (rest := rest) hC.1 hM cw ⟨pF_blind, va_recv (q := (R_F, F_F, 8)) (ci := 0) (q0 := 0) hC.2 hI.1 rfl rfl, fun U hU hW => pF_at hC.2 hI hU hW⟩ rfl hk hsz hst (lv_room hrm) hdg hf) hI.2.2 (fun q _ h => iF_free hI hA q h) (iF_free hI hA) (fun u t H1 locs1 ht hvm hw hB hz hk hS => by
    exact kk H1 locs1 ⟨by rw [← ht]; exact hB.1, hB.2.2.weaken (fun _ q _ h => iF_free hI hA q.1 h), hS⟩ hz hk)
theorem xF_calll {rv : Int64} {M' : Nat → Int64} {L' : Nat → Int64} {G' : Nat → Int64} {K' : Nat → Int32} {V' : Nat → Int64} {a' : Int64} {b' : Int64} {t' : Int64} {y : MethodName} {bytes : ByteArray} {maxL idx k mc ms : Nat} {rm : Room} {As st0 : List Value} {own : String} (hC : CX p m c cc nL s args own D cJ cI) (hI : iF D o cJ cI A H0 H locs M L G K V a b t) (hA : ∀ q, H0.size ≤ q → A q)
    (hM : Met l y (Cond.code y bytes maxL (some .long) :: tb) rm (va_Pc (.ref (o 0) :: As) (pF D o cJ cI H.size M L G K V a b t)) (va_Ql (fun (r : Int64) (_ : Unit) => r = rv) (fun _ => bF D o cJ cI (aF o H.size) M' L' G' K' V' a' b' t') (aF o H.size)) mc ms (aF o H.size))
    (cw : CallW R s args own R_F idx y bytes maxL (some .long) (Cond.code y bytes maxL (some .long) :: tb) rm mc ms k) (hk : As.length = k) (hsz : ls.size = nL) (hst : st0 = As.reverse ++ .ref (o 0) :: rest) (hrm : (rest.map fun v => v.category).sum ≤ 8) (hdg : decode cc pc = .ok (.invokevirtual idx, 3)) (hf : cells + mc ≤ R.cells ∧ slots + ms ≤ R.slots)
    (kk : ∀ (H1 : Heap) (locs1 : List Loc), iF D o cJ cI A H0 H1 locs1 M' L' G' K' V' a' b' t' → H.size ≤ H1.size → (∀ q : Nat, q < H.size → ¬ aF o H.size q → H1[q]? = H[q]?) → W p l e R s m args below meth c H1 locs1 (cells + mc) (slots + ms) Q (F0 m (pc + 3) ls (.long rv :: rest))) : W p l e R s m args below meth c H locs cells slots Q (F0 m pc ls st0) :=
  va_calll (va_runV (As := As) (rest := rest) hC.1 hM cw ⟨pF_blind, va_recv (q := (R_F, F_F, 8)) (ci := 0) (q0 := 0) hC.2 hI.1 rfl rfl, fun U hU hW => pF_at hC.2 hI hU hW⟩ rfl hk hsz hst (lv_room hrm) hdg hf) hI.2.2 (fun q _ h => iF_free hI hA q h) (iF_free hI hA) (fun r u t H1 locs1 ht hvm hw hB hz hk hS => by
    subst hw; exact kk H1 locs1 ⟨by rw [← ht]; exact hB.1, hB.2.2.weaken (fun _ q _ h => iF_free hI hA q.1 h), hS⟩ hz hk)
theorem xF_calli {rv : Int32} {ret : Option FieldType} {M' : Nat → Int64} {L' : Nat → Int64} {G' : Nat → Int64} {K' : Nat → Int32} {V' : Nat → Int64} {a' : Int64} {b' : Int64} {t' : Int64} {y : MethodName} {bytes : ByteArray} {maxL idx k mc ms : Nat} {rm : Room} {As st0 : List Value} {own : String} (hC : CX p m c cc nL s args own D cJ cI) (hI : iF D o cJ cI A H0 H locs M L G K V a b t) (hA : ∀ q, H0.size ≤ q → A q)
    (hM : Met l y (Cond.code y bytes maxL ret :: tb) rm (va_Pc (.ref (o 0) :: As) (pF D o cJ cI H.size M L G K V a b t)) (va_Qi (fun (r : Int32) (_ : Unit) => r = rv) (fun _ => bF D o cJ cI (aF o H.size) M' L' G' K' V' a' b' t') (aF o H.size)) mc ms (aF o H.size))
    (cw : CallW R s args own R_F idx y bytes maxL ret (Cond.code y bytes maxL ret :: tb) rm mc ms k) (hk : As.length = k) (hsz : ls.size = nL) (hst : st0 = As.reverse ++ .ref (o 0) :: rest) (hrm : (rest.map fun v => v.category).sum ≤ 8) (hdg : decode cc pc = .ok (.invokevirtual idx, 3)) (hf : cells + mc ≤ R.cells ∧ slots + ms ≤ R.slots)
    (kk : ∀ (H1 : Heap) (locs1 : List Loc), iF D o cJ cI A H0 H1 locs1 M' L' G' K' V' a' b' t' → H.size ≤ H1.size → (∀ q : Nat, q < H.size → ¬ aF o H.size q → H1[q]? = H[q]?) → W p l e R s m args below meth c H1 locs1 (cells + mc) (slots + ms) Q (F0 m (pc + 3) ls (.int rv :: rest))) : W p l e R s m args below meth c H locs cells slots Q (F0 m pc ls st0) :=
  va_calli (va_runV (As := As) (rest := rest) hC.1 hM cw ⟨pF_blind, va_recv (q := (R_F, F_F, 8)) (ci := 0) (q0 := 0) hC.2 hI.1 rfl rfl, fun U hU hW => pF_at hC.2 hI hU hW⟩ rfl hk hsz hst (lv_room hrm) hdg hf) hI.2.2 (fun q _ h => iF_free hI hA q h) (iF_free hI hA) (fun r u t H1 locs1 ht hvm hw hB hz hk hS => by
    subst hw; exact kk H1 locs1 ⟨by rw [← ht]; exact hB.1, hB.2.2.weaken (fun _ q _ h => iF_free hI hA q.1 h), hS⟩ hz hk)
theorem xF_throws {cls : String} {B : State → Prop} {ret : Option FieldType} {y : MethodName} {bytes : ByteArray} {maxL idx k mc ms : Nat} {rm : Room} {As st0 : List Value} {own : String} {A1 : Nat → Prop} (hC : CX p m c cc nL s args own D cJ cI) (hI : iF D o cJ cI A s.heap H locs M L G K V a b t) (hz : xz s) (hN : xn A s.heap)
    (hM : Thr l y (Cond.code y bytes maxL ret :: tb) rm (va_Pc (.ref (o 0) :: As) (fun U => pF D o cJ cI H.size M L G K V a b t U ∧ xz U)) (xQ cls B A1) mc ms A1)
    (cw : CallW R s args own R_F idx y bytes maxL ret (Cond.code y bytes maxL ret :: tb) rm mc ms k) (hk : As.length = k) (hsz : ls.size = nL) (hst : st0 = As.reverse ++ .ref (o 0) :: rest) (hrm : (rest.map fun v => v.category).sum ≤ 8) (hdg : decode cc pc = .ok (.invokevirtual idx, 3)) (hf : cells + mc ≤ R.cells ∧ slots + ms ≤ R.slots) :
    TRun p l e R s m args below meth c H locs cells slots mc ms (F0 m pc ls st0) rest (xQ cls B A1 (Value.ref (o 0) :: As).toArray) A1 :=
  thr_runV (As := As) (rest := rest) hC.1 hM cw ⟨fun a U g mk q => ⟨q.1, (pF_blind (av := .ref (o 0) :: As) a U g mk ⟨q.1, q.2.1⟩).2, q.2.2.moved (V := U.calling g mk a) (Vm.Alike.refl U.vm) (fun _ _ h _ => h)⟩, va_recv (q := (R_F, F_F, 8)) (ci := 0) (q0 := 0) hC.2 hI.1 rfl rfl, fun U hU hW => ⟨rfl, (pF_at (av := .ref (o 0) :: As) hC.2 hI hU hW).2, xz_at hz hN hI.2.2 hU hW⟩⟩ rfl hk hsz hst (lv_room hrm) hdg hf
end WF
/-- the cells of a FoldRowModel -/
abbrev wM (o : Nat → Nat) (cJ cI : ClassId) (r : Int32) (K : Nat → Int32) (V : Nat → Int64) : va_W := [(o 0, .inr (1, [.int r, .ref (o 1), .ref (o 2)])), (o 1, .inl (cI, 256, .inl K)), (o 2, .inl (cJ, 256, .inr (.inl V)))]
def aM (o : Nat → Nat) (sz : Nat) : Nat → Prop := fun q => q = o 0 ∨ q = o 1 ∨ q = o 2 ∨ sz ≤ q
def iM (D : va_G) (o : Nat → Nat) (cJ cI : ClassId) (A : Nat → Prop) (H0 H : Heap) (locs : List Loc) (r : Int32) (K : Nat → Int32) (V : Nat → Int64) : Prop := va_P D xcl (wM o cJ cI r K V) H ∧ va_D A (wM o cJ cI r K V) ∧ va_S A H0 H locs
def pM (D : va_G) (o : Nat → Nat) (cJ cI : ClassId) (sz : Nat) (r : Int32) (K : Nat → Int32) (V : Nat → Int64) (U : State) : Prop := U.heap.size = sz ∧ va_P D xcl (wM o cJ cI r K V) U.heap ∧ va_K D xcl (xty cJ cI) U ∧ va_D (fun _ => True) (wM o cJ cI r K V)
def bM (D : va_G) (o : Nat → Nat) (cJ cI : ClassId) (A : Nat → Prop) (r : Int32) (K : Nat → Int32) (V : Nat → Int64) (U : State) : Prop := va_P D xcl (wM o cJ cI r K V) U.heap ∧ va_K D xcl (xty cJ cI) U ∧ va_D A (wM o cJ cI r K V)
section WM
variable {p : Program} {l : Launch} {e : Env} {R : Room} {s : State} {m : MethodId} {args : Array Value} {below : List Frame} {meth : Method} {c : Code} {H : Heap} {locs : List Loc} {cells slots : Nat} {Q : State → Prop}
variable {cc : ByteArray} {pc nL : Nat} {ls : Array Slot} {rest : List Value} {D : va_G} {cJ cI : ClassId} {A : Nat → Prop} {H0 : Heap} {own : String}
variable {o : Nat → Nat} {sz : Nat} {r : Int32} {K : Nat → Int32} {V : Nat → Int64}
theorem aM_new {q : Nat} (h : sz ≤ q) : aM o sz q := by unfold aM; omega
theorem aM_eq : va_A (wM o cJ cI r K V) sz = aM o sz := by
  funext q
  refine propext ⟨fun h => ?_, fun h => ?_⟩
  · rcases h with ⟨k, e, h⟩ | h
    · match k, h with
      | 0, h => cases h; unfold aM; simp
      | 1, h => cases h; unfold aM; simp
      | 2, h => cases h; unfold aM; simp
      | k + 3, h => simp at h
    · exact aM_new h
  · unfold aM at h
    rcases h with rfl | rfl | rfl | h
    · exact Or.inl ⟨0, _, rfl⟩
    · exact Or.inl ⟨1, _, rfl⟩
    · exact Or.inl ⟨2, _, rfl⟩
    · exact Or.inr h
theorem iM_free (hI : iM D o cJ cI A H0 H locs r K V) (hA : ∀ q, H0.size ≤ q → A q) : ∀ q, aM o H.size q → A q := by
  intro q h
  unfold aM at h
  rcases h with rfl | rfl | rfl | h
  · exact hI.2.1.2 0 _ rfl
  · exact hI.2.1.2 1 _ rfl
  · exact hI.2.1.2 2 _ rfl
  · exact hA q (Nat.le_trans hI.2.2.1 h)
theorem pM_blind {av : List Value} : FrameBlind (va_Pc av (pM D o cJ cI sz r K V)) := fun a U g mk q => by
  obtain ⟨q0, q1, qP, qK, qD⟩ := q
  exact ⟨q0, q1, qP, va_K.moved (u := U) (U := U.calling g mk a) (Vm.Alike.refl U.vm) qK, qD⟩
theorem pM_at {av : List Value} {U : State} (hK : va_K D xcl (xty cJ cI) s) (hI : iM D o cJ cI A H0 H locs r K V) (hU : U.heap = H) (hW : s.WarmedH U.vm) : va_Pc av (pM D o cJ cI H.size r K V) av.toArray U := ⟨rfl, by rw [hU], by rw [hU]; exact hI.1, va_K.moved hW.alike hK, hI.2.1.weaken (fun _ _ _ _ => trivial)⟩
theorem iM_xn (hI : iM D o cJ cI (aM o sz) s.heap s.heap [] r K V) (hsz : s.heap.size = sz) : xn (aM o sz) s.heap := by
  subst hsz
  rw [← aM_eq (cJ := cJ) (cI := cI) (r := r) (K := K) (V := V)]
  exact xn_A hI.1
theorem xM_get0 (hC : CX p m c cc nL s args R_M D cJ cI) (hI : iM D o cJ cI A H0 H locs r K V) (hdg : decode cc pc = .ok (.getfield 17, 3)) (kk : W p l e R s m args below meth c H locs cells slots Q (F0 m (pc + 3) ls (.int r :: rest))) : W p l e R s m args below meth c H locs cells slots Q (F0 m (pc) ls (.ref (o 0) :: rest)) :=
  va_get (D := D) (ci := 1) (C := R_M) (T := F_M) (N := 3) hC.1.1 hC.1.2.1 hC.1.2.2.2.2 uM_in hC.1.2.2.2.1 hC.2 hI.1 0 rfl rfl 0 (by decide) (hC.1.2.2.2.2 _ tw_283) (fun _ h9 => h9) rfl hdg kk
theorem xM_put0 {x : Int32} (hC : CX p m c cc nL s args R_M D cJ cI) (hI : iM D o cJ cI A H0 H locs r K V) (hdg : decode cc pc = .ok (.putfield 17, 3)) (kk : ∀ (H1 : Heap) (locs1 : List Loc), iM D o cJ cI A H0 H1 locs1 x K V → W p l e R s m args below meth c H1 locs1 cells slots Q (F0 m (pc + 3) ls rest)) : W p l e R s m args below meth c H locs cells slots Q (F0 m (pc) ls (.int x :: .ref (o 0) :: rest)) :=
  va_put (D := D) (ci := 1) (v := .int x) (ty := .int) (C := R_M) (T := F_M) (N := 3) hC.1.1 hC.1.2.1 hC.1.2.2.2.2 uM_in t_M t_M_ok n_M hC.1.2.2.2.1 hC.2 hI.1 hI.2.1 hI.2.2 0 rfl rfl 0 (by decide) (hC.1.2.2.2.2 _ tw_283) (fun _ h9 => h9) rfl (by decide +kernel) rfl rfl (Nat.le_of_ble_eq_true rfl) hdg (fun H1 locs1 h1 h2 h3 => kk H1 locs1 ⟨h1, h2, h3⟩)
theorem xM_get1 (hC : CX p m c cc nL s args R_M D cJ cI) (hI : iM D o cJ cI A H0 H locs r K V) (hdg : decode cc pc = .ok (.getfield 9, 3)) (kk : W p l e R s m args below meth c H locs cells slots Q (F0 m (pc + 3) ls (.ref (o 1) :: rest))) : W p l e R s m args below meth c H locs cells slots Q (F0 m (pc) ls (.ref (o 0) :: rest)) :=
  va_get (D := D) (ci := 1) (C := R_M) (T := F_M) (N := 3) hC.1.1 hC.1.2.1 hC.1.2.2.2.2 uM_in hC.1.2.2.2.1 hC.2 hI.1 0 rfl rfl 1 (by decide) (hC.1.2.2.2.2 _ tw_284) (fun _ h9 => h9) rfl hdg kk
theorem xM_get2 (hC : CX p m c cc nL s args R_M D cJ cI) (hI : iM D o cJ cI A H0 H locs r K V) (hdg : decode cc pc = .ok (.getfield 13, 3)) (kk : W p l e R s m args below meth c H locs cells slots Q (F0 m (pc + 3) ls (.ref (o 2) :: rest))) : W p l e R s m args below meth c H locs cells slots Q (F0 m (pc) ls (.ref (o 0) :: rest)) :=
  va_get (D := D) (ci := 1) (C := R_M) (T := F_M) (N := 3) hC.1.1 hC.1.2.1 hC.1.2.2.2.2 uM_in hC.1.2.2.2.1 hC.2 hI.1 0 rfl rfl 2 (by decide) (hC.1.2.2.2.2 _ tw_285) (fun _ h9 => h9) rfl hdg kk
theorem xM_ld1 {k : Nat} (hC : CX p m c cc nL s args own D cJ cI) (hI : iM D o cJ cI A H0 H locs r K V) (hk : k < 256) (hdg : decode cc pc = .ok (.iaload, 1)) (kk : W p l e R s m args below meth c H locs cells slots Q (F0 m (pc + 1) ls (.int (K k) :: rest))) : W p l e R s m args below meth c H locs cells slots Q (F0 m (pc) ls (.int (nI k) :: .ref (o 1) :: rest)) := by
  refine va_iald hC.1.1 hC.1.2.1 hC.2 hI.1 1 1 rfl rfl (vp_in_nI hk (by decide)) hdg ?_
  rw [nI_clamp (by omega)]
  exact kk
theorem xM_st1 {k : Nat} {x : Int32} (hC : CX p m c cc nL s args own D cJ cI) (hI : iM D o cJ cI A H0 H locs r K V) (hk : k < 256) (hdg : decode cc pc = .ok (.iastore, 1)) (kk : ∀ (H1 : Heap) (locs1 : List Loc), iM D o cJ cI A H0 H1 locs1 r (upd K k x) V → W p l e R s m args below meth c H1 locs1 cells slots Q (F0 m (pc + 1) ls rest)) : W p l e R s m args below meth c H locs cells slots Q (F0 m (pc) ls (.int x :: .int (nI k) :: .ref (o 1) :: rest)) := by
  refine va_iast hC.1.1 hC.1.2.1 hC.2 hI.1 hI.2.1 hI.2.2 1 1 rfl rfl (vp_in_nI hk (by decide)) hdg (fun H1 locs1 h1 h2 h3 => ?_)
  rw [nI_clamp (by omega)] at h1 h2
  exact kk H1 locs1 ⟨h1, h2, h3⟩
theorem xM_ld2 {k : Nat} (hC : CX p m c cc nL s args own D cJ cI) (hI : iM D o cJ cI A H0 H locs r K V) (hk : k < 256) (hdg : decode cc pc = .ok (.laload, 1)) (kk : W p l e R s m args below meth c H locs cells slots Q (F0 m (pc + 1) ls (.long (V k) :: rest))) : W p l e R s m args below meth c H locs cells slots Q (F0 m (pc) ls (.int (nI k) :: .ref (o 2) :: rest)) := by
  refine va_lald hC.1.1 hC.1.2.1 hC.2 hI.1 2 0 rfl rfl (vp_in_nI hk (by decide)) hdg ?_
  rw [nI_clamp (by omega)]
  exact kk
theorem xM_st2 {k : Nat} {x : Int64} (hC : CX p m c cc nL s args own D cJ cI) (hI : iM D o cJ cI A H0 H locs r K V) (hk : k < 256) (hdg : decode cc pc = .ok (.lastore, 1)) (kk : ∀ (H1 : Heap) (locs1 : List Loc), iM D o cJ cI A H0 H1 locs1 r K (vp_updL V k x) → W p l e R s m args below meth c H1 locs1 cells slots Q (F0 m (pc + 1) ls rest)) : W p l e R s m args below meth c H locs cells slots Q (F0 m (pc) ls (.long x :: .int (nI k) :: .ref (o 2) :: rest)) := by
  refine va_last hC.1.1 hC.1.2.1 hC.2 hI.1 hI.2.1 hI.2.2 2 0 rfl rfl (vp_in_nI hk (by decide)) hdg (fun H1 locs1 h1 h2 h3 => ?_)
  rw [nI_clamp (by omega)] at h1 h2
  exact kk H1 locs1 ⟨h1, h2, h3⟩
theorem xM_vret (hC : CX p m c cc nL s args own D cJ cI) (hI : iM D o cJ cI (aM o sz) s.heap H locs r K V) (hr : meth.sig.returnType = none) (hlocks : meth.locks = false) (hdg : decode cc pc = .ok (.return_, 1)) : W p l e R s m args below meth c H locs cells slots (MQ below (va_Qv (fun _ : Unit => True) (fun _ => bM D o cJ cI (aM o sz) r K V) (aM o sz)) args s cells slots (aM o sz)) (F0 m pc ls []) :=
  W.vret hC.1.1 hC.1.2.1 hr (fun t ht hW => ⟨⟨(), rfl, trivial, by rw [ht]; exact hI.1, va_K.moved hW.alike hC.2, hI.2.1⟩, hI.2.2.F ht⟩) hI.2.2.2.2 hdg hlocks
theorem xM_lret {rv : Int64} (hC : CX p m c cc nL s args own D cJ cI) (hI : iM D o cJ cI (aM o sz) s.heap H locs r K V) (hr : meth.sig.returnType = some .long) (hlocks : meth.locks = false) (hdg : decode cc pc = .ok (.lreturn, 1)) : W p l e R s m args below meth c H locs cells slots (MQ below (va_Ql (fun (r : Int64) (_ : Unit) => r = rv) (fun _ => bM D o cJ cI (aM o sz) r K V) (aM o sz)) args s cells slots (aM o sz)) (F0 m pc ls [.long rv]) :=
  W.lret hC.1.1 hC.1.2.1 hr (fun t ht hW => ⟨⟨rv, (), rfl, rfl, by rw [ht]; exact hI.1, va_K.moved hW.alike hC.2, hI.2.1⟩, hI.2.2.F ht⟩) hI.2.2.2.2 hdg hlocks
theorem xM_iret {rv : Int32} (hC : CX p m c cc nL s args own D cJ cI) (hI : iM D o cJ cI (aM o sz) s.heap H locs r K V) (hr : meth.sig.returnType = some .int) (hlocks : meth.locks = false) (hdg : decode cc pc = .ok (.ireturn, 1)) : W p l e R s m args below meth c H locs cells slots (MQ below (va_Qi (fun (r : Int32) (_ : Unit) => r = rv) (fun _ => bM D o cJ cI (aM o sz) r K V) (aM o sz)) args s cells slots (aM o sz)) (F0 m pc ls [.int rv]) :=
  W.iret hC.1.1 hC.1.2.1 hr (fun t ht hW => ⟨⟨rv, (), rfl, rfl, by rw [ht]; exact hI.1, va_K.moved hW.alike hC.2, hI.2.1⟩, hI.2.2.F ht⟩) hI.2.2.2.2 hdg hlocks
theorem xM_zret {rv : Int32} (hC : CX p m c cc nL s args own D cJ cI) (hI : iM D o cJ cI (aM o sz) s.heap H locs r K V) (hr : meth.sig.returnType = some .boolean) (hlocks : meth.locks = false) (hn : narrow .boolean (.int rv) = .int rv) (hdg : decode cc pc = .ok (.ireturn, 1)) : W p l e R s m args below meth c H locs cells slots (MQ below (va_Qi (fun (r : Int32) (_ : Unit) => r = rv) (fun _ => bM D o cJ cI (aM o sz) r K V) (aM o sz)) args s cells slots (aM o sz)) (F0 m pc ls [.int rv]) :=
  W.zret hC.1.1 hC.1.2.1 hr hn (fun t ht hW => ⟨⟨rv, (), rfl, rfl, by rw [ht]; exact hI.1, va_K.moved hW.alike hC.2, hI.2.1⟩, hI.2.2.F ht⟩) hI.2.2.2.2 hdg hlocks
theorem xM_met {y : MethodName} {maxL : Nat} {ret : Option FieldType} {rm : Room} {av : List Value} {Qc : Array Value → State → Outcome → State → Prop} {mc ms : Nat} (hy : plainName y.cls = true) (hyc : y.cls = R_M) (hlen : (lg_sl (.ref (o 0) :: av)).length ≤ maxL)
    (body : ∀ (p : Program) (e : Env) (s : State) (m : MethodId) (below : List Frame) (meth : Method) (c : Code) (ls : Array Slot), CX p m c cc maxL s (Value.ref (o 0) :: av).toArray R_M D cJ cI → s.heap.size = sz → meth.sig.returnType = ret → meth.locks = false → meth.name = y.name → c.exceptionTable.isEmpty = true → l.admits e → lv_has ls maxL (lv_args 0 (.ref (o 0) :: av)) → iM D o cJ cI (aM o sz) s.heap s.heap [] r K V →
      W p l e rm s m (Value.ref (o 0) :: av).toArray below meth c s.heap [] 0 0 (MQ below Qc (Value.ref (o 0) :: av).toArray s mc ms (aM o sz)) (F0 m 0 ls [])) :
    Met l y (Cond.code y cc maxL ret :: tb) rm (va_Pc (.ref (o 0) :: av) (pM D o cJ cI sz r K V)) Qc mc ms (aM o sz) := by
  refine Met.ofW (cc := cc) (maxL := maxL) (ret := ret) hy rfl ?_
  intro p e s m args below meth c s₁ B hml hv
  obtain ⟨rfl, hsz, hP, hK, hD0⟩ := hv
  have hts := atoms_spec (ws := Cond.code y cc maxL ret :: tb) B.pre
  have hown : s.vm.findClass R_M = some m.cls := by rw [← hyc]; exact findClass_of_methodNamed B.named
  have hl := lv_entry (.ref (o 0) :: av) (n := maxL) hlen
  rw [lg_entry_eq]
  have hD := hD0.self (sz := sz)
  rw [aM_eq] at hD
  exact body p e s m below meth c _ ⟨⟨B.exec, B.bytes, hml, hown, fun w hw => hts w (List.mem_cons_of_mem _ hw)⟩, hK⟩ hsz B.returns B.notSynchronized (name_of_methodNamed B.named B.method).1 (B.noHandlers (hts _ List.mem_cons_self)) B.admits hl ⟨hP, hD, va_S.rf⟩
theorem xM_thr {y : MethodName} {maxL : Nat} {ret : Option FieldType} {rm : Room} {av : List Value} {Qc : Array Value → State → Addr → State → Prop} {mc ms : Nat} (hy : plainName y.cls = true) (hyc : y.cls = R_M) (hlen : (lg_sl (.ref (o 0) :: av)).length ≤ maxL)
    (body : ∀ (p : Program) (e : Env) (s : State) (m : MethodId) (below : List Frame) (meth : Method) (c : Code) (ls : Array Slot), CX p m c cc maxL s (Value.ref (o 0) :: av).toArray R_M D cJ cI → s.heap.size = sz → xz s → meth.locks = false → c.exceptionTable.isEmpty = true → l.admits e → lv_has ls maxL (lv_args 0 (.ref (o 0) :: av)) → iM D o cJ cI (aM o sz) s.heap s.heap [] r K V →
      W p l e rm s m (Value.ref (o 0) :: av).toArray below meth c s.heap [] 0 0 (TQ below Qc (Value.ref (o 0) :: av).toArray s mc ms (aM o sz)) (F0 m 0 ls [])) :
    Thr l y (Cond.code y cc maxL ret :: tb) rm (va_Pc (.ref (o 0) :: av) (fun U => pM D o cJ cI sz r K V U ∧ xz U)) Qc mc ms (aM o sz) := by
  refine Thr.ofW (cc := cc) (maxL := maxL) (ret := ret) hy rfl ?_
  intro p e s m args below meth c s₁ B hml hv
  obtain ⟨rfl, ⟨hsz, hP, hK, hD0⟩, hz⟩ := hv
  have hts := atoms_spec (ws := Cond.code y cc maxL ret :: tb) B.pre
  have hown : s.vm.findClass R_M = some m.cls := by rw [← hyc]; exact findClass_of_methodNamed B.named
  have hl := lv_entry (.ref (o 0) :: av) (n := maxL) hlen
  rw [lg_entry_eq]
  have hD := hD0.self (sz := sz)
  rw [aM_eq] at hD
  exact body p e s m below meth c _ ⟨⟨B.exec, B.bytes, hml, hown, fun w hw => hts w (List.mem_cons_of_mem _ hw)⟩, hK⟩ hsz hz B.notSynchronized (B.noHandlers (hts _ List.mem_cons_self)) B.admits hl ⟨hP, hD, va_S.rf⟩
theorem xM_callv {r' : Int32} {K' : Nat → Int32} {V' : Nat → Int64} {y : MethodName} {bytes : ByteArray} {maxL idx k mc ms : Nat} {rm : Room} {As st0 : List Value} {own : String} (hC : CX p m c cc nL s args own D cJ cI) (hI : iM D o cJ cI A H0 H locs r K V) (hA : ∀ q, H0.size ≤ q → A q)
    (hM : Met l y (Cond.code y bytes maxL none :: tb) rm (va_Pc (.ref (o 0) :: As) (pM D o cJ cI H.size r K V)) (va_Qv (fun _ : Unit => True) (fun _ => bM D o cJ cI (aM o H.size) r' K' V') (aM o H.size)) mc ms (aM o H.size))
    (cw : CallW R s args own R_M idx y bytes maxL none (Cond.code y bytes maxL none :: tb) rm mc ms k) (hk : As.length = k) (hsz : ls.size = nL) (hst : st0 = As.reverse ++ .ref (o 0) :: rest) (hrm : (rest.map fun v => v.category).sum ≤ 8) (hdg : decode cc pc = .ok (.invokevirtual idx, 3)) (hf : cells + mc ≤ R.cells ∧ slots + ms ≤ R.slots)
    (kk : ∀ (H1 : Heap) (locs1 : List Loc), iM D o cJ cI A H0 H1 locs1 r' K' V' → H.size ≤ H1.size → (∀ q : Nat, q < H.size → ¬ aM o H.size q → H1[q]? = H[q]?) → W p l e R s m args below meth c H1 locs1 (cells + mc) (slots + ms) Q (F0 m (pc + 3) ls rest)) : W p l e R s m args below meth c H locs cells slots Q (F0 m pc ls st0) :=
  va_callv (va_runV (As := As) (rest := rest) hC.1 hM cw ⟨pM_blind, va_recv (q := (R_M, F_M, 3)) (ci := 1) (q0 := 0) hC.2 hI.1 rfl rfl, fun U hU hW => pM_at hC.2 hI hU hW⟩ rfl hk hsz hst (lv_room hrm) hdg hf) hI.2.2 (fun q _ h => iM_free hI hA q h) (iM_free hI hA) (fun u t H1 locs1 ht hvm hw hB hz hk hS => by
    exact kk H1 locs1 ⟨by rw [← ht]; exact hB.1, hB.2.2.weaken (fun _ q _ h => iM_free hI hA q.1 h), hS⟩ hz hk)
theorem xM_calll {rv : Int64} {r' : Int32} {K' : Nat → Int32} {V' : Nat → Int64} {y : MethodName} {bytes : ByteArray} {maxL idx k mc ms : Nat} {rm : Room} {As st0 : List Value} {own : String} (hC : CX p m c cc nL s args own D cJ cI) (hI : iM D o cJ cI A H0 H locs r K V) (hA : ∀ q, H0.size ≤ q → A q)
    (hM : Met l y (Cond.code y bytes maxL (some .long) :: tb) rm (va_Pc (.ref (o 0) :: As) (pM D o cJ cI H.size r K V)) (va_Ql (fun (r : Int64) (_ : Unit) => r = rv) (fun _ => bM D o cJ cI (aM o H.size) r' K' V') (aM o H.size)) mc ms (aM o H.size))
    (cw : CallW R s args own R_M idx y bytes maxL (some .long) (Cond.code y bytes maxL (some .long) :: tb) rm mc ms k) (hk : As.length = k) (hsz : ls.size = nL) (hst : st0 = As.reverse ++ .ref (o 0) :: rest) (hrm : (rest.map fun v => v.category).sum ≤ 8) (hdg : decode cc pc = .ok (.invokevirtual idx, 3)) (hf : cells + mc ≤ R.cells ∧ slots + ms ≤ R.slots)
    (kk : ∀ (H1 : Heap) (locs1 : List Loc), iM D o cJ cI A H0 H1 locs1 r' K' V' → H.size ≤ H1.size → (∀ q : Nat, q < H.size → ¬ aM o H.size q → H1[q]? = H[q]?) → W p l e R s m args below meth c H1 locs1 (cells + mc) (slots + ms) Q (F0 m (pc + 3) ls (.long rv :: rest))) : W p l e R s m args below meth c H locs cells slots Q (F0 m pc ls st0) :=
  va_calll (va_runV (As := As) (rest := rest) hC.1 hM cw ⟨pM_blind, va_recv (q := (R_M, F_M, 3)) (ci := 1) (q0 := 0) hC.2 hI.1 rfl rfl, fun U hU hW => pM_at hC.2 hI hU hW⟩ rfl hk hsz hst (lv_room hrm) hdg hf) hI.2.2 (fun q _ h => iM_free hI hA q h) (iM_free hI hA) (fun r u t H1 locs1 ht hvm hw hB hz hk hS => by
    subst hw; exact kk H1 locs1 ⟨by rw [← ht]; exact hB.1, hB.2.2.weaken (fun _ q _ h => iM_free hI hA q.1 h), hS⟩ hz hk)
theorem xM_calli {rv : Int32} {ret : Option FieldType} {r' : Int32} {K' : Nat → Int32} {V' : Nat → Int64} {y : MethodName} {bytes : ByteArray} {maxL idx k mc ms : Nat} {rm : Room} {As st0 : List Value} {own : String} (hC : CX p m c cc nL s args own D cJ cI) (hI : iM D o cJ cI A H0 H locs r K V) (hA : ∀ q, H0.size ≤ q → A q)
    (hM : Met l y (Cond.code y bytes maxL ret :: tb) rm (va_Pc (.ref (o 0) :: As) (pM D o cJ cI H.size r K V)) (va_Qi (fun (r : Int32) (_ : Unit) => r = rv) (fun _ => bM D o cJ cI (aM o H.size) r' K' V') (aM o H.size)) mc ms (aM o H.size))
    (cw : CallW R s args own R_M idx y bytes maxL ret (Cond.code y bytes maxL ret :: tb) rm mc ms k) (hk : As.length = k) (hsz : ls.size = nL) (hst : st0 = As.reverse ++ .ref (o 0) :: rest) (hrm : (rest.map fun v => v.category).sum ≤ 8) (hdg : decode cc pc = .ok (.invokevirtual idx, 3)) (hf : cells + mc ≤ R.cells ∧ slots + ms ≤ R.slots)
    (kk : ∀ (H1 : Heap) (locs1 : List Loc), iM D o cJ cI A H0 H1 locs1 r' K' V' → H.size ≤ H1.size → (∀ q : Nat, q < H.size → ¬ aM o H.size q → H1[q]? = H[q]?) → W p l e R s m args below meth c H1 locs1 (cells + mc) (slots + ms) Q (F0 m (pc + 3) ls (.int rv :: rest))) : W p l e R s m args below meth c H locs cells slots Q (F0 m pc ls st0) :=
  va_calli (va_runV (As := As) (rest := rest) hC.1 hM cw ⟨pM_blind, va_recv (q := (R_M, F_M, 3)) (ci := 1) (q0 := 0) hC.2 hI.1 rfl rfl, fun U hU hW => pM_at hC.2 hI hU hW⟩ rfl hk hsz hst (lv_room hrm) hdg hf) hI.2.2 (fun q _ h => iM_free hI hA q h) (iM_free hI hA) (fun r u t H1 locs1 ht hvm hw hB hz hk hS => by
    subst hw; exact kk H1 locs1 ⟨by rw [← ht]; exact hB.1, hB.2.2.weaken (fun _ q _ h => iM_free hI hA q.1 h), hS⟩ hz hk)
theorem xM_throws {cls : String} {B : State → Prop} {ret : Option FieldType} {y : MethodName} {bytes : ByteArray} {maxL idx k mc ms : Nat} {rm : Room} {As st0 : List Value} {own : String} {A1 : Nat → Prop} (hC : CX p m c cc nL s args own D cJ cI) (hI : iM D o cJ cI A s.heap H locs r K V) (hz : xz s) (hN : xn A s.heap)
    (hM : Thr l y (Cond.code y bytes maxL ret :: tb) rm (va_Pc (.ref (o 0) :: As) (fun U => pM D o cJ cI H.size r K V U ∧ xz U)) (xQ cls B A1) mc ms A1)
    (cw : CallW R s args own R_M idx y bytes maxL ret (Cond.code y bytes maxL ret :: tb) rm mc ms k) (hk : As.length = k) (hsz : ls.size = nL) (hst : st0 = As.reverse ++ .ref (o 0) :: rest) (hrm : (rest.map fun v => v.category).sum ≤ 8) (hdg : decode cc pc = .ok (.invokevirtual idx, 3)) (hf : cells + mc ≤ R.cells ∧ slots + ms ≤ R.slots) :
    TRun p l e R s m args below meth c H locs cells slots mc ms (F0 m pc ls st0) rest (xQ cls B A1 (Value.ref (o 0) :: As).toArray) A1 :=
  thr_runV (As := As) (rest := rest) hC.1 hM cw ⟨fun a U g mk q => ⟨q.1, (pM_blind (av := .ref (o 0) :: As) a U g mk ⟨q.1, q.2.1⟩).2, q.2.2.moved (V := U.calling g mk a) (Vm.Alike.refl U.vm) (fun _ _ h _ => h)⟩, va_recv (q := (R_M, F_M, 3)) (ci := 1) (q0 := 0) hC.2 hI.1 rfl rfl, fun U hU hW => ⟨rfl, (pM_at (av := .ref (o 0) :: As) hC.2 hI hU hW).2, xz_at hz hN hI.2.2 hU hW⟩⟩ rfl hk hsz hst (lv_room hrm) hdg hf
end WM
section WS
variable {p : Program} {l : Launch} {e : Env} {R : Room} {s : State} {m : MethodId} {args : Array Value} {below : List Frame} {meth : Method} {c : Code} {H : Heap} {locs : List Loc} {cells slots : Nat} {Q : State → Prop}
variable {cc : ByteArray} {pc nL : Nat} {ls : Array Slot} {rest : List Value} {D : va_G} {cJ cI : ClassId} {A : Nat → Prop} {H0 : Heap} {own : String}
variable {y : MethodName} {bytes : ByteArray} {maxL idx k : Nat} {rm : Room} {ret : Option FieldType} {av : List Value} {sz : Nat}
theorem xS_met {mc ms : Nat} {Qc : Array Value → State → Outcome → State → Prop} (hy : plainName y.cls = true) (hlen : (lg_sl av).length ≤ maxL)
    (body : ∀ (p : Program) (e : Env) (s : State) (m : MethodId) (below : List Frame) (meth : Method) (c : Code) (ls : Array Slot), CallFix p m c cc maxL s av.toArray tb y.cls → meth.sig.returnType = ret → meth.locks = false → c.exceptionTable.isEmpty = true → l.admits e → lv_has ls maxL (lv_args 0 av) →
      W p l e rm s m av.toArray below meth c s.heap [] 0 0 (MQ below Qc av.toArray s mc ms (fun _ => False)) (F0 m 0 ls [])) :
    Met l y (Cond.code y cc maxL ret :: tb) rm (fun v _ => v = av.toArray) Qc mc ms (fun _ => False) := by
  refine Met.ofW (cc := cc) (maxL := maxL) (ret := ret) hy rfl ?_
  intro p e s m args below meth c s₁ B hml hv
  cases hv
  have hts := atoms_spec (ws := Cond.code y cc maxL ret :: tb) B.pre
  have hl := lv_entry av (n := maxL) hlen
  rw [lg_entry_eq]
  exact body p e s m below meth c _ ⟨B.exec, B.bytes, hml, findClass_of_methodNamed B.named, fun w hw => hts w (List.mem_cons_of_mem _ hw)⟩ B.returns B.notSynchronized (B.noHandlers (hts _ List.mem_cons_self)) B.admits hl
theorem xS_thr {mc ms : Nat} {Qc : Array Value → State → Addr → State → Prop} (hy : plainName y.cls = true) (hlen : (lg_sl av).length ≤ maxL)
    (body : ∀ (p : Program) (e : Env) (s : State) (m : MethodId) (below : List Frame) (meth : Method) (c : Code) (ls : Array Slot), CallFix p m c cc maxL s av.toArray tb y.cls → s.heap.size = sz → xz s → meth.locks = false → c.exceptionTable.isEmpty = true → l.admits e → lv_has ls maxL (lv_args 0 av) →
      W p l e rm s m av.toArray below meth c s.heap [] 0 0 (TQ below Qc av.toArray s mc ms (fun q => sz ≤ q)) (F0 m 0 ls [])) :
    Thr l y (Cond.code y cc maxL ret :: tb) rm (va_Pc av (fun U => U.heap.size = sz ∧ xz U)) Qc mc ms (fun q => sz ≤ q) := by
  refine Thr.ofW (cc := cc) (maxL := maxL) (ret := ret) hy rfl ?_
  intro p e s m args below meth c s₁ B hml hv
  obtain ⟨rfl, hsz, hz⟩ := hv
  have hts := atoms_spec (ws := Cond.code y cc maxL ret :: tb) B.pre
  have hl := lv_entry av (n := maxL) hlen
  rw [lg_entry_eq]
  exact body p e s m below meth c _ ⟨B.exec, B.bytes, hml, findClass_of_methodNamed B.named, fun w hw => hts w (List.mem_cons_of_mem _ hw)⟩ hsz hz B.notSynchronized (B.noHandlers (hts _ List.mem_cons_self)) B.admits hl
variable {As st0 : List Value}
theorem xS_calll {rv : Int64} (S : CallFix p m c cc nL s args tb own) (hM : Met l y (Cond.code y bytes maxL ret :: tb) rm (fun v _ => v = As.toArray) (vp_Sl (fun r => r = rv)) 0 0 (fun _ => False)) (cw : CallB R s args own idx y bytes maxL ret (Cond.code y bytes maxL ret :: tb) rm 0 0 k ∧ (Cond.static y).before args s = true) (hk : As.length = k) (hsz : ls.size = nL) (hst : st0 = As.reverse ++ rest) (hrm : (rest.map fun v => v.category).sum ≤ 8) (hdg : decode cc pc = .ok (.invokestatic idx, 3)) (hf : cells ≤ R.cells ∧ slots ≤ R.slots)
    (kk : W p l e R s m args below meth c H locs cells slots Q (F0 m (pc + 3) ls (.long rv :: rest))) : W p l e R s m args below meth c H locs cells slots Q (F0 m pc ls st0) :=
  vp_callSl (W.runS (As := As) (rest := rest) S hM cw preEq rfl hk hsz hst (lv_room hrm) hdg hf) (fun r hr => by subst hr; exact kk)
theorem xS_calli {rv : Int32} (S : CallFix p m c cc nL s args tb own) (hM : Met l y (Cond.code y bytes maxL ret :: tb) rm (fun v _ => v = As.toArray) (vp_Si (fun r => r = rv)) 0 0 (fun _ => False)) (cw : CallB R s args own idx y bytes maxL ret (Cond.code y bytes maxL ret :: tb) rm 0 0 k ∧ (Cond.static y).before args s = true) (hk : As.length = k) (hsz : ls.size = nL) (hst : st0 = As.reverse ++ rest) (hrm : (rest.map fun v => v.category).sum ≤ 8) (hdg : decode cc pc = .ok (.invokestatic idx, 3)) (hf : cells ≤ R.cells ∧ slots ≤ R.slots)
    (kk : W p l e R s m args below meth c H locs cells slots Q (F0 m (pc + 3) ls (.int rv :: rest))) : W p l e R s m args below meth c H locs cells slots Q (F0 m pc ls st0) :=
  vp_callSi (W.runS (As := As) (rest := rest) S hM cw preEq rfl hk hsz hst (lv_room hrm) hdg hf) (fun r hr => by subst hr; exact kk)
theorem xS_callv (S : CallFix p m c cc nL s args tb own) (hM : Met l y (Cond.code y bytes maxL ret :: tb) rm (fun v _ => v = As.toArray) (va_Sv (fun _ => True)) 0 0 (fun _ => False)) (cw : CallB R s args own idx y bytes maxL ret (Cond.code y bytes maxL ret :: tb) rm 0 0 k ∧ (Cond.static y).before args s = true) (hk : As.length = k) (hsz : ls.size = nL) (hst : st0 = As.reverse ++ rest) (hrm : (rest.map fun v => v.category).sum ≤ 8) (hdg : decode cc pc = .ok (.invokestatic idx, 3)) (hf : cells ≤ R.cells ∧ slots ≤ R.slots)
    (kk : W p l e R s m args below meth c H locs cells slots Q (F0 m (pc + 3) ls rest)) : W p l e R s m args below meth c H locs cells slots Q (F0 m pc ls st0) :=
  va_csv (W.runS (As := As) (rest := rest) S hM cw preEq rfl hk hsz hst (lv_room hrm) hdg hf) (fun _ => kk)
theorem xS_throws {cls : String} {A1 : Nat → Prop} {B : State → Prop} {mc ms : Nat} (S : CallFix p m c cc nL s args tb own) (hz : xz s) (hN : xn A s.heap) (hS : va_S A s.heap H locs)
    (hM : Thr l y (Cond.code y bytes maxL ret :: tb) rm (va_Pc As (fun U => U.heap.size = H.size ∧ xz U)) (xQ cls B A1) mc ms A1) (cw : CallB R s args own idx y bytes maxL ret (Cond.code y bytes maxL ret :: tb) rm mc ms k ∧ (Cond.static y).before args s = true) (hk : As.length = k) (hsz : ls.size = nL) (hst : st0 = As.reverse ++ rest) (hrm : (rest.map fun v => v.category).sum ≤ 8) (hdg : decode cc pc = .ok (.invokestatic idx, 3)) (hf : cells + mc ≤ R.cells ∧ slots + ms ≤ R.slots) :
    TRun p l e R s m args below meth c H locs cells slots mc ms (F0 m pc ls st0) rest (xQ cls B A1 As.toArray) A1 :=
  thr_runS (As := As) (rest := rest) S hM cw ⟨fun a U g mk q => ⟨q.1, q.2.1, q.2.2.moved (V := U.calling g mk a) (Vm.Alike.refl U.vm) (fun _ _ h _ => h)⟩, fun U hU hW => ⟨rfl, by rw [hU], xz_at hz hN hS hU hW⟩⟩ rfl hk hsz hst (lv_room hrm) hdg hf
theorem xS_lret {rv : Int64} (S : CallFix p m c cc nL s args tb own) (hr : meth.sig.returnType = some .long) (hlocks : meth.locks = false) (hdg : decode cc pc = .ok (.lreturn, 1)) : W p l e R s m args below meth c s.heap [] cells slots (MQ below (vp_Sl (fun r => r = rv)) args s cells slots (fun _ => False)) (F0 m pc ls [.long rv]) :=
  W.lret S.1 S.2.1 hr (fun t ht _ => ⟨rv, rfl, rfl, ht⟩) (fun q h => by cases h) hdg hlocks
theorem xS_zret {rv : Int32} (S : CallFix p m c cc nL s args tb own) (hr : meth.sig.returnType = some .boolean) (hlocks : meth.locks = false) (hn : narrow .boolean (.int rv) = .int rv) (hdg : decode cc pc = .ok (.ireturn, 1)) : W p l e R s m args below meth c s.heap [] cells slots (MQ below (vp_Si (fun r => r = rv)) args s cells slots (fun _ => False)) (F0 m pc ls [.int rv]) :=
  W.zret S.1 S.2.1 hr hn (fun t ht _ => ⟨rv, rfl, rfl, ht⟩) (fun q h => by cases h) hdg hlocks
theorem xS_vret (S : CallFix p m c cc nL s args tb own) (hr : meth.sig.returnType = none) (hlocks : meth.locks = false) (hdg : decode cc pc = .ok (.return_, 1)) : W p l e R s m args below meth c s.heap [] cells slots (MQ below (va_Sv (fun _ => True)) args s cells slots (fun _ => False)) (F0 m pc ls []) :=
  W.vret S.1 S.2.1 hr (fun t ht _ => ⟨rfl, trivial, ht⟩) (fun q h => by cases h) hdg hlocks
end WS
abbrev X_IAE : String := "java/lang/IllegalArgumentException"
theorem xo_IAE {args : Array Value} {s : State} (ht : ∀ w ∈ tb, w.before args s = true) (hz : xz s) : ∀ a ∈ Bundle.ownAtoms0 R_F 32 X_IAE ["java/lang/RuntimeException", "java/lang/Exception"], a.before args s = true :=
  List.forall_mem_cons.mpr ⟨ht _ tw_3, List.forall_mem_cons.mpr ⟨ht _ tw_92, List.forall_mem_cons.mpr ⟨ht _ tw_101, List.forall_mem_cons.mpr ⟨ht _ tw_105, List.forall_mem_cons.mpr ⟨ht _ tw_108, List.forall_mem_cons.mpr ⟨ht _ tw_110, List.forall_mem_cons.mpr ⟨ht _ tw_93, List.forall_mem_cons.mpr ⟨ht _ tw_94, List.forall_mem_cons.mpr ⟨ht _ tw_16, List.forall_mem_cons.mpr ⟨ht _ tw_17, List.forall_mem_cons.mpr ⟨ht _ tw_95, List.forall_mem_cons.mpr ⟨ht _ tw_100, List.forall_mem_cons.mpr ⟨ht _ tw_106, List.forall_mem_cons.mpr ⟨ht _ tw_122, List.forall_mem_cons.mpr ⟨ht _ tw_82, List.forall_mem_cons.mpr ⟨ht _ tw_123, List.forall_mem_cons.mpr ⟨ht _ tw_84, List.forall_mem_cons.mpr ⟨ht _ tw_124, List.forall_mem_cons.mpr ⟨ht _ tw_86, List.forall_mem_cons.mpr ⟨ht _ tw_96, List.forall_mem_cons.mpr ⟨hz.1.lays _, List.forall_mem_cons.mpr ⟨ht _ tw_98, List.forall_mem_cons.mpr ⟨hz.2.1.lays _, List.forall_mem_cons.mpr ⟨ht _ tw_88, List.forall_mem_cons.mpr ⟨ht _ tw_112, List.forall_mem_cons.mpr ⟨ht _ tw_113, List.forall_mem_cons.mpr ⟨ht _ tw_114, List.forall_mem_cons.mpr ⟨ht _ tw_115, List.forall_mem_cons.mpr ⟨hz.face _ 0 rfl rfl, List.forall_mem_cons.mpr ⟨ht _ tw_115, List.forall_mem_cons.mpr ⟨ht _ tw_116, List.forall_mem_cons.mpr ⟨ht _ tw_117, List.forall_mem_cons.mpr ⟨ht _ tw_118, List.forall_mem_cons.mpr ⟨hz.face _ 1 rfl rfl, List.forall_mem_cons.mpr ⟨ht _ tw_118, List.forall_mem_cons.mpr ⟨ht _ tw_119, List.forall_mem_cons.mpr ⟨ht _ tw_120, List.forall_mem_cons.mpr ⟨ht _ tw_93, List.forall_mem_cons.mpr ⟨hz.face _ 2 rfl rfl, List.forall_mem_cons.mpr ⟨ht _ tw_111, List.forall_mem_cons.mpr ⟨ht _ tw_71, List.forall_mem_cons.mpr ⟨hz.face _ 3 rfl rfl, List.forall_mem_cons.mpr ⟨ht _ tw_79, List.forall_mem_cons.mpr ⟨ht _ tw_80, List.forall_mem_cons.mpr ⟨ht _ tw_81, List.forall_mem_cons.mpr ⟨ht _ tw_83, List.forall_mem_cons.mpr ⟨ht _ tw_85, List.forall_mem_cons.mpr ⟨ht _ tw_87, List.forall_mem_cons.mpr ⟨hz.1.isRef _, List.forall_mem_cons.mpr ⟨hz.2.1.isRef _, List.forall_mem_cons.mpr ⟨ht _ tw_91, List.forall_mem_cons.mpr ⟨ht _ tw_90, List.forall_mem_cons.mpr ⟨ht _ tw_89, fun _ h => absurd h List.not_mem_nil⟩⟩⟩⟩⟩⟩⟩⟩⟩⟩⟩⟩⟩⟩⟩⟩⟩⟩⟩⟩⟩⟩⟩⟩⟩⟩⟩⟩⟩⟩⟩⟩⟩⟩⟩⟩⟩⟩⟩⟩⟩⟩⟩⟩⟩⟩⟩⟩⟩⟩⟩⟩⟩
abbrev X_IOO : String := "java/lang/IndexOutOfBoundsException"
theorem xo_IOO {args : Array Value} {s : State} (ht : ∀ w ∈ tb, w.before args s = true) (hz : xz s) : ∀ a ∈ Bundle.ownAtoms0 R_F 35 X_IOO ["java/lang/RuntimeException", "java/lang/Exception"], a.before args s = true :=
  List.forall_mem_cons.mpr ⟨ht _ tw_3, List.forall_mem_cons.mpr ⟨ht _ tw_92, List.forall_mem_cons.mpr ⟨ht _ tw_101, List.forall_mem_cons.mpr ⟨ht _ tw_105, List.forall_mem_cons.mpr ⟨ht _ tw_108, List.forall_mem_cons.mpr ⟨ht _ tw_110, List.forall_mem_cons.mpr ⟨ht _ tw_93, List.forall_mem_cons.mpr ⟨ht _ tw_94, List.forall_mem_cons.mpr ⟨ht _ tw_16, List.forall_mem_cons.mpr ⟨ht _ tw_17, List.forall_mem_cons.mpr ⟨ht _ tw_95, List.forall_mem_cons.mpr ⟨ht _ tw_100, List.forall_mem_cons.mpr ⟨ht _ tw_106, List.forall_mem_cons.mpr ⟨ht _ tw_122, List.forall_mem_cons.mpr ⟨ht _ tw_82, List.forall_mem_cons.mpr ⟨ht _ tw_123, List.forall_mem_cons.mpr ⟨ht _ tw_84, List.forall_mem_cons.mpr ⟨ht _ tw_124, List.forall_mem_cons.mpr ⟨ht _ tw_86, List.forall_mem_cons.mpr ⟨ht _ tw_96, List.forall_mem_cons.mpr ⟨hz.1.lays _, List.forall_mem_cons.mpr ⟨ht _ tw_98, List.forall_mem_cons.mpr ⟨hz.2.1.lays _, List.forall_mem_cons.mpr ⟨ht _ tw_88, List.forall_mem_cons.mpr ⟨ht _ tw_149, List.forall_mem_cons.mpr ⟨ht _ tw_150, List.forall_mem_cons.mpr ⟨ht _ tw_151, List.forall_mem_cons.mpr ⟨ht _ tw_115, List.forall_mem_cons.mpr ⟨hz.face _ 0 rfl rfl, List.forall_mem_cons.mpr ⟨ht _ tw_115, List.forall_mem_cons.mpr ⟨ht _ tw_116, List.forall_mem_cons.mpr ⟨ht _ tw_117, List.forall_mem_cons.mpr ⟨ht _ tw_118, List.forall_mem_cons.mpr ⟨hz.face _ 1 rfl rfl, List.forall_mem_cons.mpr ⟨ht _ tw_118, List.forall_mem_cons.mpr ⟨ht _ tw_119, List.forall_mem_cons.mpr ⟨ht _ tw_120, List.forall_mem_cons.mpr ⟨ht _ tw_93, List.forall_mem_cons.mpr ⟨hz.face _ 2 rfl rfl, List.forall_mem_cons.mpr ⟨ht _ tw_148, List.forall_mem_cons.mpr ⟨ht _ tw_140, List.forall_mem_cons.mpr ⟨hz.face _ 4 rfl rfl, List.forall_mem_cons.mpr ⟨ht _ tw_142, List.forall_mem_cons.mpr ⟨ht _ tw_103, List.forall_mem_cons.mpr ⟨ht _ tw_143, List.forall_mem_cons.mpr ⟨ht _ tw_144, List.forall_mem_cons.mpr ⟨ht _ tw_145, List.forall_mem_cons.mpr ⟨ht _ tw_146, List.forall_mem_cons.mpr ⟨hz.1.isRef _, List.forall_mem_cons.mpr ⟨hz.2.1.isRef _, List.forall_mem_cons.mpr ⟨ht _ tw_91, List.forall_mem_cons.mpr ⟨ht _ tw_90, List.forall_mem_cons.mpr ⟨ht _ tw_147, fun _ h => absurd h List.not_mem_nil⟩⟩⟩⟩⟩⟩⟩⟩⟩⟩⟩⟩⟩⟩⟩⟩⟩⟩⟩⟩⟩⟩⟩⟩⟩⟩⟩⟩⟩⟩⟩⟩⟩⟩⟩⟩⟩⟩⟩⟩⟩⟩⟩⟩⟩⟩⟩⟩⟩⟩⟩⟩⟩
abbrev X_UOE : String := "java/lang/UnsupportedOperationException"
theorem xo_UOE {args : Array Value} {s : State} (ht : ∀ w ∈ tb, w.before args s = true) (hz : xz s) : ∀ a ∈ Bundle.ownAtoms0 R_F 120 X_UOE ["java/lang/RuntimeException", "java/lang/Exception"], a.before args s = true :=
  List.forall_mem_cons.mpr ⟨ht _ tw_3, List.forall_mem_cons.mpr ⟨ht _ tw_92, List.forall_mem_cons.mpr ⟨ht _ tw_101, List.forall_mem_cons.mpr ⟨ht _ tw_105, List.forall_mem_cons.mpr ⟨ht _ tw_108, List.forall_mem_cons.mpr ⟨ht _ tw_110, List.forall_mem_cons.mpr ⟨ht _ tw_93, List.forall_mem_cons.mpr ⟨ht _ tw_94, List.forall_mem_cons.mpr ⟨ht _ tw_16, List.forall_mem_cons.mpr ⟨ht _ tw_17, List.forall_mem_cons.mpr ⟨ht _ tw_95, List.forall_mem_cons.mpr ⟨ht _ tw_100, List.forall_mem_cons.mpr ⟨ht _ tw_106, List.forall_mem_cons.mpr ⟨ht _ tw_122, List.forall_mem_cons.mpr ⟨ht _ tw_82, List.forall_mem_cons.mpr ⟨ht _ tw_123, List.forall_mem_cons.mpr ⟨ht _ tw_84, List.forall_mem_cons.mpr ⟨ht _ tw_124, List.forall_mem_cons.mpr ⟨ht _ tw_86, List.forall_mem_cons.mpr ⟨ht _ tw_96, List.forall_mem_cons.mpr ⟨hz.1.lays _, List.forall_mem_cons.mpr ⟨ht _ tw_98, List.forall_mem_cons.mpr ⟨hz.2.1.lays _, List.forall_mem_cons.mpr ⟨ht _ tw_88, List.forall_mem_cons.mpr ⟨ht _ tw_251, List.forall_mem_cons.mpr ⟨ht _ tw_252, List.forall_mem_cons.mpr ⟨ht _ tw_253, List.forall_mem_cons.mpr ⟨ht _ tw_115, List.forall_mem_cons.mpr ⟨hz.face _ 0 rfl rfl, List.forall_mem_cons.mpr ⟨ht _ tw_115, List.forall_mem_cons.mpr ⟨ht _ tw_116, List.forall_mem_cons.mpr ⟨ht _ tw_117, List.forall_mem_cons.mpr ⟨ht _ tw_118, List.forall_mem_cons.mpr ⟨hz.face _ 1 rfl rfl, List.forall_mem_cons.mpr ⟨ht _ tw_118, List.forall_mem_cons.mpr ⟨ht _ tw_119, List.forall_mem_cons.mpr ⟨ht _ tw_120, List.forall_mem_cons.mpr ⟨ht _ tw_93, List.forall_mem_cons.mpr ⟨hz.face _ 2 rfl rfl, List.forall_mem_cons.mpr ⟨ht _ tw_250, List.forall_mem_cons.mpr ⟨ht _ tw_242, List.forall_mem_cons.mpr ⟨hz.face _ 5 rfl rfl, List.forall_mem_cons.mpr ⟨ht _ tw_244, List.forall_mem_cons.mpr ⟨ht _ tw_104, List.forall_mem_cons.mpr ⟨ht _ tw_245, List.forall_mem_cons.mpr ⟨ht _ tw_246, List.forall_mem_cons.mpr ⟨ht _ tw_247, List.forall_mem_cons.mpr ⟨ht _ tw_248, List.forall_mem_cons.mpr ⟨hz.1.isRef _, List.forall_mem_cons.mpr ⟨hz.2.1.isRef _, List.forall_mem_cons.mpr ⟨ht _ tw_91, List.forall_mem_cons.mpr ⟨ht _ tw_90, List.forall_mem_cons.mpr ⟨ht _ tw_249, fun _ h => absurd h List.not_mem_nil⟩⟩⟩⟩⟩⟩⟩⟩⟩⟩⟩⟩⟩⟩⟩⟩⟩⟩⟩⟩⟩⟩⟩⟩⟩⟩⟩⟩⟩⟩⟩⟩⟩⟩⟩⟩⟩⟩⟩⟩⟩⟩⟩⟩⟩⟩⟩⟩⟩⟩⟩⟩⟩
end
section
/-! what the methods compute, in plain Lean -/
abbrev nP : Int64 := 4611686018427387904
abbrev nN : Int64 := -4611686018427387904
abbrev P3 : Type := Int64 × Int64 × Int64
abbrev N3 : Type := (Nat → Int64) × (Nat → Int64) × (Nat → Int64)
def x_in (v w : Int64) : Int32 := if v < -w then 0 else if w < v then 0 else 1
def x_bound (v d : Int64) : Int64 := if v = nP then v else if v = nN then v else v + d
def x_min (m v : Int64) : Int64 := if v < m then v else m
def x_max (l v : Int64) : Int64 := if v < l then l else v
def x_within (v l m : Int64) : Int64 := x_max l (x_min m v)
def x_beh (q n : P3) : P3 := (q.1 + n.1, x_within (x_bound q.2.1 n.1) n.2.1 n.2.2, x_within (x_bound q.2.2 n.1) n.2.1 n.2.2)
abbrev x_one : P3 := (0, nN, nP)
abbrev x_nd (T : N3) (k : Nat) : P3 := (T.1 k, T.2.1 k, T.2.2 k)
abbrev x_kp (T : N3) (k : Nat) (q : P3) : N3 := (vp_updL T.1 k q.1, vp_updL T.2.1 k q.2.1, vp_updL T.2.2 k q.2.2)
def x_jn (T : N3) (k : Nat) : P3 := x_beh (x_beh x_one (x_nd T (2 * k))) (x_nd T (2 * k + 1))
def x_upF : Nat → Nat → N3 → P3 → N3 × P3
  | 0, _, T, q => (T, q)
  | f + 1, k, T, _ => x_upF f (k / 2) (x_kp T k (x_jn T k)) (x_jn T k)
def x_up (T : N3) (q : P3) (j : Nat) : N3 × P3 := x_upF 8 ((256 + j) / 2) T q
def x_leaf (s : Int32) (v : Int64) : P3 := (if s = 1 then v else 0, if s = 2 ∨ s = 3 then v else nN, if s = 2 ∨ s = 4 then v else nP)
def x_rr (s : Int32) (v : Int64) : Int32 := if s < 0 then 0 else if 5 ≤ s then 0 else if x_in v 1000000000 = 0 then 0 else 1
def x_r1 (k : Int32) : Int32 := if k < 0 then 0 else if 256 ≤ k then 0 else 1
def x_pt (f t : Int32) : Int32 := if f < 0 then 0 else if t < f then 0 else if 256 < t then 0 else 1
def x_ah (v : Int64) (n : Int32) : Int32 := if x_in v 1000000000000 = 0 then 0 else if n < 0 then 0 else if 1000 < n then 0 else 1
def x_bh (w : Int32) : Int32 := if w < 0 then 0 else if 3 ≤ w then 0 else 1
def x_wide : Nat → Nat → Nat → Nat → Nat
  | 0, _, _, w => w
  | f + 1, k, to, w => if k &&& w = 0 ∧ k + 2 * w ≤ to ∧ w < 256 then x_wide f k to (w * 2) else w
def x_jo (T : N3) (to : Nat) : Nat → Nat → P3 → P3
  | 0, _, q => q
  | f + 1, k, q => if k < to then x_jo T to f (k + x_wide 8 k to 1) (x_beh q (x_nd T ((256 + k) / x_wide 8 k to 1))) else q
def x_join (T : N3) (fr to : Nat) : P3 := x_jo T to 256 fr x_one
def x_made (q : P3) (v : Int64) : Int64 := x_within (v + q.1) q.2.1 q.2.2
def x_ag : Nat → Nat → Int64 → P3 → Int64 × P3
  | 0, _, v, q => (v, q)
  | f + 1, n, v, q => if n = 0 then (v, q) else x_ag f (n / 2) (if n % 2 = 1 then x_made q v else v) (x_beh q q)
def x_told (v : Int64) : Int32 := if v = nP then 0 else if v = nN then 0 else 1
def x_fix (q : P3) (h : Int32) : Int64 := if q.1 ≤ 0 then (if 0 ≤ q.1 then (if h = 0 then q.2.1 else q.2.2) else q.2.1) else q.2.2
def x_cnt (K : Nat → Int32) (fr : Nat) : Nat → Nat
  | 0 => 0
  | d + 1 => x_cnt K fr d + (if K (fr + d) = 0 then 0 else 1)
/-- a FoldRow's state -/
abbrev FR : Type := N3 × (Nat → Int32) × (Nat → Int64) × P3
def x_rule (u : FR) (j : Nat) (s : Int32) (v : Int64) : FR := (x_kp u.1 (256 + j) (x_leaf s v), upd u.2.1 j s, vp_updL u.2.2.1 j v, u.2.2.2)
def x_upR (u : FR) (j : Nat) : FR := ((x_up u.1 u.2.2.2 j).1, u.2.1, u.2.2.1, (x_up u.1 u.2.2.2 j).2)
def x_set (u : FR) (j : Nat) (s : Int32) (v : Int64) : FR := x_upR (x_rule u j s v) j
def x_fill (u : FR) (fr : Nat) (s : Int32) (v : Int64) : Nat → FR
  | 0 => u
  | d + 1 => x_set (x_fill u fr s v d) (fr + d) s v
def x_swap (u : FR) (j k : Nat) : FR := x_upR (x_upR (x_rule (x_rule u j (u.2.1 k) (u.2.2.1 k)) k (u.2.1 j) (u.2.2.1 j)) j) k
-- the reference
def m_in (v a b : Int64) : Int32 := if v < a then 0 else if b < v then 0 else 1
def m_isRule (s : Int32) (v : Int64) : Int32 := if m_in s.toInt64 0 4 = 0 then 0 else if m_in v (-1000000000) 1000000000 = 0 then 0 else 1
def m_isPart (f t : Int32) : Int32 := if f < 0 then 0 else if t < f then 0 else if 256 < t then 0 else 1
def m_isNumber (v : Int64) : Int32 := m_in v (-1000000000000) 1000000000000
def m_op (s : Int32) (v y : Int64) : Int64 := if s = 1 then y + v else if s = 2 then v else if s = 3 then (if v ≤ y then y else v) else if s = 4 then (if y ≤ v then y else v) else y
def m_made (K : Nat → Int32) (V : Nat → Int64) : Nat → Nat → Int64 → Int64
  | 0, _, y => y
  | d + 1, k, y => m_made K V d (k + 1) (m_op (K k) (V k) y)
def m_again (K : Nat → Int32) (V : Nat → Int64) (d fr : Nat) : Nat → Int64 → Int64
  | 0, y => y
  | n + 1, y => m_again K V d fr n (m_made K V d fr y)
def m_fillK (K : Nat → Int32) (fr : Nat) (s : Int32) : Nat → Nat → Int32
  | 0 => K
  | d + 1 => upd (m_fillK K fr s d) (fr + d) s
def m_fillV (V : Nat → Int64) (fr : Nat) (v : Int64) : Nat → Nat → Int64
  | 0 => V
  | d + 1 => vp_updL (m_fillV V fr v d) (fr + d) v
theorem updL_updL (f : Nat → Int64) (k : Nat) (x y : Int64) : vp_updL (vp_updL f k x) k y = vp_updL f k y := by
  funext j
  unfold vp_updL
  by_cases h : j = k <;> simp [h]
theorem nI_and (a b : Nat) : nI a &&& nI b = nI (a &&& b) := Int32.toBitVec_inj.mp (by
  show BitVec.ofNat 32 a &&& BitVec.ofNat 32 b = BitVec.ofNat 32 (a &&& b)
  exact BitVec.ofNat_and.symm)
theorem nI_eq0 {a : Nat} (h : a < 2 ^ 31) : nI a = 0 ↔ a = 0 := by rw [← nI_0, nI_eq h (by decide)]
theorem xi_inc (k : Nat) : nI k + Int32.ofInt 1 = nI (k + 1) := by
  rw [← nI_1]
  rfl
theorem x_wide_le : ∀ (f k to w : Nat), w * 2 ^ f ≤ 256 → 1 ≤ w → 1 ≤ x_wide f k to w ∧ x_wide f k to w ≤ 256 := by
  intro f
  induction f with
  | zero => intro k to w h h1; exact ⟨h1, by show w ≤ 256; simpa using h⟩
  | succ f ih =>
    intro k to w h h1
    unfold x_wide
    have h2 : w * 2 * 2 ^ f ≤ 256 := by rw [Nat.mul_assoc, ← Nat.pow_succ']; exact h
    have h3 : w ≤ 256 := Nat.le_trans (Nat.le_mul_of_pos_right w (Nat.two_pow_pos _)) h
    split
    · exact ih k to (w * 2) h2 (by omega)
    · exact ⟨h1, h3⟩
section XW
variable {p : Program} {l : Launch} {e : Env} {R : Room} {s : State} {m : MethodId} {args : Array Value} {below : List Frame} {meth : Method} {c : Code} {H : Heap} {locs : List Loc} {cells slots : Nat} {Q : State → Prop} {pc : Nat} {ls : Array Slot} {rest : List Value}
theorem xw_i {x y : Int32} (h : x = y) (k : W p l e R s m args below meth c H locs cells slots Q (F0 m pc ls (.int y :: rest))) : W p l e R s m args below meth c H locs cells slots Q (F0 m pc ls (.int x :: rest)) := by subst h; exact k
theorem xw_l {x y : Int64} (h : x = y) (k : W p l e R s m args below meth c H locs cells slots Q (F0 m pc ls (.long y :: rest))) : W p l e R s m args below meth c H locs cells slots Q (F0 m pc ls (.long x :: rest)) := by subst h; exact k
end XW
theorem nI_256 : (256 : Int32) = nI 256 := by decide +kernel
theorem x_r1_ok {j : Nat} (h : j < 256) : x_r1 (nI j) = 1 := by
  unfold x_r1
  rw [nI_256, if_neg (nI_pos (by omega)), if_neg (fun q => absurd ((nI_leI (a := 256) (b := j) (by decide) (by omega)).mp q) (by omega))]
theorem x_pt_ok {f t : Nat} (h : f ≤ t) (ht : t ≤ 256) : x_pt (nI f) (nI t) = 1 := by
  unfold x_pt
  rw [nI_256, if_neg (nI_pos (by omega)), if_neg (fun q => absurd ((nI_ltI (by omega) (by omega)).mp q) (by omega)), if_neg (fun q => absurd ((nI_ltI (a := 256) (b := t) (by decide) (by omega)).mp q) (by omega))]
end
section
/-! rooms, and the words at every call: printed by gen/links.py -/
abbrev rm_F_init : Room := { frames := 1, cells := 5, slots := 2048, locals := 21 }
abbrev rt_F_init : Room := { frames := 1, cells := 1, slots := 6, locals := 21 }
abbrev rm_F_good : Room := { frames := 6, cells := 0, slots := 0, locals := 81 }
abbrev rt_F_good : Room := { frames := 6, cells := 1, slots := 6, locals := 81 }
abbrev rm_F_there : Room := { frames := 6, cells := 0, slots := 0, locals := 81 }
abbrev rt_F_there : Room := { frames := 6, cells := 1, slots := 6, locals := 81 }
abbrev rm_F_in : Room := { frames := 0, cells := 0, slots := 0, locals := 0 }
abbrev rt_F_in : Room := { frames := 0, cells := 1, slots := 6, locals := 0 }
abbrev rm_F_nothing : Room := { frames := 0, cells := 0, slots := 0, locals := 0 }
abbrev rt_F_nothing : Room := { frames := 0, cells := 1, slots := 6, locals := 0 }
abbrev rm_F_bound : Room := { frames := 0, cells := 0, slots := 0, locals := 0 }
abbrev rt_F_bound : Room := { frames := 0, cells := 1, slots := 6, locals := 0 }
abbrev rm_F_within : Room := { frames := 1, cells := 0, slots := 0, locals := 24 }
abbrev rt_F_within : Room := { frames := 1, cells := 1, slots := 6, locals := 24 }
abbrev rm_F_behind : Room := { frames := 2, cells := 0, slots := 0, locals := 49 }
abbrev rt_F_behind : Room := { frames := 2, cells := 1, slots := 6, locals := 49 }
abbrev rm_F_begin : Room := { frames := 0, cells := 0, slots := 0, locals := 0 }
abbrev rt_F_begin : Room := { frames := 0, cells := 1, slots := 6, locals := 0 }
abbrev rm_F_node : Room := { frames := 3, cells := 0, slots := 0, locals := 75 }
abbrev rt_F_node : Room := { frames := 3, cells := 1, slots := 6, locals := 75 }
abbrev rm_F_keep : Room := { frames := 0, cells := 0, slots := 0, locals := 0 }
abbrev rt_F_keep : Room := { frames := 0, cells := 1, slots := 6, locals := 0 }
abbrev rm_F_rule3 : Room := { frames := 1, cells := 0, slots := 0, locals := 21 }
abbrev rt_F_rule3 : Room := { frames := 1, cells := 1, slots := 6, locals := 21 }
abbrev rm_F_up : Room := { frames := 4, cells := 0, slots := 0, locals := 96 }
abbrev rt_F_up : Room := { frames := 4, cells := 1, slots := 6, locals := 96 }
abbrev rm_F_rightRule : Room := { frames := 7, cells := 0, slots := 0, locals := 101 }
abbrev rt_F_rightRule : Room := { frames := 7, cells := 1, slots := 6, locals := 101 }
abbrev rm_F_rule1 : Room := { frames := 7, cells := 0, slots := 0, locals := 101 }
abbrev rt_F_rule1 : Room := { frames := 7, cells := 1, slots := 6, locals := 101 }
abbrev rm_F_set : Room := { frames := 8, cells := 0, slots := 0, locals := 123 }
abbrev rt_F_set : Room := { frames := 8, cells := 1, slots := 6, locals := 123 }
abbrev rm_F_fill : Room := { frames := 8, cells := 0, slots := 0, locals := 123 }
abbrev rt_F_fill : Room := { frames := 8, cells := 1, slots := 6, locals := 123 }
abbrev rm_F_swap : Room := { frames := 8, cells := 0, slots := 0, locals := 121 }
abbrev rt_F_swap : Room := { frames := 8, cells := 1, slots := 6, locals := 121 }
abbrev rm_F_part : Room := { frames := 7, cells := 0, slots := 0, locals := 101 }
abbrev rt_F_part : Room := { frames := 7, cells := 1, slots := 6, locals := 101 }
abbrev rm_F_join : Room := { frames := 8, cells := 0, slots := 0, locals := 122 }
abbrev rt_F_join : Room := { frames := 8, cells := 1, slots := 6, locals := 122 }
abbrev rm_F_made : Room := { frames := 2, cells := 0, slots := 0, locals := 49 }
abbrev rt_F_made : Room := { frames := 2, cells := 1, slots := 6, locals := 49 }
abbrev rm_F_fold : Room := { frames := 9, cells := 0, slots := 0, locals := 147 }
abbrev rt_F_fold : Room := { frames := 9, cells := 1, slots := 6, locals := 147 }
abbrev rm_F_again : Room := { frames := 9, cells := 0, slots := 0, locals := 147 }
abbrev rt_F_again : Room := { frames := 9, cells := 1, slots := 6, locals := 147 }
abbrev rm_F_told : Room := { frames := 6, cells := 0, slots := 0, locals := 81 }
abbrev rt_F_told : Room := { frames := 6, cells := 1, slots := 6, locals := 81 }
abbrev rm_F_least : Room := { frames := 9, cells := 0, slots := 0, locals := 147 }
abbrev rt_F_least : Room := { frames := 9, cells := 1, slots := 6, locals := 147 }
abbrev rm_F_greatest : Room := { frames := 9, cells := 0, slots := 0, locals := 147 }
abbrev rt_F_greatest : Room := { frames := 9, cells := 1, slots := 6, locals := 147 }
abbrev rm_F_fixed : Room := { frames := 9, cells := 0, slots := 0, locals := 147 }
abbrev rt_F_fixed : Room := { frames := 9, cells := 1, slots := 6, locals := 147 }
abbrev rm_F_about : Room := { frames := 9, cells := 0, slots := 0, locals := 147 }
abbrev rt_F_about : Room := { frames := 9, cells := 1, slots := 6, locals := 147 }
abbrev rm_M_init : Room := { frames := 1, cells := 2, slots := 512, locals := 20 }
abbrev rm_M_thrown : Room := { frames := 0, cells := 0, slots := 0, locals := 0 }
abbrev rm_M_in : Room := { frames := 0, cells := 0, slots := 0, locals := 0 }
abbrev rm_M_fails : Room := { frames := 0, cells := 0, slots := 0, locals := 0 }
abbrev rm_M_isRule : Room := { frames := 1, cells := 0, slots := 0, locals := 25 }
abbrev rm_M_isPart : Room := { frames := 0, cells := 0, slots := 0, locals := 0 }
abbrev rm_M_isNumber : Room := { frames := 1, cells := 0, slots := 0, locals := 25 }
abbrev rm_M_set : Room := { frames := 2, cells := 0, slots := 0, locals := 47 }
abbrev rm_M_fill : Room := { frames := 2, cells := 0, slots := 0, locals := 47 }
abbrev rm_M_swap : Room := { frames := 1, cells := 0, slots := 0, locals := 25 }
abbrev rm_M_made : Room := { frames := 0, cells := 0, slots := 0, locals := 0 }
abbrev rm_M_fold : Room := { frames := 2, cells := 0, slots := 0, locals := 46 }
abbrev rm_M_again : Room := { frames := 2, cells := 0, slots := 0, locals := 46 }
abbrev rm_M_ends : Room := { frames := 1, cells := 0, slots := 0, locals := 27 }
abbrev rm_M_least : Room := { frames := 2, cells := 0, slots := 0, locals := 51 }
abbrev rm_M_greatest : Room := { frames := 2, cells := 0, slots := 0, locals := 51 }
abbrev rm_M_fixed : Room := { frames := 2, cells := 0, slots := 0, locals := 51 }
abbrev rm_M_about : Room := { frames := 1, cells := 0, slots := 0, locals := 27 }
abbrev rm_L_set : Room := { frames := 9, cells := 1, slots := 6, locals := 147 }
abbrev rm_L_fill : Room := { frames := 9, cells := 1, slots := 6, locals := 149 }
abbrev rm_L_swap : Room := { frames := 9, cells := 1, slots := 6, locals := 146 }
abbrev rm_L_fold : Room := { frames := 10, cells := 1, slots := 6, locals := 171 }
abbrev rm_L_again : Room := { frames := 10, cells := 1, slots := 6, locals := 175 }
abbrev rm_L_least : Room := { frames := 10, cells := 1, slots := 6, locals := 169 }
abbrev rm_L_greatest : Room := { frames := 10, cells := 1, slots := 6, locals := 169 }
abbrev rm_L_fixed : Room := { frames := 10, cells := 1, slots := 6, locals := 170 }
abbrev rm_L_about : Room := { frames := 10, cells := 1, slots := 6, locals := 172 }
theorem gv_F_26 : GoodIn tb (wsV R_F 26 R_F y_F_nothing ws_F_nothing) := tb_g4 tw_18 tw_20 tws_0 tw_1 tw_21
theorem gs_F_56 : GoodIn tb (wsS R_F 56 y_F_bound ws_F_bound) := tb_g3 tw_174 tw_175 tw_1 tw_176
theorem gs_F_59 : GoodIn tb (wsS R_F 59 y_F_within ws_F_within) := tb_g3 tw_177 tw_178 tw_1 tw_179
theorem gv_F_66 : GoodIn tb (wsV R_F 66 R_F y_F_behind ws_F_behind) := tb_g4 tw_170 tw_172 tws_6 tw_1 tw_173
theorem gv_F_70 : GoodIn tb (wsV R_F 70 R_F y_F_begin ws_F_begin) := tb_g4 tw_162 tw_164 tws_4 tw_1 tw_165
theorem gv_F_73 : GoodIn tb (wsV R_F 73 R_F y_F_node ws_F_node) := tb_g4 tw_166 tw_168 tws_5 tw_1 tw_169
theorem gv_F_76 : GoodIn tb (wsV R_F 76 R_F y_F_keep ws_F_keep) := tb_g4 tw_186 tw_188 tws_7 tw_1 tw_189
theorem gs_F_81 : GoodIn tb (wsS R_F 81 y_F_in ws_F_in) := tb_g3 tw_64 tw_65 tw_1 tw_66
theorem gs_F_85 : GoodIn tb (wsS R_F 85 y_F_good ws_F_good) := tb_g3 tw_67 tw_68 tw_1 tw_69
theorem gs_F_89 : GoodIn tb (wsS R_F 89 y_F_there ws_F_there) := tb_g3 tw_136 tw_137 tw_1 tw_138
theorem gs_F_92 : GoodIn tb (wsS R_F 92 y_F_rightRule ws_F_rightRule) := tb_g3 tw_60 tw_61 tw_1 tw_62
theorem gs_F_96 : GoodIn tb (wsS R_F 96 y_F_rule1 ws_F_rule1) := tb_g3 tw_133 tw_134 tw_1 tw_135
theorem gv_F_99 : GoodIn tb (wsV R_F 99 R_F y_F_rule3 ws_F_rule3) := tb_g4 tw_154 tw_156 tws_2 tw_1 tw_157
theorem gv_F_102 : GoodIn tb (wsV R_F 102 R_F y_F_up ws_F_up) := tb_g4 tw_158 tw_160 tws_3 tw_1 tw_161
theorem gs_F_105 : GoodIn tb (wsS R_F 105 y_F_part ws_F_part) := tb_g3 tw_197 tw_198 tw_1 tw_199
theorem gv_F_111 : GoodIn tb (wsV R_F 111 R_F y_F_join ws_F_join) := tb_g4 tw_215 tw_217 tws_8 tw_1 tw_218
theorem gv_F_114 : GoodIn tb (wsV R_F 114 R_F y_F_made ws_F_made) := tb_g4 tw_219 tw_221 tws_9 tw_1 tw_222
theorem gs_F_121 : GoodIn tb (wsS R_F 121 y_F_told ws_F_told) := tb_g3 tw_238 tw_239 tw_1 tw_240
theorem gs_M_23 : GoodIn tb (wsS R_M 23 y_M_in ws_M_in) := tb_g3 tw_305 tw_306 tw_2 tw_307
theorem gs_M_35 : GoodIn tb (wsS R_M 35 y_M_isRule ws_M_isRule) := tb_g3 tw_301 tw_302 tw_2 tw_303
theorem gv_M_39 : GoodIn tb (wsV R_M 39 R_M y_M_fails ws_M_fails) := tb_g4 tw_310 tw_312 tws_10 tw_2 tw_313
theorem gs_M_45 : GoodIn tb (wsS R_M 45 y_M_isPart ws_M_isPart) := tb_g3 tw_319 tw_320 tw_2 tw_321
theorem gs_M_49 : GoodIn tb (wsS R_M 49 y_M_isNumber ws_M_isNumber) := tb_g3 tw_330 tw_331 tw_2 tw_332
theorem gv_M_53 : GoodIn tb (wsV R_M 53 R_M y_M_made ws_M_made) := tb_g4 tw_335 tw_337 tws_11 tw_2 tw_338
theorem gv_M_63 : GoodIn tb (wsV R_M 63 R_M y_M_ends ws_M_ends) := tb_g4 tw_349 tw_351 tws_12 tw_2 tw_352
theorem gv_L_7 : GoodIn tb (wsV R_L 7 R_F y_F_set ws_F_set) := tb_g4 tw_56 tw_57 tw_58 tw_1 tw_59
theorem gv_L_17 : GoodIn tb (wsV R_L 17 R_F y_F_fill ws_F_fill) := tb_g4 tw_193 tw_194 tw_195 tw_1 tw_196
theorem gv_L_21 : GoodIn tb (wsV R_L 21 R_F y_F_swap ws_F_swap) := tb_g4 tw_203 tw_204 tw_205 tw_1 tw_206
theorem gv_L_25 : GoodIn tb (wsV R_L 25 R_F y_F_fold ws_F_fold) := tb_g4 tw_210 tw_211 tw_212 tw_1 tw_213
theorem gv_L_29 : GoodIn tb (wsV R_L 29 R_F y_F_again ws_F_again) := tb_g4 tw_226 tw_227 tw_228 tw_1 tw_229
theorem gv_L_33 : GoodIn tb (wsV R_L 33 R_F y_F_least ws_F_least) := tb_g4 tw_234 tw_235 tw_236 tw_1 tw_237
theorem gv_L_39 : GoodIn tb (wsV R_L 39 R_F y_F_greatest ws_F_greatest) := tb_g4 tw_259 tw_260 tw_261 tw_1 tw_262
theorem gv_L_42 : GoodIn tb (wsV R_L 42 R_F y_F_fixed ws_F_fixed) := tb_g4 tw_266 tw_267 tw_268 tw_1 tw_269
theorem gv_L_46 : GoodIn tb (wsV R_L 46 R_F y_F_about ws_F_about) := tb_g4 tw_273 tw_274 tw_275 tw_1 tw_276
theorem gs_L_56 : GoodIn tb (wsS R_L 56 y_L_set ws_L_set) := tb_g3 tw_51 tw_52 tw_0 tw_53
theorem gv_L_61 : GoodIn tb (wsV R_L 61 R_M y_M_set ws_M_set) := tb_g4 tw_297 tw_298 tw_299 tw_2 tw_300
theorem gv_L_62 : GoodIn tb (wsV R_L 62 R_M y_M_thrown ws_M_thrown) := tb_g4 tw_293 tw_294 tw_295 tw_2 tw_296
theorem gs_L_66 : GoodIn tb (wsS R_L 66 y_L_fill ws_L_fill) := tb_g3 tw_190 tw_191 tw_0 tw_192
theorem gv_L_69 : GoodIn tb (wsV R_L 69 R_M y_M_fill ws_M_fill) := tb_g4 tw_315 tw_316 tw_317 tw_2 tw_318
theorem gs_L_70 : GoodIn tb (wsS R_L 70 y_L_swap ws_L_swap) := tb_g3 tw_200 tw_201 tw_0 tw_202
theorem gv_L_73 : GoodIn tb (wsV R_L 73 R_M y_M_swap ws_M_swap) := tb_g4 tw_322 tw_323 tw_324 tw_2 tw_325
theorem gs_L_74 : GoodIn tb (wsS R_L 74 y_L_fold ws_L_fold) := tb_g3 tw_207 tw_208 tw_0 tw_209
theorem gv_L_77 : GoodIn tb (wsV R_L 77 R_M y_M_fold ws_M_fold) := tb_g4 tw_326 tw_327 tw_328 tw_2 tw_329
theorem gs_L_78 : GoodIn tb (wsS R_L 78 y_L_again ws_L_again) := tb_g3 tw_223 tw_224 tw_0 tw_225
theorem gv_L_81 : GoodIn tb (wsV R_L 81 R_M y_M_again ws_M_again) := tb_g4 tw_339 tw_340 tw_341 tw_2 tw_342
theorem gs_L_82 : GoodIn tb (wsS R_L 82 y_L_least ws_L_least) := tb_g3 tw_230 tw_231 tw_0 tw_232
theorem gv_L_85 : GoodIn tb (wsV R_L 85 R_M y_M_least ws_M_least) := tb_g4 tw_344 tw_345 tw_346 tw_2 tw_347
theorem gs_L_86 : GoodIn tb (wsS R_L 86 y_L_greatest ws_L_greatest) := tb_g3 tw_256 tw_257 tw_0 tw_258
theorem gv_L_88 : GoodIn tb (wsV R_L 88 R_M y_M_greatest ws_M_greatest) := tb_g4 tw_354 tw_355 tw_356 tw_2 tw_357
theorem gs_L_89 : GoodIn tb (wsS R_L 89 y_L_fixed ws_L_fixed) := tb_g3 tw_263 tw_264 tw_0 tw_265
theorem gv_L_92 : GoodIn tb (wsV R_L 92 R_M y_M_fixed ws_M_fixed) := tb_g4 tw_359 tw_360 tw_361 tw_2 tw_362
theorem gs_L_93 : GoodIn tb (wsS R_L 93 y_L_about ws_L_about) := tb_g3 tw_270 tw_271 tw_0 tw_272
theorem gv_L_96 : GoodIn tb (wsV R_L 96 R_M y_M_about ws_M_about) := tb_g4 tw_363 tw_364 tw_365 tw_2 tw_366
end
section
/-! FoldRow: the leaves (printed by gen/gen_F.py) -/
set_option maxHeartbeats 4000000 in
set_option maxRecDepth 100000 in
/-- in(v, w) -/
theorem c_F_in {l : Launch} {v w : Int64} : Met l y_F_in ws_F_in rm_F_in (fun v9 _ => v9 = ([.long v, .long w] : List Value).toArray) (vp_Si (fun r => r = x_in v w)) 0 0 (fun _ => False) := by
  refine xS_met (av := [.long v, .long w]) (by decide) (Nat.le_of_ble_eq_true rfl) ?_
  intro p e s m below meth c ls S hr hlocks hnh had hl
  have hx := S.1
  have hb := S.2.1
  have hml := S.2.2.1
  have hown := S.2.2.2.1
  have ht := S.2.2.2.2
  have hl : lv_has ls 4 [(0, .long v), (2, .long w)] := hl
  refine lv_lload_n hx hb d_F_in_0 rfl (lv_at hl 0 rfl) ?_
  refine lv_lload_n hx hb d_F_in_1 rfl (lv_at hl 1 rfl) ?_
  refine lv_lneg hx hb d_F_in_2 ?_
  refine W.lcmp hx hb d_F_in_3 ?_
  refine lv_if_lt hx hb (tgt := 17) d_F_in_4 (by decide) (fun h4 => ?_) (fun h4 => ?_)
  · skip
    refine lv_iconst hx hb (v := 0) d_F_in_17 (by decide +kernel) ?_
    rw [show x_in v w = 0 from (by (try simp only [lg_cmp_eq, lg_cmp_lt, lg_cmp_gt, lg_cmp_ge, lg_cmp_le] at h4); simp [x_in, h4])]
    exact xS_zret S hr hlocks narrow_b0 d_F_in_18
  · skip
    refine lv_lload_n hx hb d_F_in_7 rfl (lv_at hl 0 rfl) ?_
    refine lv_lload_n hx hb d_F_in_8 rfl (lv_at hl 1 rfl) ?_
    refine W.lcmp hx hb d_F_in_9 ?_
    refine lv_if_gt hx hb (tgt := 17) d_F_in_10 (by decide) (fun h10 => ?_) (fun h10 => ?_)
    · skip
      refine lv_iconst hx hb (v := 0) d_F_in_17 (by decide +kernel) ?_
      rw [show x_in v w = 0 from (by (try simp only [lg_cmp_eq, lg_cmp_lt, lg_cmp_gt, lg_cmp_ge, lg_cmp_le] at h4 h10); simp [x_in, h4, h10])]
      exact xS_zret S hr hlocks narrow_b0 d_F_in_18
    · skip
      refine lv_iconst hx hb (v := 1) d_F_in_13 (by decide +kernel) ?_
      refine lv_goto hx hb (tgt := 18) d_F_in_14 (by decide) ?_
      rw [show x_in v w = 1 from (by (try simp only [lg_cmp_eq, lg_cmp_lt, lg_cmp_gt, lg_cmp_ge, lg_cmp_le] at h4 h10); simp [x_in, h4, h10])]
      exact xS_zret S hr hlocks narrow_b1 d_F_in_18
set_option maxHeartbeats 4000000 in
set_option maxRecDepth 100000 in
/-- nothing(k) -/
theorem c_F_nothing {l : Launch} {D : va_G} {o : Nat → Nat} {cJ cI : ClassId} {sz : Nat} {M L G : Nat → Int64} {K : Nat → Int32} {V : Nat → Int64} {a b t : Int64} {k : Nat} (hk : k < 512) : Met l y_F_nothing ws_F_nothing rm_F_nothing (va_Pc [.ref (o 0), .int (nI k)] (pF D o cJ cI sz M L G K V a b t)) (va_Qv (fun _ : Unit => True) (fun _ => bF D o cJ cI (aF o sz) (vp_updL M k 0) (vp_updL L k nN) (vp_updL G k nP) K V a b t) (aF o sz)) 0 0 (aF o sz) := by
  refine xF_met (av := [.int (nI k)]) (by decide) rfl (Nat.le_of_ble_eq_true rfl) ?_
  intro p e s m below meth c ls hC hsz hr hlocks hnm hnh had hl hI
  have hA : ∀ q, s.heap.size ≤ q → aF o sz q := fun q h => aF_new (by omega)
  have hx := hC.1.1
  have hb := hC.1.2.1
  have hml := hC.1.2.2.1
  have hown := hC.1.2.2.2.1
  have ht := hC.1.2.2.2.2
  have S := hC.1
  have hl : lv_has ls 2 [(0, .ref (o 0)), (1, .int (nI k))] := hl
  refine lv_aload_n hx hb d_F_nothing_0 rfl (lv_at hl 0 rfl) ?_
  refine xF_get0 hC hI d_F_nothing_1 ?_
  refine lv_iload_n hx hb d_F_nothing_4 rfl (lv_at hl 1 rfl) ?_
  refine lv_lconst hx hb (v := 0) d_F_nothing_5 (by decide +kernel) ?_
  refine xF_st1 hC hI hk d_F_nothing_6 (fun H locs hI => ?_)
  refine lv_aload_n hx hb d_F_nothing_7 rfl (lv_at hl 0 rfl) ?_
  refine xF_get1 hC hI d_F_nothing_8 ?_
  refine lv_iload_n hx hb d_F_nothing_11 rfl (lv_at hl 1 rfl) ?_
  refine lv_ldc2 (v := nN) hx hb hown (ht _ tw_22) d_F_nothing_12 ?_
  refine xF_st2 hC hI hk d_F_nothing_15 (fun H locs hI => ?_)
  refine lv_aload_n hx hb d_F_nothing_16 rfl (lv_at hl 0 rfl) ?_
  refine xF_get2 hC hI d_F_nothing_17 ?_
  refine lv_iload_n hx hb d_F_nothing_20 rfl (lv_at hl 1 rfl) ?_
  refine lv_ldc2 (v := nP) hx hb hown (ht _ tw_23) d_F_nothing_21 ?_
  refine xF_st3 hC hI hk d_F_nothing_24 (fun H locs hI => ?_)
  exact xF_vret hC hI hr hlocks d_F_nothing_25
set_option maxHeartbeats 4000000 in
set_option maxRecDepth 100000 in
/-- bound(v, d) -/
theorem c_F_bound {l : Launch} {v d : Int64} : Met l y_F_bound ws_F_bound rm_F_bound (fun v9 _ => v9 = ([.long v, .long d] : List Value).toArray) (vp_Sl (fun r => r = x_bound v d)) 0 0 (fun _ => False) := by
  refine xS_met (av := [.long v, .long d]) (by decide) (Nat.le_of_ble_eq_true rfl) ?_
  intro p e s m below meth c ls S hr hlocks hnh had hl
  have hx := S.1
  have hb := S.2.1
  have hml := S.2.2.1
  have hown := S.2.2.2.1
  have ht := S.2.2.2.2
  have hl : lv_has ls 4 [(0, .long v), (2, .long d)] := hl
  refine lv_lload_n hx hb d_F_bound_0 rfl (lv_at hl 0 rfl) ?_
  refine lv_ldc2 (v := nP) hx hb hown (ht _ tw_23) d_F_bound_1 ?_
  refine W.lcmp hx hb d_F_bound_4 ?_
  refine lv_if_eq hx hb (tgt := 16) d_F_bound_5 (by decide) (fun h5 => ?_) (fun h5 => ?_)
  · skip
    refine lv_lload_n hx hb d_F_bound_16 rfl (lv_at hl 0 rfl) ?_
    refine lv_goto hx hb (tgt := 23) d_F_bound_17 (by decide) ?_
    rw [show x_bound v d = v from (by (try simp only [lg_cmp_eq, lg_cmp_lt, lg_cmp_gt, lg_cmp_ge, lg_cmp_le] at h5); simp [x_bound, h5])]
    exact xS_lret S hr hlocks d_F_bound_23
  · skip
    refine lv_lload_n hx hb d_F_bound_8 rfl (lv_at hl 0 rfl) ?_
    refine lv_ldc2 (v := nN) hx hb hown (ht _ tw_22) d_F_bound_9 ?_
    refine W.lcmp hx hb d_F_bound_12 ?_
    refine lv_if_ne hx hb (tgt := 20) d_F_bound_13 (by decide) (fun h13 => ?_) (fun h13 => ?_)
    · skip
      refine lv_lload_n hx hb d_F_bound_20 rfl (lv_at hl 0 rfl) ?_
      refine lv_lload_n hx hb d_F_bound_21 rfl (lv_at hl 1 rfl) ?_
      refine lv_ladd hx hb d_F_bound_22 ?_
      rw [show x_bound v d = (v + d) from (by (try simp only [lg_cmp_eq, lg_cmp_lt, lg_cmp_gt, lg_cmp_ge, lg_cmp_le] at h5 h13); simp [x_bound, h5, h13])]
      exact xS_lret S hr hlocks d_F_bound_23
    · skip
      refine lv_lload_n hx hb d_F_bound_16 rfl (lv_at hl 0 rfl) ?_
      refine lv_goto hx hb (tgt := 23) d_F_bound_17 (by decide) ?_
      rw [show x_bound v d = v from (by (try simp only [lg_cmp_eq, lg_cmp_lt, lg_cmp_gt, lg_cmp_ge, lg_cmp_le] at h5 h13); simp [x_bound, h5, h13])]
      exact xS_lret S hr hlocks d_F_bound_23
set_option maxHeartbeats 4000000 in
set_option maxRecDepth 100000 in
/-- within(v, least, most) -/
theorem c_F_within {l : Launch} {v k w : Int64} : Met l y_F_within ws_F_within rm_F_within (fun v9 _ => v9 = ([.long v, .long k, .long w] : List Value).toArray) (vp_Sl (fun r => r = x_within v k w)) 0 0 (fun _ => False) := by
  refine xS_met (av := [.long v, .long k, .long w]) (by decide) (Nat.le_of_ble_eq_true rfl) ?_
  intro p e s m below meth c ls S hr hlocks hnh had hl
  have hx := S.1
  have hb := S.2.1
  have hml := S.2.2.1
  have hown := S.2.2.2.1
  have ht := S.2.2.2.2
  have hl : lv_has ls 6 [(0, .long v), (2, .long k), (4, .long w)] := hl
  refine lv_lload_n hx hb d_F_within_0 rfl (lv_at hl 1 rfl) ?_
  refine lv_lload hx hb d_F_within_1 (lv_at hl 2 rfl) ?_
  refine lv_lload_n hx hb d_F_within_3 rfl (lv_at hl 0 rfl) ?_
  refine va_mmin_long hx hb (hml.trans hl.1.symm) hown (ht _ tw_180) (ht _ tw_181) (ht _ tw_8) (ht _ tw_182) (by decide) (Nat.le_of_ble_eq_true rfl) (by decide) (by decide) d_F_within_4 ?_
  refine va_mmax_long hx hb (hml.trans hl.1.symm) hown (ht _ tw_183) (ht _ tw_184) (ht _ tw_8) (ht _ tw_185) (by decide) (Nat.le_of_ble_eq_true rfl) (by decide) (by decide) d_F_within_7 ?_
  exact xS_lret S hr hlocks d_F_within_10
set_option maxHeartbeats 4000000 in
set_option maxRecDepth 100000 in
/-- behind(m, l, h) -/
theorem c_F_behind {l : Launch} {D : va_G} {o : Nat → Nat} {cJ cI : ClassId} {sz : Nat} {M L G : Nat → Int64} {K : Nat → Int32} {V : Nat → Int64} {a b t : Int64} {k u w : Int64} : Met l y_F_behind ws_F_behind rm_F_behind (va_Pc [.ref (o 0), .long k, .long u, .long w] (pF D o cJ cI sz M L G K V a b t)) (va_Qv (fun _ : Unit => True) (fun _ => bF D o cJ cI (aF o sz) M L G K V ((x_beh (a, b, t) (k, u, w)).1) ((x_beh (a, b, t) (k, u, w)).2.1) ((x_beh (a, b, t) (k, u, w)).2.2)) (aF o sz)) 0 0 (aF o sz) := by
  refine xF_met (av := [.long k, .long u, .long w]) (by decide) rfl (Nat.le_of_ble_eq_true rfl) ?_
  intro p e s m below meth c ls hC hsz hr hlocks hnm hnh had hl hI
  have hA : ∀ q, s.heap.size ≤ q → aF o sz q := fun q h => aF_new (by omega)
  have hx := hC.1.1
  have hb := hC.1.2.1
  have hml := hC.1.2.2.1
  have hown := hC.1.2.2.2.1
  have ht := hC.1.2.2.2.2
  have S := hC.1
  have hl : lv_has ls 7 [(0, .ref (o 0)), (1, .long k), (3, .long u), (5, .long w)] := hl
  refine lv_aload_n hx hb d_F_behind_0 rfl (lv_at hl 0 rfl) ?_
  refine lv_dup hx hb d_F_behind_1 rfl ?_
  refine xF_get5 hC hI d_F_behind_2 ?_
  refine lv_lload_n hx hb d_F_behind_5 rfl (lv_at hl 1 rfl) ?_
  refine lv_ladd hx hb d_F_behind_6 ?_
  refine xF_put5 hC hI d_F_behind_7 (fun H locs hI => ?_)
  refine lv_aload_n hx hb d_F_behind_10 rfl (lv_at hl 0 rfl) ?_
  refine lv_aload_n hx hb d_F_behind_11 rfl (lv_at hl 0 rfl) ?_
  refine xF_get6 hC hI d_F_behind_12 ?_
  refine lv_lload_n hx hb d_F_behind_15 rfl (lv_at hl 1 rfl) ?_
  refine xS_calll (As := [.long b, .long k]) (rest := [.ref (o 0)]) S c_F_bound (cwS 2 ht gs_F_56 rfl rfl rfl ⟨rfl, by decide, by decide, by decide +kernel⟩ ⟨by decide, by decide⟩) rfl hl.1 rfl (Nat.le_of_ble_eq_true rfl) d_F_behind_16 ⟨by decide, by decide⟩ ?_
  refine lv_lload_n hx hb d_F_behind_19 rfl (lv_at hl 2 rfl) ?_
  refine lv_lload hx hb d_F_behind_20 (lv_at hl 3 rfl) ?_
  refine xS_calll (As := [.long (x_bound b k), .long u, .long w]) (rest := [.ref (o 0)]) S c_F_within (cwS 3 ht gs_F_59 rfl rfl rfl ⟨rfl, by decide, by decide, by decide +kernel⟩ ⟨by decide, by decide⟩) rfl hl.1 rfl (Nat.le_of_ble_eq_true rfl) d_F_behind_22 ⟨by decide, by decide⟩ ?_
  refine xF_put6 hC hI d_F_behind_25 (fun H locs hI => ?_)
  refine lv_aload_n hx hb d_F_behind_28 rfl (lv_at hl 0 rfl) ?_
  refine lv_aload_n hx hb d_F_behind_29 rfl (lv_at hl 0 rfl) ?_
  refine xF_get7 hC hI d_F_behind_30 ?_
  refine lv_lload_n hx hb d_F_behind_33 rfl (lv_at hl 1 rfl) ?_
  refine xS_calll (As := [.long t, .long k]) (rest := [.ref (o 0)]) S c_F_bound (cwS 2 ht gs_F_56 rfl rfl rfl ⟨rfl, by decide, by decide, by decide +kernel⟩ ⟨by decide, by decide⟩) rfl hl.1 rfl (Nat.le_of_ble_eq_true rfl) d_F_behind_34 ⟨by decide, by decide⟩ ?_
  refine lv_lload_n hx hb d_F_behind_37 rfl (lv_at hl 2 rfl) ?_
  refine lv_lload hx hb d_F_behind_38 (lv_at hl 3 rfl) ?_
  refine xS_calll (As := [.long (x_bound t k), .long u, .long w]) (rest := [.ref (o 0)]) S c_F_within (cwS 3 ht gs_F_59 rfl rfl rfl ⟨rfl, by decide, by decide, by decide +kernel⟩ ⟨by decide, by decide⟩) rfl hl.1 rfl (Nat.le_of_ble_eq_true rfl) d_F_behind_40 ⟨by decide, by decide⟩ ?_
  refine xF_put7 hC hI d_F_behind_43 (fun H locs hI => ?_)
  exact xF_vret hC hI hr hlocks d_F_behind_46
set_option maxHeartbeats 4000000 in
set_option maxRecDepth 100000 in
/-- begin() -/
theorem c_F_begin {l : Launch} {D : va_G} {o : Nat → Nat} {cJ cI : ClassId} {sz : Nat} {M L G : Nat → Int64} {K : Nat → Int32} {V : Nat → Int64} {a b t : Int64}  : Met l y_F_begin ws_F_begin rm_F_begin (va_Pc [.ref (o 0)] (pF D o cJ cI sz M L G K V a b t)) (va_Qv (fun _ : Unit => True) (fun _ => bF D o cJ cI (aF o sz) M L G K V 0 nN nP) (aF o sz)) 0 0 (aF o sz) := by
  refine xF_met (av := []) (by decide) rfl (Nat.le_of_ble_eq_true rfl) ?_
  intro p e s m below meth c ls hC hsz hr hlocks hnm hnh had hl hI
  have hA : ∀ q, s.heap.size ≤ q → aF o sz q := fun q h => aF_new (by omega)
  have hx := hC.1.1
  have hb := hC.1.2.1
  have hml := hC.1.2.2.1
  have hown := hC.1.2.2.2.1
  have ht := hC.1.2.2.2.2
  have S := hC.1
  have hl : lv_has ls 1 [(0, .ref (o 0))] := hl
  refine lv_aload_n hx hb d_F_begin_0 rfl (lv_at hl 0 rfl) ?_
  refine lv_lconst hx hb (v := 0) d_F_begin_1 (by decide +kernel) ?_
  refine xF_put5 hC hI d_F_begin_2 (fun H locs hI => ?_)
  refine lv_aload_n hx hb d_F_begin_5 rfl (lv_at hl 0 rfl) ?_
  refine lv_ldc2 (v := nN) hx hb hown (ht _ tw_22) d_F_begin_6 ?_
  refine xF_put6 hC hI d_F_begin_9 (fun H locs hI => ?_)
  refine lv_aload_n hx hb d_F_begin_12 rfl (lv_at hl 0 rfl) ?_
  refine lv_ldc2 (v := nP) hx hb hown (ht _ tw_23) d_F_begin_13 ?_
  refine xF_put7 hC hI d_F_begin_16 (fun H locs hI => ?_)
  exact xF_vret hC hI hr hlocks d_F_begin_19
set_option maxHeartbeats 4000000 in
set_option maxRecDepth 100000 in
/-- node(k) -/
theorem c_F_node {l : Launch} {D : va_G} {o : Nat → Nat} {cJ cI : ClassId} {sz : Nat} {M L G : Nat → Int64} {K : Nat → Int32} {V : Nat → Int64} {a b t : Int64} {k : Nat} (hk : k < 512) : Met l y_F_node ws_F_node rm_F_node (va_Pc [.ref (o 0), .int (nI k)] (pF D o cJ cI sz M L G K V a b t)) (va_Qv (fun _ : Unit => True) (fun _ => bF D o cJ cI (aF o sz) M L G K V ((x_beh (a, b, t) (x_nd (M, L, G) k)).1) ((x_beh (a, b, t) (x_nd (M, L, G) k)).2.1) ((x_beh (a, b, t) (x_nd (M, L, G) k)).2.2)) (aF o sz)) 0 0 (aF o sz) := by
  refine xF_met (av := [.int (nI k)]) (by decide) rfl (Nat.le_of_ble_eq_true rfl) ?_
  intro p e s m below meth c ls hC hsz hr hlocks hnm hnh had hl hI
  have hA : ∀ q, s.heap.size ≤ q → aF o sz q := fun q h => aF_new (by omega)
  have hx := hC.1.1
  have hb := hC.1.2.1
  have hml := hC.1.2.2.1
  have hown := hC.1.2.2.2.1
  have ht := hC.1.2.2.2.2
  have S := hC.1
  have hl : lv_has ls 2 [(0, .ref (o 0)), (1, .int (nI k))] := hl
  refine lv_aload_n hx hb d_F_node_0 rfl (lv_at hl 0 rfl) ?_
  refine lv_aload_n hx hb d_F_node_1 rfl (lv_at hl 0 rfl) ?_
  refine xF_get0 hC hI d_F_node_2 ?_
  refine lv_iload_n hx hb d_F_node_5 rfl (lv_at hl 1 rfl) ?_
  refine xF_ld1 hC hI hk d_F_node_6 ?_
  refine lv_aload_n hx hb d_F_node_7 rfl (lv_at hl 0 rfl) ?_
  refine xF_get1 hC hI d_F_node_8 ?_
  refine lv_iload_n hx hb d_F_node_11 rfl (lv_at hl 1 rfl) ?_
  refine xF_ld2 hC hI hk d_F_node_12 ?_
  refine lv_aload_n hx hb d_F_node_13 rfl (lv_at hl 0 rfl) ?_
  refine xF_get2 hC hI d_F_node_14 ?_
  refine lv_iload_n hx hb d_F_node_17 rfl (lv_at hl 1 rfl) ?_
  refine xF_ld3 hC hI hk d_F_node_18 ?_
  refine xF_callv (As := [.long (M k), .long (L k), .long (G k)]) (rest := []) hC hI hA c_F_behind (cwV 3 ht gv_F_66 rfl rfl rfl ⟨rfl, by decide, by decide, by decide +kernel⟩ ⟨by decide, by decide⟩) rfl hl.1 rfl (Nat.le_of_ble_eq_true rfl) d_F_node_19 ⟨by decide, by decide⟩ (fun H locs hI _ _ => ?_)
  exact xF_vret hC hI hr hlocks d_F_node_22
set_option maxHeartbeats 4000000 in
set_option maxRecDepth 100000 in
/-- keep(k) -/
theorem c_F_keep {l : Launch} {D : va_G} {o : Nat → Nat} {cJ cI : ClassId} {sz : Nat} {M L G : Nat → Int64} {K : Nat → Int32} {V : Nat → Int64} {a b t : Int64} {k : Nat} (hk : k < 512) : Met l y_F_keep ws_F_keep rm_F_keep (va_Pc [.ref (o 0), .int (nI k)] (pF D o cJ cI sz M L G K V a b t)) (va_Qv (fun _ : Unit => True) (fun _ => bF D o cJ cI (aF o sz) (vp_updL M k a) (vp_updL L k b) (vp_updL G k t) K V a b t) (aF o sz)) 0 0 (aF o sz) := by
  refine xF_met (av := [.int (nI k)]) (by decide) rfl (Nat.le_of_ble_eq_true rfl) ?_
  intro p e s m below meth c ls hC hsz hr hlocks hnm hnh had hl hI
  have hA : ∀ q, s.heap.size ≤ q → aF o sz q := fun q h => aF_new (by omega)
  have hx := hC.1.1
  have hb := hC.1.2.1
  have hml := hC.1.2.2.1
  have hown := hC.1.2.2.2.1
  have ht := hC.1.2.2.2.2
  have S := hC.1
  have hl : lv_has ls 2 [(0, .ref (o 0)), (1, .int (nI k))] := hl
  refine lv_aload_n hx hb d_F_keep_0 rfl (lv_at hl 0 rfl) ?_
  refine xF_get0 hC hI d_F_keep_1 ?_
  refine lv_iload_n hx hb d_F_keep_4 rfl (lv_at hl 1 rfl) ?_
  refine lv_aload_n hx hb d_F_keep_5 rfl (lv_at hl 0 rfl) ?_
  refine xF_get5 hC hI d_F_keep_6 ?_
  refine xF_st1 hC hI hk d_F_keep_9 (fun H locs hI => ?_)
  refine lv_aload_n hx hb d_F_keep_10 rfl (lv_at hl 0 rfl) ?_
  refine xF_get1 hC hI d_F_keep_11 ?_
  refine lv_iload_n hx hb d_F_keep_14 rfl (lv_at hl 1 rfl) ?_
  refine lv_aload_n hx hb d_F_keep_15 rfl (lv_at hl 0 rfl) ?_
  refine xF_get6 hC hI d_F_keep_16 ?_
  refine xF_st2 hC hI hk d_F_keep_19 (fun H locs hI => ?_)
  refine lv_aload_n hx hb d_F_keep_20 rfl (lv_at hl 0 rfl) ?_
  refine xF_get2 hC hI d_F_keep_21 ?_
  refine lv_iload_n hx hb d_F_keep_24 rfl (lv_at hl 1 rfl) ?_
  refine lv_aload_n hx hb d_F_keep_25 rfl (lv_at hl 0 rfl) ?_
  refine xF_get7 hC hI d_F_keep_26 ?_
  refine xF_st3 hC hI hk d_F_keep_29 (fun H locs hI => ?_)
  exact xF_vret hC hI hr hlocks d_F_keep_30
set_option maxHeartbeats 4000000 in
set_option maxRecDepth 100000 in
/-- made(v) -/
theorem c_F_made {l : Launch} {D : va_G} {o : Nat → Nat} {cJ cI : ClassId} {sz : Nat} {M L G : Nat → Int64} {K : Nat → Int32} {V : Nat → Int64} {a b t : Int64} {v : Int64} : Met l y_F_made ws_F_made rm_F_made (va_Pc [.ref (o 0), .long v] (pF D o cJ cI sz M L G K V a b t)) (va_Ql (fun (r9 : Int64) (_ : Unit) => r9 = (x_made (a, b, t) v)) (fun _ => bF D o cJ cI (aF o sz) M L G K V a b t) (aF o sz)) 0 0 (aF o sz) := by
  refine xF_met (av := [.long v]) (by decide) rfl (Nat.le_of_ble_eq_true rfl) ?_
  intro p e s m below meth c ls hC hsz hr hlocks hnm hnh had hl hI
  have hA : ∀ q, s.heap.size ≤ q → aF o sz q := fun q h => aF_new (by omega)
  have hx := hC.1.1
  have hb := hC.1.2.1
  have hml := hC.1.2.2.1
  have hown := hC.1.2.2.2.1
  have ht := hC.1.2.2.2.2
  have S := hC.1
  have hl : lv_has ls 3 [(0, .ref (o 0)), (1, .long v)] := hl
  refine lv_lload_n hx hb d_F_made_0 rfl (lv_at hl 1 rfl) ?_
  refine lv_aload_n hx hb d_F_made_1 rfl (lv_at hl 0 rfl) ?_
  refine xF_get5 hC hI d_F_made_2 ?_
  refine lv_ladd hx hb d_F_made_5 ?_
  refine lv_aload_n hx hb d_F_made_6 rfl (lv_at hl 0 rfl) ?_
  refine xF_get6 hC hI d_F_made_7 ?_
  refine lv_aload_n hx hb d_F_made_10 rfl (lv_at hl 0 rfl) ?_
  refine xF_get7 hC hI d_F_made_11 ?_
  refine xS_calll (As := [.long (v + a), .long b, .long t]) (rest := []) S c_F_within (cwS 3 ht gs_F_59 rfl rfl rfl ⟨rfl, by decide, by decide, by decide +kernel⟩ ⟨by decide, by decide⟩) rfl hl.1 rfl (Nat.le_of_ble_eq_true rfl) d_F_made_14 ⟨by decide, by decide⟩ ?_
  exact xF_lret hC hI hr hlocks d_F_made_17
end
section
/-! FoldRow: rule, up (printed by gen/gen_F.py) -/
set_option maxHeartbeats 4000000 in
set_option maxRecDepth 100000 in
/-- rule(j, s, v) -/
theorem c_F_rule3 {l : Launch} {D : va_G} {o : Nat → Nat} {cJ cI : ClassId} {sz : Nat} {M L G : Nat → Int64} {K : Nat → Int32} {V : Nat → Int64} {a b t : Int64} {j : Nat} {s0 : Int32} {v : Int64} (hj : j < 256) : Met l y_F_rule3 ws_F_rule3 rm_F_rule3 (va_Pc [.ref (o 0), .int (nI j), .int s0, .long v] (pF D o cJ cI sz M L G K V a b t)) (va_Qv (fun _ : Unit => True) (fun _ => bF D o cJ cI (aF o sz) (vp_updL M (256 + j) (x_leaf s0 v).1) (vp_updL L (256 + j) (x_leaf s0 v).2.1) (vp_updL G (256 + j) (x_leaf s0 v).2.2) (upd K j s0) (vp_updL V j v) a b t) (aF o sz)) 0 0 (aF o sz) := by
  refine xF_met (av := [.int (nI j), .int s0, .long v]) (by decide) rfl (Nat.le_of_ble_eq_true rfl) ?_
  intro p e s m below meth c ls hC hsz hr hlocks hnm hnh had hl hI
  have hA : ∀ q, s.heap.size ≤ q → aF o sz q := fun q h => aF_new (by omega)
  have hx := hC.1.1
  have hb := hC.1.2.1
  have hml := hC.1.2.2.1
  have hown := hC.1.2.2.2.1
  have ht := hC.1.2.2.2.2
  have S := hC.1
  have hl : lv_has ls 6 [(0, .ref (o 0)), (1, .int (nI j)), (2, .int s0), (3, .long v)] := hl
  refine lv_aload_n hx hb d_F_rule3_0 rfl (lv_at hl 0 rfl) ?_
  refine xF_get3 hC hI d_F_rule3_1 ?_
  refine lv_iload_n hx hb d_F_rule3_4 rfl (lv_at hl 1 rfl) ?_
  refine lv_iload_n hx hb d_F_rule3_5 rfl (lv_at hl 2 rfl) ?_
  refine xF_st4 hC hI hj d_F_rule3_6 (fun H locs hI => ?_)
  refine lv_aload_n hx hb d_F_rule3_7 rfl (lv_at hl 0 rfl) ?_
  refine xF_get4 hC hI d_F_rule3_8 ?_
  refine lv_iload_n hx hb d_F_rule3_11 rfl (lv_at hl 1 rfl) ?_
  refine lv_lload_n hx hb d_F_rule3_12 rfl (lv_at hl 3 rfl) ?_
  refine xF_st5 hC hI hj d_F_rule3_13 (fun H locs hI => ?_)
  refine lv_sipush hx hb (v := nI 256) d_F_rule3_14 (by decide +kernel) ?_
  refine lv_iload_n hx hb d_F_rule3_17 rfl (lv_at hl 1 rfl) ?_
  refine lv_iadd hx hb d_F_rule3_18 ?_
  refine xw_i (y := nI (256 + j)) (nI_add 256 j) ?_
  refine lv_istore hx hb d_F_rule3_19 hl (by decide) (lv' := [(5, .int (nI (256 + j))), (0, .ref (o 0)), (1, .int (nI j)), (2, .int s0), (3, .long v)]) rfl (fun ls hl => ?_)
  refine lv_aload_n hx hb d_F_rule3_21 rfl (lv_at hl 1 rfl) ?_
  refine lv_iload hx hb d_F_rule3_22 (lv_at hl 0 rfl) ?_
  refine xF_callv (As := [.int (nI (256 + j))]) (rest := []) hC hI hA (c_F_nothing (k := 256 + j) (by omega)) (cwV 1 ht gv_F_26 rfl rfl rfl ⟨rfl, by decide, by decide, by decide +kernel⟩ ⟨by decide, by decide⟩) rfl hl.1 rfl (Nat.le_of_ble_eq_true rfl) d_F_rule3_24 ⟨by decide, by decide⟩ (fun H locs hI _ _ => ?_)
  refine lv_iload_n hx hb d_F_rule3_27 rfl (lv_at hl 3 rfl) ?_
  refine lv_iconst hx hb (v := 1) d_F_rule3_28 (by decide +kernel) ?_
  refine lv_icmp_ne hx hb (tgt := 40) d_F_rule3_29 (by decide) (fun h29 => ?_) (fun h29 => ?_)
  · skip
    refine lv_iload_n hx hb d_F_rule3_40 rfl (lv_at hl 3 rfl) ?_
    refine lv_iconst hx hb (v := 2) d_F_rule3_41 (by decide +kernel) ?_
    refine lv_icmp_eq hx hb (tgt := 50) d_F_rule3_42 (by decide) (fun h42 => ?_) (fun h42 => ?_)
    · skip
      refine lv_aload_n hx hb d_F_rule3_50 rfl (lv_at hl 1 rfl) ?_
      refine xF_get1 hC hI d_F_rule3_51 ?_
      refine lv_iload hx hb d_F_rule3_54 (lv_at hl 0 rfl) ?_
      refine lv_lload_n hx hb d_F_rule3_56 rfl (lv_at hl 4 rfl) ?_
      refine xF_st2 hC hI (by omega) d_F_rule3_57 (fun H locs hI => ?_)
      refine lv_iload_n hx hb d_F_rule3_58 rfl (lv_at hl 3 rfl) ?_
      refine lv_iconst hx hb (v := 2) d_F_rule3_59 (by decide +kernel) ?_
      refine lv_icmp_eq hx hb (tgt := 68) d_F_rule3_60 (by decide) (fun h60 => ?_) (fun h60 => absurd h42 h60)
      refine lv_aload_n hx hb d_F_rule3_68 rfl (lv_at hl 1 rfl) ?_
      refine xF_get2 hC hI d_F_rule3_69 ?_
      refine lv_iload hx hb d_F_rule3_72 (lv_at hl 0 rfl) ?_
      refine lv_lload_n hx hb d_F_rule3_74 rfl (lv_at hl 4 rfl) ?_
      refine xF_st3 hC hI (by omega) d_F_rule3_75 (fun H locs hI => ?_)
      rw [show x_leaf s0 v = (0, v, v) from (by (try simp only [lg_cmp_eq, lg_cmp_lt, lg_cmp_gt, lg_cmp_ge, lg_cmp_le] at h29 h42); simp [x_leaf, h29, h42])]
      exact xF_vret hC (by simpa only [updL_updL] using hI) hr hlocks d_F_rule3_76
    · skip
      refine lv_iload_n hx hb d_F_rule3_45 rfl (lv_at hl 3 rfl) ?_
      refine lv_iconst hx hb (v := 3) d_F_rule3_46 (by decide +kernel) ?_
      refine lv_icmp_ne hx hb (tgt := 58) d_F_rule3_47 (by decide) (fun h47 => ?_) (fun h47 => ?_)
      · skip
        refine lv_iload_n hx hb d_F_rule3_58 rfl (lv_at hl 3 rfl) ?_
        refine lv_iconst hx hb (v := 2) d_F_rule3_59 (by decide +kernel) ?_
        refine lv_icmp_eq hx hb (tgt := 68) d_F_rule3_60 (by decide) (fun h60 => absurd h60 h42) (fun h60 => ?_)
        refine lv_iload_n hx hb d_F_rule3_63 rfl (lv_at hl 3 rfl) ?_
        refine lv_iconst hx hb (v := 4) d_F_rule3_64 (by decide +kernel) ?_
        refine lv_icmp_ne hx hb (tgt := 76) d_F_rule3_65 (by decide) (fun h65 => ?_) (fun h65 => ?_)
        · skip
          rw [show x_leaf s0 v = (0, nN, nP) from (by (try simp only [lg_cmp_eq, lg_cmp_lt, lg_cmp_gt, lg_cmp_ge, lg_cmp_le] at h29 h42 h47 h65); simp [x_leaf, h29, h42, h47, h65])]
          exact xF_vret hC (by simpa only [updL_updL] using hI) hr hlocks d_F_rule3_76
        · skip
          refine lv_aload_n hx hb d_F_rule3_68 rfl (lv_at hl 1 rfl) ?_
          refine xF_get2 hC hI d_F_rule3_69 ?_
          refine lv_iload hx hb d_F_rule3_72 (lv_at hl 0 rfl) ?_
          refine lv_lload_n hx hb d_F_rule3_74 rfl (lv_at hl 4 rfl) ?_
          refine xF_st3 hC hI (by omega) d_F_rule3_75 (fun H locs hI => ?_)
          rw [show x_leaf s0 v = (0, nN, v) from (by (try simp only [lg_cmp_eq, lg_cmp_lt, lg_cmp_gt, lg_cmp_ge, lg_cmp_le] at h29 h42 h47 h65); simp [x_leaf, h29, h42, h47, h65])]
          exact xF_vret hC (by simpa only [updL_updL] using hI) hr hlocks d_F_rule3_76
      · skip
        refine lv_aload_n hx hb d_F_rule3_50 rfl (lv_at hl 1 rfl) ?_
        refine xF_get1 hC hI d_F_rule3_51 ?_
        refine lv_iload hx hb d_F_rule3_54 (lv_at hl 0 rfl) ?_
        refine lv_lload_n hx hb d_F_rule3_56 rfl (lv_at hl 4 rfl) ?_
        refine xF_st2 hC hI (by omega) d_F_rule3_57 (fun H locs hI => ?_)
        refine lv_iload_n hx hb d_F_rule3_58 rfl (lv_at hl 3 rfl) ?_
        refine lv_iconst hx hb (v := 2) d_F_rule3_59 (by decide +kernel) ?_
        refine lv_icmp_eq hx hb (tgt := 68) d_F_rule3_60 (by decide) (fun h60 => absurd (h47.symm.trans h60) (by decide)) (fun h60 => ?_)
        refine lv_iload_n hx hb d_F_rule3_63 rfl (lv_at hl 3 rfl) ?_
        refine lv_iconst hx hb (v := 4) d_F_rule3_64 (by decide +kernel) ?_
        refine lv_icmp_ne hx hb (tgt := 76) d_F_rule3_65 (by decide) (fun h65 => ?_) (fun h65 => absurd (h47.symm.trans h65) (by decide))
        rw [show x_leaf s0 v = (0, v, nP) from (by (try simp only [lg_cmp_eq, lg_cmp_lt, lg_cmp_gt, lg_cmp_ge, lg_cmp_le] at h29 h42 h47); simp [x_leaf, h29, h42, h47])]
        exact xF_vret hC (by simpa only [updL_updL] using hI) hr hlocks d_F_rule3_76
  · skip
    refine lv_aload_n hx hb d_F_rule3_32 rfl (lv_at hl 1 rfl) ?_
    refine xF_get0 hC hI d_F_rule3_33 ?_
    refine lv_iload hx hb d_F_rule3_36 (lv_at hl 0 rfl) ?_
    refine lv_lload_n hx hb d_F_rule3_38 rfl (lv_at hl 4 rfl) ?_
    refine xF_st1 hC hI (by omega) d_F_rule3_39 (fun H locs hI => ?_)
    refine lv_iload_n hx hb d_F_rule3_40 rfl (lv_at hl 3 rfl) ?_
    refine lv_iconst hx hb (v := 2) d_F_rule3_41 (by decide +kernel) ?_
    refine lv_icmp_eq hx hb (tgt := 50) d_F_rule3_42 (by decide) (fun h42 => absurd (h29.symm.trans h42) (by decide)) (fun h42 => ?_)
    refine lv_iload_n hx hb d_F_rule3_45 rfl (lv_at hl 3 rfl) ?_
    refine lv_iconst hx hb (v := 3) d_F_rule3_46 (by decide +kernel) ?_
    refine lv_icmp_ne hx hb (tgt := 58) d_F_rule3_47 (by decide) (fun h47 => ?_) (fun h47 => absurd (h29.symm.trans h47) (by decide))
    refine lv_iload_n hx hb d_F_rule3_58 rfl (lv_at hl 3 rfl) ?_
    refine lv_iconst hx hb (v := 2) d_F_rule3_59 (by decide +kernel) ?_
    refine lv_icmp_eq hx hb (tgt := 68) d_F_rule3_60 (by decide) (fun h60 => absurd (h29.symm.trans h60) (by decide)) (fun h60 => ?_)
    refine lv_iload_n hx hb d_F_rule3_63 rfl (lv_at hl 3 rfl) ?_
    refine lv_iconst hx hb (v := 4) d_F_rule3_64 (by decide +kernel) ?_
    refine lv_icmp_ne hx hb (tgt := 76) d_F_rule3_65 (by decide) (fun h65 => ?_) (fun h65 => absurd (h29.symm.trans h65) (by decide))
    rw [show x_leaf s0 v = (v, nN, nP) from (by (try simp only [lg_cmp_eq, lg_cmp_lt, lg_cmp_gt, lg_cmp_ge, lg_cmp_le] at h29); simp [x_leaf, h29])]
    exact xF_vret hC (by simpa only [updL_updL] using hI) hr hlocks d_F_rule3_76
set_option maxHeartbeats 4000000 in
set_option maxRecDepth 100000 in
theorem u_F_up {l : Launch} {D : va_G} {o : Nat → Nat} {cJ cI : ClassId} {K : Nat → Int32} {V : Nat → Int64} {p : Program} {e : Env} {s : State} {m : MethodId} {args : Array Value} {below : List Frame} {meth : Method} {c : Code} {Q : State → Prop} {A : Nat → Prop} {H0 : Heap} {j : Int32} (hC : CX p m c b_F_up 3 s args R_F D cJ cI) (hA : ∀ q, H0.size ≤ q → A q) : ∀ (f k : Nat) (M L G : Nat → Int64) (a b t : Int64) (H : Heap) (locs : List Loc) (ls : Array Slot), k < 2 ^ f → (f = 0 ∨ 2 ^ (f - 1) ≤ k) → f ≤ 8 → lv_has ls 3 [(2, .int (nI k)), (0, .ref (o 0)), (1, .int j)] → iF D o cJ cI A H0 H locs M L G K V a b t →
    (∀ (H1 : Heap) (locs1 : List Loc) (ls1 : Array Slot), iF D o cJ cI A H0 H1 locs1 (x_upF f k (M, L, G) (a, b, t)).1.1 (x_upF f k (M, L, G) (a, b, t)).1.2.1 (x_upF f k (M, L, G) (a, b, t)).1.2.2 K V (x_upF f k (M, L, G) (a, b, t)).2.1 (x_upF f k (M, L, G) (a, b, t)).2.2.1 (x_upF f k (M, L, G) (a, b, t)).2.2.2 → W p l e rm_F_up s m args below meth c H1 locs1 0 0 Q (F0 m 44 ls1 [])) → W p l e rm_F_up s m args below meth c H locs 0 0 Q (F0 m 8 ls []) := by
  have hx := hC.1.1
  have hb := hC.1.2.1
  have hml := hC.1.2.2.1
  have hown := hC.1.2.2.2.1
  have ht := hC.1.2.2.2.2
  have S := hC.1
  intro f
  induction f with
  | zero =>
    intro k M L G a b t H locs ls hk _ _ hl hI kk
    have hk0 : k = 0 := by simpa using hk
    subst hk0
    refine lv_iload_n hx hb d_F_up_8 rfl (lv_at hl 0 rfl) ?_
    refine lv_if_le hx hb (tgt := 44) d_F_up_9 (by decide) (fun h9 => ?_) (fun h9 => absurd (by decide : nI 0 ≤ 0) h9)
    exact kk H locs ls hI
  | succ f ih =>
    intro k M L G a b t H locs ls hk hk2 hf hl hI kk
    have hpow : 2 ^ f ≤ k := by rcases hk2 with h | h; omega; simpa using h
    have hp1 : 0 < 2 ^ f := Nat.two_pow_pos f
    have hp2 : 2 ^ (f + 1) = 2 * 2 ^ f := by rw [Nat.pow_succ]; omega
    have hp3 : 2 ^ f ≤ 128 := Nat.pow_le_pow_right (by decide) (show f ≤ 7 by omega)
    have hk256 : k < 256 := by omega
    have hp9 : f = 0 ∨ 2 ^ (f - 1) ≤ k / 2 := by
      rcases f with _ | f
      · exact Or.inl rfl
      · right
        have h9 : 2 ^ (f + 1) = 2 * 2 ^ f := by rw [Nat.pow_succ]; omega
        show 2 ^ f ≤ k / 2
        omega
    refine lv_iload_n hx hb d_F_up_8 rfl (lv_at hl 0 rfl) ?_
    refine lv_if_le hx hb (tgt := 44) d_F_up_9 (by decide) (fun h9 => absurd h9 (nI_nle (by omega) (by omega))) (fun h9 => ?_)
    refine lv_aload_n hx hb d_F_up_12 rfl (lv_at hl 1 rfl) ?_
    refine xF_callv (As := []) (rest := []) hC hI hA c_F_begin (cwV 0 ht gv_F_70 rfl rfl rfl ⟨rfl, by decide, by decide, by decide +kernel⟩ ⟨by decide, by decide⟩) rfl hl.1 rfl (Nat.le_of_ble_eq_true rfl) d_F_up_13 ⟨by decide, by decide⟩ (fun H locs hI _ _ => ?_)
    refine lv_aload_n hx hb d_F_up_16 rfl (lv_at hl 1 rfl) ?_
    refine lv_iconst hx hb (v := nI 2) d_F_up_17 (by decide +kernel) ?_
    refine lv_iload_n hx hb d_F_up_18 rfl (lv_at hl 0 rfl) ?_
    refine lv_imul hx hb d_F_up_19 ?_
    refine xw_i (y := nI (2 * k)) (pk_mul 2 k) ?_
    refine xF_callv (As := [.int (nI (2 * k))]) (rest := []) hC hI hA (c_F_node (k := 2 * k) (by omega)) (cwV 1 ht gv_F_73 rfl rfl rfl ⟨rfl, by decide, by decide, by decide +kernel⟩ ⟨by decide, by decide⟩) rfl hl.1 rfl (Nat.le_of_ble_eq_true rfl) d_F_up_20 ⟨by decide, by decide⟩ (fun H locs hI _ _ => ?_)
    refine lv_aload_n hx hb d_F_up_23 rfl (lv_at hl 1 rfl) ?_
    refine lv_iconst hx hb (v := nI 2) d_F_up_24 (by decide +kernel) ?_
    refine lv_iload_n hx hb d_F_up_25 rfl (lv_at hl 0 rfl) ?_
    refine lv_imul hx hb d_F_up_26 ?_
    refine xw_i (y := nI (2 * k)) (pk_mul 2 k) ?_
    refine lv_iconst hx hb (v := nI 1) d_F_up_27 (by decide +kernel) ?_
    refine lv_iadd hx hb d_F_up_28 ?_
    refine xw_i (y := nI (2 * k + 1)) (nI_add (2 * k) 1) ?_
    refine xF_callv (As := [.int (nI (2 * k + 1))]) (rest := []) hC hI hA (c_F_node (k := 2 * k + 1) (by omega)) (cwV 1 ht gv_F_73 rfl rfl rfl ⟨rfl, by decide, by decide, by decide +kernel⟩ ⟨by decide, by decide⟩) rfl hl.1 rfl (Nat.le_of_ble_eq_true rfl) d_F_up_29 ⟨by decide, by decide⟩ (fun H locs hI _ _ => ?_)
    refine lv_aload_n hx hb d_F_up_32 rfl (lv_at hl 1 rfl) ?_
    refine lv_iload_n hx hb d_F_up_33 rfl (lv_at hl 0 rfl) ?_
    refine xF_callv (As := [.int (nI k)]) (rest := []) hC hI hA (c_F_keep (k := k) (by omega)) (cwV 1 ht gv_F_76 rfl rfl rfl ⟨rfl, by decide, by decide, by decide +kernel⟩ ⟨by decide, by decide⟩) rfl hl.1 rfl (Nat.le_of_ble_eq_true rfl) d_F_up_34 ⟨by decide, by decide⟩ (fun H locs hI _ _ => ?_)
    refine lv_iload_n hx hb d_F_up_37 rfl (lv_at hl 0 rfl) ?_
    refine lv_iconst hx hb (v := 1) d_F_up_38 (by decide +kernel) ?_
    refine lv_ishr hx hb d_F_up_39 ?_
    refine xw_i (y := nI (k / 2)) (pk_shrN (by omega) _ 1 (by decide)) ?_
    refine lv_istore_n hx hb d_F_up_40 rfl hl (by decide) (lv' := [(2, .int (nI (k / 2))), (0, .ref (o 0)), (1, .int j)]) rfl (fun ls hl => ?_)
    refine lv_goto hx hb (tgt := 8) d_F_up_41 (by decide) ?_
    exact ih (k / 2) _ _ _ _ _ _ H locs ls (by omega) hp9 (by omega) hl hI kk
set_option maxHeartbeats 4000000 in
set_option maxRecDepth 100000 in
/-- up(j) -/
theorem c_F_up {l : Launch} {D : va_G} {o : Nat → Nat} {cJ cI : ClassId} {sz : Nat} {M L G : Nat → Int64} {K : Nat → Int32} {V : Nat → Int64} {a b t : Int64} {j : Nat} (hj : j < 256) : Met l y_F_up ws_F_up rm_F_up (va_Pc [.ref (o 0), .int (nI j)] (pF D o cJ cI sz M L G K V a b t)) (va_Qv (fun _ : Unit => True) (fun _ => bF D o cJ cI (aF o sz) ((x_up (M, L, G) (a, b, t) j).1.1) ((x_up (M, L, G) (a, b, t) j).1.2.1) ((x_up (M, L, G) (a, b, t) j).1.2.2) K V ((x_up (M, L, G) (a, b, t) j).2.1) ((x_up (M, L, G) (a, b, t) j).2.2.1) ((x_up (M, L, G) (a, b, t) j).2.2.2)) (aF o sz)) 0 0 (aF o sz) := by
  refine xF_met (av := [.int (nI j)]) (by decide) rfl (Nat.le_of_ble_eq_true rfl) ?_
  intro p e s m below meth c ls hC hsz hr hlocks hnm hnh had hl hI
  have hA : ∀ q, s.heap.size ≤ q → aF o sz q := fun q h => aF_new (by omega)
  have hx := hC.1.1
  have hb := hC.1.2.1
  have hml := hC.1.2.2.1
  have hown := hC.1.2.2.2.1
  have ht := hC.1.2.2.2.2
  have S := hC.1
  have hl : lv_has ls 3 [(0, .ref (o 0)), (1, .int (nI j))] := hl
  refine lv_sipush hx hb (v := nI 256) d_F_up_0 (by decide +kernel) ?_
  refine lv_iload_n hx hb d_F_up_3 rfl (lv_at hl 1 rfl) ?_
  refine lv_iadd hx hb d_F_up_4 ?_
  refine xw_i (y := nI (256 + j)) (nI_add 256 j) ?_
  refine lv_iconst hx hb (v := 1) d_F_up_5 (by decide +kernel) ?_
  refine lv_ishr hx hb d_F_up_6 ?_
  refine xw_i (y := nI ((256 + j) / 2)) (pk_shrN (by omega) _ 1 (by decide)) ?_
  refine lv_istore_n hx hb d_F_up_7 rfl hl (by decide) (lv' := [(2, .int (nI ((256 + j) / 2))), (0, .ref (o 0)), (1, .int (nI j))]) rfl (fun ls hl => ?_)
  exact u_F_up hC hA 8 ((256 + j) / 2) M L G a b t _ _ ls (by omega) (by omega) (by decide) hl hI (fun H locs ls hI => xF_vret hC hI hr hlocks d_F_up_44)
end
section
/-! FoldRow: the checks that throw (printed by gen/gen_F.py) -/
set_option maxHeartbeats 4000000 in
set_option maxRecDepth 100000 in
/-- true: nothing happens -/
theorem c_F_good {l : Launch}  : Met l y_F_good ws_F_good rm_F_good (fun v9 _ => v9 = ([.int 1] : List Value).toArray) (va_Sv (fun _ => True)) 0 0 (fun _ => False) := by
  refine xS_met (av := [.int 1]) (by decide) (Nat.le_of_ble_eq_true rfl) ?_
  intro p e s m below meth c ls S hr hlocks hnh had hl
  have hx := S.1
  have hb := S.2.1
  have hml := S.2.2.1
  have hown := S.2.2.2.1
  have ht := S.2.2.2.2
  have hl : lv_has ls 1 [(0, .int 1)] := hl
  refine lv_iload_n hx hb d_F_good_0 rfl (lv_at hl 0 rfl) ?_
  refine lv_if_ne hx hb (tgt := 12) d_F_good_1 (by decide) (fun h1 => ?_) (fun h1 => absurd h1 (by decide))
  exact xS_vret S hr hlocks d_F_good_12
set_option maxHeartbeats 4000000 in
set_option maxRecDepth 100000 in
/-- false: it throws -/
theorem e_F_good {l : Launch} {sz : Nat} (hfl : l.flags = flags0)  : Thr l y_F_good ws_F_good rt_F_good (va_Pc [.int 0] (fun U => U.heap.size = sz ∧ xz U)) (xQ X_IAE (fun _ => True) (fun q => sz ≤ q)) 1 6 (fun q => sz ≤ q) := by
  refine xS_thr (av := [.int 0]) (by decide) (Nat.le_of_ble_eq_true rfl) ?_
  intro p e s m below meth c ls S hsz hz hlocks hnh had hl
  subst hsz
  have hN := xn_new s.heap
  have hS : va_S (fun q => s.heap.size ≤ q) s.heap s.heap [] := va_S.rf
  have hx := S.1
  have hb := S.2.1
  have hml := S.2.2.1
  have hown := S.2.2.2.1
  have ht := S.2.2.2.2
  have hl : lv_has ls 1 [(0, .int 0)] := hl
  refine lv_iload_n hx hb d_F_good_0 rfl (lv_at hl 0 rfl) ?_
  refine lv_if_ne hx hb (tgt := 12) d_F_good_1 (by decide) (fun h1 => absurd rfl h1) (fun h1 => ?_)
  exact xt_throw hx hb hml hown (Launch.traces_off hfl had) (by decide +kernel) (by decide +kernel) (xo_IAE ht hz) (ht _ tw_70) (ht _ tw_71) (ht _ tw_6) hl.1 hnh hlocks (by decide) (by decide) (by decide) (by decide) d_F_good_4 d_F_good_7 d_F_good_8 d_F_good_11
set_option maxHeartbeats 4000000 in
set_option maxRecDepth 100000 in
/-- true: nothing happens -/
theorem c_F_there {l : Launch}  : Met l y_F_there ws_F_there rm_F_there (fun v9 _ => v9 = ([.int 1] : List Value).toArray) (va_Sv (fun _ => True)) 0 0 (fun _ => False) := by
  refine xS_met (av := [.int 1]) (by decide) (Nat.le_of_ble_eq_true rfl) ?_
  intro p e s m below meth c ls S hr hlocks hnh had hl
  have hx := S.1
  have hb := S.2.1
  have hml := S.2.2.1
  have hown := S.2.2.2.1
  have ht := S.2.2.2.2
  have hl : lv_has ls 1 [(0, .int 1)] := hl
  refine lv_iload_n hx hb d_F_there_0 rfl (lv_at hl 0 rfl) ?_
  refine lv_if_ne hx hb (tgt := 12) d_F_there_1 (by decide) (fun h1 => ?_) (fun h1 => absurd h1 (by decide))
  exact xS_vret S hr hlocks d_F_there_12
set_option maxHeartbeats 4000000 in
set_option maxRecDepth 100000 in
/-- false: it throws -/
theorem e_F_there {l : Launch} {sz : Nat} (hfl : l.flags = flags0)  : Thr l y_F_there ws_F_there rt_F_there (va_Pc [.int 0] (fun U => U.heap.size = sz ∧ xz U)) (xQ X_IOO (fun _ => True) (fun q => sz ≤ q)) 1 6 (fun q => sz ≤ q) := by
  refine xS_thr (av := [.int 0]) (by decide) (Nat.le_of_ble_eq_true rfl) ?_
  intro p e s m below meth c ls S hsz hz hlocks hnh had hl
  subst hsz
  have hN := xn_new s.heap
  have hS : va_S (fun q => s.heap.size ≤ q) s.heap s.heap [] := va_S.rf
  have hx := S.1
  have hb := S.2.1
  have hml := S.2.2.1
  have hown := S.2.2.2.1
  have ht := S.2.2.2.2
  have hl : lv_has ls 1 [(0, .int 0)] := hl
  refine lv_iload_n hx hb d_F_there_0 rfl (lv_at hl 0 rfl) ?_
  refine lv_if_ne hx hb (tgt := 12) d_F_there_1 (by decide) (fun h1 => absurd rfl h1) (fun h1 => ?_)
  exact xt_throw hx hb hml hown (Launch.traces_off hfl had) (by decide +kernel) (by decide +kernel) (xo_IOO ht hz) (ht _ tw_139) (ht _ tw_140) (ht _ tw_7) hl.1 hnh hlocks (by decide) (by decide) (by decide) (by decide) d_F_there_4 d_F_there_7 d_F_there_8 d_F_there_11
set_option maxHeartbeats 4000000 in
set_option maxRecDepth 100000 in
/-- a number that is one -/
theorem c_F_told {l : Launch} {v : Int64} (hv : x_told v = 1) : Met l y_F_told ws_F_told rm_F_told (fun v9 _ => v9 = ([.long v] : List Value).toArray) (vp_Sl (fun r => r = v)) 0 0 (fun _ => False) := by
  refine xS_met (av := [.long v]) (by decide) (Nat.le_of_ble_eq_true rfl) ?_
  intro p e s m below meth c ls S hr hlocks hnh had hl
  have hx := S.1
  have hb := S.2.1
  have hml := S.2.2.1
  have hown := S.2.2.2.1
  have ht := S.2.2.2.2
  have hl : lv_has ls 2 [(0, .long v)] := hl
  refine lv_lload_n hx hb d_F_told_0 rfl (lv_at hl 0 rfl) ?_
  refine lv_ldc2 (v := nP) hx hb hown (ht _ tw_23) d_F_told_1 ?_
  refine W.lcmp hx hb d_F_told_4 ?_
  refine lv_if_eq hx hb (tgt := 16) d_F_told_5 (by decide) (fun h5 => absurd hv (by simp [x_told, (lg_cmp_eq _ _).mp h5])) (fun h5 => ?_)
  refine lv_lload_n hx hb d_F_told_8 rfl (lv_at hl 0 rfl) ?_
  refine lv_ldc2 (v := nN) hx hb hown (ht _ tw_22) d_F_told_9 ?_
  refine W.lcmp hx hb d_F_told_12 ?_
  refine lv_if_ne hx hb (tgt := 24) d_F_told_13 (by decide) (fun h13 => ?_) (fun h13 => absurd hv (by simp [x_told, (lg_cmp_eq _ _).mp h13]))
  refine lv_lload_n hx hb d_F_told_24 rfl (lv_at hl 0 rfl) ?_
  exact xS_lret S hr hlocks d_F_told_25
set_option maxHeartbeats 4000000 in
set_option maxRecDepth 100000 in
/-- one that stands for none: it throws -/
theorem e_F_told {l : Launch} {sz : Nat} (hfl : l.flags = flags0) {v : Int64} (hv : x_told v = 0) : Thr l y_F_told ws_F_told rt_F_told (va_Pc [.long v] (fun U => U.heap.size = sz ∧ xz U)) (xQ X_UOE (fun _ => True) (fun q => sz ≤ q)) 1 6 (fun q => sz ≤ q) := by
  refine xS_thr (av := [.long v]) (by decide) (Nat.le_of_ble_eq_true rfl) ?_
  intro p e s m below meth c ls S hsz hz hlocks hnh had hl
  subst hsz
  have hN := xn_new s.heap
  have hS : va_S (fun q => s.heap.size ≤ q) s.heap s.heap [] := va_S.rf
  have hx := S.1
  have hb := S.2.1
  have hml := S.2.2.1
  have hown := S.2.2.2.1
  have ht := S.2.2.2.2
  have hl : lv_has ls 2 [(0, .long v)] := hl
  refine lv_lload_n hx hb d_F_told_0 rfl (lv_at hl 0 rfl) ?_
  refine lv_ldc2 (v := nP) hx hb hown (ht _ tw_23) d_F_told_1 ?_
  refine W.lcmp hx hb d_F_told_4 ?_
  refine lv_if_eq hx hb (tgt := 16) d_F_told_5 (by decide) (fun h5 => ?_) (fun h5 => ?_)
  · skip
    exact xt_throw hx hb hml hown (Launch.traces_off hfl had) (by decide +kernel) (by decide +kernel) (xo_UOE ht hz) (ht _ tw_241) (ht _ tw_242) (ht _ tw_9) hl.1 hnh hlocks (by decide) (by decide) (by decide) (by decide) d_F_told_16 d_F_told_19 d_F_told_20 d_F_told_23
  · skip
    refine lv_lload_n hx hb d_F_told_8 rfl (lv_at hl 0 rfl) ?_
    refine lv_ldc2 (v := nN) hx hb hown (ht _ tw_22) d_F_told_9 ?_
    refine W.lcmp hx hb d_F_told_12 ?_
    refine lv_if_ne hx hb (tgt := 24) d_F_told_13 (by decide) (fun h13 => absurd hv (by have h1 : ¬ v = nP := fun q => h5 ((lg_cmp_eq _ _).mpr q); have h2 : ¬ v = nN := fun q => h13 ((lg_cmp_eq _ _).mpr q); simp [x_told, h1, h2])) (fun h13 => ?_)
    exact xt_throw hx hb hml hown (Launch.traces_off hfl had) (by decide +kernel) (by decide +kernel) (xo_UOE ht hz) (ht _ tw_241) (ht _ tw_242) (ht _ tw_9) hl.1 hnh hlocks (by decide) (by decide) (by decide) (by decide) d_F_told_16 d_F_told_19 d_F_told_20 d_F_told_23
set_option maxHeartbeats 4000000 in
set_option maxRecDepth 100000 in
theorem j_F_rightRule {l : Launch} {p : Program} {e : Env} {R : Room} {s : State} {m : MethodId} {args : Array Value} {below : List Frame} {meth : Method} {c : Code} {H : Heap} {locs : List Loc} {cells slots : Nat} {Q : State → Prop} {ls : Array Slot} {s0 : Int32} {v : Int64} (hR1 : rm_F_in.frames + 1 ≤ R.frames) (hR2 : 8 + (4 + 11) + rm_F_in.locals ≤ R.locals) (hc1 : cells ≤ R.cells) (hc2 : slots ≤ R.slots) (S : CallFix p m c b_F_rightRule 3 s args tb R_F) (hl : lv_has ls 3 [(0, .int s0), (1, .long v)]) (kk : W p l e R s m args below meth c H locs cells slots Q (F0 m 24 ls [.int (x_rr s0 v)])) : W p l e R s m args below meth c H locs cells slots Q (F0 m 0 ls []) := by
  have hx := S.1
  have hb := S.2.1
  have hml := S.2.2.1
  have hown := S.2.2.2.1
  have ht := S.2.2.2.2
  have hl : lv_has ls 3 [(0, .int s0), (1, .long v)] := hl
  refine lv_iload_n hx hb d_F_rightRule_0 rfl (lv_at hl 0 rfl) ?_
  refine lv_if_lt hx hb (tgt := 23) d_F_rightRule_1 (by decide) (fun h1 => ?_) (fun h1 => ?_)
  · skip
    refine lv_iconst hx hb (v := 0) d_F_rightRule_23 (by decide +kernel) ?_
    rw [show x_rr s0 v = 0 from (by (try simp only [lg_cmp_eq, lg_cmp_lt, lg_cmp_gt, lg_cmp_ge, lg_cmp_le] at h1); simp [x_rr, h1])] at kk; exact kk
  · skip
    refine lv_iload_n hx hb d_F_rightRule_4 rfl (lv_at hl 0 rfl) ?_
    refine lv_iconst hx hb (v := 5) d_F_rightRule_5 (by decide +kernel) ?_
    refine lv_icmp_ge hx hb (tgt := 23) d_F_rightRule_6 (by decide) (fun h6 => ?_) (fun h6 => ?_)
    · skip
      refine lv_iconst hx hb (v := 0) d_F_rightRule_23 (by decide +kernel) ?_
      rw [show x_rr s0 v = 0 from (by (try simp only [lg_cmp_eq, lg_cmp_lt, lg_cmp_gt, lg_cmp_ge, lg_cmp_le] at h1 h6); simp [x_rr, h1, h6])] at kk; exact kk
    · skip
      refine lv_lload_n hx hb d_F_rightRule_9 rfl (lv_at hl 1 rfl) ?_
      refine lv_ldc2 (v := 1000000000) hx hb hown (ht _ tw_63) d_F_rightRule_10 ?_
      refine xS_calli (As := [.long v, .long 1000000000]) (rest := []) S c_F_in (cwS 2 ht gs_F_81 rfl rfl rfl ⟨rfl, by decide, by decide, by decide +kernel⟩ ⟨hR1, hR2⟩) rfl hl.1 rfl (Nat.le_of_ble_eq_true rfl) d_F_rightRule_13 ⟨hc1, hc2⟩ ?_
      refine lv_if_eq hx hb (tgt := 23) d_F_rightRule_16 (by decide) (fun h16 => ?_) (fun h16 => ?_)
      · skip
        refine lv_iconst hx hb (v := 0) d_F_rightRule_23 (by decide +kernel) ?_
        rw [show x_rr s0 v = 0 from (by (try simp only [lg_cmp_eq, lg_cmp_lt, lg_cmp_gt, lg_cmp_ge, lg_cmp_le] at h1 h6 h16); simp [x_rr, h1, h6, h16])] at kk; exact kk
      · skip
        refine lv_iconst hx hb (v := 1) d_F_rightRule_19 (by decide +kernel) ?_
        refine lv_goto hx hb (tgt := 24) d_F_rightRule_20 (by decide) ?_
        rw [show x_rr s0 v = 1 from (by (try simp only [lg_cmp_eq, lg_cmp_lt, lg_cmp_gt, lg_cmp_ge, lg_cmp_le] at h1 h6 h16); simp [x_rr, h1, h6, h16])] at kk; exact kk
set_option maxHeartbeats 4000000 in
set_option maxRecDepth 100000 in
theorem j_F_rule1 {l : Launch} {p : Program} {e : Env} {R : Room} {s : State} {m : MethodId} {args : Array Value} {below : List Frame} {meth : Method} {c : Code} {H : Heap} {locs : List Loc} {cells slots : Nat} {Q : State → Prop} {ls : Array Slot} {k : Int32} (S : CallFix p m c b_F_rule1 1 s args tb R_F) (hl : lv_has ls 1 [(0, .int k)]) (kk : W p l e R s m args below meth c H locs cells slots Q (F0 m 16 ls [.int (x_r1 k)])) : W p l e R s m args below meth c H locs cells slots Q (F0 m 0 ls []) := by
  have hx := S.1
  have hb := S.2.1
  have hml := S.2.2.1
  have hown := S.2.2.2.1
  have ht := S.2.2.2.2
  have hl : lv_has ls 1 [(0, .int k)] := hl
  refine lv_iload_n hx hb d_F_rule1_0 rfl (lv_at hl 0 rfl) ?_
  refine lv_if_lt hx hb (tgt := 15) d_F_rule1_1 (by decide) (fun h1 => ?_) (fun h1 => ?_)
  · skip
    refine lv_iconst hx hb (v := 0) d_F_rule1_15 (by decide +kernel) ?_
    rw [show x_r1 k = 0 from (by (try simp only [lg_cmp_eq, lg_cmp_lt, lg_cmp_gt, lg_cmp_ge, lg_cmp_le] at h1); simp [x_r1, h1])] at kk; exact kk
  · skip
    refine lv_iload_n hx hb d_F_rule1_4 rfl (lv_at hl 0 rfl) ?_
    refine lv_sipush hx hb (v := 256) d_F_rule1_5 (by decide +kernel) ?_
    refine lv_icmp_ge hx hb (tgt := 15) d_F_rule1_8 (by decide) (fun h8 => ?_) (fun h8 => ?_)
    · skip
      refine lv_iconst hx hb (v := 0) d_F_rule1_15 (by decide +kernel) ?_
      rw [show x_r1 k = 0 from (by (try simp only [lg_cmp_eq, lg_cmp_lt, lg_cmp_gt, lg_cmp_ge, lg_cmp_le] at h1 h8); simp [x_r1, h1, h8])] at kk; exact kk
    · skip
      refine lv_iconst hx hb (v := 1) d_F_rule1_11 (by decide +kernel) ?_
      refine lv_goto hx hb (tgt := 16) d_F_rule1_12 (by decide) ?_
      rw [show x_r1 k = 1 from (by (try simp only [lg_cmp_eq, lg_cmp_lt, lg_cmp_gt, lg_cmp_ge, lg_cmp_le] at h1 h8); simp [x_r1, h1, h8])] at kk; exact kk
set_option maxHeartbeats 4000000 in
set_option maxRecDepth 100000 in
theorem j_F_part {l : Launch} {p : Program} {e : Env} {R : Room} {s : State} {m : MethodId} {args : Array Value} {below : List Frame} {meth : Method} {c : Code} {H : Heap} {locs : List Loc} {cells slots : Nat} {Q : State → Prop} {ls : Array Slot} {f t : Int32} (S : CallFix p m c b_F_part 2 s args tb R_F) (hl : lv_has ls 2 [(0, .int f), (1, .int t)]) (kk : W p l e R s m args below meth c H locs cells slots Q (F0 m 21 ls [.int (x_pt f t)])) : W p l e R s m args below meth c H locs cells slots Q (F0 m 0 ls []) := by
  have hx := S.1
  have hb := S.2.1
  have hml := S.2.2.1
  have hown := S.2.2.2.1
  have ht := S.2.2.2.2
  have hl : lv_has ls 2 [(0, .int f), (1, .int t)] := hl
  refine lv_iload_n hx hb d_F_part_0 rfl (lv_at hl 0 rfl) ?_
  refine lv_if_lt hx hb (tgt := 20) d_F_part_1 (by decide) (fun h1 => ?_) (fun h1 => ?_)
  · skip
    refine lv_iconst hx hb (v := 0) d_F_part_20 (by decide +kernel) ?_
    rw [show x_pt f t = 0 from (by (try simp only [lg_cmp_eq, lg_cmp_lt, lg_cmp_gt, lg_cmp_ge, lg_cmp_le] at h1); simp [x_pt, h1])] at kk; exact kk
  · skip
    refine lv_iload_n hx hb d_F_part_4 rfl (lv_at hl 0 rfl) ?_
    refine lv_iload_n hx hb d_F_part_5 rfl (lv_at hl 1 rfl) ?_
    refine lv_icmp_gt hx hb (tgt := 20) d_F_part_6 (by decide) (fun h6 => ?_) (fun h6 => ?_)
    · skip
      refine lv_iconst hx hb (v := 0) d_F_part_20 (by decide +kernel) ?_
      rw [show x_pt f t = 0 from (by (try simp only [lg_cmp_eq, lg_cmp_lt, lg_cmp_gt, lg_cmp_ge, lg_cmp_le] at h1 h6); simp [x_pt, h1, h6])] at kk; exact kk
    · skip
      refine lv_iload_n hx hb d_F_part_9 rfl (lv_at hl 1 rfl) ?_
      refine lv_sipush hx hb (v := 256) d_F_part_10 (by decide +kernel) ?_
      refine lv_icmp_gt hx hb (tgt := 20) d_F_part_13 (by decide) (fun h13 => ?_) (fun h13 => ?_)
      · skip
        refine lv_iconst hx hb (v := 0) d_F_part_20 (by decide +kernel) ?_
        rw [show x_pt f t = 0 from (by (try simp only [lg_cmp_eq, lg_cmp_lt, lg_cmp_gt, lg_cmp_ge, lg_cmp_le] at h1 h6 h13); simp [x_pt, h1, h6, h13])] at kk; exact kk
      · skip
        refine lv_iconst hx hb (v := 1) d_F_part_16 (by decide +kernel) ?_
        refine lv_goto hx hb (tgt := 21) d_F_part_17 (by decide) ?_
        rw [show x_pt f t = 1 from (by (try simp only [lg_cmp_eq, lg_cmp_lt, lg_cmp_gt, lg_cmp_ge, lg_cmp_le] at h1 h6 h13); simp [x_pt, h1, h6, h13])] at kk; exact kk
set_option maxHeartbeats 4000000 in
set_option maxRecDepth 100000 in
/-- right -/
theorem c_F_rightRule {l : Launch} {s0 : Int32} {v : Int64} (hv : x_rr s0 v = 1) : Met l y_F_rightRule ws_F_rightRule rm_F_rightRule (fun v9 _ => v9 = ([.int s0, .long v] : List Value).toArray) (va_Sv (fun _ => True)) 0 0 (fun _ => False) := by
  refine xS_met (av := [.int s0, .long v]) (by decide) (Nat.le_of_ble_eq_true rfl) ?_
  intro p e s m below meth c ls S hr hlocks hnh had hl
  have hx := S.1
  have hb := S.2.1
  have hml := S.2.2.1
  have hown := S.2.2.2.1
  have ht := S.2.2.2.2
  have hl : lv_has ls 3 [(0, .int s0), (1, .long v)] := hl
  refine j_F_rightRule (by decide) (by decide) (by decide) (by decide) S hl ?_
  rw [hv]
  refine xS_callv (As := [.int 1]) (rest := []) S c_F_good (cwS 1 ht gs_F_85 rfl rfl rfl ⟨rfl, by decide, by decide, by decide +kernel⟩ ⟨by decide, by decide⟩) rfl hl.1 rfl (Nat.le_of_ble_eq_true rfl) d_F_rightRule_24 ⟨by decide, by decide⟩ ?_
  exact xS_vret S hr hlocks d_F_rightRule_27
set_option maxHeartbeats 4000000 in
set_option maxRecDepth 100000 in
/-- not right: it throws -/
theorem e_F_rightRule {l : Launch} {sz : Nat} (hfl : l.flags = flags0) {s0 : Int32} {v : Int64} (hv : x_rr s0 v = 0) : Thr l y_F_rightRule ws_F_rightRule rt_F_rightRule (va_Pc [.int s0, .long v] (fun U => U.heap.size = sz ∧ xz U)) (xQ X_IAE (fun _ => True) (fun q => sz ≤ q)) 1 6 (fun q => sz ≤ q) := by
  refine xS_thr (av := [.int s0, .long v]) (by decide) (Nat.le_of_ble_eq_true rfl) ?_
  intro p e s m below meth c ls S hsz hz hlocks hnh had hl
  subst hsz
  have hN := xn_new s.heap
  have hS : va_S (fun q => s.heap.size ≤ q) s.heap s.heap [] := va_S.rf
  have hx := S.1
  have hb := S.2.1
  have hml := S.2.2.1
  have hown := S.2.2.2.1
  have ht := S.2.2.2.2
  have hl : lv_has ls 3 [(0, .int s0), (1, .long v)] := hl
  refine j_F_rightRule (by decide) (by decide) (by decide) (by decide) S hl ?_
  rw [hv]
  exact xt_prop (xS_throws (As := [.int 0]) (rest := []) S hz hN hS (e_F_good hfl) (cwS 1 ht gs_F_85 rfl rfl rfl ⟨rfl, by decide, by decide, by decide +kernel⟩ ⟨by decide, by decide⟩) rfl hl.1 rfl (Nat.le_of_ble_eq_true rfl) d_F_rightRule_24 ⟨by decide, by decide⟩) hS (fun q _ h => h) (fun q h => h) hnh hlocks (fun _ _ _ _ _ _ _ _ => trivial)
set_option maxHeartbeats 4000000 in
set_option maxRecDepth 100000 in
/-- right -/
theorem c_F_rule1 {l : Launch} {k : Int32} (hv : x_r1 k = 1) : Met l y_F_rule1 ws_F_rule1 rm_F_rule1 (fun v9 _ => v9 = ([.int k] : List Value).toArray) (va_Sv (fun _ => True)) 0 0 (fun _ => False) := by
  refine xS_met (av := [.int k]) (by decide) (Nat.le_of_ble_eq_true rfl) ?_
  intro p e s m below meth c ls S hr hlocks hnh had hl
  have hx := S.1
  have hb := S.2.1
  have hml := S.2.2.1
  have hown := S.2.2.2.1
  have ht := S.2.2.2.2
  have hl : lv_has ls 1 [(0, .int k)] := hl
  refine j_F_rule1 S hl ?_
  rw [hv]
  refine xS_callv (As := [.int 1]) (rest := []) S c_F_there (cwS 1 ht gs_F_89 rfl rfl rfl ⟨rfl, by decide, by decide, by decide +kernel⟩ ⟨by decide, by decide⟩) rfl hl.1 rfl (Nat.le_of_ble_eq_true rfl) d_F_rule1_16 ⟨by decide, by decide⟩ ?_
  exact xS_vret S hr hlocks d_F_rule1_19
set_option maxHeartbeats 4000000 in
set_option maxRecDepth 100000 in
/-- not right: it throws -/
theorem e_F_rule1 {l : Launch} {sz : Nat} (hfl : l.flags = flags0) {k : Int32} (hv : x_r1 k = 0) : Thr l y_F_rule1 ws_F_rule1 rt_F_rule1 (va_Pc [.int k] (fun U => U.heap.size = sz ∧ xz U)) (xQ X_IOO (fun _ => True) (fun q => sz ≤ q)) 1 6 (fun q => sz ≤ q) := by
  refine xS_thr (av := [.int k]) (by decide) (Nat.le_of_ble_eq_true rfl) ?_
  intro p e s m below meth c ls S hsz hz hlocks hnh had hl
  subst hsz
  have hN := xn_new s.heap
  have hS : va_S (fun q => s.heap.size ≤ q) s.heap s.heap [] := va_S.rf
  have hx := S.1
  have hb := S.2.1
  have hml := S.2.2.1
  have hown := S.2.2.2.1
  have ht := S.2.2.2.2
  have hl : lv_has ls 1 [(0, .int k)] := hl
  refine j_F_rule1 S hl ?_
  rw [hv]
  exact xt_prop (xS_throws (As := [.int 0]) (rest := []) S hz hN hS (e_F_there hfl) (cwS 1 ht gs_F_89 rfl rfl rfl ⟨rfl, by decide, by decide, by decide +kernel⟩ ⟨by decide, by decide⟩) rfl hl.1 rfl (Nat.le_of_ble_eq_true rfl) d_F_rule1_16 ⟨by decide, by decide⟩) hS (fun q _ h => h) (fun q h => h) hnh hlocks (fun _ _ _ _ _ _ _ _ => trivial)
set_option maxHeartbeats 4000000 in
set_option maxRecDepth 100000 in
/-- right -/
theorem c_F_part {l : Launch} {f t : Int32} (hv : x_pt f t = 1) : Met l y_F_part ws_F_part rm_F_part (fun v9 _ => v9 = ([.int f, .int t] : List Value).toArray) (va_Sv (fun _ => True)) 0 0 (fun _ => False) := by
  refine xS_met (av := [.int f, .int t]) (by decide) (Nat.le_of_ble_eq_true rfl) ?_
  intro p e s m below meth c ls S hr hlocks hnh had hl
  have hx := S.1
  have hb := S.2.1
  have hml := S.2.2.1
  have hown := S.2.2.2.1
  have ht := S.2.2.2.2
  have hl : lv_has ls 2 [(0, .int f), (1, .int t)] := hl
  refine j_F_part S hl ?_
  rw [hv]
  refine xS_callv (As := [.int 1]) (rest := []) S c_F_there (cwS 1 ht gs_F_89 rfl rfl rfl ⟨rfl, by decide, by decide, by decide +kernel⟩ ⟨by decide, by decide⟩) rfl hl.1 rfl (Nat.le_of_ble_eq_true rfl) d_F_part_21 ⟨by decide, by decide⟩ ?_
  exact xS_vret S hr hlocks d_F_part_24
set_option maxHeartbeats 4000000 in
set_option maxRecDepth 100000 in
/-- not right: it throws -/
theorem e_F_part {l : Launch} {sz : Nat} (hfl : l.flags = flags0) {f t : Int32} (hv : x_pt f t = 0) : Thr l y_F_part ws_F_part rt_F_part (va_Pc [.int f, .int t] (fun U => U.heap.size = sz ∧ xz U)) (xQ X_IOO (fun _ => True) (fun q => sz ≤ q)) 1 6 (fun q => sz ≤ q) := by
  refine xS_thr (av := [.int f, .int t]) (by decide) (Nat.le_of_ble_eq_true rfl) ?_
  intro p e s m below meth c ls S hsz hz hlocks hnh had hl
  subst hsz
  have hN := xn_new s.heap
  have hS : va_S (fun q => s.heap.size ≤ q) s.heap s.heap [] := va_S.rf
  have hx := S.1
  have hb := S.2.1
  have hml := S.2.2.1
  have hown := S.2.2.2.1
  have ht := S.2.2.2.2
  have hl : lv_has ls 2 [(0, .int f), (1, .int t)] := hl
  refine j_F_part S hl ?_
  rw [hv]
  exact xt_prop (xS_throws (As := [.int 0]) (rest := []) S hz hN hS (e_F_there hfl) (cwS 1 ht gs_F_89 rfl rfl rfl ⟨rfl, by decide, by decide, by decide +kernel⟩ ⟨by decide, by decide⟩) rfl hl.1 rfl (Nat.le_of_ble_eq_true rfl) d_F_part_21 ⟨by decide, by decide⟩) hS (fun q _ h => h) (fun q h => h) hnh hlocks (fun _ _ _ _ _ _ _ _ => trivial)
end
section
/-! FoldRow: set, fill, swap (printed by gen/gen_F.py) -/
set_option maxHeartbeats 4000000 in
set_option maxRecDepth 100000 in
/-- set(j, s, v) -/
theorem c_F_set {l : Launch} {D : va_G} {o : Nat → Nat} {cJ cI : ClassId} {sz : Nat} {M L G : Nat → Int64} {K : Nat → Int32} {V : Nat → Int64} {a b t : Int64} {j : Nat} {s0 : Int32} {v : Int64} (hj : j < 256) (hv : x_rr s0 v = 1) : Met l y_F_set ws_F_set rm_F_set (va_Pc [.ref (o 0), .int (nI j), .int s0, .long v] (pF D o cJ cI sz M L G K V a b t)) (va_Qv (fun _ : Unit => True) (fun _ => bF D o cJ cI (aF o sz) ((x_set ((M, L, G), K, V, (a, b, t)) j s0 v).1.1) ((x_set ((M, L, G), K, V, (a, b, t)) j s0 v).1.2.1) ((x_set ((M, L, G), K, V, (a, b, t)) j s0 v).1.2.2) ((x_set ((M, L, G), K, V, (a, b, t)) j s0 v).2.1) ((x_set ((M, L, G), K, V, (a, b, t)) j s0 v).2.2.1) ((x_set ((M, L, G), K, V, (a, b, t)) j s0 v).2.2.2.1) ((x_set ((M, L, G), K, V, (a, b, t)) j s0 v).2.2.2.2.1) ((x_set ((M, L, G), K, V, (a, b, t)) j s0 v).2.2.2.2.2)) (aF o sz)) 0 0 (aF o sz) := by
  refine xF_met (av := [.int (nI j), .int s0, .long v]) (by decide) rfl (Nat.le_of_ble_eq_true rfl) ?_
  intro p e s m below meth c ls hC hsz hr hlocks hnm hnh had hl hI
  have hA : ∀ q, s.heap.size ≤ q → aF o sz q := fun q h => aF_new (by omega)
  have hx := hC.1.1
  have hb := hC.1.2.1
  have hml := hC.1.2.2.1
  have hown := hC.1.2.2.2.1
  have ht := hC.1.2.2.2.2
  have S := hC.1
  have hl : lv_has ls 5 [(0, .ref (o 0)), (1, .int (nI j)), (2, .int s0), (3, .long v)] := hl
  refine lv_iload_n hx hb d_F_set_0 rfl (lv_at hl 2 rfl) ?_
  refine lv_lload_n hx hb d_F_set_1 rfl (lv_at hl 3 rfl) ?_
  refine xS_callv (As := [.int s0, .long v]) (rest := []) S (c_F_rightRule hv) (cwS 2 ht gs_F_92 rfl rfl rfl ⟨rfl, by decide, by decide, by decide +kernel⟩ ⟨by decide, by decide⟩) rfl hl.1 rfl (Nat.le_of_ble_eq_true rfl) d_F_set_2 ⟨by decide, by decide⟩ ?_
  refine lv_iload_n hx hb d_F_set_5 rfl (lv_at hl 1 rfl) ?_
  refine xS_callv (As := [.int (nI j)]) (rest := []) S (c_F_rule1 (x_r1_ok hj)) (cwS 1 ht gs_F_96 rfl rfl rfl ⟨rfl, by decide, by decide, by decide +kernel⟩ ⟨by decide, by decide⟩) rfl hl.1 rfl (Nat.le_of_ble_eq_true rfl) d_F_set_6 ⟨by decide, by decide⟩ ?_
  refine lv_aload_n hx hb d_F_set_9 rfl (lv_at hl 0 rfl) ?_
  refine lv_iload_n hx hb d_F_set_10 rfl (lv_at hl 1 rfl) ?_
  refine lv_iload_n hx hb d_F_set_11 rfl (lv_at hl 2 rfl) ?_
  refine lv_lload_n hx hb d_F_set_12 rfl (lv_at hl 3 rfl) ?_
  refine xF_callv (As := [.int (nI j), .int s0, .long v]) (rest := []) hC hI hA (c_F_rule3 hj) (cwV 3 ht gv_F_99 rfl rfl rfl ⟨rfl, by decide, by decide, by decide +kernel⟩ ⟨by decide, by decide⟩) rfl hl.1 rfl (Nat.le_of_ble_eq_true rfl) d_F_set_13 ⟨by decide, by decide⟩ (fun H locs hI _ _ => ?_)
  refine lv_aload_n hx hb d_F_set_16 rfl (lv_at hl 0 rfl) ?_
  refine lv_iload_n hx hb d_F_set_17 rfl (lv_at hl 1 rfl) ?_
  refine xF_callv (As := [.int (nI j)]) (rest := []) hC hI hA (c_F_up hj) (cwV 1 ht gv_F_102 rfl rfl rfl ⟨rfl, by decide, by decide, by decide +kernel⟩ ⟨by decide, by decide⟩) rfl hl.1 rfl (Nat.le_of_ble_eq_true rfl) d_F_set_18 ⟨by decide, by decide⟩ (fun H locs hI _ _ => ?_)
  exact xF_vret hC hI hr hlocks d_F_set_21
set_option maxHeartbeats 4000000 in
set_option maxRecDepth 100000 in
/-- no rule -/
theorem e_F_set1 {l : Launch} {D : va_G} {o : Nat → Nat} {cJ cI : ClassId} {sz : Nat} {M L G : Nat → Int64} {K : Nat → Int32} {V : Nat → Int64} {a b t : Int64} (hfl : l.flags = flags0) {k s0 : Int32} {v : Int64} (hv : x_rr s0 v = 0) : Thr l y_F_set ws_F_set rt_F_set (va_Pc [.ref (o 0), .int k, .int s0, .long v] (fun U => pF D o cJ cI sz M L G K V a b t U ∧ xz U)) (xQ X_IAE (bF D o cJ cI (aF o sz) M L G K V a b t) (aF o sz)) 1 6 (aF o sz) := by
  refine xF_thr (av := [.int k, .int s0, .long v]) (by decide) rfl (Nat.le_of_ble_eq_true rfl) ?_
  intro p e s m below meth c ls hC hsz hz hlocks hnh had hl hI
  have hA : ∀ q, s.heap.size ≤ q → aF o sz q := fun q h => aF_new (by omega)
  have hN := iF_xn hI hsz
  have hS := hI.2.2
  have hx := hC.1.1
  have hb := hC.1.2.1
  have hml := hC.1.2.2.1
  have hown := hC.1.2.2.2.1
  have ht := hC.1.2.2.2.2
  have S := hC.1
  have hl : lv_has ls 5 [(0, .ref (o 0)), (1, .int k), (2, .int s0), (3, .long v)] := hl
  refine lv_iload_n hx hb d_F_set_0 rfl (lv_at hl 2 rfl) ?_
  refine lv_lload_n hx hb d_F_set_1 rfl (lv_at hl 3 rfl) ?_
  exact xt_prop (xS_throws (As := [.int s0, .long v]) (rest := []) S hz hN hS (e_F_rightRule hfl hv) (cwS 2 ht gs_F_92 rfl rfl rfl ⟨rfl, by decide, by decide, by decide +kernel⟩ ⟨by decide, by decide⟩) rfl hl.1 rfl (Nat.le_of_ble_eq_true rfl) d_F_set_2 ⟨by decide, by decide⟩) hS (fun q h1 h2 => absurd h1 (Nat.not_lt.mpr h2)) (fun q h => hA q (Nat.le_trans hI.2.2.1 h)) hnh hlocks (fun t0 hvm _ hz9 hk9 t1 ht1 hvm1 => ⟨hI.1.kept (fun k q hq => by rw [ht1]; exact hk9 q.1 ((hI.1 k q hq).lt) (Nat.not_le.mpr ((hI.1 k q hq).lt))), va_K.moved hvm1 hC.2, hI.2.1⟩)
set_option maxHeartbeats 4000000 in
set_option maxRecDepth 100000 in
/-- no place -/
theorem e_F_set2 {l : Launch} {D : va_G} {o : Nat → Nat} {cJ cI : ClassId} {sz : Nat} {M L G : Nat → Int64} {K : Nat → Int32} {V : Nat → Int64} {a b t : Int64} (hfl : l.flags = flags0) {k s0 : Int32} {v : Int64} (hv : x_rr s0 v = 1) (hk : x_r1 k = 0) : Thr l y_F_set ws_F_set rt_F_set (va_Pc [.ref (o 0), .int k, .int s0, .long v] (fun U => pF D o cJ cI sz M L G K V a b t U ∧ xz U)) (xQ X_IOO (bF D o cJ cI (aF o sz) M L G K V a b t) (aF o sz)) 1 6 (aF o sz) := by
  refine xF_thr (av := [.int k, .int s0, .long v]) (by decide) rfl (Nat.le_of_ble_eq_true rfl) ?_
  intro p e s m below meth c ls hC hsz hz hlocks hnh had hl hI
  have hA : ∀ q, s.heap.size ≤ q → aF o sz q := fun q h => aF_new (by omega)
  have hN := iF_xn hI hsz
  have hS := hI.2.2
  have hx := hC.1.1
  have hb := hC.1.2.1
  have hml := hC.1.2.2.1
  have hown := hC.1.2.2.2.1
  have ht := hC.1.2.2.2.2
  have S := hC.1
  have hl : lv_has ls 5 [(0, .ref (o 0)), (1, .int k), (2, .int s0), (3, .long v)] := hl
  refine lv_iload_n hx hb d_F_set_0 rfl (lv_at hl 2 rfl) ?_
  refine lv_lload_n hx hb d_F_set_1 rfl (lv_at hl 3 rfl) ?_
  refine xS_callv (As := [.int s0, .long v]) (rest := []) S (c_F_rightRule hv) (cwS 2 ht gs_F_92 rfl rfl rfl ⟨rfl, by decide, by decide, by decide +kernel⟩ ⟨by decide, by decide⟩) rfl hl.1 rfl (Nat.le_of_ble_eq_true rfl) d_F_set_2 ⟨by decide, by decide⟩ ?_
  refine lv_iload_n hx hb d_F_set_5 rfl (lv_at hl 1 rfl) ?_
  exact xt_prop (xS_throws (As := [.int k]) (rest := []) S hz hN hS (e_F_rule1 hfl hk) (cwS 1 ht gs_F_96 rfl rfl rfl ⟨rfl, by decide, by decide, by decide +kernel⟩ ⟨by decide, by decide⟩) rfl hl.1 rfl (Nat.le_of_ble_eq_true rfl) d_F_set_6 ⟨by decide, by decide⟩) hS (fun q h1 h2 => absurd h1 (Nat.not_lt.mpr h2)) (fun q h => hA q (Nat.le_trans hI.2.2.1 h)) hnh hlocks (fun t0 hvm _ hz9 hk9 t1 ht1 hvm1 => ⟨hI.1.kept (fun k q hq => by rw [ht1]; exact hk9 q.1 ((hI.1 k q hq).lt) (Nat.not_le.mpr ((hI.1 k q hq).lt))), va_K.moved hvm1 hC.2, hI.2.1⟩)
set_option maxHeartbeats 4000000 in
set_option maxRecDepth 100000 in
theorem u_F_fill {l : Launch} {D : va_G} {o : Nat → Nat} {cJ cI : ClassId} {p : Program} {e : Env} {s : State} {m : MethodId} {args : Array Value} {below : List Frame} {meth : Method} {c : Code} {Q : State → Prop} {A : Nat → Prop} {H0 : Heap} {fr to : Nat} {s0 : Int32} {v : Int64} {u : FR} (hC : CX p m c b_F_fill 7 s args R_F D cJ cI) (hA : ∀ q, H0.size ≤ q → A q) (hto : to ≤ 256) (hft : fr ≤ to) :
    ∀ (n d : Nat) (H : Heap) (locs : List Loc) (ls : Array Slot), fr + d + n = to → lv_has ls 7 [(6, .int (nI (fr + d))), (0, .ref (o 0)), (1, .int (nI fr)), (2, .int (nI to)), (3, .int s0), (4, .long v)] → iF D o cJ cI A H0 H locs (x_fill u fr s0 v d).1.1 (x_fill u fr s0 v d).1.2.1 (x_fill u fr s0 v d).1.2.2 (x_fill u fr s0 v d).2.1 (x_fill u fr s0 v d).2.2.1 (x_fill u fr s0 v d).2.2.2.1 (x_fill u fr s0 v d).2.2.2.2.1 (x_fill u fr s0 v d).2.2.2.2.2 → (∀ (H1 : Heap) (locs1 : List Loc) (ls1 : Array Slot), iF D o cJ cI A H0 H1 locs1 (x_fill u fr s0 v (to - fr)).1.1 (x_fill u fr s0 v (to - fr)).1.2.1 (x_fill u fr s0 v (to - fr)).1.2.2 (x_fill u fr s0 v (to - fr)).2.1 (x_fill u fr s0 v (to - fr)).2.2.1 (x_fill u fr s0 v (to - fr)).2.2.2.1 (x_fill u fr s0 v (to - fr)).2.2.2.2.1 (x_fill u fr s0 v (to - fr)).2.2.2.2.2 → W p l e rm_F_fill s m args below meth c H1 locs1 0 0 Q (F0 m 41 ls1 [])) → W p l e rm_F_fill s m args below meth c H locs 0 0 Q (F0 m 14 ls []) := by
  have hx := hC.1.1
  have hb := hC.1.2.1
  have hml := hC.1.2.2.1
  have hown := hC.1.2.2.2.1
  have ht := hC.1.2.2.2.2
  have S := hC.1
  intro n
  induction n with
  | zero =>
    intro d H locs ls hd hl hI kk
    have hd2 : d = to - fr := by omega
    refine lv_iload hx hb d_F_fill_14 (lv_at hl 0 rfl) ?_
    refine lv_iload_n hx hb d_F_fill_16 rfl (lv_at hl 3 rfl) ?_
    refine lv_icmp_ge hx hb (tgt := 41) d_F_fill_17 (by decide) (fun h17 => ?_) (fun h17 => absurd ((nI_leI (by omega) (by omega)).mpr (by omega)) h17)
    subst hd2
    exact kk H locs ls hI
  | succ n ih =>
    intro d H locs ls hd hl hI kk
    have hj : fr + d < 256 := by omega
    refine lv_iload hx hb d_F_fill_14 (lv_at hl 0 rfl) ?_
    refine lv_iload_n hx hb d_F_fill_16 rfl (lv_at hl 3 rfl) ?_
    refine lv_icmp_ge hx hb (tgt := 41) d_F_fill_17 (by decide) (fun h17 => absurd ((nI_leI (by omega) (by omega)).mp h17) (by omega)) (fun h17 => ?_)
    refine lv_aload_n hx hb d_F_fill_20 rfl (lv_at hl 1 rfl) ?_
    refine lv_iload hx hb d_F_fill_21 (lv_at hl 0 rfl) ?_
    refine lv_iload_n hx hb d_F_fill_23 rfl (lv_at hl 4 rfl) ?_
    refine lv_lload hx hb d_F_fill_24 (lv_at hl 5 rfl) ?_
    refine xF_callv (As := [.int (nI (fr + d)), .int s0, .long v]) (rest := []) hC hI hA (c_F_rule3 hj) (cwV 3 ht gv_F_99 rfl rfl rfl ⟨rfl, by decide, by decide, by decide +kernel⟩ ⟨by decide, by decide⟩) rfl hl.1 rfl (Nat.le_of_ble_eq_true rfl) d_F_fill_26 ⟨by decide, by decide⟩ (fun H locs hI _ _ => ?_)
    refine lv_aload_n hx hb d_F_fill_29 rfl (lv_at hl 1 rfl) ?_
    refine lv_iload hx hb d_F_fill_30 (lv_at hl 0 rfl) ?_
    refine xF_callv (As := [.int (nI (fr + d))]) (rest := []) hC hI hA (c_F_up hj) (cwV 1 ht gv_F_102 rfl rfl rfl ⟨rfl, by decide, by decide, by decide +kernel⟩ ⟨by decide, by decide⟩) rfl hl.1 rfl (Nat.le_of_ble_eq_true rfl) d_F_fill_32 ⟨by decide, by decide⟩ (fun H locs hI _ _ => ?_)
    refine lv_iinc (k := 0) hx hb d_F_fill_35 hl rfl (xi_inc (fr + d)) (by decide) (lv' := [(6, .int (nI (fr + (d + 1)))), (0, .ref (o 0)), (1, .int (nI fr)), (2, .int (nI to)), (3, .int s0), (4, .long v)]) rfl (fun ls hl => ?_)
    refine lv_goto hx hb (tgt := 14) d_F_fill_38 (by decide) ?_
    exact ih (d + 1) H locs ls (by omega) hl hI kk
set_option maxHeartbeats 4000000 in
set_option maxRecDepth 100000 in
/-- fill(from, to, s, v) -/
theorem c_F_fill {l : Launch} {D : va_G} {o : Nat → Nat} {cJ cI : ClassId} {sz : Nat} {M L G : Nat → Int64} {K : Nat → Int32} {V : Nat → Int64} {a b t : Int64} {fr to : Nat} {s0 : Int32} {v : Int64} (hto : to ≤ 256) (hft : fr ≤ to) (hv : x_rr s0 v = 1) : Met l y_F_fill ws_F_fill rm_F_fill (va_Pc [.ref (o 0), .int (nI fr), .int (nI to), .int s0, .long v] (pF D o cJ cI sz M L G K V a b t)) (va_Qv (fun _ : Unit => True) (fun _ => bF D o cJ cI (aF o sz) ((x_fill ((M, L, G), K, V, (a, b, t)) fr s0 v (to - fr)).1.1) ((x_fill ((M, L, G), K, V, (a, b, t)) fr s0 v (to - fr)).1.2.1) ((x_fill ((M, L, G), K, V, (a, b, t)) fr s0 v (to - fr)).1.2.2) ((x_fill ((M, L, G), K, V, (a, b, t)) fr s0 v (to - fr)).2.1) ((x_fill ((M, L, G), K, V, (a, b, t)) fr s0 v (to - fr)).2.2.1) ((x_fill ((M, L, G), K, V, (a, b, t)) fr s0 v (to - fr)).2.2.2.1) ((x_fill ((M, L, G), K, V, (a, b, t)) fr s0 v (to - fr)).2.2.2.2.1) ((x_fill ((M, L, G), K, V, (a, b, t)) fr s0 v (to - fr)).2.2.2.2.2)) (aF o sz)) 0 0 (aF o sz) := by
  refine xF_met (av := [.int (nI fr), .int (nI to), .int s0, .long v]) (by decide) rfl (Nat.le_of_ble_eq_true rfl) ?_
  intro p e s m below meth c ls hC hsz hr hlocks hnm hnh had hl hI
  have hA : ∀ q, s.heap.size ≤ q → aF o sz q := fun q h => aF_new (by omega)
  have hx := hC.1.1
  have hb := hC.1.2.1
  have hml := hC.1.2.2.1
  have hown := hC.1.2.2.2.1
  have ht := hC.1.2.2.2.2
  have S := hC.1
  have hl : lv_has ls 7 [(0, .ref (o 0)), (1, .int (nI fr)), (2, .int (nI to)), (3, .int s0), (4, .long v)] := hl
  refine lv_iload_n hx hb d_F_fill_0 rfl (lv_at hl 3 rfl) ?_
  refine lv_lload hx hb d_F_fill_1 (lv_at hl 4 rfl) ?_
  refine xS_callv (As := [.int s0, .long v]) (rest := []) S (c_F_rightRule hv) (cwS 2 ht gs_F_92 rfl rfl rfl ⟨rfl, by decide, by decide, by decide +kernel⟩ ⟨by decide, by decide⟩) rfl hl.1 rfl (Nat.le_of_ble_eq_true rfl) d_F_fill_3 ⟨by decide, by decide⟩ ?_
  refine lv_iload_n hx hb d_F_fill_6 rfl (lv_at hl 1 rfl) ?_
  refine lv_iload_n hx hb d_F_fill_7 rfl (lv_at hl 2 rfl) ?_
  refine xS_callv (As := [.int (nI fr), .int (nI to)]) (rest := []) S (c_F_part (x_pt_ok hft hto)) (cwS 2 ht gs_F_105 rfl rfl rfl ⟨rfl, by decide, by decide, by decide +kernel⟩ ⟨by decide, by decide⟩) rfl hl.1 rfl (Nat.le_of_ble_eq_true rfl) d_F_fill_8 ⟨by decide, by decide⟩ ?_
  refine lv_iload_n hx hb d_F_fill_11 rfl (lv_at hl 1 rfl) ?_
  refine lv_istore hx hb d_F_fill_12 hl (by decide) (lv' := [(6, .int (nI fr)), (0, .ref (o 0)), (1, .int (nI fr)), (2, .int (nI to)), (3, .int s0), (4, .long v)]) rfl (fun ls hl => ?_)
  exact u_F_fill (u := ((M, L, G), K, V, (a, b, t))) hC hA hto hft (to - fr) 0 _ _ ls (by omega) hl hI (fun H locs ls hI => xF_vret hC hI hr hlocks d_F_fill_41)
set_option maxHeartbeats 4000000 in
set_option maxRecDepth 100000 in
/-- no rule -/
theorem e_F_fill1 {l : Launch} {D : va_G} {o : Nat → Nat} {cJ cI : ClassId} {sz : Nat} {M L G : Nat → Int64} {K : Nat → Int32} {V : Nat → Int64} {a b t : Int64} (hfl : l.flags = flags0) {f t0 s0 : Int32} {v : Int64} (hv : x_rr s0 v = 0) : Thr l y_F_fill ws_F_fill rt_F_fill (va_Pc [.ref (o 0), .int f, .int t0, .int s0, .long v] (fun U => pF D o cJ cI sz M L G K V a b t U ∧ xz U)) (xQ X_IAE (bF D o cJ cI (aF o sz) M L G K V a b t) (aF o sz)) 1 6 (aF o sz) := by
  refine xF_thr (av := [.int f, .int t0, .int s0, .long v]) (by decide) rfl (Nat.le_of_ble_eq_true rfl) ?_
  intro p e s m below meth c ls hC hsz hz hlocks hnh had hl hI
  have hA : ∀ q, s.heap.size ≤ q → aF o sz q := fun q h => aF_new (by omega)
  have hN := iF_xn hI hsz
  have hS := hI.2.2
  have hx := hC.1.1
  have hb := hC.1.2.1
  have hml := hC.1.2.2.1
  have hown := hC.1.2.2.2.1
  have ht := hC.1.2.2.2.2
  have S := hC.1
  have hl : lv_has ls 7 [(0, .ref (o 0)), (1, .int f), (2, .int t0), (3, .int s0), (4, .long v)] := hl
  refine lv_iload_n hx hb d_F_fill_0 rfl (lv_at hl 3 rfl) ?_
  refine lv_lload hx hb d_F_fill_1 (lv_at hl 4 rfl) ?_
  exact xt_prop (xS_throws (As := [.int s0, .long v]) (rest := []) S hz hN hS (e_F_rightRule hfl hv) (cwS 2 ht gs_F_92 rfl rfl rfl ⟨rfl, by decide, by decide, by decide +kernel⟩ ⟨by decide, by decide⟩) rfl hl.1 rfl (Nat.le_of_ble_eq_true rfl) d_F_fill_3 ⟨by decide, by decide⟩) hS (fun q h1 h2 => absurd h1 (Nat.not_lt.mpr h2)) (fun q h => hA q (Nat.le_trans hI.2.2.1 h)) hnh hlocks (fun t0 hvm _ hz9 hk9 t1 ht1 hvm1 => ⟨hI.1.kept (fun k q hq => by rw [ht1]; exact hk9 q.1 ((hI.1 k q hq).lt) (Nat.not_le.mpr ((hI.1 k q hq).lt))), va_K.moved hvm1 hC.2, hI.2.1⟩)
set_option maxHeartbeats 4000000 in
set_option maxRecDepth 100000 in
/-- no part -/
theorem e_F_fill2 {l : Launch} {D : va_G} {o : Nat → Nat} {cJ cI : ClassId} {sz : Nat} {M L G : Nat → Int64} {K : Nat → Int32} {V : Nat → Int64} {a b t : Int64} (hfl : l.flags = flags0) {f t0 s0 : Int32} {v : Int64} (hv : x_rr s0 v = 1) (hp : x_pt f t0 = 0) : Thr l y_F_fill ws_F_fill rt_F_fill (va_Pc [.ref (o 0), .int f, .int t0, .int s0, .long v] (fun U => pF D o cJ cI sz M L G K V a b t U ∧ xz U)) (xQ X_IOO (bF D o cJ cI (aF o sz) M L G K V a b t) (aF o sz)) 1 6 (aF o sz) := by
  refine xF_thr (av := [.int f, .int t0, .int s0, .long v]) (by decide) rfl (Nat.le_of_ble_eq_true rfl) ?_
  intro p e s m below meth c ls hC hsz hz hlocks hnh had hl hI
  have hA : ∀ q, s.heap.size ≤ q → aF o sz q := fun q h => aF_new (by omega)
  have hN := iF_xn hI hsz
  have hS := hI.2.2
  have hx := hC.1.1
  have hb := hC.1.2.1
  have hml := hC.1.2.2.1
  have hown := hC.1.2.2.2.1
  have ht := hC.1.2.2.2.2
  have S := hC.1
  have hl : lv_has ls 7 [(0, .ref (o 0)), (1, .int f), (2, .int t0), (3, .int s0), (4, .long v)] := hl
  refine lv_iload_n hx hb d_F_fill_0 rfl (lv_at hl 3 rfl) ?_
  refine lv_lload hx hb d_F_fill_1 (lv_at hl 4 rfl) ?_
  refine xS_callv (As := [.int s0, .long v]) (rest := []) S (c_F_rightRule hv) (cwS 2 ht gs_F_92 rfl rfl rfl ⟨rfl, by decide, by decide, by decide +kernel⟩ ⟨by decide, by decide⟩) rfl hl.1 rfl (Nat.le_of_ble_eq_true rfl) d_F_fill_3 ⟨by decide, by decide⟩ ?_
  refine lv_iload_n hx hb d_F_fill_6 rfl (lv_at hl 1 rfl) ?_
  refine lv_iload_n hx hb d_F_fill_7 rfl (lv_at hl 2 rfl) ?_
  exact xt_prop (xS_throws (As := [.int f, .int t0]) (rest := []) S hz hN hS (e_F_part hfl hp) (cwS 2 ht gs_F_105 rfl rfl rfl ⟨rfl, by decide, by decide, by decide +kernel⟩ ⟨by decide, by decide⟩) rfl hl.1 rfl (Nat.le_of_ble_eq_true rfl) d_F_fill_8 ⟨by decide, by decide⟩) hS (fun q h1 h2 => absurd h1 (Nat.not_lt.mpr h2)) (fun q h => hA q (Nat.le_trans hI.2.2.1 h)) hnh hlocks (fun t0 hvm _ hz9 hk9 t1 ht1 hvm1 => ⟨hI.1.kept (fun k q hq => by rw [ht1]; exact hk9 q.1 ((hI.1 k q hq).lt) (Nat.not_le.mpr ((hI.1 k q hq).lt))), va_K.moved hvm1 hC.2, hI.2.1⟩)
set_option maxHeartbeats 4000000 in
set_option maxRecDepth 100000 in
/-- swap(j, k) -/
theorem c_F_swap {l : Launch} {D : va_G} {o : Nat → Nat} {cJ cI : ClassId} {sz : Nat} {M L G : Nat → Int64} {K : Nat → Int32} {V : Nat → Int64} {a b t : Int64} {j k : Nat} (hj : j < 256) (hk : k < 256) : Met l y_F_swap ws_F_swap rm_F_swap (va_Pc [.ref (o 0), .int (nI j), .int (nI k)] (pF D o cJ cI sz M L G K V a b t)) (va_Qv (fun _ : Unit => True) (fun _ => bF D o cJ cI (aF o sz) ((x_swap ((M, L, G), K, V, (a, b, t)) j k).1.1) ((x_swap ((M, L, G), K, V, (a, b, t)) j k).1.2.1) ((x_swap ((M, L, G), K, V, (a, b, t)) j k).1.2.2) ((x_swap ((M, L, G), K, V, (a, b, t)) j k).2.1) ((x_swap ((M, L, G), K, V, (a, b, t)) j k).2.2.1) ((x_swap ((M, L, G), K, V, (a, b, t)) j k).2.2.2.1) ((x_swap ((M, L, G), K, V, (a, b, t)) j k).2.2.2.2.1) ((x_swap ((M, L, G), K, V, (a, b, t)) j k).2.2.2.2.2)) (aF o sz)) 0 0 (aF o sz) := by
  refine xF_met (av := [.int (nI j), .int (nI k)]) (by decide) rfl (Nat.le_of_ble_eq_true rfl) ?_
  intro p e s m below meth c ls hC hsz hr hlocks hnm hnh had hl hI
  have hA : ∀ q, s.heap.size ≤ q → aF o sz q := fun q h => aF_new (by omega)
  have hx := hC.1.1
  have hb := hC.1.2.1
  have hml := hC.1.2.2.1
  have hown := hC.1.2.2.2.1
  have ht := hC.1.2.2.2.2
  have S := hC.1
  have hl : lv_has ls 6 [(0, .ref (o 0)), (1, .int (nI j)), (2, .int (nI k))] := hl
  refine lv_iload_n hx hb d_F_swap_0 rfl (lv_at hl 1 rfl) ?_
  refine xS_callv (As := [.int (nI j)]) (rest := []) S (c_F_rule1 (x_r1_ok hj)) (cwS 1 ht gs_F_96 rfl rfl rfl ⟨rfl, by decide, by decide, by decide +kernel⟩ ⟨by decide, by decide⟩) rfl hl.1 rfl (Nat.le_of_ble_eq_true rfl) d_F_swap_1 ⟨by decide, by decide⟩ ?_
  refine lv_iload_n hx hb d_F_swap_4 rfl (lv_at hl 2 rfl) ?_
  refine xS_callv (As := [.int (nI k)]) (rest := []) S (c_F_rule1 (x_r1_ok hk)) (cwS 1 ht gs_F_96 rfl rfl rfl ⟨rfl, by decide, by decide, by decide +kernel⟩ ⟨by decide, by decide⟩) rfl hl.1 rfl (Nat.le_of_ble_eq_true rfl) d_F_swap_5 ⟨by decide, by decide⟩ ?_
  refine lv_aload_n hx hb d_F_swap_8 rfl (lv_at hl 0 rfl) ?_
  refine xF_get3 hC hI d_F_swap_9 ?_
  refine lv_iload_n hx hb d_F_swap_12 rfl (lv_at hl 1 rfl) ?_
  refine xF_ld4 hC hI hj d_F_swap_13 ?_
  refine lv_istore_n hx hb d_F_swap_14 rfl hl (by decide) (lv' := [(3, .int (K j)), (0, .ref (o 0)), (1, .int (nI j)), (2, .int (nI k))]) rfl (fun ls hl => ?_)
  refine lv_aload_n hx hb d_F_swap_15 rfl (lv_at hl 1 rfl) ?_
  refine xF_get4 hC hI d_F_swap_16 ?_
  refine lv_iload_n hx hb d_F_swap_19 rfl (lv_at hl 2 rfl) ?_
  refine xF_ld5 hC hI hj d_F_swap_20 ?_
  refine lv_lstore hx hb d_F_swap_21 hl (by decide) (lv' := [(4, .long (V j)), (3, .int (K j)), (0, .ref (o 0)), (1, .int (nI j)), (2, .int (nI k))]) rfl (fun ls hl => ?_)
  refine lv_aload_n hx hb d_F_swap_23 rfl (lv_at hl 2 rfl) ?_
  refine lv_iload_n hx hb d_F_swap_24 rfl (lv_at hl 3 rfl) ?_
  refine lv_aload_n hx hb d_F_swap_25 rfl (lv_at hl 2 rfl) ?_
  refine xF_get3 hC hI d_F_swap_26 ?_
  refine lv_iload_n hx hb d_F_swap_29 rfl (lv_at hl 4 rfl) ?_
  refine xF_ld4 hC hI hk d_F_swap_30 ?_
  refine lv_aload_n hx hb d_F_swap_31 rfl (lv_at hl 2 rfl) ?_
  refine xF_get4 hC hI d_F_swap_32 ?_
  refine lv_iload_n hx hb d_F_swap_35 rfl (lv_at hl 4 rfl) ?_
  refine xF_ld5 hC hI hk d_F_swap_36 ?_
  refine xF_callv (As := [.int (nI j), .int (K k), .long (V k)]) (rest := []) hC hI hA (c_F_rule3 hj) (cwV 3 ht gv_F_99 rfl rfl rfl ⟨rfl, by decide, by decide, by decide +kernel⟩ ⟨by decide, by decide⟩) rfl hl.1 rfl (Nat.le_of_ble_eq_true rfl) d_F_swap_37 ⟨by decide, by decide⟩ (fun H locs hI _ _ => ?_)
  refine lv_aload_n hx hb d_F_swap_40 rfl (lv_at hl 2 rfl) ?_
  refine lv_iload_n hx hb d_F_swap_41 rfl (lv_at hl 4 rfl) ?_
  refine lv_iload_n hx hb d_F_swap_42 rfl (lv_at hl 1 rfl) ?_
  refine lv_lload hx hb d_F_swap_43 (lv_at hl 0 rfl) ?_
  refine xF_callv (As := [.int (nI k), .int (K j), .long (V j)]) (rest := []) hC hI hA (c_F_rule3 hk) (cwV 3 ht gv_F_99 rfl rfl rfl ⟨rfl, by decide, by decide, by decide +kernel⟩ ⟨by decide, by decide⟩) rfl hl.1 rfl (Nat.le_of_ble_eq_true rfl) d_F_swap_45 ⟨by decide, by decide⟩ (fun H locs hI _ _ => ?_)
  refine lv_aload_n hx hb d_F_swap_48 rfl (lv_at hl 2 rfl) ?_
  refine lv_iload_n hx hb d_F_swap_49 rfl (lv_at hl 3 rfl) ?_
  refine xF_callv (As := [.int (nI j)]) (rest := []) hC hI hA (c_F_up hj) (cwV 1 ht gv_F_102 rfl rfl rfl ⟨rfl, by decide, by decide, by decide +kernel⟩ ⟨by decide, by decide⟩) rfl hl.1 rfl (Nat.le_of_ble_eq_true rfl) d_F_swap_50 ⟨by decide, by decide⟩ (fun H locs hI _ _ => ?_)
  refine lv_aload_n hx hb d_F_swap_53 rfl (lv_at hl 2 rfl) ?_
  refine lv_iload_n hx hb d_F_swap_54 rfl (lv_at hl 4 rfl) ?_
  refine xF_callv (As := [.int (nI k)]) (rest := []) hC hI hA (c_F_up hk) (cwV 1 ht gv_F_102 rfl rfl rfl ⟨rfl, by decide, by decide, by decide +kernel⟩ ⟨by decide, by decide⟩) rfl hl.1 rfl (Nat.le_of_ble_eq_true rfl) d_F_swap_55 ⟨by decide, by decide⟩ (fun H locs hI _ _ => ?_)
  exact xF_vret hC hI hr hlocks d_F_swap_58
set_option maxHeartbeats 4000000 in
set_option maxRecDepth 100000 in
/-- no first place -/
theorem e_F_swap1 {l : Launch} {D : va_G} {o : Nat → Nat} {cJ cI : ClassId} {sz : Nat} {M L G : Nat → Int64} {K : Nat → Int32} {V : Nat → Int64} {a b t : Int64} (hfl : l.flags = flags0) {j k : Int32} (hj : x_r1 j = 0) : Thr l y_F_swap ws_F_swap rt_F_swap (va_Pc [.ref (o 0), .int j, .int k] (fun U => pF D o cJ cI sz M L G K V a b t U ∧ xz U)) (xQ X_IOO (bF D o cJ cI (aF o sz) M L G K V a b t) (aF o sz)) 1 6 (aF o sz) := by
  refine xF_thr (av := [.int j, .int k]) (by decide) rfl (Nat.le_of_ble_eq_true rfl) ?_
  intro p e s m below meth c ls hC hsz hz hlocks hnh had hl hI
  have hA : ∀ q, s.heap.size ≤ q → aF o sz q := fun q h => aF_new (by omega)
  have hN := iF_xn hI hsz
  have hS := hI.2.2
  have hx := hC.1.1
  have hb := hC.1.2.1
  have hml := hC.1.2.2.1
  have hown := hC.1.2.2.2.1
  have ht := hC.1.2.2.2.2
  have S := hC.1
  have hl : lv_has ls 6 [(0, .ref (o 0)), (1, .int j), (2, .int k)] := hl
  refine lv_iload_n hx hb d_F_swap_0 rfl (lv_at hl 1 rfl) ?_
  exact xt_prop (xS_throws (As := [.int j]) (rest := []) S hz hN hS (e_F_rule1 hfl hj) (cwS 1 ht gs_F_96 rfl rfl rfl ⟨rfl, by decide, by decide, by decide +kernel⟩ ⟨by decide, by decide⟩) rfl hl.1 rfl (Nat.le_of_ble_eq_true rfl) d_F_swap_1 ⟨by decide, by decide⟩) hS (fun q h1 h2 => absurd h1 (Nat.not_lt.mpr h2)) (fun q h => hA q (Nat.le_trans hI.2.2.1 h)) hnh hlocks (fun t0 hvm _ hz9 hk9 t1 ht1 hvm1 => ⟨hI.1.kept (fun k q hq => by rw [ht1]; exact hk9 q.1 ((hI.1 k q hq).lt) (Nat.not_le.mpr ((hI.1 k q hq).lt))), va_K.moved hvm1 hC.2, hI.2.1⟩)
set_option maxHeartbeats 4000000 in
set_option maxRecDepth 100000 in
/-- no second place -/
theorem e_F_swap2 {l : Launch} {D : va_G} {o : Nat → Nat} {cJ cI : ClassId} {sz : Nat} {M L G : Nat → Int64} {K : Nat → Int32} {V : Nat → Int64} {a b t : Int64} (hfl : l.flags = flags0) {j k : Int32} (hj : x_r1 j = 1) (hk : x_r1 k = 0) : Thr l y_F_swap ws_F_swap rt_F_swap (va_Pc [.ref (o 0), .int j, .int k] (fun U => pF D o cJ cI sz M L G K V a b t U ∧ xz U)) (xQ X_IOO (bF D o cJ cI (aF o sz) M L G K V a b t) (aF o sz)) 1 6 (aF o sz) := by
  refine xF_thr (av := [.int j, .int k]) (by decide) rfl (Nat.le_of_ble_eq_true rfl) ?_
  intro p e s m below meth c ls hC hsz hz hlocks hnh had hl hI
  have hA : ∀ q, s.heap.size ≤ q → aF o sz q := fun q h => aF_new (by omega)
  have hN := iF_xn hI hsz
  have hS := hI.2.2
  have hx := hC.1.1
  have hb := hC.1.2.1
  have hml := hC.1.2.2.1
  have hown := hC.1.2.2.2.1
  have ht := hC.1.2.2.2.2
  have S := hC.1
  have hl : lv_has ls 6 [(0, .ref (o 0)), (1, .int j), (2, .int k)] := hl
  refine lv_iload_n hx hb d_F_swap_0 rfl (lv_at hl 1 rfl) ?_
  refine xS_callv (As := [.int j]) (rest := []) S (c_F_rule1 hj) (cwS 1 ht gs_F_96 rfl rfl rfl ⟨rfl, by decide, by decide, by decide +kernel⟩ ⟨by decide, by decide⟩) rfl hl.1 rfl (Nat.le_of_ble_eq_true rfl) d_F_swap_1 ⟨by decide, by decide⟩ ?_
  refine lv_iload_n hx hb d_F_swap_4 rfl (lv_at hl 2 rfl) ?_
  exact xt_prop (xS_throws (As := [.int k]) (rest := []) S hz hN hS (e_F_rule1 hfl hk) (cwS 1 ht gs_F_96 rfl rfl rfl ⟨rfl, by decide, by decide, by decide +kernel⟩ ⟨by decide, by decide⟩) rfl hl.1 rfl (Nat.le_of_ble_eq_true rfl) d_F_swap_5 ⟨by decide, by decide⟩) hS (fun q h1 h2 => absurd h1 (Nat.not_lt.mpr h2)) (fun q h => hA q (Nat.le_trans hI.2.2.1 h)) hnh hlocks (fun t0 hvm _ hz9 hk9 t1 ht1 hvm1 => ⟨hI.1.kept (fun k q hq => by rw [ht1]; exact hk9 q.1 ((hI.1 k q hq).lt) (Nat.not_le.mpr ((hI.1 k q hq).lt))), va_K.moved hvm1 hC.2, hI.2.1⟩)
end
section
/-! FoldRow: join (printed by gen/gen_F.py) -/
set_option maxHeartbeats 4000000 in
set_option maxRecDepth 100000 in
theorem u_F_wide {l : Launch} {o : Nat → Nat} {p : Program} {e : Env} {R : Room} {s : State} {m : MethodId} {args : Array Value} {below : List Frame} {meth : Method} {c : Code} {H : Heap} {locs : List Loc} {cells slots : Nat} {Q : State → Prop} {k to : Nat} {f : Int32} (S : CallFix p m c b_F_join 6 s args tb R_F) (hk : k < 256) (hto : to ≤ 256) : ∀ (n wd : Nat) (ls : Array Slot), wd * 2 ^ n = 256 → 1 ≤ wd → lv_has ls 6 [(5, .int (nI ((256 + k) / wd))), (4, .int (nI wd)), (3, .int (nI k)), (0, .ref (o 0)), (1, .int f), (2, .int (nI to))] → (∀ ls1 : Array Slot, lv_has ls1 6 [(5, .int (nI ((256 + k) / (x_wide n k to wd)))), (4, .int (nI (x_wide n k to wd))), (3, .int (nI k)), (0, .ref (o 0)), (1, .int f), (2, .int (nI to))] → W p l e R s m args below meth c H locs cells slots Q (F0 m 66 ls1 [])) → W p l e R s m args below meth c H locs cells slots Q (F0 m 26 ls []) := by
  have hx := S.1
  have hb := S.2.1
  intro n
  induction n with
  | zero =>
    intro wd ls hw hw1 hl kk
    have hw2 : wd = 256 := by simpa using hw
    have hand : k &&& wd < 2 ^ 31 := Nat.lt_of_le_of_lt Nat.and_le_left (by omega)
    refine lv_iload_n hx hb d_F_join_26 rfl (lv_at hl 2 rfl) ?_
    refine lv_iload hx hb d_F_join_27 (lv_at hl 1 rfl) ?_
    refine lv_iand hx hb d_F_join_29 ?_
    refine xw_i (y := nI (k &&& wd)) (nI_and k wd) ?_
    refine lv_if_ne hx hb (tgt := 66) d_F_join_30 (by decide) (fun h30 => ?_) (fun h30 => ?_)
    · skip
      exact kk ls hl
    · skip
      refine lv_iload_n hx hb d_F_join_33 rfl (lv_at hl 2 rfl) ?_
      refine lv_iconst hx hb (v := nI 2) d_F_join_34 (by decide +kernel) ?_
      refine lv_iload hx hb d_F_join_35 (lv_at hl 1 rfl) ?_
      refine lv_imul hx hb d_F_join_37 ?_
      refine xw_i (y := nI (2 * wd)) (pk_mul 2 wd) ?_
      refine lv_iadd hx hb d_F_join_38 ?_
      refine xw_i (y := nI (k + 2 * wd)) (nI_add k (2 * wd)) ?_
      refine lv_iload_n hx hb d_F_join_39 rfl (lv_at hl 5 rfl) ?_
      refine lv_icmp_gt hx hb (tgt := 66) d_F_join_40 (by decide) (fun h40 => ?_) (fun h40 => ?_)
      · skip
        exact kk ls hl
      · skip
        refine lv_iload hx hb d_F_join_43 (lv_at hl 1 rfl) ?_
        refine lv_sipush hx hb (v := nI 256) d_F_join_45 (by decide +kernel) ?_
        refine lv_icmp_ge hx hb (tgt := 66) d_F_join_48 (by decide) (fun h48 => ?_) (fun h48 => absurd ((nI_leI (a := 256) (b := wd) (by decide) (by omega)).mpr (by omega)) h48)
        exact kk ls hl
  | succ n ih =>
    intro wd ls hw hw1 hl kk
    have hw2 : wd * 2 * 2 ^ n = 256 := by rw [Nat.mul_assoc, ← Nat.pow_succ']; exact hw
    have hw3 : wd ≤ 256 := by rw [← hw]; exact Nat.le_mul_of_pos_right wd (Nat.two_pow_pos _)
    have hand : k &&& wd < 2 ^ 31 := Nat.lt_of_le_of_lt Nat.and_le_left (by omega)
    have hdv : (256 + k) / wd ≤ 512 := Nat.le_trans (Nat.div_le_self _ _) (by omega)
    have no : ¬ (k &&& wd = 0 ∧ k + 2 * wd ≤ to ∧ wd < 256) → x_wide (n + 1) k to wd = wd := fun h => by rw [x_wide, if_neg h]
    have yes : (k &&& wd = 0 ∧ k + 2 * wd ≤ to ∧ wd < 256) → x_wide (n + 1) k to wd = x_wide n k to (wd * 2) := fun h => by rw [x_wide, if_pos h]
    refine lv_iload_n hx hb d_F_join_26 rfl (lv_at hl 2 rfl) ?_
    refine lv_iload hx hb d_F_join_27 (lv_at hl 1 rfl) ?_
    refine lv_iand hx hb d_F_join_29 ?_
    refine xw_i (y := nI (k &&& wd)) (nI_and k wd) ?_
    refine lv_if_ne hx hb (tgt := 66) d_F_join_30 (by decide) (fun h30 => ?_) (fun h30 => ?_)
    · skip
      rw [no (fun q => h30 ((nI_eq0 hand).mpr q.1))] at kk
      exact kk ls hl
    · skip
      refine lv_iload_n hx hb d_F_join_33 rfl (lv_at hl 2 rfl) ?_
      refine lv_iconst hx hb (v := nI 2) d_F_join_34 (by decide +kernel) ?_
      refine lv_iload hx hb d_F_join_35 (lv_at hl 1 rfl) ?_
      refine lv_imul hx hb d_F_join_37 ?_
      refine xw_i (y := nI (2 * wd)) (pk_mul 2 wd) ?_
      refine lv_iadd hx hb d_F_join_38 ?_
      refine xw_i (y := nI (k + 2 * wd)) (nI_add k (2 * wd)) ?_
      refine lv_iload_n hx hb d_F_join_39 rfl (lv_at hl 5 rfl) ?_
      refine lv_icmp_gt hx hb (tgt := 66) d_F_join_40 (by decide) (fun h40 => ?_) (fun h40 => ?_)
      · skip
        rw [no (fun q => absurd ((nI_ltI (by omega) (by omega)).mp h40) (by omega))] at kk
        exact kk ls hl
      · skip
        refine lv_iload hx hb d_F_join_43 (lv_at hl 1 rfl) ?_
        refine lv_sipush hx hb (v := nI 256) d_F_join_45 (by decide +kernel) ?_
        refine lv_icmp_ge hx hb (tgt := 66) d_F_join_48 (by decide) (fun h48 => ?_) (fun h48 => ?_)
        · skip
          rw [no (fun q => absurd ((nI_leI (a := 256) (b := wd) (by decide) (by omega)).mp h48) (by omega))] at kk
          exact kk ls hl
        · skip
          refine lv_iload hx hb d_F_join_51 (lv_at hl 1 rfl) ?_
          refine lv_iconst hx hb (v := nI 2) d_F_join_53 (by decide +kernel) ?_
          refine lv_imul hx hb d_F_join_54 ?_
          refine xw_i (y := nI (wd * 2)) (pk_mul wd 2) ?_
          refine lv_istore hx hb d_F_join_55 hl (by decide) (lv' := [(4, .int (nI (wd * 2))), (5, .int (nI ((256 + k) / wd))), (3, .int (nI k)), (0, .ref (o 0)), (1, .int f), (2, .int (nI to))]) rfl (fun ls hl => ?_)
          refine lv_iload hx hb d_F_join_57 (lv_at hl 1 rfl) ?_
          refine lv_iconst hx hb (v := 1) d_F_join_59 (by decide +kernel) ?_
          refine lv_ishr hx hb d_F_join_60 ?_
          refine xw_i (y := nI ((256 + k) / (wd * 2))) ((pk_shrN (by omega) _ 1 (by decide)).trans (by rw [Nat.pow_one, Nat.div_div_eq_div_mul])) ?_
          refine lv_istore hx hb d_F_join_61 hl (by decide) (lv' := [(5, .int (nI ((256 + k) / (wd * 2)))), (4, .int (nI (wd * 2))), (3, .int (nI k)), (0, .ref (o 0)), (1, .int f), (2, .int (nI to))]) rfl (fun ls hl => ?_)
          refine lv_goto hx hb (tgt := 26) d_F_join_63 (by decide) ?_
          rw [yes ⟨(nI_eq0 hand).mp h30, Nat.not_lt.mp (fun q => h40 ((nI_ltI (by omega) (by omega)).mpr q)), Nat.not_le.mp (fun q => h48 ((nI_leI (a := 256) (b := wd) (by decide) (by omega)).mpr q))⟩] at kk
          exact ih (wd * 2) ls hw2 (by omega) hl kk
set_option maxHeartbeats 4000000 in
set_option maxRecDepth 100000 in
theorem u_F_join {l : Launch} {D : va_G} {o : Nat → Nat} {cJ cI : ClassId} {M L G : Nat → Int64} {K : Nat → Int32} {V : Nat → Int64} {p : Program} {e : Env} {s : State} {m : MethodId} {args : Array Value} {below : List Frame} {meth : Method} {c : Code} {Q : State → Prop} {A : Nat → Prop} {H0 : Heap} {to : Nat} {f : Int32} (hC : CX p m c b_F_join 6 s args R_F D cJ cI) (hA : ∀ q, H0.size ≤ q → A q) (hto : to ≤ 256) :
    ∀ (n k : Nat) (a b t : Int64) (H : Heap) (locs : List Loc) (ls : Array Slot), to ≤ k + n → k < 1024 → lv_has ls 6 [(3, .int (nI k)), (0, .ref (o 0)), (1, .int f), (2, .int (nI to))] → iF D o cJ cI A H0 H locs M L G K V a b t → (∀ (H1 : Heap) (locs1 : List Loc) (ls1 : Array Slot), iF D o cJ cI A H0 H1 locs1 M L G K V (x_jo (M, L, G) to n k (a, b, t)).1 (x_jo (M, L, G) to n k (a, b, t)).2.1 (x_jo (M, L, G) to n k (a, b, t)).2.2 → W p l e rm_F_join s m args below meth c H1 locs1 0 0 Q (F0 m 80 ls1 [])) → W p l e rm_F_join s m args below meth c H locs 0 0 Q (F0 m 11 ls []) := by
  have hx := hC.1.1
  have hb := hC.1.2.1
  have hml := hC.1.2.2.1
  have hown := hC.1.2.2.2.1
  have ht := hC.1.2.2.2.2
  have S := hC.1
  intro n
  induction n with
  | zero =>
    intro k a b t H locs ls hn hk hl hI kk
    refine lv_iload_n hx hb d_F_join_11 rfl (lv_at hl 0 rfl) ?_
    refine lv_iload_n hx hb d_F_join_12 rfl (lv_at hl 3 rfl) ?_
    refine lv_icmp_ge hx hb (tgt := 80) d_F_join_13 (by decide) (fun h13 => ?_) (fun h13 => absurd ((nI_leI (by omega) (by omega)).mpr (by omega)) h13)
    exact kk H locs ls hI
  | succ n ih =>
    intro k a b t H locs ls hn hk hl hI kk
    refine lv_iload_n hx hb d_F_join_11 rfl (lv_at hl 0 rfl) ?_
    refine lv_iload_n hx hb d_F_join_12 rfl (lv_at hl 3 rfl) ?_
    refine lv_icmp_ge hx hb (tgt := 80) d_F_join_13 (by decide) (fun h13 => ?_) (fun h13 => ?_)
    · skip
      rw [x_jo, if_neg (by have := (nI_leI (by omega) (by omega)).mp h13; omega)] at kk
      exact kk H locs ls hI
    · skip
      refine lv_iconst hx hb (v := nI 1) d_F_join_16 (by decide +kernel) ?_
      refine lv_istore hx hb d_F_join_17 hl (by decide) (lv' := [(4, .int (nI 1)), (3, .int (nI k)), (0, .ref (o 0)), (1, .int f), (2, .int (nI to))]) rfl (fun ls hl => ?_)
      have hkt : k < to := Nat.not_le.mp (fun q => h13 ((nI_leI (by omega) (by omega)).mpr q))
      rw [x_jo, if_pos hkt] at kk
      obtain ⟨hw1, hw2⟩ := x_wide_le 8 k to 1 (by decide) (by decide)
      have hdv : (256 + k) / x_wide 8 k to 1 < 512 := Nat.lt_of_le_of_lt (Nat.div_le_self _ _) (by omega)
      refine lv_sipush hx hb (v := nI 256) d_F_join_19 (by decide +kernel) ?_
      refine lv_iload_n hx hb d_F_join_22 rfl (lv_at hl 1 rfl) ?_
      refine lv_iadd hx hb d_F_join_23 ?_
      refine xw_i (y := nI (256 + k)) (nI_add 256 k) ?_
      refine lv_istore hx hb d_F_join_24 hl (by decide) (lv' := [(5, .int (nI (256 + k))), (4, .int (nI 1)), (3, .int (nI k)), (0, .ref (o 0)), (1, .int f), (2, .int (nI to))]) rfl (fun ls hl => ?_)
      have hl : lv_has ls 6 [(5, .int (nI ((256 + k) / 1))), (4, .int (nI 1)), (3, .int (nI k)), (0, .ref (o 0)), (1, .int f), (2, .int (nI to))] := by rw [Nat.div_one]; exact hl
      refine u_F_wide S (by omega) hto 8 1 ls (by decide) (by decide) hl (fun ls hl => ?_)
      generalize x_wide 8 k to 1 = wd at hw1 hw2 hdv kk hl
      refine lv_aload_n hx hb d_F_join_66 rfl (lv_at hl 3 rfl) ?_
      refine lv_iload hx hb d_F_join_67 (lv_at hl 0 rfl) ?_
      refine xF_callv (As := [.int (nI ((256 + k) / wd))]) (rest := []) hC hI hA (c_F_node hdv) (cwV 1 ht gv_F_73 rfl rfl rfl ⟨rfl, by decide, by decide, by decide +kernel⟩ ⟨by decide, by decide⟩) rfl hl.1 rfl (Nat.le_of_ble_eq_true rfl) d_F_join_69 ⟨by decide, by decide⟩ (fun H locs hI _ _ => ?_)
      refine lv_iload_n hx hb d_F_join_72 rfl (lv_at hl 2 rfl) ?_
      refine lv_iload hx hb d_F_join_73 (lv_at hl 1 rfl) ?_
      refine lv_iadd hx hb d_F_join_75 ?_
      refine xw_i (y := nI (k + wd)) (nI_add k wd) ?_
      refine lv_istore_n hx hb d_F_join_76 rfl hl (by decide) (lv' := [(3, .int (nI (k + wd))), (5, .int (nI ((256 + k) / wd))), (4, .int (nI wd)), (0, .ref (o 0)), (1, .int f), (2, .int (nI to))]) rfl (fun ls hl => ?_)
      refine lv_goto hx hb (tgt := 11) d_F_join_77 (by decide) ?_
      have hl := lv_sub hl [0, 3, 4, 5] (l' := [(3, .int (nI (k + wd))), (0, .ref (o 0)), (1, .int f), (2, .int (nI to))]) rfl
      exact ih (k + wd) _ _ _ H locs ls (by omega) (by omega) hl hI kk
set_option maxHeartbeats 4000000 in
set_option maxRecDepth 100000 in
/-- join(from, to) -/
theorem c_F_join {l : Launch} {D : va_G} {o : Nat → Nat} {cJ cI : ClassId} {sz : Nat} {M L G : Nat → Int64} {K : Nat → Int32} {V : Nat → Int64} {a b t : Int64} {fr to : Nat} (hft : fr ≤ to) (hto : to ≤ 256) : Met l y_F_join ws_F_join rm_F_join (va_Pc [.ref (o 0), .int (nI fr), .int (nI to)] (pF D o cJ cI sz M L G K V a b t)) (va_Qv (fun _ : Unit => True) (fun _ => bF D o cJ cI (aF o sz) M L G K V ((x_join (M, L, G) fr to).1) ((x_join (M, L, G) fr to).2.1) ((x_join (M, L, G) fr to).2.2)) (aF o sz)) 0 0 (aF o sz) := by
  refine xF_met (av := [.int (nI fr), .int (nI to)]) (by decide) rfl (Nat.le_of_ble_eq_true rfl) ?_
  intro p e s m below meth c ls hC hsz hr hlocks hnm hnh had hl hI
  have hA : ∀ q, s.heap.size ≤ q → aF o sz q := fun q h => aF_new (by omega)
  have hx := hC.1.1
  have hb := hC.1.2.1
  have hml := hC.1.2.2.1
  have hown := hC.1.2.2.2.1
  have ht := hC.1.2.2.2.2
  have S := hC.1
  have hl : lv_has ls 6 [(0, .ref (o 0)), (1, .int (nI fr)), (2, .int (nI to))] := hl
  refine lv_iload_n hx hb d_F_join_0 rfl (lv_at hl 1 rfl) ?_
  refine lv_iload_n hx hb d_F_join_1 rfl (lv_at hl 2 rfl) ?_
  refine xS_callv (As := [.int (nI fr), .int (nI to)]) (rest := []) S (c_F_part (x_pt_ok hft hto)) (cwS 2 ht gs_F_105 rfl rfl rfl ⟨rfl, by decide, by decide, by decide +kernel⟩ ⟨by decide, by decide⟩) rfl hl.1 rfl (Nat.le_of_ble_eq_true rfl) d_F_join_2 ⟨by decide, by decide⟩ ?_
  refine lv_aload_n hx hb d_F_join_5 rfl (lv_at hl 0 rfl) ?_
  refine xF_callv (As := []) (rest := []) hC hI hA c_F_begin (cwV 0 ht gv_F_70 rfl rfl rfl ⟨rfl, by decide, by decide, by decide +kernel⟩ ⟨by decide, by decide⟩) rfl hl.1 rfl (Nat.le_of_ble_eq_true rfl) d_F_join_6 ⟨by decide, by decide⟩ (fun H locs hI _ _ => ?_)
  refine lv_iload_n hx hb d_F_join_9 rfl (lv_at hl 1 rfl) ?_
  refine lv_istore_n hx hb d_F_join_10 rfl hl (by decide) (lv' := [(3, .int (nI fr)), (0, .ref (o 0)), (1, .int (nI fr)), (2, .int (nI to))]) rfl (fun ls hl => ?_)
  exact u_F_join hC hA hto 256 fr _ _ _ _ _ ls (by omega) (by omega) hl hI (fun H locs ls hI => xF_vret hC hI hr hlocks d_F_join_80)
set_option maxHeartbeats 4000000 in
set_option maxRecDepth 100000 in
/-- no part -/
theorem e_F_join {l : Launch} {D : va_G} {o : Nat → Nat} {cJ cI : ClassId} {sz : Nat} {M L G : Nat → Int64} {K : Nat → Int32} {V : Nat → Int64} {a b t : Int64} (hfl : l.flags = flags0) {f t0 : Int32} (hp : x_pt f t0 = 0) : Thr l y_F_join ws_F_join rt_F_join (va_Pc [.ref (o 0), .int f, .int t0] (fun U => pF D o cJ cI sz M L G K V a b t U ∧ xz U)) (xQ X_IOO (bF D o cJ cI (aF o sz) M L G K V a b t) (aF o sz)) 1 6 (aF o sz) := by
  refine xF_thr (av := [.int f, .int t0]) (by decide) rfl (Nat.le_of_ble_eq_true rfl) ?_
  intro p e s m below meth c ls hC hsz hz hlocks hnh had hl hI
  have hA : ∀ q, s.heap.size ≤ q → aF o sz q := fun q h => aF_new (by omega)
  have hN := iF_xn hI hsz
  have hS := hI.2.2
  have hx := hC.1.1
  have hb := hC.1.2.1
  have hml := hC.1.2.2.1
  have hown := hC.1.2.2.2.1
  have ht := hC.1.2.2.2.2
  have S := hC.1
  have hl : lv_has ls 6 [(0, .ref (o 0)), (1, .int f), (2, .int t0)] := hl
  refine lv_iload_n hx hb d_F_join_0 rfl (lv_at hl 1 rfl) ?_
  refine lv_iload_n hx hb d_F_join_1 rfl (lv_at hl 2 rfl) ?_
  exact xt_prop (xS_throws (As := [.int f, .int t0]) (rest := []) S hz hN hS (e_F_part hfl hp) (cwS 2 ht gs_F_105 rfl rfl rfl ⟨rfl, by decide, by decide, by decide +kernel⟩ ⟨by decide, by decide⟩) rfl hl.1 rfl (Nat.le_of_ble_eq_true rfl) d_F_join_2 ⟨by decide, by decide⟩) hS (fun q h1 h2 => absurd h1 (Nat.not_lt.mpr h2)) (fun q h => hA q (Nat.le_trans hI.2.2.1 h)) hnh hlocks (fun t0 hvm _ hz9 hk9 t1 ht1 hvm1 => ⟨hI.1.kept (fun k q hq => by rw [ht1]; exact hk9 q.1 ((hI.1 k q hq).lt) (Nat.not_le.mpr ((hI.1 k q hq).lt))), va_K.moved hvm1 hC.2, hI.2.1⟩)
end
section
/-! FoldRow: fold, again, least, greatest, fixed, about (printed by gen/gen_F.py) -/
set_option maxHeartbeats 4000000 in
set_option maxRecDepth 100000 in
/-- fold(from, to, v) -/
theorem c_F_fold {l : Launch} {D : va_G} {o : Nat → Nat} {cJ cI : ClassId} {sz : Nat} {M L G : Nat → Int64} {K : Nat → Int32} {V : Nat → Int64} {a b t : Int64} {fr to : Nat} (hft : fr ≤ to) (hto : to ≤ 256) {v : Int64} (hv : x_in v 1000000000000 = 1) : Met l y_F_fold ws_F_fold rm_F_fold (va_Pc [.ref (o 0), .int (nI fr), .int (nI to), .long v] (pF D o cJ cI sz M L G K V a b t)) (va_Ql (fun (r9 : Int64) (_ : Unit) => r9 = (x_made (x_join (M, L, G) fr to) v)) (fun _ => bF D o cJ cI (aF o sz) M L G K V ((x_join (M, L, G) fr to).1) ((x_join (M, L, G) fr to).2.1) ((x_join (M, L, G) fr to).2.2)) (aF o sz)) 0 0 (aF o sz) := by
  refine xF_met (av := [.int (nI fr), .int (nI to), .long v]) (by decide) rfl (Nat.le_of_ble_eq_true rfl) ?_
  intro p e s m below meth c ls hC hsz hr hlocks hnm hnh had hl hI
  have hA : ∀ q, s.heap.size ≤ q → aF o sz q := fun q h => aF_new (by omega)
  have hx := hC.1.1
  have hb := hC.1.2.1
  have hml := hC.1.2.2.1
  have hown := hC.1.2.2.2.1
  have ht := hC.1.2.2.2.2
  have S := hC.1
  have hl : lv_has ls 5 [(0, .ref (o 0)), (1, .int (nI fr)), (2, .int (nI to)), (3, .long v)] := hl
  refine lv_lload_n hx hb d_F_fold_0 rfl (lv_at hl 3 rfl) ?_
  refine lv_ldc2 (v := 1000000000000) hx hb hown (ht _ tw_214) d_F_fold_1 ?_
  refine xS_calli (As := [.long v, .long 1000000000000]) (rest := []) S c_F_in (cwS 2 ht gs_F_81 rfl rfl rfl ⟨rfl, by decide, by decide, by decide +kernel⟩ ⟨by decide, by decide⟩) rfl hl.1 rfl (Nat.le_of_ble_eq_true rfl) d_F_fold_4 ⟨by decide, by decide⟩ ?_
  refine xw_i (y := 1) (hv) ?_
  refine xS_callv (As := [.int 1]) (rest := []) S c_F_good (cwS 1 ht gs_F_85 rfl rfl rfl ⟨rfl, by decide, by decide, by decide +kernel⟩ ⟨by decide, by decide⟩) rfl hl.1 rfl (Nat.le_of_ble_eq_true rfl) d_F_fold_7 ⟨by decide, by decide⟩ ?_
  refine lv_aload_n hx hb d_F_fold_10 rfl (lv_at hl 0 rfl) ?_
  refine lv_iload_n hx hb d_F_fold_11 rfl (lv_at hl 1 rfl) ?_
  refine lv_iload_n hx hb d_F_fold_12 rfl (lv_at hl 2 rfl) ?_
  refine xF_callv (As := [.int (nI fr), .int (nI to)]) (rest := []) hC hI hA (c_F_join hft hto) (cwV 2 ht gv_F_111 rfl rfl rfl ⟨rfl, by decide, by decide, by decide +kernel⟩ ⟨by decide, by decide⟩) rfl hl.1 rfl (Nat.le_of_ble_eq_true rfl) d_F_fold_13 ⟨by decide, by decide⟩ (fun H locs hI _ _ => ?_)
  refine lv_aload_n hx hb d_F_fold_16 rfl (lv_at hl 0 rfl) ?_
  refine lv_lload_n hx hb d_F_fold_17 rfl (lv_at hl 3 rfl) ?_
  refine xF_calll (As := [.long v]) (rest := []) hC hI hA c_F_made (cwV 1 ht gv_F_114 rfl rfl rfl ⟨rfl, by decide, by decide, by decide +kernel⟩ ⟨by decide, by decide⟩) rfl hl.1 rfl (Nat.le_of_ble_eq_true rfl) d_F_fold_18 ⟨by decide, by decide⟩ (fun H locs hI _ _ => ?_)
  exact xF_lret hC hI hr hlocks d_F_fold_21
set_option maxHeartbeats 4000000 in
set_option maxRecDepth 100000 in
/-- no number -/
theorem e_F_fold1 {l : Launch} {D : va_G} {o : Nat → Nat} {cJ cI : ClassId} {sz : Nat} {M L G : Nat → Int64} {K : Nat → Int32} {V : Nat → Int64} {a b t : Int64} (hfl : l.flags = flags0) {f t0 : Int32} {v : Int64} (hv : x_in v 1000000000000 = 0) : Thr l y_F_fold ws_F_fold rt_F_fold (va_Pc [.ref (o 0), .int f, .int t0, .long v] (fun U => pF D o cJ cI sz M L G K V a b t U ∧ xz U)) (xQ X_IAE (bF D o cJ cI (aF o sz) M L G K V a b t) (aF o sz)) 1 6 (aF o sz) := by
  refine xF_thr (av := [.int f, .int t0, .long v]) (by decide) rfl (Nat.le_of_ble_eq_true rfl) ?_
  intro p e s m below meth c ls hC hsz hz hlocks hnh had hl hI
  have hA : ∀ q, s.heap.size ≤ q → aF o sz q := fun q h => aF_new (by omega)
  have hN := iF_xn hI hsz
  have hS := hI.2.2
  have hx := hC.1.1
  have hb := hC.1.2.1
  have hml := hC.1.2.2.1
  have hown := hC.1.2.2.2.1
  have ht := hC.1.2.2.2.2
  have S := hC.1
  have hl : lv_has ls 5 [(0, .ref (o 0)), (1, .int f), (2, .int t0), (3, .long v)] := hl
  refine lv_lload_n hx hb d_F_fold_0 rfl (lv_at hl 3 rfl) ?_
  refine lv_ldc2 (v := 1000000000000) hx hb hown (ht _ tw_214) d_F_fold_1 ?_
  refine xS_calli (As := [.long v, .long 1000000000000]) (rest := []) S c_F_in (cwS 2 ht gs_F_81 rfl rfl rfl ⟨rfl, by decide, by decide, by decide +kernel⟩ ⟨by decide, by decide⟩) rfl hl.1 rfl (Nat.le_of_ble_eq_true rfl) d_F_fold_4 ⟨by decide, by decide⟩ ?_
  refine xw_i (y := 0) (hv) ?_
  exact xt_prop (xS_throws (As := [.int 0]) (rest := []) S hz hN hS (e_F_good hfl) (cwS 1 ht gs_F_85 rfl rfl rfl ⟨rfl, by decide, by decide, by decide +kernel⟩ ⟨by decide, by decide⟩) rfl hl.1 rfl (Nat.le_of_ble_eq_true rfl) d_F_fold_7 ⟨by decide, by decide⟩) hS (fun q h1 h2 => absurd h1 (Nat.not_lt.mpr h2)) (fun q h => hA q (Nat.le_trans hI.2.2.1 h)) hnh hlocks (fun t0 hvm _ hz9 hk9 t1 ht1 hvm1 => ⟨hI.1.kept (fun k q hq => by rw [ht1]; exact hk9 q.1 ((hI.1 k q hq).lt) (Nat.not_le.mpr ((hI.1 k q hq).lt))), va_K.moved hvm1 hC.2, hI.2.1⟩)
set_option maxHeartbeats 4000000 in
set_option maxRecDepth 100000 in
/-- no part -/
theorem e_F_fold2 {l : Launch} {D : va_G} {o : Nat → Nat} {cJ cI : ClassId} {sz : Nat} {M L G : Nat → Int64} {K : Nat → Int32} {V : Nat → Int64} {a b t : Int64} (hfl : l.flags = flags0) {f t0 : Int32} {v : Int64} (hv : x_in v 1000000000000 = 1) (hp : x_pt f t0 = 0) : Thr l y_F_fold ws_F_fold rt_F_fold (va_Pc [.ref (o 0), .int f, .int t0, .long v] (fun U => pF D o cJ cI sz M L G K V a b t U ∧ xz U)) (xQ X_IOO (bF D o cJ cI (aF o sz) M L G K V a b t) (aF o sz)) 1 6 (aF o sz) := by
  refine xF_thr (av := [.int f, .int t0, .long v]) (by decide) rfl (Nat.le_of_ble_eq_true rfl) ?_
  intro p e s m below meth c ls hC hsz hz hlocks hnh had hl hI
  have hA : ∀ q, s.heap.size ≤ q → aF o sz q := fun q h => aF_new (by omega)
  have hN := iF_xn hI hsz
  have hS := hI.2.2
  have hx := hC.1.1
  have hb := hC.1.2.1
  have hml := hC.1.2.2.1
  have hown := hC.1.2.2.2.1
  have ht := hC.1.2.2.2.2
  have S := hC.1
  have hl : lv_has ls 5 [(0, .ref (o 0)), (1, .int f), (2, .int t0), (3, .long v)] := hl
  refine lv_lload_n hx hb d_F_fold_0 rfl (lv_at hl 3 rfl) ?_
  refine lv_ldc2 (v := 1000000000000) hx hb hown (ht _ tw_214) d_F_fold_1 ?_
  refine xS_calli (As := [.long v, .long 1000000000000]) (rest := []) S c_F_in (cwS 2 ht gs_F_81 rfl rfl rfl ⟨rfl, by decide, by decide, by decide +kernel⟩ ⟨by decide, by decide⟩) rfl hl.1 rfl (Nat.le_of_ble_eq_true rfl) d_F_fold_4 ⟨by decide, by decide⟩ ?_
  refine xw_i (y := 1) (hv) ?_
  refine xS_callv (As := [.int 1]) (rest := []) S c_F_good (cwS 1 ht gs_F_85 rfl rfl rfl ⟨rfl, by decide, by decide, by decide +kernel⟩ ⟨by decide, by decide⟩) rfl hl.1 rfl (Nat.le_of_ble_eq_true rfl) d_F_fold_7 ⟨by decide, by decide⟩ ?_
  refine lv_aload_n hx hb d_F_fold_10 rfl (lv_at hl 0 rfl) ?_
  refine lv_iload_n hx hb d_F_fold_11 rfl (lv_at hl 1 rfl) ?_
  refine lv_iload_n hx hb d_F_fold_12 rfl (lv_at hl 2 rfl) ?_
  exact xt_prop (xF_throws (As := [.int f, .int t0]) (rest := []) hC hI hz hN (e_F_join hfl hp) (cwV 2 ht gv_F_111 rfl rfl rfl ⟨rfl, by decide, by decide, by decide +kernel⟩ ⟨by decide, by decide⟩) rfl hl.1 rfl (Nat.le_of_ble_eq_true rfl) d_F_fold_13 ⟨by decide, by decide⟩) hI.2.2 (fun q _ h => iF_free hI hA q h) (fun q h => iF_free hI hA q h) hnh hlocks (fun t0 hvm hB hz9 hk9 t1 ht1 hvm1 => ⟨by rw [ht1]; exact hB.1, va_K.moved (hvm.symm.trans hvm1) hB.2.1, hB.2.2.weaken (fun _ q _ h => iF_free hI hA q.1 h)⟩)
set_option maxHeartbeats 4000000 in
set_option maxRecDepth 100000 in
theorem j_F_again {l : Launch} {p : Program} {e : Env} {R : Room} {s : State} {m : MethodId} {args : Array Value} {below : List Frame} {meth : Method} {c : Code} {H : Heap} {locs : List Loc} {cells slots : Nat} {Q : State → Prop} {ls : Array Slot} {o : Nat → Nat} {f t0 n : Int32} {v : Int64} (hR1 : rm_F_in.frames + 1 ≤ R.frames) (hR2 : 8 + (4 + 11) + rm_F_in.locals ≤ R.locals) (hc1 : cells ≤ R.cells) (hc2 : slots ≤ R.slots) (S : CallFix p m c b_F_again 9 s args tb R_F) (hl : lv_has ls 9 [(0, .ref (o 0)), (1, .int f), (2, .int t0), (3, .long v), (5, .int n)]) (kk : W p l e R s m args below meth c H locs cells slots Q (F0 m 28 ls [.int (x_ah v n)])) : W p l e R s m args below meth c H locs cells slots Q (F0 m 0 ls []) := by
  have hx := S.1
  have hb := S.2.1
  have hml := S.2.2.1
  have hown := S.2.2.2.1
  have ht := S.2.2.2.2
  have hl : lv_has ls 9 [(0, .ref (o 0)), (1, .int f), (2, .int t0), (3, .long v), (5, .int n)] := hl
  refine lv_lload_n hx hb d_F_again_0 rfl (lv_at hl 3 rfl) ?_
  refine lv_ldc2 (v := 1000000000000) hx hb hown (ht _ tw_214) d_F_again_1 ?_
  refine xS_calli (As := [.long v, .long 1000000000000]) (rest := []) S c_F_in (cwS 2 ht gs_F_81 rfl rfl rfl ⟨rfl, by decide, by decide, by decide +kernel⟩ ⟨hR1, hR2⟩) rfl hl.1 rfl (Nat.le_of_ble_eq_true rfl) d_F_again_4 ⟨hc1, hc2⟩ ?_
  refine lv_if_eq hx hb (tgt := 27) d_F_again_7 (by decide) (fun h7 => ?_) (fun h7 => ?_)
  · skip
    refine lv_iconst hx hb (v := 0) d_F_again_27 (by decide +kernel) ?_
    rw [show x_ah v n = 0 from (by (try simp only [lg_cmp_eq, lg_cmp_lt, lg_cmp_gt, lg_cmp_ge, lg_cmp_le] at h7); simp [x_ah, h7])] at kk; exact kk
  · skip
    refine lv_iload hx hb d_F_again_10 (lv_at hl 4 rfl) ?_
    refine lv_if_lt hx hb (tgt := 27) d_F_again_12 (by decide) (fun h12 => ?_) (fun h12 => ?_)
    · skip
      refine lv_iconst hx hb (v := 0) d_F_again_27 (by decide +kernel) ?_
      rw [show x_ah v n = 0 from (by (try simp only [lg_cmp_eq, lg_cmp_lt, lg_cmp_gt, lg_cmp_ge, lg_cmp_le] at h7 h12); simp [x_ah, h7, h12])] at kk; exact kk
    · skip
      refine lv_iload hx hb d_F_again_15 (lv_at hl 4 rfl) ?_
      refine lv_sipush hx hb (v := 1000) d_F_again_17 (by decide +kernel) ?_
      refine lv_icmp_gt hx hb (tgt := 27) d_F_again_20 (by decide) (fun h20 => ?_) (fun h20 => ?_)
      · skip
        refine lv_iconst hx hb (v := 0) d_F_again_27 (by decide +kernel) ?_
        rw [show x_ah v n = 0 from (by (try simp only [lg_cmp_eq, lg_cmp_lt, lg_cmp_gt, lg_cmp_ge, lg_cmp_le] at h7 h12 h20); simp [x_ah, h7, h12, h20])] at kk; exact kk
      · skip
        refine lv_iconst hx hb (v := 1) d_F_again_23 (by decide +kernel) ?_
        refine lv_goto hx hb (tgt := 28) d_F_again_24 (by decide) ?_
        rw [show x_ah v n = 1 from (by (try simp only [lg_cmp_eq, lg_cmp_lt, lg_cmp_gt, lg_cmp_ge, lg_cmp_le] at h7 h12 h20); simp [x_ah, h7, h12, h20])] at kk; exact kk
set_option maxHeartbeats 4000000 in
set_option maxRecDepth 100000 in
theorem u_F_again {l : Launch} {D : va_G} {o : Nat → Nat} {cJ cI : ClassId} {M L G : Nat → Int64} {K : Nat → Int32} {V : Nat → Int64} {p : Program} {e : Env} {s : State} {m : MethodId} {args : Array Value} {below : List Frame} {meth : Method} {c : Code} {Q : State → Prop} {A : Nat → Prop} {H0 : Heap} {f t0 n0 : Int32} {x0 : Int64} (hC : CX p m c b_F_again 9 s args R_F D cJ cI) (hA : ∀ q, H0.size ≤ q → A q) :
    ∀ (g n : Nat) (v : Int64) (a b t : Int64) (H : Heap) (locs : List Loc) (ls : Array Slot), n < 2 ^ g → n < 1024 → lv_has ls 9 [(8, .int (nI n)), (6, .long v), (0, .ref (o 0)), (1, .int f), (2, .int t0), (3, .long x0), (5, .int n0)] → iF D o cJ cI A H0 H locs M L G K V a b t → (∀ (H1 : Heap) (locs1 : List Loc) (ls1 : Array Slot), lv_has ls1 9 [(6, .long (x_ag g n v (a, b, t)).1)] → iF D o cJ cI A H0 H1 locs1 M L G K V (x_ag g n v (a, b, t)).2.1 (x_ag g n v (a, b, t)).2.2.1 (x_ag g n v (a, b, t)).2.2.2 → W p l e rm_F_again s m args below meth c H1 locs1 0 0 Q (F0 m 90 ls1 [])) → W p l e rm_F_again s m args below meth c H locs 0 0 Q (F0 m 44 ls []) := by
  have hx := hC.1.1
  have hb := hC.1.2.1
  have hml := hC.1.2.2.1
  have hown := hC.1.2.2.2.1
  have ht := hC.1.2.2.2.2
  have S := hC.1
  intro g
  induction g with
  | zero =>
    intro n v a b t H locs ls hn hn2 hl hI kk
    have hn0 : n = 0 := by simpa using hn
    subst hn0
    refine lv_iload hx hb d_F_again_44 (lv_at hl 0 rfl) ?_
    refine lv_if_le hx hb (tgt := 90) d_F_again_46 (by decide) (fun h46 => ?_) (fun h46 => absurd (by decide : nI 0 ≤ 0) h46)
    exact kk H locs ls (lv_sub hl [1] rfl) hI
  | succ g ih =>
    intro n v a b t H locs ls hn hn2 hl hI kk
    have hp2 : 2 ^ (g + 1) = 2 * 2 ^ g := by rw [Nat.pow_succ]; omega
    refine lv_iload hx hb d_F_again_44 (lv_at hl 0 rfl) ?_
    refine lv_if_le hx hb (tgt := 90) d_F_again_46 (by decide) (fun h46 => ?_) (fun h46 => ?_)
    · skip
      have hn0 : n = 0 := Nat.le_zero.mp ((nI_leI (b := 0) (by omega) (by decide)).mp h46)
      rw [x_ag, if_pos hn0] at kk
      exact kk H locs ls (lv_sub hl [1] rfl) hI
    · skip
      refine lv_iload hx hb d_F_again_49 (lv_at hl 0 rfl) ?_
      refine lv_iconst hx hb (v := nI 1) d_F_again_51 (by decide +kernel) ?_
      refine lv_iand hx hb d_F_again_52 ?_
      refine xw_i (y := nI (n % 2)) ((pk_andN (by omega) (m := nI 1) 1 (by decide)).trans (by rw [Nat.pow_one])) ?_
      refine lv_iconst hx hb (v := nI 1) d_F_again_53 (by decide +kernel) ?_
      refine lv_icmp_ne hx hb (tgt := 65) d_F_again_54 (by decide) (fun h54 => ?_) (fun h54 => ?_)
      · skip
        have hn0 : ¬ n = 0 := fun q => h46 (by subst q; decide)
        have hb1 : ¬ n % 2 = 1 := fun q => h54 (by rw [q])
        rw [x_ag, if_neg hn0, if_neg hb1] at kk
        refine lv_aload_n hx hb d_F_again_65 rfl (lv_at hl 2 rfl) ?_
        refine lv_aload_n hx hb d_F_again_66 rfl (lv_at hl 2 rfl) ?_
        refine xF_get5 hC hI d_F_again_67 ?_
        refine lv_aload_n hx hb d_F_again_70 rfl (lv_at hl 2 rfl) ?_
        refine xF_get6 hC hI d_F_again_71 ?_
        refine lv_aload_n hx hb d_F_again_74 rfl (lv_at hl 2 rfl) ?_
        refine xF_get7 hC hI d_F_again_75 ?_
        refine xF_callv (As := [.long a, .long b, .long t]) (rest := []) hC hI hA c_F_behind (cwV 3 ht gv_F_66 rfl rfl rfl ⟨rfl, by decide, by decide, by decide +kernel⟩ ⟨by decide, by decide⟩) rfl hl.1 rfl (Nat.le_of_ble_eq_true rfl) d_F_again_78 ⟨by decide, by decide⟩ (fun H locs hI _ _ => ?_)
        refine lv_iload hx hb d_F_again_81 (lv_at hl 0 rfl) ?_
        refine lv_iconst hx hb (v := 1) d_F_again_83 (by decide +kernel) ?_
        refine lv_ishr hx hb d_F_again_84 ?_
        refine xw_i (y := nI (n / 2)) (pk_shrN (by omega) _ 1 (by decide)) ?_
        refine lv_istore hx hb d_F_again_85 hl (by decide) (lv' := [(8, .int (nI (n / 2))), (6, .long v), (0, .ref (o 0)), (1, .int f), (2, .int t0), (3, .long x0), (5, .int n0)]) rfl (fun ls hl => ?_)
        refine lv_goto hx hb (tgt := 44) d_F_again_87 (by decide) ?_
        have hl := lv_sub hl [0, 1, 2, 3, 4, 5, 6] (l' := [(8, .int (nI (n / 2))), (6, .long v), (0, .ref (o 0)), (1, .int f), (2, .int t0), (3, .long x0), (5, .int n0)]) rfl
        exact ih (n / 2) _ _ _ _ H locs ls (by omega) (by omega) hl hI kk
      · skip
        have hn0 : ¬ n = 0 := fun q => h46 (by subst q; decide)
        have hb1 :  n % 2 = 1 := by have h9 := (nI_eq (b := 1) (by omega) (by decide)).mp h54; exact h9
        rw [x_ag, if_neg hn0, if_pos hb1] at kk
        refine lv_aload_n hx hb d_F_again_57 rfl (lv_at hl 2 rfl) ?_
        refine lv_lload hx hb d_F_again_58 (lv_at hl 1 rfl) ?_
        refine xF_calll (As := [.long v]) (rest := []) hC hI hA c_F_made (cwV 1 ht gv_F_114 rfl rfl rfl ⟨rfl, by decide, by decide, by decide +kernel⟩ ⟨by decide, by decide⟩) rfl hl.1 rfl (Nat.le_of_ble_eq_true rfl) d_F_again_60 ⟨by decide, by decide⟩ (fun H locs hI _ _ => ?_)
        refine lv_lstore hx hb d_F_again_63 hl (by decide) (lv' := [(6, .long (x_made (a, b, t) v)), (8, .int (nI n)), (0, .ref (o 0)), (1, .int f), (2, .int t0), (3, .long x0), (5, .int n0)]) rfl (fun ls hl => ?_)
        refine lv_aload_n hx hb d_F_again_65 rfl (lv_at hl 2 rfl) ?_
        refine lv_aload_n hx hb d_F_again_66 rfl (lv_at hl 2 rfl) ?_
        refine xF_get5 hC hI d_F_again_67 ?_
        refine lv_aload_n hx hb d_F_again_70 rfl (lv_at hl 2 rfl) ?_
        refine xF_get6 hC hI d_F_again_71 ?_
        refine lv_aload_n hx hb d_F_again_74 rfl (lv_at hl 2 rfl) ?_
        refine xF_get7 hC hI d_F_again_75 ?_
        refine xF_callv (As := [.long a, .long b, .long t]) (rest := []) hC hI hA c_F_behind (cwV 3 ht gv_F_66 rfl rfl rfl ⟨rfl, by decide, by decide, by decide +kernel⟩ ⟨by decide, by decide⟩) rfl hl.1 rfl (Nat.le_of_ble_eq_true rfl) d_F_again_78 ⟨by decide, by decide⟩ (fun H locs hI _ _ => ?_)
        refine lv_iload hx hb d_F_again_81 (lv_at hl 1 rfl) ?_
        refine lv_iconst hx hb (v := 1) d_F_again_83 (by decide +kernel) ?_
        refine lv_ishr hx hb d_F_again_84 ?_
        refine xw_i (y := nI (n / 2)) (pk_shrN (by omega) _ 1 (by decide)) ?_
        refine lv_istore hx hb d_F_again_85 hl (by decide) (lv' := [(8, .int (nI (n / 2))), (6, .long (x_made (a, b, t) v)), (0, .ref (o 0)), (1, .int f), (2, .int t0), (3, .long x0), (5, .int n0)]) rfl (fun ls hl => ?_)
        refine lv_goto hx hb (tgt := 44) d_F_again_87 (by decide) ?_
        have hl := lv_sub hl [0, 1, 2, 3, 4, 5, 6] (l' := [(8, .int (nI (n / 2))), (6, .long (x_made (a, b, t) v)), (0, .ref (o 0)), (1, .int f), (2, .int t0), (3, .long x0), (5, .int n0)]) rfl
        exact ih (n / 2) _ _ _ _ H locs ls (by omega) (by omega) hl hI kk
set_option maxHeartbeats 4000000 in
set_option maxRecDepth 100000 in
/-- again(from, to, v, n) -/
theorem c_F_again {l : Launch} {D : va_G} {o : Nat → Nat} {cJ cI : ClassId} {sz : Nat} {M L G : Nat → Int64} {K : Nat → Int32} {V : Nat → Int64} {a b t : Int64} {fr to : Nat} (hft : fr ≤ to) (hto : to ≤ 256) {n : Nat} {v : Int64} (hn : n ≤ 1000) (hv : x_ah v (nI n) = 1) : Met l y_F_again ws_F_again rm_F_again (va_Pc [.ref (o 0), .int (nI fr), .int (nI to), .long v, .int (nI n)] (pF D o cJ cI sz M L G K V a b t)) (va_Ql (fun (r9 : Int64) (_ : Unit) => r9 = (x_ag 10 n v (x_join (M, L, G) fr to)).1) (fun _ => bF D o cJ cI (aF o sz) M L G K V ((x_ag 10 n v (x_join (M, L, G) fr to)).2.1) ((x_ag 10 n v (x_join (M, L, G) fr to)).2.2.1) ((x_ag 10 n v (x_join (M, L, G) fr to)).2.2.2)) (aF o sz)) 0 0 (aF o sz) := by
  refine xF_met (av := [.int (nI fr), .int (nI to), .long v, .int (nI n)]) (by decide) rfl (Nat.le_of_ble_eq_true rfl) ?_
  intro p e s m below meth c ls hC hsz hr hlocks hnm hnh had hl hI
  have hA : ∀ q, s.heap.size ≤ q → aF o sz q := fun q h => aF_new (by omega)
  have hx := hC.1.1
  have hb := hC.1.2.1
  have hml := hC.1.2.2.1
  have hown := hC.1.2.2.2.1
  have ht := hC.1.2.2.2.2
  have S := hC.1
  have hl : lv_has ls 9 [(0, .ref (o 0)), (1, .int (nI fr)), (2, .int (nI to)), (3, .long v), (5, .int (nI n))] := hl
  refine j_F_again (by decide) (by decide) (by decide) (by decide) S hl ?_
  rw [hv]
  refine xS_callv (As := [.int 1]) (rest := []) S c_F_good (cwS 1 ht gs_F_85 rfl rfl rfl ⟨rfl, by decide, by decide, by decide +kernel⟩ ⟨by decide, by decide⟩) rfl hl.1 rfl (Nat.le_of_ble_eq_true rfl) d_F_again_28 ⟨by decide, by decide⟩ ?_
  refine lv_aload_n hx hb d_F_again_31 rfl (lv_at hl 0 rfl) ?_
  refine lv_iload_n hx hb d_F_again_32 rfl (lv_at hl 1 rfl) ?_
  refine lv_iload_n hx hb d_F_again_33 rfl (lv_at hl 2 rfl) ?_
  refine xF_callv (As := [.int (nI fr), .int (nI to)]) (rest := []) hC hI hA (c_F_join hft hto) (cwV 2 ht gv_F_111 rfl rfl rfl ⟨rfl, by decide, by decide, by decide +kernel⟩ ⟨by decide, by decide⟩) rfl hl.1 rfl (Nat.le_of_ble_eq_true rfl) d_F_again_34 ⟨by decide, by decide⟩ (fun H locs hI _ _ => ?_)
  refine lv_lload_n hx hb d_F_again_37 rfl (lv_at hl 3 rfl) ?_
  refine lv_lstore hx hb d_F_again_38 hl (by decide) (lv' := [(6, .long v), (0, .ref (o 0)), (1, .int (nI fr)), (2, .int (nI to)), (3, .long v), (5, .int (nI n))]) rfl (fun ls hl => ?_)
  refine lv_iload hx hb d_F_again_40 (lv_at hl 5 rfl) ?_
  refine lv_istore hx hb d_F_again_42 hl (by decide) (lv' := [(8, .int (nI n)), (6, .long v), (0, .ref (o 0)), (1, .int (nI fr)), (2, .int (nI to)), (3, .long v), (5, .int (nI n))]) rfl (fun ls hl => ?_)
  have hl := lv_sub hl [0, 1, 2, 3, 4, 5, 6] (l' := [(8, .int (nI n)), (6, .long v), (0, .ref (o 0)), (1, .int (nI fr)), (2, .int (nI to)), (3, .long v), (5, .int (nI n))]) rfl
  refine u_F_again hC hA 10 n v _ _ _ _ _ ls (by omega) (by omega) hl hI (fun H locs ls hl hI => ?_)
  refine lv_lload hx hb d_F_again_90 (lv_at hl 0 rfl) ?_
  exact xF_lret hC hI hr hlocks d_F_again_92
set_option maxHeartbeats 4000000 in
set_option maxRecDepth 100000 in
/-- no number -/
theorem e_F_again1 {l : Launch} {D : va_G} {o : Nat → Nat} {cJ cI : ClassId} {sz : Nat} {M L G : Nat → Int64} {K : Nat → Int32} {V : Nat → Int64} {a b t : Int64} (hfl : l.flags = flags0) {f t0 n : Int32} {v : Int64} (hv : x_ah v n = 0) : Thr l y_F_again ws_F_again rt_F_again (va_Pc [.ref (o 0), .int f, .int t0, .long v, .int n] (fun U => pF D o cJ cI sz M L G K V a b t U ∧ xz U)) (xQ X_IAE (bF D o cJ cI (aF o sz) M L G K V a b t) (aF o sz)) 1 6 (aF o sz) := by
  refine xF_thr (av := [.int f, .int t0, .long v, .int n]) (by decide) rfl (Nat.le_of_ble_eq_true rfl) ?_
  intro p e s m below meth c ls hC hsz hz hlocks hnh had hl hI
  have hA : ∀ q, s.heap.size ≤ q → aF o sz q := fun q h => aF_new (by omega)
  have hN := iF_xn hI hsz
  have hS := hI.2.2
  have hx := hC.1.1
  have hb := hC.1.2.1
  have hml := hC.1.2.2.1
  have hown := hC.1.2.2.2.1
  have ht := hC.1.2.2.2.2
  have S := hC.1
  have hl : lv_has ls 9 [(0, .ref (o 0)), (1, .int f), (2, .int t0), (3, .long v), (5, .int n)] := hl
  refine j_F_again (by decide) (by decide) (by decide) (by decide) S hl ?_
  rw [hv]
  exact xt_prop (xS_throws (As := [.int 0]) (rest := []) S hz hN hS (e_F_good hfl) (cwS 1 ht gs_F_85 rfl rfl rfl ⟨rfl, by decide, by decide, by decide +kernel⟩ ⟨by decide, by decide⟩) rfl hl.1 rfl (Nat.le_of_ble_eq_true rfl) d_F_again_28 ⟨by decide, by decide⟩) hS (fun q h1 h2 => absurd h1 (Nat.not_lt.mpr h2)) (fun q h => hA q (Nat.le_trans hI.2.2.1 h)) hnh hlocks (fun t0 hvm _ hz9 hk9 t1 ht1 hvm1 => ⟨hI.1.kept (fun k q hq => by rw [ht1]; exact hk9 q.1 ((hI.1 k q hq).lt) (Nat.not_le.mpr ((hI.1 k q hq).lt))), va_K.moved hvm1 hC.2, hI.2.1⟩)
set_option maxHeartbeats 4000000 in
set_option maxRecDepth 100000 in
/-- no part -/
theorem e_F_again2 {l : Launch} {D : va_G} {o : Nat → Nat} {cJ cI : ClassId} {sz : Nat} {M L G : Nat → Int64} {K : Nat → Int32} {V : Nat → Int64} {a b t : Int64} (hfl : l.flags = flags0) {f t0 n : Int32} {v : Int64} (hv : x_ah v n = 1) (hp : x_pt f t0 = 0) : Thr l y_F_again ws_F_again rt_F_again (va_Pc [.ref (o 0), .int f, .int t0, .long v, .int n] (fun U => pF D o cJ cI sz M L G K V a b t U ∧ xz U)) (xQ X_IOO (bF D o cJ cI (aF o sz) M L G K V a b t) (aF o sz)) 1 6 (aF o sz) := by
  refine xF_thr (av := [.int f, .int t0, .long v, .int n]) (by decide) rfl (Nat.le_of_ble_eq_true rfl) ?_
  intro p e s m below meth c ls hC hsz hz hlocks hnh had hl hI
  have hA : ∀ q, s.heap.size ≤ q → aF o sz q := fun q h => aF_new (by omega)
  have hN := iF_xn hI hsz
  have hS := hI.2.2
  have hx := hC.1.1
  have hb := hC.1.2.1
  have hml := hC.1.2.2.1
  have hown := hC.1.2.2.2.1
  have ht := hC.1.2.2.2.2
  have S := hC.1
  have hl : lv_has ls 9 [(0, .ref (o 0)), (1, .int f), (2, .int t0), (3, .long v), (5, .int n)] := hl
  refine j_F_again (by decide) (by decide) (by decide) (by decide) S hl ?_
  rw [hv]
  refine xS_callv (As := [.int 1]) (rest := []) S c_F_good (cwS 1 ht gs_F_85 rfl rfl rfl ⟨rfl, by decide, by decide, by decide +kernel⟩ ⟨by decide, by decide⟩) rfl hl.1 rfl (Nat.le_of_ble_eq_true rfl) d_F_again_28 ⟨by decide, by decide⟩ ?_
  refine lv_aload_n hx hb d_F_again_31 rfl (lv_at hl 0 rfl) ?_
  refine lv_iload_n hx hb d_F_again_32 rfl (lv_at hl 1 rfl) ?_
  refine lv_iload_n hx hb d_F_again_33 rfl (lv_at hl 2 rfl) ?_
  exact xt_prop (xF_throws (As := [.int f, .int t0]) (rest := []) hC hI hz hN (e_F_join hfl hp) (cwV 2 ht gv_F_111 rfl rfl rfl ⟨rfl, by decide, by decide, by decide +kernel⟩ ⟨by decide, by decide⟩) rfl hl.1 rfl (Nat.le_of_ble_eq_true rfl) d_F_again_34 ⟨by decide, by decide⟩) hI.2.2 (fun q _ h => iF_free hI hA q h) (fun q h => iF_free hI hA q h) hnh hlocks (fun t0 hvm hB hz9 hk9 t1 ht1 hvm1 => ⟨by rw [ht1]; exact hB.1, va_K.moved (hvm.symm.trans hvm1) hB.2.1, hB.2.2.weaken (fun _ q _ h => iF_free hI hA q.1 h)⟩)
set_option maxHeartbeats 4000000 in
set_option maxRecDepth 100000 in
/-- least -/
theorem c_F_least {l : Launch} {D : va_G} {o : Nat → Nat} {cJ cI : ClassId} {sz : Nat} {M L G : Nat → Int64} {K : Nat → Int32} {V : Nat → Int64} {a b t : Int64} {fr to : Nat} (hft : fr ≤ to) (hto : to ≤ 256) (hv : x_told (x_join (M, L, G) fr to).2.1 = 1) : Met l y_F_least ws_F_least rm_F_least (va_Pc [.ref (o 0), .int (nI fr), .int (nI to)] (pF D o cJ cI sz M L G K V a b t)) (va_Ql (fun (r9 : Int64) (_ : Unit) => r9 = (x_join (M, L, G) fr to).2.1) (fun _ => bF D o cJ cI (aF o sz) M L G K V ((x_join (M, L, G) fr to).1) ((x_join (M, L, G) fr to).2.1) ((x_join (M, L, G) fr to).2.2)) (aF o sz)) 0 0 (aF o sz) := by
  refine xF_met (av := [.int (nI fr), .int (nI to)]) (by decide) rfl (Nat.le_of_ble_eq_true rfl) ?_
  intro p e s m below meth c ls hC hsz hr hlocks hnm hnh had hl hI
  have hA : ∀ q, s.heap.size ≤ q → aF o sz q := fun q h => aF_new (by omega)
  have hx := hC.1.1
  have hb := hC.1.2.1
  have hml := hC.1.2.2.1
  have hown := hC.1.2.2.2.1
  have ht := hC.1.2.2.2.2
  have S := hC.1
  have hl : lv_has ls 3 [(0, .ref (o 0)), (1, .int (nI fr)), (2, .int (nI to))] := hl
  refine lv_aload_n hx hb d_F_least_0 rfl (lv_at hl 0 rfl) ?_
  refine lv_iload_n hx hb d_F_least_1 rfl (lv_at hl 1 rfl) ?_
  refine lv_iload_n hx hb d_F_least_2 rfl (lv_at hl 2 rfl) ?_
  refine xF_callv (As := [.int (nI fr), .int (nI to)]) (rest := []) hC hI hA (c_F_join hft hto) (cwV 2 ht gv_F_111 rfl rfl rfl ⟨rfl, by decide, by decide, by decide +kernel⟩ ⟨by decide, by decide⟩) rfl hl.1 rfl (Nat.le_of_ble_eq_true rfl) d_F_least_3 ⟨by decide, by decide⟩ (fun H locs hI _ _ => ?_)
  refine lv_aload_n hx hb d_F_least_6 rfl (lv_at hl 0 rfl) ?_
  refine xF_get6 hC hI d_F_least_7 ?_
  refine xS_calll (As := [.long (x_join (M, L, G) fr to).2.1]) (rest := []) S (c_F_told hv) (cwS 1 ht gs_F_121 rfl rfl rfl ⟨rfl, by decide, by decide, by decide +kernel⟩ ⟨by decide, by decide⟩) rfl hl.1 rfl (Nat.le_of_ble_eq_true rfl) d_F_least_10 ⟨by decide, by decide⟩ ?_
  exact xF_lret hC hI hr hlocks d_F_least_13
set_option maxHeartbeats 4000000 in
set_option maxRecDepth 100000 in
/-- none -/
theorem e_F_least2 {l : Launch} {D : va_G} {o : Nat → Nat} {cJ cI : ClassId} {sz : Nat} {M L G : Nat → Int64} {K : Nat → Int32} {V : Nat → Int64} {a b t : Int64} (hfl : l.flags = flags0) {fr to : Nat} (hft : fr ≤ to) (hto : to ≤ 256) (hv : x_told (x_join (M, L, G) fr to).2.1 = 0) : Thr l y_F_least ws_F_least rt_F_least (va_Pc [.ref (o 0), .int (nI fr), .int (nI to)] (fun U => pF D o cJ cI sz M L G K V a b t U ∧ xz U)) (xQ X_UOE (bF D o cJ cI (aF o sz) M L G K V ((x_join (M, L, G) fr to).1) ((x_join (M, L, G) fr to).2.1) ((x_join (M, L, G) fr to).2.2)) (aF o sz)) 1 6 (aF o sz) := by
  refine xF_thr (av := [.int (nI fr), .int (nI to)]) (by decide) rfl (Nat.le_of_ble_eq_true rfl) ?_
  intro p e s m below meth c ls hC hsz hz hlocks hnh had hl hI
  have hA : ∀ q, s.heap.size ≤ q → aF o sz q := fun q h => aF_new (by omega)
  have hN := iF_xn hI hsz
  have hS := hI.2.2
  have hx := hC.1.1
  have hb := hC.1.2.1
  have hml := hC.1.2.2.1
  have hown := hC.1.2.2.2.1
  have ht := hC.1.2.2.2.2
  have S := hC.1
  have hl : lv_has ls 3 [(0, .ref (o 0)), (1, .int (nI fr)), (2, .int (nI to))] := hl
  refine lv_aload_n hx hb d_F_least_0 rfl (lv_at hl 0 rfl) ?_
  refine lv_iload_n hx hb d_F_least_1 rfl (lv_at hl 1 rfl) ?_
  refine lv_iload_n hx hb d_F_least_2 rfl (lv_at hl 2 rfl) ?_
  refine xF_callv (As := [.int (nI fr), .int (nI to)]) (rest := []) hC hI hA (c_F_join hft hto) (cwV 2 ht gv_F_111 rfl rfl rfl ⟨rfl, by decide, by decide, by decide +kernel⟩ ⟨by decide, by decide⟩) rfl hl.1 rfl (Nat.le_of_ble_eq_true rfl) d_F_least_3 ⟨by decide, by decide⟩ (fun H locs hI _ _ => ?_)
  refine lv_aload_n hx hb d_F_least_6 rfl (lv_at hl 0 rfl) ?_
  refine xF_get6 hC hI d_F_least_7 ?_
  exact xt_prop (xS_throws (As := [.long (x_join (M, L, G) fr to).2.1]) (rest := []) S hz hN hI.2.2 (e_F_told hfl hv) (cwS 1 ht gs_F_121 rfl rfl rfl ⟨rfl, by decide, by decide, by decide +kernel⟩ ⟨by decide, by decide⟩) rfl hl.1 rfl (Nat.le_of_ble_eq_true rfl) d_F_least_10 ⟨by decide, by decide⟩) hI.2.2 (fun q h1 h2 => absurd h1 (Nat.not_lt.mpr h2)) (fun q h => hA q (Nat.le_trans hI.2.2.1 h)) hnh hlocks (fun t0 hvm _ hz9 hk9 t1 ht1 hvm1 => ⟨hI.1.kept (fun k q hq => by rw [ht1]; exact hk9 q.1 ((hI.1 k q hq).lt) (Nat.not_le.mpr ((hI.1 k q hq).lt))), va_K.moved hvm1 hC.2, hI.2.1⟩)
set_option maxHeartbeats 4000000 in
set_option maxRecDepth 100000 in
/-- no part -/
theorem e_F_least1 {l : Launch} {D : va_G} {o : Nat → Nat} {cJ cI : ClassId} {sz : Nat} {M L G : Nat → Int64} {K : Nat → Int32} {V : Nat → Int64} {a b t : Int64} (hfl : l.flags = flags0) {f t0 : Int32} (hp : x_pt f t0 = 0) : Thr l y_F_least ws_F_least rt_F_least (va_Pc [.ref (o 0), .int f, .int t0] (fun U => pF D o cJ cI sz M L G K V a b t U ∧ xz U)) (xQ X_IOO (bF D o cJ cI (aF o sz) M L G K V a b t) (aF o sz)) 1 6 (aF o sz) := by
  refine xF_thr (av := [.int f, .int t0]) (by decide) rfl (Nat.le_of_ble_eq_true rfl) ?_
  intro p e s m below meth c ls hC hsz hz hlocks hnh had hl hI
  have hA : ∀ q, s.heap.size ≤ q → aF o sz q := fun q h => aF_new (by omega)
  have hN := iF_xn hI hsz
  have hS := hI.2.2
  have hx := hC.1.1
  have hb := hC.1.2.1
  have hml := hC.1.2.2.1
  have hown := hC.1.2.2.2.1
  have ht := hC.1.2.2.2.2
  have S := hC.1
  have hl : lv_has ls 3 [(0, .ref (o 0)), (1, .int f), (2, .int t0)] := hl
  refine lv_aload_n hx hb d_F_least_0 rfl (lv_at hl 0 rfl) ?_
  refine lv_iload_n hx hb d_F_least_1 rfl (lv_at hl 1 rfl) ?_
  refine lv_iload_n hx hb d_F_least_2 rfl (lv_at hl 2 rfl) ?_
  exact xt_prop (xF_throws (As := [.int f, .int t0]) (rest := []) hC hI hz hN (e_F_join hfl hp) (cwV 2 ht gv_F_111 rfl rfl rfl ⟨rfl, by decide, by decide, by decide +kernel⟩ ⟨by decide, by decide⟩) rfl hl.1 rfl (Nat.le_of_ble_eq_true rfl) d_F_least_3 ⟨by decide, by decide⟩) hI.2.2 (fun q _ h => iF_free hI hA q h) (fun q h => iF_free hI hA q h) hnh hlocks (fun t0 hvm hB hz9 hk9 t1 ht1 hvm1 => ⟨by rw [ht1]; exact hB.1, va_K.moved (hvm.symm.trans hvm1) hB.2.1, hB.2.2.weaken (fun _ q _ h => iF_free hI hA q.1 h)⟩)
set_option maxHeartbeats 4000000 in
set_option maxRecDepth 100000 in
/-- greatest -/
theorem c_F_greatest {l : Launch} {D : va_G} {o : Nat → Nat} {cJ cI : ClassId} {sz : Nat} {M L G : Nat → Int64} {K : Nat → Int32} {V : Nat → Int64} {a b t : Int64} {fr to : Nat} (hft : fr ≤ to) (hto : to ≤ 256) (hv : x_told (x_join (M, L, G) fr to).2.2 = 1) : Met l y_F_greatest ws_F_greatest rm_F_greatest (va_Pc [.ref (o 0), .int (nI fr), .int (nI to)] (pF D o cJ cI sz M L G K V a b t)) (va_Ql (fun (r9 : Int64) (_ : Unit) => r9 = (x_join (M, L, G) fr to).2.2) (fun _ => bF D o cJ cI (aF o sz) M L G K V ((x_join (M, L, G) fr to).1) ((x_join (M, L, G) fr to).2.1) ((x_join (M, L, G) fr to).2.2)) (aF o sz)) 0 0 (aF o sz) := by
  refine xF_met (av := [.int (nI fr), .int (nI to)]) (by decide) rfl (Nat.le_of_ble_eq_true rfl) ?_
  intro p e s m below meth c ls hC hsz hr hlocks hnm hnh had hl hI
  have hA : ∀ q, s.heap.size ≤ q → aF o sz q := fun q h => aF_new (by omega)
  have hx := hC.1.1
  have hb := hC.1.2.1
  have hml := hC.1.2.2.1
  have hown := hC.1.2.2.2.1
  have ht := hC.1.2.2.2.2
  have S := hC.1
  have hl : lv_has ls 3 [(0, .ref (o 0)), (1, .int (nI fr)), (2, .int (nI to))] := hl
  refine lv_aload_n hx hb d_F_greatest_0 rfl (lv_at hl 0 rfl) ?_
  refine lv_iload_n hx hb d_F_greatest_1 rfl (lv_at hl 1 rfl) ?_
  refine lv_iload_n hx hb d_F_greatest_2 rfl (lv_at hl 2 rfl) ?_
  refine xF_callv (As := [.int (nI fr), .int (nI to)]) (rest := []) hC hI hA (c_F_join hft hto) (cwV 2 ht gv_F_111 rfl rfl rfl ⟨rfl, by decide, by decide, by decide +kernel⟩ ⟨by decide, by decide⟩) rfl hl.1 rfl (Nat.le_of_ble_eq_true rfl) d_F_greatest_3 ⟨by decide, by decide⟩ (fun H locs hI _ _ => ?_)
  refine lv_aload_n hx hb d_F_greatest_6 rfl (lv_at hl 0 rfl) ?_
  refine xF_get7 hC hI d_F_greatest_7 ?_
  refine xS_calll (As := [.long (x_join (M, L, G) fr to).2.2]) (rest := []) S (c_F_told hv) (cwS 1 ht gs_F_121 rfl rfl rfl ⟨rfl, by decide, by decide, by decide +kernel⟩ ⟨by decide, by decide⟩) rfl hl.1 rfl (Nat.le_of_ble_eq_true rfl) d_F_greatest_10 ⟨by decide, by decide⟩ ?_
  exact xF_lret hC hI hr hlocks d_F_greatest_13
set_option maxHeartbeats 4000000 in
set_option maxRecDepth 100000 in
/-- none -/
theorem e_F_greatest2 {l : Launch} {D : va_G} {o : Nat → Nat} {cJ cI : ClassId} {sz : Nat} {M L G : Nat → Int64} {K : Nat → Int32} {V : Nat → Int64} {a b t : Int64} (hfl : l.flags = flags0) {fr to : Nat} (hft : fr ≤ to) (hto : to ≤ 256) (hv : x_told (x_join (M, L, G) fr to).2.2 = 0) : Thr l y_F_greatest ws_F_greatest rt_F_greatest (va_Pc [.ref (o 0), .int (nI fr), .int (nI to)] (fun U => pF D o cJ cI sz M L G K V a b t U ∧ xz U)) (xQ X_UOE (bF D o cJ cI (aF o sz) M L G K V ((x_join (M, L, G) fr to).1) ((x_join (M, L, G) fr to).2.1) ((x_join (M, L, G) fr to).2.2)) (aF o sz)) 1 6 (aF o sz) := by
  refine xF_thr (av := [.int (nI fr), .int (nI to)]) (by decide) rfl (Nat.le_of_ble_eq_true rfl) ?_
  intro p e s m below meth c ls hC hsz hz hlocks hnh had hl hI
  have hA : ∀ q, s.heap.size ≤ q → aF o sz q := fun q h => aF_new (by omega)
  have hN := iF_xn hI hsz
  have hS := hI.2.2
  have hx := hC.1.1
  have hb := hC.1.2.1
  have hml := hC.1.2.2.1
  have hown := hC.1.2.2.2.1
  have ht := hC.1.2.2.2.2
  have S := hC.1
  have hl : lv_has ls 3 [(0, .ref (o 0)), (1, .int (nI fr)), (2, .int (nI to))] := hl
  refine lv_aload_n hx hb d_F_greatest_0 rfl (lv_at hl 0 rfl) ?_
  refine lv_iload_n hx hb d_F_greatest_1 rfl (lv_at hl 1 rfl) ?_
  refine lv_iload_n hx hb d_F_greatest_2 rfl (lv_at hl 2 rfl) ?_
  refine xF_callv (As := [.int (nI fr), .int (nI to)]) (rest := []) hC hI hA (c_F_join hft hto) (cwV 2 ht gv_F_111 rfl rfl rfl ⟨rfl, by decide, by decide, by decide +kernel⟩ ⟨by decide, by decide⟩) rfl hl.1 rfl (Nat.le_of_ble_eq_true rfl) d_F_greatest_3 ⟨by decide, by decide⟩ (fun H locs hI _ _ => ?_)
  refine lv_aload_n hx hb d_F_greatest_6 rfl (lv_at hl 0 rfl) ?_
  refine xF_get7 hC hI d_F_greatest_7 ?_
  exact xt_prop (xS_throws (As := [.long (x_join (M, L, G) fr to).2.2]) (rest := []) S hz hN hI.2.2 (e_F_told hfl hv) (cwS 1 ht gs_F_121 rfl rfl rfl ⟨rfl, by decide, by decide, by decide +kernel⟩ ⟨by decide, by decide⟩) rfl hl.1 rfl (Nat.le_of_ble_eq_true rfl) d_F_greatest_10 ⟨by decide, by decide⟩) hI.2.2 (fun q h1 h2 => absurd h1 (Nat.not_lt.mpr h2)) (fun q h => hA q (Nat.le_trans hI.2.2.1 h)) hnh hlocks (fun t0 hvm _ hz9 hk9 t1 ht1 hvm1 => ⟨hI.1.kept (fun k q hq => by rw [ht1]; exact hk9 q.1 ((hI.1 k q hq).lt) (Nat.not_le.mpr ((hI.1 k q hq).lt))), va_K.moved hvm1 hC.2, hI.2.1⟩)
set_option maxHeartbeats 4000000 in
set_option maxRecDepth 100000 in
/-- no part -/
theorem e_F_greatest1 {l : Launch} {D : va_G} {o : Nat → Nat} {cJ cI : ClassId} {sz : Nat} {M L G : Nat → Int64} {K : Nat → Int32} {V : Nat → Int64} {a b t : Int64} (hfl : l.flags = flags0) {f t0 : Int32} (hp : x_pt f t0 = 0) : Thr l y_F_greatest ws_F_greatest rt_F_greatest (va_Pc [.ref (o 0), .int f, .int t0] (fun U => pF D o cJ cI sz M L G K V a b t U ∧ xz U)) (xQ X_IOO (bF D o cJ cI (aF o sz) M L G K V a b t) (aF o sz)) 1 6 (aF o sz) := by
  refine xF_thr (av := [.int f, .int t0]) (by decide) rfl (Nat.le_of_ble_eq_true rfl) ?_
  intro p e s m below meth c ls hC hsz hz hlocks hnh had hl hI
  have hA : ∀ q, s.heap.size ≤ q → aF o sz q := fun q h => aF_new (by omega)
  have hN := iF_xn hI hsz
  have hS := hI.2.2
  have hx := hC.1.1
  have hb := hC.1.2.1
  have hml := hC.1.2.2.1
  have hown := hC.1.2.2.2.1
  have ht := hC.1.2.2.2.2
  have S := hC.1
  have hl : lv_has ls 3 [(0, .ref (o 0)), (1, .int f), (2, .int t0)] := hl
  refine lv_aload_n hx hb d_F_greatest_0 rfl (lv_at hl 0 rfl) ?_
  refine lv_iload_n hx hb d_F_greatest_1 rfl (lv_at hl 1 rfl) ?_
  refine lv_iload_n hx hb d_F_greatest_2 rfl (lv_at hl 2 rfl) ?_
  exact xt_prop (xF_throws (As := [.int f, .int t0]) (rest := []) hC hI hz hN (e_F_join hfl hp) (cwV 2 ht gv_F_111 rfl rfl rfl ⟨rfl, by decide, by decide, by decide +kernel⟩ ⟨by decide, by decide⟩) rfl hl.1 rfl (Nat.le_of_ble_eq_true rfl) d_F_greatest_3 ⟨by decide, by decide⟩) hI.2.2 (fun q _ h => iF_free hI hA q h) (fun q h => iF_free hI hA q h) hnh hlocks (fun t0 hvm hB hz9 hk9 t1 ht1 hvm1 => ⟨by rw [ht1]; exact hB.1, va_K.moved (hvm.symm.trans hvm1) hB.2.1, hB.2.2.weaken (fun _ q _ h => iF_free hI hA q.1 h)⟩)
set_option maxHeartbeats 4000000 in
set_option maxRecDepth 100000 in
/-- fixed(from, to, w) -/
theorem c_F_fixed {l : Launch} {D : va_G} {o : Nat → Nat} {cJ cI : ClassId} {sz : Nat} {M L G : Nat → Int64} {K : Nat → Int32} {V : Nat → Int64} {a b t : Int64} {fr to : Nat} (hft : fr ≤ to) (hto : to ≤ 256) {w : Int32} (hv : x_told (x_fix (x_join (M, L, G) fr to) w) = 1) : Met l y_F_fixed ws_F_fixed rm_F_fixed (va_Pc [.ref (o 0), .int (nI fr), .int (nI to), .int w] (pF D o cJ cI sz M L G K V a b t)) (va_Ql (fun (r9 : Int64) (_ : Unit) => r9 = (x_fix (x_join (M, L, G) fr to) w)) (fun _ => bF D o cJ cI (aF o sz) M L G K V ((x_join (M, L, G) fr to).1) ((x_join (M, L, G) fr to).2.1) ((x_join (M, L, G) fr to).2.2)) (aF o sz)) 0 0 (aF o sz) := by
  refine xF_met (av := [.int (nI fr), .int (nI to), .int w]) (by decide) rfl (Nat.le_of_ble_eq_true rfl) ?_
  intro p e s m below meth c ls hC hsz hr hlocks hnm hnh had hl hI
  have hA : ∀ q, s.heap.size ≤ q → aF o sz q := fun q h => aF_new (by omega)
  have hx := hC.1.1
  have hb := hC.1.2.1
  have hml := hC.1.2.2.1
  have hown := hC.1.2.2.2.1
  have ht := hC.1.2.2.2.2
  have S := hC.1
  have hl : lv_has ls 4 [(0, .ref (o 0)), (1, .int (nI fr)), (2, .int (nI to)), (3, .int w)] := hl
  refine lv_aload_n hx hb d_F_fixed_0 rfl (lv_at hl 0 rfl) ?_
  refine lv_iload_n hx hb d_F_fixed_1 rfl (lv_at hl 1 rfl) ?_
  refine lv_iload_n hx hb d_F_fixed_2 rfl (lv_at hl 2 rfl) ?_
  refine xF_callv (As := [.int (nI fr), .int (nI to)]) (rest := []) hC hI hA (c_F_join hft hto) (cwV 2 ht gv_F_111 rfl rfl rfl ⟨rfl, by decide, by decide, by decide +kernel⟩ ⟨by decide, by decide⟩) rfl hl.1 rfl (Nat.le_of_ble_eq_true rfl) d_F_fixed_3 ⟨by decide, by decide⟩ (fun H locs hI _ _ => ?_)
  refine lv_aload_n hx hb d_F_fixed_6 rfl (lv_at hl 0 rfl) ?_
  refine xF_get5 hC hI d_F_fixed_7 ?_
  refine lv_lconst hx hb (v := 0) d_F_fixed_10 (by decide +kernel) ?_
  refine W.lcmp hx hb d_F_fixed_11 ?_
  refine lv_if_le hx hb (tgt := 22) d_F_fixed_12 (by decide) (fun h12 => ?_) (fun h12 => ?_)
  · skip
    refine lv_aload_n hx hb d_F_fixed_22 rfl (lv_at hl 0 rfl) ?_
    refine xF_get5 hC hI d_F_fixed_23 ?_
    refine lv_lconst hx hb (v := 0) d_F_fixed_26 (by decide +kernel) ?_
    refine W.lcmp hx hb d_F_fixed_27 ?_
    refine lv_if_ge hx hb (tgt := 38) d_F_fixed_28 (by decide) (fun h28 => ?_) (fun h28 => ?_)
    · skip
      refine lv_iload_n hx hb d_F_fixed_38 rfl (lv_at hl 3 rfl) ?_
      refine lv_if_eq hx hb (tgt := 49) d_F_fixed_39 (by decide) (fun h39 => ?_) (fun h39 => ?_)
      · skip
        refine lv_aload_n hx hb d_F_fixed_49 rfl (lv_at hl 0 rfl) ?_
        refine xF_get6 hC hI d_F_fixed_50 ?_
        refine xS_calll (As := [.long (x_join (M, L, G) fr to).2.1]) (rest := []) S (c_F_told (by rw [show (x_fix (x_join (M, L, G) fr to) w) = (x_join (M, L, G) fr to).2.1 from (by (try simp only [lg_cmp_eq, lg_cmp_lt, lg_cmp_gt, lg_cmp_ge, lg_cmp_le] at h12 h28 h39); simp [x_fix, h12, h28, h39])] at hv; exact hv)) (cwS 1 ht gs_F_121 rfl rfl rfl ⟨rfl, by decide, by decide, by decide +kernel⟩ ⟨by decide, by decide⟩) rfl hl.1 rfl (Nat.le_of_ble_eq_true rfl) d_F_fixed_53 ⟨by decide, by decide⟩ ?_
        rw [show (x_fix (x_join (M, L, G) fr to) w) = ((x_join (M, L, G) fr to).2.1) from (by (try simp only [lg_cmp_eq, lg_cmp_lt, lg_cmp_gt, lg_cmp_ge, lg_cmp_le] at h12 h28 h39); simp [x_fix, h12, h28, h39])]
        exact xF_lret hC hI hr hlocks d_F_fixed_56
      · skip
        refine lv_aload_n hx hb d_F_fixed_42 rfl (lv_at hl 0 rfl) ?_
        refine xF_get7 hC hI d_F_fixed_43 ?_
        refine lv_goto hx hb (tgt := 53) d_F_fixed_46 (by decide) ?_
        refine xS_calll (As := [.long (x_join (M, L, G) fr to).2.2]) (rest := []) S (c_F_told (by rw [show (x_fix (x_join (M, L, G) fr to) w) = (x_join (M, L, G) fr to).2.2 from (by (try simp only [lg_cmp_eq, lg_cmp_lt, lg_cmp_gt, lg_cmp_ge, lg_cmp_le] at h12 h28 h39); simp [x_fix, h12, h28, h39])] at hv; exact hv)) (cwS 1 ht gs_F_121 rfl rfl rfl ⟨rfl, by decide, by decide, by decide +kernel⟩ ⟨by decide, by decide⟩) rfl hl.1 rfl (Nat.le_of_ble_eq_true rfl) d_F_fixed_53 ⟨by decide, by decide⟩ ?_
        rw [show (x_fix (x_join (M, L, G) fr to) w) = ((x_join (M, L, G) fr to).2.2) from (by (try simp only [lg_cmp_eq, lg_cmp_lt, lg_cmp_gt, lg_cmp_ge, lg_cmp_le] at h12 h28 h39); simp [x_fix, h12, h28, h39])]
        exact xF_lret hC hI hr hlocks d_F_fixed_56
    · skip
      refine lv_aload_n hx hb d_F_fixed_31 rfl (lv_at hl 0 rfl) ?_
      refine xF_get6 hC hI d_F_fixed_32 ?_
      refine lv_goto hx hb (tgt := 53) d_F_fixed_35 (by decide) ?_
      refine xS_calll (As := [.long (x_join (M, L, G) fr to).2.1]) (rest := []) S (c_F_told (by rw [show (x_fix (x_join (M, L, G) fr to) w) = (x_join (M, L, G) fr to).2.1 from (by (try simp only [lg_cmp_eq, lg_cmp_lt, lg_cmp_gt, lg_cmp_ge, lg_cmp_le] at h12 h28); simp [x_fix, h12, h28])] at hv; exact hv)) (cwS 1 ht gs_F_121 rfl rfl rfl ⟨rfl, by decide, by decide, by decide +kernel⟩ ⟨by decide, by decide⟩) rfl hl.1 rfl (Nat.le_of_ble_eq_true rfl) d_F_fixed_53 ⟨by decide, by decide⟩ ?_
      rw [show (x_fix (x_join (M, L, G) fr to) w) = ((x_join (M, L, G) fr to).2.1) from (by (try simp only [lg_cmp_eq, lg_cmp_lt, lg_cmp_gt, lg_cmp_ge, lg_cmp_le] at h12 h28); simp [x_fix, h12, h28])]
      exact xF_lret hC hI hr hlocks d_F_fixed_56
  · skip
    refine lv_aload_n hx hb d_F_fixed_15 rfl (lv_at hl 0 rfl) ?_
    refine xF_get7 hC hI d_F_fixed_16 ?_
    refine lv_goto hx hb (tgt := 53) d_F_fixed_19 (by decide) ?_
    refine xS_calll (As := [.long (x_join (M, L, G) fr to).2.2]) (rest := []) S (c_F_told (by rw [show (x_fix (x_join (M, L, G) fr to) w) = (x_join (M, L, G) fr to).2.2 from (by (try simp only [lg_cmp_eq, lg_cmp_lt, lg_cmp_gt, lg_cmp_ge, lg_cmp_le] at h12); simp [x_fix, h12])] at hv; exact hv)) (cwS 1 ht gs_F_121 rfl rfl rfl ⟨rfl, by decide, by decide, by decide +kernel⟩ ⟨by decide, by decide⟩) rfl hl.1 rfl (Nat.le_of_ble_eq_true rfl) d_F_fixed_53 ⟨by decide, by decide⟩ ?_
    rw [show (x_fix (x_join (M, L, G) fr to) w) = ((x_join (M, L, G) fr to).2.2) from (by (try simp only [lg_cmp_eq, lg_cmp_lt, lg_cmp_gt, lg_cmp_ge, lg_cmp_le] at h12); simp [x_fix, h12])]
    exact xF_lret hC hI hr hlocks d_F_fixed_56
set_option maxHeartbeats 4000000 in
set_option maxRecDepth 100000 in
/-- none -/
theorem e_F_fixed2 {l : Launch} {D : va_G} {o : Nat → Nat} {cJ cI : ClassId} {sz : Nat} {M L G : Nat → Int64} {K : Nat → Int32} {V : Nat → Int64} {a b t : Int64} (hfl : l.flags = flags0) {fr to : Nat} (hft : fr ≤ to) (hto : to ≤ 256) {w : Int32} (hv : x_told (x_fix (x_join (M, L, G) fr to) w) = 0) : Thr l y_F_fixed ws_F_fixed rt_F_fixed (va_Pc [.ref (o 0), .int (nI fr), .int (nI to), .int w] (fun U => pF D o cJ cI sz M L G K V a b t U ∧ xz U)) (xQ X_UOE (bF D o cJ cI (aF o sz) M L G K V ((x_join (M, L, G) fr to).1) ((x_join (M, L, G) fr to).2.1) ((x_join (M, L, G) fr to).2.2)) (aF o sz)) 1 6 (aF o sz) := by
  refine xF_thr (av := [.int (nI fr), .int (nI to), .int w]) (by decide) rfl (Nat.le_of_ble_eq_true rfl) ?_
  intro p e s m below meth c ls hC hsz hz hlocks hnh had hl hI
  have hA : ∀ q, s.heap.size ≤ q → aF o sz q := fun q h => aF_new (by omega)
  have hN := iF_xn hI hsz
  have hS := hI.2.2
  have hx := hC.1.1
  have hb := hC.1.2.1
  have hml := hC.1.2.2.1
  have hown := hC.1.2.2.2.1
  have ht := hC.1.2.2.2.2
  have S := hC.1
  have hl : lv_has ls 4 [(0, .ref (o 0)), (1, .int (nI fr)), (2, .int (nI to)), (3, .int w)] := hl
  refine lv_aload_n hx hb d_F_fixed_0 rfl (lv_at hl 0 rfl) ?_
  refine lv_iload_n hx hb d_F_fixed_1 rfl (lv_at hl 1 rfl) ?_
  refine lv_iload_n hx hb d_F_fixed_2 rfl (lv_at hl 2 rfl) ?_
  refine xF_callv (As := [.int (nI fr), .int (nI to)]) (rest := []) hC hI hA (c_F_join hft hto) (cwV 2 ht gv_F_111 rfl rfl rfl ⟨rfl, by decide, by decide, by decide +kernel⟩ ⟨by decide, by decide⟩) rfl hl.1 rfl (Nat.le_of_ble_eq_true rfl) d_F_fixed_3 ⟨by decide, by decide⟩ (fun H locs hI _ _ => ?_)
  refine lv_aload_n hx hb d_F_fixed_6 rfl (lv_at hl 0 rfl) ?_
  refine xF_get5 hC hI d_F_fixed_7 ?_
  refine lv_lconst hx hb (v := 0) d_F_fixed_10 (by decide +kernel) ?_
  refine W.lcmp hx hb d_F_fixed_11 ?_
  refine lv_if_le hx hb (tgt := 22) d_F_fixed_12 (by decide) (fun h12 => ?_) (fun h12 => ?_)
  · skip
    refine lv_aload_n hx hb d_F_fixed_22 rfl (lv_at hl 0 rfl) ?_
    refine xF_get5 hC hI d_F_fixed_23 ?_
    refine lv_lconst hx hb (v := 0) d_F_fixed_26 (by decide +kernel) ?_
    refine W.lcmp hx hb d_F_fixed_27 ?_
    refine lv_if_ge hx hb (tgt := 38) d_F_fixed_28 (by decide) (fun h28 => ?_) (fun h28 => ?_)
    · skip
      refine lv_iload_n hx hb d_F_fixed_38 rfl (lv_at hl 3 rfl) ?_
      refine lv_if_eq hx hb (tgt := 49) d_F_fixed_39 (by decide) (fun h39 => ?_) (fun h39 => ?_)
      · skip
        refine lv_aload_n hx hb d_F_fixed_49 rfl (lv_at hl 0 rfl) ?_
        refine xF_get6 hC hI d_F_fixed_50 ?_
        exact xt_prop (xS_throws (As := [.long (x_join (M, L, G) fr to).2.1]) (rest := []) S hz hN hI.2.2 (e_F_told hfl (by rw [show (x_fix (x_join (M, L, G) fr to) w) = (x_join (M, L, G) fr to).2.1 from (by (try simp only [lg_cmp_eq, lg_cmp_lt, lg_cmp_gt, lg_cmp_ge, lg_cmp_le] at h12 h28 h39); simp [x_fix, h12, h28, h39])] at hv; exact hv)) (cwS 1 ht gs_F_121 rfl rfl rfl ⟨rfl, by decide, by decide, by decide +kernel⟩ ⟨by decide, by decide⟩) rfl hl.1 rfl (Nat.le_of_ble_eq_true rfl) d_F_fixed_53 ⟨by decide, by decide⟩) hI.2.2 (fun q h1 h2 => absurd h1 (Nat.not_lt.mpr h2)) (fun q h => hA q (Nat.le_trans hI.2.2.1 h)) hnh hlocks (fun t0 hvm _ hz9 hk9 t1 ht1 hvm1 => ⟨hI.1.kept (fun k q hq => by rw [ht1]; exact hk9 q.1 ((hI.1 k q hq).lt) (Nat.not_le.mpr ((hI.1 k q hq).lt))), va_K.moved hvm1 hC.2, hI.2.1⟩)
      · skip
        refine lv_aload_n hx hb d_F_fixed_42 rfl (lv_at hl 0 rfl) ?_
        refine xF_get7 hC hI d_F_fixed_43 ?_
        refine lv_goto hx hb (tgt := 53) d_F_fixed_46 (by decide) ?_
        exact xt_prop (xS_throws (As := [.long (x_join (M, L, G) fr to).2.2]) (rest := []) S hz hN hI.2.2 (e_F_told hfl (by rw [show (x_fix (x_join (M, L, G) fr to) w) = (x_join (M, L, G) fr to).2.2 from (by (try simp only [lg_cmp_eq, lg_cmp_lt, lg_cmp_gt, lg_cmp_ge, lg_cmp_le] at h12 h28 h39); simp [x_fix, h12, h28, h39])] at hv; exact hv)) (cwS 1 ht gs_F_121 rfl rfl rfl ⟨rfl, by decide, by decide, by decide +kernel⟩ ⟨by decide, by decide⟩) rfl hl.1 rfl (Nat.le_of_ble_eq_true rfl) d_F_fixed_53 ⟨by decide, by decide⟩) hI.2.2 (fun q h1 h2 => absurd h1 (Nat.not_lt.mpr h2)) (fun q h => hA q (Nat.le_trans hI.2.2.1 h)) hnh hlocks (fun t0 hvm _ hz9 hk9 t1 ht1 hvm1 => ⟨hI.1.kept (fun k q hq => by rw [ht1]; exact hk9 q.1 ((hI.1 k q hq).lt) (Nat.not_le.mpr ((hI.1 k q hq).lt))), va_K.moved hvm1 hC.2, hI.2.1⟩)
    · skip
      refine lv_aload_n hx hb d_F_fixed_31 rfl (lv_at hl 0 rfl) ?_
      refine xF_get6 hC hI d_F_fixed_32 ?_
      refine lv_goto hx hb (tgt := 53) d_F_fixed_35 (by decide) ?_
      exact xt_prop (xS_throws (As := [.long (x_join (M, L, G) fr to).2.1]) (rest := []) S hz hN hI.2.2 (e_F_told hfl (by rw [show (x_fix (x_join (M, L, G) fr to) w) = (x_join (M, L, G) fr to).2.1 from (by (try simp only [lg_cmp_eq, lg_cmp_lt, lg_cmp_gt, lg_cmp_ge, lg_cmp_le] at h12 h28); simp [x_fix, h12, h28])] at hv; exact hv)) (cwS 1 ht gs_F_121 rfl rfl rfl ⟨rfl, by decide, by decide, by decide +kernel⟩ ⟨by decide, by decide⟩) rfl hl.1 rfl (Nat.le_of_ble_eq_true rfl) d_F_fixed_53 ⟨by decide, by decide⟩) hI.2.2 (fun q h1 h2 => absurd h1 (Nat.not_lt.mpr h2)) (fun q h => hA q (Nat.le_trans hI.2.2.1 h)) hnh hlocks (fun t0 hvm _ hz9 hk9 t1 ht1 hvm1 => ⟨hI.1.kept (fun k q hq => by rw [ht1]; exact hk9 q.1 ((hI.1 k q hq).lt) (Nat.not_le.mpr ((hI.1 k q hq).lt))), va_K.moved hvm1 hC.2, hI.2.1⟩)
  · skip
    refine lv_aload_n hx hb d_F_fixed_15 rfl (lv_at hl 0 rfl) ?_
    refine xF_get7 hC hI d_F_fixed_16 ?_
    refine lv_goto hx hb (tgt := 53) d_F_fixed_19 (by decide) ?_
    exact xt_prop (xS_throws (As := [.long (x_join (M, L, G) fr to).2.2]) (rest := []) S hz hN hI.2.2 (e_F_told hfl (by rw [show (x_fix (x_join (M, L, G) fr to) w) = (x_join (M, L, G) fr to).2.2 from (by (try simp only [lg_cmp_eq, lg_cmp_lt, lg_cmp_gt, lg_cmp_ge, lg_cmp_le] at h12); simp [x_fix, h12])] at hv; exact hv)) (cwS 1 ht gs_F_121 rfl rfl rfl ⟨rfl, by decide, by decide, by decide +kernel⟩ ⟨by decide, by decide⟩) rfl hl.1 rfl (Nat.le_of_ble_eq_true rfl) d_F_fixed_53 ⟨by decide, by decide⟩) hI.2.2 (fun q h1 h2 => absurd h1 (Nat.not_lt.mpr h2)) (fun q h => hA q (Nat.le_trans hI.2.2.1 h)) hnh hlocks (fun t0 hvm _ hz9 hk9 t1 ht1 hvm1 => ⟨hI.1.kept (fun k q hq => by rw [ht1]; exact hk9 q.1 ((hI.1 k q hq).lt) (Nat.not_le.mpr ((hI.1 k q hq).lt))), va_K.moved hvm1 hC.2, hI.2.1⟩)
set_option maxHeartbeats 4000000 in
set_option maxRecDepth 100000 in
/-- no part -/
theorem e_F_fixed1 {l : Launch} {D : va_G} {o : Nat → Nat} {cJ cI : ClassId} {sz : Nat} {M L G : Nat → Int64} {K : Nat → Int32} {V : Nat → Int64} {a b t : Int64} (hfl : l.flags = flags0) {f t0 w : Int32} (hp : x_pt f t0 = 0) : Thr l y_F_fixed ws_F_fixed rt_F_fixed (va_Pc [.ref (o 0), .int f, .int t0, .int w] (fun U => pF D o cJ cI sz M L G K V a b t U ∧ xz U)) (xQ X_IOO (bF D o cJ cI (aF o sz) M L G K V a b t) (aF o sz)) 1 6 (aF o sz) := by
  refine xF_thr (av := [.int f, .int t0, .int w]) (by decide) rfl (Nat.le_of_ble_eq_true rfl) ?_
  intro p e s m below meth c ls hC hsz hz hlocks hnh had hl hI
  have hA : ∀ q, s.heap.size ≤ q → aF o sz q := fun q h => aF_new (by omega)
  have hN := iF_xn hI hsz
  have hS := hI.2.2
  have hx := hC.1.1
  have hb := hC.1.2.1
  have hml := hC.1.2.2.1
  have hown := hC.1.2.2.2.1
  have ht := hC.1.2.2.2.2
  have S := hC.1
  have hl : lv_has ls 4 [(0, .ref (o 0)), (1, .int f), (2, .int t0), (3, .int w)] := hl
  refine lv_aload_n hx hb d_F_fixed_0 rfl (lv_at hl 0 rfl) ?_
  refine lv_iload_n hx hb d_F_fixed_1 rfl (lv_at hl 1 rfl) ?_
  refine lv_iload_n hx hb d_F_fixed_2 rfl (lv_at hl 2 rfl) ?_
  exact xt_prop (xF_throws (As := [.int f, .int t0]) (rest := []) hC hI hz hN (e_F_join hfl hp) (cwV 2 ht gv_F_111 rfl rfl rfl ⟨rfl, by decide, by decide, by decide +kernel⟩ ⟨by decide, by decide⟩) rfl hl.1 rfl (Nat.le_of_ble_eq_true rfl) d_F_fixed_3 ⟨by decide, by decide⟩) hI.2.2 (fun q _ h => iF_free hI hA q h) (fun q h => iF_free hI hA q h) hnh hlocks (fun t0 hvm hB hz9 hk9 t1 ht1 hvm1 => ⟨by rw [ht1]; exact hB.1, va_K.moved (hvm.symm.trans hvm1) hB.2.1, hB.2.2.weaken (fun _ q _ h => iF_free hI hA q.1 h)⟩)
set_option maxHeartbeats 4000000 in
set_option maxRecDepth 100000 in
theorem j_F_about {l : Launch} {p : Program} {e : Env} {R : Room} {s : State} {m : MethodId} {args : Array Value} {below : List Frame} {meth : Method} {c : Code} {H : Heap} {locs : List Loc} {cells slots : Nat} {Q : State → Prop} {ls : Array Slot} {o : Nat → Nat} {f t0 w : Int32} (S : CallFix p m c b_F_about 6 s args tb R_F) (hl : lv_has ls 6 [(0, .ref (o 0)), (1, .int f), (2, .int t0), (3, .int w)]) (kk : W p l e R s m args below meth c H locs cells slots Q (F0 m 14 ls [.int (x_bh w)])) : W p l e R s m args below meth c H locs cells slots Q (F0 m 0 ls []) := by
  have hx := S.1
  have hb := S.2.1
  have hml := S.2.2.1
  have hown := S.2.2.2.1
  have ht := S.2.2.2.2
  have hl : lv_has ls 6 [(0, .ref (o 0)), (1, .int f), (2, .int t0), (3, .int w)] := hl
  refine lv_iload_n hx hb d_F_about_0 rfl (lv_at hl 3 rfl) ?_
  refine lv_if_lt hx hb (tgt := 13) d_F_about_1 (by decide) (fun h1 => ?_) (fun h1 => ?_)
  · skip
    refine lv_iconst hx hb (v := 0) d_F_about_13 (by decide +kernel) ?_
    rw [show x_bh w = 0 from (by (try simp only [lg_cmp_eq, lg_cmp_lt, lg_cmp_gt, lg_cmp_ge, lg_cmp_le] at h1); simp [x_bh, h1])] at kk; exact kk
  · skip
    refine lv_iload_n hx hb d_F_about_4 rfl (lv_at hl 3 rfl) ?_
    refine lv_iconst hx hb (v := 3) d_F_about_5 (by decide +kernel) ?_
    refine lv_icmp_ge hx hb (tgt := 13) d_F_about_6 (by decide) (fun h6 => ?_) (fun h6 => ?_)
    · skip
      refine lv_iconst hx hb (v := 0) d_F_about_13 (by decide +kernel) ?_
      rw [show x_bh w = 0 from (by (try simp only [lg_cmp_eq, lg_cmp_lt, lg_cmp_gt, lg_cmp_ge, lg_cmp_le] at h1 h6); simp [x_bh, h1, h6])] at kk; exact kk
    · skip
      refine lv_iconst hx hb (v := 1) d_F_about_9 (by decide +kernel) ?_
      refine lv_goto hx hb (tgt := 14) d_F_about_10 (by decide) ?_
      rw [show x_bh w = 1 from (by (try simp only [lg_cmp_eq, lg_cmp_lt, lg_cmp_gt, lg_cmp_ge, lg_cmp_le] at h1 h6); simp [x_bh, h1, h6])] at kk; exact kk
theorem x_cnt_le (K : Nat → Int32) (fr : Nat) : ∀ d, x_cnt K fr d ≤ d := by
  intro d
  induction d with
  | zero => exact Nat.le_refl _
  | succ d ih => unfold x_cnt; split <;> omega
set_option maxHeartbeats 4000000 in
set_option maxRecDepth 100000 in
theorem u_F_about {l : Launch} {D : va_G} {o : Nat → Nat} {cJ cI : ClassId} {M L G : Nat → Int64} {K : Nat → Int32} {V : Nat → Int64} {a b t : Int64} {p : Program} {e : Env} {R : Room} {s : State} {m : MethodId} {args : Array Value} {below : List Frame} {meth : Method} {c : Code} {Q : State → Prop} {A : Nat → Prop} {H0 H : Heap} {locs : List Loc} {cells slots : Nat} {fr to : Nat} {w : Int32} (hC : CX p m c b_F_about 6 s args R_F D cJ cI) (hI : iF D o cJ cI A H0 H locs M L G K V a b t) (hto : to ≤ 256) (hft : fr ≤ to) :
    ∀ (n d : Nat) (ls : Array Slot), fr + d + n = to → lv_has ls 6 [(5, .int (nI (fr + d))), (4, .int (nI (x_cnt K fr d))), (0, .ref (o 0)), (1, .int (nI fr)), (2, .int (nI to)), (3, .int w)] → (∀ (ls1 : Array Slot), lv_has ls1 6 [(4, .int (nI (x_cnt K fr (to - fr))))] → W p l e R s m args below meth c H locs cells slots Q (F0 m 118 ls1 [])) → W p l e R s m args below meth c H locs cells slots Q (F0 m 93 ls []) := by
  have hx := hC.1.1
  have hb := hC.1.2.1
  intro n
  induction n with
  | zero =>
    intro d ls hd hl kk
    have hd2 : d = to - fr := by omega
    subst hd2
    refine lv_iload hx hb d_F_about_93 (lv_at hl 0 rfl) ?_
    refine lv_iload_n hx hb d_F_about_95 rfl (lv_at hl 4 rfl) ?_
    refine lv_icmp_ge hx hb (tgt := 118) d_F_about_96 (by decide) (fun h96 => ?_) (fun h96 => absurd ((nI_leI (by omega) (by omega)).mpr (by omega)) h96)
    exact kk ls (lv_sub hl [1] rfl)
  | succ n ih =>
    intro d ls hd hl kk
    have hj : fr + d < 256 := by omega
    have hc9 := x_cnt_le K fr d
    refine lv_iload hx hb d_F_about_93 (lv_at hl 0 rfl) ?_
    refine lv_iload_n hx hb d_F_about_95 rfl (lv_at hl 4 rfl) ?_
    refine lv_icmp_ge hx hb (tgt := 118) d_F_about_96 (by decide) (fun h96 => absurd ((nI_leI (by omega) (by omega)).mp h96) (by omega)) (fun h96 => ?_)
    refine lv_aload_n hx hb d_F_about_99 rfl (lv_at hl 2 rfl) ?_
    refine xF_get3 hC hI d_F_about_100 ?_
    refine lv_iload hx hb d_F_about_103 (lv_at hl 0 rfl) ?_
    refine xF_ld4 hC hI hj d_F_about_105 ?_
    refine lv_if_eq hx hb (tgt := 112) d_F_about_106 (by decide) (fun h106 => ?_) (fun h106 => ?_)
    · skip
      refine lv_iinc (k := 0) hx hb d_F_about_112 hl rfl (xi_inc (fr + d)) (by decide) (lv' := [(5, .int (nI (fr + (d + 1)))), (4, .int (nI (x_cnt K fr d))), (0, .ref (o 0)), (1, .int (nI fr)), (2, .int (nI to)), (3, .int w)]) rfl (fun ls hl => ?_)
      refine lv_goto hx hb (tgt := 93) d_F_about_115 (by decide) ?_
      have e9 : x_cnt K fr (d + 1) = x_cnt K fr d := by simp [x_cnt, h106]
      refine ih (d + 1) ls (by omega) ?_ kk
      rw [e9]
      exact lv_sub hl [0, 1, 2, 3, 4, 5] rfl
    · skip
      refine lv_iinc (k := 1) hx hb d_F_about_109 hl rfl (xi_inc (x_cnt K fr d)) (by decide) (lv' := [(4, .int (nI (x_cnt K fr d + 1))), (5, .int (nI (fr + d))), (0, .ref (o 0)), (1, .int (nI fr)), (2, .int (nI to)), (3, .int w)]) rfl (fun ls hl => ?_)
      refine lv_iinc (k := 1) hx hb d_F_about_112 hl rfl (xi_inc (fr + d)) (by decide) (lv' := [(5, .int (nI (fr + (d + 1)))), (4, .int (nI (x_cnt K fr d + 1))), (0, .ref (o 0)), (1, .int (nI fr)), (2, .int (nI to)), (3, .int w)]) rfl (fun ls hl => ?_)
      refine lv_goto hx hb (tgt := 93) d_F_about_115 (by decide) ?_
      have e9 : x_cnt K fr (d + 1) = x_cnt K fr d + 1 := by simp [x_cnt, h106]
      refine ih (d + 1) ls (by omega) ?_ kk
      rw [e9]
      exact lv_sub hl [0, 1, 2, 3, 4, 5] rfl
set_option maxHeartbeats 4000000 in
set_option maxRecDepth 100000 in
/-- about(from, to, 0) -/
theorem c_F_about0 {l : Launch} {D : va_G} {o : Nat → Nat} {cJ cI : ClassId} {sz : Nat} {M L G : Nat → Int64} {K : Nat → Int32} {V : Nat → Int64} {a b t : Int64} {fr to : Nat} (hft : fr ≤ to) (hto : to ≤ 256) : Met l y_F_about ws_F_about rm_F_about (va_Pc [.ref (o 0), .int (nI fr), .int (nI to), .int 0] (pF D o cJ cI sz M L G K V a b t)) (va_Qi (fun (r9 : Int32) (_ : Unit) => r9 = (if (x_join (M, L, G) fr to).2.1 = (x_join (M, L, G) fr to).2.2 then 1 else 0 : Int32)) (fun _ => bF D o cJ cI (aF o sz) M L G K V ((x_join (M, L, G) fr to).1) ((x_join (M, L, G) fr to).2.1) ((x_join (M, L, G) fr to).2.2)) (aF o sz)) 0 0 (aF o sz) := by
  refine xF_met (av := [.int (nI fr), .int (nI to), .int 0]) (by decide) rfl (Nat.le_of_ble_eq_true rfl) ?_
  intro p e s m below meth c ls hC hsz hr hlocks hnm hnh had hl hI
  have hA : ∀ q, s.heap.size ≤ q → aF o sz q := fun q h => aF_new (by omega)
  have hx := hC.1.1
  have hb := hC.1.2.1
  have hml := hC.1.2.2.1
  have hown := hC.1.2.2.2.1
  have ht := hC.1.2.2.2.2
  have S := hC.1
  have hl : lv_has ls 6 [(0, .ref (o 0)), (1, .int (nI fr)), (2, .int (nI to)), (3, .int 0)] := hl
  refine j_F_about S hl ?_
  rw [show x_bh 0 = 1 from by decide]
  refine xS_callv (As := [.int 1]) (rest := []) S c_F_good (cwS 1 ht gs_F_85 rfl rfl rfl ⟨rfl, by decide, by decide, by decide +kernel⟩ ⟨by decide, by decide⟩) rfl hl.1 rfl (Nat.le_of_ble_eq_true rfl) d_F_about_14 ⟨by decide, by decide⟩ ?_
  refine lv_aload_n hx hb d_F_about_17 rfl (lv_at hl 0 rfl) ?_
  refine lv_iload_n hx hb d_F_about_18 rfl (lv_at hl 1 rfl) ?_
  refine lv_iload_n hx hb d_F_about_19 rfl (lv_at hl 2 rfl) ?_
  refine xF_callv (As := [.int (nI fr), .int (nI to)]) (rest := []) hC hI hA (c_F_join hft hto) (cwV 2 ht gv_F_111 rfl rfl rfl ⟨rfl, by decide, by decide, by decide +kernel⟩ ⟨by decide, by decide⟩) rfl hl.1 rfl (Nat.le_of_ble_eq_true rfl) d_F_about_20 ⟨by decide, by decide⟩ (fun H locs hI _ _ => ?_)
  refine lv_iload_n hx hb d_F_about_23 rfl (lv_at hl 3 rfl) ?_
  refine lv_if_ne hx hb (tgt := 45) d_F_about_24 (by decide) (fun h24 => absurd rfl h24) (fun h24 => ?_)
  refine lv_aload_n hx hb d_F_about_27 rfl (lv_at hl 0 rfl) ?_
  refine xF_get6 hC hI d_F_about_28 ?_
  refine lv_aload_n hx hb d_F_about_31 rfl (lv_at hl 0 rfl) ?_
  refine xF_get7 hC hI d_F_about_32 ?_
  refine W.lcmp hx hb d_F_about_35 ?_
  refine lv_if_ne hx hb (tgt := 43) d_F_about_36 (by decide) (fun h36 => ?_) (fun h36 => ?_)
  · skip
    refine lv_iconst hx hb (v := 0) d_F_about_43 (by decide +kernel) ?_
    rw [show (if (x_join (M, L, G) fr to).2.1 = (x_join (M, L, G) fr to).2.2 then 1 else 0 : Int32) = 0 from (by (try simp only [lg_cmp_eq] at h24 h36); simp [h24, h36])]
    exact xF_iret hC hI hr hlocks d_F_about_44
  · skip
    refine lv_iconst hx hb (v := 1) d_F_about_39 (by decide +kernel) ?_
    refine lv_goto hx hb (tgt := 44) d_F_about_40 (by decide) ?_
    rw [show (if (x_join (M, L, G) fr to).2.1 = (x_join (M, L, G) fr to).2.2 then 1 else 0 : Int32) = 1 from (by (try simp only [lg_cmp_eq] at h24 h36); simp [h24, h36])]
    exact xF_iret hC hI hr hlocks d_F_about_44
set_option maxHeartbeats 4000000 in
set_option maxRecDepth 100000 in
/-- about(from, to, 2) -/
theorem c_F_about2 {l : Launch} {D : va_G} {o : Nat → Nat} {cJ cI : ClassId} {sz : Nat} {M L G : Nat → Int64} {K : Nat → Int32} {V : Nat → Int64} {a b t : Int64} {fr to : Nat} (hft : fr ≤ to) (hto : to ≤ 256) : Met l y_F_about ws_F_about rm_F_about (va_Pc [.ref (o 0), .int (nI fr), .int (nI to), .int 2] (pF D o cJ cI sz M L G K V a b t)) (va_Qi (fun (r9 : Int32) (_ : Unit) => r9 = (if (x_join (M, L, G) fr to).1 = 0 ∧ (x_join (M, L, G) fr to).2.1 = nN ∧ (x_join (M, L, G) fr to).2.2 = nP then 1 else 0 : Int32)) (fun _ => bF D o cJ cI (aF o sz) M L G K V ((x_join (M, L, G) fr to).1) ((x_join (M, L, G) fr to).2.1) ((x_join (M, L, G) fr to).2.2)) (aF o sz)) 0 0 (aF o sz) := by
  refine xF_met (av := [.int (nI fr), .int (nI to), .int 2]) (by decide) rfl (Nat.le_of_ble_eq_true rfl) ?_
  intro p e s m below meth c ls hC hsz hr hlocks hnm hnh had hl hI
  have hA : ∀ q, s.heap.size ≤ q → aF o sz q := fun q h => aF_new (by omega)
  have hx := hC.1.1
  have hb := hC.1.2.1
  have hml := hC.1.2.2.1
  have hown := hC.1.2.2.2.1
  have ht := hC.1.2.2.2.2
  have S := hC.1
  have hl : lv_has ls 6 [(0, .ref (o 0)), (1, .int (nI fr)), (2, .int (nI to)), (3, .int 2)] := hl
  refine j_F_about S hl ?_
  rw [show x_bh 2 = 1 from by decide]
  refine xS_callv (As := [.int 1]) (rest := []) S c_F_good (cwS 1 ht gs_F_85 rfl rfl rfl ⟨rfl, by decide, by decide, by decide +kernel⟩ ⟨by decide, by decide⟩) rfl hl.1 rfl (Nat.le_of_ble_eq_true rfl) d_F_about_14 ⟨by decide, by decide⟩ ?_
  refine lv_aload_n hx hb d_F_about_17 rfl (lv_at hl 0 rfl) ?_
  refine lv_iload_n hx hb d_F_about_18 rfl (lv_at hl 1 rfl) ?_
  refine lv_iload_n hx hb d_F_about_19 rfl (lv_at hl 2 rfl) ?_
  refine xF_callv (As := [.int (nI fr), .int (nI to)]) (rest := []) hC hI hA (c_F_join hft hto) (cwV 2 ht gv_F_111 rfl rfl rfl ⟨rfl, by decide, by decide, by decide +kernel⟩ ⟨by decide, by decide⟩) rfl hl.1 rfl (Nat.le_of_ble_eq_true rfl) d_F_about_20 ⟨by decide, by decide⟩ (fun H locs hI _ _ => ?_)
  refine lv_iload_n hx hb d_F_about_23 rfl (lv_at hl 3 rfl) ?_
  refine lv_if_ne hx hb (tgt := 45) d_F_about_24 (by decide) (fun h24 => ?_) (fun h24 => absurd h24 (by decide))
  refine lv_iload_n hx hb d_F_about_45 rfl (lv_at hl 3 rfl) ?_
  refine lv_iconst hx hb (v := 2) d_F_about_46 (by decide +kernel) ?_
  refine lv_icmp_ne hx hb (tgt := 87) d_F_about_47 (by decide) (fun h47 => absurd rfl h47) (fun h47 => ?_)
  refine lv_aload_n hx hb d_F_about_50 rfl (lv_at hl 0 rfl) ?_
  refine xF_get5 hC hI d_F_about_51 ?_
  refine lv_lconst hx hb (v := 0) d_F_about_54 (by decide +kernel) ?_
  refine W.lcmp hx hb d_F_about_55 ?_
  refine lv_if_ne hx hb (tgt := 85) d_F_about_56 (by decide) (fun h56 => ?_) (fun h56 => ?_)
  · skip
    refine lv_iconst hx hb (v := 0) d_F_about_85 (by decide +kernel) ?_
    rw [show (if (x_join (M, L, G) fr to).1 = 0 ∧ (x_join (M, L, G) fr to).2.1 = nN ∧ (x_join (M, L, G) fr to).2.2 = nP then 1 else 0 : Int32) = 0 from (by (try simp only [lg_cmp_eq] at h24 h47 h56); simp [h24, h47, h56])]
    exact xF_iret hC hI hr hlocks d_F_about_86
  · skip
    refine lv_aload_n hx hb d_F_about_59 rfl (lv_at hl 0 rfl) ?_
    refine xF_get6 hC hI d_F_about_60 ?_
    refine lv_ldc2 (v := nN) hx hb hown (ht _ tw_22) d_F_about_63 ?_
    refine W.lcmp hx hb d_F_about_66 ?_
    refine lv_if_ne hx hb (tgt := 85) d_F_about_67 (by decide) (fun h67 => ?_) (fun h67 => ?_)
    · skip
      refine lv_iconst hx hb (v := 0) d_F_about_85 (by decide +kernel) ?_
      rw [show (if (x_join (M, L, G) fr to).1 = 0 ∧ (x_join (M, L, G) fr to).2.1 = nN ∧ (x_join (M, L, G) fr to).2.2 = nP then 1 else 0 : Int32) = 0 from (by (try simp only [lg_cmp_eq] at h24 h47 h56 h67); simp [h24, h47, h56, h67])]
      exact xF_iret hC hI hr hlocks d_F_about_86
    · skip
      refine lv_aload_n hx hb d_F_about_70 rfl (lv_at hl 0 rfl) ?_
      refine xF_get7 hC hI d_F_about_71 ?_
      refine lv_ldc2 (v := nP) hx hb hown (ht _ tw_23) d_F_about_74 ?_
      refine W.lcmp hx hb d_F_about_77 ?_
      refine lv_if_ne hx hb (tgt := 85) d_F_about_78 (by decide) (fun h78 => ?_) (fun h78 => ?_)
      · skip
        refine lv_iconst hx hb (v := 0) d_F_about_85 (by decide +kernel) ?_
        rw [show (if (x_join (M, L, G) fr to).1 = 0 ∧ (x_join (M, L, G) fr to).2.1 = nN ∧ (x_join (M, L, G) fr to).2.2 = nP then 1 else 0 : Int32) = 0 from (by (try simp only [lg_cmp_eq] at h24 h47 h56 h67 h78); simp [h24, h47, h56, h67, h78])]
        exact xF_iret hC hI hr hlocks d_F_about_86
      · skip
        refine lv_iconst hx hb (v := 1) d_F_about_81 (by decide +kernel) ?_
        refine lv_goto hx hb (tgt := 86) d_F_about_82 (by decide) ?_
        rw [show (if (x_join (M, L, G) fr to).1 = 0 ∧ (x_join (M, L, G) fr to).2.1 = nN ∧ (x_join (M, L, G) fr to).2.2 = nP then 1 else 0 : Int32) = 1 from (by (try simp only [lg_cmp_eq] at h24 h47 h56 h67 h78); simp [h24, h47, h56, h67, h78])]
        exact xF_iret hC hI hr hlocks d_F_about_86
set_option maxHeartbeats 4000000 in
set_option maxRecDepth 100000 in
/-- about(from, to, 1) -/
theorem c_F_about1 {l : Launch} {D : va_G} {o : Nat → Nat} {cJ cI : ClassId} {sz : Nat} {M L G : Nat → Int64} {K : Nat → Int32} {V : Nat → Int64} {a b t : Int64} {fr to : Nat} (hft : fr ≤ to) (hto : to ≤ 256) : Met l y_F_about ws_F_about rm_F_about (va_Pc [.ref (o 0), .int (nI fr), .int (nI to), .int 1] (pF D o cJ cI sz M L G K V a b t)) (va_Qi (fun (r9 : Int32) (_ : Unit) => r9 = (nI (x_cnt K fr (to - fr)))) (fun _ => bF D o cJ cI (aF o sz) M L G K V ((x_join (M, L, G) fr to).1) ((x_join (M, L, G) fr to).2.1) ((x_join (M, L, G) fr to).2.2)) (aF o sz)) 0 0 (aF o sz) := by
  refine xF_met (av := [.int (nI fr), .int (nI to), .int 1]) (by decide) rfl (Nat.le_of_ble_eq_true rfl) ?_
  intro p e s m below meth c ls hC hsz hr hlocks hnm hnh had hl hI
  have hA : ∀ q, s.heap.size ≤ q → aF o sz q := fun q h => aF_new (by omega)
  have hx := hC.1.1
  have hb := hC.1.2.1
  have hml := hC.1.2.2.1
  have hown := hC.1.2.2.2.1
  have ht := hC.1.2.2.2.2
  have S := hC.1
  have hl : lv_has ls 6 [(0, .ref (o 0)), (1, .int (nI fr)), (2, .int (nI to)), (3, .int 1)] := hl
  refine j_F_about S hl ?_
  rw [show x_bh 1 = 1 from by decide]
  refine xS_callv (As := [.int 1]) (rest := []) S c_F_good (cwS 1 ht gs_F_85 rfl rfl rfl ⟨rfl, by decide, by decide, by decide +kernel⟩ ⟨by decide, by decide⟩) rfl hl.1 rfl (Nat.le_of_ble_eq_true rfl) d_F_about_14 ⟨by decide, by decide⟩ ?_
  refine lv_aload_n hx hb d_F_about_17 rfl (lv_at hl 0 rfl) ?_
  refine lv_iload_n hx hb d_F_about_18 rfl (lv_at hl 1 rfl) ?_
  refine lv_iload_n hx hb d_F_about_19 rfl (lv_at hl 2 rfl) ?_
  refine xF_callv (As := [.int (nI fr), .int (nI to)]) (rest := []) hC hI hA (c_F_join hft hto) (cwV 2 ht gv_F_111 rfl rfl rfl ⟨rfl, by decide, by decide, by decide +kernel⟩ ⟨by decide, by decide⟩) rfl hl.1 rfl (Nat.le_of_ble_eq_true rfl) d_F_about_20 ⟨by decide, by decide⟩ (fun H locs hI _ _ => ?_)
  refine lv_iload_n hx hb d_F_about_23 rfl (lv_at hl 3 rfl) ?_
  refine lv_if_ne hx hb (tgt := 45) d_F_about_24 (by decide) (fun h24 => ?_) (fun h24 => absurd h24 (by decide))
  refine lv_iload_n hx hb d_F_about_45 rfl (lv_at hl 3 rfl) ?_
  refine lv_iconst hx hb (v := 2) d_F_about_46 (by decide +kernel) ?_
  refine lv_icmp_ne hx hb (tgt := 87) d_F_about_47 (by decide) (fun h47 => ?_) (fun h47 => absurd h47 (by decide))
  refine lv_iconst hx hb (v := nI 0) d_F_about_87 (by decide +kernel) ?_
  refine lv_istore hx hb d_F_about_88 hl (by decide) (lv' := [(4, .int (nI 0)), (0, .ref (o 0)), (1, .int (nI fr)), (2, .int (nI to)), (3, .int 1)]) rfl (fun ls hl => ?_)
  refine lv_iload_n hx hb d_F_about_90 rfl (lv_at hl 2 rfl) ?_
  refine lv_istore hx hb d_F_about_91 hl (by decide) (lv' := [(5, .int (nI fr)), (4, .int (nI 0)), (0, .ref (o 0)), (1, .int (nI fr)), (2, .int (nI to)), (3, .int 1)]) rfl (fun ls hl => ?_)
  refine u_F_about hC hI hto hft (to - fr) 0 ls (by omega) hl (fun ls hl => ?_)
  refine lv_iload hx hb d_F_about_118 (lv_at hl 0 rfl) ?_
  exact xF_iret hC hI hr hlocks d_F_about_120
set_option maxHeartbeats 4000000 in
set_option maxRecDepth 100000 in
/-- no question -/
theorem e_F_about1 {l : Launch} {D : va_G} {o : Nat → Nat} {cJ cI : ClassId} {sz : Nat} {M L G : Nat → Int64} {K : Nat → Int32} {V : Nat → Int64} {a b t : Int64} (hfl : l.flags = flags0) {f t0 w : Int32} (hv : x_bh w = 0) : Thr l y_F_about ws_F_about rt_F_about (va_Pc [.ref (o 0), .int f, .int t0, .int w] (fun U => pF D o cJ cI sz M L G K V a b t U ∧ xz U)) (xQ X_IAE (bF D o cJ cI (aF o sz) M L G K V a b t) (aF o sz)) 1 6 (aF o sz) := by
  refine xF_thr (av := [.int f, .int t0, .int w]) (by decide) rfl (Nat.le_of_ble_eq_true rfl) ?_
  intro p e s m below meth c ls hC hsz hz hlocks hnh had hl hI
  have hA : ∀ q, s.heap.size ≤ q → aF o sz q := fun q h => aF_new (by omega)
  have hN := iF_xn hI hsz
  have hS := hI.2.2
  have hx := hC.1.1
  have hb := hC.1.2.1
  have hml := hC.1.2.2.1
  have hown := hC.1.2.2.2.1
  have ht := hC.1.2.2.2.2
  have S := hC.1
  have hl : lv_has ls 6 [(0, .ref (o 0)), (1, .int f), (2, .int t0), (3, .int w)] := hl
  refine j_F_about S hl ?_
  rw [hv]
  exact xt_prop (xS_throws (As := [.int 0]) (rest := []) S hz hN hS (e_F_good hfl) (cwS 1 ht gs_F_85 rfl rfl rfl ⟨rfl, by decide, by decide, by decide +kernel⟩ ⟨by decide, by decide⟩) rfl hl.1 rfl (Nat.le_of_ble_eq_true rfl) d_F_about_14 ⟨by decide, by decide⟩) hS (fun q h1 h2 => absurd h1 (Nat.not_lt.mpr h2)) (fun q h => hA q (Nat.le_trans hI.2.2.1 h)) hnh hlocks (fun t0 hvm _ hz9 hk9 t1 ht1 hvm1 => ⟨hI.1.kept (fun k q hq => by rw [ht1]; exact hk9 q.1 ((hI.1 k q hq).lt) (Nat.not_le.mpr ((hI.1 k q hq).lt))), va_K.moved hvm1 hC.2, hI.2.1⟩)
set_option maxHeartbeats 4000000 in
set_option maxRecDepth 100000 in
/-- no part -/
theorem e_F_about2 {l : Launch} {D : va_G} {o : Nat → Nat} {cJ cI : ClassId} {sz : Nat} {M L G : Nat → Int64} {K : Nat → Int32} {V : Nat → Int64} {a b t : Int64} (hfl : l.flags = flags0) {f t0 w : Int32} (hv : x_bh w = 1) (hp : x_pt f t0 = 0) : Thr l y_F_about ws_F_about rt_F_about (va_Pc [.ref (o 0), .int f, .int t0, .int w] (fun U => pF D o cJ cI sz M L G K V a b t U ∧ xz U)) (xQ X_IOO (bF D o cJ cI (aF o sz) M L G K V a b t) (aF o sz)) 1 6 (aF o sz) := by
  refine xF_thr (av := [.int f, .int t0, .int w]) (by decide) rfl (Nat.le_of_ble_eq_true rfl) ?_
  intro p e s m below meth c ls hC hsz hz hlocks hnh had hl hI
  have hA : ∀ q, s.heap.size ≤ q → aF o sz q := fun q h => aF_new (by omega)
  have hN := iF_xn hI hsz
  have hS := hI.2.2
  have hx := hC.1.1
  have hb := hC.1.2.1
  have hml := hC.1.2.2.1
  have hown := hC.1.2.2.2.1
  have ht := hC.1.2.2.2.2
  have S := hC.1
  have hl : lv_has ls 6 [(0, .ref (o 0)), (1, .int f), (2, .int t0), (3, .int w)] := hl
  refine j_F_about S hl ?_
  rw [hv]
  refine xS_callv (As := [.int 1]) (rest := []) S c_F_good (cwS 1 ht gs_F_85 rfl rfl rfl ⟨rfl, by decide, by decide, by decide +kernel⟩ ⟨by decide, by decide⟩) rfl hl.1 rfl (Nat.le_of_ble_eq_true rfl) d_F_about_14 ⟨by decide, by decide⟩ ?_
  refine lv_aload_n hx hb d_F_about_17 rfl (lv_at hl 0 rfl) ?_
  refine lv_iload_n hx hb d_F_about_18 rfl (lv_at hl 1 rfl) ?_
  refine lv_iload_n hx hb d_F_about_19 rfl (lv_at hl 2 rfl) ?_
  exact xt_prop (xF_throws (As := [.int f, .int t0]) (rest := []) hC hI hz hN (e_F_join hfl hp) (cwV 2 ht gv_F_111 rfl rfl rfl ⟨rfl, by decide, by decide, by decide +kernel⟩ ⟨by decide, by decide⟩) rfl hl.1 rfl (Nat.le_of_ble_eq_true rfl) d_F_about_20 ⟨by decide, by decide⟩) hI.2.2 (fun q _ h => iF_free hI hA q h) (fun q h => iF_free hI hA q h) hnh hlocks (fun t0 hvm hB hz9 hk9 t1 ht1 hvm1 => ⟨by rw [ht1]; exact hB.1, va_K.moved (hvm.symm.trans hvm1) hB.2.1, hB.2.2.weaken (fun _ q _ h => iF_free hI hA q.1 h)⟩)
end
section
/-! the constructors (printed by gen/gen_init.py) -/
def x_ini (v : Int64) : Nat → Nat → Int64
  | 0 => fun _ => 0
  | d + 1 => vp_updL (x_ini v d) d v
def aN (h sz : Nat) : Nat → Prop := fun q => q = h ∨ sz ≤ q
section NEWA
variable {p : Program} {l : Launch} {e : Env} {R : Room} {s : State} {m : MethodId} {args : Array Value} {below : List Frame} {meth : Method} {c : Code} {H : Heap} {locs : List Loc} {cells slots : Nat} {Q : State → Prop}
variable {cc : ByteArray} {pc : Nat} {ls : Array Slot} {rest : List Value} {D : va_G} {cJ cI : ClassId} {A : Nat → Prop} {H0 : Heap} {ws : va_W} {n : Int32} {N : Nat}
theorem xa_newJ (hx : p.tables.exec = Jvm.exec) (hb : c.code = cc) (ht : ∀ w ∈ tb, w.before args s = true) (hK : va_K D xcl (xty cJ cI) s) (hP : va_P D xcl ws H) (hD : va_D A ws) (hS : va_S A H0 H locs) (hA : ∀ q, H0.size ≤ q → A q) (hn : ¬ n < 0) (hN : n.toNatClampNeg = N) (hby : N * 8 ≤ 536870912) (hcells : cells + 1 ≤ R.cells) (hslots : slots + N ≤ R.slots) (hdg : decode cc pc = .ok (.newarray .long, 2))
    (kk : ∀ (q : Nat) (H1 : Heap), va_P D xcl (ws ++ [(q, .inl (cJ, N, .inr (.inl (fun _ => 0))))]) H1 → va_D A (ws ++ [(q, .inl (cJ, N, .inr (.inl (fun _ => 0))))]) → va_S A H0 H1 locs → W p l e R s m args below meth c H1 locs (cells + 1) (slots + N) Q (F0 m (pc + 2) ls (.ref q :: rest))) : W p l e R s m args below meth c H locs cells slots Q (F0 m pc ls (.int n :: rest)) := by
  refine va_newa (atype := .long) (ty := .long) (a0 := (N, .inr (.inl (fun _ => 0)))) hx hb (ht _ tw_49) rfl hK hP hD hS hA (fun _ => rfl) hn hN hby hcells hslots hdg (fun q cA H1 hK1 hP1 hD1 hS1 => ?_)
  have h1 := (hK1.2 2 _ rfl).2
  have h2 := (hK.2 0 _ rfl).2
  cases h1.symm.trans h2
  exact kk q H1 hP1 hD1 hS1
theorem xa_newI (hx : p.tables.exec = Jvm.exec) (hb : c.code = cc) (ht : ∀ w ∈ tb, w.before args s = true) (hK : va_K D xcl (xty cJ cI) s) (hP : va_P D xcl ws H) (hD : va_D A ws) (hS : va_S A H0 H locs) (hA : ∀ q, H0.size ≤ q → A q) (hn : ¬ n < 0) (hN : n.toNatClampNeg = N) (hby : N * 4 ≤ 536870912) (hcells : cells + 1 ≤ R.cells) (hslots : slots + N ≤ R.slots) (hdg : decode cc pc = .ok (.newarray .int, 2))
    (kk : ∀ (q : Nat) (H1 : Heap), va_P D xcl (ws ++ [(q, .inl (cI, N, .inl (fun _ => 0)))]) H1 → va_D A (ws ++ [(q, .inl (cI, N, .inl (fun _ => 0)))]) → va_S A H0 H1 locs → W p l e R s m args below meth c H1 locs (cells + 1) (slots + N) Q (F0 m (pc + 2) ls (.ref q :: rest))) : W p l e R s m args below meth c H locs cells slots Q (F0 m pc ls (.int n :: rest)) := by
  refine va_newa (atype := .int) (ty := .int) (a0 := (N, .inl (fun _ => 0))) hx hb (ht _ tw_50) rfl hK hP hD hS hA (fun _ => rfl) hn hN hby hcells hslots hdg (fun q cA H1 hK1 hP1 hD1 hS1 => ?_)
  have h1 := (hK1.2 2 _ rfl).2
  have h2 := (hK.2 1 _ rfl).2
  cases h1.symm.trans h2
  exact kk q H1 hP1 hD1 hS1
end NEWA
set_option maxHeartbeats 4000000 in
set_option maxRecDepth 100000 in
theorem u_F_init {l : Launch} {D : va_G} {o : Nat → Nat} {cJ cI : ClassId} {p : Program} {e : Env} {s : State} {m : MethodId} {args : Array Value} {below : List Frame} {meth : Method} {c : Code} {Q : State → Prop} {A : Nat → Prop} {H0 : Heap} (hC : CX p m c b_F_init 2 s args R_F D cJ cI) (hA : ∀ q, H0.size ≤ q → A q) :
    ∀ (n d : Nat) (H : Heap) (locs : List Loc) (ls : Array Slot), d + n = 512 → lv_has ls 2 [(1, .int (nI d)), (0, .ref (o 0))] → iF D o cJ cI A H0 H locs (x_ini 0 d) (x_ini nN d) (x_ini nP d) (fun _ => 0) (fun _ => 0) 0 0 0 → (∀ (H1 : Heap) (locs1 : List Loc) (ls1 : Array Slot), iF D o cJ cI A H0 H1 locs1 (x_ini 0 512) (x_ini nN 512) (x_ini nP 512) (fun _ => 0) (fun _ => 0) 0 0 0 → W p l e rm_F_init s m args below meth c H1 locs1 5 2048 Q (F0 m 69 ls1 [])) → W p l e rm_F_init s m args below meth c H locs 5 2048 Q (F0 m 51 ls []) := by
  have hx := hC.1.1
  have hb := hC.1.2.1
  have hml := hC.1.2.2.1
  have hown := hC.1.2.2.2.1
  have ht := hC.1.2.2.2.2
  have S := hC.1
  intro n
  induction n with
  | zero =>
    intro d H locs ls hd hl hI kk
    have hd2 : d = 512 := by omega
    subst hd2
    refine lv_iload_n hx hb d_F_init_51 rfl (lv_at hl 0 rfl) ?_
    refine lv_sipush hx hb (v := nI 512) d_F_init_52 (by decide +kernel) ?_
    refine lv_icmp_ge hx hb (tgt := 69) d_F_init_55 (by decide) (fun h55 => ?_) (fun h55 => absurd ((nI_leI (by omega) (by omega)).mpr (by omega)) h55)
    exact kk H locs ls hI
  | succ n ih =>
    intro d H locs ls hd hl hI kk
    refine lv_iload_n hx hb d_F_init_51 rfl (lv_at hl 0 rfl) ?_
    refine lv_sipush hx hb (v := nI 512) d_F_init_52 (by decide +kernel) ?_
    refine lv_icmp_ge hx hb (tgt := 69) d_F_init_55 (by decide) (fun h55 => absurd ((nI_leI (by omega) (by omega)).mp h55) (by omega)) (fun h55 => ?_)
    refine lv_aload_n hx hb d_F_init_58 rfl (lv_at hl 1 rfl) ?_
    refine lv_iload_n hx hb d_F_init_59 rfl (lv_at hl 0 rfl) ?_
    refine xF_callv (As := [.int (nI d)]) (rest := []) hC hI hA (c_F_nothing (k := d) (by omega)) (cwV 1 ht gv_F_26 rfl rfl rfl ⟨rfl, by decide, by decide, by decide +kernel⟩ ⟨by decide, by decide⟩) rfl hl.1 rfl (Nat.le_of_ble_eq_true rfl) d_F_init_60 ⟨by decide, by decide⟩ (fun H locs hI _ _ => ?_)
    refine lv_iinc (k := 0) hx hb d_F_init_63 hl rfl (xi_inc d) (by decide) (lv' := [(1, .int (nI (d + 1))), (0, .ref (o 0))]) rfl (fun ls hl => ?_)
    refine lv_goto hx hb (tgt := 51) d_F_init_66 (by decide) ?_
    exact ih (d + 1) H locs ls (by omega) hl hI kk
set_option maxHeartbeats 4000000 in
set_option maxRecDepth 100000 in
/-- the constructor of FoldRow -/
theorem c_F_init {l : Launch} {D : va_G} {cJ cI : ClassId} {sz h : Nat} : Met l y_F_init ws_F_init rm_F_init (va_Pc [.ref h] (fun U => U.heap.size = sz ∧ va_P D xcl [(h, .inr (0, [.null, .null, .null, .null, .null, .long 0, .long 0, .long 0]))] U.heap ∧ va_K D xcl (xty cJ cI) U ∧ va_D (fun _ => True) ([(h, .inr (0, [.null, .null, .null, .null, .null, .long 0, .long 0, .long 0]))] : va_W))) (va_Qv (fun o : Nat → Nat => o 0 = h) (fun o => bF D o cJ cI (aN h sz) (x_ini 0 512) (x_ini nN 512) (x_ini nP 512) (fun _ => 0) (fun _ => 0) 0 0 0) (aN h sz)) 5 2048 (aN h sz) := by
  refine Met.ofW (cc := b_F_init) (maxL := 2) (ret := none) (by decide) rfl ?_
  intro p e s m args below meth c s₁ B hml hv
  obtain ⟨rfl, hsz, hP, hK, hD0⟩ := hv
  have hx := B.exec
  have hb := B.bytes
  have hr := B.returns
  have hts := atoms_spec (ws := ws_F_init) B.pre
  have ht : ∀ w ∈ tb, w.before ([.ref h] : List Value).toArray s = true := fun w hw => hts w (List.mem_cons_of_mem _ hw)
  have hown : s.vm.findClass R_F = some m.cls := findClass_of_methodNamed B.named
  have hlocks := B.notSynchronized
  have hin : meth.name = "<init>" := (name_of_methodNamed B.named B.method).1
  have S : CallFix p m c b_F_init 2 s ([.ref h] : List Value).toArray tb R_F := ⟨hx, hb, hml, hown, ht⟩
  have hC : CX p m c b_F_init 2 s ([.ref h] : List Value).toArray R_F D cJ cI := ⟨S, hK⟩
  have hA : ∀ q : Nat, s.heap.size ≤ q → aN h sz q := fun q h => Or.inr (by omega)
  have hD : va_D (aN h sz) ([(h, .inr (0, [.null, .null, .null, .null, .null, .long 0, .long 0, .long 0]))] : va_W) := ⟨hD0.1, fun k q hk => by
    have hk0 : k = 0 := by have := (List.getElem?_eq_some_iff.mp hk).1; simp at this; exact this
    subst hk0
    cases hk
    exact Or.inl rfl⟩
  have hS : va_S (aN h sz) s.heap s.heap [] := va_S.rf
  have hP : va_P D xcl [(h, .inr (0, [.null, .null, .null, .null, .null, .long 0, .long 0, .long 0]))] s.heap := hP
  have hl := lv_entry ([.ref h]) (n := 2) (Nat.le_of_ble_eq_true rfl)
  rw [lg_entry_eq]
  generalize (lg_sl ([.ref h]) ++ List.replicate (2 - (lg_sl ([.ref h])).length) Slot.unset).toArray = ls at hl ⊢
  have hl : lv_has ls 2 [(0, .ref h)] := hl
  refine lv_aload_n hx hb d_F_init_0 rfl (lv_at hl 0 rfl) ?_
  refine W.objInit hx hb hown (ht _ tw_15) (ht _ tw_16) (ht _ tw_17) rfl (by rw [hml]; exact hl.1) rfl d_F_init_1 (Nat.le_of_ble_eq_true rfl) (Nat.le_of_ble_eq_true rfl) ?_
  refine W.eq (g2 := F0 m 4 ls []) rfl ?_
  refine lv_aload_n hx hb d_F_init_4 rfl (lv_at hl 0 rfl) ?_
  refine lv_sipush hx hb (v := nI 512) d_F_init_5 (by decide +kernel) ?_
  refine xa_newJ hx hb ht hK hP hD hS hA (N := 512) (by decide) (by decide) (by decide) (Nat.le_of_ble_eq_true rfl) (Nat.le_of_ble_eq_true rfl) d_F_init_8 (fun q8 H hP hD hS => ?_)
  refine va_putF (D := D) (ci := 0) (v := .ref q8) (ty := .array .long) (C := R_F) (T := F_F) (N := 8) hx hb ht uF_in t_F t_F_ok n_F hown hK hP hD hS 0 rfl rfl 0 (by decide) (ht _ tw_24) (fun _ h9 => h9) rfl hin rfl (by decide +kernel) rfl rfl (Nat.le_of_ble_eq_true rfl) d_F_init_10 (fun H locs hP hD hS => ?_)
  have hP : va_P D xcl [(h, .inr (0, [.ref q8, .null, .null, .null, .null, .long 0, .long 0, .long 0])), (q8, .inl (cJ, 512, .inr (.inl (fun _ => 0))))] H := hP
  have hD : va_D (aN h sz) ([(h, .inr (0, [.ref q8, .null, .null, .null, .null, .long 0, .long 0, .long 0])), (q8, .inl (cJ, 512, .inr (.inl (fun _ => 0))))] : va_W) := hD
  refine lv_aload_n hx hb d_F_init_13 rfl (lv_at hl 0 rfl) ?_
  refine lv_sipush hx hb (v := nI 512) d_F_init_14 (by decide +kernel) ?_
  refine xa_newJ hx hb ht hK hP hD hS hA (N := 512) (by decide) (by decide) (by decide) (Nat.le_of_ble_eq_true rfl) (Nat.le_of_ble_eq_true rfl) d_F_init_17 (fun q17 H hP hD hS => ?_)
  refine va_putF (D := D) (ci := 0) (v := .ref q17) (ty := .array .long) (C := R_F) (T := F_F) (N := 8) hx hb ht uF_in t_F t_F_ok n_F hown hK hP hD hS 0 rfl rfl 1 (by decide) (ht _ tw_25) (fun _ h9 => h9) rfl hin rfl (by decide +kernel) rfl rfl (Nat.le_of_ble_eq_true rfl) d_F_init_19 (fun H locs hP hD hS => ?_)
  have hP : va_P D xcl [(h, .inr (0, [.ref q8, .ref q17, .null, .null, .null, .long 0, .long 0, .long 0])), (q8, .inl (cJ, 512, .inr (.inl (fun _ => 0)))), (q17, .inl (cJ, 512, .inr (.inl (fun _ => 0))))] H := hP
  have hD : va_D (aN h sz) ([(h, .inr (0, [.ref q8, .ref q17, .null, .null, .null, .long 0, .long 0, .long 0])), (q8, .inl (cJ, 512, .inr (.inl (fun _ => 0)))), (q17, .inl (cJ, 512, .inr (.inl (fun _ => 0))))] : va_W) := hD
  refine lv_aload_n hx hb d_F_init_22 rfl (lv_at hl 0 rfl) ?_
  refine lv_sipush hx hb (v := nI 512) d_F_init_23 (by decide +kernel) ?_
  refine xa_newJ hx hb ht hK hP hD hS hA (N := 512) (by decide) (by decide) (by decide) (Nat.le_of_ble_eq_true rfl) (Nat.le_of_ble_eq_true rfl) d_F_init_26 (fun q26 H hP hD hS => ?_)
  refine va_putF (D := D) (ci := 0) (v := .ref q26) (ty := .array .long) (C := R_F) (T := F_F) (N := 8) hx hb ht uF_in t_F t_F_ok n_F hown hK hP hD hS 0 rfl rfl 2 (by decide) (ht _ tw_26) (fun _ h9 => h9) rfl hin rfl (by decide +kernel) rfl rfl (Nat.le_of_ble_eq_true rfl) d_F_init_28 (fun H locs hP hD hS => ?_)
  have hP : va_P D xcl [(h, .inr (0, [.ref q8, .ref q17, .ref q26, .null, .null, .long 0, .long 0, .long 0])), (q8, .inl (cJ, 512, .inr (.inl (fun _ => 0)))), (q17, .inl (cJ, 512, .inr (.inl (fun _ => 0)))), (q26, .inl (cJ, 512, .inr (.inl (fun _ => 0))))] H := hP
  have hD : va_D (aN h sz) ([(h, .inr (0, [.ref q8, .ref q17, .ref q26, .null, .null, .long 0, .long 0, .long 0])), (q8, .inl (cJ, 512, .inr (.inl (fun _ => 0)))), (q17, .inl (cJ, 512, .inr (.inl (fun _ => 0)))), (q26, .inl (cJ, 512, .inr (.inl (fun _ => 0))))] : va_W) := hD
  refine lv_aload_n hx hb d_F_init_31 rfl (lv_at hl 0 rfl) ?_
  refine lv_sipush hx hb (v := nI 256) d_F_init_32 (by decide +kernel) ?_
  refine xa_newI hx hb ht hK hP hD hS hA (N := 256) (by decide) (by decide) (by decide) (Nat.le_of_ble_eq_true rfl) (Nat.le_of_ble_eq_true rfl) d_F_init_35 (fun q35 H hP hD hS => ?_)
  refine va_putF (D := D) (ci := 0) (v := .ref q35) (ty := .array .int) (C := R_F) (T := F_F) (N := 8) hx hb ht uF_in t_F t_F_ok n_F hown hK hP hD hS 0 rfl rfl 3 (by decide) (ht _ tw_27) (fun _ h9 => h9) rfl hin rfl (by decide +kernel) rfl rfl (Nat.le_of_ble_eq_true rfl) d_F_init_37 (fun H locs hP hD hS => ?_)
  have hP : va_P D xcl [(h, .inr (0, [.ref q8, .ref q17, .ref q26, .ref q35, .null, .long 0, .long 0, .long 0])), (q8, .inl (cJ, 512, .inr (.inl (fun _ => 0)))), (q17, .inl (cJ, 512, .inr (.inl (fun _ => 0)))), (q26, .inl (cJ, 512, .inr (.inl (fun _ => 0)))), (q35, .inl (cI, 256, .inl (fun _ => 0)))] H := hP
  have hD : va_D (aN h sz) ([(h, .inr (0, [.ref q8, .ref q17, .ref q26, .ref q35, .null, .long 0, .long 0, .long 0])), (q8, .inl (cJ, 512, .inr (.inl (fun _ => 0)))), (q17, .inl (cJ, 512, .inr (.inl (fun _ => 0)))), (q26, .inl (cJ, 512, .inr (.inl (fun _ => 0)))), (q35, .inl (cI, 256, .inl (fun _ => 0)))] : va_W) := hD
  refine lv_aload_n hx hb d_F_init_40 rfl (lv_at hl 0 rfl) ?_
  refine lv_sipush hx hb (v := nI 256) d_F_init_41 (by decide +kernel) ?_
  refine xa_newJ hx hb ht hK hP hD hS hA (N := 256) (by decide) (by decide) (by decide) (Nat.le_of_ble_eq_true rfl) (Nat.le_of_ble_eq_true rfl) d_F_init_44 (fun q44 H hP hD hS => ?_)
  refine va_putF (D := D) (ci := 0) (v := .ref q44) (ty := .array .long) (C := R_F) (T := F_F) (N := 8) hx hb ht uF_in t_F t_F_ok n_F hown hK hP hD hS 0 rfl rfl 4 (by decide) (ht _ tw_28) (fun _ h9 => h9) rfl hin rfl (by decide +kernel) rfl rfl (Nat.le_of_ble_eq_true rfl) d_F_init_46 (fun H locs hP hD hS => ?_)
  have hP : va_P D xcl [(h, .inr (0, [.ref q8, .ref q17, .ref q26, .ref q35, .ref q44, .long 0, .long 0, .long 0])), (q8, .inl (cJ, 512, .inr (.inl (fun _ => 0)))), (q17, .inl (cJ, 512, .inr (.inl (fun _ => 0)))), (q26, .inl (cJ, 512, .inr (.inl (fun _ => 0)))), (q35, .inl (cI, 256, .inl (fun _ => 0))), (q44, .inl (cJ, 256, .inr (.inl (fun _ => 0))))] H := hP
  have hD : va_D (aN h sz) ([(h, .inr (0, [.ref q8, .ref q17, .ref q26, .ref q35, .ref q44, .long 0, .long 0, .long 0])), (q8, .inl (cJ, 512, .inr (.inl (fun _ => 0)))), (q17, .inl (cJ, 512, .inr (.inl (fun _ => 0)))), (q26, .inl (cJ, 512, .inr (.inl (fun _ => 0)))), (q35, .inl (cI, 256, .inl (fun _ => 0))), (q44, .inl (cJ, 256, .inr (.inl (fun _ => 0))))] : va_W) := hD
  obtain ⟨o, ho0, ho1, ho2, ho3, ho4, ho5⟩ : ∃ o : Nat → Nat, o 0 = h ∧ o 1 = q8 ∧ o 2 = q17 ∧ o 3 = q26 ∧ o 4 = q35 ∧ o 5 = q44 := ⟨fun i => match i with | 0 => h | 1 => q8 | 2 => q17 | 3 => q26 | 4 => q35 | _ => q44, rfl, rfl, rfl, rfl, rfl, rfl⟩
  subst ho1
  subst ho2
  subst ho3
  subst ho4
  subst ho5
  have hI : iF D o cJ cI (aN h sz) s.heap H locs (fun _ => 0) (fun _ => 0) (fun _ => 0) (fun _ => 0) (fun _ => 0) 0 0 0 := by
    subst ho0
    exact ⟨hP, hD, hS⟩
  have hl : lv_has ls 2 [(0, .ref (o 0))] := by rw [ho0]; exact hl
  refine lv_iconst hx hb (v := nI 0) d_F_init_49 (by decide +kernel) ?_
  refine lv_istore_n hx hb d_F_init_50 rfl hl (by decide) (lv' := [(1, .int (nI 0)), (0, .ref (o 0))]) rfl (fun ls hl => ?_)
  refine u_F_init hC hA 512 0 H locs ls (by decide) hl hI (fun H locs ls hI => ?_)
  exact W.vret hx hb hr (fun t ht9 hW => ⟨⟨o, rfl, ho0, by rw [ht9]; exact hI.1, va_K.moved hW.alike hK, hI.2.1⟩, hI.2.2.F ht9⟩) hI.2.2.2.2 d_F_init_69 hlocks
set_option maxHeartbeats 4000000 in
set_option maxRecDepth 100000 in
/-- the constructor of FoldRowModel -/
theorem c_M_init {l : Launch} {D : va_G} {cJ cI : ClassId} {sz h : Nat} : Met l y_M_init ws_M_init rm_M_init (va_Pc [.ref h] (fun U => U.heap.size = sz ∧ va_P D xcl [(h, .inr (1, [.int 0, .null, .null]))] U.heap ∧ va_K D xcl (xty cJ cI) U ∧ va_D (fun _ => True) ([(h, .inr (1, [.int 0, .null, .null]))] : va_W))) (va_Qv (fun o : Nat → Nat => o 0 = h) (fun o => bM D o cJ cI (aN h sz) 0 (fun _ => 0) (fun _ => 0)) (aN h sz)) 2 512 (aN h sz) := by
  refine Met.ofW (cc := b_M_init) (maxL := 1) (ret := none) (by decide) rfl ?_
  intro p e s m args below meth c s₁ B hml hv
  obtain ⟨rfl, hsz, hP, hK, hD0⟩ := hv
  have hx := B.exec
  have hb := B.bytes
  have hr := B.returns
  have hts := atoms_spec (ws := ws_M_init) B.pre
  have ht : ∀ w ∈ tb, w.before ([.ref h] : List Value).toArray s = true := fun w hw => hts w (List.mem_cons_of_mem _ hw)
  have hown : s.vm.findClass R_M = some m.cls := findClass_of_methodNamed B.named
  have hlocks := B.notSynchronized
  have hin : meth.name = "<init>" := (name_of_methodNamed B.named B.method).1
  have S : CallFix p m c b_M_init 1 s ([.ref h] : List Value).toArray tb R_M := ⟨hx, hb, hml, hown, ht⟩
  have hC : CX p m c b_M_init 1 s ([.ref h] : List Value).toArray R_M D cJ cI := ⟨S, hK⟩
  have hA : ∀ q : Nat, s.heap.size ≤ q → aN h sz q := fun q h => Or.inr (by omega)
  have hD : va_D (aN h sz) ([(h, .inr (1, [.int 0, .null, .null]))] : va_W) := ⟨hD0.1, fun k q hk => by
    have hk0 : k = 0 := by have := (List.getElem?_eq_some_iff.mp hk).1; simp at this; exact this
    subst hk0
    cases hk
    exact Or.inl rfl⟩
  have hS : va_S (aN h sz) s.heap s.heap [] := va_S.rf
  have hP : va_P D xcl [(h, .inr (1, [.int 0, .null, .null]))] s.heap := hP
  have hl := lv_entry ([.ref h]) (n := 1) (Nat.le_of_ble_eq_true rfl)
  rw [lg_entry_eq]
  generalize (lg_sl ([.ref h]) ++ List.replicate (1 - (lg_sl ([.ref h])).length) Slot.unset).toArray = ls at hl ⊢
  have hl : lv_has ls 1 [(0, .ref h)] := hl
  refine lv_aload_n hx hb d_M_init_0 rfl (lv_at hl 0 rfl) ?_
  refine W.objInit hx hb hown (ht _ tw_282) (ht _ tw_16) (ht _ tw_17) rfl (by rw [hml]; exact hl.1) rfl d_M_init_1 (Nat.le_of_ble_eq_true rfl) (Nat.le_of_ble_eq_true rfl) ?_
  refine W.eq (g2 := F0 m 4 ls []) rfl ?_
  refine lv_aload_n hx hb d_M_init_4 rfl (lv_at hl 0 rfl) ?_
  refine lv_sipush hx hb (v := nI 256) d_M_init_5 (by decide +kernel) ?_
  refine xa_newI hx hb ht hK hP hD hS hA (N := 256) (by decide) (by decide) (by decide) (Nat.le_of_ble_eq_true rfl) (Nat.le_of_ble_eq_true rfl) d_M_init_8 (fun q8 H hP hD hS => ?_)
  refine va_putF (D := D) (ci := 1) (v := .ref q8) (ty := .array .int) (C := R_M) (T := F_M) (N := 3) hx hb ht uM_in t_M t_M_ok n_M hown hK hP hD hS 0 rfl rfl 1 (by decide) (ht _ tw_284) (fun _ h9 => h9) rfl hin rfl (by decide +kernel) rfl rfl (Nat.le_of_ble_eq_true rfl) d_M_init_10 (fun H locs hP hD hS => ?_)
  have hP : va_P D xcl [(h, .inr (1, [.int 0, .ref q8, .null])), (q8, .inl (cI, 256, .inl (fun _ => 0)))] H := hP
  have hD : va_D (aN h sz) ([(h, .inr (1, [.int 0, .ref q8, .null])), (q8, .inl (cI, 256, .inl (fun _ => 0)))] : va_W) := hD
  refine lv_aload_n hx hb d_M_init_13 rfl (lv_at hl 0 rfl) ?_
  refine lv_sipush hx hb (v := nI 256) d_M_init_14 (by decide +kernel) ?_
  refine xa_newJ hx hb ht hK hP hD hS hA (N := 256) (by decide) (by decide) (by decide) (Nat.le_of_ble_eq_true rfl) (Nat.le_of_ble_eq_true rfl) d_M_init_17 (fun q17 H hP hD hS => ?_)
  refine va_putF (D := D) (ci := 1) (v := .ref q17) (ty := .array .long) (C := R_M) (T := F_M) (N := 3) hx hb ht uM_in t_M t_M_ok n_M hown hK hP hD hS 0 rfl rfl 2 (by decide) (ht _ tw_285) (fun _ h9 => h9) rfl hin rfl (by decide +kernel) rfl rfl (Nat.le_of_ble_eq_true rfl) d_M_init_19 (fun H locs hP hD hS => ?_)
  have hP : va_P D xcl [(h, .inr (1, [.int 0, .ref q8, .ref q17])), (q8, .inl (cI, 256, .inl (fun _ => 0))), (q17, .inl (cJ, 256, .inr (.inl (fun _ => 0))))] H := hP
  have hD : va_D (aN h sz) ([(h, .inr (1, [.int 0, .ref q8, .ref q17])), (q8, .inl (cI, 256, .inl (fun _ => 0))), (q17, .inl (cJ, 256, .inr (.inl (fun _ => 0))))] : va_W) := hD
  obtain ⟨o, ho0, ho1, ho2⟩ : ∃ o : Nat → Nat, o 0 = h ∧ o 1 = q8 ∧ o 2 = q17 := ⟨fun i => match i with | 0 => h | 1 => q8 | _ => q17, rfl, rfl, rfl⟩
  subst ho1
  subst ho2
  have hI : iM D o cJ cI (aN h sz) s.heap H locs 0 (fun _ => 0) (fun _ => 0) := by
    subst ho0
    exact ⟨hP, hD, hS⟩
  exact W.vret hx hb hr (fun t ht9 hW => ⟨⟨o, rfl, ho0, by rw [ht9]; exact hI.1, va_K.moved hW.alike hK, hI.2.1⟩, hI.2.2.F ht9⟩) hI.2.2.2.2 d_M_init_22 hlocks
end
section
/-! FoldRowModel: the leaves (printed by gen/gen_M.py) -/
def m_ends (K : Nat → Int32) (V : Nat → Int64) (d fr : Nat) (x : Int64) : Int32 := if m_made K V d fr x = m_made K V d fr (2 * x) then 1 else 0
def m_fixR (K : Nat → Int32) (V : Nat → Int64) (d fr : Nat) (x : Int64) : Int32 × Int64 :=
  if m_made K V d fr x = x then (2, 0) else
  if m_ends K V d fr x ≠ 0 ∧ m_made K V d fr (m_made K V d fr x) = m_made K V d fr x then (0, m_made K V d fr x) else
  if m_ends K V d fr (-x) ≠ 0 ∧ m_made K V d fr (m_made K V d fr (-x)) = m_made K V d fr (-x) then (0, m_made K V d fr (-x)) else (2, 0)
theorem m_pt_ok {f t : Nat} (h : f ≤ t) (ht : t ≤ 256) : m_isPart (nI f) (nI t) = 1 := x_pt_ok h ht
theorem m_in_ok {j : Nat} (h : j < 256) : m_in (nI j).toInt64 0 255 = 1 := by
  unfold m_in
  rw [nI_l (by omega), show (255 : Int64) = lN 255 from by decide, show (0 : Int64) = lN 0 from by decide, if_neg (fun q => absurd ((lN_lt (by omega) (by decide)).mp q) (by omega)), if_neg (fun q => absurd ((lN_lt (by decide) (by omega)).mp q) (by omega))]
theorem m_in_n {j : Nat} (h : j ≤ 1000) : m_in (nI j).toInt64 0 1000 = 1 := by
  unfold m_in
  rw [nI_l (by omega), show (1000 : Int64) = lN 1000 from by decide, show (0 : Int64) = lN 0 from by decide, if_neg (fun q => absurd ((lN_lt (by omega) (by decide)).mp q) (by omega)), if_neg (fun q => absurd ((lN_lt (by decide) (by omega)).mp q) (by omega))]
set_option maxHeartbeats 4000000 in
set_option maxRecDepth 100000 in
/-- thrown() -/
theorem c_M_thrown {l : Launch} {D : va_G} {o : Nat → Nat} {cJ cI : ClassId} {sz : Nat} {K : Nat → Int32} {V : Nat → Int64} {r : Int32}  : Met l y_M_thrown ws_M_thrown rm_M_thrown (va_Pc [.ref (o 0)] (pM D o cJ cI sz r K V)) (va_Qi (fun (r9 : Int32) (_ : Unit) => r9 = r) (fun _ => bM D o cJ cI (aM o sz) r K V) (aM o sz)) 0 0 (aM o sz) := by
  refine xM_met (av := []) (by decide) rfl (Nat.le_of_ble_eq_true rfl) ?_
  intro p e s m below meth c ls hC hsz hr hlocks hnm hnh had hl hI
  have hA : ∀ q, s.heap.size ≤ q → aM o sz q := fun q h => aM_new (by omega)
  have hx := hC.1.1
  have hb := hC.1.2.1
  have hml := hC.1.2.2.1
  have hown := hC.1.2.2.2.1
  have ht := hC.1.2.2.2.2
  have S := hC.1
  have hl : lv_has ls 1 [(0, .ref (o 0))] := hl
  refine lv_aload_n hx hb d_M_thrown_0 rfl (lv_at hl 0 rfl) ?_
  refine xM_get0 hC hI d_M_thrown_1 ?_
  exact xM_iret hC hI hr hlocks d_M_thrown_4
set_option maxHeartbeats 4000000 in
set_option maxRecDepth 100000 in
/-- in(v, a, b) -/
theorem c_M_in {l : Launch} {v a b : Int64} : Met l y_M_in ws_M_in rm_M_in (fun v9 _ => v9 = ([.long v, .long a, .long b] : List Value).toArray) (vp_Si (fun r => r = m_in v a b)) 0 0 (fun _ => False) := by
  refine xS_met (av := [.long v, .long a, .long b]) (by decide) (Nat.le_of_ble_eq_true rfl) ?_
  intro p e s m below meth c ls S hr hlocks hnh had hl
  have hx := S.1
  have hb := S.2.1
  have hml := S.2.2.1
  have hown := S.2.2.2.1
  have ht := S.2.2.2.2
  have hl : lv_has ls 6 [(0, .long v), (2, .long a), (4, .long b)] := hl
  refine lv_lload_n hx hb d_M_in_0 rfl (lv_at hl 0 rfl) ?_
  refine lv_lload_n hx hb d_M_in_1 rfl (lv_at hl 1 rfl) ?_
  refine W.lcmp hx hb d_M_in_2 ?_
  refine lv_if_lt hx hb (tgt := 17) d_M_in_3 (by decide) (fun h3 => ?_) (fun h3 => ?_)
  · skip
    refine lv_iconst hx hb (v := 0) d_M_in_17 (by decide +kernel) ?_
    rw [show m_in v a b = 0 from (by (try simp only [lg_cmp_eq, lg_cmp_lt, lg_cmp_gt, lg_cmp_ge, lg_cmp_le] at h3); simp [m_in, h3])]
    exact xS_zret S hr hlocks narrow_b0 d_M_in_18
  · skip
    refine lv_lload_n hx hb d_M_in_6 rfl (lv_at hl 0 rfl) ?_
    refine lv_lload hx hb d_M_in_7 (lv_at hl 2 rfl) ?_
    refine W.lcmp hx hb d_M_in_9 ?_
    refine lv_if_gt hx hb (tgt := 17) d_M_in_10 (by decide) (fun h10 => ?_) (fun h10 => ?_)
    · skip
      refine lv_iconst hx hb (v := 0) d_M_in_17 (by decide +kernel) ?_
      rw [show m_in v a b = 0 from (by (try simp only [lg_cmp_eq, lg_cmp_lt, lg_cmp_gt, lg_cmp_ge, lg_cmp_le] at h3 h10); simp [m_in, h3, h10])]
      exact xS_zret S hr hlocks narrow_b0 d_M_in_18
    · skip
      refine lv_iconst hx hb (v := 1) d_M_in_13 (by decide +kernel) ?_
      refine lv_goto hx hb (tgt := 18) d_M_in_14 (by decide) ?_
      rw [show m_in v a b = 1 from (by (try simp only [lg_cmp_eq, lg_cmp_lt, lg_cmp_gt, lg_cmp_ge, lg_cmp_le] at h3 h10); simp [m_in, h3, h10])]
      exact xS_zret S hr hlocks narrow_b1 d_M_in_18
set_option maxHeartbeats 4000000 in
set_option maxRecDepth 100000 in
/-- fails(false, w) -/
theorem c_M_fails0 {l : Launch} {D : va_G} {o : Nat → Nat} {cJ cI : ClassId} {sz : Nat} {K : Nat → Int32} {V : Nat → Int64} {w : Int32} : Met l y_M_fails ws_M_fails rm_M_fails (va_Pc [.ref (o 0), .int 0, .int w] (pM D o cJ cI sz 0 K V)) (va_Qi (fun (r9 : Int32) (_ : Unit) => r9 = 0) (fun _ => bM D o cJ cI (aM o sz) 0 K V) (aM o sz)) 0 0 (aM o sz) := by
  refine xM_met (av := [.int 0, .int w]) (by decide) rfl (Nat.le_of_ble_eq_true rfl) ?_
  intro p e s m below meth c ls hC hsz hr hlocks hnm hnh had hl hI
  have hA : ∀ q, s.heap.size ≤ q → aM o sz q := fun q h => aM_new (by omega)
  have hx := hC.1.1
  have hb := hC.1.2.1
  have hml := hC.1.2.2.1
  have hown := hC.1.2.2.2.1
  have ht := hC.1.2.2.2.2
  have S := hC.1
  have hl : lv_has ls 3 [(0, .ref (o 0)), (1, .int 0), (2, .int w)] := hl
  refine lv_iload_n hx hb d_M_fails_0 rfl (lv_at hl 1 rfl) ?_
  refine lv_if_eq hx hb (tgt := 16) d_M_fails_1 (by decide) (fun h1 => ?_) (fun h1 => absurd (by decide) h1)
  refine lv_aload_n hx hb d_M_fails_16 rfl (lv_at hl 0 rfl) ?_
  refine xM_get0 hC hI d_M_fails_17 ?_
  refine lv_if_eq hx hb (tgt := 27) d_M_fails_20 (by decide) (fun h20 => ?_) (fun h20 => absurd (by decide) h20)
  refine lv_iconst hx hb (v := 0) d_M_fails_27 (by decide +kernel) ?_
  exact xM_zret hC hI hr hlocks narrow_b0 d_M_fails_28
set_option maxHeartbeats 4000000 in
set_option maxRecDepth 100000 in
/-- fails(true, w) -/
theorem c_M_fails1 {l : Launch} {D : va_G} {o : Nat → Nat} {cJ cI : ClassId} {sz : Nat} {K : Nat → Int32} {V : Nat → Int64} {w : Int32} (hw : ¬ w = 0) : Met l y_M_fails ws_M_fails rm_M_fails (va_Pc [.ref (o 0), .int 1, .int w] (pM D o cJ cI sz 0 K V)) (va_Qi (fun (r9 : Int32) (_ : Unit) => r9 = 1) (fun _ => bM D o cJ cI (aM o sz) w K V) (aM o sz)) 0 0 (aM o sz) := by
  refine xM_met (av := [.int 1, .int w]) (by decide) rfl (Nat.le_of_ble_eq_true rfl) ?_
  intro p e s m below meth c ls hC hsz hr hlocks hnm hnh had hl hI
  have hA : ∀ q, s.heap.size ≤ q → aM o sz q := fun q h => aM_new (by omega)
  have hx := hC.1.1
  have hb := hC.1.2.1
  have hml := hC.1.2.2.1
  have hown := hC.1.2.2.2.1
  have ht := hC.1.2.2.2.2
  have S := hC.1
  have hl : lv_has ls 3 [(0, .ref (o 0)), (1, .int 1), (2, .int w)] := hl
  refine lv_iload_n hx hb d_M_fails_0 rfl (lv_at hl 1 rfl) ?_
  refine lv_if_eq hx hb (tgt := 16) d_M_fails_1 (by decide) (fun h1 => absurd h1 (by decide)) (fun h1 => ?_)
  refine lv_aload_n hx hb d_M_fails_4 rfl (lv_at hl 0 rfl) ?_
  refine xM_get0 hC hI d_M_fails_5 ?_
  refine lv_if_ne hx hb (tgt := 16) d_M_fails_8 (by decide) (fun h8 => absurd (by decide) h8) (fun h8 => ?_)
  refine lv_aload_n hx hb d_M_fails_11 rfl (lv_at hl 0 rfl) ?_
  refine lv_iload_n hx hb d_M_fails_12 rfl (lv_at hl 2 rfl) ?_
  refine xM_put0 hC hI d_M_fails_13 (fun H locs hI => ?_)
  refine lv_aload_n hx hb d_M_fails_16 rfl (lv_at hl 0 rfl) ?_
  refine xM_get0 hC hI d_M_fails_17 ?_
  refine lv_if_eq hx hb (tgt := 27) d_M_fails_20 (by decide) (fun h20 => absurd h20 hw) (fun h20 => ?_)
  refine lv_iconst hx hb (v := 1) d_M_fails_23 (by decide +kernel) ?_
  refine lv_goto hx hb (tgt := 28) d_M_fails_24 (by decide) ?_
  exact xM_zret hC hI hr hlocks narrow_b1 d_M_fails_28
set_option maxHeartbeats 4000000 in
set_option maxRecDepth 100000 in
/-- isRule(s, v) -/
theorem c_M_isRule {l : Launch} {s0 : Int32} {v : Int64} : Met l y_M_isRule ws_M_isRule rm_M_isRule (fun v9 _ => v9 = ([.int s0, .long v] : List Value).toArray) (vp_Si (fun r => r = m_isRule s0 v)) 0 0 (fun _ => False) := by
  refine xS_met (av := [.int s0, .long v]) (by decide) (Nat.le_of_ble_eq_true rfl) ?_
  intro p e s m below meth c ls S hr hlocks hnh had hl
  have hx := S.1
  have hb := S.2.1
  have hml := S.2.2.1
  have hown := S.2.2.2.1
  have ht := S.2.2.2.2
  have hl : lv_has ls 3 [(0, .int s0), (1, .long v)] := hl
  refine lv_iload_n hx hb d_M_isRule_0 rfl (lv_at hl 0 rfl) ?_
  refine lv_i2l hx hb (v := (s0).toInt64) d_M_isRule_1 rfl ?_
  refine lv_lconst hx hb (v := 0) d_M_isRule_2 (by decide +kernel) ?_
  refine lv_ldc2 (v := 4) hx hb hown (ht _ tw_304) d_M_isRule_3 ?_
  refine xS_calli (As := [.long (s0).toInt64, .long 0, .long 4]) (rest := []) S c_M_in (cwS 3 ht gs_M_23 rfl rfl rfl ⟨rfl, by decide, by decide, by decide +kernel⟩ ⟨by decide, by decide⟩) rfl hl.1 rfl (Nat.le_of_ble_eq_true rfl) d_M_isRule_6 ⟨by decide, by decide⟩ ?_
  refine lv_if_eq hx hb (tgt := 29) d_M_isRule_9 (by decide) (fun h9 => ?_) (fun h9 => ?_)
  · skip
    refine lv_iconst hx hb (v := 0) d_M_isRule_29 (by decide +kernel) ?_
    rw [show m_isRule s0 v = 0 from (by (try simp only [lg_cmp_eq, lg_cmp_lt, lg_cmp_gt, lg_cmp_ge, lg_cmp_le] at h9); simp [m_isRule, h9])]
    exact xS_zret S hr hlocks narrow_b0 d_M_isRule_30
  · skip
    refine lv_lload_n hx hb d_M_isRule_12 rfl (lv_at hl 1 rfl) ?_
    refine lv_ldc2 (v := (-1000000000)) hx hb hown (ht _ tw_308) d_M_isRule_13 ?_
    refine lv_ldc2 (v := 1000000000) hx hb hown (ht _ tw_309) d_M_isRule_16 ?_
    refine xS_calli (As := [.long v, .long (-1000000000), .long 1000000000]) (rest := []) S c_M_in (cwS 3 ht gs_M_23 rfl rfl rfl ⟨rfl, by decide, by decide, by decide +kernel⟩ ⟨by decide, by decide⟩) rfl hl.1 rfl (Nat.le_of_ble_eq_true rfl) d_M_isRule_19 ⟨by decide, by decide⟩ ?_
    refine lv_if_eq hx hb (tgt := 29) d_M_isRule_22 (by decide) (fun h22 => ?_) (fun h22 => ?_)
    · skip
      refine lv_iconst hx hb (v := 0) d_M_isRule_29 (by decide +kernel) ?_
      rw [show m_isRule s0 v = 0 from (by (try simp only [lg_cmp_eq, lg_cmp_lt, lg_cmp_gt, lg_cmp_ge, lg_cmp_le] at h9 h22); simp [m_isRule, h9, h22])]
      exact xS_zret S hr hlocks narrow_b0 d_M_isRule_30
    · skip
      refine lv_iconst hx hb (v := 1) d_M_isRule_25 (by decide +kernel) ?_
      refine lv_goto hx hb (tgt := 30) d_M_isRule_26 (by decide) ?_
      rw [show m_isRule s0 v = 1 from (by (try simp only [lg_cmp_eq, lg_cmp_lt, lg_cmp_gt, lg_cmp_ge, lg_cmp_le] at h9 h22); simp [m_isRule, h9, h22])]
      exact xS_zret S hr hlocks narrow_b1 d_M_isRule_30
set_option maxHeartbeats 4000000 in
set_option maxRecDepth 100000 in
/-- isPart(f, t) -/
theorem c_M_isPart {l : Launch} {f t : Int32} : Met l y_M_isPart ws_M_isPart rm_M_isPart (fun v9 _ => v9 = ([.int f, .int t] : List Value).toArray) (vp_Si (fun r => r = m_isPart f t)) 0 0 (fun _ => False) := by
  refine xS_met (av := [.int f, .int t]) (by decide) (Nat.le_of_ble_eq_true rfl) ?_
  intro p e s m below meth c ls S hr hlocks hnh had hl
  have hx := S.1
  have hb := S.2.1
  have hml := S.2.2.1
  have hown := S.2.2.2.1
  have ht := S.2.2.2.2
  have hl : lv_has ls 2 [(0, .int f), (1, .int t)] := hl
  refine lv_iconst hx hb (v := 0) d_M_isPart_0 (by decide +kernel) ?_
  refine lv_iload_n hx hb d_M_isPart_1 rfl (lv_at hl 0 rfl) ?_
  refine lv_icmp_gt hx hb (tgt := 21) d_M_isPart_2 (by decide) (fun h2 => ?_) (fun h2 => ?_)
  · skip
    refine lv_iconst hx hb (v := 0) d_M_isPart_21 (by decide +kernel) ?_
    rw [show m_isPart f t = 0 from (by (try simp only [lg_cmp_eq, lg_cmp_lt, lg_cmp_gt, lg_cmp_ge, lg_cmp_le] at h2); simp [m_isPart, h2])]
    exact xS_zret S hr hlocks narrow_b0 d_M_isPart_22
  · skip
    refine lv_iload_n hx hb d_M_isPart_5 rfl (lv_at hl 0 rfl) ?_
    refine lv_iload_n hx hb d_M_isPart_6 rfl (lv_at hl 1 rfl) ?_
    refine lv_icmp_gt hx hb (tgt := 21) d_M_isPart_7 (by decide) (fun h7 => ?_) (fun h7 => ?_)
    · skip
      refine lv_iconst hx hb (v := 0) d_M_isPart_21 (by decide +kernel) ?_
      rw [show m_isPart f t = 0 from (by (try simp only [lg_cmp_eq, lg_cmp_lt, lg_cmp_gt, lg_cmp_ge, lg_cmp_le] at h2 h7); simp [m_isPart, h2, h7])]
      exact xS_zret S hr hlocks narrow_b0 d_M_isPart_22
    · skip
      refine lv_iload_n hx hb d_M_isPart_10 rfl (lv_at hl 1 rfl) ?_
      refine lv_sipush hx hb (v := 256) d_M_isPart_11 (by decide +kernel) ?_
      refine lv_icmp_gt hx hb (tgt := 21) d_M_isPart_14 (by decide) (fun h14 => ?_) (fun h14 => ?_)
      · skip
        refine lv_iconst hx hb (v := 0) d_M_isPart_21 (by decide +kernel) ?_
        rw [show m_isPart f t = 0 from (by (try simp only [lg_cmp_eq, lg_cmp_lt, lg_cmp_gt, lg_cmp_ge, lg_cmp_le] at h2 h7 h14); simp [m_isPart, h2, h7, h14])]
        exact xS_zret S hr hlocks narrow_b0 d_M_isPart_22
      · skip
        refine lv_iconst hx hb (v := 1) d_M_isPart_17 (by decide +kernel) ?_
        refine lv_goto hx hb (tgt := 22) d_M_isPart_18 (by decide) ?_
        rw [show m_isPart f t = 1 from (by (try simp only [lg_cmp_eq, lg_cmp_lt, lg_cmp_gt, lg_cmp_ge, lg_cmp_le] at h2 h7 h14); simp [m_isPart, h2, h7, h14])]
        exact xS_zret S hr hlocks narrow_b1 d_M_isPart_22
theorem m_in_narrow (v a b : Int64) : narrow .boolean (.int (m_in v a b)) = .int (m_in v a b) := by
  unfold m_in
  split
  · rfl
  · split <;> rfl
set_option maxHeartbeats 4000000 in
set_option maxRecDepth 100000 in
/-- isNumber(v) -/
theorem c_M_isNumber {l : Launch} {v : Int64} : Met l y_M_isNumber ws_M_isNumber rm_M_isNumber (fun v9 _ => v9 = ([.long v] : List Value).toArray) (vp_Si (fun r => r = m_isNumber v)) 0 0 (fun _ => False) := by
  refine xS_met (av := [.long v]) (by decide) (Nat.le_of_ble_eq_true rfl) ?_
  intro p e s m below meth c ls S hr hlocks hnh had hl
  have hx := S.1
  have hb := S.2.1
  have hml := S.2.2.1
  have hown := S.2.2.2.1
  have ht := S.2.2.2.2
  have hl : lv_has ls 2 [(0, .long v)] := hl
  refine lv_lload_n hx hb d_M_isNumber_0 rfl (lv_at hl 0 rfl) ?_
  refine lv_ldc2 (v := (-1000000000000)) hx hb hown (ht _ tw_333) d_M_isNumber_1 ?_
  refine lv_ldc2 (v := 1000000000000) hx hb hown (ht _ tw_334) d_M_isNumber_4 ?_
  refine xS_calli (As := [.long v, .long (-1000000000000), .long 1000000000000]) (rest := []) S c_M_in (cwS 3 ht gs_M_23 rfl rfl rfl ⟨rfl, by decide, by decide, by decide +kernel⟩ ⟨by decide, by decide⟩) rfl hl.1 rfl (Nat.le_of_ble_eq_true rfl) d_M_isNumber_7 ⟨by decide, by decide⟩ ?_
  exact xS_zret S hr hlocks (m_in_narrow _ _ _) d_M_isNumber_10
set_option maxHeartbeats 4000000 in
set_option maxRecDepth 100000 in
theorem u_M_made {l : Launch} {D : va_G} {o : Nat → Nat} {cJ cI : ClassId} {r : Int32} {K : Nat → Int32} {V : Nat → Int64} {p : Program} {e : Env} {R : Room} {s : State} {m : MethodId} {args : Array Value} {below : List Frame} {meth : Method} {c : Code} {Q : State → Prop} {A : Nat → Prop} {H0 H : Heap} {locs : List Loc} {cells slots : Nat} {to : Nat} {f : Int32} {x0 : Int64} (hC : CX p m c b_M_made 8 s args R_M D cJ cI) (hI : iM D o cJ cI A H0 H locs r K V) (hto : to ≤ 256) :
    ∀ (d k : Nat) (y : Int64) (ls : Array Slot), k + d = to → lv_has ls 8 [(7, .int (nI k)), (5, .long y), (0, .ref (o 0)), (1, .int f), (2, .int (nI to)), (3, .long x0)] → (∀ (ls1 : Array Slot), lv_has ls1 8 [(5, .long (m_made K V d k y))] → W p l e R s m args below meth c H locs cells slots Q (F0 m 131 ls1 [])) → W p l e R s m args below meth c H locs cells slots Q (F0 m 6 ls []) := by
  have hx := hC.1.1
  have hb := hC.1.2.1
  intro d
  induction d with
  | zero =>
    intro k y ls hd hl kk
    refine lv_iload hx hb d_M_made_6 (lv_at hl 0 rfl) ?_
    refine lv_iload_n hx hb d_M_made_8 rfl (lv_at hl 4 rfl) ?_
    refine lv_icmp_ge hx hb (tgt := 131) d_M_made_9 (by decide) (fun h9 => ?_) (fun h9 => absurd ((nI_leI (by omega) (by omega)).mpr (by omega)) h9)
    exact kk ls (lv_sub hl [1] rfl)
  | succ d ih =>
    intro k y ls hd hl kk
    have hk : k < 256 := by omega
    have back : ∀ (y1 : Int64) (ls : Array Slot), y1 = m_op (K k) (V k) y → lv_has ls 8 [(5, .long y1), (7, .int (nI k)), (0, .ref (o 0)), (1, .int f), (2, .int (nI to)), (3, .long x0)] → W p l e R s m args below meth c H locs cells slots Q (F0 m 125 ls []) := by
      intro y1 ls hy hl
      subst hy
      refine lv_iinc (k := 1) hx hb d_M_made_125 hl rfl (xi_inc k) (by decide) (lv' := [(7, .int (nI (k + 1))), (5, .long (m_op (K k) (V k) y)), (0, .ref (o 0)), (1, .int f), (2, .int (nI to)), (3, .long x0)]) rfl (fun ls hl => ?_)
      refine lv_goto hx hb (tgt := 6) d_M_made_128 (by decide) ?_
      exact ih (k + 1) _ ls (by omega) hl kk
    refine lv_iload hx hb d_M_made_6 (lv_at hl 0 rfl) ?_
    refine lv_iload_n hx hb d_M_made_8 rfl (lv_at hl 4 rfl) ?_
    refine lv_icmp_ge hx hb (tgt := 131) d_M_made_9 (by decide) (fun h9 => absurd ((nI_leI (by omega) (by omega)).mp h9) (by omega)) (fun h9 => ?_)
    refine lv_aload_n hx hb d_M_made_12 rfl (lv_at hl 2 rfl) ?_
    refine xM_get1 hC hI d_M_made_13 ?_
    refine lv_iload hx hb d_M_made_16 (lv_at hl 0 rfl) ?_
    refine xM_ld1 hC hI hk d_M_made_18 ?_
    by_cases hc1 : K k = 1
    · refine xw_i hc1 ?_
      refine lv_tableIn hx hb (tgt := 48) (off := 29) d_M_made_19 (by decide) (by decide) (by decide) (by decide) ?_
      refine lv_lload hx hb d_M_made_48 (lv_at hl 1 rfl) ?_
      refine lv_aload_n hx hb d_M_made_50 rfl (lv_at hl 2 rfl) ?_
      refine xM_get2 hC hI d_M_made_51 ?_
      refine lv_iload hx hb d_M_made_54 (lv_at hl 0 rfl) ?_
      refine xM_ld2 hC hI hk d_M_made_56 ?_
      refine lv_ladd hx hb d_M_made_57 ?_
      refine lv_lstore hx hb d_M_made_58 hl (by decide) (lv' := [(5, .long (y + (V k))), (7, .int (nI k)), (0, .ref (o 0)), (1, .int f), (2, .int (nI to)), (3, .long x0)]) rfl (fun ls hl => ?_)
      refine lv_goto hx hb (tgt := 125) d_M_made_60 (by decide) ?_
      exact back (y + (V k)) ls (by simp [m_op, hc1]) (lv_sub hl [0, 1, 2, 3, 4, 5] rfl)
    by_cases hc2 : K k = 2
    · refine xw_i hc2 ?_
      refine lv_tableIn hx hb (tgt := 63) (off := 44) d_M_made_19 (by decide) (by decide) (by decide) (by decide) ?_
      refine lv_aload_n hx hb d_M_made_63 rfl (lv_at hl 2 rfl) ?_
      refine xM_get2 hC hI d_M_made_64 ?_
      refine lv_iload hx hb d_M_made_67 (lv_at hl 0 rfl) ?_
      refine xM_ld2 hC hI hk d_M_made_69 ?_
      refine lv_lstore hx hb d_M_made_70 hl (by decide) (lv' := [(5, .long (V k)), (7, .int (nI k)), (0, .ref (o 0)), (1, .int f), (2, .int (nI to)), (3, .long x0)]) rfl (fun ls hl => ?_)
      refine lv_goto hx hb (tgt := 125) d_M_made_72 (by decide) ?_
      exact back (V k) ls (by simp [m_op, hc2]) (lv_sub hl [0, 1, 2, 3, 4, 5] rfl)
    by_cases hc3 : K k = 3
    · refine xw_i hc3 ?_
      refine lv_tableIn hx hb (tgt := 75) (off := 56) d_M_made_19 (by decide) (by decide) (by decide) (by decide) ?_
      refine lv_aload_n hx hb d_M_made_75 rfl (lv_at hl 2 rfl) ?_
      refine xM_get2 hC hI d_M_made_76 ?_
      refine lv_iload hx hb d_M_made_79 (lv_at hl 0 rfl) ?_
      refine xM_ld2 hC hI hk d_M_made_81 ?_
      refine lv_lload hx hb d_M_made_82 (lv_at hl 1 rfl) ?_
      refine W.lcmp hx hb d_M_made_84 ?_
      refine lv_if_le hx hb (tgt := 125) d_M_made_85 (by decide) (fun h85 => ?_) (fun h85 => ?_)
      · skip
        exact back y ls (by (try simp only [lg_cmp_eq, lg_cmp_lt, lg_cmp_gt, lg_cmp_ge, lg_cmp_le] at h85); simp [m_op, hc3, h85]) (lv_sub hl [1, 0, 2, 3, 4, 5] rfl)
      · skip
        refine lv_aload_n hx hb d_M_made_88 rfl (lv_at hl 2 rfl) ?_
        refine xM_get2 hC hI d_M_made_89 ?_
        refine lv_iload hx hb d_M_made_92 (lv_at hl 0 rfl) ?_
        refine xM_ld2 hC hI hk d_M_made_94 ?_
        refine lv_lstore hx hb d_M_made_95 hl (by decide) (lv' := [(5, .long (V k)), (7, .int (nI k)), (0, .ref (o 0)), (1, .int f), (2, .int (nI to)), (3, .long x0)]) rfl (fun ls hl => ?_)
        refine lv_goto hx hb (tgt := 125) d_M_made_97 (by decide) ?_
        exact back (V k) ls (by (try simp only [lg_cmp_eq, lg_cmp_lt, lg_cmp_gt, lg_cmp_ge, lg_cmp_le] at h85); simp [m_op, hc3, h85]) (lv_sub hl [0, 1, 2, 3, 4, 5] rfl)
    by_cases hc4 : K k = 4
    · refine xw_i hc4 ?_
      refine lv_tableIn hx hb (tgt := 100) (off := 81) d_M_made_19 (by decide) (by decide) (by decide) (by decide) ?_
      refine lv_aload_n hx hb d_M_made_100 rfl (lv_at hl 2 rfl) ?_
      refine xM_get2 hC hI d_M_made_101 ?_
      refine lv_iload hx hb d_M_made_104 (lv_at hl 0 rfl) ?_
      refine xM_ld2 hC hI hk d_M_made_106 ?_
      refine lv_lload hx hb d_M_made_107 (lv_at hl 1 rfl) ?_
      refine W.lcmp hx hb d_M_made_109 ?_
      refine lv_if_ge hx hb (tgt := 125) d_M_made_110 (by decide) (fun h110 => ?_) (fun h110 => ?_)
      · skip
        exact back y ls (by (try simp only [lg_cmp_eq, lg_cmp_lt, lg_cmp_gt, lg_cmp_ge, lg_cmp_le] at h110); simp [m_op, hc4, h110]) (lv_sub hl [1, 0, 2, 3, 4, 5] rfl)
      · skip
        refine lv_aload_n hx hb d_M_made_113 rfl (lv_at hl 2 rfl) ?_
        refine xM_get2 hC hI d_M_made_114 ?_
        refine lv_iload hx hb d_M_made_117 (lv_at hl 0 rfl) ?_
        refine xM_ld2 hC hI hk d_M_made_119 ?_
        refine lv_lstore hx hb d_M_made_120 hl (by decide) (lv' := [(5, .long (V k)), (7, .int (nI k)), (0, .ref (o 0)), (1, .int f), (2, .int (nI to)), (3, .long x0)]) rfl (fun ls hl => ?_)
        refine lv_goto hx hb (tgt := 125) d_M_made_122 (by decide) ?_
        exact back (V k) ls (by (try simp only [lg_cmp_eq, lg_cmp_lt, lg_cmp_gt, lg_cmp_ge, lg_cmp_le] at h110); simp [m_op, hc4, h110]) (lv_sub hl [0, 1, 2, 3, 4, 5] rfl)
    have n1 := lv_neT hc1 (show (1 : Int32).toInt = 1 from by decide)
    have n2 := lv_neT hc2 (show (2 : Int32).toInt = 2 from by decide)
    have n3 := lv_neT hc3 (show (3 : Int32).toInt = 3 from by decide)
    have n4 := lv_neT hc4 (show (4 : Int32).toInt = 4 from by decide)
    refine lv_tableOut hx hb (tgt := 125) d_M_made_19 (by omega) (by decide) ?_
    exact back y ls (by simp [m_op, hc1, hc2, hc3, hc4]) (lv_sub hl [1, 0, 2, 3, 4, 5] rfl)
set_option maxHeartbeats 4000000 in
set_option maxRecDepth 100000 in
/-- made(from, to, x) -/
theorem c_M_made {l : Launch} {D : va_G} {o : Nat → Nat} {cJ cI : ClassId} {sz : Nat} {K : Nat → Int32} {V : Nat → Int64} {r : Int32} {fr to : Nat} (hft : fr ≤ to) (hto : to ≤ 256) {x : Int64} : Met l y_M_made ws_M_made rm_M_made (va_Pc [.ref (o 0), .int (nI fr), .int (nI to), .long x] (pM D o cJ cI sz r K V)) (va_Ql (fun (r9 : Int64) (_ : Unit) => r9 = (m_made K V (to - fr) fr x)) (fun _ => bM D o cJ cI (aM o sz) r K V) (aM o sz)) 0 0 (aM o sz) := by
  refine xM_met (av := [.int (nI fr), .int (nI to), .long x]) (by decide) rfl (Nat.le_of_ble_eq_true rfl) ?_
  intro p e s m below meth c ls hC hsz hr hlocks hnm hnh had hl hI
  have hA : ∀ q, s.heap.size ≤ q → aM o sz q := fun q h => aM_new (by omega)
  have hx := hC.1.1
  have hb := hC.1.2.1
  have hml := hC.1.2.2.1
  have hown := hC.1.2.2.2.1
  have ht := hC.1.2.2.2.2
  have S := hC.1
  have hl : lv_has ls 8 [(0, .ref (o 0)), (1, .int (nI fr)), (2, .int (nI to)), (3, .long x)] := hl
  refine lv_lload_n hx hb d_M_made_0 rfl (lv_at hl 3 rfl) ?_
  refine lv_lstore hx hb d_M_made_1 hl (by decide) (lv' := [(5, .long x), (0, .ref (o 0)), (1, .int (nI fr)), (2, .int (nI to)), (3, .long x)]) rfl (fun ls hl => ?_)
  refine lv_iload_n hx hb d_M_made_3 rfl (lv_at hl 2 rfl) ?_
  refine lv_istore hx hb d_M_made_4 hl (by decide) (lv' := [(7, .int (nI fr)), (5, .long x), (0, .ref (o 0)), (1, .int (nI fr)), (2, .int (nI to)), (3, .long x)]) rfl (fun ls hl => ?_)
  have hl := lv_sub hl [0, 1, 2, 3, 4, 5] (l' := [(7, .int (nI fr)), (5, .long x), (0, .ref (o 0)), (1, .int (nI fr)), (2, .int (nI to)), (3, .long x)]) rfl
  refine u_M_made hC hI hto (to - fr) fr x ls (by omega) hl (fun ls hl => ?_)
  refine lv_lload hx hb d_M_made_131 (lv_at hl 0 rfl) ?_
  exact xM_lret hC hI hr hlocks d_M_made_133
set_option maxHeartbeats 4000000 in
set_option maxRecDepth 100000 in
/-- ends(from, to, x) -/
theorem c_M_ends {l : Launch} {D : va_G} {o : Nat → Nat} {cJ cI : ClassId} {sz : Nat} {K : Nat → Int32} {V : Nat → Int64} {r : Int32} {fr to : Nat} (hft : fr ≤ to) (hto : to ≤ 256) {x : Int64} : Met l y_M_ends ws_M_ends rm_M_ends (va_Pc [.ref (o 0), .int (nI fr), .int (nI to), .long x] (pM D o cJ cI sz r K V)) (va_Qi (fun (r9 : Int32) (_ : Unit) => r9 = (m_ends K V (to - fr) fr x)) (fun _ => bM D o cJ cI (aM o sz) r K V) (aM o sz)) 0 0 (aM o sz) := by
  refine xM_met (av := [.int (nI fr), .int (nI to), .long x]) (by decide) rfl (Nat.le_of_ble_eq_true rfl) ?_
  intro p e s m below meth c ls hC hsz hr hlocks hnm hnh had hl hI
  have hA : ∀ q, s.heap.size ≤ q → aM o sz q := fun q h => aM_new (by omega)
  have hx := hC.1.1
  have hb := hC.1.2.1
  have hml := hC.1.2.2.1
  have hown := hC.1.2.2.2.1
  have ht := hC.1.2.2.2.2
  have S := hC.1
  have hl : lv_has ls 5 [(0, .ref (o 0)), (1, .int (nI fr)), (2, .int (nI to)), (3, .long x)] := hl
  refine lv_aload_n hx hb d_M_ends_0 rfl (lv_at hl 0 rfl) ?_
  refine lv_iload_n hx hb d_M_ends_1 rfl (lv_at hl 1 rfl) ?_
  refine lv_iload_n hx hb d_M_ends_2 rfl (lv_at hl 2 rfl) ?_
  refine lv_lload_n hx hb d_M_ends_3 rfl (lv_at hl 3 rfl) ?_
  refine xM_calll (As := [.int (nI fr), .int (nI to), .long x]) (rest := []) hC hI hA (c_M_made hft hto) (cwV 3 ht gv_M_53 rfl rfl rfl ⟨rfl, by decide, by decide, by decide +kernel⟩ ⟨by decide, by decide⟩) rfl hl.1 rfl (Nat.le_of_ble_eq_true rfl) d_M_ends_4 ⟨by decide, by decide⟩ (fun H locs hI _ _ => ?_)
  refine lv_aload_n hx hb d_M_ends_7 rfl (lv_at hl 0 rfl) ?_
  refine lv_iload_n hx hb d_M_ends_8 rfl (lv_at hl 1 rfl) ?_
  refine lv_iload_n hx hb d_M_ends_9 rfl (lv_at hl 2 rfl) ?_
  refine lv_ldc2 (v := 2) hx hb hown (ht _ tw_353) d_M_ends_10 ?_
  refine lv_lload_n hx hb d_M_ends_13 rfl (lv_at hl 3 rfl) ?_
  refine lv_lmul hx hb d_M_ends_14 ?_
  refine xM_calll (As := [.int (nI fr), .int (nI to), .long (2 * x)]) (rest := [.long (m_made K V (to - fr) fr x)]) hC hI hA (c_M_made hft hto) (cwV 3 ht gv_M_53 rfl rfl rfl ⟨rfl, by decide, by decide, by decide +kernel⟩ ⟨by decide, by decide⟩) rfl hl.1 rfl (Nat.le_of_ble_eq_true rfl) d_M_ends_15 ⟨by decide, by decide⟩ (fun H locs hI _ _ => ?_)
  refine W.lcmp hx hb d_M_ends_18 ?_
  refine lv_if_ne hx hb (tgt := 26) d_M_ends_19 (by decide) (fun h19 => ?_) (fun h19 => ?_)
  · skip
    refine lv_iconst hx hb (v := 0) d_M_ends_26 (by decide +kernel) ?_
    rw [show (m_ends K V (to - fr) fr x) = 0 from (by (try simp only [lg_cmp_eq, lg_cmp_lt, lg_cmp_gt, lg_cmp_ge, lg_cmp_le] at h19); simp [m_ends, h19])]
    exact xM_zret hC hI hr hlocks narrow_b0 d_M_ends_27
  · skip
    refine lv_iconst hx hb (v := 1) d_M_ends_22 (by decide +kernel) ?_
    refine lv_goto hx hb (tgt := 27) d_M_ends_23 (by decide) ?_
    rw [show (m_ends K V (to - fr) fr x) = 1 from (by (try simp only [lg_cmp_eq, lg_cmp_lt, lg_cmp_gt, lg_cmp_ge, lg_cmp_le] at h19); simp [m_ends, h19])]
    exact xM_zret hC hI hr hlocks narrow_b1 d_M_ends_27
end
section
/-! FoldRowModel: set .. about (printed by gen/gen_M.py) -/
set_option maxHeartbeats 4000000 in
set_option maxRecDepth 100000 in
/-- set: no rule -/
theorem c_M_set1 {l : Launch} {D : va_G} {o : Nat → Nat} {cJ cI : ClassId} {sz : Nat} {K : Nat → Int32} {V : Nat → Int64} {r : Int32} {k s0 : Int32} {v : Int64} (h1 : m_isRule s0 v = 0) : Met l y_M_set ws_M_set rm_M_set (va_Pc [.ref (o 0), .int k, .int s0, .long v] (pM D o cJ cI sz r K V)) (va_Qv (fun _ : Unit => True) (fun _ => bM D o cJ cI (aM o sz) 1 K V) (aM o sz)) 0 0 (aM o sz) := by
  refine xM_met (av := [.int k, .int s0, .long v]) (by decide) rfl (Nat.le_of_ble_eq_true rfl) ?_
  intro p e s m below meth c ls hC hsz hr hlocks hnm hnh had hl hI
  have hA : ∀ q, s.heap.size ≤ q → aM o sz q := fun q h => aM_new (by omega)
  have hx := hC.1.1
  have hb := hC.1.2.1
  have hml := hC.1.2.2.1
  have hown := hC.1.2.2.2.1
  have ht := hC.1.2.2.2.2
  have S := hC.1
  have hl : lv_has ls 5 [(0, .ref (o 0)), (1, .int k), (2, .int s0), (3, .long v)] := hl
  refine lv_aload_n hx hb d_M_set_0 rfl (lv_at hl 0 rfl) ?_
  refine lv_iconst hx hb (v := 0) d_M_set_1 (by decide +kernel) ?_
  refine xM_put0 hC hI d_M_set_2 (fun H locs hI => ?_)
  refine lv_aload_n hx hb d_M_set_5 rfl (lv_at hl 0 rfl) ?_
  refine lv_iload_n hx hb d_M_set_6 rfl (lv_at hl 2 rfl) ?_
  refine lv_lload_n hx hb d_M_set_7 rfl (lv_at hl 3 rfl) ?_
  refine xS_calli (As := [.int s0, .long v]) (rest := [.ref (o 0)]) S c_M_isRule (cwS 2 ht gs_M_35 rfl rfl rfl ⟨rfl, by decide, by decide, by decide +kernel⟩ ⟨by decide, by decide⟩) rfl hl.1 rfl (Nat.le_of_ble_eq_true rfl) d_M_set_8 ⟨by decide, by decide⟩ ?_
  refine xw_i (y := 0) (h1) ?_
  refine lv_if_ne hx hb (tgt := 18) d_M_set_11 (by decide) (fun h11 => absurd (by decide) h11) (fun h11 => ?_)
  refine lv_iconst hx hb (v := 1) d_M_set_14 (by decide +kernel) ?_
  refine lv_goto hx hb (tgt := 19) d_M_set_15 (by decide) ?_
  refine lv_iconst hx hb (v := 1) d_M_set_19 (by decide +kernel) ?_
  refine xM_calli (As := [.int 1, .int 1]) (rest := []) hC hI hA (c_M_fails1 (by decide)) (cwV 2 ht gv_M_39 rfl rfl rfl ⟨rfl, by decide, by decide, by decide +kernel⟩ ⟨by decide, by decide⟩) rfl hl.1 rfl (Nat.le_of_ble_eq_true rfl) d_M_set_20 ⟨by decide, by decide⟩ (fun H locs hI _ _ => ?_)
  refine lv_if_ne hx hb (tgt := 51) d_M_set_23 (by decide) (fun h23 => ?_) (fun h23 => absurd h23 (by decide))
  exact xM_vret hC hI hr hlocks d_M_set_51
set_option maxHeartbeats 4000000 in
set_option maxRecDepth 100000 in
/-- set: no place -/
theorem c_M_set2 {l : Launch} {D : va_G} {o : Nat → Nat} {cJ cI : ClassId} {sz : Nat} {K : Nat → Int32} {V : Nat → Int64} {r : Int32} {k s0 : Int32} {v : Int64} (h1 : m_isRule s0 v = 1) (h2 : m_in (k).toInt64 0 255 = 0) : Met l y_M_set ws_M_set rm_M_set (va_Pc [.ref (o 0), .int k, .int s0, .long v] (pM D o cJ cI sz r K V)) (va_Qv (fun _ : Unit => True) (fun _ => bM D o cJ cI (aM o sz) 2 K V) (aM o sz)) 0 0 (aM o sz) := by
  refine xM_met (av := [.int k, .int s0, .long v]) (by decide) rfl (Nat.le_of_ble_eq_true rfl) ?_
  intro p e s m below meth c ls hC hsz hr hlocks hnm hnh had hl hI
  have hA : ∀ q, s.heap.size ≤ q → aM o sz q := fun q h => aM_new (by omega)
  have hx := hC.1.1
  have hb := hC.1.2.1
  have hml := hC.1.2.2.1
  have hown := hC.1.2.2.2.1
  have ht := hC.1.2.2.2.2
  have S := hC.1
  have hl : lv_has ls 5 [(0, .ref (o 0)), (1, .int k), (2, .int s0), (3, .long v)] := hl
  refine lv_aload_n hx hb d_M_set_0 rfl (lv_at hl 0 rfl) ?_
  refine lv_iconst hx hb (v := 0) d_M_set_1 (by decide +kernel) ?_
  refine xM_put0 hC hI d_M_set_2 (fun H locs hI => ?_)
  refine lv_aload_n hx hb d_M_set_5 rfl (lv_at hl 0 rfl) ?_
  refine lv_iload_n hx hb d_M_set_6 rfl (lv_at hl 2 rfl) ?_
  refine lv_lload_n hx hb d_M_set_7 rfl (lv_at hl 3 rfl) ?_
  refine xS_calli (As := [.int s0, .long v]) (rest := [.ref (o 0)]) S c_M_isRule (cwS 2 ht gs_M_35 rfl rfl rfl ⟨rfl, by decide, by decide, by decide +kernel⟩ ⟨by decide, by decide⟩) rfl hl.1 rfl (Nat.le_of_ble_eq_true rfl) d_M_set_8 ⟨by decide, by decide⟩ ?_
  refine xw_i (y := 1) (h1) ?_
  refine lv_if_ne hx hb (tgt := 18) d_M_set_11 (by decide) (fun h11 => ?_) (fun h11 => absurd h11 (by decide))
  refine lv_iconst hx hb (v := 0) d_M_set_18 (by decide +kernel) ?_
  refine lv_iconst hx hb (v := 1) d_M_set_19 (by decide +kernel) ?_
  refine xM_calli (As := [.int 0, .int 1]) (rest := []) hC hI hA c_M_fails0 (cwV 2 ht gv_M_39 rfl rfl rfl ⟨rfl, by decide, by decide, by decide +kernel⟩ ⟨by decide, by decide⟩) rfl hl.1 rfl (Nat.le_of_ble_eq_true rfl) d_M_set_20 ⟨by decide, by decide⟩ (fun H locs hI _ _ => ?_)
  refine lv_if_ne hx hb (tgt := 51) d_M_set_23 (by decide) (fun h23 => absurd (by decide) h23) (fun h23 => ?_)
  refine lv_aload_n hx hb d_M_set_26 rfl (lv_at hl 0 rfl) ?_
  refine lv_iload_n hx hb d_M_set_27 rfl (lv_at hl 1 rfl) ?_
  refine lv_i2l hx hb (v := (k).toInt64) d_M_set_28 rfl ?_
  refine lv_lconst hx hb (v := 0) d_M_set_29 (by decide +kernel) ?_
  refine lv_ldc2 (v := 255) hx hb hown (ht _ tw_314) d_M_set_30 ?_
  refine xS_calli (As := [.long (k).toInt64, .long 0, .long 255]) (rest := [.ref (o 0)]) S c_M_in (cwS 3 ht gs_M_23 rfl rfl rfl ⟨rfl, by decide, by decide, by decide +kernel⟩ ⟨by decide, by decide⟩) rfl hl.1 rfl (Nat.le_of_ble_eq_true rfl) d_M_set_33 ⟨by decide, by decide⟩ ?_
  refine xw_i (y := 0) (h2) ?_
  refine lv_if_ne hx hb (tgt := 43) d_M_set_36 (by decide) (fun h36 => absurd (by decide) h36) (fun h36 => ?_)
  refine lv_iconst hx hb (v := 1) d_M_set_39 (by decide +kernel) ?_
  refine lv_goto hx hb (tgt := 44) d_M_set_40 (by decide) ?_
  refine lv_iconst hx hb (v := 2) d_M_set_44 (by decide +kernel) ?_
  refine xM_calli (As := [.int 1, .int 2]) (rest := []) hC hI hA (c_M_fails1 (by decide)) (cwV 2 ht gv_M_39 rfl rfl rfl ⟨rfl, by decide, by decide, by decide +kernel⟩ ⟨by decide, by decide⟩) rfl hl.1 rfl (Nat.le_of_ble_eq_true rfl) d_M_set_45 ⟨by decide, by decide⟩ (fun H locs hI _ _ => ?_)
  refine lv_if_eq hx hb (tgt := 52) d_M_set_48 (by decide) (fun h48 => absurd h48 (by decide)) (fun h48 => ?_)
  exact xM_vret hC hI hr hlocks d_M_set_51
set_option maxHeartbeats 4000000 in
set_option maxRecDepth 100000 in
/-- set -/
theorem c_M_set3 {l : Launch} {D : va_G} {o : Nat → Nat} {cJ cI : ClassId} {sz : Nat} {K : Nat → Int32} {V : Nat → Int64} {r : Int32} {j : Nat} {s0 : Int32} {v : Int64} (hj : j < 256) (h1 : m_isRule s0 v = 1) : Met l y_M_set ws_M_set rm_M_set (va_Pc [.ref (o 0), .int (nI j), .int s0, .long v] (pM D o cJ cI sz r K V)) (va_Qv (fun _ : Unit => True) (fun _ => bM D o cJ cI (aM o sz) 0 (upd K j s0) (vp_updL V j v)) (aM o sz)) 0 0 (aM o sz) := by
  refine xM_met (av := [.int (nI j), .int s0, .long v]) (by decide) rfl (Nat.le_of_ble_eq_true rfl) ?_
  intro p e s m below meth c ls hC hsz hr hlocks hnm hnh had hl hI
  have hA : ∀ q, s.heap.size ≤ q → aM o sz q := fun q h => aM_new (by omega)
  have hx := hC.1.1
  have hb := hC.1.2.1
  have hml := hC.1.2.2.1
  have hown := hC.1.2.2.2.1
  have ht := hC.1.2.2.2.2
  have S := hC.1
  have hl : lv_has ls 5 [(0, .ref (o 0)), (1, .int (nI j)), (2, .int s0), (3, .long v)] := hl
  refine lv_aload_n hx hb d_M_set_0 rfl (lv_at hl 0 rfl) ?_
  refine lv_iconst hx hb (v := 0) d_M_set_1 (by decide +kernel) ?_
  refine xM_put0 hC hI d_M_set_2 (fun H locs hI => ?_)
  refine lv_aload_n hx hb d_M_set_5 rfl (lv_at hl 0 rfl) ?_
  refine lv_iload_n hx hb d_M_set_6 rfl (lv_at hl 2 rfl) ?_
  refine lv_lload_n hx hb d_M_set_7 rfl (lv_at hl 3 rfl) ?_
  refine xS_calli (As := [.int s0, .long v]) (rest := [.ref (o 0)]) S c_M_isRule (cwS 2 ht gs_M_35 rfl rfl rfl ⟨rfl, by decide, by decide, by decide +kernel⟩ ⟨by decide, by decide⟩) rfl hl.1 rfl (Nat.le_of_ble_eq_true rfl) d_M_set_8 ⟨by decide, by decide⟩ ?_
  refine xw_i (y := 1) (h1) ?_
  refine lv_if_ne hx hb (tgt := 18) d_M_set_11 (by decide) (fun h11 => ?_) (fun h11 => absurd h11 (by decide))
  refine lv_iconst hx hb (v := 0) d_M_set_18 (by decide +kernel) ?_
  refine lv_iconst hx hb (v := 1) d_M_set_19 (by decide +kernel) ?_
  refine xM_calli (As := [.int 0, .int 1]) (rest := []) hC hI hA c_M_fails0 (cwV 2 ht gv_M_39 rfl rfl rfl ⟨rfl, by decide, by decide, by decide +kernel⟩ ⟨by decide, by decide⟩) rfl hl.1 rfl (Nat.le_of_ble_eq_true rfl) d_M_set_20 ⟨by decide, by decide⟩ (fun H locs hI _ _ => ?_)
  refine lv_if_ne hx hb (tgt := 51) d_M_set_23 (by decide) (fun h23 => absurd (by decide) h23) (fun h23 => ?_)
  refine lv_aload_n hx hb d_M_set_26 rfl (lv_at hl 0 rfl) ?_
  refine lv_iload_n hx hb d_M_set_27 rfl (lv_at hl 1 rfl) ?_
  refine lv_i2l hx hb (v := ((nI j)).toInt64) d_M_set_28 rfl ?_
  refine lv_lconst hx hb (v := 0) d_M_set_29 (by decide +kernel) ?_
  refine lv_ldc2 (v := 255) hx hb hown (ht _ tw_314) d_M_set_30 ?_
  refine xS_calli (As := [.long ((nI j)).toInt64, .long 0, .long 255]) (rest := [.ref (o 0)]) S c_M_in (cwS 3 ht gs_M_23 rfl rfl rfl ⟨rfl, by decide, by decide, by decide +kernel⟩ ⟨by decide, by decide⟩) rfl hl.1 rfl (Nat.le_of_ble_eq_true rfl) d_M_set_33 ⟨by decide, by decide⟩ ?_
  refine xw_i (y := 1) (m_in_ok hj) ?_
  refine lv_if_ne hx hb (tgt := 43) d_M_set_36 (by decide) (fun h36 => ?_) (fun h36 => absurd h36 (by decide))
  refine lv_iconst hx hb (v := 0) d_M_set_43 (by decide +kernel) ?_
  refine lv_iconst hx hb (v := 2) d_M_set_44 (by decide +kernel) ?_
  refine xM_calli (As := [.int 0, .int 2]) (rest := []) hC hI hA c_M_fails0 (cwV 2 ht gv_M_39 rfl rfl rfl ⟨rfl, by decide, by decide, by decide +kernel⟩ ⟨by decide, by decide⟩) rfl hl.1 rfl (Nat.le_of_ble_eq_true rfl) d_M_set_45 ⟨by decide, by decide⟩ (fun H locs hI _ _ => ?_)
  refine lv_if_eq hx hb (tgt := 52) d_M_set_48 (by decide) (fun h48 => ?_) (fun h48 => absurd (by decide) h48)
  refine lv_aload_n hx hb d_M_set_52 rfl (lv_at hl 0 rfl) ?_
  refine xM_get1 hC hI d_M_set_53 ?_
  refine lv_iload_n hx hb d_M_set_56 rfl (lv_at hl 1 rfl) ?_
  refine lv_iload_n hx hb d_M_set_57 rfl (lv_at hl 2 rfl) ?_
  refine xM_st1 hC hI hj d_M_set_58 (fun H locs hI => ?_)
  refine lv_aload_n hx hb d_M_set_59 rfl (lv_at hl 0 rfl) ?_
  refine xM_get2 hC hI d_M_set_60 ?_
  refine lv_iload_n hx hb d_M_set_63 rfl (lv_at hl 1 rfl) ?_
  refine lv_lload_n hx hb d_M_set_64 rfl (lv_at hl 3 rfl) ?_
  refine xM_st2 hC hI hj d_M_set_65 (fun H locs hI => ?_)
  exact xM_vret hC hI hr hlocks d_M_set_66
set_option maxHeartbeats 4000000 in
set_option maxRecDepth 100000 in
/-- fill: no rule -/
theorem c_M_fill1 {l : Launch} {D : va_G} {o : Nat → Nat} {cJ cI : ClassId} {sz : Nat} {K : Nat → Int32} {V : Nat → Int64} {r : Int32} {f t0 s0 : Int32} {v : Int64} (h1 : m_isRule s0 v = 0) : Met l y_M_fill ws_M_fill rm_M_fill (va_Pc [.ref (o 0), .int f, .int t0, .int s0, .long v] (pM D o cJ cI sz r K V)) (va_Qv (fun _ : Unit => True) (fun _ => bM D o cJ cI (aM o sz) 1 K V) (aM o sz)) 0 0 (aM o sz) := by
  refine xM_met (av := [.int f, .int t0, .int s0, .long v]) (by decide) rfl (Nat.le_of_ble_eq_true rfl) ?_
  intro p e s m below meth c ls hC hsz hr hlocks hnm hnh had hl hI
  have hA : ∀ q, s.heap.size ≤ q → aM o sz q := fun q h => aM_new (by omega)
  have hx := hC.1.1
  have hb := hC.1.2.1
  have hml := hC.1.2.2.1
  have hown := hC.1.2.2.2.1
  have ht := hC.1.2.2.2.2
  have S := hC.1
  have hl : lv_has ls 7 [(0, .ref (o 0)), (1, .int f), (2, .int t0), (3, .int s0), (4, .long v)] := hl
  refine lv_aload_n hx hb d_M_fill_0 rfl (lv_at hl 0 rfl) ?_
  refine lv_iconst hx hb (v := 0) d_M_fill_1 (by decide +kernel) ?_
  refine xM_put0 hC hI d_M_fill_2 (fun H locs hI => ?_)
  refine lv_aload_n hx hb d_M_fill_5 rfl (lv_at hl 0 rfl) ?_
  refine lv_iload_n hx hb d_M_fill_6 rfl (lv_at hl 3 rfl) ?_
  refine lv_lload hx hb d_M_fill_7 (lv_at hl 4 rfl) ?_
  refine xS_calli (As := [.int s0, .long v]) (rest := [.ref (o 0)]) S c_M_isRule (cwS 2 ht gs_M_35 rfl rfl rfl ⟨rfl, by decide, by decide, by decide +kernel⟩ ⟨by decide, by decide⟩) rfl hl.1 rfl (Nat.le_of_ble_eq_true rfl) d_M_fill_9 ⟨by decide, by decide⟩ ?_
  refine xw_i (y := 0) (h1) ?_
  refine lv_if_ne hx hb (tgt := 19) d_M_fill_12 (by decide) (fun h12 => absurd (by decide) h12) (fun h12 => ?_)
  refine lv_iconst hx hb (v := 1) d_M_fill_15 (by decide +kernel) ?_
  refine lv_goto hx hb (tgt := 20) d_M_fill_16 (by decide) ?_
  refine lv_iconst hx hb (v := 1) d_M_fill_20 (by decide +kernel) ?_
  refine xM_calli (As := [.int 1, .int 1]) (rest := []) hC hI hA (c_M_fails1 (by decide)) (cwV 2 ht gv_M_39 rfl rfl rfl ⟨rfl, by decide, by decide, by decide +kernel⟩ ⟨by decide, by decide⟩) rfl hl.1 rfl (Nat.le_of_ble_eq_true rfl) d_M_fill_21 ⟨by decide, by decide⟩ (fun H locs hI _ _ => ?_)
  refine lv_if_ne hx hb (tgt := 48) d_M_fill_24 (by decide) (fun h24 => ?_) (fun h24 => absurd h24 (by decide))
  exact xM_vret hC hI hr hlocks d_M_fill_48
set_option maxHeartbeats 4000000 in
set_option maxRecDepth 100000 in
/-- fill: no part -/
theorem c_M_fill2 {l : Launch} {D : va_G} {o : Nat → Nat} {cJ cI : ClassId} {sz : Nat} {K : Nat → Int32} {V : Nat → Int64} {r : Int32} {f t0 s0 : Int32} {v : Int64} (h1 : m_isRule s0 v = 1) (h2 : m_isPart f t0 = 0) : Met l y_M_fill ws_M_fill rm_M_fill (va_Pc [.ref (o 0), .int f, .int t0, .int s0, .long v] (pM D o cJ cI sz r K V)) (va_Qv (fun _ : Unit => True) (fun _ => bM D o cJ cI (aM o sz) 2 K V) (aM o sz)) 0 0 (aM o sz) := by
  refine xM_met (av := [.int f, .int t0, .int s0, .long v]) (by decide) rfl (Nat.le_of_ble_eq_true rfl) ?_
  intro p e s m below meth c ls hC hsz hr hlocks hnm hnh had hl hI
  have hA : ∀ q, s.heap.size ≤ q → aM o sz q := fun q h => aM_new (by omega)
  have hx := hC.1.1
  have hb := hC.1.2.1
  have hml := hC.1.2.2.1
  have hown := hC.1.2.2.2.1
  have ht := hC.1.2.2.2.2
  have S := hC.1
  have hl : lv_has ls 7 [(0, .ref (o 0)), (1, .int f), (2, .int t0), (3, .int s0), (4, .long v)] := hl
  refine lv_aload_n hx hb d_M_fill_0 rfl (lv_at hl 0 rfl) ?_
  refine lv_iconst hx hb (v := 0) d_M_fill_1 (by decide +kernel) ?_
  refine xM_put0 hC hI d_M_fill_2 (fun H locs hI => ?_)
  refine lv_aload_n hx hb d_M_fill_5 rfl (lv_at hl 0 rfl) ?_
  refine lv_iload_n hx hb d_M_fill_6 rfl (lv_at hl 3 rfl) ?_
  refine lv_lload hx hb d_M_fill_7 (lv_at hl 4 rfl) ?_
  refine xS_calli (As := [.int s0, .long v]) (rest := [.ref (o 0)]) S c_M_isRule (cwS 2 ht gs_M_35 rfl rfl rfl ⟨rfl, by decide, by decide, by decide +kernel⟩ ⟨by decide, by decide⟩) rfl hl.1 rfl (Nat.le_of_ble_eq_true rfl) d_M_fill_9 ⟨by decide, by decide⟩ ?_
  refine xw_i (y := 1) (h1) ?_
  refine lv_if_ne hx hb (tgt := 19) d_M_fill_12 (by decide) (fun h12 => ?_) (fun h12 => absurd h12 (by decide))
  refine lv_iconst hx hb (v := 0) d_M_fill_19 (by decide +kernel) ?_
  refine lv_iconst hx hb (v := 1) d_M_fill_20 (by decide +kernel) ?_
  refine xM_calli (As := [.int 0, .int 1]) (rest := []) hC hI hA c_M_fails0 (cwV 2 ht gv_M_39 rfl rfl rfl ⟨rfl, by decide, by decide, by decide +kernel⟩ ⟨by decide, by decide⟩) rfl hl.1 rfl (Nat.le_of_ble_eq_true rfl) d_M_fill_21 ⟨by decide, by decide⟩ (fun H locs hI _ _ => ?_)
  refine lv_if_ne hx hb (tgt := 48) d_M_fill_24 (by decide) (fun h24 => absurd (by decide) h24) (fun h24 => ?_)
  refine lv_aload_n hx hb d_M_fill_27 rfl (lv_at hl 0 rfl) ?_
  refine lv_iload_n hx hb d_M_fill_28 rfl (lv_at hl 1 rfl) ?_
  refine lv_iload_n hx hb d_M_fill_29 rfl (lv_at hl 2 rfl) ?_
  refine xS_calli (As := [.int f, .int t0]) (rest := [.ref (o 0)]) S c_M_isPart (cwS 2 ht gs_M_45 rfl rfl rfl ⟨rfl, by decide, by decide, by decide +kernel⟩ ⟨by decide, by decide⟩) rfl hl.1 rfl (Nat.le_of_ble_eq_true rfl) d_M_fill_30 ⟨by decide, by decide⟩ ?_
  refine xw_i (y := 0) (h2) ?_
  refine lv_if_ne hx hb (tgt := 40) d_M_fill_33 (by decide) (fun h33 => absurd (by decide) h33) (fun h33 => ?_)
  refine lv_iconst hx hb (v := 1) d_M_fill_36 (by decide +kernel) ?_
  refine lv_goto hx hb (tgt := 41) d_M_fill_37 (by decide) ?_
  refine lv_iconst hx hb (v := 2) d_M_fill_41 (by decide +kernel) ?_
  refine xM_calli (As := [.int 1, .int 2]) (rest := []) hC hI hA (c_M_fails1 (by decide)) (cwV 2 ht gv_M_39 rfl rfl rfl ⟨rfl, by decide, by decide, by decide +kernel⟩ ⟨by decide, by decide⟩) rfl hl.1 rfl (Nat.le_of_ble_eq_true rfl) d_M_fill_42 ⟨by decide, by decide⟩ (fun H locs hI _ _ => ?_)
  refine lv_if_eq hx hb (tgt := 49) d_M_fill_45 (by decide) (fun h45 => absurd h45 (by decide)) (fun h45 => ?_)
  exact xM_vret hC hI hr hlocks d_M_fill_48
set_option maxHeartbeats 4000000 in
set_option maxRecDepth 100000 in
theorem u_M_fill {l : Launch} {D : va_G} {o : Nat → Nat} {cJ cI : ClassId} {K : Nat → Int32} {V : Nat → Int64} {p : Program} {e : Env} {s : State} {m : MethodId} {args : Array Value} {below : List Frame} {meth : Method} {c : Code} {Q : State → Prop} {A : Nat → Prop} {H0 : Heap} {fr to : Nat} {s0 : Int32} {v : Int64} (hC : CX p m c b_M_fill 7 s args R_M D cJ cI) (hto : to ≤ 256) (hft : fr ≤ to) :
    ∀ (n d : Nat) (H : Heap) (locs : List Loc) (ls : Array Slot), fr + d + n = to → lv_has ls 7 [(6, .int (nI (fr + d))), (0, .ref (o 0)), (1, .int (nI fr)), (2, .int (nI to)), (3, .int s0), (4, .long v)] → iM D o cJ cI A H0 H locs 0 (m_fillK K fr s0 d) (m_fillV V fr v d) → (∀ (H1 : Heap) (locs1 : List Loc) (ls1 : Array Slot), iM D o cJ cI A H0 H1 locs1 0 (m_fillK K fr s0 (to - fr)) (m_fillV V fr v (to - fr)) → W p l e rm_M_fill s m args below meth c H1 locs1 0 0 Q (F0 m 81 ls1 [])) → W p l e rm_M_fill s m args below meth c H locs 0 0 Q (F0 m 52 ls []) := by
  have hx := hC.1.1
  have hb := hC.1.2.1
  intro n
  induction n with
  | zero =>
    intro d H locs ls hd hl hI kk
    have hd2 : d = to - fr := by omega
    refine lv_iload hx hb d_M_fill_52 (lv_at hl 0 rfl) ?_
    refine lv_iload_n hx hb d_M_fill_54 rfl (lv_at hl 3 rfl) ?_
    refine lv_icmp_ge hx hb (tgt := 81) d_M_fill_55 (by decide) (fun h55 => ?_) (fun h55 => absurd ((nI_leI (by omega) (by omega)).mpr (by omega)) h55)
    subst hd2
    exact kk H locs ls hI
  | succ n ih =>
    intro d H locs ls hd hl hI kk
    have hj : fr + d < 256 := by omega
    refine lv_iload hx hb d_M_fill_52 (lv_at hl 0 rfl) ?_
    refine lv_iload_n hx hb d_M_fill_54 rfl (lv_at hl 3 rfl) ?_
    refine lv_icmp_ge hx hb (tgt := 81) d_M_fill_55 (by decide) (fun h55 => absurd ((nI_leI (by omega) (by omega)).mp h55) (by omega)) (fun h55 => ?_)
    refine lv_aload_n hx hb d_M_fill_58 rfl (lv_at hl 1 rfl) ?_
    refine xM_get1 hC hI d_M_fill_59 ?_
    refine lv_iload hx hb d_M_fill_62 (lv_at hl 0 rfl) ?_
    refine lv_iload_n hx hb d_M_fill_64 rfl (lv_at hl 4 rfl) ?_
    refine xM_st1 hC hI hj d_M_fill_65 (fun H locs hI => ?_)
    refine lv_aload_n hx hb d_M_fill_66 rfl (lv_at hl 1 rfl) ?_
    refine xM_get2 hC hI d_M_fill_67 ?_
    refine lv_iload hx hb d_M_fill_70 (lv_at hl 0 rfl) ?_
    refine lv_lload hx hb d_M_fill_72 (lv_at hl 5 rfl) ?_
    refine xM_st2 hC hI hj d_M_fill_74 (fun H locs hI => ?_)
    refine lv_iinc (k := 0) hx hb d_M_fill_75 hl rfl (xi_inc (fr + d)) (by decide) (lv' := [(6, .int (nI (fr + (d + 1)))), (0, .ref (o 0)), (1, .int (nI fr)), (2, .int (nI to)), (3, .int s0), (4, .long v)]) rfl (fun ls hl => ?_)
    refine lv_goto hx hb (tgt := 52) d_M_fill_78 (by decide) ?_
    exact ih (d + 1) H locs ls (by omega) hl hI kk
set_option maxHeartbeats 4000000 in
set_option maxRecDepth 100000 in
/-- fill -/
theorem c_M_fill3 {l : Launch} {D : va_G} {o : Nat → Nat} {cJ cI : ClassId} {sz : Nat} {K : Nat → Int32} {V : Nat → Int64} {r : Int32} {fr to : Nat} (hft : fr ≤ to) (hto : to ≤ 256) {s0 : Int32} {v : Int64} (h1 : m_isRule s0 v = 1) : Met l y_M_fill ws_M_fill rm_M_fill (va_Pc [.ref (o 0), .int (nI fr), .int (nI to), .int s0, .long v] (pM D o cJ cI sz r K V)) (va_Qv (fun _ : Unit => True) (fun _ => bM D o cJ cI (aM o sz) 0 (m_fillK K fr s0 (to - fr)) (m_fillV V fr v (to - fr))) (aM o sz)) 0 0 (aM o sz) := by
  refine xM_met (av := [.int (nI fr), .int (nI to), .int s0, .long v]) (by decide) rfl (Nat.le_of_ble_eq_true rfl) ?_
  intro p e s m below meth c ls hC hsz hr hlocks hnm hnh had hl hI
  have hA : ∀ q, s.heap.size ≤ q → aM o sz q := fun q h => aM_new (by omega)
  have hx := hC.1.1
  have hb := hC.1.2.1
  have hml := hC.1.2.2.1
  have hown := hC.1.2.2.2.1
  have ht := hC.1.2.2.2.2
  have S := hC.1
  have hl : lv_has ls 7 [(0, .ref (o 0)), (1, .int (nI fr)), (2, .int (nI to)), (3, .int s0), (4, .long v)] := hl
  refine lv_aload_n hx hb d_M_fill_0 rfl (lv_at hl 0 rfl) ?_
  refine lv_iconst hx hb (v := 0) d_M_fill_1 (by decide +kernel) ?_
  refine xM_put0 hC hI d_M_fill_2 (fun H locs hI => ?_)
  refine lv_aload_n hx hb d_M_fill_5 rfl (lv_at hl 0 rfl) ?_
  refine lv_iload_n hx hb d_M_fill_6 rfl (lv_at hl 3 rfl) ?_
  refine lv_lload hx hb d_M_fill_7 (lv_at hl 4 rfl) ?_
  refine xS_calli (As := [.int s0, .long v]) (rest := [.ref (o 0)]) S c_M_isRule (cwS 2 ht gs_M_35 rfl rfl rfl ⟨rfl, by decide, by decide, by decide +kernel⟩ ⟨by decide, by decide⟩) rfl hl.1 rfl (Nat.le_of_ble_eq_true rfl) d_M_fill_9 ⟨by decide, by decide⟩ ?_
  refine xw_i (y := 1) (h1) ?_
  refine lv_if_ne hx hb (tgt := 19) d_M_fill_12 (by decide) (fun h12 => ?_) (fun h12 => absurd h12 (by decide))
  refine lv_iconst hx hb (v := 0) d_M_fill_19 (by decide +kernel) ?_
  refine lv_iconst hx hb (v := 1) d_M_fill_20 (by decide +kernel) ?_
  refine xM_calli (As := [.int 0, .int 1]) (rest := []) hC hI hA c_M_fails0 (cwV 2 ht gv_M_39 rfl rfl rfl ⟨rfl, by decide, by decide, by decide +kernel⟩ ⟨by decide, by decide⟩) rfl hl.1 rfl (Nat.le_of_ble_eq_true rfl) d_M_fill_21 ⟨by decide, by decide⟩ (fun H locs hI _ _ => ?_)
  refine lv_if_ne hx hb (tgt := 48) d_M_fill_24 (by decide) (fun h24 => absurd (by decide) h24) (fun h24 => ?_)
  refine lv_aload_n hx hb d_M_fill_27 rfl (lv_at hl 0 rfl) ?_
  refine lv_iload_n hx hb d_M_fill_28 rfl (lv_at hl 1 rfl) ?_
  refine lv_iload_n hx hb d_M_fill_29 rfl (lv_at hl 2 rfl) ?_
  refine xS_calli (As := [.int (nI fr), .int (nI to)]) (rest := [.ref (o 0)]) S c_M_isPart (cwS 2 ht gs_M_45 rfl rfl rfl ⟨rfl, by decide, by decide, by decide +kernel⟩ ⟨by decide, by decide⟩) rfl hl.1 rfl (Nat.le_of_ble_eq_true rfl) d_M_fill_30 ⟨by decide, by decide⟩ ?_
  refine xw_i (y := 1) (m_pt_ok hft hto) ?_
  refine lv_if_ne hx hb (tgt := 40) d_M_fill_33 (by decide) (fun h33 => ?_) (fun h33 => absurd h33 (by decide))
  refine lv_iconst hx hb (v := 0) d_M_fill_40 (by decide +kernel) ?_
  refine lv_iconst hx hb (v := 2) d_M_fill_41 (by decide +kernel) ?_
  refine xM_calli (As := [.int 0, .int 2]) (rest := []) hC hI hA c_M_fails0 (cwV 2 ht gv_M_39 rfl rfl rfl ⟨rfl, by decide, by decide, by decide +kernel⟩ ⟨by decide, by decide⟩) rfl hl.1 rfl (Nat.le_of_ble_eq_true rfl) d_M_fill_42 ⟨by decide, by decide⟩ (fun H locs hI _ _ => ?_)
  refine lv_if_eq hx hb (tgt := 49) d_M_fill_45 (by decide) (fun h45 => ?_) (fun h45 => absurd (by decide) h45)
  refine lv_iload_n hx hb d_M_fill_49 rfl (lv_at hl 1 rfl) ?_
  refine lv_istore hx hb d_M_fill_50 hl (by decide) (lv' := [(6, .int (nI fr)), (0, .ref (o 0)), (1, .int (nI fr)), (2, .int (nI to)), (3, .int s0), (4, .long v)]) rfl (fun ls hl => ?_)
  exact u_M_fill hC hto hft (to - fr) 0 _ _ ls (by omega) hl hI (fun H locs ls hI => xM_vret hC hI hr hlocks d_M_fill_81)
set_option maxHeartbeats 4000000 in
set_option maxRecDepth 100000 in
/-- swap: no first place -/
theorem c_M_swap1 {l : Launch} {D : va_G} {o : Nat → Nat} {cJ cI : ClassId} {sz : Nat} {K : Nat → Int32} {V : Nat → Int64} {r : Int32} {j k : Int32} (h1 : m_in (j).toInt64 0 255 = 0) : Met l y_M_swap ws_M_swap rm_M_swap (va_Pc [.ref (o 0), .int j, .int k] (pM D o cJ cI sz r K V)) (va_Qv (fun _ : Unit => True) (fun _ => bM D o cJ cI (aM o sz) 1 K V) (aM o sz)) 0 0 (aM o sz) := by
  refine xM_met (av := [.int j, .int k]) (by decide) rfl (Nat.le_of_ble_eq_true rfl) ?_
  intro p e s m below meth c ls hC hsz hr hlocks hnm hnh had hl hI
  have hA : ∀ q, s.heap.size ≤ q → aM o sz q := fun q h => aM_new (by omega)
  have hx := hC.1.1
  have hb := hC.1.2.1
  have hml := hC.1.2.2.1
  have hown := hC.1.2.2.2.1
  have ht := hC.1.2.2.2.2
  have S := hC.1
  have hl : lv_has ls 6 [(0, .ref (o 0)), (1, .int j), (2, .int k)] := hl
  refine lv_aload_n hx hb d_M_swap_0 rfl (lv_at hl 0 rfl) ?_
  refine lv_iconst hx hb (v := 0) d_M_swap_1 (by decide +kernel) ?_
  refine xM_put0 hC hI d_M_swap_2 (fun H locs hI => ?_)
  refine lv_aload_n hx hb d_M_swap_5 rfl (lv_at hl 0 rfl) ?_
  refine lv_iload_n hx hb d_M_swap_6 rfl (lv_at hl 1 rfl) ?_
  refine lv_i2l hx hb (v := (j).toInt64) d_M_swap_7 rfl ?_
  refine lv_lconst hx hb (v := 0) d_M_swap_8 (by decide +kernel) ?_
  refine lv_ldc2 (v := 255) hx hb hown (ht _ tw_314) d_M_swap_9 ?_
  refine xS_calli (As := [.long (j).toInt64, .long 0, .long 255]) (rest := [.ref (o 0)]) S c_M_in (cwS 3 ht gs_M_23 rfl rfl rfl ⟨rfl, by decide, by decide, by decide +kernel⟩ ⟨by decide, by decide⟩) rfl hl.1 rfl (Nat.le_of_ble_eq_true rfl) d_M_swap_12 ⟨by decide, by decide⟩ ?_
  refine xw_i (y := 0) (h1) ?_
  refine lv_if_eq hx hb (tgt := 30) d_M_swap_15 (by decide) (fun h15 => ?_) (fun h15 => absurd (by decide) h15)
  refine lv_iconst hx hb (v := 1) d_M_swap_30 (by decide +kernel) ?_
  refine lv_goto hx hb (tgt := 35) d_M_swap_31 (by decide) ?_
  refine lv_iconst hx hb (v := 1) d_M_swap_35 (by decide +kernel) ?_
  refine xM_calli (As := [.int 1, .int 1]) (rest := []) hC hI hA (c_M_fails1 (by decide)) (cwV 2 ht gv_M_39 rfl rfl rfl ⟨rfl, by decide, by decide, by decide +kernel⟩ ⟨by decide, by decide⟩) rfl hl.1 rfl (Nat.le_of_ble_eq_true rfl) d_M_swap_36 ⟨by decide, by decide⟩ (fun H locs hI _ _ => ?_)
  refine lv_if_eq hx hb (tgt := 43) d_M_swap_39 (by decide) (fun h39 => absurd h39 (by decide)) (fun h39 => ?_)
  exact xM_vret hC hI hr hlocks d_M_swap_42
set_option maxHeartbeats 4000000 in
set_option maxRecDepth 100000 in
/-- swap: no second place -/
theorem c_M_swap2 {l : Launch} {D : va_G} {o : Nat → Nat} {cJ cI : ClassId} {sz : Nat} {K : Nat → Int32} {V : Nat → Int64} {r : Int32} {j k : Int32} (h1 : m_in (j).toInt64 0 255 = 1) (h2 : m_in (k).toInt64 0 255 = 0) : Met l y_M_swap ws_M_swap rm_M_swap (va_Pc [.ref (o 0), .int j, .int k] (pM D o cJ cI sz r K V)) (va_Qv (fun _ : Unit => True) (fun _ => bM D o cJ cI (aM o sz) 1 K V) (aM o sz)) 0 0 (aM o sz) := by
  refine xM_met (av := [.int j, .int k]) (by decide) rfl (Nat.le_of_ble_eq_true rfl) ?_
  intro p e s m below meth c ls hC hsz hr hlocks hnm hnh had hl hI
  have hA : ∀ q, s.heap.size ≤ q → aM o sz q := fun q h => aM_new (by omega)
  have hx := hC.1.1
  have hb := hC.1.2.1
  have hml := hC.1.2.2.1
  have hown := hC.1.2.2.2.1
  have ht := hC.1.2.2.2.2
  have S := hC.1
  have hl : lv_has ls 6 [(0, .ref (o 0)), (1, .int j), (2, .int k)] := hl
  refine lv_aload_n hx hb d_M_swap_0 rfl (lv_at hl 0 rfl) ?_
  refine lv_iconst hx hb (v := 0) d_M_swap_1 (by decide +kernel) ?_
  refine xM_put0 hC hI d_M_swap_2 (fun H locs hI => ?_)
  refine lv_aload_n hx hb d_M_swap_5 rfl (lv_at hl 0 rfl) ?_
  refine lv_iload_n hx hb d_M_swap_6 rfl (lv_at hl 1 rfl) ?_
  refine lv_i2l hx hb (v := (j).toInt64) d_M_swap_7 rfl ?_
  refine lv_lconst hx hb (v := 0) d_M_swap_8 (by decide +kernel) ?_
  refine lv_ldc2 (v := 255) hx hb hown (ht _ tw_314) d_M_swap_9 ?_
  refine xS_calli (As := [.long (j).toInt64, .long 0, .long 255]) (rest := [.ref (o 0)]) S c_M_in (cwS 3 ht gs_M_23 rfl rfl rfl ⟨rfl, by decide, by decide, by decide +kernel⟩ ⟨by decide, by decide⟩) rfl hl.1 rfl (Nat.le_of_ble_eq_true rfl) d_M_swap_12 ⟨by decide, by decide⟩ ?_
  refine xw_i (y := 1) (h1) ?_
  refine lv_if_eq hx hb (tgt := 30) d_M_swap_15 (by decide) (fun h15 => absurd h15 (by decide)) (fun h15 => ?_)
  refine lv_iload_n hx hb d_M_swap_18 rfl (lv_at hl 2 rfl) ?_
  refine lv_i2l hx hb (v := (k).toInt64) d_M_swap_19 rfl ?_
  refine lv_lconst hx hb (v := 0) d_M_swap_20 (by decide +kernel) ?_
  refine lv_ldc2 (v := 255) hx hb hown (ht _ tw_314) d_M_swap_21 ?_
  refine xS_calli (As := [.long (k).toInt64, .long 0, .long 255]) (rest := [.ref (o 0)]) S c_M_in (cwS 3 ht gs_M_23 rfl rfl rfl ⟨rfl, by decide, by decide, by decide +kernel⟩ ⟨by decide, by decide⟩) rfl hl.1 rfl (Nat.le_of_ble_eq_true rfl) d_M_swap_24 ⟨by decide, by decide⟩ ?_
  refine xw_i (y := 0) (h2) ?_
  refine lv_if_ne hx hb (tgt := 34) d_M_swap_27 (by decide) (fun h27 => absurd (by decide) h27) (fun h27 => ?_)
  refine lv_iconst hx hb (v := 1) d_M_swap_30 (by decide +kernel) ?_
  refine lv_goto hx hb (tgt := 35) d_M_swap_31 (by decide) ?_
  refine lv_iconst hx hb (v := 1) d_M_swap_35 (by decide +kernel) ?_
  refine xM_calli (As := [.int 1, .int 1]) (rest := []) hC hI hA (c_M_fails1 (by decide)) (cwV 2 ht gv_M_39 rfl rfl rfl ⟨rfl, by decide, by decide, by decide +kernel⟩ ⟨by decide, by decide⟩) rfl hl.1 rfl (Nat.le_of_ble_eq_true rfl) d_M_swap_36 ⟨by decide, by decide⟩ (fun H locs hI _ _ => ?_)
  refine lv_if_eq hx hb (tgt := 43) d_M_swap_39 (by decide) (fun h39 => absurd h39 (by decide)) (fun h39 => ?_)
  exact xM_vret hC hI hr hlocks d_M_swap_42
set_option maxHeartbeats 4000000 in
set_option maxRecDepth 100000 in
/-- swap -/
theorem c_M_swap3 {l : Launch} {D : va_G} {o : Nat → Nat} {cJ cI : ClassId} {sz : Nat} {K : Nat → Int32} {V : Nat → Int64} {r : Int32} {j k : Nat} (hj : j < 256) (hk : k < 256) : Met l y_M_swap ws_M_swap rm_M_swap (va_Pc [.ref (o 0), .int (nI j), .int (nI k)] (pM D o cJ cI sz r K V)) (va_Qv (fun _ : Unit => True) (fun _ => bM D o cJ cI (aM o sz) 0 (upd (upd K j (K k)) k (K j)) (vp_updL (vp_updL V j (V k)) k (V j))) (aM o sz)) 0 0 (aM o sz) := by
  refine xM_met (av := [.int (nI j), .int (nI k)]) (by decide) rfl (Nat.le_of_ble_eq_true rfl) ?_
  intro p e s m below meth c ls hC hsz hr hlocks hnm hnh had hl hI
  have hA : ∀ q, s.heap.size ≤ q → aM o sz q := fun q h => aM_new (by omega)
  have hx := hC.1.1
  have hb := hC.1.2.1
  have hml := hC.1.2.2.1
  have hown := hC.1.2.2.2.1
  have ht := hC.1.2.2.2.2
  have S := hC.1
  have hl : lv_has ls 6 [(0, .ref (o 0)), (1, .int (nI j)), (2, .int (nI k))] := hl
  refine lv_aload_n hx hb d_M_swap_0 rfl (lv_at hl 0 rfl) ?_
  refine lv_iconst hx hb (v := 0) d_M_swap_1 (by decide +kernel) ?_
  refine xM_put0 hC hI d_M_swap_2 (fun H locs hI => ?_)
  refine lv_aload_n hx hb d_M_swap_5 rfl (lv_at hl 0 rfl) ?_
  refine lv_iload_n hx hb d_M_swap_6 rfl (lv_at hl 1 rfl) ?_
  refine lv_i2l hx hb (v := ((nI j)).toInt64) d_M_swap_7 rfl ?_
  refine lv_lconst hx hb (v := 0) d_M_swap_8 (by decide +kernel) ?_
  refine lv_ldc2 (v := 255) hx hb hown (ht _ tw_314) d_M_swap_9 ?_
  refine xS_calli (As := [.long ((nI j)).toInt64, .long 0, .long 255]) (rest := [.ref (o 0)]) S c_M_in (cwS 3 ht gs_M_23 rfl rfl rfl ⟨rfl, by decide, by decide, by decide +kernel⟩ ⟨by decide, by decide⟩) rfl hl.1 rfl (Nat.le_of_ble_eq_true rfl) d_M_swap_12 ⟨by decide, by decide⟩ ?_
  refine xw_i (y := 1) (m_in_ok hj) ?_
  refine lv_if_eq hx hb (tgt := 30) d_M_swap_15 (by decide) (fun h15 => absurd h15 (by decide)) (fun h15 => ?_)
  refine lv_iload_n hx hb d_M_swap_18 rfl (lv_at hl 2 rfl) ?_
  refine lv_i2l hx hb (v := ((nI k)).toInt64) d_M_swap_19 rfl ?_
  refine lv_lconst hx hb (v := 0) d_M_swap_20 (by decide +kernel) ?_
  refine lv_ldc2 (v := 255) hx hb hown (ht _ tw_314) d_M_swap_21 ?_
  refine xS_calli (As := [.long ((nI k)).toInt64, .long 0, .long 255]) (rest := [.ref (o 0)]) S c_M_in (cwS 3 ht gs_M_23 rfl rfl rfl ⟨rfl, by decide, by decide, by decide +kernel⟩ ⟨by decide, by decide⟩) rfl hl.1 rfl (Nat.le_of_ble_eq_true rfl) d_M_swap_24 ⟨by decide, by decide⟩ ?_
  refine xw_i (y := 1) (m_in_ok hk) ?_
  refine lv_if_ne hx hb (tgt := 34) d_M_swap_27 (by decide) (fun h27 => ?_) (fun h27 => absurd h27 (by decide))
  refine lv_iconst hx hb (v := 0) d_M_swap_34 (by decide +kernel) ?_
  refine lv_iconst hx hb (v := 1) d_M_swap_35 (by decide +kernel) ?_
  refine xM_calli (As := [.int 0, .int 1]) (rest := []) hC hI hA c_M_fails0 (cwV 2 ht gv_M_39 rfl rfl rfl ⟨rfl, by decide, by decide, by decide +kernel⟩ ⟨by decide, by decide⟩) rfl hl.1 rfl (Nat.le_of_ble_eq_true rfl) d_M_swap_36 ⟨by decide, by decide⟩ (fun H locs hI _ _ => ?_)
  refine lv_if_eq hx hb (tgt := 43) d_M_swap_39 (by decide) (fun h39 => ?_) (fun h39 => absurd (by decide) h39)
  refine lv_aload_n hx hb d_M_swap_43 rfl (lv_at hl 0 rfl) ?_
  refine xM_get1 hC hI d_M_swap_44 ?_
  refine lv_iload_n hx hb d_M_swap_47 rfl (lv_at hl 1 rfl) ?_
  refine xM_ld1 hC hI hj d_M_swap_48 ?_
  refine lv_istore_n hx hb d_M_swap_49 rfl hl (by decide) (lv' := [(3, .int (K j)), (0, .ref (o 0)), (1, .int (nI j)), (2, .int (nI k))]) rfl (fun ls hl => ?_)
  refine lv_aload_n hx hb d_M_swap_50 rfl (lv_at hl 1 rfl) ?_
  refine xM_get2 hC hI d_M_swap_51 ?_
  refine lv_iload_n hx hb d_M_swap_54 rfl (lv_at hl 2 rfl) ?_
  refine xM_ld2 hC hI hj d_M_swap_55 ?_
  refine lv_lstore hx hb d_M_swap_56 hl (by decide) (lv' := [(4, .long (V j)), (3, .int (K j)), (0, .ref (o 0)), (1, .int (nI j)), (2, .int (nI k))]) rfl (fun ls hl => ?_)
  refine lv_aload_n hx hb d_M_swap_58 rfl (lv_at hl 2 rfl) ?_
  refine xM_get1 hC hI d_M_swap_59 ?_
  refine lv_iload_n hx hb d_M_swap_62 rfl (lv_at hl 3 rfl) ?_
  refine lv_aload_n hx hb d_M_swap_63 rfl (lv_at hl 2 rfl) ?_
  refine xM_get1 hC hI d_M_swap_64 ?_
  refine lv_iload_n hx hb d_M_swap_67 rfl (lv_at hl 4 rfl) ?_
  refine xM_ld1 hC hI hk d_M_swap_68 ?_
  refine xM_st1 hC hI hj d_M_swap_69 (fun H locs hI => ?_)
  refine lv_aload_n hx hb d_M_swap_70 rfl (lv_at hl 2 rfl) ?_
  refine xM_get2 hC hI d_M_swap_71 ?_
  refine lv_iload_n hx hb d_M_swap_74 rfl (lv_at hl 3 rfl) ?_
  refine lv_aload_n hx hb d_M_swap_75 rfl (lv_at hl 2 rfl) ?_
  refine xM_get2 hC hI d_M_swap_76 ?_
  refine lv_iload_n hx hb d_M_swap_79 rfl (lv_at hl 4 rfl) ?_
  refine xM_ld2 hC hI hk d_M_swap_80 ?_
  refine xM_st2 hC hI hj d_M_swap_81 (fun H locs hI => ?_)
  refine lv_aload_n hx hb d_M_swap_82 rfl (lv_at hl 2 rfl) ?_
  refine xM_get1 hC hI d_M_swap_83 ?_
  refine lv_iload_n hx hb d_M_swap_86 rfl (lv_at hl 4 rfl) ?_
  refine lv_iload_n hx hb d_M_swap_87 rfl (lv_at hl 1 rfl) ?_
  refine xM_st1 hC hI hk d_M_swap_88 (fun H locs hI => ?_)
  refine lv_aload_n hx hb d_M_swap_89 rfl (lv_at hl 2 rfl) ?_
  refine xM_get2 hC hI d_M_swap_90 ?_
  refine lv_iload_n hx hb d_M_swap_93 rfl (lv_at hl 4 rfl) ?_
  refine lv_lload hx hb d_M_swap_94 (lv_at hl 0 rfl) ?_
  refine xM_st2 hC hI hk d_M_swap_96 (fun H locs hI => ?_)
  exact xM_vret hC hI hr hlocks d_M_swap_97
set_option maxHeartbeats 4000000 in
set_option maxRecDepth 100000 in
/-- fold: no number -/
theorem c_M_fold1 {l : Launch} {D : va_G} {o : Nat → Nat} {cJ cI : ClassId} {sz : Nat} {K : Nat → Int32} {V : Nat → Int64} {r : Int32} {f t0 : Int32} {v : Int64} (h1 : m_isNumber v = 0) : Met l y_M_fold ws_M_fold rm_M_fold (va_Pc [.ref (o 0), .int f, .int t0, .long v] (pM D o cJ cI sz r K V)) (va_Ql (fun (r9 : Int64) (_ : Unit) => r9 = 0) (fun _ => bM D o cJ cI (aM o sz) 1 K V) (aM o sz)) 0 0 (aM o sz) := by
  refine xM_met (av := [.int f, .int t0, .long v]) (by decide) rfl (Nat.le_of_ble_eq_true rfl) ?_
  intro p e s m below meth c ls hC hsz hr hlocks hnm hnh had hl hI
  have hA : ∀ q, s.heap.size ≤ q → aM o sz q := fun q h => aM_new (by omega)
  have hx := hC.1.1
  have hb := hC.1.2.1
  have hml := hC.1.2.2.1
  have hown := hC.1.2.2.2.1
  have ht := hC.1.2.2.2.2
  have S := hC.1
  have hl : lv_has ls 5 [(0, .ref (o 0)), (1, .int f), (2, .int t0), (3, .long v)] := hl
  refine lv_aload_n hx hb d_M_fold_0 rfl (lv_at hl 0 rfl) ?_
  refine lv_iconst hx hb (v := 0) d_M_fold_1 (by decide +kernel) ?_
  refine xM_put0 hC hI d_M_fold_2 (fun H locs hI => ?_)
  refine lv_aload_n hx hb d_M_fold_5 rfl (lv_at hl 0 rfl) ?_
  refine lv_lload_n hx hb d_M_fold_6 rfl (lv_at hl 3 rfl) ?_
  refine xS_calli (As := [.long v]) (rest := [.ref (o 0)]) S c_M_isNumber (cwS 1 ht gs_M_49 rfl rfl rfl ⟨rfl, by decide, by decide, by decide +kernel⟩ ⟨by decide, by decide⟩) rfl hl.1 rfl (Nat.le_of_ble_eq_true rfl) d_M_fold_7 ⟨by decide, by decide⟩ ?_
  refine xw_i (y := 0) (h1) ?_
  refine lv_if_ne hx hb (tgt := 17) d_M_fold_10 (by decide) (fun h10 => absurd (by decide) h10) (fun h10 => ?_)
  refine lv_iconst hx hb (v := 1) d_M_fold_13 (by decide +kernel) ?_
  refine lv_goto hx hb (tgt := 18) d_M_fold_14 (by decide) ?_
  refine lv_iconst hx hb (v := 1) d_M_fold_18 (by decide +kernel) ?_
  refine xM_calli (As := [.int 1, .int 1]) (rest := []) hC hI hA (c_M_fails1 (by decide)) (cwV 2 ht gv_M_39 rfl rfl rfl ⟨rfl, by decide, by decide, by decide +kernel⟩ ⟨by decide, by decide⟩) rfl hl.1 rfl (Nat.le_of_ble_eq_true rfl) d_M_fold_19 ⟨by decide, by decide⟩ (fun H locs hI _ _ => ?_)
  refine lv_if_ne hx hb (tgt := 46) d_M_fold_22 (by decide) (fun h22 => ?_) (fun h22 => absurd h22 (by decide))
  refine lv_lconst hx hb (v := 0) d_M_fold_46 (by decide +kernel) ?_
  refine lv_goto hx hb (tgt := 57) d_M_fold_47 (by decide) ?_
  exact xM_lret hC hI hr hlocks d_M_fold_57
set_option maxHeartbeats 4000000 in
set_option maxRecDepth 100000 in
/-- fold: no part -/
theorem c_M_fold2 {l : Launch} {D : va_G} {o : Nat → Nat} {cJ cI : ClassId} {sz : Nat} {K : Nat → Int32} {V : Nat → Int64} {r : Int32} {f t0 : Int32} {v : Int64} (h1 : m_isNumber v = 1) (h2 : m_isPart f t0 = 0) : Met l y_M_fold ws_M_fold rm_M_fold (va_Pc [.ref (o 0), .int f, .int t0, .long v] (pM D o cJ cI sz r K V)) (va_Ql (fun (r9 : Int64) (_ : Unit) => r9 = 0) (fun _ => bM D o cJ cI (aM o sz) 2 K V) (aM o sz)) 0 0 (aM o sz) := by
  refine xM_met (av := [.int f, .int t0, .long v]) (by decide) rfl (Nat.le_of_ble_eq_true rfl) ?_
  intro p e s m below meth c ls hC hsz hr hlocks hnm hnh had hl hI
  have hA : ∀ q, s.heap.size ≤ q → aM o sz q := fun q h => aM_new (by omega)
  have hx := hC.1.1
  have hb := hC.1.2.1
  have hml := hC.1.2.2.1
  have hown := hC.1.2.2.2.1
  have ht := hC.1.2.2.2.2
  have S := hC.1
  have hl : lv_has ls 5 [(0, .ref (o 0)), (1, .int f), (2, .int t0), (3, .long v)] := hl
  refine lv_aload_n hx hb d_M_fold_0 rfl (lv_at hl 0 rfl) ?_
  refine lv_iconst hx hb (v := 0) d_M_fold_1 (by decide +kernel) ?_
  refine xM_put0 hC hI d_M_fold_2 (fun H locs hI => ?_)
  refine lv_aload_n hx hb d_M_fold_5 rfl (lv_at hl 0 rfl) ?_
  refine lv_lload_n hx hb d_M_fold_6 rfl (lv_at hl 3 rfl) ?_
  refine xS_calli (As := [.long v]) (rest := [.ref (o 0)]) S c_M_isNumber (cwS 1 ht gs_M_49 rfl rfl rfl ⟨rfl, by decide, by decide, by decide +kernel⟩ ⟨by decide, by decide⟩) rfl hl.1 rfl (Nat.le_of_ble_eq_true rfl) d_M_fold_7 ⟨by decide, by decide⟩ ?_
  refine xw_i (y := 1) (h1) ?_
  refine lv_if_ne hx hb (tgt := 17) d_M_fold_10 (by decide) (fun h10 => ?_) (fun h10 => absurd h10 (by decide))
  refine lv_iconst hx hb (v := 0) d_M_fold_17 (by decide +kernel) ?_
  refine lv_iconst hx hb (v := 1) d_M_fold_18 (by decide +kernel) ?_
  refine xM_calli (As := [.int 0, .int 1]) (rest := []) hC hI hA c_M_fails0 (cwV 2 ht gv_M_39 rfl rfl rfl ⟨rfl, by decide, by decide, by decide +kernel⟩ ⟨by decide, by decide⟩) rfl hl.1 rfl (Nat.le_of_ble_eq_true rfl) d_M_fold_19 ⟨by decide, by decide⟩ (fun H locs hI _ _ => ?_)
  refine lv_if_ne hx hb (tgt := 46) d_M_fold_22 (by decide) (fun h22 => absurd (by decide) h22) (fun h22 => ?_)
  refine lv_aload_n hx hb d_M_fold_25 rfl (lv_at hl 0 rfl) ?_
  refine lv_iload_n hx hb d_M_fold_26 rfl (lv_at hl 1 rfl) ?_
  refine lv_iload_n hx hb d_M_fold_27 rfl (lv_at hl 2 rfl) ?_
  refine xS_calli (As := [.int f, .int t0]) (rest := [.ref (o 0)]) S c_M_isPart (cwS 2 ht gs_M_45 rfl rfl rfl ⟨rfl, by decide, by decide, by decide +kernel⟩ ⟨by decide, by decide⟩) rfl hl.1 rfl (Nat.le_of_ble_eq_true rfl) d_M_fold_28 ⟨by decide, by decide⟩ ?_
  refine xw_i (y := 0) (h2) ?_
  refine lv_if_ne hx hb (tgt := 38) d_M_fold_31 (by decide) (fun h31 => absurd (by decide) h31) (fun h31 => ?_)
  refine lv_iconst hx hb (v := 1) d_M_fold_34 (by decide +kernel) ?_
  refine lv_goto hx hb (tgt := 39) d_M_fold_35 (by decide) ?_
  refine lv_iconst hx hb (v := 2) d_M_fold_39 (by decide +kernel) ?_
  refine xM_calli (As := [.int 1, .int 2]) (rest := []) hC hI hA (c_M_fails1 (by decide)) (cwV 2 ht gv_M_39 rfl rfl rfl ⟨rfl, by decide, by decide, by decide +kernel⟩ ⟨by decide, by decide⟩) rfl hl.1 rfl (Nat.le_of_ble_eq_true rfl) d_M_fold_40 ⟨by decide, by decide⟩ (fun H locs hI _ _ => ?_)
  refine lv_if_eq hx hb (tgt := 50) d_M_fold_43 (by decide) (fun h43 => absurd h43 (by decide)) (fun h43 => ?_)
  refine lv_lconst hx hb (v := 0) d_M_fold_46 (by decide +kernel) ?_
  refine lv_goto hx hb (tgt := 57) d_M_fold_47 (by decide) ?_
  exact xM_lret hC hI hr hlocks d_M_fold_57
set_option maxHeartbeats 4000000 in
set_option maxRecDepth 100000 in
/-- fold -/
theorem c_M_fold3 {l : Launch} {D : va_G} {o : Nat → Nat} {cJ cI : ClassId} {sz : Nat} {K : Nat → Int32} {V : Nat → Int64} {r : Int32} {fr to : Nat} (hft : fr ≤ to) (hto : to ≤ 256) {v : Int64} (h1 : m_isNumber v = 1) : Met l y_M_fold ws_M_fold rm_M_fold (va_Pc [.ref (o 0), .int (nI fr), .int (nI to), .long v] (pM D o cJ cI sz r K V)) (va_Ql (fun (r9 : Int64) (_ : Unit) => r9 = (m_made K V (to - fr) fr v)) (fun _ => bM D o cJ cI (aM o sz) 0 K V) (aM o sz)) 0 0 (aM o sz) := by
  refine xM_met (av := [.int (nI fr), .int (nI to), .long v]) (by decide) rfl (Nat.le_of_ble_eq_true rfl) ?_
  intro p e s m below meth c ls hC hsz hr hlocks hnm hnh had hl hI
  have hA : ∀ q, s.heap.size ≤ q → aM o sz q := fun q h => aM_new (by omega)
  have hx := hC.1.1
  have hb := hC.1.2.1
  have hml := hC.1.2.2.1
  have hown := hC.1.2.2.2.1
  have ht := hC.1.2.2.2.2
  have S := hC.1
  have hl : lv_has ls 5 [(0, .ref (o 0)), (1, .int (nI fr)), (2, .int (nI to)), (3, .long v)] := hl
  refine lv_aload_n hx hb d_M_fold_0 rfl (lv_at hl 0 rfl) ?_
  refine lv_iconst hx hb (v := 0) d_M_fold_1 (by decide +kernel) ?_
  refine xM_put0 hC hI d_M_fold_2 (fun H locs hI => ?_)
  refine lv_aload_n hx hb d_M_fold_5 rfl (lv_at hl 0 rfl) ?_
  refine lv_lload_n hx hb d_M_fold_6 rfl (lv_at hl 3 rfl) ?_
  refine xS_calli (As := [.long v]) (rest := [.ref (o 0)]) S c_M_isNumber (cwS 1 ht gs_M_49 rfl rfl rfl ⟨rfl, by decide, by decide, by decide +kernel⟩ ⟨by decide, by decide⟩) rfl hl.1 rfl (Nat.le_of_ble_eq_true rfl) d_M_fold_7 ⟨by decide, by decide⟩ ?_
  refine xw_i (y := 1) (h1) ?_
  refine lv_if_ne hx hb (tgt := 17) d_M_fold_10 (by decide) (fun h10 => ?_) (fun h10 => absurd h10 (by decide))
  refine lv_iconst hx hb (v := 0) d_M_fold_17 (by decide +kernel) ?_
  refine lv_iconst hx hb (v := 1) d_M_fold_18 (by decide +kernel) ?_
  refine xM_calli (As := [.int 0, .int 1]) (rest := []) hC hI hA c_M_fails0 (cwV 2 ht gv_M_39 rfl rfl rfl ⟨rfl, by decide, by decide, by decide +kernel⟩ ⟨by decide, by decide⟩) rfl hl.1 rfl (Nat.le_of_ble_eq_true rfl) d_M_fold_19 ⟨by decide, by decide⟩ (fun H locs hI _ _ => ?_)
  refine lv_if_ne hx hb (tgt := 46) d_M_fold_22 (by decide) (fun h22 => absurd (by decide) h22) (fun h22 => ?_)
  refine lv_aload_n hx hb d_M_fold_25 rfl (lv_at hl 0 rfl) ?_
  refine lv_iload_n hx hb d_M_fold_26 rfl (lv_at hl 1 rfl) ?_
  refine lv_iload_n hx hb d_M_fold_27 rfl (lv_at hl 2 rfl) ?_
  refine xS_calli (As := [.int (nI fr), .int (nI to)]) (rest := [.ref (o 0)]) S c_M_isPart (cwS 2 ht gs_M_45 rfl rfl rfl ⟨rfl, by decide, by decide, by decide +kernel⟩ ⟨by decide, by decide⟩) rfl hl.1 rfl (Nat.le_of_ble_eq_true rfl) d_M_fold_28 ⟨by decide, by decide⟩ ?_
  refine xw_i (y := 1) (m_pt_ok hft hto) ?_
  refine lv_if_ne hx hb (tgt := 38) d_M_fold_31 (by decide) (fun h31 => ?_) (fun h31 => absurd h31 (by decide))
  refine lv_iconst hx hb (v := 0) d_M_fold_38 (by decide +kernel) ?_
  refine lv_iconst hx hb (v := 2) d_M_fold_39 (by decide +kernel) ?_
  refine xM_calli (As := [.int 0, .int 2]) (rest := []) hC hI hA c_M_fails0 (cwV 2 ht gv_M_39 rfl rfl rfl ⟨rfl, by decide, by decide, by decide +kernel⟩ ⟨by decide, by decide⟩) rfl hl.1 rfl (Nat.le_of_ble_eq_true rfl) d_M_fold_40 ⟨by decide, by decide⟩ (fun H locs hI _ _ => ?_)
  refine lv_if_eq hx hb (tgt := 50) d_M_fold_43 (by decide) (fun h43 => ?_) (fun h43 => absurd (by decide) h43)
  refine lv_aload_n hx hb d_M_fold_50 rfl (lv_at hl 0 rfl) ?_
  refine lv_iload_n hx hb d_M_fold_51 rfl (lv_at hl 1 rfl) ?_
  refine lv_iload_n hx hb d_M_fold_52 rfl (lv_at hl 2 rfl) ?_
  refine lv_lload_n hx hb d_M_fold_53 rfl (lv_at hl 3 rfl) ?_
  refine xM_calll (As := [.int (nI fr), .int (nI to), .long v]) (rest := []) hC hI hA (c_M_made hft hto) (cwV 3 ht gv_M_53 rfl rfl rfl ⟨rfl, by decide, by decide, by decide +kernel⟩ ⟨by decide, by decide⟩) rfl hl.1 rfl (Nat.le_of_ble_eq_true rfl) d_M_fold_54 ⟨by decide, by decide⟩ (fun H locs hI _ _ => ?_)
  exact xM_lret hC hI hr hlocks d_M_fold_57
set_option maxHeartbeats 4000000 in
set_option maxRecDepth 100000 in
/-- again: no number -/
theorem c_M_again1 {l : Launch} {D : va_G} {o : Nat → Nat} {cJ cI : ClassId} {sz : Nat} {K : Nat → Int32} {V : Nat → Int64} {r : Int32} {f t0 n : Int32} {v : Int64} (h1 : m_isNumber v = 0) : Met l y_M_again ws_M_again rm_M_again (va_Pc [.ref (o 0), .int f, .int t0, .long v, .int n] (pM D o cJ cI sz r K V)) (va_Ql (fun (r9 : Int64) (_ : Unit) => r9 = 0) (fun _ => bM D o cJ cI (aM o sz) 1 K V) (aM o sz)) 0 0 (aM o sz) := by
  refine xM_met (av := [.int f, .int t0, .long v, .int n]) (by decide) rfl (Nat.le_of_ble_eq_true rfl) ?_
  intro p e s m below meth c ls hC hsz hr hlocks hnm hnh had hl hI
  have hA : ∀ q, s.heap.size ≤ q → aM o sz q := fun q h => aM_new (by omega)
  have hx := hC.1.1
  have hb := hC.1.2.1
  have hml := hC.1.2.2.1
  have hown := hC.1.2.2.2.1
  have ht := hC.1.2.2.2.2
  have S := hC.1
  have hl : lv_has ls 9 [(0, .ref (o 0)), (1, .int f), (2, .int t0), (3, .long v), (5, .int n)] := hl
  refine lv_aload_n hx hb d_M_again_0 rfl (lv_at hl 0 rfl) ?_
  refine lv_iconst hx hb (v := 0) d_M_again_1 (by decide +kernel) ?_
  refine xM_put0 hC hI d_M_again_2 (fun H locs hI => ?_)
  refine lv_aload_n hx hb d_M_again_5 rfl (lv_at hl 0 rfl) ?_
  refine lv_lload_n hx hb d_M_again_6 rfl (lv_at hl 3 rfl) ?_
  refine xS_calli (As := [.long v]) (rest := [.ref (o 0)]) S c_M_isNumber (cwS 1 ht gs_M_49 rfl rfl rfl ⟨rfl, by decide, by decide, by decide +kernel⟩ ⟨by decide, by decide⟩) rfl hl.1 rfl (Nat.le_of_ble_eq_true rfl) d_M_again_7 ⟨by decide, by decide⟩ ?_
  refine xw_i (y := 0) (h1) ?_
  refine lv_if_eq hx hb (tgt := 26) d_M_again_10 (by decide) (fun h10 => ?_) (fun h10 => absurd (by decide) h10)
  refine lv_iconst hx hb (v := 1) d_M_again_26 (by decide +kernel) ?_
  refine lv_goto hx hb (tgt := 31) d_M_again_27 (by decide) ?_
  refine lv_iconst hx hb (v := 1) d_M_again_31 (by decide +kernel) ?_
  refine xM_calli (As := [.int 1, .int 1]) (rest := []) hC hI hA (c_M_fails1 (by decide)) (cwV 2 ht gv_M_39 rfl rfl rfl ⟨rfl, by decide, by decide, by decide +kernel⟩ ⟨by decide, by decide⟩) rfl hl.1 rfl (Nat.le_of_ble_eq_true rfl) d_M_again_32 ⟨by decide, by decide⟩ (fun H locs hI _ _ => ?_)
  refine lv_if_ne hx hb (tgt := 59) d_M_again_35 (by decide) (fun h35 => ?_) (fun h35 => absurd h35 (by decide))
  refine lv_lconst hx hb (v := 0) d_M_again_59 (by decide +kernel) ?_
  exact xM_lret hC hI hr hlocks d_M_again_60
set_option maxHeartbeats 4000000 in
set_option maxRecDepth 100000 in
/-- again: not so often -/
theorem c_M_again2 {l : Launch} {D : va_G} {o : Nat → Nat} {cJ cI : ClassId} {sz : Nat} {K : Nat → Int32} {V : Nat → Int64} {r : Int32} {f t0 n : Int32} {v : Int64} (h1 : m_isNumber v = 1) (h2 : m_in (n).toInt64 0 1000 = 0) : Met l y_M_again ws_M_again rm_M_again (va_Pc [.ref (o 0), .int f, .int t0, .long v, .int n] (pM D o cJ cI sz r K V)) (va_Ql (fun (r9 : Int64) (_ : Unit) => r9 = 0) (fun _ => bM D o cJ cI (aM o sz) 1 K V) (aM o sz)) 0 0 (aM o sz) := by
  refine xM_met (av := [.int f, .int t0, .long v, .int n]) (by decide) rfl (Nat.le_of_ble_eq_true rfl) ?_
  intro p e s m below meth c ls hC hsz hr hlocks hnm hnh had hl hI
  have hA : ∀ q, s.heap.size ≤ q → aM o sz q := fun q h => aM_new (by omega)
  have hx := hC.1.1
  have hb := hC.1.2.1
  have hml := hC.1.2.2.1
  have hown := hC.1.2.2.2.1
  have ht := hC.1.2.2.2.2
  have S := hC.1
  have hl : lv_has ls 9 [(0, .ref (o 0)), (1, .int f), (2, .int t0), (3, .long v), (5, .int n)] := hl
  refine lv_aload_n hx hb d_M_again_0 rfl (lv_at hl 0 rfl) ?_
  refine lv_iconst hx hb (v := 0) d_M_again_1 (by decide +kernel) ?_
  refine xM_put0 hC hI d_M_again_2 (fun H locs hI => ?_)
  refine lv_aload_n hx hb d_M_again_5 rfl (lv_at hl 0 rfl) ?_
  refine lv_lload_n hx hb d_M_again_6 rfl (lv_at hl 3 rfl) ?_
  refine xS_calli (As := [.long v]) (rest := [.ref (o 0)]) S c_M_isNumber (cwS 1 ht gs_M_49 rfl rfl rfl ⟨rfl, by decide, by decide, by decide +kernel⟩ ⟨by decide, by decide⟩) rfl hl.1 rfl (Nat.le_of_ble_eq_true rfl) d_M_again_7 ⟨by decide, by decide⟩ ?_
  refine xw_i (y := 1) (h1) ?_
  refine lv_if_eq hx hb (tgt := 26) d_M_again_10 (by decide) (fun h10 => absurd h10 (by decide)) (fun h10 => ?_)
  refine lv_iload hx hb d_M_again_13 (lv_at hl 4 rfl) ?_
  refine lv_i2l hx hb (v := (n).toInt64) d_M_again_15 rfl ?_
  refine lv_lconst hx hb (v := 0) d_M_again_16 (by decide +kernel) ?_
  refine lv_ldc2 (v := 1000) hx hb hown (ht _ tw_343) d_M_again_17 ?_
  refine xS_calli (As := [.long (n).toInt64, .long 0, .long 1000]) (rest := [.ref (o 0)]) S c_M_in (cwS 3 ht gs_M_23 rfl rfl rfl ⟨rfl, by decide, by decide, by decide +kernel⟩ ⟨by decide, by decide⟩) rfl hl.1 rfl (Nat.le_of_ble_eq_true rfl) d_M_again_20 ⟨by decide, by decide⟩ ?_
  refine xw_i (y := 0) (h2) ?_
  refine lv_if_ne hx hb (tgt := 30) d_M_again_23 (by decide) (fun h23 => absurd (by decide) h23) (fun h23 => ?_)
  refine lv_iconst hx hb (v := 1) d_M_again_26 (by decide +kernel) ?_
  refine lv_goto hx hb (tgt := 31) d_M_again_27 (by decide) ?_
  refine lv_iconst hx hb (v := 1) d_M_again_31 (by decide +kernel) ?_
  refine xM_calli (As := [.int 1, .int 1]) (rest := []) hC hI hA (c_M_fails1 (by decide)) (cwV 2 ht gv_M_39 rfl rfl rfl ⟨rfl, by decide, by decide, by decide +kernel⟩ ⟨by decide, by decide⟩) rfl hl.1 rfl (Nat.le_of_ble_eq_true rfl) d_M_again_32 ⟨by decide, by decide⟩ (fun H locs hI _ _ => ?_)
  refine lv_if_ne hx hb (tgt := 59) d_M_again_35 (by decide) (fun h35 => ?_) (fun h35 => absurd h35 (by decide))
  refine lv_lconst hx hb (v := 0) d_M_again_59 (by decide +kernel) ?_
  exact xM_lret hC hI hr hlocks d_M_again_60
set_option maxHeartbeats 4000000 in
set_option maxRecDepth 100000 in
/-- again: no part -/
theorem c_M_again3 {l : Launch} {D : va_G} {o : Nat → Nat} {cJ cI : ClassId} {sz : Nat} {K : Nat → Int32} {V : Nat → Int64} {r : Int32} {f t0 n : Int32} {v : Int64} (h1 : m_isNumber v = 1) (h2 : m_in (n).toInt64 0 1000 = 1) (h3 : m_isPart f t0 = 0) : Met l y_M_again ws_M_again rm_M_again (va_Pc [.ref (o 0), .int f, .int t0, .long v, .int n] (pM D o cJ cI sz r K V)) (va_Ql (fun (r9 : Int64) (_ : Unit) => r9 = 0) (fun _ => bM D o cJ cI (aM o sz) 2 K V) (aM o sz)) 0 0 (aM o sz) := by
  refine xM_met (av := [.int f, .int t0, .long v, .int n]) (by decide) rfl (Nat.le_of_ble_eq_true rfl) ?_
  intro p e s m below meth c ls hC hsz hr hlocks hnm hnh had hl hI
  have hA : ∀ q, s.heap.size ≤ q → aM o sz q := fun q h => aM_new (by omega)
  have hx := hC.1.1
  have hb := hC.1.2.1
  have hml := hC.1.2.2.1
  have hown := hC.1.2.2.2.1
  have ht := hC.1.2.2.2.2
  have S := hC.1
  have hl : lv_has ls 9 [(0, .ref (o 0)), (1, .int f), (2, .int t0), (3, .long v), (5, .int n)] := hl
  refine lv_aload_n hx hb d_M_again_0 rfl (lv_at hl 0 rfl) ?_
  refine lv_iconst hx hb (v := 0) d_M_again_1 (by decide +kernel) ?_
  refine xM_put0 hC hI d_M_again_2 (fun H locs hI => ?_)
  refine lv_aload_n hx hb d_M_again_5 rfl (lv_at hl 0 rfl) ?_
  refine lv_lload_n hx hb d_M_again_6 rfl (lv_at hl 3 rfl) ?_
  refine xS_calli (As := [.long v]) (rest := [.ref (o 0)]) S c_M_isNumber (cwS 1 ht gs_M_49 rfl rfl rfl ⟨rfl, by decide, by decide, by decide +kernel⟩ ⟨by decide, by decide⟩) rfl hl.1 rfl (Nat.le_of_ble_eq_true rfl) d_M_again_7 ⟨by decide, by decide⟩ ?_
  refine xw_i (y := 1) (h1) ?_
  refine lv_if_eq hx hb (tgt := 26) d_M_again_10 (by decide) (fun h10 => absurd h10 (by decide)) (fun h10 => ?_)
  refine lv_iload hx hb d_M_again_13 (lv_at hl 4 rfl) ?_
  refine lv_i2l hx hb (v := (n).toInt64) d_M_again_15 rfl ?_
  refine lv_lconst hx hb (v := 0) d_M_again_16 (by decide +kernel) ?_
  refine lv_ldc2 (v := 1000) hx hb hown (ht _ tw_343) d_M_again_17 ?_
  refine xS_calli (As := [.long (n).toInt64, .long 0, .long 1000]) (rest := [.ref (o 0)]) S c_M_in (cwS 3 ht gs_M_23 rfl rfl rfl ⟨rfl, by decide, by decide, by decide +kernel⟩ ⟨by decide, by decide⟩) rfl hl.1 rfl (Nat.le_of_ble_eq_true rfl) d_M_again_20 ⟨by decide, by decide⟩ ?_
  refine xw_i (y := 1) (h2) ?_
  refine lv_if_ne hx hb (tgt := 30) d_M_again_23 (by decide) (fun h23 => ?_) (fun h23 => absurd h23 (by decide))
  refine lv_iconst hx hb (v := 0) d_M_again_30 (by decide +kernel) ?_
  refine lv_iconst hx hb (v := 1) d_M_again_31 (by decide +kernel) ?_
  refine xM_calli (As := [.int 0, .int 1]) (rest := []) hC hI hA c_M_fails0 (cwV 2 ht gv_M_39 rfl rfl rfl ⟨rfl, by decide, by decide, by decide +kernel⟩ ⟨by decide, by decide⟩) rfl hl.1 rfl (Nat.le_of_ble_eq_true rfl) d_M_again_32 ⟨by decide, by decide⟩ (fun H locs hI _ _ => ?_)
  refine lv_if_ne hx hb (tgt := 59) d_M_again_35 (by decide) (fun h35 => absurd (by decide) h35) (fun h35 => ?_)
  refine lv_aload_n hx hb d_M_again_38 rfl (lv_at hl 0 rfl) ?_
  refine lv_iload_n hx hb d_M_again_39 rfl (lv_at hl 1 rfl) ?_
  refine lv_iload_n hx hb d_M_again_40 rfl (lv_at hl 2 rfl) ?_
  refine xS_calli (As := [.int f, .int t0]) (rest := [.ref (o 0)]) S c_M_isPart (cwS 2 ht gs_M_45 rfl rfl rfl ⟨rfl, by decide, by decide, by decide +kernel⟩ ⟨by decide, by decide⟩) rfl hl.1 rfl (Nat.le_of_ble_eq_true rfl) d_M_again_41 ⟨by decide, by decide⟩ ?_
  refine xw_i (y := 0) (h3) ?_
  refine lv_if_ne hx hb (tgt := 51) d_M_again_44 (by decide) (fun h44 => absurd (by decide) h44) (fun h44 => ?_)
  refine lv_iconst hx hb (v := 1) d_M_again_47 (by decide +kernel) ?_
  refine lv_goto hx hb (tgt := 52) d_M_again_48 (by decide) ?_
  refine lv_iconst hx hb (v := 2) d_M_again_52 (by decide +kernel) ?_
  refine xM_calli (As := [.int 1, .int 2]) (rest := []) hC hI hA (c_M_fails1 (by decide)) (cwV 2 ht gv_M_39 rfl rfl rfl ⟨rfl, by decide, by decide, by decide +kernel⟩ ⟨by decide, by decide⟩) rfl hl.1 rfl (Nat.le_of_ble_eq_true rfl) d_M_again_53 ⟨by decide, by decide⟩ (fun H locs hI _ _ => ?_)
  refine lv_if_eq hx hb (tgt := 61) d_M_again_56 (by decide) (fun h56 => absurd h56 (by decide)) (fun h56 => ?_)
  refine lv_lconst hx hb (v := 0) d_M_again_59 (by decide +kernel) ?_
  exact xM_lret hC hI hr hlocks d_M_again_60
set_option maxHeartbeats 4000000 in
set_option maxRecDepth 100000 in
theorem u_M_again {l : Launch} {D : va_G} {o : Nat → Nat} {cJ cI : ClassId} {r : Int32} {K : Nat → Int32} {V : Nat → Int64} {p : Program} {e : Env} {s : State} {m : MethodId} {args : Array Value} {below : List Frame} {meth : Method} {c : Code} {Q : State → Prop} {A : Nat → Prop} {H0 : Heap} {fr to n : Nat} {v : Int64} (hC : CX p m c b_M_again 9 s args R_M D cJ cI) (hA : ∀ q, H0.size ≤ q → A q) (hft : fr ≤ to) (hto : to ≤ 256) (hn : n ≤ 1000) :
    ∀ (d i : Nat) (y : Int64) (H : Heap) (locs : List Loc) (ls : Array Slot), i + d = n → lv_has ls 9 [(8, .int (nI i)), (6, .long y), (0, .ref (o 0)), (1, .int (nI fr)), (2, .int (nI to)), (3, .long v), (5, .int (nI n))] → iM D o cJ cI A H0 H locs r K V → (∀ (H1 : Heap) (locs1 : List Loc) (ls1 : Array Slot), lv_has ls1 9 [(6, .long (m_again K V (to - fr) fr d y))] → iM D o cJ cI A H0 H1 locs1 r K V → W p l e rm_M_again s m args below meth c H1 locs1 0 0 Q (F0 m 90 ls1 [])) → W p l e rm_M_again s m args below meth c H locs 0 0 Q (F0 m 67 ls []) := by
  have hx := hC.1.1
  have hb := hC.1.2.1
  have ht := hC.1.2.2.2.2
  intro d
  induction d with
  | zero =>
    intro i y H locs ls hd hl hI kk
    refine lv_iload hx hb d_M_again_67 (lv_at hl 0 rfl) ?_
    refine lv_iload hx hb d_M_again_69 (lv_at hl 6 rfl) ?_
    refine lv_icmp_ge hx hb (tgt := 90) d_M_again_71 (by decide) (fun h71 => ?_) (fun h71 => absurd ((nI_leI (by omega) (by omega)).mpr (by omega)) h71)
    exact kk H locs ls (lv_sub hl [1] rfl) hI
  | succ d ih =>
    intro i y H locs ls hd hl hI kk
    refine lv_iload hx hb d_M_again_67 (lv_at hl 0 rfl) ?_
    refine lv_iload hx hb d_M_again_69 (lv_at hl 6 rfl) ?_
    refine lv_icmp_ge hx hb (tgt := 90) d_M_again_71 (by decide) (fun h71 => absurd ((nI_leI (by omega) (by omega)).mp h71) (by omega)) (fun h71 => ?_)
    refine lv_aload_n hx hb d_M_again_74 rfl (lv_at hl 2 rfl) ?_
    refine lv_iload_n hx hb d_M_again_75 rfl (lv_at hl 3 rfl) ?_
    refine lv_iload_n hx hb d_M_again_76 rfl (lv_at hl 4 rfl) ?_
    refine lv_lload hx hb d_M_again_77 (lv_at hl 1 rfl) ?_
    refine xM_calll (As := [.int (nI fr), .int (nI to), .long y]) (rest := []) hC hI hA (c_M_made hft hto) (cwV 3 ht gv_M_53 rfl rfl rfl ⟨rfl, by decide, by decide, by decide +kernel⟩ ⟨by decide, by decide⟩) rfl hl.1 rfl (Nat.le_of_ble_eq_true rfl) d_M_again_79 ⟨by decide, by decide⟩ (fun H locs hI _ _ => ?_)
    refine lv_lstore hx hb d_M_again_82 hl (by decide) (lv' := [(6, .long (m_made K V (to - fr) fr y)), (8, .int (nI i)), (0, .ref (o 0)), (1, .int (nI fr)), (2, .int (nI to)), (3, .long v), (5, .int (nI n))]) rfl (fun ls hl => ?_)
    refine lv_iinc (k := 1) hx hb d_M_again_84 hl rfl (xi_inc i) (by decide) (lv' := [(8, .int (nI (i + 1))), (6, .long (m_made K V (to - fr) fr y)), (0, .ref (o 0)), (1, .int (nI fr)), (2, .int (nI to)), (3, .long v), (5, .int (nI n))]) rfl (fun ls hl => ?_)
    refine lv_goto hx hb (tgt := 67) d_M_again_87 (by decide) ?_
    have hl := lv_sub hl [0, 1, 2, 3, 4, 5, 6] (l' := [(8, .int (nI (i + 1))), (6, .long (m_made K V (to - fr) fr y)), (0, .ref (o 0)), (1, .int (nI fr)), (2, .int (nI to)), (3, .long v), (5, .int (nI n))]) rfl
    exact ih (i + 1) _ H locs ls (by omega) hl hI kk
set_option maxHeartbeats 4000000 in
set_option maxRecDepth 100000 in
/-- again -/
theorem c_M_again4 {l : Launch} {D : va_G} {o : Nat → Nat} {cJ cI : ClassId} {sz : Nat} {K : Nat → Int32} {V : Nat → Int64} {r : Int32} {fr to : Nat} (hft : fr ≤ to) (hto : to ≤ 256) {n : Nat} {v : Int64} (hn : n ≤ 1000) (h1 : m_isNumber v = 1) : Met l y_M_again ws_M_again rm_M_again (va_Pc [.ref (o 0), .int (nI fr), .int (nI to), .long v, .int (nI n)] (pM D o cJ cI sz r K V)) (va_Ql (fun (r9 : Int64) (_ : Unit) => r9 = (m_again K V (to - fr) fr n v)) (fun _ => bM D o cJ cI (aM o sz) 0 K V) (aM o sz)) 0 0 (aM o sz) := by
  refine xM_met (av := [.int (nI fr), .int (nI to), .long v, .int (nI n)]) (by decide) rfl (Nat.le_of_ble_eq_true rfl) ?_
  intro p e s m below meth c ls hC hsz hr hlocks hnm hnh had hl hI
  have hA : ∀ q, s.heap.size ≤ q → aM o sz q := fun q h => aM_new (by omega)
  have hx := hC.1.1
  have hb := hC.1.2.1
  have hml := hC.1.2.2.1
  have hown := hC.1.2.2.2.1
  have ht := hC.1.2.2.2.2
  have S := hC.1
  have hl : lv_has ls 9 [(0, .ref (o 0)), (1, .int (nI fr)), (2, .int (nI to)), (3, .long v), (5, .int (nI n))] := hl
  refine lv_aload_n hx hb d_M_again_0 rfl (lv_at hl 0 rfl) ?_
  refine lv_iconst hx hb (v := 0) d_M_again_1 (by decide +kernel) ?_
  refine xM_put0 hC hI d_M_again_2 (fun H locs hI => ?_)
  refine lv_aload_n hx hb d_M_again_5 rfl (lv_at hl 0 rfl) ?_
  refine lv_lload_n hx hb d_M_again_6 rfl (lv_at hl 3 rfl) ?_
  refine xS_calli (As := [.long v]) (rest := [.ref (o 0)]) S c_M_isNumber (cwS 1 ht gs_M_49 rfl rfl rfl ⟨rfl, by decide, by decide, by decide +kernel⟩ ⟨by decide, by decide⟩) rfl hl.1 rfl (Nat.le_of_ble_eq_true rfl) d_M_again_7 ⟨by decide, by decide⟩ ?_
  refine xw_i (y := 1) (h1) ?_
  refine lv_if_eq hx hb (tgt := 26) d_M_again_10 (by decide) (fun h10 => absurd h10 (by decide)) (fun h10 => ?_)
  refine lv_iload hx hb d_M_again_13 (lv_at hl 4 rfl) ?_
  refine lv_i2l hx hb (v := ((nI n)).toInt64) d_M_again_15 rfl ?_
  refine lv_lconst hx hb (v := 0) d_M_again_16 (by decide +kernel) ?_
  refine lv_ldc2 (v := 1000) hx hb hown (ht _ tw_343) d_M_again_17 ?_
  refine xS_calli (As := [.long ((nI n)).toInt64, .long 0, .long 1000]) (rest := [.ref (o 0)]) S c_M_in (cwS 3 ht gs_M_23 rfl rfl rfl ⟨rfl, by decide, by decide, by decide +kernel⟩ ⟨by decide, by decide⟩) rfl hl.1 rfl (Nat.le_of_ble_eq_true rfl) d_M_again_20 ⟨by decide, by decide⟩ ?_
  refine xw_i (y := 1) (m_in_n hn) ?_
  refine lv_if_ne hx hb (tgt := 30) d_M_again_23 (by decide) (fun h23 => ?_) (fun h23 => absurd h23 (by decide))
  refine lv_iconst hx hb (v := 0) d_M_again_30 (by decide +kernel) ?_
  refine lv_iconst hx hb (v := 1) d_M_again_31 (by decide +kernel) ?_
  refine xM_calli (As := [.int 0, .int 1]) (rest := []) hC hI hA c_M_fails0 (cwV 2 ht gv_M_39 rfl rfl rfl ⟨rfl, by decide, by decide, by decide +kernel⟩ ⟨by decide, by decide⟩) rfl hl.1 rfl (Nat.le_of_ble_eq_true rfl) d_M_again_32 ⟨by decide, by decide⟩ (fun H locs hI _ _ => ?_)
  refine lv_if_ne hx hb (tgt := 59) d_M_again_35 (by decide) (fun h35 => absurd (by decide) h35) (fun h35 => ?_)
  refine lv_aload_n hx hb d_M_again_38 rfl (lv_at hl 0 rfl) ?_
  refine lv_iload_n hx hb d_M_again_39 rfl (lv_at hl 1 rfl) ?_
  refine lv_iload_n hx hb d_M_again_40 rfl (lv_at hl 2 rfl) ?_
  refine xS_calli (As := [.int (nI fr), .int (nI to)]) (rest := [.ref (o 0)]) S c_M_isPart (cwS 2 ht gs_M_45 rfl rfl rfl ⟨rfl, by decide, by decide, by decide +kernel⟩ ⟨by decide, by decide⟩) rfl hl.1 rfl (Nat.le_of_ble_eq_true rfl) d_M_again_41 ⟨by decide, by decide⟩ ?_
  refine xw_i (y := 1) (m_pt_ok hft hto) ?_
  refine lv_if_ne hx hb (tgt := 51) d_M_again_44 (by decide) (fun h44 => ?_) (fun h44 => absurd h44 (by decide))
  refine lv_iconst hx hb (v := 0) d_M_again_51 (by decide +kernel) ?_
  refine lv_iconst hx hb (v := 2) d_M_again_52 (by decide +kernel) ?_
  refine xM_calli (As := [.int 0, .int 2]) (rest := []) hC hI hA c_M_fails0 (cwV 2 ht gv_M_39 rfl rfl rfl ⟨rfl, by decide, by decide, by decide +kernel⟩ ⟨by decide, by decide⟩) rfl hl.1 rfl (Nat.le_of_ble_eq_true rfl) d_M_again_53 ⟨by decide, by decide⟩ (fun H locs hI _ _ => ?_)
  refine lv_if_eq hx hb (tgt := 61) d_M_again_56 (by decide) (fun h56 => ?_) (fun h56 => absurd (by decide) h56)
  refine lv_lload_n hx hb d_M_again_61 rfl (lv_at hl 3 rfl) ?_
  refine lv_lstore hx hb d_M_again_62 hl (by decide) (lv' := [(6, .long v), (0, .ref (o 0)), (1, .int (nI fr)), (2, .int (nI to)), (3, .long v), (5, .int (nI n))]) rfl (fun ls hl => ?_)
  refine lv_iconst hx hb (v := nI 0) d_M_again_64 (by decide +kernel) ?_
  refine lv_istore hx hb d_M_again_65 hl (by decide) (lv' := [(8, .int (nI 0)), (6, .long v), (0, .ref (o 0)), (1, .int (nI fr)), (2, .int (nI to)), (3, .long v), (5, .int (nI n))]) rfl (fun ls hl => ?_)
  refine u_M_again hC hA hft hto hn n 0 v _ _ ls (by omega) hl hI (fun H locs ls hl hI => ?_)
  refine lv_lload hx hb d_M_again_90 (lv_at hl 0 rfl) ?_
  exact xM_lret hC hI hr hlocks d_M_again_92
set_option maxHeartbeats 4000000 in
set_option maxRecDepth 100000 in
/-- no part -/
theorem c_M_least1 {l : Launch} {D : va_G} {o : Nat → Nat} {cJ cI : ClassId} {sz : Nat} {K : Nat → Int32} {V : Nat → Int64} {r : Int32} {f t0 : Int32} (h1 : m_isPart f t0 = 0) : Met l y_M_least ws_M_least rm_M_least (va_Pc [.ref (o 0), .int f, .int t0] (pM D o cJ cI sz r K V)) (va_Ql (fun (r9 : Int64) (_ : Unit) => r9 = 0) (fun _ => bM D o cJ cI (aM o sz) 1 K V) (aM o sz)) 0 0 (aM o sz) := by
  refine xM_met (av := [.int f, .int t0]) (by decide) rfl (Nat.le_of_ble_eq_true rfl) ?_
  intro p e s m below meth c ls hC hsz hr hlocks hnm hnh had hl hI
  have hA : ∀ q, s.heap.size ≤ q → aM o sz q := fun q h => aM_new (by omega)
  have hx := hC.1.1
  have hb := hC.1.2.1
  have hml := hC.1.2.2.1
  have hown := hC.1.2.2.2.1
  have ht := hC.1.2.2.2.2
  have S := hC.1
  have hl : lv_has ls 3 [(0, .ref (o 0)), (1, .int f), (2, .int t0)] := hl
  refine lv_aload_n hx hb d_M_least_0 rfl (lv_at hl 0 rfl) ?_
  refine lv_iconst hx hb (v := 0) d_M_least_1 (by decide +kernel) ?_
  refine xM_put0 hC hI d_M_least_2 (fun H locs hI => ?_)
  refine lv_aload_n hx hb d_M_least_5 rfl (lv_at hl 0 rfl) ?_
  refine lv_iload_n hx hb d_M_least_6 rfl (lv_at hl 1 rfl) ?_
  refine lv_iload_n hx hb d_M_least_7 rfl (lv_at hl 2 rfl) ?_
  refine xS_calli (As := [.int f, .int t0]) (rest := [.ref (o 0)]) S c_M_isPart (cwS 2 ht gs_M_45 rfl rfl rfl ⟨rfl, by decide, by decide, by decide +kernel⟩ ⟨by decide, by decide⟩) rfl hl.1 rfl (Nat.le_of_ble_eq_true rfl) d_M_least_8 ⟨by decide, by decide⟩ ?_
  refine xw_i (y := 0) (h1) ?_
  refine lv_if_ne hx hb (tgt := 18) d_M_least_11 (by decide) (fun h11 => absurd (by decide) h11) (fun h11 => ?_)
  refine lv_iconst hx hb (v := 1) d_M_least_14 (by decide +kernel) ?_
  refine lv_goto hx hb (tgt := 19) d_M_least_15 (by decide) ?_
  refine lv_iconst hx hb (v := 1) d_M_least_19 (by decide +kernel) ?_
  refine xM_calli (As := [.int 1, .int 1]) (rest := []) hC hI hA (c_M_fails1 (by decide)) (cwV 2 ht gv_M_39 rfl rfl rfl ⟨rfl, by decide, by decide, by decide +kernel⟩ ⟨by decide, by decide⟩) rfl hl.1 rfl (Nat.le_of_ble_eq_true rfl) d_M_least_20 ⟨by decide, by decide⟩ (fun H locs hI _ _ => ?_)
  refine lv_if_ne hx hb (tgt := 51) d_M_least_23 (by decide) (fun h23 => ?_) (fun h23 => absurd h23 (by decide))
  refine lv_lconst hx hb (v := 0) d_M_least_51 (by decide +kernel) ?_
  refine lv_goto hx hb (tgt := 64) d_M_least_52 (by decide) ?_
  exact xM_lret hC hI hr hlocks d_M_least_64
set_option maxHeartbeats 4000000 in
set_option maxRecDepth 100000 in
/-- none -/
theorem c_M_least2 {l : Launch} {D : va_G} {o : Nat → Nat} {cJ cI : ClassId} {sz : Nat} {K : Nat → Int32} {V : Nat → Int64} {r : Int32} {fr to : Nat} (hft : fr ≤ to) (hto : to ≤ 256) (h1 : (m_ends K V (to - fr) fr (-1000000000000000)) = 0) : Met l y_M_least ws_M_least rm_M_least (va_Pc [.ref (o 0), .int (nI fr), .int (nI to)] (pM D o cJ cI sz r K V)) (va_Ql (fun (r9 : Int64) (_ : Unit) => r9 = 0) (fun _ => bM D o cJ cI (aM o sz) 2 K V) (aM o sz)) 0 0 (aM o sz) := by
  refine xM_met (av := [.int (nI fr), .int (nI to)]) (by decide) rfl (Nat.le_of_ble_eq_true rfl) ?_
  intro p e s m below meth c ls hC hsz hr hlocks hnm hnh had hl hI
  have hA : ∀ q, s.heap.size ≤ q → aM o sz q := fun q h => aM_new (by omega)
  have hx := hC.1.1
  have hb := hC.1.2.1
  have hml := hC.1.2.2.1
  have hown := hC.1.2.2.2.1
  have ht := hC.1.2.2.2.2
  have S := hC.1
  have hl : lv_has ls 3 [(0, .ref (o 0)), (1, .int (nI fr)), (2, .int (nI to))] := hl
  refine lv_aload_n hx hb d_M_least_0 rfl (lv_at hl 0 rfl) ?_
  refine lv_iconst hx hb (v := 0) d_M_least_1 (by decide +kernel) ?_
  refine xM_put0 hC hI d_M_least_2 (fun H locs hI => ?_)
  refine lv_aload_n hx hb d_M_least_5 rfl (lv_at hl 0 rfl) ?_
  refine lv_iload_n hx hb d_M_least_6 rfl (lv_at hl 1 rfl) ?_
  refine lv_iload_n hx hb d_M_least_7 rfl (lv_at hl 2 rfl) ?_
  refine xS_calli (As := [.int (nI fr), .int (nI to)]) (rest := [.ref (o 0)]) S c_M_isPart (cwS 2 ht gs_M_45 rfl rfl rfl ⟨rfl, by decide, by decide, by decide +kernel⟩ ⟨by decide, by decide⟩) rfl hl.1 rfl (Nat.le_of_ble_eq_true rfl) d_M_least_8 ⟨by decide, by decide⟩ ?_
  refine xw_i (y := 1) (m_pt_ok hft hto) ?_
  refine lv_if_ne hx hb (tgt := 18) d_M_least_11 (by decide) (fun h11 => ?_) (fun h11 => absurd h11 (by decide))
  refine lv_iconst hx hb (v := 0) d_M_least_18 (by decide +kernel) ?_
  refine lv_iconst hx hb (v := 1) d_M_least_19 (by decide +kernel) ?_
  refine xM_calli (As := [.int 0, .int 1]) (rest := []) hC hI hA c_M_fails0 (cwV 2 ht gv_M_39 rfl rfl rfl ⟨rfl, by decide, by decide, by decide +kernel⟩ ⟨by decide, by decide⟩) rfl hl.1 rfl (Nat.le_of_ble_eq_true rfl) d_M_least_20 ⟨by decide, by decide⟩ (fun H locs hI _ _ => ?_)
  refine lv_if_ne hx hb (tgt := 51) d_M_least_23 (by decide) (fun h23 => absurd (by decide) h23) (fun h23 => ?_)
  refine lv_aload_n hx hb d_M_least_26 rfl (lv_at hl 0 rfl) ?_
  refine lv_aload_n hx hb d_M_least_27 rfl (lv_at hl 0 rfl) ?_
  refine lv_iload_n hx hb d_M_least_28 rfl (lv_at hl 1 rfl) ?_
  refine lv_iload_n hx hb d_M_least_29 rfl (lv_at hl 2 rfl) ?_
  refine lv_ldc2 (v := (-1000000000000000)) hx hb hown (ht _ tw_348) d_M_least_30 ?_
  refine xM_calli (As := [.int (nI fr), .int (nI to), .long (-1000000000000000)]) (rest := [.ref (o 0)]) hC hI hA (c_M_ends hft hto) (cwV 3 ht gv_M_63 rfl rfl rfl ⟨rfl, by decide, by decide, by decide +kernel⟩ ⟨by decide, by decide⟩) rfl hl.1 rfl (Nat.le_of_ble_eq_true rfl) d_M_least_33 ⟨by decide, by decide⟩ (fun H locs hI _ _ => ?_)
  refine xw_i (y := 0) (h1) ?_
  refine lv_if_ne hx hb (tgt := 43) d_M_least_36 (by decide) (fun h36 => absurd (by decide) h36) (fun h36 => ?_)
  refine lv_iconst hx hb (v := 1) d_M_least_39 (by decide +kernel) ?_
  refine lv_goto hx hb (tgt := 44) d_M_least_40 (by decide) ?_
  refine lv_iconst hx hb (v := 2) d_M_least_44 (by decide +kernel) ?_
  refine xM_calli (As := [.int 1, .int 2]) (rest := []) hC hI hA (c_M_fails1 (by decide)) (cwV 2 ht gv_M_39 rfl rfl rfl ⟨rfl, by decide, by decide, by decide +kernel⟩ ⟨by decide, by decide⟩) rfl hl.1 rfl (Nat.le_of_ble_eq_true rfl) d_M_least_45 ⟨by decide, by decide⟩ (fun H locs hI _ _ => ?_)
  refine lv_if_eq hx hb (tgt := 55) d_M_least_48 (by decide) (fun h48 => absurd h48 (by decide)) (fun h48 => ?_)
  refine lv_lconst hx hb (v := 0) d_M_least_51 (by decide +kernel) ?_
  refine lv_goto hx hb (tgt := 64) d_M_least_52 (by decide) ?_
  exact xM_lret hC hI hr hlocks d_M_least_64
set_option maxHeartbeats 4000000 in
set_option maxRecDepth 100000 in
/-- least -/
theorem c_M_least3 {l : Launch} {D : va_G} {o : Nat → Nat} {cJ cI : ClassId} {sz : Nat} {K : Nat → Int32} {V : Nat → Int64} {r : Int32} {fr to : Nat} (hft : fr ≤ to) (hto : to ≤ 256) (h1 : (m_ends K V (to - fr) fr (-1000000000000000)) = 1) : Met l y_M_least ws_M_least rm_M_least (va_Pc [.ref (o 0), .int (nI fr), .int (nI to)] (pM D o cJ cI sz r K V)) (va_Ql (fun (r9 : Int64) (_ : Unit) => r9 = (m_made K V (to - fr) fr (-1000000000000000))) (fun _ => bM D o cJ cI (aM o sz) 0 K V) (aM o sz)) 0 0 (aM o sz) := by
  refine xM_met (av := [.int (nI fr), .int (nI to)]) (by decide) rfl (Nat.le_of_ble_eq_true rfl) ?_
  intro p e s m below meth c ls hC hsz hr hlocks hnm hnh had hl hI
  have hA : ∀ q, s.heap.size ≤ q → aM o sz q := fun q h => aM_new (by omega)
  have hx := hC.1.1
  have hb := hC.1.2.1
  have hml := hC.1.2.2.1
  have hown := hC.1.2.2.2.1
  have ht := hC.1.2.2.2.2
  have S := hC.1
  have hl : lv_has ls 3 [(0, .ref (o 0)), (1, .int (nI fr)), (2, .int (nI to))] := hl
  refine lv_aload_n hx hb d_M_least_0 rfl (lv_at hl 0 rfl) ?_
  refine lv_iconst hx hb (v := 0) d_M_least_1 (by decide +kernel) ?_
  refine xM_put0 hC hI d_M_least_2 (fun H locs hI => ?_)
  refine lv_aload_n hx hb d_M_least_5 rfl (lv_at hl 0 rfl) ?_
  refine lv_iload_n hx hb d_M_least_6 rfl (lv_at hl 1 rfl) ?_
  refine lv_iload_n hx hb d_M_least_7 rfl (lv_at hl 2 rfl) ?_
  refine xS_calli (As := [.int (nI fr), .int (nI to)]) (rest := [.ref (o 0)]) S c_M_isPart (cwS 2 ht gs_M_45 rfl rfl rfl ⟨rfl, by decide, by decide, by decide +kernel⟩ ⟨by decide, by decide⟩) rfl hl.1 rfl (Nat.le_of_ble_eq_true rfl) d_M_least_8 ⟨by decide, by decide⟩ ?_
  refine xw_i (y := 1) (m_pt_ok hft hto) ?_
  refine lv_if_ne hx hb (tgt := 18) d_M_least_11 (by decide) (fun h11 => ?_) (fun h11 => absurd h11 (by decide))
  refine lv_iconst hx hb (v := 0) d_M_least_18 (by decide +kernel) ?_
  refine lv_iconst hx hb (v := 1) d_M_least_19 (by decide +kernel) ?_
  refine xM_calli (As := [.int 0, .int 1]) (rest := []) hC hI hA c_M_fails0 (cwV 2 ht gv_M_39 rfl rfl rfl ⟨rfl, by decide, by decide, by decide +kernel⟩ ⟨by decide, by decide⟩) rfl hl.1 rfl (Nat.le_of_ble_eq_true rfl) d_M_least_20 ⟨by decide, by decide⟩ (fun H locs hI _ _ => ?_)
  refine lv_if_ne hx hb (tgt := 51) d_M_least_23 (by decide) (fun h23 => absurd (by decide) h23) (fun h23 => ?_)
  refine lv_aload_n hx hb d_M_least_26 rfl (lv_at hl 0 rfl) ?_
  refine lv_aload_n hx hb d_M_least_27 rfl (lv_at hl 0 rfl) ?_
  refine lv_iload_n hx hb d_M_least_28 rfl (lv_at hl 1 rfl) ?_
  refine lv_iload_n hx hb d_M_least_29 rfl (lv_at hl 2 rfl) ?_
  refine lv_ldc2 (v := (-1000000000000000)) hx hb hown (ht _ tw_348) d_M_least_30 ?_
  refine xM_calli (As := [.int (nI fr), .int (nI to), .long (-1000000000000000)]) (rest := [.ref (o 0)]) hC hI hA (c_M_ends hft hto) (cwV 3 ht gv_M_63 rfl rfl rfl ⟨rfl, by decide, by decide, by decide +kernel⟩ ⟨by decide, by decide⟩) rfl hl.1 rfl (Nat.le_of_ble_eq_true rfl) d_M_least_33 ⟨by decide, by decide⟩ (fun H locs hI _ _ => ?_)
  refine xw_i (y := 1) (h1) ?_
  refine lv_if_ne hx hb (tgt := 43) d_M_least_36 (by decide) (fun h36 => ?_) (fun h36 => absurd h36 (by decide))
  refine lv_iconst hx hb (v := 0) d_M_least_43 (by decide +kernel) ?_
  refine lv_iconst hx hb (v := 2) d_M_least_44 (by decide +kernel) ?_
  refine xM_calli (As := [.int 0, .int 2]) (rest := []) hC hI hA c_M_fails0 (cwV 2 ht gv_M_39 rfl rfl rfl ⟨rfl, by decide, by decide, by decide +kernel⟩ ⟨by decide, by decide⟩) rfl hl.1 rfl (Nat.le_of_ble_eq_true rfl) d_M_least_45 ⟨by decide, by decide⟩ (fun H locs hI _ _ => ?_)
  refine lv_if_eq hx hb (tgt := 55) d_M_least_48 (by decide) (fun h48 => ?_) (fun h48 => absurd (by decide) h48)
  refine lv_aload_n hx hb d_M_least_55 rfl (lv_at hl 0 rfl) ?_
  refine lv_iload_n hx hb d_M_least_56 rfl (lv_at hl 1 rfl) ?_
  refine lv_iload_n hx hb d_M_least_57 rfl (lv_at hl 2 rfl) ?_
  refine lv_ldc2 (v := (-1000000000000000)) hx hb hown (ht _ tw_348) d_M_least_58 ?_
  refine xM_calll (As := [.int (nI fr), .int (nI to), .long (-1000000000000000)]) (rest := []) hC hI hA (c_M_made hft hto) (cwV 3 ht gv_M_53 rfl rfl rfl ⟨rfl, by decide, by decide, by decide +kernel⟩ ⟨by decide, by decide⟩) rfl hl.1 rfl (Nat.le_of_ble_eq_true rfl) d_M_least_61 ⟨by decide, by decide⟩ (fun H locs hI _ _ => ?_)
  exact xM_lret hC hI hr hlocks d_M_least_64
set_option maxHeartbeats 4000000 in
set_option maxRecDepth 100000 in
/-- no part -/
theorem c_M_greatest1 {l : Launch} {D : va_G} {o : Nat → Nat} {cJ cI : ClassId} {sz : Nat} {K : Nat → Int32} {V : Nat → Int64} {r : Int32} {f t0 : Int32} (h1 : m_isPart f t0 = 0) : Met l y_M_greatest ws_M_greatest rm_M_greatest (va_Pc [.ref (o 0), .int f, .int t0] (pM D o cJ cI sz r K V)) (va_Ql (fun (r9 : Int64) (_ : Unit) => r9 = 0) (fun _ => bM D o cJ cI (aM o sz) 1 K V) (aM o sz)) 0 0 (aM o sz) := by
  refine xM_met (av := [.int f, .int t0]) (by decide) rfl (Nat.le_of_ble_eq_true rfl) ?_
  intro p e s m below meth c ls hC hsz hr hlocks hnm hnh had hl hI
  have hA : ∀ q, s.heap.size ≤ q → aM o sz q := fun q h => aM_new (by omega)
  have hx := hC.1.1
  have hb := hC.1.2.1
  have hml := hC.1.2.2.1
  have hown := hC.1.2.2.2.1
  have ht := hC.1.2.2.2.2
  have S := hC.1
  have hl : lv_has ls 3 [(0, .ref (o 0)), (1, .int f), (2, .int t0)] := hl
  refine lv_aload_n hx hb d_M_greatest_0 rfl (lv_at hl 0 rfl) ?_
  refine lv_iconst hx hb (v := 0) d_M_greatest_1 (by decide +kernel) ?_
  refine xM_put0 hC hI d_M_greatest_2 (fun H locs hI => ?_)
  refine lv_aload_n hx hb d_M_greatest_5 rfl (lv_at hl 0 rfl) ?_
  refine lv_iload_n hx hb d_M_greatest_6 rfl (lv_at hl 1 rfl) ?_
  refine lv_iload_n hx hb d_M_greatest_7 rfl (lv_at hl 2 rfl) ?_
  refine xS_calli (As := [.int f, .int t0]) (rest := [.ref (o 0)]) S c_M_isPart (cwS 2 ht gs_M_45 rfl rfl rfl ⟨rfl, by decide, by decide, by decide +kernel⟩ ⟨by decide, by decide⟩) rfl hl.1 rfl (Nat.le_of_ble_eq_true rfl) d_M_greatest_8 ⟨by decide, by decide⟩ ?_
  refine xw_i (y := 0) (h1) ?_
  refine lv_if_ne hx hb (tgt := 18) d_M_greatest_11 (by decide) (fun h11 => absurd (by decide) h11) (fun h11 => ?_)
  refine lv_iconst hx hb (v := 1) d_M_greatest_14 (by decide +kernel) ?_
  refine lv_goto hx hb (tgt := 19) d_M_greatest_15 (by decide) ?_
  refine lv_iconst hx hb (v := 1) d_M_greatest_19 (by decide +kernel) ?_
  refine xM_calli (As := [.int 1, .int 1]) (rest := []) hC hI hA (c_M_fails1 (by decide)) (cwV 2 ht gv_M_39 rfl rfl rfl ⟨rfl, by decide, by decide, by decide +kernel⟩ ⟨by decide, by decide⟩) rfl hl.1 rfl (Nat.le_of_ble_eq_true rfl) d_M_greatest_20 ⟨by decide, by decide⟩ (fun H locs hI _ _ => ?_)
  refine lv_if_ne hx hb (tgt := 51) d_M_greatest_23 (by decide) (fun h23 => ?_) (fun h23 => absurd h23 (by decide))
  refine lv_lconst hx hb (v := 0) d_M_greatest_51 (by decide +kernel) ?_
  refine lv_goto hx hb (tgt := 64) d_M_greatest_52 (by decide) ?_
  exact xM_lret hC hI hr hlocks d_M_greatest_64
set_option maxHeartbeats 4000000 in
set_option maxRecDepth 100000 in
/-- none -/
theorem c_M_greatest2 {l : Launch} {D : va_G} {o : Nat → Nat} {cJ cI : ClassId} {sz : Nat} {K : Nat → Int32} {V : Nat → Int64} {r : Int32} {fr to : Nat} (hft : fr ≤ to) (hto : to ≤ 256) (h1 : (m_ends K V (to - fr) fr 1000000000000000) = 0) : Met l y_M_greatest ws_M_greatest rm_M_greatest (va_Pc [.ref (o 0), .int (nI fr), .int (nI to)] (pM D o cJ cI sz r K V)) (va_Ql (fun (r9 : Int64) (_ : Unit) => r9 = 0) (fun _ => bM D o cJ cI (aM o sz) 2 K V) (aM o sz)) 0 0 (aM o sz) := by
  refine xM_met (av := [.int (nI fr), .int (nI to)]) (by decide) rfl (Nat.le_of_ble_eq_true rfl) ?_
  intro p e s m below meth c ls hC hsz hr hlocks hnm hnh had hl hI
  have hA : ∀ q, s.heap.size ≤ q → aM o sz q := fun q h => aM_new (by omega)
  have hx := hC.1.1
  have hb := hC.1.2.1
  have hml := hC.1.2.2.1
  have hown := hC.1.2.2.2.1
  have ht := hC.1.2.2.2.2
  have S := hC.1
  have hl : lv_has ls 3 [(0, .ref (o 0)), (1, .int (nI fr)), (2, .int (nI to))] := hl
  refine lv_aload_n hx hb d_M_greatest_0 rfl (lv_at hl 0 rfl) ?_
  refine lv_iconst hx hb (v := 0) d_M_greatest_1 (by decide +kernel) ?_
  refine xM_put0 hC hI d_M_greatest_2 (fun H locs hI => ?_)
  refine lv_aload_n hx hb d_M_greatest_5 rfl (lv_at hl 0 rfl) ?_
  refine lv_iload_n hx hb d_M_greatest_6 rfl (lv_at hl 1 rfl) ?_
  refine lv_iload_n hx hb d_M_greatest_7 rfl (lv_at hl 2 rfl) ?_
  refine xS_calli (As := [.int (nI fr), .int (nI to)]) (rest := [.ref (o 0)]) S c_M_isPart (cwS 2 ht gs_M_45 rfl rfl rfl ⟨rfl, by decide, by decide, by decide +kernel⟩ ⟨by decide, by decide⟩) rfl hl.1 rfl (Nat.le_of_ble_eq_true rfl) d_M_greatest_8 ⟨by decide, by decide⟩ ?_
  refine xw_i (y := 1) (m_pt_ok hft hto) ?_
  refine lv_if_ne hx hb (tgt := 18) d_M_greatest_11 (by decide) (fun h11 => ?_) (fun h11 => absurd h11 (by decide))
  refine lv_iconst hx hb (v := 0) d_M_greatest_18 (by decide +kernel) ?_
  refine lv_iconst hx hb (v := 1) d_M_greatest_19 (by decide +kernel) ?_
  refine xM_calli (As := [.int 0, .int 1]) (rest := []) hC hI hA c_M_fails0 (cwV 2 ht gv_M_39 rfl rfl rfl ⟨rfl, by decide, by decide, by decide +kernel⟩ ⟨by decide, by decide⟩) rfl hl.1 rfl (Nat.le_of_ble_eq_true rfl) d_M_greatest_20 ⟨by decide, by decide⟩ (fun H locs hI _ _ => ?_)
  refine lv_if_ne hx hb (tgt := 51) d_M_greatest_23 (by decide) (fun h23 => absurd (by decide) h23) (fun h23 => ?_)
  refine lv_aload_n hx hb d_M_greatest_26 rfl (lv_at hl 0 rfl) ?_
  refine lv_aload_n hx hb d_M_greatest_27 rfl (lv_at hl 0 rfl) ?_
  refine lv_iload_n hx hb d_M_greatest_28 rfl (lv_at hl 1 rfl) ?_
  refine lv_iload_n hx hb d_M_greatest_29 rfl (lv_at hl 2 rfl) ?_
  refine lv_ldc2 (v := 1000000000000000) hx hb hown (ht _ tw_358) d_M_greatest_30 ?_
  refine xM_calli (As := [.int (nI fr), .int (nI to), .long 1000000000000000]) (rest := [.ref (o 0)]) hC hI hA (c_M_ends hft hto) (cwV 3 ht gv_M_63 rfl rfl rfl ⟨rfl, by decide, by decide, by decide +kernel⟩ ⟨by decide, by decide⟩) rfl hl.1 rfl (Nat.le_of_ble_eq_true rfl) d_M_greatest_33 ⟨by decide, by decide⟩ (fun H locs hI _ _ => ?_)
  refine xw_i (y := 0) (h1) ?_
  refine lv_if_ne hx hb (tgt := 43) d_M_greatest_36 (by decide) (fun h36 => absurd (by decide) h36) (fun h36 => ?_)
  refine lv_iconst hx hb (v := 1) d_M_greatest_39 (by decide +kernel) ?_
  refine lv_goto hx hb (tgt := 44) d_M_greatest_40 (by decide) ?_
  refine lv_iconst hx hb (v := 2) d_M_greatest_44 (by decide +kernel) ?_
  refine xM_calli (As := [.int 1, .int 2]) (rest := []) hC hI hA (c_M_fails1 (by decide)) (cwV 2 ht gv_M_39 rfl rfl rfl ⟨rfl, by decide, by decide, by decide +kernel⟩ ⟨by decide, by decide⟩) rfl hl.1 rfl (Nat.le_of_ble_eq_true rfl) d_M_greatest_45 ⟨by decide, by decide⟩ (fun H locs hI _ _ => ?_)
  refine lv_if_eq hx hb (tgt := 55) d_M_greatest_48 (by decide) (fun h48 => absurd h48 (by decide)) (fun h48 => ?_)
  refine lv_lconst hx hb (v := 0) d_M_greatest_51 (by decide +kernel) ?_
  refine lv_goto hx hb (tgt := 64) d_M_greatest_52 (by decide) ?_
  exact xM_lret hC hI hr hlocks d_M_greatest_64
set_option maxHeartbeats 4000000 in
set_option maxRecDepth 100000 in
/-- greatest -/
theorem c_M_greatest3 {l : Launch} {D : va_G} {o : Nat → Nat} {cJ cI : ClassId} {sz : Nat} {K : Nat → Int32} {V : Nat → Int64} {r : Int32} {fr to : Nat} (hft : fr ≤ to) (hto : to ≤ 256) (h1 : (m_ends K V (to - fr) fr 1000000000000000) = 1) : Met l y_M_greatest ws_M_greatest rm_M_greatest (va_Pc [.ref (o 0), .int (nI fr), .int (nI to)] (pM D o cJ cI sz r K V)) (va_Ql (fun (r9 : Int64) (_ : Unit) => r9 = (m_made K V (to - fr) fr 1000000000000000)) (fun _ => bM D o cJ cI (aM o sz) 0 K V) (aM o sz)) 0 0 (aM o sz) := by
  refine xM_met (av := [.int (nI fr), .int (nI to)]) (by decide) rfl (Nat.le_of_ble_eq_true rfl) ?_
  intro p e s m below meth c ls hC hsz hr hlocks hnm hnh had hl hI
  have hA : ∀ q, s.heap.size ≤ q → aM o sz q := fun q h => aM_new (by omega)
  have hx := hC.1.1
  have hb := hC.1.2.1
  have hml := hC.1.2.2.1
  have hown := hC.1.2.2.2.1
  have ht := hC.1.2.2.2.2
  have S := hC.1
  have hl : lv_has ls 3 [(0, .ref (o 0)), (1, .int (nI fr)), (2, .int (nI to))] := hl
  refine lv_aload_n hx hb d_M_greatest_0 rfl (lv_at hl 0 rfl) ?_
  refine lv_iconst hx hb (v := 0) d_M_greatest_1 (by decide +kernel) ?_
  refine xM_put0 hC hI d_M_greatest_2 (fun H locs hI => ?_)
  refine lv_aload_n hx hb d_M_greatest_5 rfl (lv_at hl 0 rfl) ?_
  refine lv_iload_n hx hb d_M_greatest_6 rfl (lv_at hl 1 rfl) ?_
  refine lv_iload_n hx hb d_M_greatest_7 rfl (lv_at hl 2 rfl) ?_
  refine xS_calli (As := [.int (nI fr), .int (nI to)]) (rest := [.ref (o 0)]) S c_M_isPart (cwS 2 ht gs_M_45 rfl rfl rfl ⟨rfl, by decide, by decide, by decide +kernel⟩ ⟨by decide, by decide⟩) rfl hl.1 rfl (Nat.le_of_ble_eq_true rfl) d_M_greatest_8 ⟨by decide, by decide⟩ ?_
  refine xw_i (y := 1) (m_pt_ok hft hto) ?_
  refine lv_if_ne hx hb (tgt := 18) d_M_greatest_11 (by decide) (fun h11 => ?_) (fun h11 => absurd h11 (by decide))
  refine lv_iconst hx hb (v := 0) d_M_greatest_18 (by decide +kernel) ?_
  refine lv_iconst hx hb (v := 1) d_M_greatest_19 (by decide +kernel) ?_
  refine xM_calli (As := [.int 0, .int 1]) (rest := []) hC hI hA c_M_fails0 (cwV 2 ht gv_M_39 rfl rfl rfl ⟨rfl, by decide, by decide, by decide +kernel⟩ ⟨by decide, by decide⟩) rfl hl.1 rfl (Nat.le_of_ble_eq_true rfl) d_M_greatest_20 ⟨by decide, by decide⟩ (fun H locs hI _ _ => ?_)
  refine lv_if_ne hx hb (tgt := 51) d_M_greatest_23 (by decide) (fun h23 => absurd (by decide) h23) (fun h23 => ?_)
  refine lv_aload_n hx hb d_M_greatest_26 rfl (lv_at hl 0 rfl) ?_
  refine lv_aload_n hx hb d_M_greatest_27 rfl (lv_at hl 0 rfl) ?_
  refine lv_iload_n hx hb d_M_greatest_28 rfl (lv_at hl 1 rfl) ?_
  refine lv_iload_n hx hb d_M_greatest_29 rfl (lv_at hl 2 rfl) ?_
  refine lv_ldc2 (v := 1000000000000000) hx hb hown (ht _ tw_358) d_M_greatest_30 ?_
  refine xM_calli (As := [.int (nI fr), .int (nI to), .long 1000000000000000]) (rest := [.ref (o 0)]) hC hI hA (c_M_ends hft hto) (cwV 3 ht gv_M_63 rfl rfl rfl ⟨rfl, by decide, by decide, by decide +kernel⟩ ⟨by decide, by decide⟩) rfl hl.1 rfl (Nat.le_of_ble_eq_true rfl) d_M_greatest_33 ⟨by decide, by decide⟩ (fun H locs hI _ _ => ?_)
  refine xw_i (y := 1) (h1) ?_
  refine lv_if_ne hx hb (tgt := 43) d_M_greatest_36 (by decide) (fun h36 => ?_) (fun h36 => absurd h36 (by decide))
  refine lv_iconst hx hb (v := 0) d_M_greatest_43 (by decide +kernel) ?_
  refine lv_iconst hx hb (v := 2) d_M_greatest_44 (by decide +kernel) ?_
  refine xM_calli (As := [.int 0, .int 2]) (rest := []) hC hI hA c_M_fails0 (cwV 2 ht gv_M_39 rfl rfl rfl ⟨rfl, by decide, by decide, by decide +kernel⟩ ⟨by decide, by decide⟩) rfl hl.1 rfl (Nat.le_of_ble_eq_true rfl) d_M_greatest_45 ⟨by decide, by decide⟩ (fun H locs hI _ _ => ?_)
  refine lv_if_eq hx hb (tgt := 55) d_M_greatest_48 (by decide) (fun h48 => ?_) (fun h48 => absurd (by decide) h48)
  refine lv_aload_n hx hb d_M_greatest_55 rfl (lv_at hl 0 rfl) ?_
  refine lv_iload_n hx hb d_M_greatest_56 rfl (lv_at hl 1 rfl) ?_
  refine lv_iload_n hx hb d_M_greatest_57 rfl (lv_at hl 2 rfl) ?_
  refine lv_ldc2 (v := 1000000000000000) hx hb hown (ht _ tw_358) d_M_greatest_58 ?_
  refine xM_calll (As := [.int (nI fr), .int (nI to), .long 1000000000000000]) (rest := []) hC hI hA (c_M_made hft hto) (cwV 3 ht gv_M_53 rfl rfl rfl ⟨rfl, by decide, by decide, by decide +kernel⟩ ⟨by decide, by decide⟩) rfl hl.1 rfl (Nat.le_of_ble_eq_true rfl) d_M_greatest_61 ⟨by decide, by decide⟩ (fun H locs hI _ _ => ?_)
  exact xM_lret hC hI hr hlocks d_M_greatest_64
set_option maxHeartbeats 4000000 in
set_option maxRecDepth 100000 in
/-- no part -/
theorem c_M_fixed1 {l : Launch} {D : va_G} {o : Nat → Nat} {cJ cI : ClassId} {sz : Nat} {K : Nat → Int32} {V : Nat → Int64} {r : Int32} {f t0 w : Int32} (h1 : m_isPart f t0 = 0) : Met l y_M_fixed ws_M_fixed rm_M_fixed (va_Pc [.ref (o 0), .int f, .int t0, .int w] (pM D o cJ cI sz r K V)) (va_Ql (fun (r9 : Int64) (_ : Unit) => r9 = 0) (fun _ => bM D o cJ cI (aM o sz) 1 K V) (aM o sz)) 0 0 (aM o sz) := by
  refine xM_met (av := [.int f, .int t0, .int w]) (by decide) rfl (Nat.le_of_ble_eq_true rfl) ?_
  intro p e s m below meth c ls hC hsz hr hlocks hnm hnh had hl hI
  have hA : ∀ q, s.heap.size ≤ q → aM o sz q := fun q h => aM_new (by omega)
  have hx := hC.1.1
  have hb := hC.1.2.1
  have hml := hC.1.2.2.1
  have hown := hC.1.2.2.2.1
  have ht := hC.1.2.2.2.2
  have S := hC.1
  have hl : lv_has ls 9 [(0, .ref (o 0)), (1, .int f), (2, .int t0), (3, .int w)] := hl
  refine lv_aload_n hx hb d_M_fixed_0 rfl (lv_at hl 0 rfl) ?_
  refine lv_iconst hx hb (v := 0) d_M_fixed_1 (by decide +kernel) ?_
  refine xM_put0 hC hI d_M_fixed_2 (fun H locs hI => ?_)
  refine lv_aload_n hx hb d_M_fixed_5 rfl (lv_at hl 0 rfl) ?_
  refine lv_iload_n hx hb d_M_fixed_6 rfl (lv_at hl 1 rfl) ?_
  refine lv_iload_n hx hb d_M_fixed_7 rfl (lv_at hl 2 rfl) ?_
  refine xS_calli (As := [.int f, .int t0]) (rest := [.ref (o 0)]) S c_M_isPart (cwS 2 ht gs_M_45 rfl rfl rfl ⟨rfl, by decide, by decide, by decide +kernel⟩ ⟨by decide, by decide⟩) rfl hl.1 rfl (Nat.le_of_ble_eq_true rfl) d_M_fixed_8 ⟨by decide, by decide⟩ ?_
  refine xw_i (y := 0) (h1) ?_
  refine lv_if_ne hx hb (tgt := 18) d_M_fixed_11 (by decide) (fun h11 => absurd (by decide) h11) (fun h11 => ?_)
  refine lv_iconst hx hb (v := 1) d_M_fixed_14 (by decide +kernel) ?_
  refine lv_goto hx hb (tgt := 19) d_M_fixed_15 (by decide) ?_
  refine lv_iconst hx hb (v := 1) d_M_fixed_19 (by decide +kernel) ?_
  refine xM_calli (As := [.int 1, .int 1]) (rest := []) hC hI hA (c_M_fails1 (by decide)) (cwV 2 ht gv_M_39 rfl rfl rfl ⟨rfl, by decide, by decide, by decide +kernel⟩ ⟨by decide, by decide⟩) rfl hl.1 rfl (Nat.le_of_ble_eq_true rfl) d_M_fixed_20 ⟨by decide, by decide⟩ (fun H locs hI _ _ => ?_)
  refine lv_if_eq hx hb (tgt := 28) d_M_fixed_23 (by decide) (fun h23 => absurd h23 (by decide)) (fun h23 => ?_)
  refine lv_lconst hx hb (v := 0) d_M_fixed_26 (by decide +kernel) ?_
  exact xM_lret hC hI hr hlocks d_M_fixed_27
set_option maxHeartbeats 4000000 in
set_option maxRecDepth 100000 in
/-- fixed -/
theorem c_M_fixed2 {l : Launch} {D : va_G} {o : Nat → Nat} {cJ cI : ClassId} {sz : Nat} {K : Nat → Int32} {V : Nat → Int64} {r : Int32} {fr to : Nat} (hft : fr ≤ to) (hto : to ≤ 256) {w : Int32} (hw : w = 0) : Met l y_M_fixed ws_M_fixed rm_M_fixed (va_Pc [.ref (o 0), .int (nI fr), .int (nI to), .int w] (pM D o cJ cI sz r K V)) (va_Ql (fun (r9 : Int64) (_ : Unit) => r9 = (m_fixR K V (to - fr) fr (-1000000000000000)).2) (fun _ => bM D o cJ cI (aM o sz) ((m_fixR K V (to - fr) fr (-1000000000000000)).1) K V) (aM o sz)) 0 0 (aM o sz) := by
  refine xM_met (av := [.int (nI fr), .int (nI to), .int w]) (by decide) rfl (Nat.le_of_ble_eq_true rfl) ?_
  intro p e s m below meth c ls hC hsz hr hlocks hnm hnh had hl hI
  have hA : ∀ q, s.heap.size ≤ q → aM o sz q := fun q h => aM_new (by omega)
  have hx := hC.1.1
  have hb := hC.1.2.1
  have hml := hC.1.2.2.1
  have hown := hC.1.2.2.2.1
  have ht := hC.1.2.2.2.2
  have S := hC.1
  have hl : lv_has ls 9 [(0, .ref (o 0)), (1, .int (nI fr)), (2, .int (nI to)), (3, .int w)] := hl
  refine lv_aload_n hx hb d_M_fixed_0 rfl (lv_at hl 0 rfl) ?_
  refine lv_iconst hx hb (v := 0) d_M_fixed_1 (by decide +kernel) ?_
  refine xM_put0 hC hI d_M_fixed_2 (fun H locs hI => ?_)
  refine lv_aload_n hx hb d_M_fixed_5 rfl (lv_at hl 0 rfl) ?_
  refine lv_iload_n hx hb d_M_fixed_6 rfl (lv_at hl 1 rfl) ?_
  refine lv_iload_n hx hb d_M_fixed_7 rfl (lv_at hl 2 rfl) ?_
  refine xS_calli (As := [.int (nI fr), .int (nI to)]) (rest := [.ref (o 0)]) S c_M_isPart (cwS 2 ht gs_M_45 rfl rfl rfl ⟨rfl, by decide, by decide, by decide +kernel⟩ ⟨by decide, by decide⟩) rfl hl.1 rfl (Nat.le_of_ble_eq_true rfl) d_M_fixed_8 ⟨by decide, by decide⟩ ?_
  refine xw_i (y := 1) (m_pt_ok hft hto) ?_
  refine lv_if_ne hx hb (tgt := 18) d_M_fixed_11 (by decide) (fun h11 => ?_) (fun h11 => absurd h11 (by decide))
  refine lv_iconst hx hb (v := 0) d_M_fixed_18 (by decide +kernel) ?_
  refine lv_iconst hx hb (v := 1) d_M_fixed_19 (by decide +kernel) ?_
  refine xM_calli (As := [.int 0, .int 1]) (rest := []) hC hI hA c_M_fails0 (cwV 2 ht gv_M_39 rfl rfl rfl ⟨rfl, by decide, by decide, by decide +kernel⟩ ⟨by decide, by decide⟩) rfl hl.1 rfl (Nat.le_of_ble_eq_true rfl) d_M_fixed_20 ⟨by decide, by decide⟩ (fun H locs hI _ _ => ?_)
  refine lv_if_eq hx hb (tgt := 28) d_M_fixed_23 (by decide) (fun h23 => ?_) (fun h23 => absurd (by decide) h23)
  refine lv_iload_n hx hb d_M_fixed_28 rfl (lv_at hl 3 rfl) ?_
  refine lv_if_eq hx hb (tgt := 38) d_M_fixed_29 (by decide) (fun h29 => ?_) (fun h29 => absurd hw h29)
  refine lv_ldc2 (v := (-1000000000000000)) hx hb hown (ht _ tw_348) d_M_fixed_38 ?_
  refine lv_lstore hx hb d_M_fixed_41 hl (by decide) (lv' := [(4, .long (-1000000000000000)), (0, .ref (o 0)), (1, .int (nI fr)), (2, .int (nI to)), (3, .int w)]) rfl (fun ls hl => ?_)
  refine lv_aload_n hx hb d_M_fixed_43 rfl (lv_at hl 1 rfl) ?_
  refine lv_aload_n hx hb d_M_fixed_44 rfl (lv_at hl 1 rfl) ?_
  refine lv_iload_n hx hb d_M_fixed_45 rfl (lv_at hl 2 rfl) ?_
  refine lv_iload_n hx hb d_M_fixed_46 rfl (lv_at hl 3 rfl) ?_
  refine lv_lload hx hb d_M_fixed_47 (lv_at hl 0 rfl) ?_
  refine xM_calll (As := [.int (nI fr), .int (nI to), .long (-1000000000000000)]) (rest := [.ref (o 0)]) hC hI hA (c_M_made hft hto) (cwV 3 ht gv_M_53 rfl rfl rfl ⟨rfl, by decide, by decide, by decide +kernel⟩ ⟨by decide, by decide⟩) rfl hl.1 rfl (Nat.le_of_ble_eq_true rfl) d_M_fixed_49 ⟨by decide, by decide⟩ (fun H locs hI _ _ => ?_)
  refine lv_lload hx hb d_M_fixed_52 (lv_at hl 0 rfl) ?_
  refine W.lcmp hx hb d_M_fixed_54 ?_
  refine lv_if_ne hx hb (tgt := 62) d_M_fixed_55 (by decide) (fun h55 => ?_) (fun h55 => ?_)
  · skip
    refine lv_iconst hx hb (v := 0) d_M_fixed_62 (by decide +kernel) ?_
    refine lv_iconst hx hb (v := 2) d_M_fixed_63 (by decide +kernel) ?_
    refine xM_calli (As := [.int 0, .int 2]) (rest := []) hC hI hA c_M_fails0 (cwV 2 ht gv_M_39 rfl rfl rfl ⟨rfl, by decide, by decide, by decide +kernel⟩ ⟨by decide, by decide⟩) rfl hl.1 rfl (Nat.le_of_ble_eq_true rfl) d_M_fixed_64 ⟨by decide, by decide⟩ (fun H locs hI _ _ => ?_)
    refine lv_if_eq hx hb (tgt := 72) d_M_fixed_67 (by decide) (fun h67 => ?_) (fun h67 => absurd (by decide) h67)
    refine lv_iconst hx hb (v := 0) d_M_fixed_72 (by decide +kernel) ?_
    refine lv_istore hx hb d_M_fixed_73 hl (by decide) (lv' := [(6, .int 0), (4, .long (-1000000000000000)), (0, .ref (o 0)), (1, .int (nI fr)), (2, .int (nI to)), (3, .int w)]) rfl (fun ls hl => ?_)
    refine lv_iload hx hb d_M_fixed_75 (lv_at hl 0 rfl) ?_
    refine lv_iconst hx hb (v := 2) d_M_fixed_77 (by decide +kernel) ?_
    refine lv_icmp_ge hx hb (tgt := 133) d_M_fixed_78 (by decide) (fun h78 => absurd h78 (by decide)) (fun h78 => ?_)
    refine lv_aload_n hx hb d_M_fixed_81 rfl (lv_at hl 2 rfl) ?_
    refine lv_iload_n hx hb d_M_fixed_82 rfl (lv_at hl 3 rfl) ?_
    refine lv_iload_n hx hb d_M_fixed_83 rfl (lv_at hl 4 rfl) ?_
    refine lv_lload hx hb d_M_fixed_84 (lv_at hl 1 rfl) ?_
    refine xM_calli (As := [.int (nI fr), .int (nI to), .long (-1000000000000000)]) (rest := []) hC hI hA (c_M_ends hft hto) (cwV 3 ht gv_M_63 rfl rfl rfl ⟨rfl, by decide, by decide, by decide +kernel⟩ ⟨by decide, by decide⟩) rfl hl.1 rfl (Nat.le_of_ble_eq_true rfl) d_M_fixed_86 ⟨by decide, by decide⟩ (fun H locs hI _ _ => ?_)
    refine lv_if_ne hx hb (tgt := 95) d_M_fixed_89 (by decide) (fun h89_1 => ?_) (fun h89_1 => ?_)
    · skip
      refine lv_aload_n hx hb d_M_fixed_95 rfl (lv_at hl 2 rfl) ?_
      refine lv_iload_n hx hb d_M_fixed_96 rfl (lv_at hl 3 rfl) ?_
      refine lv_iload_n hx hb d_M_fixed_97 rfl (lv_at hl 4 rfl) ?_
      refine lv_lload hx hb d_M_fixed_98 (lv_at hl 1 rfl) ?_
      refine xM_calll (As := [.int (nI fr), .int (nI to), .long (-1000000000000000)]) (rest := []) hC hI hA (c_M_made hft hto) (cwV 3 ht gv_M_53 rfl rfl rfl ⟨rfl, by decide, by decide, by decide +kernel⟩ ⟨by decide, by decide⟩) rfl hl.1 rfl (Nat.le_of_ble_eq_true rfl) d_M_fixed_100 ⟨by decide, by decide⟩ (fun H locs hI _ _ => ?_)
      refine lv_lstore hx hb d_M_fixed_103 hl (by decide) (lv' := [(7, .long (m_made K V (to - fr) fr (-1000000000000000))), (6, .int 0), (4, .long (-1000000000000000)), (0, .ref (o 0)), (1, .int (nI fr)), (2, .int (nI to)), (3, .int w)]) rfl (fun ls hl => ?_)
      refine lv_aload_n hx hb d_M_fixed_105 rfl (lv_at hl 3 rfl) ?_
      refine lv_iload_n hx hb d_M_fixed_106 rfl (lv_at hl 4 rfl) ?_
      refine lv_iload_n hx hb d_M_fixed_107 rfl (lv_at hl 5 rfl) ?_
      refine lv_lload hx hb d_M_fixed_108 (lv_at hl 0 rfl) ?_
      refine xM_calll (As := [.int (nI fr), .int (nI to), .long (m_made K V (to - fr) fr (-1000000000000000))]) (rest := []) hC hI hA (c_M_made hft hto) (cwV 3 ht gv_M_53 rfl rfl rfl ⟨rfl, by decide, by decide, by decide +kernel⟩ ⟨by decide, by decide⟩) rfl hl.1 rfl (Nat.le_of_ble_eq_true rfl) d_M_fixed_110 ⟨by decide, by decide⟩ (fun H locs hI _ _ => ?_)
      refine lv_lload hx hb d_M_fixed_113 (lv_at hl 0 rfl) ?_
      refine W.lcmp hx hb d_M_fixed_115 ?_
      refine lv_if_ne hx hb (tgt := 122) d_M_fixed_116 (by decide) (fun h116_1 => ?_) (fun h116_1 => ?_)
      · skip
        refine lv_iinc (k := 1) hx hb d_M_fixed_122 hl rfl (by decide) (by decide) (lv' := [(6, .int 1), (7, .long (m_made K V (to - fr) fr (-1000000000000000))), (4, .long (-1000000000000000)), (0, .ref (o 0)), (1, .int (nI fr)), (2, .int (nI to)), (3, .int w)]) rfl (fun ls hl => ?_)
        refine lv_lload hx hb d_M_fixed_125 (lv_at hl 2 rfl) ?_
        refine lv_lneg hx hb d_M_fixed_127 ?_
        refine xw_l (y := 1000000000000000) (by decide) ?_
        refine lv_lstore hx hb d_M_fixed_128 hl (by decide) (lv' := [(4, .long 1000000000000000), (6, .int 1), (7, .long (m_made K V (to - fr) fr (-1000000000000000))), (0, .ref (o 0)), (1, .int (nI fr)), (2, .int (nI to)), (3, .int w)]) rfl (fun ls hl => ?_)
        refine lv_goto hx hb (tgt := 75) d_M_fixed_130 (by decide) ?_
        refine lv_iload hx hb d_M_fixed_75 (lv_at hl 1 rfl) ?_
        refine lv_iconst hx hb (v := 2) d_M_fixed_77 (by decide +kernel) ?_
        refine lv_icmp_ge hx hb (tgt := 133) d_M_fixed_78 (by decide) (fun h78 => absurd h78 (by decide)) (fun h78 => ?_)
        refine lv_aload_n hx hb d_M_fixed_81 rfl (lv_at hl 3 rfl) ?_
        refine lv_iload_n hx hb d_M_fixed_82 rfl (lv_at hl 4 rfl) ?_
        refine lv_iload_n hx hb d_M_fixed_83 rfl (lv_at hl 5 rfl) ?_
        refine lv_lload hx hb d_M_fixed_84 (lv_at hl 0 rfl) ?_
        refine xM_calli (As := [.int (nI fr), .int (nI to), .long 1000000000000000]) (rest := []) hC hI hA (c_M_ends hft hto) (cwV 3 ht gv_M_63 rfl rfl rfl ⟨rfl, by decide, by decide, by decide +kernel⟩ ⟨by decide, by decide⟩) rfl hl.1 rfl (Nat.le_of_ble_eq_true rfl) d_M_fixed_86 ⟨by decide, by decide⟩ (fun H locs hI _ _ => ?_)
        refine lv_if_ne hx hb (tgt := 95) d_M_fixed_89 (by decide) (fun h89_2 => ?_) (fun h89_2 => ?_)
        · skip
          refine lv_aload_n hx hb d_M_fixed_95 rfl (lv_at hl 3 rfl) ?_
          refine lv_iload_n hx hb d_M_fixed_96 rfl (lv_at hl 4 rfl) ?_
          refine lv_iload_n hx hb d_M_fixed_97 rfl (lv_at hl 5 rfl) ?_
          refine lv_lload hx hb d_M_fixed_98 (lv_at hl 0 rfl) ?_
          refine xM_calll (As := [.int (nI fr), .int (nI to), .long 1000000000000000]) (rest := []) hC hI hA (c_M_made hft hto) (cwV 3 ht gv_M_53 rfl rfl rfl ⟨rfl, by decide, by decide, by decide +kernel⟩ ⟨by decide, by decide⟩) rfl hl.1 rfl (Nat.le_of_ble_eq_true rfl) d_M_fixed_100 ⟨by decide, by decide⟩ (fun H locs hI _ _ => ?_)
          refine lv_lstore hx hb d_M_fixed_103 hl (by decide) (lv' := [(7, .long (m_made K V (to - fr) fr 1000000000000000)), (4, .long 1000000000000000), (6, .int 1), (0, .ref (o 0)), (1, .int (nI fr)), (2, .int (nI to)), (3, .int w)]) rfl (fun ls hl => ?_)
          refine lv_aload_n hx hb d_M_fixed_105 rfl (lv_at hl 3 rfl) ?_
          refine lv_iload_n hx hb d_M_fixed_106 rfl (lv_at hl 4 rfl) ?_
          refine lv_iload_n hx hb d_M_fixed_107 rfl (lv_at hl 5 rfl) ?_
          refine lv_lload hx hb d_M_fixed_108 (lv_at hl 0 rfl) ?_
          refine xM_calll (As := [.int (nI fr), .int (nI to), .long (m_made K V (to - fr) fr 1000000000000000)]) (rest := []) hC hI hA (c_M_made hft hto) (cwV 3 ht gv_M_53 rfl rfl rfl ⟨rfl, by decide, by decide, by decide +kernel⟩ ⟨by decide, by decide⟩) rfl hl.1 rfl (Nat.le_of_ble_eq_true rfl) d_M_fixed_110 ⟨by decide, by decide⟩ (fun H locs hI _ _ => ?_)
          refine lv_lload hx hb d_M_fixed_113 (lv_at hl 0 rfl) ?_
          refine W.lcmp hx hb d_M_fixed_115 ?_
          refine lv_if_ne hx hb (tgt := 122) d_M_fixed_116 (by decide) (fun h116_2 => ?_) (fun h116_2 => ?_)
          · skip
            refine lv_iinc (k := 2) hx hb d_M_fixed_122 hl rfl (by decide) (by decide) (lv' := [(6, .int 2), (7, .long (m_made K V (to - fr) fr 1000000000000000)), (4, .long 1000000000000000), (0, .ref (o 0)), (1, .int (nI fr)), (2, .int (nI to)), (3, .int w)]) rfl (fun ls hl => ?_)
            refine lv_lload hx hb d_M_fixed_125 (lv_at hl 2 rfl) ?_
            refine lv_lneg hx hb d_M_fixed_127 ?_
            refine lv_lstore hx hb d_M_fixed_128 hl (by decide) (lv' := [(4, .long (-1000000000000000)), (6, .int 2), (7, .long (m_made K V (to - fr) fr 1000000000000000)), (0, .ref (o 0)), (1, .int (nI fr)), (2, .int (nI to)), (3, .int w)]) rfl (fun ls hl => ?_)
            refine lv_goto hx hb (tgt := 75) d_M_fixed_130 (by decide) ?_
            refine lv_iload hx hb d_M_fixed_75 (lv_at hl 1 rfl) ?_
            refine lv_iconst hx hb (v := 2) d_M_fixed_77 (by decide +kernel) ?_
            refine lv_icmp_ge hx hb (tgt := 133) d_M_fixed_78 (by decide) (fun h78 => ?_) (fun h78 => absurd (by decide) h78)
            refine lv_aload_n hx hb d_M_fixed_133 rfl (lv_at hl 3 rfl) ?_
            refine lv_iconst hx hb (v := 1) d_M_fixed_134 (by decide +kernel) ?_
            refine lv_iconst hx hb (v := 2) d_M_fixed_135 (by decide +kernel) ?_
            refine xM_calli (As := [.int 1, .int 2]) (rest := []) hC hI hA (c_M_fails1 (by decide)) (cwV 2 ht gv_M_39 rfl rfl rfl ⟨rfl, by decide, by decide, by decide +kernel⟩ ⟨by decide, by decide⟩) rfl hl.1 rfl (Nat.le_of_ble_eq_true rfl) d_M_fixed_136 ⟨by decide, by decide⟩ (fun H locs hI _ _ => ?_)
            refine lv_pop hx hb d_M_fixed_139 rfl ?_
            refine lv_lconst hx hb (v := 0) d_M_fixed_140 (by decide +kernel) ?_
            rw [show (m_fixR K V (to - fr) fr (-1000000000000000)) = (2, 0) from (by (try simp only [lg_cmp_eq] at h29 h55 h89_1 h116_1 h89_2 h116_2); simp [m_fixR, h29, h55, h89_1, h116_1, h89_2, h116_2])]
            exact xM_lret hC hI hr hlocks d_M_fixed_141
          · skip
            refine lv_lload hx hb d_M_fixed_119 (lv_at hl 0 rfl) ?_
            rw [show (m_fixR K V (to - fr) fr (-1000000000000000)) = (0, (m_made K V (to - fr) fr 1000000000000000)) from (by (try simp only [lg_cmp_eq] at h29 h55 h89_1 h116_1 h89_2 h116_2); simp [m_fixR, h29, h55, h89_1, h116_1, h89_2, h116_2])]
            exact xM_lret hC hI hr hlocks d_M_fixed_121
        · skip
          refine lv_goto hx hb (tgt := 122) d_M_fixed_92 (by decide) ?_
          refine lv_iinc (k := 1) hx hb d_M_fixed_122 hl rfl (by decide) (by decide) (lv' := [(6, .int 2), (4, .long 1000000000000000), (7, .long (m_made K V (to - fr) fr (-1000000000000000))), (0, .ref (o 0)), (1, .int (nI fr)), (2, .int (nI to)), (3, .int w)]) rfl (fun ls hl => ?_)
          refine lv_lload hx hb d_M_fixed_125 (lv_at hl 1 rfl) ?_
          refine lv_lneg hx hb d_M_fixed_127 ?_
          refine lv_lstore hx hb d_M_fixed_128 hl (by decide) (lv' := [(4, .long (-1000000000000000)), (6, .int 2), (7, .long (m_made K V (to - fr) fr (-1000000000000000))), (0, .ref (o 0)), (1, .int (nI fr)), (2, .int (nI to)), (3, .int w)]) rfl (fun ls hl => ?_)
          refine lv_goto hx hb (tgt := 75) d_M_fixed_130 (by decide) ?_
          refine lv_iload hx hb d_M_fixed_75 (lv_at hl 1 rfl) ?_
          refine lv_iconst hx hb (v := 2) d_M_fixed_77 (by decide +kernel) ?_
          refine lv_icmp_ge hx hb (tgt := 133) d_M_fixed_78 (by decide) (fun h78 => ?_) (fun h78 => absurd (by decide) h78)
          refine lv_aload_n hx hb d_M_fixed_133 rfl (lv_at hl 3 rfl) ?_
          refine lv_iconst hx hb (v := 1) d_M_fixed_134 (by decide +kernel) ?_
          refine lv_iconst hx hb (v := 2) d_M_fixed_135 (by decide +kernel) ?_
          refine xM_calli (As := [.int 1, .int 2]) (rest := []) hC hI hA (c_M_fails1 (by decide)) (cwV 2 ht gv_M_39 rfl rfl rfl ⟨rfl, by decide, by decide, by decide +kernel⟩ ⟨by decide, by decide⟩) rfl hl.1 rfl (Nat.le_of_ble_eq_true rfl) d_M_fixed_136 ⟨by decide, by decide⟩ (fun H locs hI _ _ => ?_)
          refine lv_pop hx hb d_M_fixed_139 rfl ?_
          refine lv_lconst hx hb (v := 0) d_M_fixed_140 (by decide +kernel) ?_
          rw [show (m_fixR K V (to - fr) fr (-1000000000000000)) = (2, 0) from (by (try simp only [lg_cmp_eq] at h29 h55 h89_1 h116_1 h89_2); simp [m_fixR, h29, h55, h89_1, h116_1, h89_2])]
          exact xM_lret hC hI hr hlocks d_M_fixed_141
      · skip
        refine lv_lload hx hb d_M_fixed_119 (lv_at hl 0 rfl) ?_
        rw [show (m_fixR K V (to - fr) fr (-1000000000000000)) = (0, (m_made K V (to - fr) fr (-1000000000000000))) from (by (try simp only [lg_cmp_eq] at h29 h55 h89_1 h116_1); simp [m_fixR, h29, h55, h89_1, h116_1])]
        exact xM_lret hC hI hr hlocks d_M_fixed_121
    · skip
      refine lv_goto hx hb (tgt := 122) d_M_fixed_92 (by decide) ?_
      refine lv_iinc (k := 0) hx hb d_M_fixed_122 hl rfl (by decide) (by decide) (lv' := [(6, .int 1), (4, .long (-1000000000000000)), (0, .ref (o 0)), (1, .int (nI fr)), (2, .int (nI to)), (3, .int w)]) rfl (fun ls hl => ?_)
      refine lv_lload hx hb d_M_fixed_125 (lv_at hl 1 rfl) ?_
      refine lv_lneg hx hb d_M_fixed_127 ?_
      refine xw_l (y := 1000000000000000) (by decide) ?_
      refine lv_lstore hx hb d_M_fixed_128 hl (by decide) (lv' := [(4, .long 1000000000000000), (6, .int 1), (0, .ref (o 0)), (1, .int (nI fr)), (2, .int (nI to)), (3, .int w)]) rfl (fun ls hl => ?_)
      refine lv_goto hx hb (tgt := 75) d_M_fixed_130 (by decide) ?_
      refine lv_iload hx hb d_M_fixed_75 (lv_at hl 1 rfl) ?_
      refine lv_iconst hx hb (v := 2) d_M_fixed_77 (by decide +kernel) ?_
      refine lv_icmp_ge hx hb (tgt := 133) d_M_fixed_78 (by decide) (fun h78 => absurd h78 (by decide)) (fun h78 => ?_)
      refine lv_aload_n hx hb d_M_fixed_81 rfl (lv_at hl 2 rfl) ?_
      refine lv_iload_n hx hb d_M_fixed_82 rfl (lv_at hl 3 rfl) ?_
      refine lv_iload_n hx hb d_M_fixed_83 rfl (lv_at hl 4 rfl) ?_
      refine lv_lload hx hb d_M_fixed_84 (lv_at hl 0 rfl) ?_
      refine xM_calli (As := [.int (nI fr), .int (nI to), .long 1000000000000000]) (rest := []) hC hI hA (c_M_ends hft hto) (cwV 3 ht gv_M_63 rfl rfl rfl ⟨rfl, by decide, by decide, by decide +kernel⟩ ⟨by decide, by decide⟩) rfl hl.1 rfl (Nat.le_of_ble_eq_true rfl) d_M_fixed_86 ⟨by decide, by decide⟩ (fun H locs hI _ _ => ?_)
      refine lv_if_ne hx hb (tgt := 95) d_M_fixed_89 (by decide) (fun h89_2 => ?_) (fun h89_2 => ?_)
      · skip
        refine lv_aload_n hx hb d_M_fixed_95 rfl (lv_at hl 2 rfl) ?_
        refine lv_iload_n hx hb d_M_fixed_96 rfl (lv_at hl 3 rfl) ?_
        refine lv_iload_n hx hb d_M_fixed_97 rfl (lv_at hl 4 rfl) ?_
        refine lv_lload hx hb d_M_fixed_98 (lv_at hl 0 rfl) ?_
        refine xM_calll (As := [.int (nI fr), .int (nI to), .long 1000000000000000]) (rest := []) hC hI hA (c_M_made hft hto) (cwV 3 ht gv_M_53 rfl rfl rfl ⟨rfl, by decide, by decide, by decide +kernel⟩ ⟨by decide, by decide⟩) rfl hl.1 rfl (Nat.le_of_ble_eq_true rfl) d_M_fixed_100 ⟨by decide, by decide⟩ (fun H locs hI _ _ => ?_)
        refine lv_lstore hx hb d_M_fixed_103 hl (by decide) (lv' := [(7, .long (m_made K V (to - fr) fr 1000000000000000)), (4, .long 1000000000000000), (6, .int 1), (0, .ref (o 0)), (1, .int (nI fr)), (2, .int (nI to)), (3, .int w)]) rfl (fun ls hl => ?_)
        refine lv_aload_n hx hb d_M_fixed_105 rfl (lv_at hl 3 rfl) ?_
        refine lv_iload_n hx hb d_M_fixed_106 rfl (lv_at hl 4 rfl) ?_
        refine lv_iload_n hx hb d_M_fixed_107 rfl (lv_at hl 5 rfl) ?_
        refine lv_lload hx hb d_M_fixed_108 (lv_at hl 0 rfl) ?_
        refine xM_calll (As := [.int (nI fr), .int (nI to), .long (m_made K V (to - fr) fr 1000000000000000)]) (rest := []) hC hI hA (c_M_made hft hto) (cwV 3 ht gv_M_53 rfl rfl rfl ⟨rfl, by decide, by decide, by decide +kernel⟩ ⟨by decide, by decide⟩) rfl hl.1 rfl (Nat.le_of_ble_eq_true rfl) d_M_fixed_110 ⟨by decide, by decide⟩ (fun H locs hI _ _ => ?_)
        refine lv_lload hx hb d_M_fixed_113 (lv_at hl 0 rfl) ?_
        refine W.lcmp hx hb d_M_fixed_115 ?_
        refine lv_if_ne hx hb (tgt := 122) d_M_fixed_116 (by decide) (fun h116_1 => ?_) (fun h116_1 => ?_)
        · skip
          refine lv_iinc (k := 2) hx hb d_M_fixed_122 hl rfl (by decide) (by decide) (lv' := [(6, .int 2), (7, .long (m_made K V (to - fr) fr 1000000000000000)), (4, .long 1000000000000000), (0, .ref (o 0)), (1, .int (nI fr)), (2, .int (nI to)), (3, .int w)]) rfl (fun ls hl => ?_)
          refine lv_lload hx hb d_M_fixed_125 (lv_at hl 2 rfl) ?_
          refine lv_lneg hx hb d_M_fixed_127 ?_
          refine lv_lstore hx hb d_M_fixed_128 hl (by decide) (lv' := [(4, .long (-1000000000000000)), (6, .int 2), (7, .long (m_made K V (to - fr) fr 1000000000000000)), (0, .ref (o 0)), (1, .int (nI fr)), (2, .int (nI to)), (3, .int w)]) rfl (fun ls hl => ?_)
          refine lv_goto hx hb (tgt := 75) d_M_fixed_130 (by decide) ?_
          refine lv_iload hx hb d_M_fixed_75 (lv_at hl 1 rfl) ?_
          refine lv_iconst hx hb (v := 2) d_M_fixed_77 (by decide +kernel) ?_
          refine lv_icmp_ge hx hb (tgt := 133) d_M_fixed_78 (by decide) (fun h78 => ?_) (fun h78 => absurd (by decide) h78)
          refine lv_aload_n hx hb d_M_fixed_133 rfl (lv_at hl 3 rfl) ?_
          refine lv_iconst hx hb (v := 1) d_M_fixed_134 (by decide +kernel) ?_
          refine lv_iconst hx hb (v := 2) d_M_fixed_135 (by decide +kernel) ?_
          refine xM_calli (As := [.int 1, .int 2]) (rest := []) hC hI hA (c_M_fails1 (by decide)) (cwV 2 ht gv_M_39 rfl rfl rfl ⟨rfl, by decide, by decide, by decide +kernel⟩ ⟨by decide, by decide⟩) rfl hl.1 rfl (Nat.le_of_ble_eq_true rfl) d_M_fixed_136 ⟨by decide, by decide⟩ (fun H locs hI _ _ => ?_)
          refine lv_pop hx hb d_M_fixed_139 rfl ?_
          refine lv_lconst hx hb (v := 0) d_M_fixed_140 (by decide +kernel) ?_
          rw [show (m_fixR K V (to - fr) fr (-1000000000000000)) = (2, 0) from (by (try simp only [lg_cmp_eq] at h29 h55 h89_1 h89_2 h116_1); simp [m_fixR, h29, h55, h89_1, h89_2, h116_1])]
          exact xM_lret hC hI hr hlocks d_M_fixed_141
        · skip
          refine lv_lload hx hb d_M_fixed_119 (lv_at hl 0 rfl) ?_
          rw [show (m_fixR K V (to - fr) fr (-1000000000000000)) = (0, (m_made K V (to - fr) fr 1000000000000000)) from (by (try simp only [lg_cmp_eq] at h29 h55 h89_1 h89_2 h116_1); simp [m_fixR, h29, h55, h89_1, h89_2, h116_1])]
          exact xM_lret hC hI hr hlocks d_M_fixed_121
      · skip
        refine lv_goto hx hb (tgt := 122) d_M_fixed_92 (by decide) ?_
        refine lv_iinc (k := 1) hx hb d_M_fixed_122 hl rfl (by decide) (by decide) (lv' := [(6, .int 2), (4, .long 1000000000000000), (0, .ref (o 0)), (1, .int (nI fr)), (2, .int (nI to)), (3, .int w)]) rfl (fun ls hl => ?_)
        refine lv_lload hx hb d_M_fixed_125 (lv_at hl 1 rfl) ?_
        refine lv_lneg hx hb d_M_fixed_127 ?_
        refine lv_lstore hx hb d_M_fixed_128 hl (by decide) (lv' := [(4, .long (-1000000000000000)), (6, .int 2), (0, .ref (o 0)), (1, .int (nI fr)), (2, .int (nI to)), (3, .int w)]) rfl (fun ls hl => ?_)
        refine lv_goto hx hb (tgt := 75) d_M_fixed_130 (by decide) ?_
        refine lv_iload hx hb d_M_fixed_75 (lv_at hl 1 rfl) ?_
        refine lv_iconst hx hb (v := 2) d_M_fixed_77 (by decide +kernel) ?_
        refine lv_icmp_ge hx hb (tgt := 133) d_M_fixed_78 (by decide) (fun h78 => ?_) (fun h78 => absurd (by decide) h78)
        refine lv_aload_n hx hb d_M_fixed_133 rfl (lv_at hl 2 rfl) ?_
        refine lv_iconst hx hb (v := 1) d_M_fixed_134 (by decide +kernel) ?_
        refine lv_iconst hx hb (v := 2) d_M_fixed_135 (by decide +kernel) ?_
        refine xM_calli (As := [.int 1, .int 2]) (rest := []) hC hI hA (c_M_fails1 (by decide)) (cwV 2 ht gv_M_39 rfl rfl rfl ⟨rfl, by decide, by decide, by decide +kernel⟩ ⟨by decide, by decide⟩) rfl hl.1 rfl (Nat.le_of_ble_eq_true rfl) d_M_fixed_136 ⟨by decide, by decide⟩ (fun H locs hI _ _ => ?_)
        refine lv_pop hx hb d_M_fixed_139 rfl ?_
        refine lv_lconst hx hb (v := 0) d_M_fixed_140 (by decide +kernel) ?_
        rw [show (m_fixR K V (to - fr) fr (-1000000000000000)) = (2, 0) from (by (try simp only [lg_cmp_eq] at h29 h55 h89_1 h89_2); simp [m_fixR, h29, h55, h89_1, h89_2])]
        exact xM_lret hC hI hr hlocks d_M_fixed_141
  · skip
    refine lv_iconst hx hb (v := 1) d_M_fixed_58 (by decide +kernel) ?_
    refine lv_goto hx hb (tgt := 63) d_M_fixed_59 (by decide) ?_
    refine lv_iconst hx hb (v := 2) d_M_fixed_63 (by decide +kernel) ?_
    refine xM_calli (As := [.int 1, .int 2]) (rest := []) hC hI hA (c_M_fails1 (by decide)) (cwV 2 ht gv_M_39 rfl rfl rfl ⟨rfl, by decide, by decide, by decide +kernel⟩ ⟨by decide, by decide⟩) rfl hl.1 rfl (Nat.le_of_ble_eq_true rfl) d_M_fixed_64 ⟨by decide, by decide⟩ (fun H locs hI _ _ => ?_)
    refine lv_if_eq hx hb (tgt := 72) d_M_fixed_67 (by decide) (fun h67 => absurd h67 (by decide)) (fun h67 => ?_)
    refine lv_lconst hx hb (v := 0) d_M_fixed_70 (by decide +kernel) ?_
    rw [show (m_fixR K V (to - fr) fr (-1000000000000000)) = (2, 0) from (by (try simp only [lg_cmp_eq] at h29 h55); simp [m_fixR, h29, h55])]
    exact xM_lret hC hI hr hlocks d_M_fixed_71
set_option maxHeartbeats 4000000 in
set_option maxRecDepth 100000 in
/-- fixed -/
theorem c_M_fixed3 {l : Launch} {D : va_G} {o : Nat → Nat} {cJ cI : ClassId} {sz : Nat} {K : Nat → Int32} {V : Nat → Int64} {r : Int32} {fr to : Nat} (hft : fr ≤ to) (hto : to ≤ 256) {w : Int32} (hw : ¬ w = 0) : Met l y_M_fixed ws_M_fixed rm_M_fixed (va_Pc [.ref (o 0), .int (nI fr), .int (nI to), .int w] (pM D o cJ cI sz r K V)) (va_Ql (fun (r9 : Int64) (_ : Unit) => r9 = (m_fixR K V (to - fr) fr 1000000000000000).2) (fun _ => bM D o cJ cI (aM o sz) ((m_fixR K V (to - fr) fr 1000000000000000).1) K V) (aM o sz)) 0 0 (aM o sz) := by
  refine xM_met (av := [.int (nI fr), .int (nI to), .int w]) (by decide) rfl (Nat.le_of_ble_eq_true rfl) ?_
  intro p e s m below meth c ls hC hsz hr hlocks hnm hnh had hl hI
  have hA : ∀ q, s.heap.size ≤ q → aM o sz q := fun q h => aM_new (by omega)
  have hx := hC.1.1
  have hb := hC.1.2.1
  have hml := hC.1.2.2.1
  have hown := hC.1.2.2.2.1
  have ht := hC.1.2.2.2.2
  have S := hC.1
  have hl : lv_has ls 9 [(0, .ref (o 0)), (1, .int (nI fr)), (2, .int (nI to)), (3, .int w)] := hl
  refine lv_aload_n hx hb d_M_fixed_0 rfl (lv_at hl 0 rfl) ?_
  refine lv_iconst hx hb (v := 0) d_M_fixed_1 (by decide +kernel) ?_
  refine xM_put0 hC hI d_M_fixed_2 (fun H locs hI => ?_)
  refine lv_aload_n hx hb d_M_fixed_5 rfl (lv_at hl 0 rfl) ?_
  refine lv_iload_n hx hb d_M_fixed_6 rfl (lv_at hl 1 rfl) ?_
  refine lv_iload_n hx hb d_M_fixed_7 rfl (lv_at hl 2 rfl) ?_
  refine xS_calli (As := [.int (nI fr), .int (nI to)]) (rest := [.ref (o 0)]) S c_M_isPart (cwS 2 ht gs_M_45 rfl rfl rfl ⟨rfl, by decide, by decide, by decide +kernel⟩ ⟨by decide, by decide⟩) rfl hl.1 rfl (Nat.le_of_ble_eq_true rfl) d_M_fixed_8 ⟨by decide, by decide⟩ ?_
  refine xw_i (y := 1) (m_pt_ok hft hto) ?_
  refine lv_if_ne hx hb (tgt := 18) d_M_fixed_11 (by decide) (fun h11 => ?_) (fun h11 => absurd h11 (by decide))
  refine lv_iconst hx hb (v := 0) d_M_fixed_18 (by decide +kernel) ?_
  refine lv_iconst hx hb (v := 1) d_M_fixed_19 (by decide +kernel) ?_
  refine xM_calli (As := [.int 0, .int 1]) (rest := []) hC hI hA c_M_fails0 (cwV 2 ht gv_M_39 rfl rfl rfl ⟨rfl, by decide, by decide, by decide +kernel⟩ ⟨by decide, by decide⟩) rfl hl.1 rfl (Nat.le_of_ble_eq_true rfl) d_M_fixed_20 ⟨by decide, by decide⟩ (fun H locs hI _ _ => ?_)
  refine lv_if_eq hx hb (tgt := 28) d_M_fixed_23 (by decide) (fun h23 => ?_) (fun h23 => absurd (by decide) h23)
  refine lv_iload_n hx hb d_M_fixed_28 rfl (lv_at hl 3 rfl) ?_
  refine lv_if_eq hx hb (tgt := 38) d_M_fixed_29 (by decide) (fun h29 => absurd h29 hw) (fun h29 => ?_)
  refine lv_ldc2 (v := 1000000000000000) hx hb hown (ht _ tw_358) d_M_fixed_32 ?_
  refine lv_goto hx hb (tgt := 41) d_M_fixed_35 (by decide) ?_
  refine lv_lstore hx hb d_M_fixed_41 hl (by decide) (lv' := [(4, .long 1000000000000000), (0, .ref (o 0)), (1, .int (nI fr)), (2, .int (nI to)), (3, .int w)]) rfl (fun ls hl => ?_)
  refine lv_aload_n hx hb d_M_fixed_43 rfl (lv_at hl 1 rfl) ?_
  refine lv_aload_n hx hb d_M_fixed_44 rfl (lv_at hl 1 rfl) ?_
  refine lv_iload_n hx hb d_M_fixed_45 rfl (lv_at hl 2 rfl) ?_
  refine lv_iload_n hx hb d_M_fixed_46 rfl (lv_at hl 3 rfl) ?_
  refine lv_lload hx hb d_M_fixed_47 (lv_at hl 0 rfl) ?_
  refine xM_calll (As := [.int (nI fr), .int (nI to), .long 1000000000000000]) (rest := [.ref (o 0)]) hC hI hA (c_M_made hft hto) (cwV 3 ht gv_M_53 rfl rfl rfl ⟨rfl, by decide, by decide, by decide +kernel⟩ ⟨by decide, by decide⟩) rfl hl.1 rfl (Nat.le_of_ble_eq_true rfl) d_M_fixed_49 ⟨by decide, by decide⟩ (fun H locs hI _ _ => ?_)
  refine lv_lload hx hb d_M_fixed_52 (lv_at hl 0 rfl) ?_
  refine W.lcmp hx hb d_M_fixed_54 ?_
  refine lv_if_ne hx hb (tgt := 62) d_M_fixed_55 (by decide) (fun h55 => ?_) (fun h55 => ?_)
  · skip
    refine lv_iconst hx hb (v := 0) d_M_fixed_62 (by decide +kernel) ?_
    refine lv_iconst hx hb (v := 2) d_M_fixed_63 (by decide +kernel) ?_
    refine xM_calli (As := [.int 0, .int 2]) (rest := []) hC hI hA c_M_fails0 (cwV 2 ht gv_M_39 rfl rfl rfl ⟨rfl, by decide, by decide, by decide +kernel⟩ ⟨by decide, by decide⟩) rfl hl.1 rfl (Nat.le_of_ble_eq_true rfl) d_M_fixed_64 ⟨by decide, by decide⟩ (fun H locs hI _ _ => ?_)
    refine lv_if_eq hx hb (tgt := 72) d_M_fixed_67 (by decide) (fun h67 => ?_) (fun h67 => absurd (by decide) h67)
    refine lv_iconst hx hb (v := 0) d_M_fixed_72 (by decide +kernel) ?_
    refine lv_istore hx hb d_M_fixed_73 hl (by decide) (lv' := [(6, .int 0), (4, .long 1000000000000000), (0, .ref (o 0)), (1, .int (nI fr)), (2, .int (nI to)), (3, .int w)]) rfl (fun ls hl => ?_)
    refine lv_iload hx hb d_M_fixed_75 (lv_at hl 0 rfl) ?_
    refine lv_iconst hx hb (v := 2) d_M_fixed_77 (by decide +kernel) ?_
    refine lv_icmp_ge hx hb (tgt := 133) d_M_fixed_78 (by decide) (fun h78 => absurd h78 (by decide)) (fun h78 => ?_)
    refine lv_aload_n hx hb d_M_fixed_81 rfl (lv_at hl 2 rfl) ?_
    refine lv_iload_n hx hb d_M_fixed_82 rfl (lv_at hl 3 rfl) ?_
    refine lv_iload_n hx hb d_M_fixed_83 rfl (lv_at hl 4 rfl) ?_
    refine lv_lload hx hb d_M_fixed_84 (lv_at hl 1 rfl) ?_
    refine xM_calli (As := [.int (nI fr), .int (nI to), .long 1000000000000000]) (rest := []) hC hI hA (c_M_ends hft hto) (cwV 3 ht gv_M_63 rfl rfl rfl ⟨rfl, by decide, by decide, by decide +kernel⟩ ⟨by decide, by decide⟩) rfl hl.1 rfl (Nat.le_of_ble_eq_true rfl) d_M_fixed_86 ⟨by decide, by decide⟩ (fun H locs hI _ _ => ?_)
    refine lv_if_ne hx hb (tgt := 95) d_M_fixed_89 (by decide) (fun h89_1 => ?_) (fun h89_1 => ?_)
    · skip
      refine lv_aload_n hx hb d_M_fixed_95 rfl (lv_at hl 2 rfl) ?_
      refine lv_iload_n hx hb d_M_fixed_96 rfl (lv_at hl 3 rfl) ?_
      refine lv_iload_n hx hb d_M_fixed_97 rfl (lv_at hl 4 rfl) ?_
      refine lv_lload hx hb d_M_fixed_98 (lv_at hl 1 rfl) ?_
      refine xM_calll (As := [.int (nI fr), .int (nI to), .long 1000000000000000]) (rest := []) hC hI hA (c_M_made hft hto) (cwV 3 ht gv_M_53 rfl rfl rfl ⟨rfl, by decide, by decide, by decide +kernel⟩ ⟨by decide, by decide⟩) rfl hl.1 rfl (Nat.le_of_ble_eq_true rfl) d_M_fixed_100 ⟨by decide, by decide⟩ (fun H locs hI _ _ => ?_)
      refine lv_lstore hx hb d_M_fixed_103 hl (by decide) (lv' := [(7, .long (m_made K V (to - fr) fr 1000000000000000)), (6, .int 0), (4, .long 1000000000000000), (0, .ref (o 0)), (1, .int (nI fr)), (2, .int (nI to)), (3, .int w)]) rfl (fun ls hl => ?_)
      refine lv_aload_n hx hb d_M_fixed_105 rfl (lv_at hl 3 rfl) ?_
      refine lv_iload_n hx hb d_M_fixed_106 rfl (lv_at hl 4 rfl) ?_
      refine lv_iload_n hx hb d_M_fixed_107 rfl (lv_at hl 5 rfl) ?_
      refine lv_lload hx hb d_M_fixed_108 (lv_at hl 0 rfl) ?_
      refine xM_calll (As := [.int (nI fr), .int (nI to), .long (m_made K V (to - fr) fr 1000000000000000)]) (rest := []) hC hI hA (c_M_made hft hto) (cwV 3 ht gv_M_53 rfl rfl rfl ⟨rfl, by decide, by decide, by decide +kernel⟩ ⟨by decide, by decide⟩) rfl hl.1 rfl (Nat.le_of_ble_eq_true rfl) d_M_fixed_110 ⟨by decide, by decide⟩ (fun H locs hI _ _ => ?_)
      refine lv_lload hx hb d_M_fixed_113 (lv_at hl 0 rfl) ?_
      refine W.lcmp hx hb d_M_fixed_115 ?_
      refine lv_if_ne hx hb (tgt := 122) d_M_fixed_116 (by decide) (fun h116_1 => ?_) (fun h116_1 => ?_)
      · skip
        refine lv_iinc (k := 1) hx hb d_M_fixed_122 hl rfl (by decide) (by decide) (lv' := [(6, .int 1), (7, .long (m_made K V (to - fr) fr 1000000000000000)), (4, .long 1000000000000000), (0, .ref (o 0)), (1, .int (nI fr)), (2, .int (nI to)), (3, .int w)]) rfl (fun ls hl => ?_)
        refine lv_lload hx hb d_M_fixed_125 (lv_at hl 2 rfl) ?_
        refine lv_lneg hx hb d_M_fixed_127 ?_
        refine xw_l (y := (-1000000000000000)) (by decide) ?_
        refine lv_lstore hx hb d_M_fixed_128 hl (by decide) (lv' := [(4, .long (-1000000000000000)), (6, .int 1), (7, .long (m_made K V (to - fr) fr 1000000000000000)), (0, .ref (o 0)), (1, .int (nI fr)), (2, .int (nI to)), (3, .int w)]) rfl (fun ls hl => ?_)
        refine lv_goto hx hb (tgt := 75) d_M_fixed_130 (by decide) ?_
        refine lv_iload hx hb d_M_fixed_75 (lv_at hl 1 rfl) ?_
        refine lv_iconst hx hb (v := 2) d_M_fixed_77 (by decide +kernel) ?_
        refine lv_icmp_ge hx hb (tgt := 133) d_M_fixed_78 (by decide) (fun h78 => absurd h78 (by decide)) (fun h78 => ?_)
        refine lv_aload_n hx hb d_M_fixed_81 rfl (lv_at hl 3 rfl) ?_
        refine lv_iload_n hx hb d_M_fixed_82 rfl (lv_at hl 4 rfl) ?_
        refine lv_iload_n hx hb d_M_fixed_83 rfl (lv_at hl 5 rfl) ?_
        refine lv_lload hx hb d_M_fixed_84 (lv_at hl 0 rfl) ?_
        refine xM_calli (As := [.int (nI fr), .int (nI to), .long (-1000000000000000)]) (rest := []) hC hI hA (c_M_ends hft hto) (cwV 3 ht gv_M_63 rfl rfl rfl ⟨rfl, by decide, by decide, by decide +kernel⟩ ⟨by decide, by decide⟩) rfl hl.1 rfl (Nat.le_of_ble_eq_true rfl) d_M_fixed_86 ⟨by decide, by decide⟩ (fun H locs hI _ _ => ?_)
        refine lv_if_ne hx hb (tgt := 95) d_M_fixed_89 (by decide) (fun h89_2 => ?_) (fun h89_2 => ?_)
        · skip
          refine lv_aload_n hx hb d_M_fixed_95 rfl (lv_at hl 3 rfl) ?_
          refine lv_iload_n hx hb d_M_fixed_96 rfl (lv_at hl 4 rfl) ?_
          refine lv_iload_n hx hb d_M_fixed_97 rfl (lv_at hl 5 rfl) ?_
          refine lv_lload hx hb d_M_fixed_98 (lv_at hl 0 rfl) ?_
          refine xM_calll (As := [.int (nI fr), .int (nI to), .long (-1000000000000000)]) (rest := []) hC hI hA (c_M_made hft hto) (cwV 3 ht gv_M_53 rfl rfl rfl ⟨rfl, by decide, by decide, by decide +kernel⟩ ⟨by decide, by decide⟩) rfl hl.1 rfl (Nat.le_of_ble_eq_true rfl) d_M_fixed_100 ⟨by decide, by decide⟩ (fun H locs hI _ _ => ?_)
          refine lv_lstore hx hb d_M_fixed_103 hl (by decide) (lv' := [(7, .long (m_made K V (to - fr) fr (-1000000000000000))), (4, .long (-1000000000000000)), (6, .int 1), (0, .ref (o 0)), (1, .int (nI fr)), (2, .int (nI to)), (3, .int w)]) rfl (fun ls hl => ?_)
          refine lv_aload_n hx hb d_M_fixed_105 rfl (lv_at hl 3 rfl) ?_
          refine lv_iload_n hx hb d_M_fixed_106 rfl (lv_at hl 4 rfl) ?_
          refine lv_iload_n hx hb d_M_fixed_107 rfl (lv_at hl 5 rfl) ?_
          refine lv_lload hx hb d_M_fixed_108 (lv_at hl 0 rfl) ?_
          refine xM_calll (As := [.int (nI fr), .int (nI to), .long (m_made K V (to - fr) fr (-1000000000000000))]) (rest := []) hC hI hA (c_M_made hft hto) (cwV 3 ht gv_M_53 rfl rfl rfl ⟨rfl, by decide, by decide, by decide +kernel⟩ ⟨by decide, by decide⟩) rfl hl.1 rfl (Nat.le_of_ble_eq_true rfl) d_M_fixed_110 ⟨by decide, by decide⟩ (fun H locs hI _ _ => ?_)
          refine lv_lload hx hb d_M_fixed_113 (lv_at hl 0 rfl) ?_
          refine W.lcmp hx hb d_M_fixed_115 ?_
          refine lv_if_ne hx hb (tgt := 122) d_M_fixed_116 (by decide) (fun h116_2 => ?_) (fun h116_2 => ?_)
          · skip
            refine lv_iinc (k := 2) hx hb d_M_fixed_122 hl rfl (by decide) (by decide) (lv' := [(6, .int 2), (7, .long (m_made K V (to - fr) fr (-1000000000000000))), (4, .long (-1000000000000000)), (0, .ref (o 0)), (1, .int (nI fr)), (2, .int (nI to)), (3, .int w)]) rfl (fun ls hl => ?_)
            refine lv_lload hx hb d_M_fixed_125 (lv_at hl 2 rfl) ?_
            refine lv_lneg hx hb d_M_fixed_127 ?_
            refine lv_lstore hx hb d_M_fixed_128 hl (by decide) (lv' := [(4, .long (-(-1000000000000000))), (6, .int 2), (7, .long (m_made K V (to - fr) fr (-1000000000000000))), (0, .ref (o 0)), (1, .int (nI fr)), (2, .int (nI to)), (3, .int w)]) rfl (fun ls hl => ?_)
            refine lv_goto hx hb (tgt := 75) d_M_fixed_130 (by decide) ?_
            refine lv_iload hx hb d_M_fixed_75 (lv_at hl 1 rfl) ?_
            refine lv_iconst hx hb (v := 2) d_M_fixed_77 (by decide +kernel) ?_
            refine lv_icmp_ge hx hb (tgt := 133) d_M_fixed_78 (by decide) (fun h78 => ?_) (fun h78 => absurd (by decide) h78)
            refine lv_aload_n hx hb d_M_fixed_133 rfl (lv_at hl 3 rfl) ?_
            refine lv_iconst hx hb (v := 1) d_M_fixed_134 (by decide +kernel) ?_
            refine lv_iconst hx hb (v := 2) d_M_fixed_135 (by decide +kernel) ?_
            refine xM_calli (As := [.int 1, .int 2]) (rest := []) hC hI hA (c_M_fails1 (by decide)) (cwV 2 ht gv_M_39 rfl rfl rfl ⟨rfl, by decide, by decide, by decide +kernel⟩ ⟨by decide, by decide⟩) rfl hl.1 rfl (Nat.le_of_ble_eq_true rfl) d_M_fixed_136 ⟨by decide, by decide⟩ (fun H locs hI _ _ => ?_)
            refine lv_pop hx hb d_M_fixed_139 rfl ?_
            refine lv_lconst hx hb (v := 0) d_M_fixed_140 (by decide +kernel) ?_
            rw [show (m_fixR K V (to - fr) fr 1000000000000000) = (2, 0) from (by (try simp only [lg_cmp_eq] at h29 h55 h89_1 h116_1 h89_2 h116_2); simp [m_fixR, h29, h55, h89_1, h116_1, h89_2, h116_2])]
            exact xM_lret hC hI hr hlocks d_M_fixed_141
          · skip
            refine lv_lload hx hb d_M_fixed_119 (lv_at hl 0 rfl) ?_
            rw [show (m_fixR K V (to - fr) fr 1000000000000000) = (0, (m_made K V (to - fr) fr (-1000000000000000))) from (by (try simp only [lg_cmp_eq] at h29 h55 h89_1 h116_1 h89_2 h116_2); simp [m_fixR, h29, h55, h89_1, h116_1, h89_2, h116_2])]
            exact xM_lret hC hI hr hlocks d_M_fixed_121
        · skip
          refine lv_goto hx hb (tgt := 122) d_M_fixed_92 (by decide) ?_
          refine lv_iinc (k := 1) hx hb d_M_fixed_122 hl rfl (by decide) (by decide) (lv' := [(6, .int 2), (4, .long (-1000000000000000)), (7, .long (m_made K V (to - fr) fr 1000000000000000)), (0, .ref (o 0)), (1, .int (nI fr)), (2, .int (nI to)), (3, .int w)]) rfl (fun ls hl => ?_)
          refine lv_lload hx hb d_M_fixed_125 (lv_at hl 1 rfl) ?_
          refine lv_lneg hx hb d_M_fixed_127 ?_
          refine lv_lstore hx hb d_M_fixed_128 hl (by decide) (lv' := [(4, .long (-(-1000000000000000))), (6, .int 2), (7, .long (m_made K V (to - fr) fr 1000000000000000)), (0, .ref (o 0)), (1, .int (nI fr)), (2, .int (nI to)), (3, .int w)]) rfl (fun ls hl => ?_)
          refine lv_goto hx hb (tgt := 75) d_M_fixed_130 (by decide) ?_
          refine lv_iload hx hb d_M_fixed_75 (lv_at hl 1 rfl) ?_
          refine lv_iconst hx hb (v := 2) d_M_fixed_77 (by decide +kernel) ?_
          refine lv_icmp_ge hx hb (tgt := 133) d_M_fixed_78 (by decide) (fun h78 => ?_) (fun h78 => absurd (by decide) h78)
          refine lv_aload_n hx hb d_M_fixed_133 rfl (lv_at hl 3 rfl) ?_
          refine lv_iconst hx hb (v := 1) d_M_fixed_134 (by decide +kernel) ?_
          refine lv_iconst hx hb (v := 2) d_M_fixed_135 (by decide +kernel) ?_
          refine xM_calli (As := [.int 1, .int 2]) (rest := []) hC hI hA (c_M_fails1 (by decide)) (cwV 2 ht gv_M_39 rfl rfl rfl ⟨rfl, by decide, by decide, by decide +kernel⟩ ⟨by decide, by decide⟩) rfl hl.1 rfl (Nat.le_of_ble_eq_true rfl) d_M_fixed_136 ⟨by decide, by decide⟩ (fun H locs hI _ _ => ?_)
          refine lv_pop hx hb d_M_fixed_139 rfl ?_
          refine lv_lconst hx hb (v := 0) d_M_fixed_140 (by decide +kernel) ?_
          rw [show (m_fixR K V (to - fr) fr 1000000000000000) = (2, 0) from (by (try simp only [lg_cmp_eq] at h29 h55 h89_1 h116_1 h89_2); simp [m_fixR, h29, h55, h89_1, h116_1, h89_2])]
          exact xM_lret hC hI hr hlocks d_M_fixed_141
      · skip
        refine lv_lload hx hb d_M_fixed_119 (lv_at hl 0 rfl) ?_
        rw [show (m_fixR K V (to - fr) fr 1000000000000000) = (0, (m_made K V (to - fr) fr 1000000000000000)) from (by (try simp only [lg_cmp_eq] at h29 h55 h89_1 h116_1); simp [m_fixR, h29, h55, h89_1, h116_1])]
        exact xM_lret hC hI hr hlocks d_M_fixed_121
    · skip
      refine lv_goto hx hb (tgt := 122) d_M_fixed_92 (by decide) ?_
      refine lv_iinc (k := 0) hx hb d_M_fixed_122 hl rfl (by decide) (by decide) (lv' := [(6, .int 1), (4, .long 1000000000000000), (0, .ref (o 0)), (1, .int (nI fr)), (2, .int (nI to)), (3, .int w)]) rfl (fun ls hl => ?_)
      refine lv_lload hx hb d_M_fixed_125 (lv_at hl 1 rfl) ?_
      refine lv_lneg hx hb d_M_fixed_127 ?_
      refine xw_l (y := (-1000000000000000)) (by decide) ?_
      refine lv_lstore hx hb d_M_fixed_128 hl (by decide) (lv' := [(4, .long (-1000000000000000)), (6, .int 1), (0, .ref (o 0)), (1, .int (nI fr)), (2, .int (nI to)), (3, .int w)]) rfl (fun ls hl => ?_)
      refine lv_goto hx hb (tgt := 75) d_M_fixed_130 (by decide) ?_
      refine lv_iload hx hb d_M_fixed_75 (lv_at hl 1 rfl) ?_
      refine lv_iconst hx hb (v := 2) d_M_fixed_77 (by decide +kernel) ?_
      refine lv_icmp_ge hx hb (tgt := 133) d_M_fixed_78 (by decide) (fun h78 => absurd h78 (by decide)) (fun h78 => ?_)
      refine lv_aload_n hx hb d_M_fixed_81 rfl (lv_at hl 2 rfl) ?_
      refine lv_iload_n hx hb d_M_fixed_82 rfl (lv_at hl 3 rfl) ?_
      refine lv_iload_n hx hb d_M_fixed_83 rfl (lv_at hl 4 rfl) ?_
      refine lv_lload hx hb d_M_fixed_84 (lv_at hl 0 rfl) ?_
      refine xM_calli (As := [.int (nI fr), .int (nI to), .long (-1000000000000000)]) (rest := []) hC hI hA (c_M_ends hft hto) (cwV 3 ht gv_M_63 rfl rfl rfl ⟨rfl, by decide, by decide, by decide +kernel⟩ ⟨by decide, by decide⟩) rfl hl.1 rfl (Nat.le_of_ble_eq_true rfl) d_M_fixed_86 ⟨by decide, by decide⟩ (fun H locs hI _ _ => ?_)
      refine lv_if_ne hx hb (tgt := 95) d_M_fixed_89 (by decide) (fun h89_2 => ?_) (fun h89_2 => ?_)
      · skip
        refine lv_aload_n hx hb d_M_fixed_95 rfl (lv_at hl 2 rfl) ?_
        refine lv_iload_n hx hb d_M_fixed_96 rfl (lv_at hl 3 rfl) ?_
        refine lv_iload_n hx hb d_M_fixed_97 rfl (lv_at hl 4 rfl) ?_
        refine lv_lload hx hb d_M_fixed_98 (lv_at hl 0 rfl) ?_
        refine xM_calll (As := [.int (nI fr), .int (nI to), .long (-1000000000000000)]) (rest := []) hC hI hA (c_M_made hft hto) (cwV 3 ht gv_M_53 rfl rfl rfl ⟨rfl, by decide, by decide, by decide +kernel⟩ ⟨by decide, by decide⟩) rfl hl.1 rfl (Nat.le_of_ble_eq_true rfl) d_M_fixed_100 ⟨by decide, by decide⟩ (fun H locs hI _ _ => ?_)
        refine lv_lstore hx hb d_M_fixed_103 hl (by decide) (lv' := [(7, .long (m_made K V (to - fr) fr (-1000000000000000))), (4, .long (-1000000000000000)), (6, .int 1), (0, .ref (o 0)), (1, .int (nI fr)), (2, .int (nI to)), (3, .int w)]) rfl (fun ls hl => ?_)
        refine lv_aload_n hx hb d_M_fixed_105 rfl (lv_at hl 3 rfl) ?_
        refine lv_iload_n hx hb d_M_fixed_106 rfl (lv_at hl 4 rfl) ?_
        refine lv_iload_n hx hb d_M_fixed_107 rfl (lv_at hl 5 rfl) ?_
        refine lv_lload hx hb d_M_fixed_108 (lv_at hl 0 rfl) ?_
        refine xM_calll (As := [.int (nI fr), .int (nI to), .long (m_made K V (to - fr) fr (-1000000000000000))]) (rest := []) hC hI hA (c_M_made hft hto) (cwV 3 ht gv_M_53 rfl rfl rfl ⟨rfl, by decide, by decide, by decide +kernel⟩ ⟨by decide, by decide⟩) rfl hl.1 rfl (Nat.le_of_ble_eq_true rfl) d_M_fixed_110 ⟨by decide, by decide⟩ (fun H locs hI _ _ => ?_)
        refine lv_lload hx hb d_M_fixed_113 (lv_at hl 0 rfl) ?_
        refine W.lcmp hx hb d_M_fixed_115 ?_
        refine lv_if_ne hx hb (tgt := 122) d_M_fixed_116 (by decide) (fun h116_1 => ?_) (fun h116_1 => ?_)
        · skip
          refine lv_iinc (k := 2) hx hb d_M_fixed_122 hl rfl (by decide) (by decide) (lv' := [(6, .int 2), (7, .long (m_made K V (to - fr) fr (-1000000000000000))), (4, .long (-1000000000000000)), (0, .ref (o 0)), (1, .int (nI fr)), (2, .int (nI to)), (3, .int w)]) rfl (fun ls hl => ?_)
          refine lv_lload hx hb d_M_fixed_125 (lv_at hl 2 rfl) ?_
          refine lv_lneg hx hb d_M_fixed_127 ?_
          refine lv_lstore hx hb d_M_fixed_128 hl (by decide) (lv' := [(4, .long (-(-1000000000000000))), (6, .int 2), (7, .long (m_made K V (to - fr) fr (-1000000000000000))), (0, .ref (o 0)), (1, .int (nI fr)), (2, .int (nI to)), (3, .int w)]) rfl (fun ls hl => ?_)
          refine lv_goto hx hb (tgt := 75) d_M_fixed_130 (by decide) ?_
          refine lv_iload hx hb d_M_fixed_75 (lv_at hl 1 rfl) ?_
          refine lv_iconst hx hb (v := 2) d_M_fixed_77 (by decide +kernel) ?_
          refine lv_icmp_ge hx hb (tgt := 133) d_M_fixed_78 (by decide) (fun h78 => ?_) (fun h78 => absurd (by decide) h78)
          refine lv_aload_n hx hb d_M_fixed_133 rfl (lv_at hl 3 rfl) ?_
          refine lv_iconst hx hb (v := 1) d_M_fixed_134 (by decide +kernel) ?_
          refine lv_iconst hx hb (v := 2) d_M_fixed_135 (by decide +kernel) ?_
          refine xM_calli (As := [.int 1, .int 2]) (rest := []) hC hI hA (c_M_fails1 (by decide)) (cwV 2 ht gv_M_39 rfl rfl rfl ⟨rfl, by decide, by decide, by decide +kernel⟩ ⟨by decide, by decide⟩) rfl hl.1 rfl (Nat.le_of_ble_eq_true rfl) d_M_fixed_136 ⟨by decide, by decide⟩ (fun H locs hI _ _ => ?_)
          refine lv_pop hx hb d_M_fixed_139 rfl ?_
          refine lv_lconst hx hb (v := 0) d_M_fixed_140 (by decide +kernel) ?_
          rw [show (m_fixR K V (to - fr) fr 1000000000000000) = (2, 0) from (by (try simp only [lg_cmp_eq] at h29 h55 h89_1 h89_2 h116_1); simp [m_fixR, h29, h55, h89_1, h89_2, h116_1])]
          exact xM_lret hC hI hr hlocks d_M_fixed_141
        · skip
          refine lv_lload hx hb d_M_fixed_119 (lv_at hl 0 rfl) ?_
          rw [show (m_fixR K V (to - fr) fr 1000000000000000) = (0, (m_made K V (to - fr) fr (-1000000000000000))) from (by (try simp only [lg_cmp_eq] at h29 h55 h89_1 h89_2 h116_1); simp [m_fixR, h29, h55, h89_1, h89_2, h116_1])]
          exact xM_lret hC hI hr hlocks d_M_fixed_121
      · skip
        refine lv_goto hx hb (tgt := 122) d_M_fixed_92 (by decide) ?_
        refine lv_iinc (k := 1) hx hb d_M_fixed_122 hl rfl (by decide) (by decide) (lv' := [(6, .int 2), (4, .long (-1000000000000000)), (0, .ref (o 0)), (1, .int (nI fr)), (2, .int (nI to)), (3, .int w)]) rfl (fun ls hl => ?_)
        refine lv_lload hx hb d_M_fixed_125 (lv_at hl 1 rfl) ?_
        refine lv_lneg hx hb d_M_fixed_127 ?_
        refine lv_lstore hx hb d_M_fixed_128 hl (by decide) (lv' := [(4, .long (-(-1000000000000000))), (6, .int 2), (0, .ref (o 0)), (1, .int (nI fr)), (2, .int (nI to)), (3, .int w)]) rfl (fun ls hl => ?_)
        refine lv_goto hx hb (tgt := 75) d_M_fixed_130 (by decide) ?_
        refine lv_iload hx hb d_M_fixed_75 (lv_at hl 1 rfl) ?_
        refine lv_iconst hx hb (v := 2) d_M_fixed_77 (by decide +kernel) ?_
        refine lv_icmp_ge hx hb (tgt := 133) d_M_fixed_78 (by decide) (fun h78 => ?_) (fun h78 => absurd (by decide) h78)
        refine lv_aload_n hx hb d_M_fixed_133 rfl (lv_at hl 2 rfl) ?_
        refine lv_iconst hx hb (v := 1) d_M_fixed_134 (by decide +kernel) ?_
        refine lv_iconst hx hb (v := 2) d_M_fixed_135 (by decide +kernel) ?_
        refine xM_calli (As := [.int 1, .int 2]) (rest := []) hC hI hA (c_M_fails1 (by decide)) (cwV 2 ht gv_M_39 rfl rfl rfl ⟨rfl, by decide, by decide, by decide +kernel⟩ ⟨by decide, by decide⟩) rfl hl.1 rfl (Nat.le_of_ble_eq_true rfl) d_M_fixed_136 ⟨by decide, by decide⟩ (fun H locs hI _ _ => ?_)
        refine lv_pop hx hb d_M_fixed_139 rfl ?_
        refine lv_lconst hx hb (v := 0) d_M_fixed_140 (by decide +kernel) ?_
        rw [show (m_fixR K V (to - fr) fr 1000000000000000) = (2, 0) from (by (try simp only [lg_cmp_eq] at h29 h55 h89_1 h89_2); simp [m_fixR, h29, h55, h89_1, h89_2])]
        exact xM_lret hC hI hr hlocks d_M_fixed_141
  · skip
    refine lv_iconst hx hb (v := 1) d_M_fixed_58 (by decide +kernel) ?_
    refine lv_goto hx hb (tgt := 63) d_M_fixed_59 (by decide) ?_
    refine lv_iconst hx hb (v := 2) d_M_fixed_63 (by decide +kernel) ?_
    refine xM_calli (As := [.int 1, .int 2]) (rest := []) hC hI hA (c_M_fails1 (by decide)) (cwV 2 ht gv_M_39 rfl rfl rfl ⟨rfl, by decide, by decide, by decide +kernel⟩ ⟨by decide, by decide⟩) rfl hl.1 rfl (Nat.le_of_ble_eq_true rfl) d_M_fixed_64 ⟨by decide, by decide⟩ (fun H locs hI _ _ => ?_)
    refine lv_if_eq hx hb (tgt := 72) d_M_fixed_67 (by decide) (fun h67 => absurd h67 (by decide)) (fun h67 => ?_)
    refine lv_lconst hx hb (v := 0) d_M_fixed_70 (by decide +kernel) ?_
    rw [show (m_fixR K V (to - fr) fr 1000000000000000) = (2, 0) from (by (try simp only [lg_cmp_eq] at h29 h55); simp [m_fixR, h29, h55])]
    exact xM_lret hC hI hr hlocks d_M_fixed_71
set_option maxHeartbeats 4000000 in
set_option maxRecDepth 100000 in
/-- no question -/
theorem c_M_about1 {l : Launch} {D : va_G} {o : Nat → Nat} {cJ cI : ClassId} {sz : Nat} {K : Nat → Int32} {V : Nat → Int64} {r : Int32} {f t0 w : Int32} (h1 : m_in (w).toInt64 0 2 = 0) : Met l y_M_about ws_M_about rm_M_about (va_Pc [.ref (o 0), .int f, .int t0, .int w] (pM D o cJ cI sz r K V)) (va_Qi (fun (r9 : Int32) (_ : Unit) => r9 = 0) (fun _ => bM D o cJ cI (aM o sz) 1 K V) (aM o sz)) 0 0 (aM o sz) := by
  refine xM_met (av := [.int f, .int t0, .int w]) (by decide) rfl (Nat.le_of_ble_eq_true rfl) ?_
  intro p e s m below meth c ls hC hsz hr hlocks hnm hnh had hl hI
  have hA : ∀ q, s.heap.size ≤ q → aM o sz q := fun q h => aM_new (by omega)
  have hx := hC.1.1
  have hb := hC.1.2.1
  have hml := hC.1.2.2.1
  have hown := hC.1.2.2.2.1
  have ht := hC.1.2.2.2.2
  have S := hC.1
  have hl : lv_has ls 10 [(0, .ref (o 0)), (1, .int f), (2, .int t0), (3, .int w)] := hl
  refine lv_aload_n hx hb d_M_about_0 rfl (lv_at hl 0 rfl) ?_
  refine lv_iconst hx hb (v := 0) d_M_about_1 (by decide +kernel) ?_
  refine xM_put0 hC hI d_M_about_2 (fun H locs hI => ?_)
  refine lv_aload_n hx hb d_M_about_5 rfl (lv_at hl 0 rfl) ?_
  refine lv_iload_n hx hb d_M_about_6 rfl (lv_at hl 3 rfl) ?_
  refine lv_i2l hx hb (v := (w).toInt64) d_M_about_7 rfl ?_
  refine lv_lconst hx hb (v := 0) d_M_about_8 (by decide +kernel) ?_
  refine lv_ldc2 (v := 2) hx hb hown (ht _ tw_353) d_M_about_9 ?_
  refine xS_calli (As := [.long (w).toInt64, .long 0, .long 2]) (rest := [.ref (o 0)]) S c_M_in (cwS 3 ht gs_M_23 rfl rfl rfl ⟨rfl, by decide, by decide, by decide +kernel⟩ ⟨by decide, by decide⟩) rfl hl.1 rfl (Nat.le_of_ble_eq_true rfl) d_M_about_12 ⟨by decide, by decide⟩ ?_
  refine xw_i (y := 0) (h1) ?_
  refine lv_if_ne hx hb (tgt := 22) d_M_about_15 (by decide) (fun h15 => absurd (by decide) h15) (fun h15 => ?_)
  refine lv_iconst hx hb (v := 1) d_M_about_18 (by decide +kernel) ?_
  refine lv_goto hx hb (tgt := 23) d_M_about_19 (by decide) ?_
  refine lv_iconst hx hb (v := 1) d_M_about_23 (by decide +kernel) ?_
  refine xM_calli (As := [.int 1, .int 1]) (rest := []) hC hI hA (c_M_fails1 (by decide)) (cwV 2 ht gv_M_39 rfl rfl rfl ⟨rfl, by decide, by decide, by decide +kernel⟩ ⟨by decide, by decide⟩) rfl hl.1 rfl (Nat.le_of_ble_eq_true rfl) d_M_about_24 ⟨by decide, by decide⟩ (fun H locs hI _ _ => ?_)
  refine lv_if_ne hx hb (tgt := 51) d_M_about_27 (by decide) (fun h27 => ?_) (fun h27 => absurd h27 (by decide))
  refine lv_iconst hx hb (v := 0) d_M_about_51 (by decide +kernel) ?_
  exact xM_iret hC hI hr hlocks d_M_about_52
set_option maxHeartbeats 4000000 in
set_option maxRecDepth 100000 in
/-- no part -/
theorem c_M_about2 {l : Launch} {D : va_G} {o : Nat → Nat} {cJ cI : ClassId} {sz : Nat} {K : Nat → Int32} {V : Nat → Int64} {r : Int32} {f t0 w : Int32} (h1 : m_in (w).toInt64 0 2 = 1) (h2 : m_isPart f t0 = 0) : Met l y_M_about ws_M_about rm_M_about (va_Pc [.ref (o 0), .int f, .int t0, .int w] (pM D o cJ cI sz r K V)) (va_Qi (fun (r9 : Int32) (_ : Unit) => r9 = 0) (fun _ => bM D o cJ cI (aM o sz) 2 K V) (aM o sz)) 0 0 (aM o sz) := by
  refine xM_met (av := [.int f, .int t0, .int w]) (by decide) rfl (Nat.le_of_ble_eq_true rfl) ?_
  intro p e s m below meth c ls hC hsz hr hlocks hnm hnh had hl hI
  have hA : ∀ q, s.heap.size ≤ q → aM o sz q := fun q h => aM_new (by omega)
  have hx := hC.1.1
  have hb := hC.1.2.1
  have hml := hC.1.2.2.1
  have hown := hC.1.2.2.2.1
  have ht := hC.1.2.2.2.2
  have S := hC.1
  have hl : lv_has ls 10 [(0, .ref (o 0)), (1, .int f), (2, .int t0), (3, .int w)] := hl
  refine lv_aload_n hx hb d_M_about_0 rfl (lv_at hl 0 rfl) ?_
  refine lv_iconst hx hb (v := 0) d_M_about_1 (by decide +kernel) ?_
  refine xM_put0 hC hI d_M_about_2 (fun H locs hI => ?_)
  refine lv_aload_n hx hb d_M_about_5 rfl (lv_at hl 0 rfl) ?_
  refine lv_iload_n hx hb d_M_about_6 rfl (lv_at hl 3 rfl) ?_
  refine lv_i2l hx hb (v := (w).toInt64) d_M_about_7 rfl ?_
  refine lv_lconst hx hb (v := 0) d_M_about_8 (by decide +kernel) ?_
  refine lv_ldc2 (v := 2) hx hb hown (ht _ tw_353) d_M_about_9 ?_
  refine xS_calli (As := [.long (w).toInt64, .long 0, .long 2]) (rest := [.ref (o 0)]) S c_M_in (cwS 3 ht gs_M_23 rfl rfl rfl ⟨rfl, by decide, by decide, by decide +kernel⟩ ⟨by decide, by decide⟩) rfl hl.1 rfl (Nat.le_of_ble_eq_true rfl) d_M_about_12 ⟨by decide, by decide⟩ ?_
  refine xw_i (y := 1) (h1) ?_
  refine lv_if_ne hx hb (tgt := 22) d_M_about_15 (by decide) (fun h15 => ?_) (fun h15 => absurd h15 (by decide))
  refine lv_iconst hx hb (v := 0) d_M_about_22 (by decide +kernel) ?_
  refine lv_iconst hx hb (v := 1) d_M_about_23 (by decide +kernel) ?_
  refine xM_calli (As := [.int 0, .int 1]) (rest := []) hC hI hA c_M_fails0 (cwV 2 ht gv_M_39 rfl rfl rfl ⟨rfl, by decide, by decide, by decide +kernel⟩ ⟨by decide, by decide⟩) rfl hl.1 rfl (Nat.le_of_ble_eq_true rfl) d_M_about_24 ⟨by decide, by decide⟩ (fun H locs hI _ _ => ?_)
  refine lv_if_ne hx hb (tgt := 51) d_M_about_27 (by decide) (fun h27 => absurd (by decide) h27) (fun h27 => ?_)
  refine lv_aload_n hx hb d_M_about_30 rfl (lv_at hl 0 rfl) ?_
  refine lv_iload_n hx hb d_M_about_31 rfl (lv_at hl 1 rfl) ?_
  refine lv_iload_n hx hb d_M_about_32 rfl (lv_at hl 2 rfl) ?_
  refine xS_calli (As := [.int f, .int t0]) (rest := [.ref (o 0)]) S c_M_isPart (cwS 2 ht gs_M_45 rfl rfl rfl ⟨rfl, by decide, by decide, by decide +kernel⟩ ⟨by decide, by decide⟩) rfl hl.1 rfl (Nat.le_of_ble_eq_true rfl) d_M_about_33 ⟨by decide, by decide⟩ ?_
  refine xw_i (y := 0) (h2) ?_
  refine lv_if_ne hx hb (tgt := 43) d_M_about_36 (by decide) (fun h36 => absurd (by decide) h36) (fun h36 => ?_)
  refine lv_iconst hx hb (v := 1) d_M_about_39 (by decide +kernel) ?_
  refine lv_goto hx hb (tgt := 44) d_M_about_40 (by decide) ?_
  refine lv_iconst hx hb (v := 2) d_M_about_44 (by decide +kernel) ?_
  refine xM_calli (As := [.int 1, .int 2]) (rest := []) hC hI hA (c_M_fails1 (by decide)) (cwV 2 ht gv_M_39 rfl rfl rfl ⟨rfl, by decide, by decide, by decide +kernel⟩ ⟨by decide, by decide⟩) rfl hl.1 rfl (Nat.le_of_ble_eq_true rfl) d_M_about_45 ⟨by decide, by decide⟩ (fun H locs hI _ _ => ?_)
  refine lv_if_eq hx hb (tgt := 53) d_M_about_48 (by decide) (fun h48 => absurd h48 (by decide)) (fun h48 => ?_)
  refine lv_iconst hx hb (v := 0) d_M_about_51 (by decide +kernel) ?_
  exact xM_iret hC hI hr hlocks d_M_about_52
set_option maxHeartbeats 4000000 in
set_option maxRecDepth 100000 in
/-- about(from, to, 0) -/
theorem c_M_about3_0 {l : Launch} {D : va_G} {o : Nat → Nat} {cJ cI : ClassId} {sz : Nat} {K : Nat → Int32} {V : Nat → Int64} {r : Int32} {fr to : Nat} (hft : fr ≤ to) (hto : to ≤ 256) : Met l y_M_about ws_M_about rm_M_about (va_Pc [.ref (o 0), .int (nI fr), .int (nI to), .int 0] (pM D o cJ cI sz r K V)) (va_Qi (fun (r9 : Int32) (_ : Unit) => r9 = (if (m_made K V (to - fr) fr (-1000000000000000)) = (m_made K V (to - fr) fr 1000000000000000) then 1 else 0 : Int32)) (fun _ => bM D o cJ cI (aM o sz) 0 K V) (aM o sz)) 0 0 (aM o sz) := by
  refine xM_met (av := [.int (nI fr), .int (nI to), .int 0]) (by decide) rfl (Nat.le_of_ble_eq_true rfl) ?_
  intro p e s m below meth c ls hC hsz hr hlocks hnm hnh had hl hI
  have hA : ∀ q, s.heap.size ≤ q → aM o sz q := fun q h => aM_new (by omega)
  have hx := hC.1.1
  have hb := hC.1.2.1
  have hml := hC.1.2.2.1
  have hown := hC.1.2.2.2.1
  have ht := hC.1.2.2.2.2
  have S := hC.1
  have hl : lv_has ls 10 [(0, .ref (o 0)), (1, .int (nI fr)), (2, .int (nI to)), (3, .int 0)] := hl
  refine lv_aload_n hx hb d_M_about_0 rfl (lv_at hl 0 rfl) ?_
  refine lv_iconst hx hb (v := 0) d_M_about_1 (by decide +kernel) ?_
  refine xM_put0 hC hI d_M_about_2 (fun H locs hI => ?_)
  refine lv_aload_n hx hb d_M_about_5 rfl (lv_at hl 0 rfl) ?_
  refine lv_iload_n hx hb d_M_about_6 rfl (lv_at hl 3 rfl) ?_
  refine lv_i2l hx hb (v := (0 : Int32).toInt64) d_M_about_7 rfl ?_
  refine lv_lconst hx hb (v := 0) d_M_about_8 (by decide +kernel) ?_
  refine lv_ldc2 (v := 2) hx hb hown (ht _ tw_353) d_M_about_9 ?_
  refine xS_calli (As := [.long (0 : Int32).toInt64, .long 0, .long 2]) (rest := [.ref (o 0)]) S c_M_in (cwS 3 ht gs_M_23 rfl rfl rfl ⟨rfl, by decide, by decide, by decide +kernel⟩ ⟨by decide, by decide⟩) rfl hl.1 rfl (Nat.le_of_ble_eq_true rfl) d_M_about_12 ⟨by decide, by decide⟩ ?_
  refine xw_i (y := 1) (by decide) ?_
  refine lv_if_ne hx hb (tgt := 22) d_M_about_15 (by decide) (fun h15 => ?_) (fun h15 => absurd h15 (by decide))
  refine lv_iconst hx hb (v := 0) d_M_about_22 (by decide +kernel) ?_
  refine lv_iconst hx hb (v := 1) d_M_about_23 (by decide +kernel) ?_
  refine xM_calli (As := [.int 0, .int 1]) (rest := []) hC hI hA c_M_fails0 (cwV 2 ht gv_M_39 rfl rfl rfl ⟨rfl, by decide, by decide, by decide +kernel⟩ ⟨by decide, by decide⟩) rfl hl.1 rfl (Nat.le_of_ble_eq_true rfl) d_M_about_24 ⟨by decide, by decide⟩ (fun H locs hI _ _ => ?_)
  refine lv_if_ne hx hb (tgt := 51) d_M_about_27 (by decide) (fun h27 => absurd (by decide) h27) (fun h27 => ?_)
  refine lv_aload_n hx hb d_M_about_30 rfl (lv_at hl 0 rfl) ?_
  refine lv_iload_n hx hb d_M_about_31 rfl (lv_at hl 1 rfl) ?_
  refine lv_iload_n hx hb d_M_about_32 rfl (lv_at hl 2 rfl) ?_
  refine xS_calli (As := [.int (nI fr), .int (nI to)]) (rest := [.ref (o 0)]) S c_M_isPart (cwS 2 ht gs_M_45 rfl rfl rfl ⟨rfl, by decide, by decide, by decide +kernel⟩ ⟨by decide, by decide⟩) rfl hl.1 rfl (Nat.le_of_ble_eq_true rfl) d_M_about_33 ⟨by decide, by decide⟩ ?_
  refine xw_i (y := 1) (m_pt_ok hft hto) ?_
  refine lv_if_ne hx hb (tgt := 43) d_M_about_36 (by decide) (fun h36 => ?_) (fun h36 => absurd h36 (by decide))
  refine lv_iconst hx hb (v := 0) d_M_about_43 (by decide +kernel) ?_
  refine lv_iconst hx hb (v := 2) d_M_about_44 (by decide +kernel) ?_
  refine xM_calli (As := [.int 0, .int 2]) (rest := []) hC hI hA c_M_fails0 (cwV 2 ht gv_M_39 rfl rfl rfl ⟨rfl, by decide, by decide, by decide +kernel⟩ ⟨by decide, by decide⟩) rfl hl.1 rfl (Nat.le_of_ble_eq_true rfl) d_M_about_45 ⟨by decide, by decide⟩ (fun H locs hI _ _ => ?_)
  refine lv_if_eq hx hb (tgt := 53) d_M_about_48 (by decide) (fun h48 => ?_) (fun h48 => absurd (by decide) h48)
  refine lv_aload_n hx hb d_M_about_53 rfl (lv_at hl 0 rfl) ?_
  refine lv_iload_n hx hb d_M_about_54 rfl (lv_at hl 1 rfl) ?_
  refine lv_iload_n hx hb d_M_about_55 rfl (lv_at hl 2 rfl) ?_
  refine lv_ldc2 (v := (-1000000000000000)) hx hb hown (ht _ tw_348) d_M_about_56 ?_
  refine xM_calll (As := [.int (nI fr), .int (nI to), .long (-1000000000000000)]) (rest := []) hC hI hA (c_M_made hft hto) (cwV 3 ht gv_M_53 rfl rfl rfl ⟨rfl, by decide, by decide, by decide +kernel⟩ ⟨by decide, by decide⟩) rfl hl.1 rfl (Nat.le_of_ble_eq_true rfl) d_M_about_59 ⟨by decide, by decide⟩ (fun H locs hI _ _ => ?_)
  refine lv_lstore hx hb d_M_about_62 hl (by decide) (lv' := [(4, .long (m_made K V (to - fr) fr (-1000000000000000))), (0, .ref (o 0)), (1, .int (nI fr)), (2, .int (nI to)), (3, .int 0)]) rfl (fun ls hl => ?_)
  refine lv_aload_n hx hb d_M_about_64 rfl (lv_at hl 1 rfl) ?_
  refine lv_iload_n hx hb d_M_about_65 rfl (lv_at hl 2 rfl) ?_
  refine lv_iload_n hx hb d_M_about_66 rfl (lv_at hl 3 rfl) ?_
  refine lv_ldc2 (v := 1000000000000000) hx hb hown (ht _ tw_358) d_M_about_67 ?_
  refine xM_calll (As := [.int (nI fr), .int (nI to), .long 1000000000000000]) (rest := []) hC hI hA (c_M_made hft hto) (cwV 3 ht gv_M_53 rfl rfl rfl ⟨rfl, by decide, by decide, by decide +kernel⟩ ⟨by decide, by decide⟩) rfl hl.1 rfl (Nat.le_of_ble_eq_true rfl) d_M_about_70 ⟨by decide, by decide⟩ (fun H locs hI _ _ => ?_)
  refine lv_lstore hx hb d_M_about_73 hl (by decide) (lv' := [(6, .long (m_made K V (to - fr) fr 1000000000000000)), (4, .long (m_made K V (to - fr) fr (-1000000000000000))), (0, .ref (o 0)), (1, .int (nI fr)), (2, .int (nI to)), (3, .int 0)]) rfl (fun ls hl => ?_)
  refine lv_iload_n hx hb d_M_about_75 rfl (lv_at hl 5 rfl) ?_
  refine lv_if_ne hx hb (tgt := 93) d_M_about_76 (by decide) (fun h76 => absurd (by decide) h76) (fun h76 => ?_)
  refine lv_lload hx hb d_M_about_79 (lv_at hl 1 rfl) ?_
  refine lv_lload hx hb d_M_about_81 (lv_at hl 0 rfl) ?_
  refine W.lcmp hx hb d_M_about_83 ?_
  refine lv_if_ne hx hb (tgt := 91) d_M_about_84 (by decide) (fun h84 => ?_) (fun h84 => ?_)
  · skip
    refine lv_iconst hx hb (v := 0) d_M_about_91 (by decide +kernel) ?_
    rw [show (if (m_made K V (to - fr) fr (-1000000000000000)) = (m_made K V (to - fr) fr 1000000000000000) then 1 else 0 : Int32) = 0 from (by (try simp only [lg_cmp_eq] at h84); simp [h84])]
    exact xM_iret hC hI hr hlocks d_M_about_92
  · skip
    refine lv_iconst hx hb (v := 1) d_M_about_87 (by decide +kernel) ?_
    refine lv_goto hx hb (tgt := 92) d_M_about_88 (by decide) ?_
    rw [show (if (m_made K V (to - fr) fr (-1000000000000000)) = (m_made K V (to - fr) fr 1000000000000000) then 1 else 0 : Int32) = 1 from (by (try simp only [lg_cmp_eq] at h84); simp [h84])]
    exact xM_iret hC hI hr hlocks d_M_about_92
set_option maxHeartbeats 4000000 in
set_option maxRecDepth 100000 in
/-- about(from, to, 2) -/
theorem c_M_about3_2 {l : Launch} {D : va_G} {o : Nat → Nat} {cJ cI : ClassId} {sz : Nat} {K : Nat → Int32} {V : Nat → Int64} {r : Int32} {fr to : Nat} (hft : fr ≤ to) (hto : to ≤ 256) : Met l y_M_about ws_M_about rm_M_about (va_Pc [.ref (o 0), .int (nI fr), .int (nI to), .int 2] (pM D o cJ cI sz r K V)) (va_Qi (fun (r9 : Int32) (_ : Unit) => r9 = (if (m_made K V (to - fr) fr (-1000000000000000)) = -1000000000000000 ∧ (m_made K V (to - fr) fr 1000000000000000) = 1000000000000000 then 1 else 0 : Int32)) (fun _ => bM D o cJ cI (aM o sz) 0 K V) (aM o sz)) 0 0 (aM o sz) := by
  refine xM_met (av := [.int (nI fr), .int (nI to), .int 2]) (by decide) rfl (Nat.le_of_ble_eq_true rfl) ?_
  intro p e s m below meth c ls hC hsz hr hlocks hnm hnh had hl hI
  have hA : ∀ q, s.heap.size ≤ q → aM o sz q := fun q h => aM_new (by omega)
  have hx := hC.1.1
  have hb := hC.1.2.1
  have hml := hC.1.2.2.1
  have hown := hC.1.2.2.2.1
  have ht := hC.1.2.2.2.2
  have S := hC.1
  have hl : lv_has ls 10 [(0, .ref (o 0)), (1, .int (nI fr)), (2, .int (nI to)), (3, .int 2)] := hl
  refine lv_aload_n hx hb d_M_about_0 rfl (lv_at hl 0 rfl) ?_
  refine lv_iconst hx hb (v := 0) d_M_about_1 (by decide +kernel) ?_
  refine xM_put0 hC hI d_M_about_2 (fun H locs hI => ?_)
  refine lv_aload_n hx hb d_M_about_5 rfl (lv_at hl 0 rfl) ?_
  refine lv_iload_n hx hb d_M_about_6 rfl (lv_at hl 3 rfl) ?_
  refine lv_i2l hx hb (v := (2 : Int32).toInt64) d_M_about_7 rfl ?_
  refine lv_lconst hx hb (v := 0) d_M_about_8 (by decide +kernel) ?_
  refine lv_ldc2 (v := 2) hx hb hown (ht _ tw_353) d_M_about_9 ?_
  refine xS_calli (As := [.long (2 : Int32).toInt64, .long 0, .long 2]) (rest := [.ref (o 0)]) S c_M_in (cwS 3 ht gs_M_23 rfl rfl rfl ⟨rfl, by decide, by decide, by decide +kernel⟩ ⟨by decide, by decide⟩) rfl hl.1 rfl (Nat.le_of_ble_eq_true rfl) d_M_about_12 ⟨by decide, by decide⟩ ?_
  refine xw_i (y := 1) (by decide) ?_
  refine lv_if_ne hx hb (tgt := 22) d_M_about_15 (by decide) (fun h15 => ?_) (fun h15 => absurd h15 (by decide))
  refine lv_iconst hx hb (v := 0) d_M_about_22 (by decide +kernel) ?_
  refine lv_iconst hx hb (v := 1) d_M_about_23 (by decide +kernel) ?_
  refine xM_calli (As := [.int 0, .int 1]) (rest := []) hC hI hA c_M_fails0 (cwV 2 ht gv_M_39 rfl rfl rfl ⟨rfl, by decide, by decide, by decide +kernel⟩ ⟨by decide, by decide⟩) rfl hl.1 rfl (Nat.le_of_ble_eq_true rfl) d_M_about_24 ⟨by decide, by decide⟩ (fun H locs hI _ _ => ?_)
  refine lv_if_ne hx hb (tgt := 51) d_M_about_27 (by decide) (fun h27 => absurd (by decide) h27) (fun h27 => ?_)
  refine lv_aload_n hx hb d_M_about_30 rfl (lv_at hl 0 rfl) ?_
  refine lv_iload_n hx hb d_M_about_31 rfl (lv_at hl 1 rfl) ?_
  refine lv_iload_n hx hb d_M_about_32 rfl (lv_at hl 2 rfl) ?_
  refine xS_calli (As := [.int (nI fr), .int (nI to)]) (rest := [.ref (o 0)]) S c_M_isPart (cwS 2 ht gs_M_45 rfl rfl rfl ⟨rfl, by decide, by decide, by decide +kernel⟩ ⟨by decide, by decide⟩) rfl hl.1 rfl (Nat.le_of_ble_eq_true rfl) d_M_about_33 ⟨by decide, by decide⟩ ?_
  refine xw_i (y := 1) (m_pt_ok hft hto) ?_
  refine lv_if_ne hx hb (tgt := 43) d_M_about_36 (by decide) (fun h36 => ?_) (fun h36 => absurd h36 (by decide))
  refine lv_iconst hx hb (v := 0) d_M_about_43 (by decide +kernel) ?_
  refine lv_iconst hx hb (v := 2) d_M_about_44 (by decide +kernel) ?_
  refine xM_calli (As := [.int 0, .int 2]) (rest := []) hC hI hA c_M_fails0 (cwV 2 ht gv_M_39 rfl rfl rfl ⟨rfl, by decide, by decide, by decide +kernel⟩ ⟨by decide, by decide⟩) rfl hl.1 rfl (Nat.le_of_ble_eq_true rfl) d_M_about_45 ⟨by decide, by decide⟩ (fun H locs hI _ _ => ?_)
  refine lv_if_eq hx hb (tgt := 53) d_M_about_48 (by decide) (fun h48 => ?_) (fun h48 => absurd (by decide) h48)
  refine lv_aload_n hx hb d_M_about_53 rfl (lv_at hl 0 rfl) ?_
  refine lv_iload_n hx hb d_M_about_54 rfl (lv_at hl 1 rfl) ?_
  refine lv_iload_n hx hb d_M_about_55 rfl (lv_at hl 2 rfl) ?_
  refine lv_ldc2 (v := (-1000000000000000)) hx hb hown (ht _ tw_348) d_M_about_56 ?_
  refine xM_calll (As := [.int (nI fr), .int (nI to), .long (-1000000000000000)]) (rest := []) hC hI hA (c_M_made hft hto) (cwV 3 ht gv_M_53 rfl rfl rfl ⟨rfl, by decide, by decide, by decide +kernel⟩ ⟨by decide, by decide⟩) rfl hl.1 rfl (Nat.le_of_ble_eq_true rfl) d_M_about_59 ⟨by decide, by decide⟩ (fun H locs hI _ _ => ?_)
  refine lv_lstore hx hb d_M_about_62 hl (by decide) (lv' := [(4, .long (m_made K V (to - fr) fr (-1000000000000000))), (0, .ref (o 0)), (1, .int (nI fr)), (2, .int (nI to)), (3, .int 2)]) rfl (fun ls hl => ?_)
  refine lv_aload_n hx hb d_M_about_64 rfl (lv_at hl 1 rfl) ?_
  refine lv_iload_n hx hb d_M_about_65 rfl (lv_at hl 2 rfl) ?_
  refine lv_iload_n hx hb d_M_about_66 rfl (lv_at hl 3 rfl) ?_
  refine lv_ldc2 (v := 1000000000000000) hx hb hown (ht _ tw_358) d_M_about_67 ?_
  refine xM_calll (As := [.int (nI fr), .int (nI to), .long 1000000000000000]) (rest := []) hC hI hA (c_M_made hft hto) (cwV 3 ht gv_M_53 rfl rfl rfl ⟨rfl, by decide, by decide, by decide +kernel⟩ ⟨by decide, by decide⟩) rfl hl.1 rfl (Nat.le_of_ble_eq_true rfl) d_M_about_70 ⟨by decide, by decide⟩ (fun H locs hI _ _ => ?_)
  refine lv_lstore hx hb d_M_about_73 hl (by decide) (lv' := [(6, .long (m_made K V (to - fr) fr 1000000000000000)), (4, .long (m_made K V (to - fr) fr (-1000000000000000))), (0, .ref (o 0)), (1, .int (nI fr)), (2, .int (nI to)), (3, .int 2)]) rfl (fun ls hl => ?_)
  refine lv_iload_n hx hb d_M_about_75 rfl (lv_at hl 5 rfl) ?_
  refine lv_if_ne hx hb (tgt := 93) d_M_about_76 (by decide) (fun h76 => ?_) (fun h76 => absurd h76 (by decide))
  refine lv_iload_n hx hb d_M_about_93 rfl (lv_at hl 5 rfl) ?_
  refine lv_iconst hx hb (v := 2) d_M_about_94 (by decide +kernel) ?_
  refine lv_icmp_ne hx hb (tgt := 122) d_M_about_95 (by decide) (fun h95 => absurd (by decide) h95) (fun h95 => ?_)
  refine lv_lload hx hb d_M_about_98 (lv_at hl 1 rfl) ?_
  refine lv_ldc2 (v := (-1000000000000000)) hx hb hown (ht _ tw_348) d_M_about_100 ?_
  refine W.lcmp hx hb d_M_about_103 ?_
  refine lv_if_ne hx hb (tgt := 120) d_M_about_104 (by decide) (fun h104 => ?_) (fun h104 => ?_)
  · skip
    refine lv_iconst hx hb (v := 0) d_M_about_120 (by decide +kernel) ?_
    rw [show (if (m_made K V (to - fr) fr (-1000000000000000)) = -1000000000000000 ∧ (m_made K V (to - fr) fr 1000000000000000) = 1000000000000000 then 1 else 0 : Int32) = 0 from (by (try simp only [lg_cmp_eq] at h104); simp [h104])]
    exact xM_iret hC hI hr hlocks d_M_about_121
  · skip
    refine lv_lload hx hb d_M_about_107 (lv_at hl 0 rfl) ?_
    refine lv_ldc2 (v := 1000000000000000) hx hb hown (ht _ tw_358) d_M_about_109 ?_
    refine W.lcmp hx hb d_M_about_112 ?_
    refine lv_if_ne hx hb (tgt := 120) d_M_about_113 (by decide) (fun h113 => ?_) (fun h113 => ?_)
    · skip
      refine lv_iconst hx hb (v := 0) d_M_about_120 (by decide +kernel) ?_
      rw [show (if (m_made K V (to - fr) fr (-1000000000000000)) = -1000000000000000 ∧ (m_made K V (to - fr) fr 1000000000000000) = 1000000000000000 then 1 else 0 : Int32) = 0 from (by (try simp only [lg_cmp_eq] at h104 h113); simp [h104, h113])]
      exact xM_iret hC hI hr hlocks d_M_about_121
    · skip
      refine lv_iconst hx hb (v := 1) d_M_about_116 (by decide +kernel) ?_
      refine lv_goto hx hb (tgt := 121) d_M_about_117 (by decide) ?_
      rw [show (if (m_made K V (to - fr) fr (-1000000000000000)) = -1000000000000000 ∧ (m_made K V (to - fr) fr 1000000000000000) = 1000000000000000 then 1 else 0 : Int32) = 1 from (by (try simp only [lg_cmp_eq] at h104 h113); simp [h104, h113])]
      exact xM_iret hC hI hr hlocks d_M_about_121
set_option maxHeartbeats 4000000 in
set_option maxRecDepth 100000 in
theorem u_M_about {l : Launch} {D : va_G} {o : Nat → Nat} {cJ cI : ClassId} {r : Int32} {K : Nat → Int32} {V : Nat → Int64} {p : Program} {e : Env} {R : Room} {s : State} {m : MethodId} {args : Array Value} {below : List Frame} {meth : Method} {c : Code} {Q : State → Prop} {A : Nat → Prop} {H0 H : Heap} {locs : List Loc} {cells slots : Nat} {fr to : Nat} (hC : CX p m c b_M_about 10 s args R_M D cJ cI) (hI : iM D o cJ cI A H0 H locs r K V) (hto : to ≤ 256) (hft : fr ≤ to) :
    ∀ (n d : Nat) (ls : Array Slot), fr + d + n = to → lv_has ls 10 [(9, .int (nI (fr + d))), (8, .int (nI (x_cnt K fr d))), (0, .ref (o 0)), (1, .int (nI fr)), (2, .int (nI to))] → (∀ (ls1 : Array Slot), lv_has ls1 10 [(8, .int (nI (x_cnt K fr (to - fr))))] → W p l e R s m args below meth c H locs cells slots Q (F0 m 153 ls1 [])) → W p l e R s m args below meth c H locs cells slots Q (F0 m 128 ls []) := by
  have hx := hC.1.1
  have hb := hC.1.2.1
  intro n
  induction n with
  | zero =>
    intro d ls hd hl kk
    have hd2 : d = to - fr := by omega
    subst hd2
    refine lv_iload hx hb d_M_about_128 (lv_at hl 0 rfl) ?_
    refine lv_iload_n hx hb d_M_about_130 rfl (lv_at hl 4 rfl) ?_
    refine lv_icmp_ge hx hb (tgt := 153) d_M_about_131 (by decide) (fun h131 => ?_) (fun h131 => absurd ((nI_leI (by omega) (by omega)).mpr (by omega)) h131)
    exact kk ls (lv_sub hl [1] rfl)
  | succ n ih =>
    intro d ls hd hl kk
    have hj : fr + d < 256 := by omega
    have hc9 := x_cnt_le K fr d
    refine lv_iload hx hb d_M_about_128 (lv_at hl 0 rfl) ?_
    refine lv_iload_n hx hb d_M_about_130 rfl (lv_at hl 4 rfl) ?_
    refine lv_icmp_ge hx hb (tgt := 153) d_M_about_131 (by decide) (fun h131 => absurd ((nI_leI (by omega) (by omega)).mp h131) (by omega)) (fun h131 => ?_)
    refine lv_aload_n hx hb d_M_about_134 rfl (lv_at hl 2 rfl) ?_
    refine xM_get1 hC hI d_M_about_135 ?_
    refine lv_iload hx hb d_M_about_138 (lv_at hl 0 rfl) ?_
    refine xM_ld1 hC hI hj d_M_about_140 ?_
    refine lv_if_eq hx hb (tgt := 147) d_M_about_141 (by decide) (fun h141 => ?_) (fun h141 => ?_)
    · skip
      refine lv_iinc (k := 0) hx hb d_M_about_147 hl rfl (xi_inc (fr + d)) (by decide) (lv' := [(9, .int (nI (fr + (d + 1)))), (8, .int (nI (x_cnt K fr d))), (0, .ref (o 0)), (1, .int (nI fr)), (2, .int (nI to))]) rfl (fun ls hl => ?_)
      refine lv_goto hx hb (tgt := 128) d_M_about_150 (by decide) ?_
      have e9 : x_cnt K fr (d + 1) = x_cnt K fr d := by simp [x_cnt, h141]
      refine ih (d + 1) ls (by omega) ?_ kk
      rw [e9]
      exact lv_sub hl [0, 1, 2, 3, 4] rfl
    · skip
      refine lv_iinc (k := 1) hx hb d_M_about_144 hl rfl (xi_inc (x_cnt K fr d)) (by decide) (lv' := [(8, .int (nI (x_cnt K fr d + 1))), (9, .int (nI (fr + d))), (0, .ref (o 0)), (1, .int (nI fr)), (2, .int (nI to))]) rfl (fun ls hl => ?_)
      refine lv_iinc (k := 1) hx hb d_M_about_147 hl rfl (xi_inc (fr + d)) (by decide) (lv' := [(9, .int (nI (fr + (d + 1)))), (8, .int (nI (x_cnt K fr d + 1))), (0, .ref (o 0)), (1, .int (nI fr)), (2, .int (nI to))]) rfl (fun ls hl => ?_)
      refine lv_goto hx hb (tgt := 128) d_M_about_150 (by decide) ?_
      have e9 : x_cnt K fr (d + 1) = x_cnt K fr d + 1 := by simp [x_cnt, h141]
      refine ih (d + 1) ls (by omega) ?_ kk
      rw [e9]
      exact lv_sub hl [0, 1, 2, 3, 4] rfl
set_option maxHeartbeats 4000000 in
set_option maxRecDepth 100000 in
/-- about(from, to, 1) -/
theorem c_M_about3_1 {l : Launch} {D : va_G} {o : Nat → Nat} {cJ cI : ClassId} {sz : Nat} {K : Nat → Int32} {V : Nat → Int64} {r : Int32} {fr to : Nat} (hft : fr ≤ to) (hto : to ≤ 256) : Met l y_M_about ws_M_about rm_M_about (va_Pc [.ref (o 0), .int (nI fr), .int (nI to), .int 1] (pM D o cJ cI sz r K V)) (va_Qi (fun (r9 : Int32) (_ : Unit) => r9 = (nI (x_cnt K fr (to - fr)))) (fun _ => bM D o cJ cI (aM o sz) 0 K V) (aM o sz)) 0 0 (aM o sz) := by
  refine xM_met (av := [.int (nI fr), .int (nI to), .int 1]) (by decide) rfl (Nat.le_of_ble_eq_true rfl) ?_
  intro p e s m below meth c ls hC hsz hr hlocks hnm hnh had hl hI
  have hA : ∀ q, s.heap.size ≤ q → aM o sz q := fun q h => aM_new (by omega)
  have hx := hC.1.1
  have hb := hC.1.2.1
  have hml := hC.1.2.2.1
  have hown := hC.1.2.2.2.1
  have ht := hC.1.2.2.2.2
  have S := hC.1
  have hl : lv_has ls 10 [(0, .ref (o 0)), (1, .int (nI fr)), (2, .int (nI to)), (3, .int 1)] := hl
  refine lv_aload_n hx hb d_M_about_0 rfl (lv_at hl 0 rfl) ?_
  refine lv_iconst hx hb (v := 0) d_M_about_1 (by decide +kernel) ?_
  refine xM_put0 hC hI d_M_about_2 (fun H locs hI => ?_)
  refine lv_aload_n hx hb d_M_about_5 rfl (lv_at hl 0 rfl) ?_
  refine lv_iload_n hx hb d_M_about_6 rfl (lv_at hl 3 rfl) ?_
  refine lv_i2l hx hb (v := (1 : Int32).toInt64) d_M_about_7 rfl ?_
  refine lv_lconst hx hb (v := 0) d_M_about_8 (by decide +kernel) ?_
  refine lv_ldc2 (v := 2) hx hb hown (ht _ tw_353) d_M_about_9 ?_
  refine xS_calli (As := [.long (1 : Int32).toInt64, .long 0, .long 2]) (rest := [.ref (o 0)]) S c_M_in (cwS 3 ht gs_M_23 rfl rfl rfl ⟨rfl, by decide, by decide, by decide +kernel⟩ ⟨by decide, by decide⟩) rfl hl.1 rfl (Nat.le_of_ble_eq_true rfl) d_M_about_12 ⟨by decide, by decide⟩ ?_
  refine xw_i (y := 1) (by decide) ?_
  refine lv_if_ne hx hb (tgt := 22) d_M_about_15 (by decide) (fun h15 => ?_) (fun h15 => absurd h15 (by decide))
  refine lv_iconst hx hb (v := 0) d_M_about_22 (by decide +kernel) ?_
  refine lv_iconst hx hb (v := 1) d_M_about_23 (by decide +kernel) ?_
  refine xM_calli (As := [.int 0, .int 1]) (rest := []) hC hI hA c_M_fails0 (cwV 2 ht gv_M_39 rfl rfl rfl ⟨rfl, by decide, by decide, by decide +kernel⟩ ⟨by decide, by decide⟩) rfl hl.1 rfl (Nat.le_of_ble_eq_true rfl) d_M_about_24 ⟨by decide, by decide⟩ (fun H locs hI _ _ => ?_)
  refine lv_if_ne hx hb (tgt := 51) d_M_about_27 (by decide) (fun h27 => absurd (by decide) h27) (fun h27 => ?_)
  refine lv_aload_n hx hb d_M_about_30 rfl (lv_at hl 0 rfl) ?_
  refine lv_iload_n hx hb d_M_about_31 rfl (lv_at hl 1 rfl) ?_
  refine lv_iload_n hx hb d_M_about_32 rfl (lv_at hl 2 rfl) ?_
  refine xS_calli (As := [.int (nI fr), .int (nI to)]) (rest := [.ref (o 0)]) S c_M_isPart (cwS 2 ht gs_M_45 rfl rfl rfl ⟨rfl, by decide, by decide, by decide +kernel⟩ ⟨by decide, by decide⟩) rfl hl.1 rfl (Nat.le_of_ble_eq_true rfl) d_M_about_33 ⟨by decide, by decide⟩ ?_
  refine xw_i (y := 1) (m_pt_ok hft hto) ?_
  refine lv_if_ne hx hb (tgt := 43) d_M_about_36 (by decide) (fun h36 => ?_) (fun h36 => absurd h36 (by decide))
  refine lv_iconst hx hb (v := 0) d_M_about_43 (by decide +kernel) ?_
  refine lv_iconst hx hb (v := 2) d_M_about_44 (by decide +kernel) ?_
  refine xM_calli (As := [.int 0, .int 2]) (rest := []) hC hI hA c_M_fails0 (cwV 2 ht gv_M_39 rfl rfl rfl ⟨rfl, by decide, by decide, by decide +kernel⟩ ⟨by decide, by decide⟩) rfl hl.1 rfl (Nat.le_of_ble_eq_true rfl) d_M_about_45 ⟨by decide, by decide⟩ (fun H locs hI _ _ => ?_)
  refine lv_if_eq hx hb (tgt := 53) d_M_about_48 (by decide) (fun h48 => ?_) (fun h48 => absurd (by decide) h48)
  refine lv_aload_n hx hb d_M_about_53 rfl (lv_at hl 0 rfl) ?_
  refine lv_iload_n hx hb d_M_about_54 rfl (lv_at hl 1 rfl) ?_
  refine lv_iload_n hx hb d_M_about_55 rfl (lv_at hl 2 rfl) ?_
  refine lv_ldc2 (v := (-1000000000000000)) hx hb hown (ht _ tw_348) d_M_about_56 ?_
  refine xM_calll (As := [.int (nI fr), .int (nI to), .long (-1000000000000000)]) (rest := []) hC hI hA (c_M_made hft hto) (cwV 3 ht gv_M_53 rfl rfl rfl ⟨rfl, by decide, by decide, by decide +kernel⟩ ⟨by decide, by decide⟩) rfl hl.1 rfl (Nat.le_of_ble_eq_true rfl) d_M_about_59 ⟨by decide, by decide⟩ (fun H locs hI _ _ => ?_)
  refine lv_lstore hx hb d_M_about_62 hl (by decide) (lv' := [(4, .long (m_made K V (to - fr) fr (-1000000000000000))), (0, .ref (o 0)), (1, .int (nI fr)), (2, .int (nI to)), (3, .int 1)]) rfl (fun ls hl => ?_)
  refine lv_aload_n hx hb d_M_about_64 rfl (lv_at hl 1 rfl) ?_
  refine lv_iload_n hx hb d_M_about_65 rfl (lv_at hl 2 rfl) ?_
  refine lv_iload_n hx hb d_M_about_66 rfl (lv_at hl 3 rfl) ?_
  refine lv_ldc2 (v := 1000000000000000) hx hb hown (ht _ tw_358) d_M_about_67 ?_
  refine xM_calll (As := [.int (nI fr), .int (nI to), .long 1000000000000000]) (rest := []) hC hI hA (c_M_made hft hto) (cwV 3 ht gv_M_53 rfl rfl rfl ⟨rfl, by decide, by decide, by decide +kernel⟩ ⟨by decide, by decide⟩) rfl hl.1 rfl (Nat.le_of_ble_eq_true rfl) d_M_about_70 ⟨by decide, by decide⟩ (fun H locs hI _ _ => ?_)
  refine lv_lstore hx hb d_M_about_73 hl (by decide) (lv' := [(6, .long (m_made K V (to - fr) fr 1000000000000000)), (4, .long (m_made K V (to - fr) fr (-1000000000000000))), (0, .ref (o 0)), (1, .int (nI fr)), (2, .int (nI to)), (3, .int 1)]) rfl (fun ls hl => ?_)
  refine lv_iload_n hx hb d_M_about_75 rfl (lv_at hl 5 rfl) ?_
  refine lv_if_ne hx hb (tgt := 93) d_M_about_76 (by decide) (fun h76 => ?_) (fun h76 => absurd h76 (by decide))
  refine lv_iload_n hx hb d_M_about_93 rfl (lv_at hl 5 rfl) ?_
  refine lv_iconst hx hb (v := 2) d_M_about_94 (by decide +kernel) ?_
  refine lv_icmp_ne hx hb (tgt := 122) d_M_about_95 (by decide) (fun h95 => ?_) (fun h95 => absurd h95 (by decide))
  refine lv_iconst hx hb (v := nI 0) d_M_about_122 (by decide +kernel) ?_
  refine lv_istore hx hb d_M_about_123 hl (by decide) (lv' := [(8, .int (nI 0)), (6, .long (m_made K V (to - fr) fr 1000000000000000)), (4, .long (m_made K V (to - fr) fr (-1000000000000000))), (0, .ref (o 0)), (1, .int (nI fr)), (2, .int (nI to)), (3, .int 1)]) rfl (fun ls hl => ?_)
  refine lv_iload_n hx hb d_M_about_125 rfl (lv_at hl 4 rfl) ?_
  refine lv_istore hx hb d_M_about_126 hl (by decide) (lv' := [(9, .int (nI fr)), (8, .int (nI 0)), (6, .long (m_made K V (to - fr) fr 1000000000000000)), (4, .long (m_made K V (to - fr) fr (-1000000000000000))), (0, .ref (o 0)), (1, .int (nI fr)), (2, .int (nI to)), (3, .int 1)]) rfl (fun ls hl => ?_)
  have hl := lv_sub hl [0, 1, 4, 5, 6] (l' := [(9, .int (nI fr)), (8, .int (nI 0)), (0, .ref (o 0)), (1, .int (nI fr)), (2, .int (nI to))]) rfl
  refine u_M_about hC hI hto hft (to - fr) 0 ls (by omega) hl (fun ls hl => ?_)
  refine lv_iload hx hb d_M_about_153 (lv_at hl 0 rfl) ?_
  exact xM_iret hC hI hr hlocks d_M_about_155
end
section
/-! the law's own small methods: calls of methods with a table, starts and ends -/
def aO (o : Nat → Nat) (q sz : Nat) : Nat → Prop := fun x => aF o sz x ∨ x = q
def oP (D : va_G) (cJ : ClassId) (q : Nat) (Z : Int64) (H : Heap) : Prop := va_P D xcl [(q, .inl (cJ, 1, .inr (.inl (fun _ => Z))))] H
theorem oP_kept {D : va_G} {cJ : ClassId} {q : Nat} {Z : Int64} {H H1 : Heap} (h : oP D cJ q Z H) (hq : H1[q]? = H[q]?) : oP D cJ q Z H1 := by
  refine va_P.kept h (fun k x hk => ?_)
  have hk0 : k = 0 := by have := (List.getElem?_eq_some_iff.mp hk).1; simp at this; exact this
  subst hk0
  cases hk
  exact hq
theorem oP_lt {D : va_G} {cJ : ClassId} {q : Nat} {Z : Int64} {H : Heap} (h : oP D cJ q Z H) : q < H.size := (h 0 _ rfl).lt
section XL
variable {p : Program} {l : Launch} {e : Env} {R : Room} {s : State} {m : MethodId} {args : Array Value} {below : List Frame} {meth : Method} {c : Code} {H : Heap} {locs : List Loc} {cells slots : Nat} {Q : State → Prop}
variable {cc : ByteArray} {pc nL : Nat} {ls : Array Slot} {rest : List Value} {D : va_G} {cJ cI : ClassId} {A : Nat → Prop} {H0 : Heap} {own : String} {o : Nat → Nat} {sz q : Nat}
variable {M L G : Nat → Int64} {K : Nat → Int32} {V : Nat → Int64} {a b t Z : Int64}
/-- a static method with a table is called -/
theorem xw_runS {y : MethodName} {bytes : ByteArray} {maxL mc ms n index : Nat} {ret : Option FieldType} {hh : List (Nat × Nat × Nat × Nat)} {rm : Room} {Pc : Array Value → State → Prop} {Qc : Array Value → State → Outcome → State → Prop} {free : Addr → Prop} {As : List Value} {g : JFrame}
    (S : CallFix p m c cc nL s args tb own) (hM : Met l y (Cond.codeWith y bytes maxL ret hh :: tb) rm Pc Qc mc ms free) (hG : Cond.codeWith y bytes maxL ret hh ∈ tb) (hrc : rm.cells = mc) (hrs : rm.slots = ms) (hR : rm.frames + 1 ≤ R.frames ∧ 8 + (maxL + 11) + rm.locals ≤ R.locals)
    (hini : (Cond.initialized y.cls).before args s = true) (hd : y.cls ≠ "java/lang/invoke/MethodHandle" ∧ y.cls ≠ "java/lang/invoke/VarHandle" ∧ (parseMethodDescriptor y.desc).map (fun d => d.parameters.length) = some n) (hl : (Cond.methodLink own index y).before args s = true) (hstt : (Cond.static y).before args s = true) (hp : PreS s H Pc As)
    (hg : g.method = m) (hn : As.length = n) (hsize : g.locals.size = nL) (hstack : g.stack = As.reverse ++ rest) (hW : 2 * g.monitorRoom + (rest.map fun v => v.category).sum ≤ 8) (hdg : decode cc g.pc = .ok (.invokestatic index, 3)) (hf : cells + mc ≤ R.cells ∧ slots + ms ≤ R.slots) :
    va_Run p l e R s m args below meth c H locs cells slots mc ms g rest (Qc As.toArray) free := by
  obtain ⟨hx, hb, hml, ho, ht⟩ := S
  have hws := pay_in ht (tb_gc hG)
  have hK : Back l R p e below s args y 3 8 (PreOf R mc ms Pc) (PostOf Qc mc ms free) := va_backW (hh := hh) (bytes := bytes) (maxL := maxL) (ret := ret) hM hp.1 hrc hrs hR.1 hR.2 hws List.mem_cons_self (fun a' U hW => word_at hW (Or.inl (by first | rfl | simp [Cond.onTables, Cond.keeps, Cond.steady])) hini)
  intro T hT X
  obtain ⟨mk, methM, cM, hnamed, hmethM, -, -, -, -, -, -, hsigM⟩ := Cond.codeWith_spec (ht _ hG)
  have hstatic : methM.isStatic = true := Cond.static_spec hnamed hmethM hstt
  obtain ⟨kP, hkP, -⟩ := className_of_methodNamed hnamed
  have hinitP : kP.init = .initialized := Cond.initialized_spec (findClass_of_methodNamed hnamed) hkP hini
  have hlen : As.length = methM.sig.parameters.length := by
    have h2 := hd.2.2
    rw [hsigM] at h2
    exact hn.trans (Option.some.inj h2).symm
  obtain ⟨vm₁, X₁, hstep₁⟩ := X.invokestatic hx ho hl hnamed hmethM hstatic hkP hinitP ⟨hd.1, hd.2.1⟩ (g := g) hg (argsL := As) (rest := rest) hlen hstack (by rw [hb]; exact hdg)
  obtain ⟨v, ⟨U', l2, c2, s2⟩, X', ⟨g', mk2, t, L, e1, e2, hq, h1, hL, h2, h3⟩, hsteps⟩ := hK m meth c ⟨T.setVm vm₁, locs, cells, slots⟩ { g with stack := rest } (.invokestatic index) mk As.toArray X₁ hg (hsize.trans hml.symm) (by rw [hb]; exact hdg) hW (X₁.named hnamed) ⟨hf.1, hf.2, hp.2 (T.setVm vm₁) hT X₁.warmed⟩
  dsimp only [Pt.U, Pt.locs, Pt.cells, Pt.slots] at X' e1 e2 h1 h2 h3 hsteps
  subst h1; subst h2; subst h3
  exact ⟨v, (T.setVm vm₁).calling g' mk2 As.toArray, t, U', L, hT, X', hL, e1, e2, hq, fun target h => hstep₁ _ fun acts => by rw [doInvoke_state]; exact hsteps.trans h⟩
theorem aO_free (hI : iF D o cJ cI A H0 H locs M L G K V a b t) (hq : A q) (hA : ∀ q, H0.size ≤ q → A q) : ∀ x, aO o q H.size x → A x := fun x h => by
  rcases h with h | rfl
  · exact iF_free hI hA x h
  · exact hq
/-- the start of one of the law's small methods, without and with the array for the answer -/
theorem xL_met {y : MethodName} {maxL : Nat} {ret : Option FieldType} {hh : List (Nat × Nat × Nat × Nat)} {rm : Room} {av : List Value} {Qc : Array Value → State → Outcome → State → Prop} {mc ms : Nat} (hy : plainName y.cls = true) (hyc : y.cls = R_L) (hlen : (lg_sl (.ref (o 0) :: av)).length ≤ maxL)
    (body : ∀ (p : Program) (e : Env) (s : State) (m : MethodId) (below : List Frame) (meth : Method) (c : Code) (ls : Array Slot), CX p m c cc maxL s (Value.ref (o 0) :: av).toArray R_L D cJ cI → s.heap.size = sz → xz s → meth.sig.returnType = ret → meth.locks = false → c.exceptionTable.toList.map (fun h => (h.startPc, h.endPc, h.handlerPc, h.catchType)) = hh → meth.code = some c → l.admits e → lv_has ls maxL (lv_args 0 (.ref (o 0) :: av)) → iF D o cJ cI (aF o sz) s.heap s.heap [] M L G K V a b t →
      W p l e rm s m (Value.ref (o 0) :: av).toArray below meth c s.heap [] 0 0 (MQ below Qc (Value.ref (o 0) :: av).toArray s mc ms (aF o sz)) (F0 m 0 ls [])) :
    Met l y (Cond.codeWith y cc maxL ret hh :: tb) rm (va_Pc (.ref (o 0) :: av) (fun U => pF D o cJ cI sz M L G K V a b t U ∧ xz U)) Qc mc ms (aF o sz) := by
  refine va_MetW (cc := cc) (maxL := maxL) (ret := ret) (hh := hh) hy rfl ?_
  intro p e s m args below meth c s₁ B hml hv
  obtain ⟨rfl, ⟨hsz, hP, hK, hD0⟩, hz⟩ := hv
  have hts := atoms_spec (ws := Cond.codeWith y cc maxL ret hh :: tb) B.pre
  have hown : s.vm.findClass R_L = some m.cls := by rw [← hyc]; exact findClass_of_methodNamed B.named
  obtain ⟨m9, meth9, c9, n1, n2, n3, -, -, n6, -, -, -⟩ := Cond.codeWith_spec (hts _ List.mem_cons_self)
  cases B.named.symm.trans n1
  cases B.method.symm.trans n2
  cases (Stand.of_body B).code.symm.trans n3
  have hl := lv_entry (.ref (o 0) :: av) (n := maxL) hlen
  rw [lg_entry_eq]
  have hD := hD0.self (sz := sz)
  rw [aF_eq] at hD
  exact body p e s m below meth c _ ⟨⟨B.exec, B.bytes, hml, hown, fun w hw => hts w (List.mem_cons_of_mem _ hw)⟩, hK⟩ hsz hz B.returns B.notSynchronized n6 n3 B.admits hl ⟨hP, hD, va_S.rf⟩
theorem xL_metO {y : MethodName} {maxL : Nat} {ret : Option FieldType} {hh : List (Nat × Nat × Nat × Nat)} {rm : Room} {av : List Value} {Qc : Array Value → State → Outcome → State → Prop} {mc ms : Nat} (hy : plainName y.cls = true) (hyc : y.cls = R_L) (hlen : (lg_sl (.ref (o 0) :: av)).length ≤ maxL)
    (body : ∀ (p : Program) (e : Env) (s : State) (m : MethodId) (below : List Frame) (meth : Method) (c : Code) (ls : Array Slot), CX p m c cc maxL s (Value.ref (o 0) :: av).toArray R_L D cJ cI → s.heap.size = sz → xz s → meth.sig.returnType = ret → meth.locks = false → c.exceptionTable.toList.map (fun h => (h.startPc, h.endPc, h.handlerPc, h.catchType)) = hh → meth.code = some c → l.admits e → lv_has ls maxL (lv_args 0 (.ref (o 0) :: av)) → iF D o cJ cI (aO o q sz) s.heap s.heap [] M L G K V a b t → oP D cJ q Z s.heap →
      W p l e rm s m (Value.ref (o 0) :: av).toArray below meth c s.heap [] 0 0 (MQ below Qc (Value.ref (o 0) :: av).toArray s mc ms (aO o q sz)) (F0 m 0 ls [])) :
    Met l y (Cond.codeWith y cc maxL ret hh :: tb) rm (va_Pc (.ref (o 0) :: av) (fun U => (pF D o cJ cI sz M L G K V a b t U ∧ xz U) ∧ oP D cJ q Z U.heap)) Qc mc ms (aO o q sz) := by
  refine va_MetW (cc := cc) (maxL := maxL) (ret := ret) (hh := hh) hy rfl ?_
  intro p e s m args below meth c s₁ B hml hv
  obtain ⟨rfl, ⟨⟨hsz, hP, hK, hD0⟩, hz⟩, hO⟩ := hv
  have hts := atoms_spec (ws := Cond.codeWith y cc maxL ret hh :: tb) B.pre
  have hown : s.vm.findClass R_L = some m.cls := by rw [← hyc]; exact findClass_of_methodNamed B.named
  obtain ⟨m9, meth9, c9, n1, n2, n3, -, -, n6, -, -, -⟩ := Cond.codeWith_spec (hts _ List.mem_cons_self)
  cases B.named.symm.trans n1
  cases B.method.symm.trans n2
  cases (Stand.of_body B).code.symm.trans n3
  have hl := lv_entry (.ref (o 0) :: av) (n := maxL) hlen
  rw [lg_entry_eq]
  have hD := hD0.self (sz := sz)
  rw [aF_eq] at hD
  exact body p e s m below meth c _ ⟨⟨B.exec, B.bytes, hml, hown, fun w hw => hts w (List.mem_cons_of_mem _ hw)⟩, hK⟩ hsz hz B.returns B.notSynchronized n6 n3 B.admits hl ⟨hP, hD.weaken (fun _ _ _ h => Or.inl h), va_S.rf⟩ hO
theorem aO_xn (hI : iF D o cJ cI (aO o q sz) s.heap s.heap [] M L G K V a b t) (hO : oP D cJ q Z s.heap) (hsz : s.heap.size = sz) : xn (aO o q sz) s.heap := by
  intro x cell h hc
  rcases h with h | rfl
  · subst hsz
    rw [← aF_eq (cJ := cJ) (cI := cI) (M := M) (L := L) (G := G) (K := K) (V := V) (a := a) (b := b) (t := t)] at h
    exact xn_A hI.1 x cell h hc
  · exact xn_A hO x cell (Or.inl ⟨0, _, rfl⟩) hc
/-- the answer is laid down -/
theorem xO_st {x : Int64} (hC : CX p m c cc nL s args own D cJ cI) (hI : iF D o cJ cI A H0 H locs M L G K V a b t) (hO : oP D cJ q Z H) (hq : ∀ i, i < 6 → q ≠ o i) (hAq : A q) (hdg : decode cc pc = .ok (.lastore, 1))
    (kk : ∀ (H1 : Heap) (locs1 : List Loc), iF D o cJ cI A H0 H1 locs1 M L G K V a b t → oP D cJ q x H1 → W p l e R s m args below meth c H1 locs1 cells slots Q (F0 m (pc + 1) ls rest)) : W p l e R s m args below meth c H locs cells slots Q (F0 m pc ls (.long x :: .int (nI 0) :: .ref q :: rest)) := by
  have hP2 := va_P.app hI.1 hO
  have hD1 : va_D A ([(q, .inl (cJ, 1, .inr (.inl (fun _ => Z))))] : va_W) := by
    refine ⟨fun i j x y hi hj _ => ?_, fun k x hk => ?_⟩
    · have h1 := (List.getElem?_eq_some_iff.mp hi).1
      have h2 := (List.getElem?_eq_some_iff.mp hj).1
      simp at h1 h2
      omega
    · have hk0 : k = 0 := by have := (List.getElem?_eq_some_iff.mp hk).1; simp at this; exact this
      subst hk0
      cases hk
      exact hAq
  have hD2 := va_D.app hI.2.1 hD1 (fun i j x y hx hy hxy => by
    have hj0 : j = 0 := by have := (List.getElem?_eq_some_iff.mp hy).1; simp at this; exact this
    subst hj0
    cases hy
    match i, hx with
    | 0, hx => cases hx; exact hq 0 (by decide) hxy.symm
    | 1, hx => cases hx; exact hq 1 (by decide) hxy.symm
    | 2, hx => cases hx; exact hq 2 (by decide) hxy.symm
    | 3, hx => cases hx; exact hq 3 (by decide) hxy.symm
    | 4, hx => cases hx; exact hq 4 (by decide) hxy.symm
    | 5, hx => cases hx; exact hq 5 (by decide) hxy.symm
    | i + 6, hx => simp at hx)
  refine va_last (x := x) hC.1.1 hC.1.2.1 hC.2 hP2 hD2 hI.2.2 6 0 rfl rfl (vp_in_nI (n := 0) (N := 1) (by decide) (by decide)) hdg (fun H1 locs1 h1 h2 h3 => ?_)
  refine kk H1 locs1 ⟨h1.sub [0, 1, 2, 3, 4, 5] rfl, h2.sub [0, 1, 2, 3, 4, 5] (by decide) rfl, h3⟩ ?_
  have h4 := h1.sub (ws' := [(q, .inl (cJ, 1, .inr (.inl (vp_updL (fun _ => Z) (nI 0).toNatClampNeg x))))]) [6] rfl
  intro k y hk
  have hk0 : k = 0 := by have := (List.getElem?_eq_some_iff.mp hk).1; simp at this; exact this
  subst hk0
  cases hk
  have h5 : H1[q]? = some (vp_cell cJ (1, .inr (.inl (vp_updL (fun _ => Z) (nI 0).toNatClampNeg x)))) := h4 0 _ rfl
  show H1[q]? = some (vp_cell cJ (1, .inr (.inl (fun _ => x))))
  rw [h5, vp_cell_l, vp_cell_l]
  congr 1
/-- the ends -/
theorem xL_iret {rv : Int32} (hC : CX p m c cc nL s args own D cJ cI) (hI : iF D o cJ cI (aF o sz) s.heap H locs M L G K V a b t) (hr : meth.sig.returnType = some .int) (hlocks : meth.locks = false) (hc : cells ≤ 1) (hs : slots ≤ 6) (hdg : decode cc pc = .ok (.ireturn, 1)) : W p l e R s m args below meth c H locs cells slots (MQ below (va_Qi (fun (r : Int32) (_ : Unit) => r = rv) (fun _ => bF D o cJ cI (aF o sz) M L G K V a b t) (aF o sz)) args s 1 6 (aF o sz)) (F0 m pc ls [.int rv]) :=
  W.widen hc hs (xF_iret hC hI hr hlocks hdg)
theorem xL_iretO {rv : Int32} (hC : CX p m c cc nL s args own D cJ cI) (hI : iF D o cJ cI (aO o q sz) s.heap H locs M L G K V a b t) (hO : oP D cJ q Z H) (hr : meth.sig.returnType = some .int) (hlocks : meth.locks = false) (hc : cells ≤ 1) (hs : slots ≤ 6) (hdg : decode cc pc = .ok (.ireturn, 1)) : W p l e R s m args below meth c H locs cells slots (MQ below (va_Qi (fun (r : Int32) (_ : Unit) => r = rv) (fun _ U => bF D o cJ cI (aO o q sz) M L G K V a b t U ∧ oP D cJ q Z U.heap) (aO o q sz)) args s 1 6 (aO o q sz)) (F0 m pc ls [.int rv]) :=
  W.widen hc hs (W.iret hC.1.1 hC.1.2.1 hr (fun t ht hW => ⟨⟨rv, (), rfl, rfl, ⟨by rw [ht]; exact hI.1, va_K.moved hW.alike hC.2, hI.2.1⟩, by rw [ht]; exact hO⟩, hI.2.2.F ht⟩) hI.2.2.2.2 hdg hlocks)
/-- behind a throw that is caught: the world -/
theorem xL_back {U : State} {H1 : Heap} {locs1 : List Loc} {M' L' G' : Nat → Int64} {K' : Nat → Int32} {V' : Nat → Int64} {a' b' t' : Int64} (hI : iF D o cJ cI A H0 H locs M L G K V a b t) (hA : ∀ q, H0.size ≤ q → A q) (hU : U.heap = H1) (hB : bF D o cJ cI (aF o H.size) M' L' G' K' V' a' b' t' U) (hS : va_S A H0 H1 locs1) : iF D o cJ cI A H0 H1 locs1 M' L' G' K' V' a' b' t' :=
  ⟨by rw [← hU]; exact hB.1, hB.2.2.weaken (fun _ q _ h => iF_free hI hA q.1 h), hS⟩
end XL
end
section
/-! the law's small methods (printed by gen/gen_L.py) -/
set_option maxHeartbeats 4000000 in
set_option maxRecDepth 100000 in
/-- set -/
theorem c_L_set0 {l : Launch} {D : va_G} {o : Nat → Nat} {cJ cI : ClassId} {sz : Nat} {M L G : Nat → Int64} {K : Nat → Int32} {V : Nat → Int64} {a b t : Int64} {j : Nat} {s0 : Int32} {v : Int64} (hj : j < 256) (hv : x_rr s0 v = 1) : Met l y_L_set ws_L_set rm_L_set (va_Pc [.ref (o 0), .int (nI j), .int s0, .long v] (fun U => pF D o cJ cI sz M L G K V a b t U ∧ xz U)) (va_Qi (fun (r9 : Int32) (_ : Unit) => r9 = 0) (fun _ => bF D o cJ cI (aF o sz) ((x_set ((M, L, G), K, V, (a, b, t)) j s0 v).1.1) ((x_set ((M, L, G), K, V, (a, b, t)) j s0 v).1.2.1) ((x_set ((M, L, G), K, V, (a, b, t)) j s0 v).1.2.2) ((x_set ((M, L, G), K, V, (a, b, t)) j s0 v).2.1) ((x_set ((M, L, G), K, V, (a, b, t)) j s0 v).2.2.1) ((x_set ((M, L, G), K, V, (a, b, t)) j s0 v).2.2.2.1) ((x_set ((M, L, G), K, V, (a, b, t)) j s0 v).2.2.2.2.1) ((x_set ((M, L, G), K, V, (a, b, t)) j s0 v).2.2.2.2.2)) (aF o sz)) 1 6 (aF o sz) := by
  refine xL_met (av := [.int (nI j), .int s0, .long v]) (by decide) rfl (Nat.le_of_ble_eq_true rfl) ?_
  intro p e s m below meth c ls hC hsz hz hr hlocks hex hmc had hl hI
  have hA : ∀ x, s.heap.size ≤ x → aF o sz x := fun x h => aF_new (by omega)
  have hN : xn (aF o sz) s.heap := iF_xn hI hsz
  have hx := hC.1.1
  have hb := hC.1.2.1
  have hml := hC.1.2.2.1
  have hown := hC.1.2.2.2.1
  have ht := hC.1.2.2.2.2
  have S := hC.1
  have hl : lv_has ls 6 [(0, .ref (o 0)), (1, .int (nI j)), (2, .int s0), (3, .long v)] := hl
  refine lv_aload_n hx hb d_L_set_0 rfl (lv_at hl 0 rfl) ?_
  refine lv_iload_n hx hb d_L_set_1 rfl (lv_at hl 1 rfl) ?_
  refine lv_iload_n hx hb d_L_set_2 rfl (lv_at hl 2 rfl) ?_
  refine lv_lload_n hx hb d_L_set_3 rfl (lv_at hl 3 rfl) ?_
  refine xF_callv (As := [.int (nI j), .int s0, .long v]) (rest := []) hC hI hA (c_F_set hj hv) (cwV 3 ht gv_L_7 rfl rfl rfl ⟨rfl, by decide, by decide, by decide +kernel⟩ ⟨by decide, by decide⟩) rfl hl.1 rfl (Nat.le_of_ble_eq_true rfl) d_L_set_4 ⟨by decide, by decide⟩ (fun H locs hI _ _ => ?_)
  refine lv_goto hx hb (tgt := 18) d_L_set_7 (by decide) ?_
  refine lv_iconst hx hb (v := 0) d_L_set_18 (by decide +kernel) ?_
  exact xL_iret hC hI hr hlocks (by decide) (by decide) d_L_set_19
set_option maxHeartbeats 4000000 in
set_option maxRecDepth 100000 in
/-- set: no rule -/
theorem c_L_set1 {l : Launch} {D : va_G} {o : Nat → Nat} {cJ cI : ClassId} {sz : Nat} {M L G : Nat → Int64} {K : Nat → Int32} {V : Nat → Int64} {a b t : Int64} {k s0 : Int32} {v : Int64} (hv : x_rr s0 v = 0) (hfl : l.flags = flags0) : Met l y_L_set ws_L_set rm_L_set (va_Pc [.ref (o 0), .int k, .int s0, .long v] (fun U => pF D o cJ cI sz M L G K V a b t U ∧ xz U)) (va_Qi (fun (r9 : Int32) (_ : Unit) => r9 = 1) (fun _ => bF D o cJ cI (aF o sz) M L G K V a b t) (aF o sz)) 1 6 (aF o sz) := by
  refine xL_met (av := [.int k, .int s0, .long v]) (by decide) rfl (Nat.le_of_ble_eq_true rfl) ?_
  intro p e s m below meth c ls hC hsz hz hr hlocks hex hmc had hl hI
  have hA : ∀ x, s.heap.size ≤ x → aF o sz x := fun x h => aF_new (by omega)
  have hN : xn (aF o sz) s.heap := iF_xn hI hsz
  have hx := hC.1.1
  have hb := hC.1.2.1
  have hml := hC.1.2.2.1
  have hown := hC.1.2.2.2.1
  have ht := hC.1.2.2.2.2
  have S := hC.1
  have hl : lv_has ls 6 [(0, .ref (o 0)), (1, .int k), (2, .int s0), (3, .long v)] := hl
  have hpl : e.platform.magicAccessors = ({} : Platform).magicAccessors := by rw [had.platform]
  refine lv_aload_n hx hb d_L_set_0 rfl (lv_at hl 0 rfl) ?_
  refine lv_iload_n hx hb d_L_set_1 rfl (lv_at hl 1 rfl) ?_
  refine lv_iload_n hx hb d_L_set_2 rfl (lv_at hl 2 rfl) ?_
  refine lv_lload_n hx hb d_L_set_3 rfl (lv_at hl 3 rfl) ?_
  refine xt_catch (xF_throws (As := [.int k, .int s0, .long v]) (rest := []) hC hI hz hN (e_F_set1 hfl hv) (cwV 3 ht gv_L_7 rfl rfl rfl ⟨rfl, by decide, by decide, by decide +kernel⟩ ⟨by decide, by decide⟩) rfl hl.1 rfl (Nat.le_of_ble_eq_true rfl) d_L_set_4 ⟨by decide, by decide⟩) hI.2.2 (fun x _ h => iF_free hI hA x h) (fun x h => iF_free hI hA x h) (xc_way1 (own := R_L) (cls := X_IAE) hex hmc hown hpl (ht _ tw_54) (hz.face _ 3 rfl rfl) (by decide) (by decide)) (fun x9 t9 H locs ht9 hvm9 hB9 hz9 hk9 hS9 => ?_)
  have hI := xL_back hI hA ht9 hB9 hS9
  refine lv_astore hx hb d_L_set_10 hl (by decide) (lv' := [(5, .ref x9), (0, .ref (o 0)), (1, .int k), (2, .int s0), (3, .long v)]) rfl (fun ls hl => ?_)
  refine lv_iconst hx hb (v := 1) d_L_set_12 (by decide +kernel) ?_
  exact xL_iret hC hI hr hlocks (by decide) (by decide) d_L_set_13
set_option maxHeartbeats 4000000 in
set_option maxRecDepth 100000 in
/-- set: no place -/
theorem c_L_set2 {l : Launch} {D : va_G} {o : Nat → Nat} {cJ cI : ClassId} {sz : Nat} {M L G : Nat → Int64} {K : Nat → Int32} {V : Nat → Int64} {a b t : Int64} {k s0 : Int32} {v : Int64} (hv : x_rr s0 v = 1) (hk : x_r1 k = 0) (hfl : l.flags = flags0) : Met l y_L_set ws_L_set rm_L_set (va_Pc [.ref (o 0), .int k, .int s0, .long v] (fun U => pF D o cJ cI sz M L G K V a b t U ∧ xz U)) (va_Qi (fun (r9 : Int32) (_ : Unit) => r9 = 2) (fun _ => bF D o cJ cI (aF o sz) M L G K V a b t) (aF o sz)) 1 6 (aF o sz) := by
  refine xL_met (av := [.int k, .int s0, .long v]) (by decide) rfl (Nat.le_of_ble_eq_true rfl) ?_
  intro p e s m below meth c ls hC hsz hz hr hlocks hex hmc had hl hI
  have hA : ∀ x, s.heap.size ≤ x → aF o sz x := fun x h => aF_new (by omega)
  have hN : xn (aF o sz) s.heap := iF_xn hI hsz
  have hx := hC.1.1
  have hb := hC.1.2.1
  have hml := hC.1.2.2.1
  have hown := hC.1.2.2.2.1
  have ht := hC.1.2.2.2.2
  have S := hC.1
  have hl : lv_has ls 6 [(0, .ref (o 0)), (1, .int k), (2, .int s0), (3, .long v)] := hl
  have hpl : e.platform.magicAccessors = ({} : Platform).magicAccessors := by rw [had.platform]
  refine lv_aload_n hx hb d_L_set_0 rfl (lv_at hl 0 rfl) ?_
  refine lv_iload_n hx hb d_L_set_1 rfl (lv_at hl 1 rfl) ?_
  refine lv_iload_n hx hb d_L_set_2 rfl (lv_at hl 2 rfl) ?_
  refine lv_lload_n hx hb d_L_set_3 rfl (lv_at hl 3 rfl) ?_
  refine xt_catch (xF_throws (As := [.int k, .int s0, .long v]) (rest := []) hC hI hz hN (e_F_set2 hfl hv hk) (cwV 3 ht gv_L_7 rfl rfl rfl ⟨rfl, by decide, by decide, by decide +kernel⟩ ⟨by decide, by decide⟩) rfl hl.1 rfl (Nat.le_of_ble_eq_true rfl) d_L_set_4 ⟨by decide, by decide⟩) hI.2.2 (fun x _ h => iF_free hI hA x h) (fun x h => iF_free hI hA x h) (xc_way2 (own := R_L) (cls := X_IOO) (cls1 := X_IAE) hex hmc hown hpl (ht _ tw_54) (ht _ tw_55) hz.2.2.2.1 (hz.face _ 4 rfl rfl) (by decide) (by decide) (by decide) (by decide)) (fun x9 t9 H locs ht9 hvm9 hB9 hz9 hk9 hS9 => ?_)
  have hI := xL_back hI hA ht9 hB9 hS9
  refine lv_astore hx hb d_L_set_14 hl (by decide) (lv' := [(5, .ref x9), (0, .ref (o 0)), (1, .int k), (2, .int s0), (3, .long v)]) rfl (fun ls hl => ?_)
  refine lv_iconst hx hb (v := 2) d_L_set_16 (by decide +kernel) ?_
  exact xL_iret hC hI hr hlocks (by decide) (by decide) d_L_set_17
set_option maxHeartbeats 4000000 in
set_option maxRecDepth 100000 in
/-- fill -/
theorem c_L_fill0 {l : Launch} {D : va_G} {o : Nat → Nat} {cJ cI : ClassId} {sz : Nat} {M L G : Nat → Int64} {K : Nat → Int32} {V : Nat → Int64} {a b t : Int64} {fr to : Nat} (hft : fr ≤ to) (hto : to ≤ 256) {s0 : Int32} {v : Int64} (hv : x_rr s0 v = 1) : Met l y_L_fill ws_L_fill rm_L_fill (va_Pc [.ref (o 0), .int (nI fr), .int (nI to), .int s0, .long v] (fun U => pF D o cJ cI sz M L G K V a b t U ∧ xz U)) (va_Qi (fun (r9 : Int32) (_ : Unit) => r9 = 0) (fun _ => bF D o cJ cI (aF o sz) ((x_fill ((M, L, G), K, V, (a, b, t)) fr s0 v (to - fr)).1.1) ((x_fill ((M, L, G), K, V, (a, b, t)) fr s0 v (to - fr)).1.2.1) ((x_fill ((M, L, G), K, V, (a, b, t)) fr s0 v (to - fr)).1.2.2) ((x_fill ((M, L, G), K, V, (a, b, t)) fr s0 v (to - fr)).2.1) ((x_fill ((M, L, G), K, V, (a, b, t)) fr s0 v (to - fr)).2.2.1) ((x_fill ((M, L, G), K, V, (a, b, t)) fr s0 v (to - fr)).2.2.2.1) ((x_fill ((M, L, G), K, V, (a, b, t)) fr s0 v (to - fr)).2.2.2.2.1) ((x_fill ((M, L, G), K, V, (a, b, t)) fr s0 v (to - fr)).2.2.2.2.2)) (aF o sz)) 1 6 (aF o sz) := by
  refine xL_met (av := [.int (nI fr), .int (nI to), .int s0, .long v]) (by decide) rfl (Nat.le_of_ble_eq_true rfl) ?_
  intro p e s m below meth c ls hC hsz hz hr hlocks hex hmc had hl hI
  have hA : ∀ x, s.heap.size ≤ x → aF o sz x := fun x h => aF_new (by omega)
  have hN : xn (aF o sz) s.heap := iF_xn hI hsz
  have hx := hC.1.1
  have hb := hC.1.2.1
  have hml := hC.1.2.2.1
  have hown := hC.1.2.2.2.1
  have ht := hC.1.2.2.2.2
  have S := hC.1
  have hl : lv_has ls 7 [(0, .ref (o 0)), (1, .int (nI fr)), (2, .int (nI to)), (3, .int s0), (4, .long v)] := hl
  refine lv_aload_n hx hb d_L_fill_0 rfl (lv_at hl 0 rfl) ?_
  refine lv_iload_n hx hb d_L_fill_1 rfl (lv_at hl 1 rfl) ?_
  refine lv_iload_n hx hb d_L_fill_2 rfl (lv_at hl 2 rfl) ?_
  refine lv_iload_n hx hb d_L_fill_3 rfl (lv_at hl 3 rfl) ?_
  refine lv_lload hx hb d_L_fill_4 (lv_at hl 4 rfl) ?_
  refine xF_callv (As := [.int (nI fr), .int (nI to), .int s0, .long v]) (rest := []) hC hI hA (c_F_fill hto hft hv) (cwV 4 ht gv_L_17 rfl rfl rfl ⟨rfl, by decide, by decide, by decide +kernel⟩ ⟨by decide, by decide⟩) rfl hl.1 rfl (Nat.le_of_ble_eq_true rfl) d_L_fill_6 ⟨by decide, by decide⟩ (fun H locs hI _ _ => ?_)
  refine lv_goto hx hb (tgt := 20) d_L_fill_9 (by decide) ?_
  refine lv_iconst hx hb (v := 0) d_L_fill_20 (by decide +kernel) ?_
  exact xL_iret hC hI hr hlocks (by decide) (by decide) d_L_fill_21
set_option maxHeartbeats 4000000 in
set_option maxRecDepth 100000 in
/-- fill: no rule -/
theorem c_L_fill1 {l : Launch} {D : va_G} {o : Nat → Nat} {cJ cI : ClassId} {sz : Nat} {M L G : Nat → Int64} {K : Nat → Int32} {V : Nat → Int64} {a b t : Int64} {f t0 s0 : Int32} {v : Int64} (hv : x_rr s0 v = 0) (hfl : l.flags = flags0) : Met l y_L_fill ws_L_fill rm_L_fill (va_Pc [.ref (o 0), .int f, .int t0, .int s0, .long v] (fun U => pF D o cJ cI sz M L G K V a b t U ∧ xz U)) (va_Qi (fun (r9 : Int32) (_ : Unit) => r9 = 1) (fun _ => bF D o cJ cI (aF o sz) M L G K V a b t) (aF o sz)) 1 6 (aF o sz) := by
  refine xL_met (av := [.int f, .int t0, .int s0, .long v]) (by decide) rfl (Nat.le_of_ble_eq_true rfl) ?_
  intro p e s m below meth c ls hC hsz hz hr hlocks hex hmc had hl hI
  have hA : ∀ x, s.heap.size ≤ x → aF o sz x := fun x h => aF_new (by omega)
  have hN : xn (aF o sz) s.heap := iF_xn hI hsz
  have hx := hC.1.1
  have hb := hC.1.2.1
  have hml := hC.1.2.2.1
  have hown := hC.1.2.2.2.1
  have ht := hC.1.2.2.2.2
  have S := hC.1
  have hl : lv_has ls 7 [(0, .ref (o 0)), (1, .int f), (2, .int t0), (3, .int s0), (4, .long v)] := hl
  have hpl : e.platform.magicAccessors = ({} : Platform).magicAccessors := by rw [had.platform]
  refine lv_aload_n hx hb d_L_fill_0 rfl (lv_at hl 0 rfl) ?_
  refine lv_iload_n hx hb d_L_fill_1 rfl (lv_at hl 1 rfl) ?_
  refine lv_iload_n hx hb d_L_fill_2 rfl (lv_at hl 2 rfl) ?_
  refine lv_iload_n hx hb d_L_fill_3 rfl (lv_at hl 3 rfl) ?_
  refine lv_lload hx hb d_L_fill_4 (lv_at hl 4 rfl) ?_
  refine xt_catch (xF_throws (As := [.int f, .int t0, .int s0, .long v]) (rest := []) hC hI hz hN (e_F_fill1 hfl hv) (cwV 4 ht gv_L_17 rfl rfl rfl ⟨rfl, by decide, by decide, by decide +kernel⟩ ⟨by decide, by decide⟩) rfl hl.1 rfl (Nat.le_of_ble_eq_true rfl) d_L_fill_6 ⟨by decide, by decide⟩) hI.2.2 (fun x _ h => iF_free hI hA x h) (fun x h => iF_free hI hA x h) (xc_way1 (own := R_L) (cls := X_IAE) hex hmc hown hpl (ht _ tw_54) (hz.face _ 3 rfl rfl) (by decide) (by decide)) (fun x9 t9 H locs ht9 hvm9 hB9 hz9 hk9 hS9 => ?_)
  have hI := xL_back hI hA ht9 hB9 hS9
  refine lv_astore hx hb d_L_fill_12 hl (by decide) (lv' := [(6, .ref x9), (0, .ref (o 0)), (1, .int f), (2, .int t0), (3, .int s0), (4, .long v)]) rfl (fun ls hl => ?_)
  refine lv_iconst hx hb (v := 1) d_L_fill_14 (by decide +kernel) ?_
  exact xL_iret hC hI hr hlocks (by decide) (by decide) d_L_fill_15
set_option maxHeartbeats 4000000 in
set_option maxRecDepth 100000 in
/-- fill: no part -/
theorem c_L_fill2 {l : Launch} {D : va_G} {o : Nat → Nat} {cJ cI : ClassId} {sz : Nat} {M L G : Nat → Int64} {K : Nat → Int32} {V : Nat → Int64} {a b t : Int64} {f t0 s0 : Int32} {v : Int64} (hv : x_rr s0 v = 1) (hp : x_pt f t0 = 0) (hfl : l.flags = flags0) : Met l y_L_fill ws_L_fill rm_L_fill (va_Pc [.ref (o 0), .int f, .int t0, .int s0, .long v] (fun U => pF D o cJ cI sz M L G K V a b t U ∧ xz U)) (va_Qi (fun (r9 : Int32) (_ : Unit) => r9 = 2) (fun _ => bF D o cJ cI (aF o sz) M L G K V a b t) (aF o sz)) 1 6 (aF o sz) := by
  refine xL_met (av := [.int f, .int t0, .int s0, .long v]) (by decide) rfl (Nat.le_of_ble_eq_true rfl) ?_
  intro p e s m below meth c ls hC hsz hz hr hlocks hex hmc had hl hI
  have hA : ∀ x, s.heap.size ≤ x → aF o sz x := fun x h => aF_new (by omega)
  have hN : xn (aF o sz) s.heap := iF_xn hI hsz
  have hx := hC.1.1
  have hb := hC.1.2.1
  have hml := hC.1.2.2.1
  have hown := hC.1.2.2.2.1
  have ht := hC.1.2.2.2.2
  have S := hC.1
  have hl : lv_has ls 7 [(0, .ref (o 0)), (1, .int f), (2, .int t0), (3, .int s0), (4, .long v)] := hl
  have hpl : e.platform.magicAccessors = ({} : Platform).magicAccessors := by rw [had.platform]
  refine lv_aload_n hx hb d_L_fill_0 rfl (lv_at hl 0 rfl) ?_
  refine lv_iload_n hx hb d_L_fill_1 rfl (lv_at hl 1 rfl) ?_
  refine lv_iload_n hx hb d_L_fill_2 rfl (lv_at hl 2 rfl) ?_
  refine lv_iload_n hx hb d_L_fill_3 rfl (lv_at hl 3 rfl) ?_
  refine lv_lload hx hb d_L_fill_4 (lv_at hl 4 rfl) ?_
  refine xt_catch (xF_throws (As := [.int f, .int t0, .int s0, .long v]) (rest := []) hC hI hz hN (e_F_fill2 hfl hv hp) (cwV 4 ht gv_L_17 rfl rfl rfl ⟨rfl, by decide, by decide, by decide +kernel⟩ ⟨by decide, by decide⟩) rfl hl.1 rfl (Nat.le_of_ble_eq_true rfl) d_L_fill_6 ⟨by decide, by decide⟩) hI.2.2 (fun x _ h => iF_free hI hA x h) (fun x h => iF_free hI hA x h) (xc_way2 (own := R_L) (cls := X_IOO) (cls1 := X_IAE) hex hmc hown hpl (ht _ tw_54) (ht _ tw_55) hz.2.2.2.1 (hz.face _ 4 rfl rfl) (by decide) (by decide) (by decide) (by decide)) (fun x9 t9 H locs ht9 hvm9 hB9 hz9 hk9 hS9 => ?_)
  have hI := xL_back hI hA ht9 hB9 hS9
  refine lv_astore hx hb d_L_fill_16 hl (by decide) (lv' := [(6, .ref x9), (0, .ref (o 0)), (1, .int f), (2, .int t0), (3, .int s0), (4, .long v)]) rfl (fun ls hl => ?_)
  refine lv_iconst hx hb (v := 2) d_L_fill_18 (by decide +kernel) ?_
  exact xL_iret hC hI hr hlocks (by decide) (by decide) d_L_fill_19
set_option maxHeartbeats 4000000 in
set_option maxRecDepth 100000 in
/-- swap -/
theorem c_L_swap0 {l : Launch} {D : va_G} {o : Nat → Nat} {cJ cI : ClassId} {sz : Nat} {M L G : Nat → Int64} {K : Nat → Int32} {V : Nat → Int64} {a b t : Int64} {j k : Nat} (hj : j < 256) (hk : k < 256) : Met l y_L_swap ws_L_swap rm_L_swap (va_Pc [.ref (o 0), .int (nI j), .int (nI k)] (fun U => pF D o cJ cI sz M L G K V a b t U ∧ xz U)) (va_Qi (fun (r9 : Int32) (_ : Unit) => r9 = 0) (fun _ => bF D o cJ cI (aF o sz) ((x_swap ((M, L, G), K, V, (a, b, t)) j k).1.1) ((x_swap ((M, L, G), K, V, (a, b, t)) j k).1.2.1) ((x_swap ((M, L, G), K, V, (a, b, t)) j k).1.2.2) ((x_swap ((M, L, G), K, V, (a, b, t)) j k).2.1) ((x_swap ((M, L, G), K, V, (a, b, t)) j k).2.2.1) ((x_swap ((M, L, G), K, V, (a, b, t)) j k).2.2.2.1) ((x_swap ((M, L, G), K, V, (a, b, t)) j k).2.2.2.2.1) ((x_swap ((M, L, G), K, V, (a, b, t)) j k).2.2.2.2.2)) (aF o sz)) 1 6 (aF o sz) := by
  refine xL_met (av := [.int (nI j), .int (nI k)]) (by decide) rfl (Nat.le_of_ble_eq_true rfl) ?_
  intro p e s m below meth c ls hC hsz hz hr hlocks hex hmc had hl hI
  have hA : ∀ x, s.heap.size ≤ x → aF o sz x := fun x h => aF_new (by omega)
  have hN : xn (aF o sz) s.heap := iF_xn hI hsz
  have hx := hC.1.1
  have hb := hC.1.2.1
  have hml := hC.1.2.2.1
  have hown := hC.1.2.2.2.1
  have ht := hC.1.2.2.2.2
  have S := hC.1
  have hl : lv_has ls 4 [(0, .ref (o 0)), (1, .int (nI j)), (2, .int (nI k))] := hl
  refine lv_aload_n hx hb d_L_swap_0 rfl (lv_at hl 0 rfl) ?_
  refine lv_iload_n hx hb d_L_swap_1 rfl (lv_at hl 1 rfl) ?_
  refine lv_iload_n hx hb d_L_swap_2 rfl (lv_at hl 2 rfl) ?_
  refine xF_callv (As := [.int (nI j), .int (nI k)]) (rest := []) hC hI hA (c_F_swap hj hk) (cwV 2 ht gv_L_21 rfl rfl rfl ⟨rfl, by decide, by decide, by decide +kernel⟩ ⟨by decide, by decide⟩) rfl hl.1 rfl (Nat.le_of_ble_eq_true rfl) d_L_swap_3 ⟨by decide, by decide⟩ (fun H locs hI _ _ => ?_)
  refine lv_goto hx hb (tgt := 12) d_L_swap_6 (by decide) ?_
  refine lv_iconst hx hb (v := 0) d_L_swap_12 (by decide +kernel) ?_
  exact xL_iret hC hI hr hlocks (by decide) (by decide) d_L_swap_13
set_option maxHeartbeats 4000000 in
set_option maxRecDepth 100000 in
/-- swap: no first place -/
theorem c_L_swap1 {l : Launch} {D : va_G} {o : Nat → Nat} {cJ cI : ClassId} {sz : Nat} {M L G : Nat → Int64} {K : Nat → Int32} {V : Nat → Int64} {a b t : Int64} {j k : Int32} (hj : x_r1 j = 0) (hfl : l.flags = flags0) : Met l y_L_swap ws_L_swap rm_L_swap (va_Pc [.ref (o 0), .int j, .int k] (fun U => pF D o cJ cI sz M L G K V a b t U ∧ xz U)) (va_Qi (fun (r9 : Int32) (_ : Unit) => r9 = 1) (fun _ => bF D o cJ cI (aF o sz) M L G K V a b t) (aF o sz)) 1 6 (aF o sz) := by
  refine xL_met (av := [.int j, .int k]) (by decide) rfl (Nat.le_of_ble_eq_true rfl) ?_
  intro p e s m below meth c ls hC hsz hz hr hlocks hex hmc had hl hI
  have hA : ∀ x, s.heap.size ≤ x → aF o sz x := fun x h => aF_new (by omega)
  have hN : xn (aF o sz) s.heap := iF_xn hI hsz
  have hx := hC.1.1
  have hb := hC.1.2.1
  have hml := hC.1.2.2.1
  have hown := hC.1.2.2.2.1
  have ht := hC.1.2.2.2.2
  have S := hC.1
  have hl : lv_has ls 4 [(0, .ref (o 0)), (1, .int j), (2, .int k)] := hl
  have hpl : e.platform.magicAccessors = ({} : Platform).magicAccessors := by rw [had.platform]
  refine lv_aload_n hx hb d_L_swap_0 rfl (lv_at hl 0 rfl) ?_
  refine lv_iload_n hx hb d_L_swap_1 rfl (lv_at hl 1 rfl) ?_
  refine lv_iload_n hx hb d_L_swap_2 rfl (lv_at hl 2 rfl) ?_
  refine xt_catch (xF_throws (As := [.int j, .int k]) (rest := []) hC hI hz hN (e_F_swap1 hfl hj) (cwV 2 ht gv_L_21 rfl rfl rfl ⟨rfl, by decide, by decide, by decide +kernel⟩ ⟨by decide, by decide⟩) rfl hl.1 rfl (Nat.le_of_ble_eq_true rfl) d_L_swap_3 ⟨by decide, by decide⟩) hI.2.2 (fun x _ h => iF_free hI hA x h) (fun x h => iF_free hI hA x h) (xc_way1 (own := R_L) (cls := X_IOO) hex hmc hown hpl (ht _ tw_55) (hz.face _ 4 rfl rfl) (by decide) (by decide)) (fun x9 t9 H locs ht9 hvm9 hB9 hz9 hk9 hS9 => ?_)
  have hI := xL_back hI hA ht9 hB9 hS9
  refine lv_astore_n hx hb d_L_swap_9 rfl hl (by decide) (lv' := [(3, .ref x9), (0, .ref (o 0)), (1, .int j), (2, .int k)]) rfl (fun ls hl => ?_)
  refine lv_iconst hx hb (v := 1) d_L_swap_10 (by decide +kernel) ?_
  exact xL_iret hC hI hr hlocks (by decide) (by decide) d_L_swap_11
set_option maxHeartbeats 4000000 in
set_option maxRecDepth 100000 in
/-- swap: no second place -/
theorem c_L_swap2 {l : Launch} {D : va_G} {o : Nat → Nat} {cJ cI : ClassId} {sz : Nat} {M L G : Nat → Int64} {K : Nat → Int32} {V : Nat → Int64} {a b t : Int64} {j k : Int32} (hj : x_r1 j = 1) (hk : x_r1 k = 0) (hfl : l.flags = flags0) : Met l y_L_swap ws_L_swap rm_L_swap (va_Pc [.ref (o 0), .int j, .int k] (fun U => pF D o cJ cI sz M L G K V a b t U ∧ xz U)) (va_Qi (fun (r9 : Int32) (_ : Unit) => r9 = 1) (fun _ => bF D o cJ cI (aF o sz) M L G K V a b t) (aF o sz)) 1 6 (aF o sz) := by
  refine xL_met (av := [.int j, .int k]) (by decide) rfl (Nat.le_of_ble_eq_true rfl) ?_
  intro p e s m below meth c ls hC hsz hz hr hlocks hex hmc had hl hI
  have hA : ∀ x, s.heap.size ≤ x → aF o sz x := fun x h => aF_new (by omega)
  have hN : xn (aF o sz) s.heap := iF_xn hI hsz
  have hx := hC.1.1
  have hb := hC.1.2.1
  have hml := hC.1.2.2.1
  have hown := hC.1.2.2.2.1
  have ht := hC.1.2.2.2.2
  have S := hC.1
  have hl : lv_has ls 4 [(0, .ref (o 0)), (1, .int j), (2, .int k)] := hl
  have hpl : e.platform.magicAccessors = ({} : Platform).magicAccessors := by rw [had.platform]
  refine lv_aload_n hx hb d_L_swap_0 rfl (lv_at hl 0 rfl) ?_
  refine lv_iload_n hx hb d_L_swap_1 rfl (lv_at hl 1 rfl) ?_
  refine lv_iload_n hx hb d_L_swap_2 rfl (lv_at hl 2 rfl) ?_
  refine xt_catch (xF_throws (As := [.int j, .int k]) (rest := []) hC hI hz hN (e_F_swap2 hfl hj hk) (cwV 2 ht gv_L_21 rfl rfl rfl ⟨rfl, by decide, by decide, by decide +kernel⟩ ⟨by decide, by decide⟩) rfl hl.1 rfl (Nat.le_of_ble_eq_true rfl) d_L_swap_3 ⟨by decide, by decide⟩) hI.2.2 (fun x _ h => iF_free hI hA x h) (fun x h => iF_free hI hA x h) (xc_way1 (own := R_L) (cls := X_IOO) hex hmc hown hpl (ht _ tw_55) (hz.face _ 4 rfl rfl) (by decide) (by decide)) (fun x9 t9 H locs ht9 hvm9 hB9 hz9 hk9 hS9 => ?_)
  have hI := xL_back hI hA ht9 hB9 hS9
  refine lv_astore_n hx hb d_L_swap_9 rfl hl (by decide) (lv' := [(3, .ref x9), (0, .ref (o 0)), (1, .int j), (2, .int k)]) rfl (fun ls hl => ?_)
  refine lv_iconst hx hb (v := 1) d_L_swap_10 (by decide +kernel) ?_
  exact xL_iret hC hI hr hlocks (by decide) (by decide) d_L_swap_11
set_option maxHeartbeats 4000000 in
set_option maxRecDepth 100000 in
/-- fold -/
theorem c_L_fold0 {l : Launch} {D : va_G} {o : Nat → Nat} {cJ cI : ClassId} {sz : Nat} {M L G : Nat → Int64} {K : Nat → Int32} {V : Nat → Int64} {a b t : Int64} {q : Nat} {Z : Int64} {fr to : Nat} (hft : fr ≤ to) (hto : to ≤ 256) {v : Int64} (hv : x_in v 1000000000000 = 1) (hq : ∀ i, i < 6 → q ≠ o i) : Met l y_L_fold ws_L_fold rm_L_fold (va_Pc [.ref (o 0), .int (nI fr), .int (nI to), .long v, .ref q] (fun U => (pF D o cJ cI sz M L G K V a b t U ∧ xz U) ∧ oP D cJ q Z U.heap)) (va_Qi (fun (r9 : Int32) (_ : Unit) => r9 = 0) (fun _ U => bF D o cJ cI (aO o q sz) M L G K V ((x_join (M, L, G) fr to).1) ((x_join (M, L, G) fr to).2.1) ((x_join (M, L, G) fr to).2.2) U ∧ oP D cJ q (x_made (x_join (M, L, G) fr to) v) U.heap) (aO o q sz)) 1 6 (aO o q sz) := by
  refine xL_metO (av := [.int (nI fr), .int (nI to), .long v, .ref q]) (by decide) rfl (Nat.le_of_ble_eq_true rfl) ?_
  intro p e s m below meth c ls hC hsz hz hr hlocks hex hmc had hl hI hO
  have hA : ∀ x, s.heap.size ≤ x → aO o q sz x := fun x h => Or.inl (aF_new (by omega))
  have hN : xn (aO o q sz) s.heap := aO_xn hI hO hsz
  have hx := hC.1.1
  have hb := hC.1.2.1
  have hml := hC.1.2.2.1
  have hown := hC.1.2.2.2.1
  have ht := hC.1.2.2.2.2
  have S := hC.1
  have hl : lv_has ls 7 [(0, .ref (o 0)), (1, .int (nI fr)), (2, .int (nI to)), (3, .long v), (5, .ref q)] := hl
  have hnq : ¬ aF o s.heap.size q := by
    have hlt := oP_lt hO
    unfold aF
    rintro (h | h | h | h | h | h | h)
    · exact hq 0 (by decide) h
    · exact hq 1 (by decide) h
    · exact hq 2 (by decide) h
    · exact hq 3 (by decide) h
    · exact hq 4 (by decide) h
    · exact hq 5 (by decide) h
    · omega
  refine lv_aload hx hb d_L_fold_0 (lv_at hl 4 rfl) ?_
  refine lv_iconst hx hb (v := nI 0) d_L_fold_2 (by decide +kernel) ?_
  refine lv_aload_n hx hb d_L_fold_3 rfl (lv_at hl 0 rfl) ?_
  refine lv_iload_n hx hb d_L_fold_4 rfl (lv_at hl 1 rfl) ?_
  refine lv_iload_n hx hb d_L_fold_5 rfl (lv_at hl 2 rfl) ?_
  refine lv_lload_n hx hb d_L_fold_6 rfl (lv_at hl 3 rfl) ?_
  refine xF_calll (As := [.int (nI fr), .int (nI to), .long v]) (rest := [.int (nI 0), .ref q]) hC hI hA (c_F_fold hft hto hv) (cwV 3 ht gv_L_25 rfl rfl rfl ⟨rfl, by decide, by decide, by decide +kernel⟩ ⟨by decide, by decide⟩) rfl hl.1 rfl (Nat.le_of_ble_eq_true rfl) d_L_fold_7 ⟨by decide, by decide⟩ (fun H locs hI _ hfr9 => ?_)
  have hO := oP_kept hO (hfr9 q (oP_lt hO) hnq)
  refine xO_st hC hI hO hq (Or.inr rfl) d_L_fold_10 (fun H locs hI hO => ?_)
  refine lv_goto hx hb (tgt := 22) d_L_fold_11 (by decide) ?_
  refine lv_iconst hx hb (v := 0) d_L_fold_22 (by decide +kernel) ?_
  exact xL_iretO hC hI hO hr hlocks (by decide) (by decide) d_L_fold_23
set_option maxHeartbeats 4000000 in
set_option maxRecDepth 100000 in
/-- fold: no number -/
theorem c_L_fold1 {l : Launch} {D : va_G} {o : Nat → Nat} {cJ cI : ClassId} {sz : Nat} {M L G : Nat → Int64} {K : Nat → Int32} {V : Nat → Int64} {a b t : Int64} {q : Nat} {Z : Int64} {f t0 : Int32} {v : Int64} (hv : x_in v 1000000000000 = 0) (hq : ∀ i, i < 6 → q ≠ o i) (hfl : l.flags = flags0) : Met l y_L_fold ws_L_fold rm_L_fold (va_Pc [.ref (o 0), .int f, .int t0, .long v, .ref q] (fun U => (pF D o cJ cI sz M L G K V a b t U ∧ xz U) ∧ oP D cJ q Z U.heap)) (va_Qi (fun (r9 : Int32) (_ : Unit) => r9 = 1) (fun _ U => bF D o cJ cI (aO o q sz) M L G K V a b t U ∧ oP D cJ q Z U.heap) (aO o q sz)) 1 6 (aO o q sz) := by
  refine xL_metO (av := [.int f, .int t0, .long v, .ref q]) (by decide) rfl (Nat.le_of_ble_eq_true rfl) ?_
  intro p e s m below meth c ls hC hsz hz hr hlocks hex hmc had hl hI hO
  have hA : ∀ x, s.heap.size ≤ x → aO o q sz x := fun x h => Or.inl (aF_new (by omega))
  have hN : xn (aO o q sz) s.heap := aO_xn hI hO hsz
  have hx := hC.1.1
  have hb := hC.1.2.1
  have hml := hC.1.2.2.1
  have hown := hC.1.2.2.2.1
  have ht := hC.1.2.2.2.2
  have S := hC.1
  have hl : lv_has ls 7 [(0, .ref (o 0)), (1, .int f), (2, .int t0), (3, .long v), (5, .ref q)] := hl
  have hnq : ¬ aF o s.heap.size q := by
    have hlt := oP_lt hO
    unfold aF
    rintro (h | h | h | h | h | h | h)
    · exact hq 0 (by decide) h
    · exact hq 1 (by decide) h
    · exact hq 2 (by decide) h
    · exact hq 3 (by decide) h
    · exact hq 4 (by decide) h
    · exact hq 5 (by decide) h
    · omega
  have hpl : e.platform.magicAccessors = ({} : Platform).magicAccessors := by rw [had.platform]
  refine lv_aload hx hb d_L_fold_0 (lv_at hl 4 rfl) ?_
  refine lv_iconst hx hb (v := nI 0) d_L_fold_2 (by decide +kernel) ?_
  refine lv_aload_n hx hb d_L_fold_3 rfl (lv_at hl 0 rfl) ?_
  refine lv_iload_n hx hb d_L_fold_4 rfl (lv_at hl 1 rfl) ?_
  refine lv_iload_n hx hb d_L_fold_5 rfl (lv_at hl 2 rfl) ?_
  refine lv_lload_n hx hb d_L_fold_6 rfl (lv_at hl 3 rfl) ?_
  refine xt_catch (xF_throws (As := [.int f, .int t0, .long v]) (rest := [.int (nI 0), .ref q]) hC hI hz hN (e_F_fold1 hfl hv) (cwV 3 ht gv_L_25 rfl rfl rfl ⟨rfl, by decide, by decide, by decide +kernel⟩ ⟨by decide, by decide⟩) rfl hl.1 rfl (Nat.le_of_ble_eq_true rfl) d_L_fold_7 ⟨by decide, by decide⟩) hI.2.2 (fun x _ h => iF_free hI hA x h) (fun x h => iF_free hI hA x h) (xc_way1 (own := R_L) (cls := X_IAE) hex hmc hown hpl (ht _ tw_54) (hz.face _ 3 rfl rfl) (by decide) (by decide)) (fun x9 t9 H locs ht9 hvm9 hB9 hz9 hk9 hS9 => ?_)
  have hI := xL_back hI hA ht9 hB9 hS9
  have hO := oP_kept hO (hk9 q (oP_lt hO) hnq)
  refine lv_astore hx hb d_L_fold_14 hl (by decide) (lv' := [(6, .ref x9), (0, .ref (o 0)), (1, .int f), (2, .int t0), (3, .long v), (5, .ref q)]) rfl (fun ls hl => ?_)
  refine lv_iconst hx hb (v := 1) d_L_fold_16 (by decide +kernel) ?_
  exact xL_iretO hC hI hO hr hlocks (by decide) (by decide) d_L_fold_17
set_option maxHeartbeats 4000000 in
set_option maxRecDepth 100000 in
/-- fold: no part -/
theorem c_L_fold2 {l : Launch} {D : va_G} {o : Nat → Nat} {cJ cI : ClassId} {sz : Nat} {M L G : Nat → Int64} {K : Nat → Int32} {V : Nat → Int64} {a b t : Int64} {q : Nat} {Z : Int64} {f t0 : Int32} {v : Int64} (hv : x_in v 1000000000000 = 1) (hp : x_pt f t0 = 0) (hq : ∀ i, i < 6 → q ≠ o i) (hfl : l.flags = flags0) : Met l y_L_fold ws_L_fold rm_L_fold (va_Pc [.ref (o 0), .int f, .int t0, .long v, .ref q] (fun U => (pF D o cJ cI sz M L G K V a b t U ∧ xz U) ∧ oP D cJ q Z U.heap)) (va_Qi (fun (r9 : Int32) (_ : Unit) => r9 = 2) (fun _ U => bF D o cJ cI (aO o q sz) M L G K V a b t U ∧ oP D cJ q Z U.heap) (aO o q sz)) 1 6 (aO o q sz) := by
  refine xL_metO (av := [.int f, .int t0, .long v, .ref q]) (by decide) rfl (Nat.le_of_ble_eq_true rfl) ?_
  intro p e s m below meth c ls hC hsz hz hr hlocks hex hmc had hl hI hO
  have hA : ∀ x, s.heap.size ≤ x → aO o q sz x := fun x h => Or.inl (aF_new (by omega))
  have hN : xn (aO o q sz) s.heap := aO_xn hI hO hsz
  have hx := hC.1.1
  have hb := hC.1.2.1
  have hml := hC.1.2.2.1
  have hown := hC.1.2.2.2.1
  have ht := hC.1.2.2.2.2
  have S := hC.1
  have hl : lv_has ls 7 [(0, .ref (o 0)), (1, .int f), (2, .int t0), (3, .long v), (5, .ref q)] := hl
  have hnq : ¬ aF o s.heap.size q := by
    have hlt := oP_lt hO
    unfold aF
    rintro (h | h | h | h | h | h | h)
    · exact hq 0 (by decide) h
    · exact hq 1 (by decide) h
    · exact hq 2 (by decide) h
    · exact hq 3 (by decide) h
    · exact hq 4 (by decide) h
    · exact hq 5 (by decide) h
    · omega
  have hpl : e.platform.magicAccessors = ({} : Platform).magicAccessors := by rw [had.platform]
  refine lv_aload hx hb d_L_fold_0 (lv_at hl 4 rfl) ?_
  refine lv_iconst hx hb (v := nI 0) d_L_fold_2 (by decide +kernel) ?_
  refine lv_aload_n hx hb d_L_fold_3 rfl (lv_at hl 0 rfl) ?_
  refine lv_iload_n hx hb d_L_fold_4 rfl (lv_at hl 1 rfl) ?_
  refine lv_iload_n hx hb d_L_fold_5 rfl (lv_at hl 2 rfl) ?_
  refine lv_lload_n hx hb d_L_fold_6 rfl (lv_at hl 3 rfl) ?_
  refine xt_catch (xF_throws (As := [.int f, .int t0, .long v]) (rest := [.int (nI 0), .ref q]) hC hI hz hN (e_F_fold2 hfl hv hp) (cwV 3 ht gv_L_25 rfl rfl rfl ⟨rfl, by decide, by decide, by decide +kernel⟩ ⟨by decide, by decide⟩) rfl hl.1 rfl (Nat.le_of_ble_eq_true rfl) d_L_fold_7 ⟨by decide, by decide⟩) hI.2.2 (fun x _ h => iF_free hI hA x h) (fun x h => iF_free hI hA x h) (xc_way2 (own := R_L) (cls := X_IOO) (cls1 := X_IAE) hex hmc hown hpl (ht _ tw_54) (ht _ tw_55) hz.2.2.2.1 (hz.face _ 4 rfl rfl) (by decide) (by decide) (by decide) (by decide)) (fun x9 t9 H locs ht9 hvm9 hB9 hz9 hk9 hS9 => ?_)
  have hI := xL_back hI hA ht9 hB9 hS9
  have hO := oP_kept hO (hk9 q (oP_lt hO) hnq)
  refine lv_astore hx hb d_L_fold_18 hl (by decide) (lv' := [(6, .ref x9), (0, .ref (o 0)), (1, .int f), (2, .int t0), (3, .long v), (5, .ref q)]) rfl (fun ls hl => ?_)
  refine lv_iconst hx hb (v := 2) d_L_fold_20 (by decide +kernel) ?_
  exact xL_iretO hC hI hO hr hlocks (by decide) (by decide) d_L_fold_21
set_option maxHeartbeats 4000000 in
set_option maxRecDepth 100000 in
/-- again -/
theorem c_L_again0 {l : Launch} {D : va_G} {o : Nat → Nat} {cJ cI : ClassId} {sz : Nat} {M L G : Nat → Int64} {K : Nat → Int32} {V : Nat → Int64} {a b t : Int64} {q : Nat} {Z : Int64} {fr to : Nat} (hft : fr ≤ to) (hto : to ≤ 256) {n : Nat} {v : Int64} (hn : n ≤ 1000) (hv : x_ah v (nI n) = 1) (hq : ∀ i, i < 6 → q ≠ o i) : Met l y_L_again ws_L_again rm_L_again (va_Pc [.ref (o 0), .int (nI fr), .int (nI to), .long v, .int (nI n), .ref q] (fun U => (pF D o cJ cI sz M L G K V a b t U ∧ xz U) ∧ oP D cJ q Z U.heap)) (va_Qi (fun (r9 : Int32) (_ : Unit) => r9 = 0) (fun _ U => bF D o cJ cI (aO o q sz) M L G K V ((x_ag 10 n v (x_join (M, L, G) fr to)).2.1) ((x_ag 10 n v (x_join (M, L, G) fr to)).2.2.1) ((x_ag 10 n v (x_join (M, L, G) fr to)).2.2.2) U ∧ oP D cJ q ((x_ag 10 n v (x_join (M, L, G) fr to)).1) U.heap) (aO o q sz)) 1 6 (aO o q sz) := by
  refine xL_metO (av := [.int (nI fr), .int (nI to), .long v, .int (nI n), .ref q]) (by decide) rfl (Nat.le_of_ble_eq_true rfl) ?_
  intro p e s m below meth c ls hC hsz hz hr hlocks hex hmc had hl hI hO
  have hA : ∀ x, s.heap.size ≤ x → aO o q sz x := fun x h => Or.inl (aF_new (by omega))
  have hN : xn (aO o q sz) s.heap := aO_xn hI hO hsz
  have hx := hC.1.1
  have hb := hC.1.2.1
  have hml := hC.1.2.2.1
  have hown := hC.1.2.2.2.1
  have ht := hC.1.2.2.2.2
  have S := hC.1
  have hl : lv_has ls 8 [(0, .ref (o 0)), (1, .int (nI fr)), (2, .int (nI to)), (3, .long v), (5, .int (nI n)), (6, .ref q)] := hl
  have hnq : ¬ aF o s.heap.size q := by
    have hlt := oP_lt hO
    unfold aF
    rintro (h | h | h | h | h | h | h)
    · exact hq 0 (by decide) h
    · exact hq 1 (by decide) h
    · exact hq 2 (by decide) h
    · exact hq 3 (by decide) h
    · exact hq 4 (by decide) h
    · exact hq 5 (by decide) h
    · omega
  refine lv_aload hx hb d_L_again_0 (lv_at hl 5 rfl) ?_
  refine lv_iconst hx hb (v := nI 0) d_L_again_2 (by decide +kernel) ?_
  refine lv_aload_n hx hb d_L_again_3 rfl (lv_at hl 0 rfl) ?_
  refine lv_iload_n hx hb d_L_again_4 rfl (lv_at hl 1 rfl) ?_
  refine lv_iload_n hx hb d_L_again_5 rfl (lv_at hl 2 rfl) ?_
  refine lv_lload_n hx hb d_L_again_6 rfl (lv_at hl 3 rfl) ?_
  refine lv_iload hx hb d_L_again_7 (lv_at hl 4 rfl) ?_
  refine xF_calll (As := [.int (nI fr), .int (nI to), .long v, .int (nI n)]) (rest := [.int (nI 0), .ref q]) hC hI hA (c_F_again hft hto hn hv) (cwV 4 ht gv_L_29 rfl rfl rfl ⟨rfl, by decide, by decide, by decide +kernel⟩ ⟨by decide, by decide⟩) rfl hl.1 rfl (Nat.le_of_ble_eq_true rfl) d_L_again_9 ⟨by decide, by decide⟩ (fun H locs hI _ hfr9 => ?_)
  have hO := oP_kept hO (hfr9 q (oP_lt hO) hnq)
  refine xO_st hC hI hO hq (Or.inr rfl) d_L_again_12 (fun H locs hI hO => ?_)
  refine lv_goto hx hb (tgt := 24) d_L_again_13 (by decide) ?_
  refine lv_iconst hx hb (v := 0) d_L_again_24 (by decide +kernel) ?_
  exact xL_iretO hC hI hO hr hlocks (by decide) (by decide) d_L_again_25
set_option maxHeartbeats 4000000 in
set_option maxRecDepth 100000 in
/-- again: no number -/
theorem c_L_again1 {l : Launch} {D : va_G} {o : Nat → Nat} {cJ cI : ClassId} {sz : Nat} {M L G : Nat → Int64} {K : Nat → Int32} {V : Nat → Int64} {a b t : Int64} {q : Nat} {Z : Int64} {f t0 n : Int32} {v : Int64} (hv : x_ah v n = 0) (hq : ∀ i, i < 6 → q ≠ o i) (hfl : l.flags = flags0) : Met l y_L_again ws_L_again rm_L_again (va_Pc [.ref (o 0), .int f, .int t0, .long v, .int n, .ref q] (fun U => (pF D o cJ cI sz M L G K V a b t U ∧ xz U) ∧ oP D cJ q Z U.heap)) (va_Qi (fun (r9 : Int32) (_ : Unit) => r9 = 1) (fun _ U => bF D o cJ cI (aO o q sz) M L G K V a b t U ∧ oP D cJ q Z U.heap) (aO o q sz)) 1 6 (aO o q sz) := by
  refine xL_metO (av := [.int f, .int t0, .long v, .int n, .ref q]) (by decide) rfl (Nat.le_of_ble_eq_true rfl) ?_
  intro p e s m below meth c ls hC hsz hz hr hlocks hex hmc had hl hI hO
  have hA : ∀ x, s.heap.size ≤ x → aO o q sz x := fun x h => Or.inl (aF_new (by omega))
  have hN : xn (aO o q sz) s.heap := aO_xn hI hO hsz
  have hx := hC.1.1
  have hb := hC.1.2.1
  have hml := hC.1.2.2.1
  have hown := hC.1.2.2.2.1
  have ht := hC.1.2.2.2.2
  have S := hC.1
  have hl : lv_has ls 8 [(0, .ref (o 0)), (1, .int f), (2, .int t0), (3, .long v), (5, .int n), (6, .ref q)] := hl
  have hnq : ¬ aF o s.heap.size q := by
    have hlt := oP_lt hO
    unfold aF
    rintro (h | h | h | h | h | h | h)
    · exact hq 0 (by decide) h
    · exact hq 1 (by decide) h
    · exact hq 2 (by decide) h
    · exact hq 3 (by decide) h
    · exact hq 4 (by decide) h
    · exact hq 5 (by decide) h
    · omega
  have hpl : e.platform.magicAccessors = ({} : Platform).magicAccessors := by rw [had.platform]
  refine lv_aload hx hb d_L_again_0 (lv_at hl 5 rfl) ?_
  refine lv_iconst hx hb (v := nI 0) d_L_again_2 (by decide +kernel) ?_
  refine lv_aload_n hx hb d_L_again_3 rfl (lv_at hl 0 rfl) ?_
  refine lv_iload_n hx hb d_L_again_4 rfl (lv_at hl 1 rfl) ?_
  refine lv_iload_n hx hb d_L_again_5 rfl (lv_at hl 2 rfl) ?_
  refine lv_lload_n hx hb d_L_again_6 rfl (lv_at hl 3 rfl) ?_
  refine lv_iload hx hb d_L_again_7 (lv_at hl 4 rfl) ?_
  refine xt_catch (xF_throws (As := [.int f, .int t0, .long v, .int n]) (rest := [.int (nI 0), .ref q]) hC hI hz hN (e_F_again1 hfl hv) (cwV 4 ht gv_L_29 rfl rfl rfl ⟨rfl, by decide, by decide, by decide +kernel⟩ ⟨by decide, by decide⟩) rfl hl.1 rfl (Nat.le_of_ble_eq_true rfl) d_L_again_9 ⟨by decide, by decide⟩) hI.2.2 (fun x _ h => iF_free hI hA x h) (fun x h => iF_free hI hA x h) (xc_way1 (own := R_L) (cls := X_IAE) hex hmc hown hpl (ht _ tw_54) (hz.face _ 3 rfl rfl) (by decide) (by decide)) (fun x9 t9 H locs ht9 hvm9 hB9 hz9 hk9 hS9 => ?_)
  have hI := xL_back hI hA ht9 hB9 hS9
  have hO := oP_kept hO (hk9 q (oP_lt hO) hnq)
  refine lv_astore hx hb d_L_again_16 hl (by decide) (lv' := [(7, .ref x9), (0, .ref (o 0)), (1, .int f), (2, .int t0), (3, .long v), (5, .int n), (6, .ref q)]) rfl (fun ls hl => ?_)
  refine lv_iconst hx hb (v := 1) d_L_again_18 (by decide +kernel) ?_
  exact xL_iretO hC hI hO hr hlocks (by decide) (by decide) d_L_again_19
set_option maxHeartbeats 4000000 in
set_option maxRecDepth 100000 in
/-- again: no part -/
theorem c_L_again2 {l : Launch} {D : va_G} {o : Nat → Nat} {cJ cI : ClassId} {sz : Nat} {M L G : Nat → Int64} {K : Nat → Int32} {V : Nat → Int64} {a b t : Int64} {q : Nat} {Z : Int64} {f t0 n : Int32} {v : Int64} (hv : x_ah v n = 1) (hp : x_pt f t0 = 0) (hq : ∀ i, i < 6 → q ≠ o i) (hfl : l.flags = flags0) : Met l y_L_again ws_L_again rm_L_again (va_Pc [.ref (o 0), .int f, .int t0, .long v, .int n, .ref q] (fun U => (pF D o cJ cI sz M L G K V a b t U ∧ xz U) ∧ oP D cJ q Z U.heap)) (va_Qi (fun (r9 : Int32) (_ : Unit) => r9 = 2) (fun _ U => bF D o cJ cI (aO o q sz) M L G K V a b t U ∧ oP D cJ q Z U.heap) (aO o q sz)) 1 6 (aO o q sz) := by
  refine xL_metO (av := [.int f, .int t0, .long v, .int n, .ref q]) (by decide) rfl (Nat.le_of_ble_eq_true rfl) ?_
  intro p e s m below meth c ls hC hsz hz hr hlocks hex hmc had hl hI hO
  have hA : ∀ x, s.heap.size ≤ x → aO o q sz x := fun x h => Or.inl (aF_new (by omega))
  have hN : xn (aO o q sz) s.heap := aO_xn hI hO hsz
  have hx := hC.1.1
  have hb := hC.1.2.1
  have hml := hC.1.2.2.1
  have hown := hC.1.2.2.2.1
  have ht := hC.1.2.2.2.2
  have S := hC.1
  have hl : lv_has ls 8 [(0, .ref (o 0)), (1, .int f), (2, .int t0), (3, .long v), (5, .int n), (6, .ref q)] := hl
  have hnq : ¬ aF o s.heap.size q := by
    have hlt := oP_lt hO
    unfold aF
    rintro (h | h | h | h | h | h | h)
    · exact hq 0 (by decide) h
    · exact hq 1 (by decide) h
    · exact hq 2 (by decide) h
    · exact hq 3 (by decide) h
    · exact hq 4 (by decide) h
    · exact hq 5 (by decide) h
    · omega
  have hpl : e.platform.magicAccessors = ({} : Platform).magicAccessors := by rw [had.platform]
  refine lv_aload hx hb d_L_again_0 (lv_at hl 5 rfl) ?_
  refine lv_iconst hx hb (v := nI 0) d_L_again_2 (by decide +kernel) ?_
  refine lv_aload_n hx hb d_L_again_3 rfl (lv_at hl 0 rfl) ?_
  refine lv_iload_n hx hb d_L_again_4 rfl (lv_at hl 1 rfl) ?_
  refine lv_iload_n hx hb d_L_again_5 rfl (lv_at hl 2 rfl) ?_
  refine lv_lload_n hx hb d_L_again_6 rfl (lv_at hl 3 rfl) ?_
  refine lv_iload hx hb d_L_again_7 (lv_at hl 4 rfl) ?_
  refine xt_catch (xF_throws (As := [.int f, .int t0, .long v, .int n]) (rest := [.int (nI 0), .ref q]) hC hI hz hN (e_F_again2 hfl hv hp) (cwV 4 ht gv_L_29 rfl rfl rfl ⟨rfl, by decide, by decide, by decide +kernel⟩ ⟨by decide, by decide⟩) rfl hl.1 rfl (Nat.le_of_ble_eq_true rfl) d_L_again_9 ⟨by decide, by decide⟩) hI.2.2 (fun x _ h => iF_free hI hA x h) (fun x h => iF_free hI hA x h) (xc_way2 (own := R_L) (cls := X_IOO) (cls1 := X_IAE) hex hmc hown hpl (ht _ tw_54) (ht _ tw_55) hz.2.2.2.1 (hz.face _ 4 rfl rfl) (by decide) (by decide) (by decide) (by decide)) (fun x9 t9 H locs ht9 hvm9 hB9 hz9 hk9 hS9 => ?_)
  have hI := xL_back hI hA ht9 hB9 hS9
  have hO := oP_kept hO (hk9 q (oP_lt hO) hnq)
  refine lv_astore hx hb d_L_again_20 hl (by decide) (lv' := [(7, .ref x9), (0, .ref (o 0)), (1, .int f), (2, .int t0), (3, .long v), (5, .int n), (6, .ref q)]) rfl (fun ls hl => ?_)
  refine lv_iconst hx hb (v := 2) d_L_again_22 (by decide +kernel) ?_
  exact xL_iretO hC hI hO hr hlocks (by decide) (by decide) d_L_again_23
set_option maxHeartbeats 4000000 in
set_option maxRecDepth 100000 in
/-- least -/
theorem c_L_least0 {l : Launch} {D : va_G} {o : Nat → Nat} {cJ cI : ClassId} {sz : Nat} {M L G : Nat → Int64} {K : Nat → Int32} {V : Nat → Int64} {a b t : Int64} {q : Nat} {Z : Int64} {fr to : Nat} (hft : fr ≤ to) (hto : to ≤ 256) (hv : x_told (x_join (M, L, G) fr to).2.1 = 1) (hq : ∀ i, i < 6 → q ≠ o i) : Met l y_L_least ws_L_least rm_L_least (va_Pc [.ref (o 0), .int (nI fr), .int (nI to), .ref q] (fun U => (pF D o cJ cI sz M L G K V a b t U ∧ xz U) ∧ oP D cJ q Z U.heap)) (va_Qi (fun (r9 : Int32) (_ : Unit) => r9 = 0) (fun _ U => bF D o cJ cI (aO o q sz) M L G K V ((x_join (M, L, G) fr to).1) ((x_join (M, L, G) fr to).2.1) ((x_join (M, L, G) fr to).2.2) U ∧ oP D cJ q ((x_join (M, L, G) fr to).2.1) U.heap) (aO o q sz)) 1 6 (aO o q sz) := by
  refine xL_metO (av := [.int (nI fr), .int (nI to), .ref q]) (by decide) rfl (Nat.le_of_ble_eq_true rfl) ?_
  intro p e s m below meth c ls hC hsz hz hr hlocks hex hmc had hl hI hO
  have hA : ∀ x, s.heap.size ≤ x → aO o q sz x := fun x h => Or.inl (aF_new (by omega))
  have hN : xn (aO o q sz) s.heap := aO_xn hI hO hsz
  have hx := hC.1.1
  have hb := hC.1.2.1
  have hml := hC.1.2.2.1
  have hown := hC.1.2.2.2.1
  have ht := hC.1.2.2.2.2
  have S := hC.1
  have hl : lv_has ls 5 [(0, .ref (o 0)), (1, .int (nI fr)), (2, .int (nI to)), (3, .ref q)] := hl
  have hnq : ¬ aF o s.heap.size q := by
    have hlt := oP_lt hO
    unfold aF
    rintro (h | h | h | h | h | h | h)
    · exact hq 0 (by decide) h
    · exact hq 1 (by decide) h
    · exact hq 2 (by decide) h
    · exact hq 3 (by decide) h
    · exact hq 4 (by decide) h
    · exact hq 5 (by decide) h
    · omega
  refine lv_aload_n hx hb d_L_least_0 rfl (lv_at hl 3 rfl) ?_
  refine lv_iconst hx hb (v := nI 0) d_L_least_1 (by decide +kernel) ?_
  refine lv_aload_n hx hb d_L_least_2 rfl (lv_at hl 0 rfl) ?_
  refine lv_iload_n hx hb d_L_least_3 rfl (lv_at hl 1 rfl) ?_
  refine lv_iload_n hx hb d_L_least_4 rfl (lv_at hl 2 rfl) ?_
  refine xF_calll (As := [.int (nI fr), .int (nI to)]) (rest := [.int (nI 0), .ref q]) hC hI hA (c_F_least hft hto hv) (cwV 2 ht gv_L_33 rfl rfl rfl ⟨rfl, by decide, by decide, by decide +kernel⟩ ⟨by decide, by decide⟩) rfl hl.1 rfl (Nat.le_of_ble_eq_true rfl) d_L_least_5 ⟨by decide, by decide⟩ (fun H locs hI _ hfr9 => ?_)
  have hO := oP_kept hO (hfr9 q (oP_lt hO) hnq)
  refine xO_st hC hI hO hq (Or.inr rfl) d_L_least_8 (fun H locs hI hO => ?_)
  refine lv_goto hx hb (tgt := 20) d_L_least_9 (by decide) ?_
  refine lv_iconst hx hb (v := 0) d_L_least_20 (by decide +kernel) ?_
  exact xL_iretO hC hI hO hr hlocks (by decide) (by decide) d_L_least_21
set_option maxHeartbeats 4000000 in
set_option maxRecDepth 100000 in
/-- least: no part -/
theorem c_L_least1 {l : Launch} {D : va_G} {o : Nat → Nat} {cJ cI : ClassId} {sz : Nat} {M L G : Nat → Int64} {K : Nat → Int32} {V : Nat → Int64} {a b t : Int64} {q : Nat} {Z : Int64} {f t0 : Int32} (hp : x_pt f t0 = 0) (hq : ∀ i, i < 6 → q ≠ o i) (hfl : l.flags = flags0) : Met l y_L_least ws_L_least rm_L_least (va_Pc [.ref (o 0), .int f, .int t0, .ref q] (fun U => (pF D o cJ cI sz M L G K V a b t U ∧ xz U) ∧ oP D cJ q Z U.heap)) (va_Qi (fun (r9 : Int32) (_ : Unit) => r9 = 1) (fun _ U => bF D o cJ cI (aO o q sz) M L G K V a b t U ∧ oP D cJ q Z U.heap) (aO o q sz)) 1 6 (aO o q sz) := by
  refine xL_metO (av := [.int f, .int t0, .ref q]) (by decide) rfl (Nat.le_of_ble_eq_true rfl) ?_
  intro p e s m below meth c ls hC hsz hz hr hlocks hex hmc had hl hI hO
  have hA : ∀ x, s.heap.size ≤ x → aO o q sz x := fun x h => Or.inl (aF_new (by omega))
  have hN : xn (aO o q sz) s.heap := aO_xn hI hO hsz
  have hx := hC.1.1
  have hb := hC.1.2.1
  have hml := hC.1.2.2.1
  have hown := hC.1.2.2.2.1
  have ht := hC.1.2.2.2.2
  have S := hC.1
  have hl : lv_has ls 5 [(0, .ref (o 0)), (1, .int f), (2, .int t0), (3, .ref q)] := hl
  have hnq : ¬ aF o s.heap.size q := by
    have hlt := oP_lt hO
    unfold aF
    rintro (h | h | h | h | h | h | h)
    · exact hq 0 (by decide) h
    · exact hq 1 (by decide) h
    · exact hq 2 (by decide) h
    · exact hq 3 (by decide) h
    · exact hq 4 (by decide) h
    · exact hq 5 (by decide) h
    · omega
  have hpl : e.platform.magicAccessors = ({} : Platform).magicAccessors := by rw [had.platform]
  refine lv_aload_n hx hb d_L_least_0 rfl (lv_at hl 3 rfl) ?_
  refine lv_iconst hx hb (v := nI 0) d_L_least_1 (by decide +kernel) ?_
  refine lv_aload_n hx hb d_L_least_2 rfl (lv_at hl 0 rfl) ?_
  refine lv_iload_n hx hb d_L_least_3 rfl (lv_at hl 1 rfl) ?_
  refine lv_iload_n hx hb d_L_least_4 rfl (lv_at hl 2 rfl) ?_
  refine xt_catch (xF_throws (As := [.int f, .int t0]) (rest := [.int (nI 0), .ref q]) hC hI hz hN (e_F_least1 hfl hp) (cwV 2 ht gv_L_33 rfl rfl rfl ⟨rfl, by decide, by decide, by decide +kernel⟩ ⟨by decide, by decide⟩) rfl hl.1 rfl (Nat.le_of_ble_eq_true rfl) d_L_least_5 ⟨by decide, by decide⟩) hI.2.2 (fun x _ h => iF_free hI hA x h) (fun x h => iF_free hI hA x h) (xc_way1 (own := R_L) (cls := X_IOO) hex hmc hown hpl (ht _ tw_55) (hz.face _ 4 rfl rfl) (by decide) (by decide)) (fun x9 t9 H locs ht9 hvm9 hB9 hz9 hk9 hS9 => ?_)
  have hI := xL_back hI hA ht9 hB9 hS9
  have hO := oP_kept hO (hk9 q (oP_lt hO) hnq)
  refine lv_astore hx hb d_L_least_12 hl (by decide) (lv' := [(4, .ref x9), (0, .ref (o 0)), (1, .int f), (2, .int t0), (3, .ref q)]) rfl (fun ls hl => ?_)
  refine lv_iconst hx hb (v := 1) d_L_least_14 (by decide +kernel) ?_
  exact xL_iretO hC hI hO hr hlocks (by decide) (by decide) d_L_least_15
set_option maxHeartbeats 4000000 in
set_option maxRecDepth 100000 in
/-- least: none -/
theorem c_L_least2 {l : Launch} {D : va_G} {o : Nat → Nat} {cJ cI : ClassId} {sz : Nat} {M L G : Nat → Int64} {K : Nat → Int32} {V : Nat → Int64} {a b t : Int64} {q : Nat} {Z : Int64} {fr to : Nat} (hft : fr ≤ to) (hto : to ≤ 256) (hv : x_told (x_join (M, L, G) fr to).2.1 = 0) (hq : ∀ i, i < 6 → q ≠ o i) (hfl : l.flags = flags0) : Met l y_L_least ws_L_least rm_L_least (va_Pc [.ref (o 0), .int (nI fr), .int (nI to), .ref q] (fun U => (pF D o cJ cI sz M L G K V a b t U ∧ xz U) ∧ oP D cJ q Z U.heap)) (va_Qi (fun (r9 : Int32) (_ : Unit) => r9 = 2) (fun _ U => bF D o cJ cI (aO o q sz) M L G K V ((x_join (M, L, G) fr to).1) ((x_join (M, L, G) fr to).2.1) ((x_join (M, L, G) fr to).2.2) U ∧ oP D cJ q Z U.heap) (aO o q sz)) 1 6 (aO o q sz) := by
  refine xL_metO (av := [.int (nI fr), .int (nI to), .ref q]) (by decide) rfl (Nat.le_of_ble_eq_true rfl) ?_
  intro p e s m below meth c ls hC hsz hz hr hlocks hex hmc had hl hI hO
  have hA : ∀ x, s.heap.size ≤ x → aO o q sz x := fun x h => Or.inl (aF_new (by omega))
  have hN : xn (aO o q sz) s.heap := aO_xn hI hO hsz
  have hx := hC.1.1
  have hb := hC.1.2.1
  have hml := hC.1.2.2.1
  have hown := hC.1.2.2.2.1
  have ht := hC.1.2.2.2.2
  have S := hC.1
  have hl : lv_has ls 5 [(0, .ref (o 0)), (1, .int (nI fr)), (2, .int (nI to)), (3, .ref q)] := hl
  have hnq : ¬ aF o s.heap.size q := by
    have hlt := oP_lt hO
    unfold aF
    rintro (h | h | h | h | h | h | h)
    · exact hq 0 (by decide) h
    · exact hq 1 (by decide) h
    · exact hq 2 (by decide) h
    · exact hq 3 (by decide) h
    · exact hq 4 (by decide) h
    · exact hq 5 (by decide) h
    · omega
  have hpl : e.platform.magicAccessors = ({} : Platform).magicAccessors := by rw [had.platform]
  refine lv_aload_n hx hb d_L_least_0 rfl (lv_at hl 3 rfl) ?_
  refine lv_iconst hx hb (v := nI 0) d_L_least_1 (by decide +kernel) ?_
  refine lv_aload_n hx hb d_L_least_2 rfl (lv_at hl 0 rfl) ?_
  refine lv_iload_n hx hb d_L_least_3 rfl (lv_at hl 1 rfl) ?_
  refine lv_iload_n hx hb d_L_least_4 rfl (lv_at hl 2 rfl) ?_
  refine xt_catch (xF_throws (As := [.int (nI fr), .int (nI to)]) (rest := [.int (nI 0), .ref q]) hC hI hz hN (e_F_least2 hfl hft hto hv) (cwV 2 ht gv_L_33 rfl rfl rfl ⟨rfl, by decide, by decide, by decide +kernel⟩ ⟨by decide, by decide⟩) rfl hl.1 rfl (Nat.le_of_ble_eq_true rfl) d_L_least_5 ⟨by decide, by decide⟩) hI.2.2 (fun x _ h => iF_free hI hA x h) (fun x h => iF_free hI hA x h) (xc_way2 (own := R_L) (cls := X_UOE) (cls1 := X_IOO) hex hmc hown hpl (ht _ tw_55) (ht _ tw_233) hz.2.2.2.2 (hz.face _ 5 rfl rfl) (by decide) (by decide) (by decide) (by decide)) (fun x9 t9 H locs ht9 hvm9 hB9 hz9 hk9 hS9 => ?_)
  have hI := xL_back hI hA ht9 hB9 hS9
  have hO := oP_kept hO (hk9 q (oP_lt hO) hnq)
  refine lv_astore hx hb d_L_least_16 hl (by decide) (lv' := [(4, .ref x9), (0, .ref (o 0)), (1, .int (nI fr)), (2, .int (nI to)), (3, .ref q)]) rfl (fun ls hl => ?_)
  refine lv_iconst hx hb (v := 2) d_L_least_18 (by decide +kernel) ?_
  exact xL_iretO hC hI hO hr hlocks (by decide) (by decide) d_L_least_19
set_option maxHeartbeats 4000000 in
set_option maxRecDepth 100000 in
/-- greatest -/
theorem c_L_greatest0 {l : Launch} {D : va_G} {o : Nat → Nat} {cJ cI : ClassId} {sz : Nat} {M L G : Nat → Int64} {K : Nat → Int32} {V : Nat → Int64} {a b t : Int64} {q : Nat} {Z : Int64} {fr to : Nat} (hft : fr ≤ to) (hto : to ≤ 256) (hv : x_told (x_join (M, L, G) fr to).2.2 = 1) (hq : ∀ i, i < 6 → q ≠ o i) : Met l y_L_greatest ws_L_greatest rm_L_greatest (va_Pc [.ref (o 0), .int (nI fr), .int (nI to), .ref q] (fun U => (pF D o cJ cI sz M L G K V a b t U ∧ xz U) ∧ oP D cJ q Z U.heap)) (va_Qi (fun (r9 : Int32) (_ : Unit) => r9 = 0) (fun _ U => bF D o cJ cI (aO o q sz) M L G K V ((x_join (M, L, G) fr to).1) ((x_join (M, L, G) fr to).2.1) ((x_join (M, L, G) fr to).2.2) U ∧ oP D cJ q ((x_join (M, L, G) fr to).2.2) U.heap) (aO o q sz)) 1 6 (aO o q sz) := by
  refine xL_metO (av := [.int (nI fr), .int (nI to), .ref q]) (by decide) rfl (Nat.le_of_ble_eq_true rfl) ?_
  intro p e s m below meth c ls hC hsz hz hr hlocks hex hmc had hl hI hO
  have hA : ∀ x, s.heap.size ≤ x → aO o q sz x := fun x h => Or.inl (aF_new (by omega))
  have hN : xn (aO o q sz) s.heap := aO_xn hI hO hsz
  have hx := hC.1.1
  have hb := hC.1.2.1
  have hml := hC.1.2.2.1
  have hown := hC.1.2.2.2.1
  have ht := hC.1.2.2.2.2
  have S := hC.1
  have hl : lv_has ls 5 [(0, .ref (o 0)), (1, .int (nI fr)), (2, .int (nI to)), (3, .ref q)] := hl
  have hnq : ¬ aF o s.heap.size q := by
    have hlt := oP_lt hO
    unfold aF
    rintro (h | h | h | h | h | h | h)
    · exact hq 0 (by decide) h
    · exact hq 1 (by decide) h
    · exact hq 2 (by decide) h
    · exact hq 3 (by decide) h
    · exact hq 4 (by decide) h
    · exact hq 5 (by decide) h
    · omega
  refine lv_aload_n hx hb d_L_greatest_0 rfl (lv_at hl 3 rfl) ?_
  refine lv_iconst hx hb (v := nI 0) d_L_greatest_1 (by decide +kernel) ?_
  refine lv_aload_n hx hb d_L_greatest_2 rfl (lv_at hl 0 rfl) ?_
  refine lv_iload_n hx hb d_L_greatest_3 rfl (lv_at hl 1 rfl) ?_
  refine lv_iload_n hx hb d_L_greatest_4 rfl (lv_at hl 2 rfl) ?_
  refine xF_calll (As := [.int (nI fr), .int (nI to)]) (rest := [.int (nI 0), .ref q]) hC hI hA (c_F_greatest hft hto hv) (cwV 2 ht gv_L_39 rfl rfl rfl ⟨rfl, by decide, by decide, by decide +kernel⟩ ⟨by decide, by decide⟩) rfl hl.1 rfl (Nat.le_of_ble_eq_true rfl) d_L_greatest_5 ⟨by decide, by decide⟩ (fun H locs hI _ hfr9 => ?_)
  have hO := oP_kept hO (hfr9 q (oP_lt hO) hnq)
  refine xO_st hC hI hO hq (Or.inr rfl) d_L_greatest_8 (fun H locs hI hO => ?_)
  refine lv_goto hx hb (tgt := 20) d_L_greatest_9 (by decide) ?_
  refine lv_iconst hx hb (v := 0) d_L_greatest_20 (by decide +kernel) ?_
  exact xL_iretO hC hI hO hr hlocks (by decide) (by decide) d_L_greatest_21
set_option maxHeartbeats 4000000 in
set_option maxRecDepth 100000 in
/-- greatest: no part -/
theorem c_L_greatest1 {l : Launch} {D : va_G} {o : Nat → Nat} {cJ cI : ClassId} {sz : Nat} {M L G : Nat → Int64} {K : Nat → Int32} {V : Nat → Int64} {a b t : Int64} {q : Nat} {Z : Int64} {f t0 : Int32} (hp : x_pt f t0 = 0) (hq : ∀ i, i < 6 → q ≠ o i) (hfl : l.flags = flags0) : Met l y_L_greatest ws_L_greatest rm_L_greatest (va_Pc [.ref (o 0), .int f, .int t0, .ref q] (fun U => (pF D o cJ cI sz M L G K V a b t U ∧ xz U) ∧ oP D cJ q Z U.heap)) (va_Qi (fun (r9 : Int32) (_ : Unit) => r9 = 1) (fun _ U => bF D o cJ cI (aO o q sz) M L G K V a b t U ∧ oP D cJ q Z U.heap) (aO o q sz)) 1 6 (aO o q sz) := by
  refine xL_metO (av := [.int f, .int t0, .ref q]) (by decide) rfl (Nat.le_of_ble_eq_true rfl) ?_
  intro p e s m below meth c ls hC hsz hz hr hlocks hex hmc had hl hI hO
  have hA : ∀ x, s.heap.size ≤ x → aO o q sz x := fun x h => Or.inl (aF_new (by omega))
  have hN : xn (aO o q sz) s.heap := aO_xn hI hO hsz
  have hx := hC.1.1
  have hb := hC.1.2.1
  have hml := hC.1.2.2.1
  have hown := hC.1.2.2.2.1
  have ht := hC.1.2.2.2.2
  have S := hC.1
  have hl : lv_has ls 5 [(0, .ref (o 0)), (1, .int f), (2, .int t0), (3, .ref q)] := hl
  have hnq : ¬ aF o s.heap.size q := by
    have hlt := oP_lt hO
    unfold aF
    rintro (h | h | h | h | h | h | h)
    · exact hq 0 (by decide) h
    · exact hq 1 (by decide) h
    · exact hq 2 (by decide) h
    · exact hq 3 (by decide) h
    · exact hq 4 (by decide) h
    · exact hq 5 (by decide) h
    · omega
  have hpl : e.platform.magicAccessors = ({} : Platform).magicAccessors := by rw [had.platform]
  refine lv_aload_n hx hb d_L_greatest_0 rfl (lv_at hl 3 rfl) ?_
  refine lv_iconst hx hb (v := nI 0) d_L_greatest_1 (by decide +kernel) ?_
  refine lv_aload_n hx hb d_L_greatest_2 rfl (lv_at hl 0 rfl) ?_
  refine lv_iload_n hx hb d_L_greatest_3 rfl (lv_at hl 1 rfl) ?_
  refine lv_iload_n hx hb d_L_greatest_4 rfl (lv_at hl 2 rfl) ?_
  refine xt_catch (xF_throws (As := [.int f, .int t0]) (rest := [.int (nI 0), .ref q]) hC hI hz hN (e_F_greatest1 hfl hp) (cwV 2 ht gv_L_39 rfl rfl rfl ⟨rfl, by decide, by decide, by decide +kernel⟩ ⟨by decide, by decide⟩) rfl hl.1 rfl (Nat.le_of_ble_eq_true rfl) d_L_greatest_5 ⟨by decide, by decide⟩) hI.2.2 (fun x _ h => iF_free hI hA x h) (fun x h => iF_free hI hA x h) (xc_way1 (own := R_L) (cls := X_IOO) hex hmc hown hpl (ht _ tw_55) (hz.face _ 4 rfl rfl) (by decide) (by decide)) (fun x9 t9 H locs ht9 hvm9 hB9 hz9 hk9 hS9 => ?_)
  have hI := xL_back hI hA ht9 hB9 hS9
  have hO := oP_kept hO (hk9 q (oP_lt hO) hnq)
  refine lv_astore hx hb d_L_greatest_12 hl (by decide) (lv' := [(4, .ref x9), (0, .ref (o 0)), (1, .int f), (2, .int t0), (3, .ref q)]) rfl (fun ls hl => ?_)
  refine lv_iconst hx hb (v := 1) d_L_greatest_14 (by decide +kernel) ?_
  exact xL_iretO hC hI hO hr hlocks (by decide) (by decide) d_L_greatest_15
set_option maxHeartbeats 4000000 in
set_option maxRecDepth 100000 in
/-- greatest: none -/
theorem c_L_greatest2 {l : Launch} {D : va_G} {o : Nat → Nat} {cJ cI : ClassId} {sz : Nat} {M L G : Nat → Int64} {K : Nat → Int32} {V : Nat → Int64} {a b t : Int64} {q : Nat} {Z : Int64} {fr to : Nat} (hft : fr ≤ to) (hto : to ≤ 256) (hv : x_told (x_join (M, L, G) fr to).2.2 = 0) (hq : ∀ i, i < 6 → q ≠ o i) (hfl : l.flags = flags0) : Met l y_L_greatest ws_L_greatest rm_L_greatest (va_Pc [.ref (o 0), .int (nI fr), .int (nI to), .ref q] (fun U => (pF D o cJ cI sz M L G K V a b t U ∧ xz U) ∧ oP D cJ q Z U.heap)) (va_Qi (fun (r9 : Int32) (_ : Unit) => r9 = 2) (fun _ U => bF D o cJ cI (aO o q sz) M L G K V ((x_join (M, L, G) fr to).1) ((x_join (M, L, G) fr to).2.1) ((x_join (M, L, G) fr to).2.2) U ∧ oP D cJ q Z U.heap) (aO o q sz)) 1 6 (aO o q sz) := by
  refine xL_metO (av := [.int (nI fr), .int (nI to), .ref q]) (by decide) rfl (Nat.le_of_ble_eq_true rfl) ?_
  intro p e s m below meth c ls hC hsz hz hr hlocks hex hmc had hl hI hO
  have hA : ∀ x, s.heap.size ≤ x → aO o q sz x := fun x h => Or.inl (aF_new (by omega))
  have hN : xn (aO o q sz) s.heap := aO_xn hI hO hsz
  have hx := hC.1.1
  have hb := hC.1.2.1
  have hml := hC.1.2.2.1
  have hown := hC.1.2.2.2.1
  have ht := hC.1.2.2.2.2
  have S := hC.1
  have hl : lv_has ls 5 [(0, .ref (o 0)), (1, .int (nI fr)), (2, .int (nI to)), (3, .ref q)] := hl
  have hnq : ¬ aF o s.heap.size q := by
    have hlt := oP_lt hO
    unfold aF
    rintro (h | h | h | h | h | h | h)
    · exact hq 0 (by decide) h
    · exact hq 1 (by decide) h
    · exact hq 2 (by decide) h
    · exact hq 3 (by decide) h
    · exact hq 4 (by decide) h
    · exact hq 5 (by decide) h
    · omega
  have hpl : e.platform.magicAccessors = ({} : Platform).magicAccessors := by rw [had.platform]
  refine lv_aload_n hx hb d_L_greatest_0 rfl (lv_at hl 3 rfl) ?_
  refine lv_iconst hx hb (v := nI 0) d_L_greatest_1 (by decide +kernel) ?_
  refine lv_aload_n hx hb d_L_greatest_2 rfl (lv_at hl 0 rfl) ?_
  refine lv_iload_n hx hb d_L_greatest_3 rfl (lv_at hl 1 rfl) ?_
  refine lv_iload_n hx hb d_L_greatest_4 rfl (lv_at hl 2 rfl) ?_
  refine xt_catch (xF_throws (As := [.int (nI fr), .int (nI to)]) (rest := [.int (nI 0), .ref q]) hC hI hz hN (e_F_greatest2 hfl hft hto hv) (cwV 2 ht gv_L_39 rfl rfl rfl ⟨rfl, by decide, by decide, by decide +kernel⟩ ⟨by decide, by decide⟩) rfl hl.1 rfl (Nat.le_of_ble_eq_true rfl) d_L_greatest_5 ⟨by decide, by decide⟩) hI.2.2 (fun x _ h => iF_free hI hA x h) (fun x h => iF_free hI hA x h) (xc_way2 (own := R_L) (cls := X_UOE) (cls1 := X_IOO) hex hmc hown hpl (ht _ tw_55) (ht _ tw_233) hz.2.2.2.2 (hz.face _ 5 rfl rfl) (by decide) (by decide) (by decide) (by decide)) (fun x9 t9 H locs ht9 hvm9 hB9 hz9 hk9 hS9 => ?_)
  have hI := xL_back hI hA ht9 hB9 hS9
  have hO := oP_kept hO (hk9 q (oP_lt hO) hnq)
  refine lv_astore hx hb d_L_greatest_16 hl (by decide) (lv' := [(4, .ref x9), (0, .ref (o 0)), (1, .int (nI fr)), (2, .int (nI to)), (3, .ref q)]) rfl (fun ls hl => ?_)
  refine lv_iconst hx hb (v := 2) d_L_greatest_18 (by decide +kernel) ?_
  exact xL_iretO hC hI hO hr hlocks (by decide) (by decide) d_L_greatest_19
set_option maxHeartbeats 4000000 in
set_option maxRecDepth 100000 in
/-- fixed -/
theorem c_L_fixed0 {l : Launch} {D : va_G} {o : Nat → Nat} {cJ cI : ClassId} {sz : Nat} {M L G : Nat → Int64} {K : Nat → Int32} {V : Nat → Int64} {a b t : Int64} {q : Nat} {Z : Int64} {fr to : Nat} (hft : fr ≤ to) (hto : to ≤ 256) {w : Int32} (hv : x_told (x_fix (x_join (M, L, G) fr to) w) = 1) (hq : ∀ i, i < 6 → q ≠ o i) : Met l y_L_fixed ws_L_fixed rm_L_fixed (va_Pc [.ref (o 0), .int (nI fr), .int (nI to), .int w, .ref q] (fun U => (pF D o cJ cI sz M L G K V a b t U ∧ xz U) ∧ oP D cJ q Z U.heap)) (va_Qi (fun (r9 : Int32) (_ : Unit) => r9 = 0) (fun _ U => bF D o cJ cI (aO o q sz) M L G K V ((x_join (M, L, G) fr to).1) ((x_join (M, L, G) fr to).2.1) ((x_join (M, L, G) fr to).2.2) U ∧ oP D cJ q (x_fix (x_join (M, L, G) fr to) w) U.heap) (aO o q sz)) 1 6 (aO o q sz) := by
  refine xL_metO (av := [.int (nI fr), .int (nI to), .int w, .ref q]) (by decide) rfl (Nat.le_of_ble_eq_true rfl) ?_
  intro p e s m below meth c ls hC hsz hz hr hlocks hex hmc had hl hI hO
  have hA : ∀ x, s.heap.size ≤ x → aO o q sz x := fun x h => Or.inl (aF_new (by omega))
  have hN : xn (aO o q sz) s.heap := aO_xn hI hO hsz
  have hx := hC.1.1
  have hb := hC.1.2.1
  have hml := hC.1.2.2.1
  have hown := hC.1.2.2.2.1
  have ht := hC.1.2.2.2.2
  have S := hC.1
  have hl : lv_has ls 6 [(0, .ref (o 0)), (1, .int (nI fr)), (2, .int (nI to)), (3, .int w), (4, .ref q)] := hl
  have hnq : ¬ aF o s.heap.size q := by
    have hlt := oP_lt hO
    unfold aF
    rintro (h | h | h | h | h | h | h)
    · exact hq 0 (by decide) h
    · exact hq 1 (by decide) h
    · exact hq 2 (by decide) h
    · exact hq 3 (by decide) h
    · exact hq 4 (by decide) h
    · exact hq 5 (by decide) h
    · omega
  refine lv_aload hx hb d_L_fixed_0 (lv_at hl 4 rfl) ?_
  refine lv_iconst hx hb (v := nI 0) d_L_fixed_2 (by decide +kernel) ?_
  refine lv_aload_n hx hb d_L_fixed_3 rfl (lv_at hl 0 rfl) ?_
  refine lv_iload_n hx hb d_L_fixed_4 rfl (lv_at hl 1 rfl) ?_
  refine lv_iload_n hx hb d_L_fixed_5 rfl (lv_at hl 2 rfl) ?_
  refine lv_iload_n hx hb d_L_fixed_6 rfl (lv_at hl 3 rfl) ?_
  refine xF_calll (As := [.int (nI fr), .int (nI to), .int w]) (rest := [.int (nI 0), .ref q]) hC hI hA (c_F_fixed hft hto hv) (cwV 3 ht gv_L_42 rfl rfl rfl ⟨rfl, by decide, by decide, by decide +kernel⟩ ⟨by decide, by decide⟩) rfl hl.1 rfl (Nat.le_of_ble_eq_true rfl) d_L_fixed_7 ⟨by decide, by decide⟩ (fun H locs hI _ hfr9 => ?_)
  have hO := oP_kept hO (hfr9 q (oP_lt hO) hnq)
  refine xO_st hC hI hO hq (Or.inr rfl) d_L_fixed_10 (fun H locs hI hO => ?_)
  refine lv_goto hx hb (tgt := 22) d_L_fixed_11 (by decide) ?_
  refine lv_iconst hx hb (v := 0) d_L_fixed_22 (by decide +kernel) ?_
  exact xL_iretO hC hI hO hr hlocks (by decide) (by decide) d_L_fixed_23
set_option maxHeartbeats 4000000 in
set_option maxRecDepth 100000 in
/-- fixed: no part -/
theorem c_L_fixed1 {l : Launch} {D : va_G} {o : Nat → Nat} {cJ cI : ClassId} {sz : Nat} {M L G : Nat → Int64} {K : Nat → Int32} {V : Nat → Int64} {a b t : Int64} {q : Nat} {Z : Int64} {f t0 w : Int32} (hp : x_pt f t0 = 0) (hq : ∀ i, i < 6 → q ≠ o i) (hfl : l.flags = flags0) : Met l y_L_fixed ws_L_fixed rm_L_fixed (va_Pc [.ref (o 0), .int f, .int t0, .int w, .ref q] (fun U => (pF D o cJ cI sz M L G K V a b t U ∧ xz U) ∧ oP D cJ q Z U.heap)) (va_Qi (fun (r9 : Int32) (_ : Unit) => r9 = 1) (fun _ U => bF D o cJ cI (aO o q sz) M L G K V a b t U ∧ oP D cJ q Z U.heap) (aO o q sz)) 1 6 (aO o q sz) := by
  refine xL_metO (av := [.int f, .int t0, .int w, .ref q]) (by decide) rfl (Nat.le_of_ble_eq_true rfl) ?_
  intro p e s m below meth c ls hC hsz hz hr hlocks hex hmc had hl hI hO
  have hA : ∀ x, s.heap.size ≤ x → aO o q sz x := fun x h => Or.inl (aF_new (by omega))
  have hN : xn (aO o q sz) s.heap := aO_xn hI hO hsz
  have hx := hC.1.1
  have hb := hC.1.2.1
  have hml := hC.1.2.2.1
  have hown := hC.1.2.2.2.1
  have ht := hC.1.2.2.2.2
  have S := hC.1
  have hl : lv_has ls 6 [(0, .ref (o 0)), (1, .int f), (2, .int t0), (3, .int w), (4, .ref q)] := hl
  have hnq : ¬ aF o s.heap.size q := by
    have hlt := oP_lt hO
    unfold aF
    rintro (h | h | h | h | h | h | h)
    · exact hq 0 (by decide) h
    · exact hq 1 (by decide) h
    · exact hq 2 (by decide) h
    · exact hq 3 (by decide) h
    · exact hq 4 (by decide) h
    · exact hq 5 (by decide) h
    · omega
  have hpl : e.platform.magicAccessors = ({} : Platform).magicAccessors := by rw [had.platform]
  refine lv_aload hx hb d_L_fixed_0 (lv_at hl 4 rfl) ?_
  refine lv_iconst hx hb (v := nI 0) d_L_fixed_2 (by decide +kernel) ?_
  refine lv_aload_n hx hb d_L_fixed_3 rfl (lv_at hl 0 rfl) ?_
  refine lv_iload_n hx hb d_L_fixed_4 rfl (lv_at hl 1 rfl) ?_
  refine lv_iload_n hx hb d_L_fixed_5 rfl (lv_at hl 2 rfl) ?_
  refine lv_iload_n hx hb d_L_fixed_6 rfl (lv_at hl 3 rfl) ?_
  refine xt_catch (xF_throws (As := [.int f, .int t0, .int w]) (rest := [.int (nI 0), .ref q]) hC hI hz hN (e_F_fixed1 hfl hp) (cwV 3 ht gv_L_42 rfl rfl rfl ⟨rfl, by decide, by decide, by decide +kernel⟩ ⟨by decide, by decide⟩) rfl hl.1 rfl (Nat.le_of_ble_eq_true rfl) d_L_fixed_7 ⟨by decide, by decide⟩) hI.2.2 (fun x _ h => iF_free hI hA x h) (fun x h => iF_free hI hA x h) (xc_way1 (own := R_L) (cls := X_IOO) hex hmc hown hpl (ht _ tw_55) (hz.face _ 4 rfl rfl) (by decide) (by decide)) (fun x9 t9 H locs ht9 hvm9 hB9 hz9 hk9 hS9 => ?_)
  have hI := xL_back hI hA ht9 hB9 hS9
  have hO := oP_kept hO (hk9 q (oP_lt hO) hnq)
  refine lv_astore hx hb d_L_fixed_14 hl (by decide) (lv' := [(5, .ref x9), (0, .ref (o 0)), (1, .int f), (2, .int t0), (3, .int w), (4, .ref q)]) rfl (fun ls hl => ?_)
  refine lv_iconst hx hb (v := 1) d_L_fixed_16 (by decide +kernel) ?_
  exact xL_iretO hC hI hO hr hlocks (by decide) (by decide) d_L_fixed_17
set_option maxHeartbeats 4000000 in
set_option maxRecDepth 100000 in
/-- fixed: none -/
theorem c_L_fixed2 {l : Launch} {D : va_G} {o : Nat → Nat} {cJ cI : ClassId} {sz : Nat} {M L G : Nat → Int64} {K : Nat → Int32} {V : Nat → Int64} {a b t : Int64} {q : Nat} {Z : Int64} {fr to : Nat} (hft : fr ≤ to) (hto : to ≤ 256) {w : Int32} (hv : x_told (x_fix (x_join (M, L, G) fr to) w) = 0) (hq : ∀ i, i < 6 → q ≠ o i) (hfl : l.flags = flags0) : Met l y_L_fixed ws_L_fixed rm_L_fixed (va_Pc [.ref (o 0), .int (nI fr), .int (nI to), .int w, .ref q] (fun U => (pF D o cJ cI sz M L G K V a b t U ∧ xz U) ∧ oP D cJ q Z U.heap)) (va_Qi (fun (r9 : Int32) (_ : Unit) => r9 = 2) (fun _ U => bF D o cJ cI (aO o q sz) M L G K V ((x_join (M, L, G) fr to).1) ((x_join (M, L, G) fr to).2.1) ((x_join (M, L, G) fr to).2.2) U ∧ oP D cJ q Z U.heap) (aO o q sz)) 1 6 (aO o q sz) := by
  refine xL_metO (av := [.int (nI fr), .int (nI to), .int w, .ref q]) (by decide) rfl (Nat.le_of_ble_eq_true rfl) ?_
  intro p e s m below meth c ls hC hsz hz hr hlocks hex hmc had hl hI hO
  have hA : ∀ x, s.heap.size ≤ x → aO o q sz x := fun x h => Or.inl (aF_new (by omega))
  have hN : xn (aO o q sz) s.heap := aO_xn hI hO hsz
  have hx := hC.1.1
  have hb := hC.1.2.1
  have hml := hC.1.2.2.1
  have hown := hC.1.2.2.2.1
  have ht := hC.1.2.2.2.2
  have S := hC.1
  have hl : lv_has ls 6 [(0, .ref (o 0)), (1, .int (nI fr)), (2, .int (nI to)), (3, .int w), (4, .ref q)] := hl
  have hnq : ¬ aF o s.heap.size q := by
    have hlt := oP_lt hO
    unfold aF
    rintro (h | h | h | h | h | h | h)
    · exact hq 0 (by decide) h
    · exact hq 1 (by decide) h
    · exact hq 2 (by decide) h
    · exact hq 3 (by decide) h
    · exact hq 4 (by decide) h
    · exact hq 5 (by decide) h
    · omega
  have hpl : e.platform.magicAccessors = ({} : Platform).magicAccessors := by rw [had.platform]
  refine lv_aload hx hb d_L_fixed_0 (lv_at hl 4 rfl) ?_
  refine lv_iconst hx hb (v := nI 0) d_L_fixed_2 (by decide +kernel) ?_
  refine lv_aload_n hx hb d_L_fixed_3 rfl (lv_at hl 0 rfl) ?_
  refine lv_iload_n hx hb d_L_fixed_4 rfl (lv_at hl 1 rfl) ?_
  refine lv_iload_n hx hb d_L_fixed_5 rfl (lv_at hl 2 rfl) ?_
  refine lv_iload_n hx hb d_L_fixed_6 rfl (lv_at hl 3 rfl) ?_
  refine xt_catch (xF_throws (As := [.int (nI fr), .int (nI to), .int w]) (rest := [.int (nI 0), .ref q]) hC hI hz hN (e_F_fixed2 hfl hft hto hv) (cwV 3 ht gv_L_42 rfl rfl rfl ⟨rfl, by decide, by decide, by decide +kernel⟩ ⟨by decide, by decide⟩) rfl hl.1 rfl (Nat.le_of_ble_eq_true rfl) d_L_fixed_7 ⟨by decide, by decide⟩) hI.2.2 (fun x _ h => iF_free hI hA x h) (fun x h => iF_free hI hA x h) (xc_way2 (own := R_L) (cls := X_UOE) (cls1 := X_IOO) hex hmc hown hpl (ht _ tw_55) (ht _ tw_233) hz.2.2.2.2 (hz.face _ 5 rfl rfl) (by decide) (by decide) (by decide) (by decide)) (fun x9 t9 H locs ht9 hvm9 hB9 hz9 hk9 hS9 => ?_)
  have hI := xL_back hI hA ht9 hB9 hS9
  have hO := oP_kept hO (hk9 q (oP_lt hO) hnq)
  refine lv_astore hx hb d_L_fixed_18 hl (by decide) (lv' := [(5, .ref x9), (0, .ref (o 0)), (1, .int (nI fr)), (2, .int (nI to)), (3, .int w), (4, .ref q)]) rfl (fun ls hl => ?_)
  refine lv_iconst hx hb (v := 2) d_L_fixed_20 (by decide +kernel) ?_
  exact xL_iretO hC hI hO hr hlocks (by decide) (by decide) d_L_fixed_21
set_option maxHeartbeats 4000000 in
set_option maxRecDepth 100000 in
/-- about -/
theorem c_L_about0_0 {l : Launch} {D : va_G} {o : Nat → Nat} {cJ cI : ClassId} {sz : Nat} {M L G : Nat → Int64} {K : Nat → Int32} {V : Nat → Int64} {a b t : Int64} {q : Nat} {Z : Int64} {fr to : Nat} (hft : fr ≤ to) (hto : to ≤ 256) (hq : ∀ i, i < 6 → q ≠ o i) : Met l y_L_about ws_L_about rm_L_about (va_Pc [.ref (o 0), .int (nI fr), .int (nI to), .int 0, .ref q] (fun U => (pF D o cJ cI sz M L G K V a b t U ∧ xz U) ∧ oP D cJ q Z U.heap)) (va_Qi (fun (r9 : Int32) (_ : Unit) => r9 = 0) (fun _ U => bF D o cJ cI (aO o q sz) M L G K V ((x_join (M, L, G) fr to).1) ((x_join (M, L, G) fr to).2.1) ((x_join (M, L, G) fr to).2.2) U ∧ oP D cJ q (((if (x_join (M, L, G) fr to).2.1 = (x_join (M, L, G) fr to).2.2 then 1 else 0 : Int32)).toInt64) U.heap) (aO o q sz)) 1 6 (aO o q sz) := by
  refine xL_metO (av := [.int (nI fr), .int (nI to), .int 0, .ref q]) (by decide) rfl (Nat.le_of_ble_eq_true rfl) ?_
  intro p e s m below meth c ls hC hsz hz hr hlocks hex hmc had hl hI hO
  have hA : ∀ x, s.heap.size ≤ x → aO o q sz x := fun x h => Or.inl (aF_new (by omega))
  have hN : xn (aO o q sz) s.heap := aO_xn hI hO hsz
  have hx := hC.1.1
  have hb := hC.1.2.1
  have hml := hC.1.2.2.1
  have hown := hC.1.2.2.2.1
  have ht := hC.1.2.2.2.2
  have S := hC.1
  have hl : lv_has ls 6 [(0, .ref (o 0)), (1, .int (nI fr)), (2, .int (nI to)), (3, .int 0), (4, .ref q)] := hl
  have hnq : ¬ aF o s.heap.size q := by
    have hlt := oP_lt hO
    unfold aF
    rintro (h | h | h | h | h | h | h)
    · exact hq 0 (by decide) h
    · exact hq 1 (by decide) h
    · exact hq 2 (by decide) h
    · exact hq 3 (by decide) h
    · exact hq 4 (by decide) h
    · exact hq 5 (by decide) h
    · omega
  refine lv_aload hx hb d_L_about_0 (lv_at hl 4 rfl) ?_
  refine lv_iconst hx hb (v := nI 0) d_L_about_2 (by decide +kernel) ?_
  refine lv_aload_n hx hb d_L_about_3 rfl (lv_at hl 0 rfl) ?_
  refine lv_iload_n hx hb d_L_about_4 rfl (lv_at hl 1 rfl) ?_
  refine lv_iload_n hx hb d_L_about_5 rfl (lv_at hl 2 rfl) ?_
  refine lv_iload_n hx hb d_L_about_6 rfl (lv_at hl 3 rfl) ?_
  refine xF_calli (As := [.int (nI fr), .int (nI to), .int 0]) (rest := [.int (nI 0), .ref q]) hC hI hA (c_F_about0 hft hto) (cwV 3 ht gv_L_46 rfl rfl rfl ⟨rfl, by decide, by decide, by decide +kernel⟩ ⟨by decide, by decide⟩) rfl hl.1 rfl (Nat.le_of_ble_eq_true rfl) d_L_about_7 ⟨by decide, by decide⟩ (fun H locs hI _ hfr9 => ?_)
  have hO := oP_kept hO (hfr9 q (oP_lt hO) hnq)
  refine lv_i2l hx hb (v := ((if (x_join (M, L, G) fr to).2.1 = (x_join (M, L, G) fr to).2.2 then 1 else 0 : Int32)).toInt64) d_L_about_10 rfl ?_
  refine xO_st hC hI hO hq (Or.inr rfl) d_L_about_11 (fun H locs hI hO => ?_)
  refine lv_goto hx hb (tgt := 23) d_L_about_12 (by decide) ?_
  refine lv_iconst hx hb (v := 0) d_L_about_23 (by decide +kernel) ?_
  exact xL_iretO hC hI hO hr hlocks (by decide) (by decide) d_L_about_24
set_option maxHeartbeats 4000000 in
set_option maxRecDepth 100000 in
/-- about -/
theorem c_L_about0_1 {l : Launch} {D : va_G} {o : Nat → Nat} {cJ cI : ClassId} {sz : Nat} {M L G : Nat → Int64} {K : Nat → Int32} {V : Nat → Int64} {a b t : Int64} {q : Nat} {Z : Int64} {fr to : Nat} (hft : fr ≤ to) (hto : to ≤ 256) (hq : ∀ i, i < 6 → q ≠ o i) : Met l y_L_about ws_L_about rm_L_about (va_Pc [.ref (o 0), .int (nI fr), .int (nI to), .int 1, .ref q] (fun U => (pF D o cJ cI sz M L G K V a b t U ∧ xz U) ∧ oP D cJ q Z U.heap)) (va_Qi (fun (r9 : Int32) (_ : Unit) => r9 = 0) (fun _ U => bF D o cJ cI (aO o q sz) M L G K V ((x_join (M, L, G) fr to).1) ((x_join (M, L, G) fr to).2.1) ((x_join (M, L, G) fr to).2.2) U ∧ oP D cJ q (((nI (x_cnt K fr (to - fr)))).toInt64) U.heap) (aO o q sz)) 1 6 (aO o q sz) := by
  refine xL_metO (av := [.int (nI fr), .int (nI to), .int 1, .ref q]) (by decide) rfl (Nat.le_of_ble_eq_true rfl) ?_
  intro p e s m below meth c ls hC hsz hz hr hlocks hex hmc had hl hI hO
  have hA : ∀ x, s.heap.size ≤ x → aO o q sz x := fun x h => Or.inl (aF_new (by omega))
  have hN : xn (aO o q sz) s.heap := aO_xn hI hO hsz
  have hx := hC.1.1
  have hb := hC.1.2.1
  have hml := hC.1.2.2.1
  have hown := hC.1.2.2.2.1
  have ht := hC.1.2.2.2.2
  have S := hC.1
  have hl : lv_has ls 6 [(0, .ref (o 0)), (1, .int (nI fr)), (2, .int (nI to)), (3, .int 1), (4, .ref q)] := hl
  have hnq : ¬ aF o s.heap.size q := by
    have hlt := oP_lt hO
    unfold aF
    rintro (h | h | h | h | h | h | h)
    · exact hq 0 (by decide) h
    · exact hq 1 (by decide) h
    · exact hq 2 (by decide) h
    · exact hq 3 (by decide) h
    · exact hq 4 (by decide) h
    · exact hq 5 (by decide) h
    · omega
  refine lv_aload hx hb d_L_about_0 (lv_at hl 4 rfl) ?_
  refine lv_iconst hx hb (v := nI 0) d_L_about_2 (by decide +kernel) ?_
  refine lv_aload_n hx hb d_L_about_3 rfl (lv_at hl 0 rfl) ?_
  refine lv_iload_n hx hb d_L_about_4 rfl (lv_at hl 1 rfl) ?_
  refine lv_iload_n hx hb d_L_about_5 rfl (lv_at hl 2 rfl) ?_
  refine lv_iload_n hx hb d_L_about_6 rfl (lv_at hl 3 rfl) ?_
  refine xF_calli (As := [.int (nI fr), .int (nI to), .int 1]) (rest := [.int (nI 0), .ref q]) hC hI hA (c_F_about1 hft hto) (cwV 3 ht gv_L_46 rfl rfl rfl ⟨rfl, by decide, by decide, by decide +kernel⟩ ⟨by decide, by decide⟩) rfl hl.1 rfl (Nat.le_of_ble_eq_true rfl) d_L_about_7 ⟨by decide, by decide⟩ (fun H locs hI _ hfr9 => ?_)
  have hO := oP_kept hO (hfr9 q (oP_lt hO) hnq)
  refine lv_i2l hx hb (v := ((nI (x_cnt K fr (to - fr)))).toInt64) d_L_about_10 rfl ?_
  refine xO_st hC hI hO hq (Or.inr rfl) d_L_about_11 (fun H locs hI hO => ?_)
  refine lv_goto hx hb (tgt := 23) d_L_about_12 (by decide) ?_
  refine lv_iconst hx hb (v := 0) d_L_about_23 (by decide +kernel) ?_
  exact xL_iretO hC hI hO hr hlocks (by decide) (by decide) d_L_about_24
set_option maxHeartbeats 4000000 in
set_option maxRecDepth 100000 in
/-- about -/
theorem c_L_about0_2 {l : Launch} {D : va_G} {o : Nat → Nat} {cJ cI : ClassId} {sz : Nat} {M L G : Nat → Int64} {K : Nat → Int32} {V : Nat → Int64} {a b t : Int64} {q : Nat} {Z : Int64} {fr to : Nat} (hft : fr ≤ to) (hto : to ≤ 256) (hq : ∀ i, i < 6 → q ≠ o i) : Met l y_L_about ws_L_about rm_L_about (va_Pc [.ref (o 0), .int (nI fr), .int (nI to), .int 2, .ref q] (fun U => (pF D o cJ cI sz M L G K V a b t U ∧ xz U) ∧ oP D cJ q Z U.heap)) (va_Qi (fun (r9 : Int32) (_ : Unit) => r9 = 0) (fun _ U => bF D o cJ cI (aO o q sz) M L G K V ((x_join (M, L, G) fr to).1) ((x_join (M, L, G) fr to).2.1) ((x_join (M, L, G) fr to).2.2) U ∧ oP D cJ q (((if (x_join (M, L, G) fr to).1 = 0 ∧ (x_join (M, L, G) fr to).2.1 = nN ∧ (x_join (M, L, G) fr to).2.2 = nP then 1 else 0 : Int32)).toInt64) U.heap) (aO o q sz)) 1 6 (aO o q sz) := by
  refine xL_metO (av := [.int (nI fr), .int (nI to), .int 2, .ref q]) (by decide) rfl (Nat.le_of_ble_eq_true rfl) ?_
  intro p e s m below meth c ls hC hsz hz hr hlocks hex hmc had hl hI hO
  have hA : ∀ x, s.heap.size ≤ x → aO o q sz x := fun x h => Or.inl (aF_new (by omega))
  have hN : xn (aO o q sz) s.heap := aO_xn hI hO hsz
  have hx := hC.1.1
  have hb := hC.1.2.1
  have hml := hC.1.2.2.1
  have hown := hC.1.2.2.2.1
  have ht := hC.1.2.2.2.2
  have S := hC.1
  have hl : lv_has ls 6 [(0, .ref (o 0)), (1, .int (nI fr)), (2, .int (nI to)), (3, .int 2), (4, .ref q)] := hl
  have hnq : ¬ aF o s.heap.size q := by
    have hlt := oP_lt hO
    unfold aF
    rintro (h | h | h | h | h | h | h)
    · exact hq 0 (by decide) h
    · exact hq 1 (by decide) h
    · exact hq 2 (by decide) h
    · exact hq 3 (by decide) h
    · exact hq 4 (by decide) h
    · exact hq 5 (by decide) h
    · omega
  refine lv_aload hx hb d_L_about_0 (lv_at hl 4 rfl) ?_
  refine lv_iconst hx hb (v := nI 0) d_L_about_2 (by decide +kernel) ?_
  refine lv_aload_n hx hb d_L_about_3 rfl (lv_at hl 0 rfl) ?_
  refine lv_iload_n hx hb d_L_about_4 rfl (lv_at hl 1 rfl) ?_
  refine lv_iload_n hx hb d_L_about_5 rfl (lv_at hl 2 rfl) ?_
  refine lv_iload_n hx hb d_L_about_6 rfl (lv_at hl 3 rfl) ?_
  refine xF_calli (As := [.int (nI fr), .int (nI to), .int 2]) (rest := [.int (nI 0), .ref q]) hC hI hA (c_F_about2 hft hto) (cwV 3 ht gv_L_46 rfl rfl rfl ⟨rfl, by decide, by decide, by decide +kernel⟩ ⟨by decide, by decide⟩) rfl hl.1 rfl (Nat.le_of_ble_eq_true rfl) d_L_about_7 ⟨by decide, by decide⟩ (fun H locs hI _ hfr9 => ?_)
  have hO := oP_kept hO (hfr9 q (oP_lt hO) hnq)
  refine lv_i2l hx hb (v := ((if (x_join (M, L, G) fr to).1 = 0 ∧ (x_join (M, L, G) fr to).2.1 = nN ∧ (x_join (M, L, G) fr to).2.2 = nP then 1 else 0 : Int32)).toInt64) d_L_about_10 rfl ?_
  refine xO_st hC hI hO hq (Or.inr rfl) d_L_about_11 (fun H locs hI hO => ?_)
  refine lv_goto hx hb (tgt := 23) d_L_about_12 (by decide) ?_
  refine lv_iconst hx hb (v := 0) d_L_about_23 (by decide +kernel) ?_
  exact xL_iretO hC hI hO hr hlocks (by decide) (by decide) d_L_about_24
set_option maxHeartbeats 4000000 in
set_option maxRecDepth 100000 in
/-- about: no question -/
theorem c_L_about1 {l : Launch} {D : va_G} {o : Nat → Nat} {cJ cI : ClassId} {sz : Nat} {M L G : Nat → Int64} {K : Nat → Int32} {V : Nat → Int64} {a b t : Int64} {q : Nat} {Z : Int64} {f t0 w : Int32} (hv : x_bh w = 0) (hq : ∀ i, i < 6 → q ≠ o i) (hfl : l.flags = flags0) : Met l y_L_about ws_L_about rm_L_about (va_Pc [.ref (o 0), .int f, .int t0, .int w, .ref q] (fun U => (pF D o cJ cI sz M L G K V a b t U ∧ xz U) ∧ oP D cJ q Z U.heap)) (va_Qi (fun (r9 : Int32) (_ : Unit) => r9 = 1) (fun _ U => bF D o cJ cI (aO o q sz) M L G K V a b t U ∧ oP D cJ q Z U.heap) (aO o q sz)) 1 6 (aO o q sz) := by
  refine xL_metO (av := [.int f, .int t0, .int w, .ref q]) (by decide) rfl (Nat.le_of_ble_eq_true rfl) ?_
  intro p e s m below meth c ls hC hsz hz hr hlocks hex hmc had hl hI hO
  have hA : ∀ x, s.heap.size ≤ x → aO o q sz x := fun x h => Or.inl (aF_new (by omega))
  have hN : xn (aO o q sz) s.heap := aO_xn hI hO hsz
  have hx := hC.1.1
  have hb := hC.1.2.1
  have hml := hC.1.2.2.1
  have hown := hC.1.2.2.2.1
  have ht := hC.1.2.2.2.2
  have S := hC.1
  have hl : lv_has ls 6 [(0, .ref (o 0)), (1, .int f), (2, .int t0), (3, .int w), (4, .ref q)] := hl
  have hnq : ¬ aF o s.heap.size q := by
    have hlt := oP_lt hO
    unfold aF
    rintro (h | h | h | h | h | h | h)
    · exact hq 0 (by decide) h
    · exact hq 1 (by decide) h
    · exact hq 2 (by decide) h
    · exact hq 3 (by decide) h
    · exact hq 4 (by decide) h
    · exact hq 5 (by decide) h
    · omega
  have hpl : e.platform.magicAccessors = ({} : Platform).magicAccessors := by rw [had.platform]
  refine lv_aload hx hb d_L_about_0 (lv_at hl 4 rfl) ?_
  refine lv_iconst hx hb (v := nI 0) d_L_about_2 (by decide +kernel) ?_
  refine lv_aload_n hx hb d_L_about_3 rfl (lv_at hl 0 rfl) ?_
  refine lv_iload_n hx hb d_L_about_4 rfl (lv_at hl 1 rfl) ?_
  refine lv_iload_n hx hb d_L_about_5 rfl (lv_at hl 2 rfl) ?_
  refine lv_iload_n hx hb d_L_about_6 rfl (lv_at hl 3 rfl) ?_
  refine xt_catch (xF_throws (As := [.int f, .int t0, .int w]) (rest := [.int (nI 0), .ref q]) hC hI hz hN (e_F_about1 hfl hv) (cwV 3 ht gv_L_46 rfl rfl rfl ⟨rfl, by decide, by decide, by decide +kernel⟩ ⟨by decide, by decide⟩) rfl hl.1 rfl (Nat.le_of_ble_eq_true rfl) d_L_about_7 ⟨by decide, by decide⟩) hI.2.2 (fun x _ h => iF_free hI hA x h) (fun x h => iF_free hI hA x h) (xc_way1 (own := R_L) (cls := X_IAE) hex hmc hown hpl (ht _ tw_54) (hz.face _ 3 rfl rfl) (by decide) (by decide)) (fun x9 t9 H locs ht9 hvm9 hB9 hz9 hk9 hS9 => ?_)
  have hI := xL_back hI hA ht9 hB9 hS9
  have hO := oP_kept hO (hk9 q (oP_lt hO) hnq)
  refine lv_astore hx hb d_L_about_15 hl (by decide) (lv' := [(5, .ref x9), (0, .ref (o 0)), (1, .int f), (2, .int t0), (3, .int w), (4, .ref q)]) rfl (fun ls hl => ?_)
  refine lv_iconst hx hb (v := 1) d_L_about_17 (by decide +kernel) ?_
  exact xL_iretO hC hI hO hr hlocks (by decide) (by decide) d_L_about_18
set_option maxHeartbeats 4000000 in
set_option maxRecDepth 100000 in
/-- about: no part -/
theorem c_L_about2 {l : Launch} {D : va_G} {o : Nat → Nat} {cJ cI : ClassId} {sz : Nat} {M L G : Nat → Int64} {K : Nat → Int32} {V : Nat → Int64} {a b t : Int64} {q : Nat} {Z : Int64} {f t0 w : Int32} (hv : x_bh w = 1) (hp : x_pt f t0 = 0) (hq : ∀ i, i < 6 → q ≠ o i) (hfl : l.flags = flags0) : Met l y_L_about ws_L_about rm_L_about (va_Pc [.ref (o 0), .int f, .int t0, .int w, .ref q] (fun U => (pF D o cJ cI sz M L G K V a b t U ∧ xz U) ∧ oP D cJ q Z U.heap)) (va_Qi (fun (r9 : Int32) (_ : Unit) => r9 = 2) (fun _ U => bF D o cJ cI (aO o q sz) M L G K V a b t U ∧ oP D cJ q Z U.heap) (aO o q sz)) 1 6 (aO o q sz) := by
  refine xL_metO (av := [.int f, .int t0, .int w, .ref q]) (by decide) rfl (Nat.le_of_ble_eq_true rfl) ?_
  intro p e s m below meth c ls hC hsz hz hr hlocks hex hmc had hl hI hO
  have hA : ∀ x, s.heap.size ≤ x → aO o q sz x := fun x h => Or.inl (aF_new (by omega))
  have hN : xn (aO o q sz) s.heap := aO_xn hI hO hsz
  have hx := hC.1.1
  have hb := hC.1.2.1
  have hml := hC.1.2.2.1
  have hown := hC.1.2.2.2.1
  have ht := hC.1.2.2.2.2
  have S := hC.1
  have hl : lv_has ls 6 [(0, .ref (o 0)), (1, .int f), (2, .int t0), (3, .int w), (4, .ref q)] := hl
  have hnq : ¬ aF o s.heap.size q := by
    have hlt := oP_lt hO
    unfold aF
    rintro (h | h | h | h | h | h | h)
    · exact hq 0 (by decide) h
    · exact hq 1 (by decide) h
    · exact hq 2 (by decide) h
    · exact hq 3 (by decide) h
    · exact hq 4 (by decide) h
    · exact hq 5 (by decide) h
    · omega
  have hpl : e.platform.magicAccessors = ({} : Platform).magicAccessors := by rw [had.platform]
  refine lv_aload hx hb d_L_about_0 (lv_at hl 4 rfl) ?_
  refine lv_iconst hx hb (v := nI 0) d_L_about_2 (by decide +kernel) ?_
  refine lv_aload_n hx hb d_L_about_3 rfl (lv_at hl 0 rfl) ?_
  refine lv_iload_n hx hb d_L_about_4 rfl (lv_at hl 1 rfl) ?_
  refine lv_iload_n hx hb d_L_about_5 rfl (lv_at hl 2 rfl) ?_
  refine lv_iload_n hx hb d_L_about_6 rfl (lv_at hl 3 rfl) ?_
  refine xt_catch (xF_throws (As := [.int f, .int t0, .int w]) (rest := [.int (nI 0), .ref q]) hC hI hz hN (e_F_about2 hfl hv hp) (cwV 3 ht gv_L_46 rfl rfl rfl ⟨rfl, by decide, by decide, by decide +kernel⟩ ⟨by decide, by decide⟩) rfl hl.1 rfl (Nat.le_of_ble_eq_true rfl) d_L_about_7 ⟨by decide, by decide⟩) hI.2.2 (fun x _ h => iF_free hI hA x h) (fun x h => iF_free hI hA x h) (xc_way2 (own := R_L) (cls := X_IOO) (cls1 := X_IAE) hex hmc hown hpl (ht _ tw_54) (ht _ tw_55) hz.2.2.2.1 (hz.face _ 4 rfl rfl) (by decide) (by decide) (by decide) (by decide)) (fun x9 t9 H locs ht9 hvm9 hB9 hz9 hk9 hS9 => ?_)
  have hI := xL_back hI hA ht9 hB9 hS9
  have hO := oP_kept hO (hk9 q (oP_lt hO) hnq)
  refine lv_astore hx hb d_L_about_19 hl (by decide) (lv' := [(5, .ref x9), (0, .ref (o 0)), (1, .int f), (2, .int t0), (3, .int w), (4, .ref q)]) rfl (fun ls hl => ?_)
  refine lv_iconst hx hb (v := 2) d_L_about_21 (by decide +kernel) ?_
  exact xL_iretO hC hI hO hr hlocks (by decide) (by decide) d_L_about_22
end
section
/-! whole numbers behind the longs: sums without overflow, what a part does -/
theorem l_add {a b : Int64} (h1 : -9223372036854775808 ≤ a.toInt + b.toInt) (h2 : a.toInt + b.toInt < 9223372036854775808) : (a + b).toInt = a.toInt + b.toInt := by
  rw [Int64.toInt_add]
  exact Int.bmod_eq_of_le (by simpa using h1) (by simpa using h2)
theorem l_lt {a b : Int64} : a < b ↔ a.toInt < b.toInt := Int64.lt_iff_toInt_lt
theorem l_le {a b : Int64} : a ≤ b ↔ a.toInt ≤ b.toInt := Int64.le_iff_toInt_le
theorem l_eq {a b : Int64} : a = b ↔ a.toInt = b.toInt := Int64.toInt_inj.symm
theorem nP_int : nP.toInt = 4611686018427387904 := by decide +kernel
theorem nN_int : nN.toInt = -4611686018427387904 := by decide +kernel
/-- a part, by its numbers: how much more, the bounds -/
def gI (N a b t : Int) : Prop := -N ≤ a ∧ a ≤ N ∧ (b = -4611686018427387904 ∨ (-N ≤ b ∧ b ≤ N)) ∧ (t = 4611686018427387904 ∨ (-N ≤ t ∧ t ≤ N)) ∧ b ≤ t
def gd (N : Int) (q : P3) : Prop := gI N q.1.toInt q.2.1.toInt q.2.2.toInt
def cI (a b t y : Int) : Int := if (if y + a < t then y + a else t) < b then b else (if y + a < t then y + a else t)
def den (q : P3) (y : Int) : Int := cI q.1.toInt q.2.1.toInt q.2.2.toInt y
theorem x_min_int (m v : Int64) : (x_min m v).toInt = if v.toInt < m.toInt then v.toInt else m.toInt := by
  unfold x_min
  by_cases h : v < m
  · rw [if_pos h, if_pos (l_lt.mp h)]
  · rw [if_neg h, if_neg (fun q => h (l_lt.mpr q))]
theorem x_max_int (k v : Int64) : (x_max k v).toInt = if v.toInt < k.toInt then k.toInt else v.toInt := by
  unfold x_max
  by_cases h : v < k
  · rw [if_pos h, if_pos (l_lt.mp h)]
  · rw [if_neg h, if_neg (fun q => h (l_lt.mpr q))]
theorem x_within_int (v k m : Int64) : (x_within v k m).toInt = if (if v.toInt < m.toInt then v.toInt else m.toInt) < k.toInt then k.toInt else (if v.toInt < m.toInt then v.toInt else m.toInt) := by
  unfold x_within
  rw [x_max_int, x_min_int]
theorem x_bound_int {v d : Int64} {N : Int} (hN : N ≤ 1000000000000000000) (hv : v.toInt = 4611686018427387904 ∨ v.toInt = -4611686018427387904 ∨ (-N ≤ v.toInt ∧ v.toInt ≤ N)) (hd : -N ≤ d.toInt ∧ d.toInt ≤ N) :
    (x_bound v d).toInt = if v.toInt = 4611686018427387904 then v.toInt else if v.toInt = -4611686018427387904 then v.toInt else v.toInt + d.toInt := by
  unfold x_bound
  by_cases h1 : v = nP
  · rw [if_pos h1, if_pos (by rw [h1]; exact nP_int)]
  · have h1' : ¬ v.toInt = 4611686018427387904 := fun q => h1 (l_eq.mpr (by rw [q]; exact nP_int.symm))
    rw [if_neg h1, if_neg h1']
    by_cases h2 : v = nN
    · rw [if_pos h2, if_pos (by rw [h2]; exact nN_int)]
    · have h2' : ¬ v.toInt = -4611686018427387904 := fun q => h2 (l_eq.mpr (by rw [q]; exact nN_int.symm))
      rw [if_neg h2, if_neg h2']
      exact l_add (by omega) (by omega)
theorem gd_one : gd 0 x_one := by
  show gI 0 (0 : Int64).toInt nN.toInt nP.toInt
  rw [nP_int, nN_int, show (0 : Int64).toInt = 0 from by decide]
  unfold gI
  omega
theorem den_one {y : Int} (h : -1000000000000000000 ≤ y ∧ y ≤ 1000000000000000000) : den x_one y = y := by
  show cI (0 : Int64).toInt nN.toInt nP.toInt y = y
  rw [nP_int, nN_int, show (0 : Int64).toInt = 0 from by decide]
  unfold cI
  omega
theorem gd_mono {N N' : Int} {q : P3} (h : gd N q) (hN : N ≤ N') : gd N' q := by
  unfold gd gI at *
  omega
/-- one part behind another -/
theorem beh_I {N1 N2 a b t m k h y : Int} (h1 : gI N1 a b t) (h2 : gI N2 m k h) (hN : N1 + N2 ≤ 1000000000000000000) (hN1 : 0 ≤ N1) (hN2 : 0 ≤ N2)
    (b' t' b1 t1 : Int) (eb : b1 = if b = 4611686018427387904 then b else if b = -4611686018427387904 then b else b + m) (et : t1 = if t = 4611686018427387904 then t else if t = -4611686018427387904 then t else t + m)
    (eb' : b' = if (if b1 < h then b1 else h) < k then k else (if b1 < h then b1 else h)) (et' : t' = if (if t1 < h then t1 else h) < k then k else (if t1 < h then t1 else h)) :
    gI (N1 + N2) (a + m) b' t' ∧ ((-1000000000000000000 ≤ y ∧ y ≤ 1000000000000000000) → cI (a + m) b' t' y = cI m k h (cI a b t y)) := by
  unfold gI at h1 h2
  constructor
  · unfold gI
    omega
  · intro hy
    unfold cI
    omega
theorem beh_gd {N1 N2 : Int} {q n : P3} (h1 : gd N1 q) (h2 : gd N2 n) (hN : N1 + N2 ≤ 1000000000000000000) (hN1 : 0 ≤ N1) (hN2 : 0 ≤ N2) :
    gd (N1 + N2) (x_beh q n) ∧ ∀ y : Int, (-1000000000000000000 ≤ y ∧ y ≤ 1000000000000000000) → den (x_beh q n) y = den n (den q y) := by
  have g1 := h1
  have g2 := h2
  unfold gd gI at g1 g2
  have ea : (x_beh q n).1.toInt = q.1.toInt + n.1.toInt := l_add (by omega) (by omega)
  have eb : (x_bound q.2.1 n.1).toInt = _ := x_bound_int (N := N1 + N2) hN (by omega) (by omega)
  have et : (x_bound q.2.2 n.1).toInt = _ := x_bound_int (N := N1 + N2) hN (by omega) (by omega)
  have eb' : (x_beh q n).2.1.toInt = _ := x_within_int (x_bound q.2.1 n.1) n.2.1 n.2.2
  have et' : (x_beh q n).2.2.toInt = _ := x_within_int (x_bound q.2.2 n.1) n.2.1 n.2.2
  have key := fun y : Int => beh_I (y := y) h1 h2 hN hN1 hN2 _ _ _ _ eb et eb' et'
  constructor
  · unfold gd
    rw [ea]
    exact (key 0).1
  · intro y hy
    have := (key y).2 hy
    unfold den
    rw [ea]
    exact this
theorem den_le {N : Int} {q : P3} (h : gd N q) (hN : 0 ≤ N ∧ N ≤ 1000000000000000000) {y B : Int} (hB : B ≤ 1000000000000000000) (hy : -B ≤ y ∧ y ≤ B) : -(B + N) ≤ den q y ∧ den q y ≤ B + N := by
  unfold gd gI at h
  unfold den cI
  omega
theorem made_den {N : Int} {q : P3} (h : gd N q) (hN : N ≤ 1000000000000000000) {v : Int64} (hv : -1000000000000000000 ≤ v.toInt ∧ v.toInt ≤ 1000000000000000000) : (x_made q v).toInt = den q v.toInt := by
  unfold gd gI at h
  unfold x_made den cI
  rw [x_within_int, l_add (by omega) (by omega)]
/-- a rule -/
theorem rr_spec {s : Int32} {v : Int64} (h : x_rr s v = 1) : 0 ≤ s.toInt ∧ s.toInt < 5 ∧ -1000000000 ≤ v.toInt ∧ v.toInt ≤ 1000000000 := by
  unfold x_rr at h
  by_cases h1 : s < 0
  · simp [h1] at h
  · by_cases h2 : 5 ≤ s
    · simp [h1, h2] at h
    · have g1 : 0 ≤ s.toInt := by
        have := (not_congr Int32.lt_iff_toInt_lt).mp h1
        simpa using this
      have g2 : s.toInt < 5 := by
        have := (not_congr Int32.le_iff_toInt_le).mp h2
        have e : (5 : Int32).toInt = 5 := by decide
        omega
      simp only [h1, h2, if_false] at h
      unfold x_in at h
      have e1 : (-1000000000 : Int64).toInt = -1000000000 := by decide +kernel
      have e2 : (1000000000 : Int64).toInt = 1000000000 := by decide +kernel
      by_cases h3 : v < -1000000000
      · simp [h3] at h
      · by_cases h4 : 1000000000 < v
        · simp [h3, h4] at h
        · have g3 := (not_congr l_lt).mp h3
          have g4 := (not_congr l_lt).mp h4
          omega
theorem leaf_ok {s : Int32} {v : Int64} (h : x_rr s v = 1) : gd 1000000000 (x_leaf s v) ∧ ∀ y : Int64, (-100000000000000000 ≤ y.toInt ∧ y.toInt ≤ 100000000000000000) → den (x_leaf s v) y.toInt = (m_op s v y).toInt := by
  obtain ⟨h0, h5, hv1, hv2⟩ := rr_spec h
  have e0 : (0 : Int64).toInt = 0 := by decide
  have ne : ∀ k : Int32, s.toInt ≠ k.toInt → ¬ s = k := fun k hk q => hk (by rw [q])
  have c1 : (1 : Int32).toInt = 1 := by decide
  have c2 : (2 : Int32).toInt = 2 := by decide
  have c3 : (3 : Int32).toInt = 3 := by decide
  have c4 : (4 : Int32).toInt = 4 := by decide
  by_cases s1 : s = 1
  · subst s1
    have el : x_leaf 1 v = (v, nN, nP) := by simp [x_leaf]
    rw [el]
    refine ⟨?_, fun y hy => ?_⟩
    · show gI _ v.toInt nN.toInt nP.toInt
      rw [nP_int, nN_int]; unfold gI; omega
    · have em : m_op 1 v y = y + v := by simp [m_op]
      rw [em, l_add (by omega) (by omega)]
      unfold den cI
      simp only [nP_int, nN_int]
      omega
  · by_cases s2 : s = 2
    · subst s2
      have el : x_leaf 2 v = (0, v, v) := by simp [x_leaf]
      rw [el]
      refine ⟨?_, fun y hy => ?_⟩
      · show gI _ (0 : Int64).toInt v.toInt v.toInt
        rw [e0]; unfold gI; omega
      · have em : m_op 2 v y = v := by simp [m_op]
        rw [em]
        unfold den cI
        simp only [e0]
        omega
    · by_cases s3 : s = 3
      · subst s3
        have el : x_leaf 3 v = (0, v, nP) := by simp [x_leaf]
        rw [el]
        refine ⟨?_, fun y hy => ?_⟩
        · show gI _ (0 : Int64).toInt v.toInt nP.toInt
          rw [e0, nP_int]; unfold gI; omega
        · have em : m_op 3 v y = if v ≤ y then y else v := by simp [m_op]
          rw [em]
          unfold den cI
          simp only [e0, nP_int]
          by_cases hc : v ≤ y
          · have hc' := l_le.mp hc
            rw [if_pos hc]
            omega
          · have hc' := (not_congr l_le).mp hc
            rw [if_neg hc]
            omega
      · by_cases s4 : s = 4
        · subst s4
          have el : x_leaf 4 v = (0, nN, v) := by simp [x_leaf]
          rw [el]
          refine ⟨?_, fun y hy => ?_⟩
          · show gI _ (0 : Int64).toInt nN.toInt v.toInt
            rw [e0, nN_int]; unfold gI; omega
          · have em : m_op 4 v y = if y ≤ v then y else v := by simp [m_op]
            rw [em]
            unfold den cI
            simp only [e0, nN_int]
            by_cases hc : y ≤ v
            · have hc' := l_le.mp hc
              rw [if_pos hc]
              omega
            · have hc' := (not_congr l_le).mp hc
              rw [if_neg hc]
              omega
        · have el : x_leaf s v = (0, nN, nP) := by simp [x_leaf, s1, s2, s3, s4]
          rw [el]
          refine ⟨gd_mono gd_one (by omega), fun y hy => ?_⟩
          have em : m_op s v y = y := by simp [m_op, s1, s2, s3, s4]
          rw [em]
          exact den_one (by omega)
end
section
/-! the tree: a node is what its two children make, a leaf what its rule says; what a node does, rule by rule -/
def okN (T : N3) (n : Nat) : Prop := x_nd T n = x_jn T n
def RelE (E : Nat → Prop) (u : FR) (K : Nat → Int32) (V : Nat → Int64) : Prop := (∀ k, k < 256 → u.2.1 k = K k ∧ u.2.2.1 k = V k ∧ x_rr (K k) (V k) = 1 ∧ x_nd u.1 (256 + k) = x_leaf (K k) (V k)) ∧ ∀ n, 1 ≤ n → n < 256 → ¬ E n → okN u.1 n
def Rel (u : FR) (K : Nat → Int32) (V : Nat → Int64) : Prop := RelE (fun _ => False) u K V
theorem nd_kp_self (T : N3) (k : Nat) (q : P3) : x_nd (x_kp T k q) k = q := by
  simp [x_nd, x_kp, vp_updL]
theorem nd_kp_ne (T : N3) {k n : Nat} (q : P3) (h : n ≠ k) : x_nd (x_kp T k q) n = x_nd T n := by
  simp [x_nd, x_kp, vp_updL, h]
theorem jn_kp (T : N3) {k n : Nat} (q : P3) (h1 : 2 * n ≠ k) (h2 : 2 * n + 1 ≠ k) : x_jn (x_kp T k q) n = x_jn T n := by
  unfold x_jn
  rw [nd_kp_ne T q h1, nd_kp_ne T q h2]
theorem upF_ok (E : Nat → Prop) : ∀ (f k : Nat) (T : N3) (q : P3), k < 2 ^ f → (f = 0 ∨ 2 ^ (f - 1) ≤ k) → (∀ n, 1 ≤ n → n < 256 → ¬ E n → (∀ i, n ≠ k / 2 ^ i) → okN T n) → ∀ n, 1 ≤ n → n < 256 → ¬ E n → okN (x_upF f k T q).1 n := by
  intro f
  induction f with
  | zero =>
    intro k T q hk _ h n h1 h2 hE
    have hk0 : k = 0 := by simpa using hk
    subst hk0
    exact h n h1 h2 hE (fun i => by rw [Nat.zero_div]; omega)
  | succ f ih =>
    intro k T q hk hk2 h n h1 h2 hE
    have hpow : 2 ^ f ≤ k := by rcases hk2 with h | h; omega; simpa using h
    have hp1 : 0 < 2 ^ f := Nat.two_pow_pos f
    have hp2 : 2 ^ (f + 1) = 2 * 2 ^ f := by rw [Nat.pow_succ]; omega
    have hp9 : f = 0 ∨ 2 ^ (f - 1) ≤ k / 2 := by
      rcases f with _ | f
      · exact Or.inl rfl
      · right
        have h9 : 2 ^ (f + 1) = 2 * 2 ^ f := by rw [Nat.pow_succ]; omega
        show 2 ^ f ≤ k / 2
        omega
    rw [x_upF]
    refine ih (k / 2) _ _ (by omega) hp9 ?_ n h1 h2 hE
    intro n g1 g2 gE gi
    by_cases hn : n = k
    · subst hn
      unfold okN
      rw [nd_kp_self, jn_kp T _ (by omega) (by omega)]
    · have gi0 := gi 0
      rw [Nat.pow_zero, Nat.div_one] at gi0
      unfold okN
      rw [nd_kp_ne T _ hn, jn_kp T _ (by omega) (by omega)]
      refine h n g1 g2 gE (fun i => ?_)
      rcases i with _ | i
      · rw [Nat.pow_zero, Nat.div_one]; exact hn
      · have := gi i
        rw [Nat.div_div_eq_div_mul, ← Nat.pow_succ'] at this
        exact this
theorem upF_leaf : ∀ (f k : Nat) (T : N3) (q : P3) (m : Nat), k < m → x_nd (x_upF f k T q).1 m = x_nd T m := by
  intro f
  induction f with
  | zero => intro k T q m _; rfl
  | succ f ih =>
    intro k T q m h
    rw [x_upF, ih (k / 2) _ _ m (by omega), nd_kp_ne T _ (by omega)]
theorem rule_rel {E : Nat → Prop} {u : FR} {K : Nat → Int32} {V : Nat → Int64} {j : Nat} {s : Int32} {v : Int64} (h : RelE E u K V) (hj : j < 256) (hv : x_rr s v = 1) : RelE (fun n => E n ∨ n = (256 + j) / 2) (x_rule u j s v) (upd K j s) (vp_updL V j v) := by
  refine ⟨fun k hk => ?_, fun n h1 h2 hE => ?_⟩
  · obtain ⟨a1, a2, a3, a4⟩ := h.1 k hk
    by_cases hkj : k = j
    · subst hkj
      refine ⟨by simp [x_rule, upd], by simp [x_rule, vp_updL], by simpa [upd, vp_updL] using hv, ?_⟩
      show x_nd (x_kp u.1 (256 + k) (x_leaf s v)) (256 + k) = _
      rw [nd_kp_self]
      simp [upd, vp_updL]
    · refine ⟨by simpa [x_rule, upd, hkj] using a1, by simpa [x_rule, vp_updL, hkj] using a2, by simpa [upd, vp_updL, hkj] using a3, ?_⟩
      show x_nd (x_kp u.1 (256 + j) (x_leaf s v)) (256 + k) = _
      rw [nd_kp_ne _ _ (by omega)]
      simpa [upd, vp_updL, hkj] using a4
  · have hE1 : ¬ E n := fun q => hE (Or.inl q)
    have hE2 : n ≠ (256 + j) / 2 := fun q => hE (Or.inr q)
    show x_nd (x_kp u.1 (256 + j) (x_leaf s v)) n = x_jn (x_kp u.1 (256 + j) (x_leaf s v)) n
    rw [nd_kp_ne _ _ (by omega), jn_kp _ _ (by omega) (by omega)]
    exact h.2 n h1 h2 hE1
theorem up_rel {E E' : Nat → Prop} {u : FR} {K : Nat → Int32} {V : Nat → Int64} {j : Nat} (h : RelE E' u K V) (hj : j < 256) (hE : ∀ n, E' n → E n ∨ ∃ i, n = (256 + j) / 2 / 2 ^ i) : RelE E (x_upR u j) K V := by
  refine ⟨fun k hk => ?_, fun n h1 h2 hE1 => ?_⟩
  · obtain ⟨a1, a2, a3, a4⟩ := h.1 k hk
    refine ⟨a1, a2, a3, ?_⟩
    show x_nd (x_upF 8 ((256 + j) / 2) u.1 u.2.2.2).1 (256 + k) = _
    rw [upF_leaf _ _ _ _ _ (by omega)]
    exact a4
  · refine upF_ok E 8 ((256 + j) / 2) u.1 u.2.2.2 (by omega) (Or.inr (by omega)) (fun n g1 g2 gE gi => ?_) n h1 h2 hE1
    refine h.2 n g1 g2 (fun q => ?_)
    rcases hE n q with q | ⟨i, q⟩
    · exact gE q
    · exact gi i q
theorem set_rel {u : FR} {K : Nat → Int32} {V : Nat → Int64} {j : Nat} {s : Int32} {v : Int64} (h : Rel u K V) (hj : j < 256) (hv : x_rr s v = 1) : Rel (x_set u j s v) (upd K j s) (vp_updL V j v) := by
  refine up_rel (rule_rel h hj hv) hj (fun n q => ?_)
  rcases q with q | q
  · exact q.elim
  · exact Or.inr ⟨0, by rw [Nat.pow_zero, Nat.div_one]; exact q⟩
theorem fill_rel {u : FR} {K : Nat → Int32} {V : Nat → Int64} {fr : Nat} {s : Int32} {v : Int64} (h : Rel u K V) (hv : x_rr s v = 1) : ∀ d, fr + d ≤ 256 → Rel (x_fill u fr s v d) (m_fillK K fr s d) (m_fillV V fr v d) := by
  intro d
  induction d with
  | zero => intro _; exact h
  | succ d ih => intro hd; exact set_rel (ih (by omega)) (by omega) hv
theorem swap_rel {u : FR} {K : Nat → Int32} {V : Nat → Int64} {j k : Nat} (h : Rel u K V) (hj : j < 256) (hk : k < 256) : Rel (x_swap u j k) (upd (upd K j (K k)) k (K j)) (vp_updL (vp_updL V j (V k)) k (V j)) := by
  obtain ⟨a1, a2, a3, -⟩ := h.1 j hj
  obtain ⟨b1, b2, b3, -⟩ := h.1 k hk
  unfold x_swap
  rw [a1, a2, b1, b2]
  refine up_rel (up_rel (E := fun n => n = (256 + k) / 2) (rule_rel (rule_rel h hj b3) hk a3) hj (fun n q => ?_)) hk (fun n q => ?_)
  · rcases q with (q | q) | q
    · exact q.elim
    · exact Or.inr ⟨0, by rw [Nat.pow_zero, Nat.div_one]; exact q⟩
    · exact Or.inl q
  · exact Or.inr ⟨0, by rw [Nat.pow_zero, Nat.div_one]; exact q⟩
theorem ini_at (v : Int64) : ∀ d k, x_ini v d k = if k < d then v else 0 := by
  intro d
  induction d with
  | zero => intro k; simp [x_ini]
  | succ d ih =>
    intro k
    unfold x_ini vp_updL
    by_cases h : k = d
    · subst h; simp
    · rw [if_neg h, ih k]
      by_cases h2 : k < d
      · rw [if_pos h2, if_pos (by omega)]
      · rw [if_neg h2, if_neg (by omega)]
theorem ini_nd {k : Nat} (h : k < 512) : x_nd (x_ini 0 512, x_ini nN 512, x_ini nP 512) k = x_one := by
  show (x_ini 0 512 k, x_ini nN 512 k, x_ini nP 512 k) = _
  rw [ini_at, ini_at, ini_at, if_pos h, if_pos h, if_pos h]
theorem ini_rel (q : P3) : Rel ((x_ini 0 512, x_ini nN 512, x_ini nP 512), (fun _ => 0), (fun _ => 0), q) (fun _ => 0) (fun _ => 0) := by
  refine ⟨fun k hk => ⟨rfl, rfl, by show x_rr 0 0 = 1; decide +kernel, ?_⟩, fun n h1 h2 _ => ?_⟩
  · show x_nd (x_ini 0 512, x_ini nN 512, x_ini nP 512) (256 + k) = _
    rw [ini_nd (by omega)]
    show x_one = x_leaf 0 0
    decide +kernel
  · show x_nd (x_ini 0 512, x_ini nN 512, x_ini nP 512) n = x_jn (x_ini 0 512, x_ini nN 512, x_ini nP 512) n
    unfold x_jn
    rw [ini_nd (by omega), ini_nd (by omega), ini_nd (by omega)]
    decide +kernel
/-- the reference, rule by rule -/
theorem made_app (K : Nat → Int32) (V : Nat → Int64) : ∀ (d1 d2 k : Nat) (y : Int64), m_made K V (d1 + d2) k y = m_made K V d2 (k + d1) (m_made K V d1 k y) := by
  intro d1
  induction d1 with
  | zero => intro d2 k y; rw [Nat.zero_add]; rfl
  | succ d1 ih =>
    intro d2 k y
    rw [show d1 + 1 + d2 = (d1 + d2) + 1 by omega, m_made, ih d2 (k + 1), m_made, show k + 1 + d1 = k + (d1 + 1) by omega]
theorem op_le {s : Int32} {v y : Int64} {B : Int} (h : x_rr s v = 1) (hB : B ≤ 100000000000000000) (hy : -B ≤ y.toInt ∧ y.toInt ≤ B) : -(B + 1000000000) ≤ (m_op s v y).toInt ∧ (m_op s v y).toInt ≤ B + 1000000000 := by
  obtain ⟨h1, h2⟩ := leaf_ok h
  rw [← h2 y (by omega)]
  exact den_le h1 (by omega) (by omega) hy
theorem made_le {u : FR} {K : Nat → Int32} {V : Nat → Int64} (h : Rel u K V) : ∀ (d k : Nat) (y : Int64) (B : Int), k + d ≤ 256 → B + 1000000000 * d ≤ 100000000000000000 → (-B ≤ y.toInt ∧ y.toInt ≤ B) → -(B + 1000000000 * d) ≤ (m_made K V d k y).toInt ∧ (m_made K V d k y).toInt ≤ B + 1000000000 * d := by
  intro d
  induction d with
  | zero => intro k y B _ _ hy; simpa [m_made] using hy
  | succ d ih =>
    intro k y B hk hB hy
    obtain ⟨-, -, h3, -⟩ := h.1 k (by omega)
    have h4 := op_le (B := B) (y := y) h3 (by omega) hy
    have h5 := ih (k + 1) (m_op (K k) (V k) y) (B + 1000000000) (by omega) (by omega) h4
    rw [m_made]
    omega
theorem node_ok {u : FR} {K : Nat → Int32} {V : Nat → Int64} (hR : Rel u K V) : ∀ (h n : Nat), h ≤ 8 → 256 ≤ n * 2 ^ h → n * 2 ^ h < 512 → gd (1000000000 * (2 ^ h : Nat)) (x_nd u.1 n) ∧ ∀ (y : Int64) (B : Int), (-B ≤ y.toInt ∧ y.toInt ≤ B) → B + 1000000000 * (2 ^ h : Nat) ≤ 20000000000000000 → den (x_nd u.1 n) y.toInt = (m_made K V (2 ^ h) (n * 2 ^ h - 256) y).toInt := by
  intro h
  induction h with
  | zero =>
    intro n _ h1 h2
    simp only [Nat.pow_zero, Nat.mul_one] at h1 h2 ⊢
    obtain ⟨k, rfl⟩ : ∃ k, n = 256 + k := ⟨n - 256, by omega⟩
    obtain ⟨-, -, a3, a4⟩ := hR.1 k (by omega)
    obtain ⟨g1, g2⟩ := leaf_ok a3
    rw [a4, show 256 + k - 256 = k by omega]
    refine ⟨by simpa using g1, fun y B hy hB => ?_⟩
    rw [g2 y (by omega)]
    rfl
  | succ h ih =>
    intro n hh h1 h2
    have hp : 2 ^ (h + 1) = 2 * 2 ^ h := by rw [Nat.pow_succ]; omega
    have hpp : 0 < 2 ^ h := Nat.two_pow_pos h
    have hp7 : 2 ^ h ≤ 128 := Nat.pow_le_pow_right (by decide) (show h ≤ 7 by omega)
    have e1 : n * 2 ^ (h + 1) = 2 * n * 2 ^ h := by rw [hp, Nat.mul_comm 2 n, Nat.mul_assoc]
    have e2 : (2 * n + 1) * 2 ^ h = n * 2 ^ (h + 1) + 2 ^ h := by rw [Nat.add_mul, Nat.one_mul, e1]
    have hdiv : n * 2 ^ (h + 1) + 2 ^ (h + 1) ≤ 512 := by
      have h9 : 2 ^ (h + 1) * 2 ^ (8 - h) = 512 := by rw [← Nat.pow_add, show h + 1 + (8 - h) = 9 by omega]
      have h10 : n < 2 ^ (8 - h) := by
        refine Nat.lt_of_mul_lt_mul_right (a := 2 ^ (h + 1)) ?_
        rw [Nat.mul_comm (2 ^ (8 - h)), h9]
        exact h2
      have h11 : (n + 1) * 2 ^ (h + 1) ≤ 2 ^ (8 - h) * 2 ^ (h + 1) := Nat.mul_le_mul_right _ h10
      rw [Nat.mul_comm (2 ^ (8 - h)), h9, Nat.add_mul, Nat.one_mul] at h11
      exact h11
    have hn1 : 1 ≤ n := by
      rcases Nat.eq_zero_or_pos n with q | q
      · subst q; simp at h1
      · exact q
    have hn2 : n < 256 := by
      have h9 : n * 2 ≤ n * 2 ^ (h + 1) := Nat.mul_le_mul_left n (by omega)
      omega
    obtain ⟨g1, d1⟩ := ih (2 * n) (by omega) (by omega) (by omega)
    obtain ⟨g2, d2⟩ := ih (2 * n + 1) (by omega) (by omega) (by omega)
    have ok : x_nd u.1 n = x_jn u.1 n := hR.2 n hn1 hn2 (fun q => q)
    have hc : ((2 ^ h : Nat) : Int) ≤ 128 := by omega
    have hc0 : (0 : Int) < ((2 ^ h : Nat) : Int) := by omega
    have hc1 : ((2 ^ (h + 1) : Nat) : Int) = 2 * ((2 ^ h : Nat) : Int) := by omega
    obtain ⟨k1, k2⟩ := beh_gd gd_one g1 (by omega) (by omega) (by omega)
    obtain ⟨k3, k4⟩ := beh_gd k1 g2 (by omega) (by omega) (by omega)
    rw [ok]
    unfold x_jn
    refine ⟨gd_mono k3 (by omega), fun y B hy hB => ?_⟩
    have hst : 2 * n * 2 ^ h - 256 + 2 ^ h ≤ 256 := by omega
    have hm := made_le hR (2 ^ h) (2 * n * 2 ^ h - 256) y B hst (by omega) hy
    have e4 : m_made K V (2 ^ (h + 1)) (n * 2 ^ (h + 1) - 256) y = m_made K V (2 ^ h) (2 * n * 2 ^ h - 256 + 2 ^ h) (m_made K V (2 ^ h) (2 * n * 2 ^ h - 256) y) := by
      rw [e1, show (2 : Nat) ^ (h + 1) = 2 ^ h + 2 ^ h by omega]
      exact made_app K V _ _ _ y
    rw [e4, k4 _ (by omega), k2 _ (by omega), den_one (by omega), d1 y B hy (by omega), d2 _ (B + 1000000000 * ((2 ^ h : Nat) : Int)) hm (by omega), e2, show n * 2 ^ (h + 1) + 2 ^ h - 256 = 2 * n * 2 ^ h - 256 + 2 ^ h by omega]
end
section
/-! a part of the row, and the answers: both sides of the law say the same -/
theorem wide_spec : ∀ (f k to h0 : Nat), h0 + f = 8 → 2 ^ h0 ∣ k → k + 2 ^ h0 ≤ to → ∃ h, h ≤ 8 ∧ x_wide f k to (2 ^ h0) = 2 ^ h ∧ 2 ^ h ∣ k ∧ k + 2 ^ h ≤ to := by
  intro f
  induction f with
  | zero => intro k to h0 h1 h2 h3; exact ⟨h0, by omega, rfl, h2, h3⟩
  | succ f ih =>
    intro k to h0 h1 h2 h3
    rw [x_wide]
    split
    · rename_i hc
      obtain ⟨c1, c2, -⟩ := hc
      rw [← Nat.pow_succ]
      have hd : 2 ^ (h0 + 1) ∣ k := by
        obtain ⟨m, rfl⟩ := h2
        have hp : 0 < 2 ^ h0 := Nat.two_pow_pos h0
        have hb : (2 ^ h0 * m).testBit h0 = false := by
          have h9 := congrArg (fun z => Nat.testBit z h0) c1
          simpa [Nat.testBit_and, Nat.testBit_two_pow_self] using h9
        rw [Nat.testBit_eq_decide_div_mod_eq, Nat.mul_div_cancel_left _ hp] at hb
        have hm : m % 2 = 0 := by
          have := of_decide_eq_false hb
          omega
        rw [Nat.pow_succ]
        exact Nat.mul_dvd_mul_left _ (Nat.dvd_of_mod_eq_zero hm)
      exact ih k to (h0 + 1) (by omega) hd (by rw [Nat.pow_succ]; omega)
    · exact ⟨h0, by omega, rfl, h2, h3⟩
/-- what is known of a joined part: its numbers, and that it does what the reference does -/
def okJ (K : Nat → Int32) (V : Nat → Int64) (d fr : Nat) (q : P3) : Prop := gd (1000000000 * d) q ∧ ∀ y : Int64, (-10000000000000000 ≤ y.toInt ∧ y.toInt ≤ 10000000000000000) → den q y.toInt = (m_made K V d fr y).toInt
theorem jo_ok {u : FR} {K : Nat → Int32} {V : Nat → Int64} (hR : Rel u K V) {fr to : Nat} (hto : to ≤ 256) : ∀ (f k : Nat) (q : P3), fr ≤ k → k ≤ to → to ≤ k + f → okJ K V (k - fr) fr q → okJ K V (to - fr) fr (x_jo u.1 to f k q) := by
  intro f
  induction f with
  | zero =>
    intro k q h1 h2 h3 hq
    have : k = to := by omega
    subst this
    exact hq
  | succ f ih =>
    intro k q h1 h2 h3 hq
    rw [x_jo]
    by_cases hk : k < to
    · rw [if_pos hk]
      obtain ⟨h, hh, hw, hd, hle⟩ := wide_spec 8 k to 0 (by decide) (by simp) (by omega)
      have hw' : x_wide 8 k to 1 = 2 ^ h := hw
      rw [hw']
      have hp : 0 < 2 ^ h := Nat.two_pow_pos h
      have hd2 : 2 ^ h ∣ 256 + k := Nat.dvd_add (show 2 ^ h ∣ 2 ^ 8 from Nat.pow_dvd_pow 2 hh) hd
      have hn : (256 + k) / 2 ^ h * 2 ^ h = 256 + k := Nat.div_mul_cancel hd2
      obtain ⟨g, dn⟩ := node_ok hR h ((256 + k) / 2 ^ h) hh (by omega) (by omega)
      rw [hn, show 256 + k - 256 = k by omega] at dn
      have hc : ((2 ^ h : Nat) : Int) ≤ 256 := by
        have := Nat.pow_le_pow_right (n := 2) (by decide) hh
        omega
      obtain ⟨b1, b2⟩ := beh_gd hq.1 g (by omega) (by omega) (by omega)
      refine ih (k + 2 ^ h) _ (by omega) hle (by omega) ⟨gd_mono b1 (by omega), fun y hy => ?_⟩
      have hm := made_le hR (k - fr) fr y 10000000000000000 (by omega) (by omega) hy
      rw [b2 _ (by omega), hq.2 y hy, dn _ (10000000000000000 + 1000000000 * ((k - fr : Nat) : Int)) hm (by omega), show k + 2 ^ h - fr = (k - fr) + 2 ^ h by omega, made_app, show fr + (k - fr) = k by omega]
    · rw [if_neg hk]
      have : k = to := by omega
      subst this
      exact hq
theorem join_ok {u : FR} {K : Nat → Int32} {V : Nat → Int64} (hR : Rel u K V) {fr to : Nat} (hft : fr ≤ to) (hto : to ≤ 256) : okJ K V (to - fr) fr (x_join u.1 fr to) := by
  refine jo_ok hR hto 256 fr x_one (Nat.le_refl _) hft (by omega) ⟨?_, fun y hy => ?_⟩
  · rw [Nat.sub_self]; exact gd_one
  · rw [Nat.sub_self, den_one (by omega)]; rfl
section ANS
variable {K : Nat → Int32} {V : Nat → Int64} {d fr : Nat} {q : P3}
theorem in_spec {v : Int64} (h : x_in v 1000000000000 = 1) : -1000000000000 ≤ v.toInt ∧ v.toInt ≤ 1000000000000 := by
  unfold x_in at h
  have e1 : (-1000000000000 : Int64).toInt = -1000000000000 := by decide +kernel
  have e2 : (1000000000000 : Int64).toInt = 1000000000000 := by decide +kernel
  by_cases h3 : v < -1000000000000
  · simp [h3] at h
  · by_cases h4 : 1000000000000 < v
    · simp [h3, h4] at h
    · have g3 := (not_congr l_lt).mp h3
      have g4 := (not_congr l_lt).mp h4
      omega
theorem fold_ans (h : okJ K V d fr q) (hd : d ≤ 256) {v : Int64} (hv : x_in v 1000000000000 = 1) : x_made q v = m_made K V d fr v := by
  have := in_spec hv
  exact l_eq.mpr (by rw [made_den h.1 (by omega) (by omega), h.2 v (by omega)])
/-- again and again -/
theorem again_add (a : Nat) : ∀ (b : Nat) (y : Int64), m_again K V d fr (a + b) y = m_again K V d fr b (m_again K V d fr a y) := by
  induction a with
  | zero => intro b y; rw [Nat.zero_add]; rfl
  | succ a ih => intro b y; rw [show a + 1 + b = (a + b) + 1 by omega, m_again, ih b, m_again]
theorem again_le {u : FR} (hR : Rel u K V) (hd : fr + d ≤ 256) : ∀ (n : Nat) (y : Int64) (B : Int), B + 256000000000 * n ≤ 100000000000000000 → (-B ≤ y.toInt ∧ y.toInt ≤ B) → -(B + 256000000000 * n) ≤ (m_again K V d fr n y).toInt ∧ (m_again K V d fr n y).toInt ≤ B + 256000000000 * n := by
  intro n
  induction n with
  | zero => intro y B _ hy; simpa [m_again] using hy
  | succ n ih =>
    intro y B hB hy
    have h1 := made_le hR d fr y B hd (by omega) hy
    have h2 := ih (m_made K V d fr y) (B + 256000000000) (by omega) (by omega)
    rw [m_again]
    omega
def okA (K : Nat → Int32) (V : Nat → Int64) (d fr c : Nat) (q : P3) : Prop := gd (256000000000 * c) q ∧ ∀ (y : Int64) (B : Int), (-B ≤ y.toInt ∧ y.toInt ≤ B) → B + 256000000000 * c ≤ 10000000000000000 → den q y.toInt = (m_again K V d fr c y).toInt
theorem ag_ok {u : FR} (hR : Rel u K V) (hd : fr + d ≤ 256) : ∀ (g n c : Nat) (v : Int64) (q : P3) (B : Int), n < 2 ^ g → (-B ≤ v.toInt ∧ v.toInt ≤ B) → B + 256000000000 * (c * 2 ^ g : Nat) ≤ 10000000000000000 + 256000000000 * c → 0 ≤ B → okA K V d fr c q → (x_ag g n v q).1 = m_again K V d fr (c * n) v := by
  intro g
  induction g with
  | zero =>
    intro n c v q B hn _ _ _ _
    have hn0 : n = 0 := by simpa using hn
    subst hn0
    rfl
  | succ g ih =>
    intro n c v q B hn hv hB hB0 hq
    rw [x_ag]
    by_cases hn0 : n = 0
    · rw [if_pos hn0]
      subst hn0
      rfl
    · rw [if_neg hn0]
      have hp : 2 ^ (g + 1) = 2 * 2 ^ g := by rw [Nat.pow_succ]; omega
      have hpp : 0 < 2 ^ g := Nat.two_pow_pos g
      have e9 : c * 2 ^ (g + 1) = 2 * (c * 2 ^ g) := by rw [hp, Nat.mul_left_comm]
      have hcg : c ≤ c * 2 ^ g := Nat.le_mul_of_pos_right c hpp
      have e8 : 2 * c * 2 ^ g = c * 2 ^ (g + 1) := by rw [e9, Nat.mul_assoc]
      have hq2 : okA K V d fr (2 * c) (x_beh q q) := by
        obtain ⟨b1, b2⟩ := beh_gd hq.1 hq.1 (by omega) (by omega) (by omega)
        refine ⟨gd_mono b1 (by omega), fun y B hy hB9 => ?_⟩
        have hB8 : B + 256000000000 * (c : Int) ≤ 10000000000000000 := by omega
        have h1 := again_le hR hd c y B (by omega) hy
        rw [b2 _ (by omega), hq.2 y B hy hB8, hq.2 _ (B + 256000000000 * (c : Int)) h1 (by omega), Nat.two_mul, again_add]
      have hmd : n % 2 = 1 → x_made q v = m_again K V d fr c v := fun _ => l_eq.mpr (by rw [made_den hq.1 (by omega) (by omega), hq.2 v B hv (by omega)])
      by_cases ho : n % 2 = 1
      · rw [if_pos ho, hmd ho]
        have h1 := again_le hR hd c v B (by omega) hv
        rw [ih (n / 2) (2 * c) _ _ (B + 256000000000 * (c : Int)) (by omega) h1 (by rw [e8, e9]; omega) (by omega) hq2]
        rw [← again_add]
        congr 1
        have hn2 : n = 2 * (n / 2) + 1 := by omega
        rw [show 2 * c * (n / 2) = c * (2 * (n / 2)) by rw [Nat.mul_comm 2 c, Nat.mul_assoc]]
        rw [show c * n = c * (2 * (n / 2) + 1) by rw [← hn2], Nat.mul_add, Nat.mul_one, Nat.add_comm]
      · rw [if_neg ho]
        rw [ih (n / 2) (2 * c) _ _ B (by omega) hv (by rw [e8, e9]; omega) hB0 hq2]
        congr 1
        have hn2 : n = 2 * (n / 2) := by omega
        rw [show 2 * c * (n / 2) = c * (2 * (n / 2)) by rw [Nat.mul_comm 2 c, Nat.mul_assoc], ← hn2]
theorem again_ans {u : FR} (hR : Rel u K V) (hd : fr + d ≤ 256) (h : okJ K V d fr q) {n : Nat} {v : Int64} (hn : n ≤ 1000) (hv : x_in v 1000000000000 = 1) : (x_ag 10 n v q).1 = m_again K V d fr n v := by
  have hi := in_spec hv
  have := ag_ok hR hd 10 n 1 v q 1000000000000 (by omega) (by omega) (by decide) (by decide) ⟨gd_mono h.1 (by omega), fun y B hy hB => by rw [h.2 y (by omega)]; rfl⟩
  rw [this, Nat.one_mul]
/-- the numbers at the far ends -/
theorem far_int : (1000000000000000 : Int64).toInt = 1000000000000000 ∧ (-1000000000000000 : Int64).toInt = -1000000000000000 ∧ (2 * 1000000000000000 : Int64).toInt = 2000000000000000 ∧ (2 * -1000000000000000 : Int64).toInt = -2000000000000000 := by decide +kernel
theorem x_ifc {α : Type} {P Q : Prop} [Decidable P] [Decidable Q] (h : P ↔ Q) (a b : α) : (if P then a else b) = if Q then a else b := by
  by_cases hp : P
  · rw [if_pos hp, if_pos (h.mp hp)]
  · rw [if_neg hp, if_neg (fun z => hp (h.mpr z))]
theorem told_int (v : Int64) : x_told v = if (v.toInt ≠ 4611686018427387904 ∧ v.toInt ≠ -4611686018427387904) then 1 else 0 := by
  unfold x_told
  by_cases h1 : v = nP
  · rw [if_pos h1, if_neg (fun z => z.1 (by rw [h1]; exact nP_int))]
  · have h1' : ¬ v.toInt = 4611686018427387904 := fun q => h1 (l_eq.mpr (by rw [q]; exact nP_int.symm))
    rw [if_neg h1]
    by_cases h2 : v = nN
    · rw [if_pos h2, if_neg (fun z => z.2 (by rw [h2]; exact nN_int))]
    · have h2' : ¬ v.toInt = -4611686018427387904 := fun q => h2 (l_eq.mpr (by rw [q]; exact nN_int.symm))
      rw [if_neg h2, if_pos ⟨h1', h2'⟩]
theorem told_1 {v : Int64} (h : x_told v = 1) : v.toInt ≠ 4611686018427387904 ∧ v.toInt ≠ -4611686018427387904 := by
  rw [told_int] at h
  split at h
  · assumption
  · exact absurd h (by decide)
theorem told_iff (v : Int64) : x_told v = 1 ↔ (v.toInt ≠ 4611686018427387904 ∧ v.toInt ≠ -4611686018427387904) := ⟨told_1, fun h => by rw [told_int, if_pos h]⟩
theorem ends_int (h : okJ K V d fr q) {x : Int64} (hx : -1000000000000000 ≤ x.toInt ∧ x.toInt ≤ 1000000000000000) (h2 : (2 * x).toInt = 2 * x.toInt) : m_ends K V d fr x = if den q x.toInt = den q (2 * x.toInt) then 1 else 0 := by
  unfold m_ends
  have e1 := h.2 x (by omega)
  have e2 := h.2 (2 * x) (by omega)
  rw [h2] at e2
  by_cases hc : m_made K V d fr x = m_made K V d fr (2 * x)
  · rw [if_pos hc, if_pos (by rw [e1, e2, hc])]
  · rw [if_neg hc, if_neg (fun z => hc (l_eq.mpr (by rw [← e1, ← e2, z])))]
theorem least_ans (h : okJ K V d fr q) (hd : d ≤ 256) : m_ends K V d fr (-1000000000000000) = x_told q.2.1 ∧ (x_told q.2.1 = 1 → q.2.1 = m_made K V d fr (-1000000000000000)) := by
  obtain ⟨f1, f2, f3, f4⟩ := far_int
  have e1 := h.2 (-1000000000000000) (by omega)
  have he := ends_int h (x := (-1000000000000000)) (by omega) (by omega)
  rw [f2] at e1 he
  have hg := h.1
  unfold gd gI at hg
  refine ⟨?_, fun ht => l_eq.mpr ?_⟩
  · rw [he, told_int]
    refine x_ifc ?_ _ _
    unfold den cI
    clear he e1
    omega
  · have ht := told_1 ht
    unfold den cI at e1
    clear he
    omega
theorem greatest_ans (h : okJ K V d fr q) (hd : d ≤ 256) : m_ends K V d fr 1000000000000000 = x_told q.2.2 ∧ (x_told q.2.2 = 1 → q.2.2 = m_made K V d fr 1000000000000000) := by
  obtain ⟨f1, f2, f3, f4⟩ := far_int
  have e1 := h.2 1000000000000000 (by omega)
  have he := ends_int h (x := 1000000000000000) (by omega) (by omega)
  rw [f1] at e1 he
  have hg := h.1
  unfold gd gI at hg
  refine ⟨?_, fun ht => l_eq.mpr ?_⟩
  · rw [he, told_int]
    refine x_ifc ?_ _ _
    unfold den cI
    clear he e1
    omega
  · have ht := told_1 ht
    unfold den cI at e1
    clear he
    omega
/-- the numbers that stay -/
def fixP (q : P3) (w : Int32) : Int32 × Int64 := if x_told (x_fix q w) = 1 then (0, x_fix q w) else (2, 0)
theorem fix_int0 (q : P3) : x_fix q 0 = if 0 < q.1.toInt then q.2.2 else q.2.1 := by
  unfold x_fix
  have e0 : (0 : Int64).toInt = 0 := by decide
  have h1 : q.1 ≤ 0 ↔ q.1.toInt ≤ 0 := by rw [l_le, e0]
  simp only [h1]
  by_cases h : 0 < q.1.toInt
  · rw [if_neg (by omega), if_pos h]
  · rw [if_pos (by omega), if_neg h]
    simp
theorem fix_int1 (q : P3) {w : Int32} (hw : ¬ w = 0) : x_fix q w = if q.1.toInt < 0 then q.2.1 else q.2.2 := by
  unfold x_fix
  have e0 : (0 : Int64).toInt = 0 := by decide
  have h1 : q.1 ≤ 0 ↔ q.1.toInt ≤ 0 := by rw [l_le, e0]
  have h2 : 0 ≤ q.1 ↔ 0 ≤ q.1.toInt := by rw [l_le, e0]
  simp only [h1, h2, hw, if_false]
  by_cases h : q.1.toInt < 0
  · rw [if_pos (by omega), if_neg (by omega), if_pos h]
  · rw [if_neg h]
    by_cases h9 : q.1.toInt ≤ 0
    · rw [if_pos h9, if_pos (by omega)]
    · rw [if_neg h9]
theorem low_facts (h : okJ K V d fr q) (hd : d ≤ 256) : (m_made K V d fr (-1000000000000000) = -1000000000000000 ↔ q.1.toInt = 0 ∧ q.2.1.toInt = -4611686018427387904) ∧ (m_ends K V d fr (-1000000000000000) ≠ 0 ∧ m_made K V d fr (m_made K V d fr (-1000000000000000)) = m_made K V d fr (-1000000000000000) ↔ q.2.1.toInt ≠ -4611686018427387904 ∧ (q.1.toInt ≤ 0 ∨ q.2.1.toInt = q.2.2.toInt)) ∧ (q.2.1.toInt ≠ -4611686018427387904 → m_made K V d fr (-1000000000000000) = q.2.1) := by
  obtain ⟨f1, f2, f3, f4⟩ := far_int
  have e1 := h.2 (-1000000000000000) (by omega)
  rw [f2] at e1
  have hg := h.1
  unfold gd gI at hg
  have hv : q.2.1.toInt ≠ -4611686018427387904 → m_made K V d fr (-1000000000000000) = q.2.1 := fun ht => l_eq.mpr (by unfold den cI at e1; omega)
  refine ⟨?_, ?_, hv⟩
  · rw [l_eq, f2, ← e1]
    unfold den cI
    clear hv e1
    omega
  · rw [(least_ans h hd).1, told_int]
    by_cases hb : q.2.1.toInt = -4611686018427387904
    · simp [hb]
    · rw [hv hb, l_eq, ← h.2 q.2.1 (by omega)]
      rw [if_pos (by omega)]
      unfold den cI
      clear hv e1
      simp only [ne_eq, show ¬ ((1 : Int32) = 0) by decide, not_false_eq_true, true_and, hb]
      omega
theorem top_facts (h : okJ K V d fr q) (hd : d ≤ 256) : (m_made K V d fr 1000000000000000 = 1000000000000000 ↔ q.1.toInt = 0 ∧ q.2.2.toInt = 4611686018427387904) ∧ (m_ends K V d fr 1000000000000000 ≠ 0 ∧ m_made K V d fr (m_made K V d fr 1000000000000000) = m_made K V d fr 1000000000000000 ↔ q.2.2.toInt ≠ 4611686018427387904 ∧ (0 ≤ q.1.toInt ∨ q.2.1.toInt = q.2.2.toInt)) ∧ (q.2.2.toInt ≠ 4611686018427387904 → m_made K V d fr 1000000000000000 = q.2.2) := by
  obtain ⟨f1, f2, f3, f4⟩ := far_int
  have e1 := h.2 1000000000000000 (by omega)
  rw [f1] at e1
  have hg := h.1
  unfold gd gI at hg
  have hv : q.2.2.toInt ≠ 4611686018427387904 → m_made K V d fr 1000000000000000 = q.2.2 := fun ht => l_eq.mpr (by unfold den cI at e1; omega)
  refine ⟨?_, ?_, hv⟩
  · rw [l_eq, f1, ← e1]
    unfold den cI
    clear hv e1
    omega
  · rw [(greatest_ans h hd).1, told_int]
    by_cases hb : q.2.2.toInt = 4611686018427387904
    · simp [hb]
    · rw [hv hb, l_eq, ← h.2 q.2.2 (by omega)]
      rw [if_pos (by omega)]
      unfold den cI
      clear hv e1
      simp only [ne_eq, show ¬ ((1 : Int32) = 0) by decide, not_false_eq_true, true_and, hb]
      omega
theorem fixed_ans0 (h : okJ K V d fr q) (hd : d ≤ 256) : m_fixR K V d fr (-1000000000000000) = fixP q 0 := by
  obtain ⟨a1, a2, a3⟩ := low_facts h hd
  obtain ⟨b1, b2, b3⟩ := top_facts h hd
  have hg := h.1
  unfold gd gI at hg
  have en : (- -1000000000000000 : Int64) = 1000000000000000 := by decide +kernel
  unfold m_fixR fixP
  rw [en]
  simp only [a1, a2, b2]
  rw [fix_int0]
  by_cases ha : 0 < q.1.toInt
  · rw [if_pos ha, if_neg (by omega), x_ifc (told_iff _)]
    by_cases hb : q.2.1.toInt ≠ -4611686018427387904 ∧ (q.1.toInt ≤ 0 ∨ q.2.1.toInt = q.2.2.toInt)
    · rw [if_pos hb, if_pos (by omega), a3 hb.1, show q.2.1 = q.2.2 from l_eq.mpr (by omega)]
    · rw [if_neg hb]
      by_cases hc : q.2.2.toInt = 4611686018427387904
      · rw [if_neg (fun z => z.1 hc), if_neg (fun z => z.1 hc)]
      · rw [if_pos ⟨hc, by omega⟩, if_pos (by omega), b3 hc]
  · rw [if_neg ha, x_ifc (told_iff _)]
    by_cases hb : q.2.1.toInt = -4611686018427387904
    · rw [if_neg (show ¬ (q.2.1.toInt ≠ 4611686018427387904 ∧ q.2.1.toInt ≠ -4611686018427387904) from fun z => z.2 hb)]
      by_cases hc : q.1.toInt = 0
      · rw [if_pos ⟨hc, hb⟩]
      · rw [if_neg (by omega), if_neg (by omega), if_neg (by omega)]
    · rw [if_neg (by omega), if_pos (by omega), if_pos (by omega), a3 hb]
theorem fixed_ans1 (h : okJ K V d fr q) (hd : d ≤ 256) {w : Int32} (hw : ¬ w = 0) : m_fixR K V d fr 1000000000000000 = fixP q w := by
  obtain ⟨a1, a2, a3⟩ := low_facts h hd
  obtain ⟨b1, b2, b3⟩ := top_facts h hd
  have hg := h.1
  unfold gd gI at hg
  unfold m_fixR fixP
  simp only [b1, a2, b2]
  rw [fix_int1 q hw]
  by_cases ha : q.1.toInt < 0
  · rw [if_pos ha, if_neg (by omega), x_ifc (told_iff _)]
    by_cases hb : q.2.2.toInt ≠ 4611686018427387904 ∧ (0 ≤ q.1.toInt ∨ q.2.1.toInt = q.2.2.toInt)
    · rw [if_pos hb, if_pos (by omega), b3 hb.1, show q.2.1 = q.2.2 from l_eq.mpr (by omega)]
    · rw [if_neg hb]
      by_cases hc : q.2.1.toInt = -4611686018427387904
      · rw [if_neg (fun z => z.1 hc), if_neg (fun z => z.2 hc)]
      · rw [if_pos ⟨hc, by omega⟩, if_pos (by omega), a3 hc]
  · rw [if_neg ha, x_ifc (told_iff _)]
    by_cases hb : q.2.2.toInt = 4611686018427387904
    · rw [if_neg (show ¬ (q.2.2.toInt ≠ 4611686018427387904 ∧ q.2.2.toInt ≠ -4611686018427387904) from fun z => z.1 hb)]
      by_cases hc : q.1.toInt = 0
      · rw [if_pos ⟨hc, hb⟩]
      · rw [if_neg (by omega), if_neg (by omega), if_neg (by omega)]
    · rw [if_neg (by omega), if_pos (by omega), if_pos (by omega), b3 hb]
/-- what is asked about a part -/
theorem about_ans0 (h : okJ K V d fr q) (hd : d ≤ 256) : (if m_made K V d fr (-1000000000000000) = m_made K V d fr 1000000000000000 then 1 else 0 : Int32) = if q.2.1 = q.2.2 then 1 else 0 := by
  obtain ⟨f1, f2, f3, f4⟩ := far_int
  refine x_ifc ?_ _ _
  have hg := h.1
  unfold gd gI at hg
  rw [l_eq, l_eq, ← h.2 _ (by omega), ← h.2 _ (by omega), f1, f2]
  unfold den cI
  omega
theorem about_ans2 (h : okJ K V d fr q) (hd : d ≤ 256) : (if m_made K V d fr (-1000000000000000) = -1000000000000000 ∧ m_made K V d fr 1000000000000000 = 1000000000000000 then 1 else 0 : Int32) = if q.1 = 0 ∧ q.2.1 = nN ∧ q.2.2 = nP then 1 else 0 := by
  refine x_ifc ?_ _ _
  have e0 : (0 : Int64).toInt = 0 := by decide
  rw [(low_facts h hd).1, (top_facts h hd).1, l_eq (a := q.1), l_eq (a := q.2.1), l_eq (a := q.2.2), nP_int, nN_int, e0]
  omega
theorem cnt_eq {K2 : Nat → Int32} (h : ∀ k, k < 256 → K2 k = K k) : ∀ d, fr + d ≤ 256 → x_cnt K2 fr d = x_cnt K fr d := by
  intro d
  induction d with
  | zero => intro _; rfl
  | succ d ih => intro hd; rw [x_cnt, x_cnt, ih (by omega), h (fr + d) (by omega)]
end ANS
end
section
/-! each operation of the class beside the reference's: one answer, and the two stay the same row (printed by gen/gen_ops.py) -/
theorem i_lt {a b : Int32} : a < b ↔ a.toInt < b.toInt := Int32.lt_iff_toInt_lt
theorem i_le {a b : Int32} : a ≤ b ↔ a.toInt ≤ b.toInt := Int32.le_iff_toInt_le
theorem m_in_int (k : Int32) {c : Int64} {n : Int} (hc : c.toInt = n) : m_in k.toInt64 0 c = if k.toInt < 0 then 0 else if n < k.toInt then 0 else 1 := by
  unfold m_in
  have e0 : (0 : Int64).toInt = 0 := by decide
  rw [x_ifc (show k.toInt64 < 0 ↔ k.toInt < 0 by rw [l_lt, Int32.toInt_toInt64, e0]), x_ifc (show c < k.toInt64 ↔ n < k.toInt by rw [l_lt, Int32.toInt_toInt64, hc])]
theorem ck_r1 (k : Int32) : (x_r1 k = 0 ∧ m_in k.toInt64 0 255 = 0) ∨ (x_r1 k = 1 ∧ m_in k.toInt64 0 255 = 1 ∧ ∃ j : Nat, j < 256 ∧ k = nI j) := by
  have e : (255 : Int64).toInt = 255 := by decide +kernel
  have e0 : (0 : Int32).toInt = 0 := by decide
  rcases pk_ix k (n := 256) (by decide) with h | h | ⟨j, hj, rfl⟩
  · refine Or.inl ⟨by unfold x_r1; rw [if_pos h], ?_⟩
    rw [m_in_int k e, if_pos (by rw [i_lt, e0] at h; exact h)]
  · have h2 := i_le.mp h
    rw [nI_toInt (by decide)] at h2
    have h3 : ¬ k < 0 := fun z => by rw [i_lt, e0] at z; omega
    refine Or.inl ⟨?_, ?_⟩
    · unfold x_r1
      rw [nI_256, if_neg h3, if_pos h]
    · rw [m_in_int k e, if_neg (by omega), if_pos (by omega)]
  · exact Or.inr ⟨x_r1_ok hj, m_in_ok hj, j, hj, rfl⟩
theorem ck_pt (f t : Int32) : x_pt f t = 0 ∨ (∃ fr to : Nat, fr ≤ to ∧ to ≤ 256 ∧ f = nI fr ∧ t = nI to) := by
  have e0 : (0 : Int32).toInt = 0 := by decide
  unfold x_pt
  by_cases h1 : f < 0
  · exact Or.inl (by rw [if_pos h1])
  · rw [if_neg h1]
    by_cases h2 : t < f
    · exact Or.inl (by rw [if_pos h2])
    · rw [if_neg h2]
      by_cases h3 : 256 < t
      · exact Or.inl (by rw [if_pos h3])
      · right
        obtain ⟨fr, hf, rfl⟩ := nI_of h1
        have h4 := (not_congr i_lt).mp h2
        have h5 := (not_congr i_lt).mp h3
        rw [nI_toInt hf] at h4
        rw [nI_256, nI_toInt (by decide)] at h5
        have h6 : ¬ t < 0 := fun z => by rw [i_lt, e0] at z; omega
        obtain ⟨to, ht, rfl⟩ := nI_of h6
        rw [nI_toInt ht] at h4 h5
        exact ⟨fr, to, by omega, by omega, rfl, rfl⟩
theorem ck_rr (s : Int32) (v : Int64) : (x_rr s v = 0 ∧ m_isRule s v = 0) ∨ (x_rr s v = 1 ∧ m_isRule s v = 1) := by
  have e : (4 : Int64).toInt = 4 := by decide +kernel
  have e0 : (0 : Int32).toInt = 0 := by decide
  have e5 : (5 : Int32).toInt = 5 := by decide
  have ev : m_in v (-1000000000) 1000000000 = x_in v 1000000000 := rfl
  unfold x_rr m_isRule
  rw [m_in_int s e, ev]
  have c1 : s < 0 ↔ s.toInt < 0 := by rw [i_lt, e0]
  have c2 : 5 ≤ s ↔ 4 < s.toInt := by rw [i_le, e5]; omega
  rw [x_ifc c1, x_ifc c2]
  by_cases h1 : s.toInt < 0
  · exact Or.inl ⟨by rw [if_pos h1], by rw [if_pos h1, if_pos rfl]⟩
  · by_cases h2 : 4 < s.toInt
    · exact Or.inl ⟨by rw [if_neg h1, if_pos h2], by rw [if_neg h1, if_pos h2, if_pos rfl]⟩
    · rw [if_neg h1, if_neg h2, if_neg h1, if_neg h2, if_neg (show ¬ ((1 : Int32) = 0) by decide)]
      by_cases h3 : x_in v 1000000000 = 0
      · exact Or.inl ⟨by rw [if_pos h3], by rw [if_pos h3]⟩
      · exact Or.inr ⟨by rw [if_neg h3], by rw [if_neg h3]⟩
theorem ck_in (v : Int64) : (x_in v 1000000000000 = 0 ∧ m_isNumber v = 0) ∨ (x_in v 1000000000000 = 1 ∧ m_isNumber v = 1) := by
  have ev : m_isNumber v = x_in v 1000000000000 := rfl
  rw [ev]
  unfold x_in
  split
  · exact Or.inl ⟨rfl, rfl⟩
  · split
    · exact Or.inl ⟨rfl, rfl⟩
    · exact Or.inr ⟨rfl, rfl⟩
theorem ck_ah (v : Int64) (n : Int32) : (x_ah v n = 0 ∧ m_isNumber v = 0) ∨ (x_ah v n = 0 ∧ m_isNumber v = 1 ∧ m_in n.toInt64 0 1000 = 0) ∨ (x_ah v n = 1 ∧ x_in v 1000000000000 = 1 ∧ m_isNumber v = 1 ∧ m_in n.toInt64 0 1000 = 1 ∧ ∃ j : Nat, j ≤ 1000 ∧ n = nI j) := by
  have e : (1000 : Int64).toInt = 1000 := by decide +kernel
  have e1 : (1000 : Int32).toInt = 1000 := by decide +kernel
  have e0 : (0 : Int32).toInt = 0 := by decide
  unfold x_ah
  rcases ck_in v with ⟨h1, h2⟩ | ⟨h1, h2⟩
  · exact Or.inl ⟨by rw [if_pos h1], h2⟩
  · right
    rw [h1, if_neg (show ¬ ((1 : Int32) = 0) by decide), m_in_int n e]
    have c1 : n < 0 ↔ n.toInt < 0 := by rw [i_lt, e0]
    have c2 : 1000 < n ↔ 1000 < n.toInt := by rw [i_lt, e1]
    rw [x_ifc c1, x_ifc c2]
    by_cases g1 : n.toInt < 0
    · exact Or.inl ⟨by rw [if_pos g1], h2, by rw [if_pos g1]⟩
    · by_cases g2 : 1000 < n.toInt
      · exact Or.inl ⟨by rw [if_neg g1, if_pos g2], h2, by rw [if_neg g1, if_pos g2]⟩
      · obtain ⟨j, hj, rfl⟩ := nI_of (x := n) (fun z => g1 (c1.mp z))
        rw [nI_toInt hj] at g2
        exact Or.inr ⟨by rw [if_neg g1, if_neg (by rw [nI_toInt hj]; exact g2)], rfl, h2, by rw [if_neg g1, if_neg (by rw [nI_toInt hj]; exact g2)], j, by omega, rfl⟩
theorem ck_bh (w : Int32) : (x_bh w = 0 ∧ m_in w.toInt64 0 2 = 0) ∨ (x_bh w = 1 ∧ m_in w.toInt64 0 2 = 1 ∧ (w = 0 ∨ w = 1 ∨ w = 2)) := by
  have e : (2 : Int64).toInt = 2 := by decide +kernel
  have e3 : (3 : Int32).toInt = 3 := by decide +kernel
  have e0 : (0 : Int32).toInt = 0 := by decide
  have e1 : (1 : Int32).toInt = 1 := by decide
  have e2 : (2 : Int32).toInt = 2 := by decide
  unfold x_bh
  rw [m_in_int w e]
  have c1 : w < 0 ↔ w.toInt < 0 := by rw [i_lt, e0]
  have c2 : 3 ≤ w ↔ 2 < w.toInt := by rw [i_le, e3]; omega
  rw [x_ifc c1, x_ifc c2]
  by_cases g1 : w.toInt < 0
  · exact Or.inl ⟨by rw [if_pos g1], by rw [if_pos g1]⟩
  · by_cases g2 : 2 < w.toInt
    · exact Or.inl ⟨by rw [if_neg g1, if_pos g2], by rw [if_neg g1, if_pos g2]⟩
    · refine Or.inr ⟨by rw [if_neg g1, if_neg g2], by rw [if_neg g1, if_neg g2], ?_⟩
      have h : w.toInt = 0 ∨ w.toInt = 1 ∨ w.toInt = 2 := by omega
      rcases h with h | h | h
      · exact Or.inl (Int32.toInt_inj.mp (h.trans e0.symm))
      · exact Or.inr (Or.inl (Int32.toInt_inj.mp (h.trans e1.symm)))
      · exact Or.inr (Or.inr (Int32.toInt_inj.mp (h.trans e2.symm)))
theorem ck_told (v : Int64) : x_told v = 0 ∨ x_told v = 1 := by
  unfold x_told
  split
  · exact Or.inl rfl
  · split
    · exact Or.inl rfl
    · exact Or.inr rfl
/-- the row's picture, by its state -/
abbrev pFu (D : va_G) (o : Nat → Nat) (cJ cI : ClassId) (sz : Nat) (u : FR) (U : State) : Prop := pF D o cJ cI sz u.1.1 u.1.2.1 u.1.2.2 u.2.1 u.2.2.1 u.2.2.2.1 u.2.2.2.2.1 u.2.2.2.2.2 U
abbrev bFu (D : va_G) (o : Nat → Nat) (cJ cI : ClassId) (A : Nat → Prop) (u : FR) (U : State) : Prop := bF D o cJ cI A u.1.1 u.1.2.1 u.1.2.2 u.2.1 u.2.2.1 u.2.2.2.1 u.2.2.2.2.1 u.2.2.2.2.2 U
abbrev iFu (D : va_G) (o : Nat → Nat) (cJ cI : ClassId) (A : Nat → Prop) (H0 H : Heap) (locs : List Loc) (u : FR) : Prop := iF D o cJ cI A H0 H locs u.1.1 u.1.2.1 u.1.2.2 u.2.1 u.2.2.1 u.2.2.2.1 u.2.2.2.2.1 u.2.2.2.2.2
theorem op_set {u : FR} {K : Nat → Int32} {V : Nat → Int64} (hR : Rel u K V) (k s0 : Int32) (v : Int64) : ∃ (rv : Int32) (u' : FR) (K' : Nat → Int32) (V' : Nat → Int64), Rel u' K' V' ∧
    (∀ (l : Launch) (D : va_G) (o : Nat → Nat) (cJ cI : ClassId) (sz : Nat), l.flags = flags0 → Met l y_L_set ws_L_set rm_L_set (va_Pc [.ref (o 0), .int k, .int s0, .long v] (fun U => pFu D o cJ cI sz u U ∧ xz U)) (va_Qi (fun (r9 : Int32) (_ : Unit) => r9 = rv) (fun _ => bFu D o cJ cI (aF o sz) u') (aF o sz)) 1 6 (aF o sz)) ∧
    (∀ (l : Launch) (D : va_G) (o : Nat → Nat) (cJ cI : ClassId) (sz : Nat) (r : Int32), Met l y_M_set ws_M_set rm_M_set (va_Pc [.ref (o 0), .int k, .int s0, .long v] (pM D o cJ cI sz r K V)) (va_Qv (fun _ : Unit => True) (fun _ => bM D o cJ cI (aM o sz) rv K' V') (aM o sz)) 0 0 (aM o sz)) := by
  obtain ⟨⟨M, L, G⟩, K9, V9, a, b, t⟩ := u
  rcases ck_rr s0 v with ⟨h1, h2⟩ | ⟨h1, h2⟩
  · exact ⟨1, ((M, L, G), K9, V9, (a, b, t)), K, V, hR, fun l D o cJ cI sz hf => c_L_set1 h1 hf, fun l D o cJ cI sz r => c_M_set1 h2⟩
  · rcases ck_r1 k with ⟨g1, g2⟩ | ⟨g1, g2, j, hj, rfl⟩
    · exact ⟨2, ((M, L, G), K9, V9, (a, b, t)), K, V, hR, fun l D o cJ cI sz hf => c_L_set2 h1 g1 hf, fun l D o cJ cI sz r => c_M_set2 h2 g2⟩
    · exact ⟨0, x_set ((M, L, G), K9, V9, (a, b, t)) j s0 v, upd K j s0, vp_updL V j v, set_rel hR hj h1, fun l D o cJ cI sz _ => c_L_set0 hj h1, fun l D o cJ cI sz r => c_M_set3 hj h2⟩
theorem op_fill {u : FR} {K : Nat → Int32} {V : Nat → Int64} (hR : Rel u K V) (f t0 s0 : Int32) (v : Int64) : ∃ (rv : Int32) (u' : FR) (K' : Nat → Int32) (V' : Nat → Int64), Rel u' K' V' ∧
    (∀ (l : Launch) (D : va_G) (o : Nat → Nat) (cJ cI : ClassId) (sz : Nat), l.flags = flags0 → Met l y_L_fill ws_L_fill rm_L_fill (va_Pc [.ref (o 0), .int f, .int t0, .int s0, .long v] (fun U => pFu D o cJ cI sz u U ∧ xz U)) (va_Qi (fun (r9 : Int32) (_ : Unit) => r9 = rv) (fun _ => bFu D o cJ cI (aF o sz) u') (aF o sz)) 1 6 (aF o sz)) ∧
    (∀ (l : Launch) (D : va_G) (o : Nat → Nat) (cJ cI : ClassId) (sz : Nat) (r : Int32), Met l y_M_fill ws_M_fill rm_M_fill (va_Pc [.ref (o 0), .int f, .int t0, .int s0, .long v] (pM D o cJ cI sz r K V)) (va_Qv (fun _ : Unit => True) (fun _ => bM D o cJ cI (aM o sz) rv K' V') (aM o sz)) 0 0 (aM o sz)) := by
  obtain ⟨⟨M, L, G⟩, K9, V9, a, b, t⟩ := u
  rcases ck_rr s0 v with ⟨h1, h2⟩ | ⟨h1, h2⟩
  · exact ⟨1, ((M, L, G), K9, V9, (a, b, t)), K, V, hR, fun l D o cJ cI sz hf => c_L_fill1 h1 hf, fun l D o cJ cI sz r => c_M_fill1 h2⟩
  · rcases ck_pt f t0 with g1 | ⟨fr, to, hft, hto, rfl, rfl⟩
    · exact ⟨2, ((M, L, G), K9, V9, (a, b, t)), K, V, hR, fun l D o cJ cI sz hf => c_L_fill2 h1 g1 hf, fun l D o cJ cI sz r => c_M_fill2 h2 g1⟩
    · exact ⟨0, x_fill ((M, L, G), K9, V9, (a, b, t)) fr s0 v (to - fr), m_fillK K fr s0 (to - fr), m_fillV V fr v (to - fr), fill_rel hR h1 (to - fr) (by omega), fun l D o cJ cI sz _ => c_L_fill0 hft hto h1, fun l D o cJ cI sz r => c_M_fill3 hft hto h2⟩
theorem op_swap {u : FR} {K : Nat → Int32} {V : Nat → Int64} (hR : Rel u K V) (j k : Int32) : ∃ (rv : Int32) (u' : FR) (K' : Nat → Int32) (V' : Nat → Int64), Rel u' K' V' ∧
    (∀ (l : Launch) (D : va_G) (o : Nat → Nat) (cJ cI : ClassId) (sz : Nat), l.flags = flags0 → Met l y_L_swap ws_L_swap rm_L_swap (va_Pc [.ref (o 0), .int j, .int k] (fun U => pFu D o cJ cI sz u U ∧ xz U)) (va_Qi (fun (r9 : Int32) (_ : Unit) => r9 = rv) (fun _ => bFu D o cJ cI (aF o sz) u') (aF o sz)) 1 6 (aF o sz)) ∧
    (∀ (l : Launch) (D : va_G) (o : Nat → Nat) (cJ cI : ClassId) (sz : Nat) (r : Int32), Met l y_M_swap ws_M_swap rm_M_swap (va_Pc [.ref (o 0), .int j, .int k] (pM D o cJ cI sz r K V)) (va_Qv (fun _ : Unit => True) (fun _ => bM D o cJ cI (aM o sz) rv K' V') (aM o sz)) 0 0 (aM o sz)) := by
  obtain ⟨⟨M, L, G⟩, K9, V9, a, b, t⟩ := u
  rcases ck_r1 j with ⟨h1, h2⟩ | ⟨h1, h2, j, hj, rfl⟩
  · exact ⟨1, ((M, L, G), K9, V9, (a, b, t)), K, V, hR, fun l D o cJ cI sz hf => c_L_swap1 h1 hf, fun l D o cJ cI sz r => c_M_swap1 h2⟩
  · rcases ck_r1 k with ⟨g1, g2⟩ | ⟨g1, g2, k, hk, rfl⟩
    · exact ⟨1, ((M, L, G), K9, V9, (a, b, t)), K, V, hR, fun l D o cJ cI sz hf => c_L_swap2 h1 g1 hf, fun l D o cJ cI sz r => c_M_swap2 h2 g2⟩
    · exact ⟨0, x_swap ((M, L, G), K9, V9, (a, b, t)) j k, upd (upd K j (K k)) k (K j), vp_updL (vp_updL V j (V k)) k (V j), swap_rel hR hj hk, fun l D o cJ cI sz _ => c_L_swap0 hj hk, fun l D o cJ cI sz r => c_M_swap3 hj hk⟩
theorem op_fold {u : FR} {K : Nat → Int32} {V : Nat → Int64} (hR : Rel u K V) (Z : Int64) (f t0 : Int32) (v : Int64) : ∃ (rv : Int32) (u' : FR) (Z' : Int64) (b9 : Int64), Rel u' K V ∧ (rv = 0 → Z' = b9) ∧
    (∀ (l : Launch) (D : va_G) (o : Nat → Nat) (cJ cI : ClassId) (sz q : Nat), (∀ i, i < 6 → q ≠ o i) → l.flags = flags0 → Met l y_L_fold ws_L_fold rm_L_fold (va_Pc [.ref (o 0), .int f, .int t0, .long v, .ref q] (fun U => (pFu D o cJ cI sz u U ∧ xz U) ∧ oP D cJ q Z U.heap)) (va_Qi (fun (r9 : Int32) (_ : Unit) => r9 = rv) (fun _ U => bFu D o cJ cI (aO o q sz) u' U ∧ oP D cJ q Z' U.heap) (aO o q sz)) 1 6 (aO o q sz)) ∧
    (∀ (l : Launch) (D : va_G) (o : Nat → Nat) (cJ cI : ClassId) (sz : Nat) (r : Int32), Met l y_M_fold ws_M_fold rm_M_fold (va_Pc [.ref (o 0), .int f, .int t0, .long v] (pM D o cJ cI sz r K V)) (va_Ql (fun (r9 : Int64) (_ : Unit) => r9 = b9) (fun _ => bM D o cJ cI (aM o sz) rv K V) (aM o sz)) 0 0 (aM o sz)) := by
  obtain ⟨⟨M, L, G⟩, K9, V9, a, b, t⟩ := u
  rcases ck_in v with ⟨h1, h2⟩ | ⟨h1, h2⟩
  · exact ⟨1, ((M, L, G), K9, V9, (a, b, t)), Z, 0, hR, fun h => absurd h (by decide), fun l D o cJ cI sz q hq hf => c_L_fold1 h1 hq hf, fun l D o cJ cI sz r => c_M_fold1 h2⟩
  · rcases ck_pt f t0 with g1 | ⟨fr, to, hft, hto, rfl, rfl⟩
    · exact ⟨2, ((M, L, G), K9, V9, (a, b, t)), Z, 0, hR, fun h => absurd h (by decide), fun l D o cJ cI sz q hq hf => c_L_fold2 h1 g1 hq hf, fun l D o cJ cI sz r => c_M_fold2 h2 g1⟩
    · exact ⟨0, ((M, L, G), K9, V9, (x_join (M, L, G) fr to)), x_made (x_join (M, L, G) fr to) v, m_made K V (to - fr) fr v, hR, fun _ => fold_ans (join_ok hR hft hto) (by omega) h1, fun l D o cJ cI sz q hq _ => c_L_fold0 hft hto h1 hq, fun l D o cJ cI sz r => c_M_fold3 hft hto h2⟩
theorem op_again {u : FR} {K : Nat → Int32} {V : Nat → Int64} (hR : Rel u K V) (Z : Int64) (f t0 : Int32) (v : Int64) (n : Int32) : ∃ (rv : Int32) (u' : FR) (Z' : Int64) (b9 : Int64), Rel u' K V ∧ (rv = 0 → Z' = b9) ∧
    (∀ (l : Launch) (D : va_G) (o : Nat → Nat) (cJ cI : ClassId) (sz q : Nat), (∀ i, i < 6 → q ≠ o i) → l.flags = flags0 → Met l y_L_again ws_L_again rm_L_again (va_Pc [.ref (o 0), .int f, .int t0, .long v, .int n, .ref q] (fun U => (pFu D o cJ cI sz u U ∧ xz U) ∧ oP D cJ q Z U.heap)) (va_Qi (fun (r9 : Int32) (_ : Unit) => r9 = rv) (fun _ U => bFu D o cJ cI (aO o q sz) u' U ∧ oP D cJ q Z' U.heap) (aO o q sz)) 1 6 (aO o q sz)) ∧
    (∀ (l : Launch) (D : va_G) (o : Nat → Nat) (cJ cI : ClassId) (sz : Nat) (r : Int32), Met l y_M_again ws_M_again rm_M_again (va_Pc [.ref (o 0), .int f, .int t0, .long v, .int n] (pM D o cJ cI sz r K V)) (va_Ql (fun (r9 : Int64) (_ : Unit) => r9 = b9) (fun _ => bM D o cJ cI (aM o sz) rv K V) (aM o sz)) 0 0 (aM o sz)) := by
  obtain ⟨⟨M, L, G⟩, K9, V9, a, b, t⟩ := u
  rcases ck_ah v n with ⟨h1, h2⟩ | ⟨h1, h2, h3⟩ | ⟨h1, h0, h2, h3, n, hn, rfl⟩
  · exact ⟨1, ((M, L, G), K9, V9, (a, b, t)), Z, 0, hR, fun h => absurd h (by decide), fun l D o cJ cI sz q hq hf => c_L_again1 h1 hq hf, fun l D o cJ cI sz r => c_M_again1 h2⟩
  · exact ⟨1, ((M, L, G), K9, V9, (a, b, t)), Z, 0, hR, fun h => absurd h (by decide), fun l D o cJ cI sz q hq hf => c_L_again1 h1 hq hf, fun l D o cJ cI sz r => c_M_again2 h2 h3⟩
  · rcases ck_pt f t0 with g1 | ⟨fr, to, hft, hto, rfl, rfl⟩
    · exact ⟨2, ((M, L, G), K9, V9, (a, b, t)), Z, 0, hR, fun h => absurd h (by decide), fun l D o cJ cI sz q hq hf => c_L_again2 h1 g1 hq hf, fun l D o cJ cI sz r => c_M_again3 h2 h3 g1⟩
    · exact ⟨0, ((M, L, G), K9, V9, (x_ag 10 n v (x_join (M, L, G) fr to)).2), (x_ag 10 n v (x_join (M, L, G) fr to)).1, m_again K V (to - fr) fr n v, hR, fun _ => again_ans hR (by omega) (join_ok hR hft hto) hn h0, fun l D o cJ cI sz q hq _ => c_L_again0 hft hto hn h1 hq, fun l D o cJ cI sz r => c_M_again4 hft hto hn h2⟩
theorem op_least {u : FR} {K : Nat → Int32} {V : Nat → Int64} (hR : Rel u K V) (Z : Int64) (f t0 : Int32) : ∃ (rv : Int32) (u' : FR) (Z' : Int64) (b9 : Int64), Rel u' K V ∧ (rv = 0 → Z' = b9) ∧
    (∀ (l : Launch) (D : va_G) (o : Nat → Nat) (cJ cI : ClassId) (sz q : Nat), (∀ i, i < 6 → q ≠ o i) → l.flags = flags0 → Met l y_L_least ws_L_least rm_L_least (va_Pc [.ref (o 0), .int f, .int t0, .ref q] (fun U => (pFu D o cJ cI sz u U ∧ xz U) ∧ oP D cJ q Z U.heap)) (va_Qi (fun (r9 : Int32) (_ : Unit) => r9 = rv) (fun _ U => bFu D o cJ cI (aO o q sz) u' U ∧ oP D cJ q Z' U.heap) (aO o q sz)) 1 6 (aO o q sz)) ∧
    (∀ (l : Launch) (D : va_G) (o : Nat → Nat) (cJ cI : ClassId) (sz : Nat) (r : Int32), Met l y_M_least ws_M_least rm_M_least (va_Pc [.ref (o 0), .int f, .int t0] (pM D o cJ cI sz r K V)) (va_Ql (fun (r9 : Int64) (_ : Unit) => r9 = b9) (fun _ => bM D o cJ cI (aM o sz) rv K V) (aM o sz)) 0 0 (aM o sz)) := by
  obtain ⟨⟨M, L, G⟩, K9, V9, a, b, t⟩ := u
  rcases ck_pt f t0 with g1 | ⟨fr, to, hft, hto, rfl, rfl⟩
  · exact ⟨1, ((M, L, G), K9, V9, (a, b, t)), Z, 0, hR, fun h => absurd h (by decide), fun l D o cJ cI sz q hq hf => c_L_least1 g1 hq hf, fun l D o cJ cI sz r => c_M_least1 g1⟩
  · obtain ⟨a1, a2⟩ := least_ans (join_ok hR hft hto) (by omega)
    rcases ck_told (x_join (M, L, G) fr to).2.1 with h1 | h1
    · exact ⟨2, ((M, L, G), K9, V9, (x_join (M, L, G) fr to)), Z, 0, hR, fun h => absurd h (by decide), fun l D o cJ cI sz q hq hf => c_L_least2 hft hto h1 hq hf, fun l D o cJ cI sz r => c_M_least2 hft hto (a1.trans h1)⟩
    · exact ⟨0, ((M, L, G), K9, V9, (x_join (M, L, G) fr to)), (x_join (M, L, G) fr to).2.1, m_made K V (to - fr) fr (-1000000000000000), hR, fun _ => a2 h1, fun l D o cJ cI sz q hq _ => c_L_least0 hft hto h1 hq, fun l D o cJ cI sz r => c_M_least3 hft hto (a1.trans h1)⟩
theorem op_greatest {u : FR} {K : Nat → Int32} {V : Nat → Int64} (hR : Rel u K V) (Z : Int64) (f t0 : Int32) : ∃ (rv : Int32) (u' : FR) (Z' : Int64) (b9 : Int64), Rel u' K V ∧ (rv = 0 → Z' = b9) ∧
    (∀ (l : Launch) (D : va_G) (o : Nat → Nat) (cJ cI : ClassId) (sz q : Nat), (∀ i, i < 6 → q ≠ o i) → l.flags = flags0 → Met l y_L_greatest ws_L_greatest rm_L_greatest (va_Pc [.ref (o 0), .int f, .int t0, .ref q] (fun U => (pFu D o cJ cI sz u U ∧ xz U) ∧ oP D cJ q Z U.heap)) (va_Qi (fun (r9 : Int32) (_ : Unit) => r9 = rv) (fun _ U => bFu D o cJ cI (aO o q sz) u' U ∧ oP D cJ q Z' U.heap) (aO o q sz)) 1 6 (aO o q sz)) ∧
    (∀ (l : Launch) (D : va_G) (o : Nat → Nat) (cJ cI : ClassId) (sz : Nat) (r : Int32), Met l y_M_greatest ws_M_greatest rm_M_greatest (va_Pc [.ref (o 0), .int f, .int t0] (pM D o cJ cI sz r K V)) (va_Ql (fun (r9 : Int64) (_ : Unit) => r9 = b9) (fun _ => bM D o cJ cI (aM o sz) rv K V) (aM o sz)) 0 0 (aM o sz)) := by
  obtain ⟨⟨M, L, G⟩, K9, V9, a, b, t⟩ := u
  rcases ck_pt f t0 with g1 | ⟨fr, to, hft, hto, rfl, rfl⟩
  · exact ⟨1, ((M, L, G), K9, V9, (a, b, t)), Z, 0, hR, fun h => absurd h (by decide), fun l D o cJ cI sz q hq hf => c_L_greatest1 g1 hq hf, fun l D o cJ cI sz r => c_M_greatest1 g1⟩
  · obtain ⟨a1, a2⟩ := greatest_ans (join_ok hR hft hto) (by omega)
    rcases ck_told (x_join (M, L, G) fr to).2.2 with h1 | h1
    · exact ⟨2, ((M, L, G), K9, V9, (x_join (M, L, G) fr to)), Z, 0, hR, fun h => absurd h (by decide), fun l D o cJ cI sz q hq hf => c_L_greatest2 hft hto h1 hq hf, fun l D o cJ cI sz r => c_M_greatest2 hft hto (a1.trans h1)⟩
    · exact ⟨0, ((M, L, G), K9, V9, (x_join (M, L, G) fr to)), (x_join (M, L, G) fr to).2.2, m_made K V (to - fr) fr 1000000000000000, hR, fun _ => a2 h1, fun l D o cJ cI sz q hq _ => c_L_greatest0 hft hto h1 hq, fun l D o cJ cI sz r => c_M_greatest3 hft hto (a1.trans h1)⟩
theorem op_fixed {u : FR} {K : Nat → Int32} {V : Nat → Int64} (hR : Rel u K V) (Z : Int64) (f t0 w : Int32) : ∃ (rv : Int32) (u' : FR) (Z' : Int64) (b9 : Int64), Rel u' K V ∧ (rv = 0 → Z' = b9) ∧
    (∀ (l : Launch) (D : va_G) (o : Nat → Nat) (cJ cI : ClassId) (sz q : Nat), (∀ i, i < 6 → q ≠ o i) → l.flags = flags0 → Met l y_L_fixed ws_L_fixed rm_L_fixed (va_Pc [.ref (o 0), .int f, .int t0, .int w, .ref q] (fun U => (pFu D o cJ cI sz u U ∧ xz U) ∧ oP D cJ q Z U.heap)) (va_Qi (fun (r9 : Int32) (_ : Unit) => r9 = rv) (fun _ U => bFu D o cJ cI (aO o q sz) u' U ∧ oP D cJ q Z' U.heap) (aO o q sz)) 1 6 (aO o q sz)) ∧
    (∀ (l : Launch) (D : va_G) (o : Nat → Nat) (cJ cI : ClassId) (sz : Nat) (r : Int32), Met l y_M_fixed ws_M_fixed rm_M_fixed (va_Pc [.ref (o 0), .int f, .int t0, .int w] (pM D o cJ cI sz r K V)) (va_Ql (fun (r9 : Int64) (_ : Unit) => r9 = b9) (fun _ => bM D o cJ cI (aM o sz) rv K V) (aM o sz)) 0 0 (aM o sz)) := by
  obtain ⟨⟨M, L, G⟩, K9, V9, a, b, t⟩ := u
  rcases ck_pt f t0 with g1 | ⟨fr, to, hft, hto, rfl, rfl⟩
  · exact ⟨1, ((M, L, G), K9, V9, (a, b, t)), Z, 0, hR, fun h => absurd h (by decide), fun l D o cJ cI sz q hq hf => c_L_fixed1 g1 hq hf, fun l D o cJ cI sz r => c_M_fixed1 g1⟩
  · by_cases hw : w = 0
    · have e := (show m_fixR K V (to - fr) fr (-1000000000000000) = fixP (x_join (M, L, G) fr to) w by rw [hw]; exact fixed_ans0 (join_ok hR hft hto) (by omega))
      have e1 : (m_fixR K V (to - fr) fr (-1000000000000000)).1 = (fixP (x_join (M, L, G) fr to) w).1 := by rw [e]
      have e2 : (m_fixR K V (to - fr) fr (-1000000000000000)).2 = (fixP (x_join (M, L, G) fr to) w).2 := by rw [e]
      unfold fixP at e1 e2
      rcases ck_told (x_fix (x_join (M, L, G) fr to) w) with h1 | h1
      · rw [if_neg (by rw [h1]; decide)] at e1 e2
        refine ⟨2, ((M, L, G), K9, V9, (x_join (M, L, G) fr to)), Z, 0, hR, fun h => absurd h (by decide), fun l D o cJ cI sz q hq hf => c_L_fixed2 hft hto h1 hq hf, fun l D o cJ cI sz r => ?_⟩
        have h := c_M_fixed2 (l := l) (D := D) (o := o) (cJ := cJ) (cI := cI) (sz := sz) (K := K) (V := V) (r := r) hft hto hw
        rw [e1, e2] at h
        exact h
      · rw [if_pos h1] at e1 e2
        refine ⟨0, ((M, L, G), K9, V9, (x_join (M, L, G) fr to)), x_fix (x_join (M, L, G) fr to) w, x_fix (x_join (M, L, G) fr to) w, hR, fun _ => rfl, fun l D o cJ cI sz q hq hf => c_L_fixed0 hft hto h1 hq, fun l D o cJ cI sz r => ?_⟩
        have h := c_M_fixed2 (l := l) (D := D) (o := o) (cJ := cJ) (cI := cI) (sz := sz) (K := K) (V := V) (r := r) hft hto hw
        rw [e1, e2] at h
        exact h
    · have e := fixed_ans1 (join_ok hR hft hto) (by omega) hw
      have e1 : (m_fixR K V (to - fr) fr 1000000000000000).1 = (fixP (x_join (M, L, G) fr to) w).1 := by rw [e]
      have e2 : (m_fixR K V (to - fr) fr 1000000000000000).2 = (fixP (x_join (M, L, G) fr to) w).2 := by rw [e]
      unfold fixP at e1 e2
      rcases ck_told (x_fix (x_join (M, L, G) fr to) w) with h1 | h1
      · rw [if_neg (by rw [h1]; decide)] at e1 e2
        refine ⟨2, ((M, L, G), K9, V9, (x_join (M, L, G) fr to)), Z, 0, hR, fun h => absurd h (by decide), fun l D o cJ cI sz q hq hf => c_L_fixed2 hft hto h1 hq hf, fun l D o cJ cI sz r => ?_⟩
        have h := c_M_fixed3 (l := l) (D := D) (o := o) (cJ := cJ) (cI := cI) (sz := sz) (K := K) (V := V) (r := r) hft hto hw
        rw [e1, e2] at h
        exact h
      · rw [if_pos h1] at e1 e2
        refine ⟨0, ((M, L, G), K9, V9, (x_join (M, L, G) fr to)), x_fix (x_join (M, L, G) fr to) w, x_fix (x_join (M, L, G) fr to) w, hR, fun _ => rfl, fun l D o cJ cI sz q hq hf => c_L_fixed0 hft hto h1 hq, fun l D o cJ cI sz r => ?_⟩
        have h := c_M_fixed3 (l := l) (D := D) (o := o) (cJ := cJ) (cI := cI) (sz := sz) (K := K) (V := V) (r := r) hft hto hw
        rw [e1, e2] at h
        exact h
theorem op_about {u : FR} {K : Nat → Int32} {V : Nat → Int64} (hR : Rel u K V) (Z : Int64) (f t0 w : Int32) : ∃ (rv : Int32) (u' : FR) (Z' : Int64) (b9 : Int32), Rel u' K V ∧ (rv = 0 → Z' = b9.toInt64) ∧
    (∀ (l : Launch) (D : va_G) (o : Nat → Nat) (cJ cI : ClassId) (sz q : Nat), (∀ i, i < 6 → q ≠ o i) → l.flags = flags0 → Met l y_L_about ws_L_about rm_L_about (va_Pc [.ref (o 0), .int f, .int t0, .int w, .ref q] (fun U => (pFu D o cJ cI sz u U ∧ xz U) ∧ oP D cJ q Z U.heap)) (va_Qi (fun (r9 : Int32) (_ : Unit) => r9 = rv) (fun _ U => bFu D o cJ cI (aO o q sz) u' U ∧ oP D cJ q Z' U.heap) (aO o q sz)) 1 6 (aO o q sz)) ∧
    (∀ (l : Launch) (D : va_G) (o : Nat → Nat) (cJ cI : ClassId) (sz : Nat) (r : Int32), Met l y_M_about ws_M_about rm_M_about (va_Pc [.ref (o 0), .int f, .int t0, .int w] (pM D o cJ cI sz r K V)) (va_Qi (fun (r9 : Int32) (_ : Unit) => r9 = b9) (fun _ => bM D o cJ cI (aM o sz) rv K V) (aM o sz)) 0 0 (aM o sz)) := by
  obtain ⟨⟨M, L, G⟩, K9, V9, a, b, t⟩ := u
  rcases ck_bh w with ⟨h1, h2⟩ | ⟨h1, h2, h3⟩
  · exact ⟨1, ((M, L, G), K9, V9, (a, b, t)), Z, 0, hR, fun h => absurd h (by decide), fun l D o cJ cI sz q hq hf => c_L_about1 h1 hq hf, fun l D o cJ cI sz r => c_M_about1 h2⟩
  · rcases ck_pt f t0 with g1 | ⟨fr, to, hft, hto, rfl, rfl⟩
    · exact ⟨2, ((M, L, G), K9, V9, (a, b, t)), Z, 0, hR, fun h => absurd h (by decide), fun l D o cJ cI sz q hq hf => c_L_about2 h1 g1 hq hf, fun l D o cJ cI sz r => c_M_about2 h2 g1⟩
    · rcases h3 with rfl | rfl | rfl
      · exact ⟨0, ((M, L, G), K9, V9, (x_join (M, L, G) fr to)), (if (x_join (M, L, G) fr to).2.1 = (x_join (M, L, G) fr to).2.2 then 1 else 0 : Int32).toInt64, if m_made K V (to - fr) fr (-1000000000000000) = m_made K V (to - fr) fr 1000000000000000 then 1 else 0, hR, fun _ => congrArg Int32.toInt64 ((about_ans0 (join_ok hR hft hto) (by omega)).symm), fun l D o cJ cI sz q hq _ => c_L_about0_0 hft hto hq, fun l D o cJ cI sz r => c_M_about3_0 hft hto⟩
      · exact ⟨0, ((M, L, G), K9, V9, (x_join (M, L, G) fr to)), (nI (x_cnt K9 fr (to - fr)) : Int32).toInt64, nI (x_cnt K fr (to - fr)), hR, fun _ => congrArg Int32.toInt64 (congrArg nI (cnt_eq (fun k hk => (hR.1 k hk).1) (to - fr) (by omega))), fun l D o cJ cI sz q hq _ => c_L_about0_1 hft hto hq, fun l D o cJ cI sz r => c_M_about3_1 hft hto⟩
      · exact ⟨0, ((M, L, G), K9, V9, (x_join (M, L, G) fr to)), (if (x_join (M, L, G) fr to).1 = 0 ∧ (x_join (M, L, G) fr to).2.1 = nN ∧ (x_join (M, L, G) fr to).2.2 = nP then 1 else 0 : Int32).toInt64, if m_made K V (to - fr) fr (-1000000000000000) = -1000000000000000 ∧ m_made K V (to - fr) fr 1000000000000000 = 1000000000000000 then 1 else 0, hR, fun _ => congrArg Int32.toInt64 ((about_ans2 (join_ok hR hft hto) (by omega)).symm), fun l D o cJ cI sz q hq _ => c_L_about0_2 hft hto hq, fun l D o cJ cI sz r => c_M_about3_2 hft hto⟩
end
section
/-! the law's own instructions (printed by gen/gen_law.py) -/
theorem d_L_law_0 : decode code 0 = .ok (.new 8, 3) := by decide +kernel
theorem d_L_law_3 : decode code 3 = .ok (.dup, 1) := by decide +kernel
theorem d_L_law_4 : decode code 4 = .ok (.invokespecial 50, 3) := by decide +kernel
theorem d_L_law_7 : decode code 7 = .ok (.astore_n 1, 1) := by decide +kernel
theorem d_L_law_8 : decode code 8 = .ok (.new 51, 3) := by decide +kernel
theorem d_L_law_11 : decode code 11 = .ok (.dup, 1) := by decide +kernel
theorem d_L_law_12 : decode code 12 = .ok (.invokespecial 53, 3) := by decide +kernel
theorem d_L_law_15 : decode code 15 = .ok (.astore_n 2, 1) := by decide +kernel
theorem d_L_law_16 : decode code 16 = .ok (.iconst 1, 1) := by decide +kernel
theorem d_L_law_17 : decode code 17 = .ok (.newarray .long, 2) := by decide +kernel
theorem d_L_law_19 : decode code 19 = .ok (.astore_n 3, 1) := by decide +kernel
theorem d_L_law_20 : decode code 20 = .ok (.iconst 0, 1) := by decide +kernel
theorem d_L_law_21 : decode code 21 = .ok (.istore 4, 2) := by decide +kernel
theorem d_L_law_23 : decode code 23 = .ok (.iload 4, 2) := by decide +kernel
theorem d_L_law_25 : decode code 25 = .ok (.aload_n 0, 1) := by decide +kernel
theorem d_L_law_26 : decode code 26 = .ok (.arraylength, 1) := by decide +kernel
theorem d_L_law_27 : decode code 27 = .ok (.bipush 6, 2) := by decide +kernel
theorem d_L_law_29 : decode code 29 = .ok (.isub, 1) := by decide +kernel
theorem d_L_law_30 : decode code 30 = .ok (.if_icmp .gt 855, 3) := by decide +kernel
theorem d_L_law_33 : decode code 33 = .ok (.aload_n 0, 1) := by decide +kernel
theorem d_L_law_34 : decode code 34 = .ok (.iload 4, 2) := by decide +kernel
theorem d_L_law_36 : decode code 36 = .ok (.iaload, 1) := by decide +kernel
theorem d_L_law_37 : decode code 37 = .ok (.bipush 15, 2) := by decide +kernel
theorem d_L_law_39 : decode code 39 = .ok (.iand, 1) := by decide +kernel
theorem d_L_law_40 : decode code 40 = .ok (.tableswitch 839 0 8 #[52, 144, 248, 296, 407, 530, 597, 664, 759], 52) := by decide +kernel
theorem d_L_law_92 : decode code 92 = .ok (.aload_n 1, 1) := by decide +kernel
theorem d_L_law_93 : decode code 93 = .ok (.aload_n 0, 1) := by decide +kernel
theorem d_L_law_94 : decode code 94 = .ok (.iload 4, 2) := by decide +kernel
theorem d_L_law_96 : decode code 96 = .ok (.iconst 1, 1) := by decide +kernel
theorem d_L_law_97 : decode code 97 = .ok (.iadd, 1) := by decide +kernel
theorem d_L_law_98 : decode code 98 = .ok (.iaload, 1) := by decide +kernel
theorem d_L_law_99 : decode code 99 = .ok (.aload_n 0, 1) := by decide +kernel
theorem d_L_law_100 : decode code 100 = .ok (.iload 4, 2) := by decide +kernel
theorem d_L_law_102 : decode code 102 = .ok (.iconst 2, 1) := by decide +kernel
theorem d_L_law_103 : decode code 103 = .ok (.iadd, 1) := by decide +kernel
theorem d_L_law_104 : decode code 104 = .ok (.iaload, 1) := by decide +kernel
theorem d_L_law_105 : decode code 105 = .ok (.aload_n 0, 1) := by decide +kernel
theorem d_L_law_106 : decode code 106 = .ok (.iload 4, 2) := by decide +kernel
theorem d_L_law_108 : decode code 108 = .ok (.iconst 3, 1) := by decide +kernel
theorem d_L_law_109 : decode code 109 = .ok (.iadd, 1) := by decide +kernel
theorem d_L_law_110 : decode code 110 = .ok (.iaload, 1) := by decide +kernel
theorem d_L_law_111 : decode code 111 = .ok (.i2l, 1) := by decide +kernel
theorem d_L_law_112 : decode code 112 = .ok (.bipush 32, 2) := by decide +kernel
theorem d_L_law_114 : decode code 114 = .ok (.lshl, 1) := by decide +kernel
theorem d_L_law_115 : decode code 115 = .ok (.aload_n 0, 1) := by decide +kernel
theorem d_L_law_116 : decode code 116 = .ok (.iload 4, 2) := by decide +kernel
theorem d_L_law_118 : decode code 118 = .ok (.iconst 4, 1) := by decide +kernel
theorem d_L_law_119 : decode code 119 = .ok (.iadd, 1) := by decide +kernel
theorem d_L_law_120 : decode code 120 = .ok (.iaload, 1) := by decide +kernel
theorem d_L_law_121 : decode code 121 = .ok (.i2l, 1) := by decide +kernel
theorem d_L_law_122 : decode code 122 = .ok (.ldc2_w 54, 3) := by decide +kernel
theorem d_L_law_125 : decode code 125 = .ok (.land, 1) := by decide +kernel
theorem d_L_law_126 : decode code 126 = .ok (.lor, 1) := by decide +kernel
theorem d_L_law_127 : decode code 127 = .ok (.invokestatic 56, 3) := by decide +kernel
theorem d_L_law_130 : decode code 130 = .ok (.istore 5, 2) := by decide +kernel
theorem d_L_law_132 : decode code 132 = .ok (.aload_n 2, 1) := by decide +kernel
theorem d_L_law_133 : decode code 133 = .ok (.aload_n 0, 1) := by decide +kernel
theorem d_L_law_134 : decode code 134 = .ok (.iload 4, 2) := by decide +kernel
theorem d_L_law_136 : decode code 136 = .ok (.iconst 1, 1) := by decide +kernel
theorem d_L_law_137 : decode code 137 = .ok (.iadd, 1) := by decide +kernel
theorem d_L_law_138 : decode code 138 = .ok (.iaload, 1) := by decide +kernel
theorem d_L_law_139 : decode code 139 = .ok (.aload_n 0, 1) := by decide +kernel
theorem d_L_law_140 : decode code 140 = .ok (.iload 4, 2) := by decide +kernel
theorem d_L_law_142 : decode code 142 = .ok (.iconst 2, 1) := by decide +kernel
theorem d_L_law_143 : decode code 143 = .ok (.iadd, 1) := by decide +kernel
theorem d_L_law_144 : decode code 144 = .ok (.iaload, 1) := by decide +kernel
theorem d_L_law_145 : decode code 145 = .ok (.aload_n 0, 1) := by decide +kernel
theorem d_L_law_146 : decode code 146 = .ok (.iload 4, 2) := by decide +kernel
theorem d_L_law_148 : decode code 148 = .ok (.iconst 3, 1) := by decide +kernel
theorem d_L_law_149 : decode code 149 = .ok (.iadd, 1) := by decide +kernel
theorem d_L_law_150 : decode code 150 = .ok (.iaload, 1) := by decide +kernel
theorem d_L_law_151 : decode code 151 = .ok (.i2l, 1) := by decide +kernel
theorem d_L_law_152 : decode code 152 = .ok (.bipush 32, 2) := by decide +kernel
theorem d_L_law_154 : decode code 154 = .ok (.lshl, 1) := by decide +kernel
theorem d_L_law_155 : decode code 155 = .ok (.aload_n 0, 1) := by decide +kernel
theorem d_L_law_156 : decode code 156 = .ok (.iload 4, 2) := by decide +kernel
theorem d_L_law_158 : decode code 158 = .ok (.iconst 4, 1) := by decide +kernel
theorem d_L_law_159 : decode code 159 = .ok (.iadd, 1) := by decide +kernel
theorem d_L_law_160 : decode code 160 = .ok (.iaload, 1) := by decide +kernel
theorem d_L_law_161 : decode code 161 = .ok (.i2l, 1) := by decide +kernel
theorem d_L_law_162 : decode code 162 = .ok (.ldc2_w 54, 3) := by decide +kernel
theorem d_L_law_165 : decode code 165 = .ok (.land, 1) := by decide +kernel
theorem d_L_law_166 : decode code 166 = .ok (.lor, 1) := by decide +kernel
theorem d_L_law_167 : decode code 167 = .ok (.invokevirtual 61, 3) := by decide +kernel
theorem d_L_law_170 : decode code 170 = .ok (.aload_n 2, 1) := by decide +kernel
theorem d_L_law_171 : decode code 171 = .ok (.invokevirtual 62, 3) := by decide +kernel
theorem d_L_law_174 : decode code 174 = .ok (.iload 5, 2) := by decide +kernel
theorem d_L_law_176 : decode code 176 = .ok (.if_icmp .eq 5, 3) := by decide +kernel
theorem d_L_law_179 : decode code 179 = .ok (.iconst 0, 1) := by decide +kernel
theorem d_L_law_180 : decode code 180 = .ok (.ireturn, 1) := by decide +kernel
theorem d_L_law_181 : decode code 181 = .ok (.goto 698, 3) := by decide +kernel
theorem d_L_law_184 : decode code 184 = .ok (.aload_n 1, 1) := by decide +kernel
theorem d_L_law_185 : decode code 185 = .ok (.aload_n 0, 1) := by decide +kernel
theorem d_L_law_186 : decode code 186 = .ok (.iload 4, 2) := by decide +kernel
theorem d_L_law_188 : decode code 188 = .ok (.iconst 1, 1) := by decide +kernel
theorem d_L_law_189 : decode code 189 = .ok (.iadd, 1) := by decide +kernel
theorem d_L_law_190 : decode code 190 = .ok (.iaload, 1) := by decide +kernel
theorem d_L_law_191 : decode code 191 = .ok (.aload_n 0, 1) := by decide +kernel
theorem d_L_law_192 : decode code 192 = .ok (.iload 4, 2) := by decide +kernel
theorem d_L_law_194 : decode code 194 = .ok (.iconst 2, 1) := by decide +kernel
theorem d_L_law_195 : decode code 195 = .ok (.iadd, 1) := by decide +kernel
theorem d_L_law_196 : decode code 196 = .ok (.iaload, 1) := by decide +kernel
theorem d_L_law_197 : decode code 197 = .ok (.aload_n 0, 1) := by decide +kernel
theorem d_L_law_198 : decode code 198 = .ok (.iload 4, 2) := by decide +kernel
theorem d_L_law_200 : decode code 200 = .ok (.iconst 3, 1) := by decide +kernel
theorem d_L_law_201 : decode code 201 = .ok (.iadd, 1) := by decide +kernel
theorem d_L_law_202 : decode code 202 = .ok (.iaload, 1) := by decide +kernel
theorem d_L_law_203 : decode code 203 = .ok (.aload_n 0, 1) := by decide +kernel
theorem d_L_law_204 : decode code 204 = .ok (.iload 4, 2) := by decide +kernel
theorem d_L_law_206 : decode code 206 = .ok (.iconst 4, 1) := by decide +kernel
theorem d_L_law_207 : decode code 207 = .ok (.iadd, 1) := by decide +kernel
theorem d_L_law_208 : decode code 208 = .ok (.iaload, 1) := by decide +kernel
theorem d_L_law_209 : decode code 209 = .ok (.i2l, 1) := by decide +kernel
theorem d_L_law_210 : decode code 210 = .ok (.bipush 32, 2) := by decide +kernel
theorem d_L_law_212 : decode code 212 = .ok (.lshl, 1) := by decide +kernel
theorem d_L_law_213 : decode code 213 = .ok (.aload_n 0, 1) := by decide +kernel
theorem d_L_law_214 : decode code 214 = .ok (.iload 4, 2) := by decide +kernel
theorem d_L_law_216 : decode code 216 = .ok (.iconst 5, 1) := by decide +kernel
theorem d_L_law_217 : decode code 217 = .ok (.iadd, 1) := by decide +kernel
theorem d_L_law_218 : decode code 218 = .ok (.iaload, 1) := by decide +kernel
theorem d_L_law_219 : decode code 219 = .ok (.i2l, 1) := by decide +kernel
theorem d_L_law_220 : decode code 220 = .ok (.ldc2_w 54, 3) := by decide +kernel
theorem d_L_law_223 : decode code 223 = .ok (.land, 1) := by decide +kernel
theorem d_L_law_224 : decode code 224 = .ok (.lor, 1) := by decide +kernel
theorem d_L_law_225 : decode code 225 = .ok (.invokestatic 66, 3) := by decide +kernel
theorem d_L_law_228 : decode code 228 = .ok (.istore 5, 2) := by decide +kernel
theorem d_L_law_230 : decode code 230 = .ok (.aload_n 2, 1) := by decide +kernel
theorem d_L_law_231 : decode code 231 = .ok (.aload_n 0, 1) := by decide +kernel
theorem d_L_law_232 : decode code 232 = .ok (.iload 4, 2) := by decide +kernel
theorem d_L_law_234 : decode code 234 = .ok (.iconst 1, 1) := by decide +kernel
theorem d_L_law_235 : decode code 235 = .ok (.iadd, 1) := by decide +kernel
theorem d_L_law_236 : decode code 236 = .ok (.iaload, 1) := by decide +kernel
theorem d_L_law_237 : decode code 237 = .ok (.aload_n 0, 1) := by decide +kernel
theorem d_L_law_238 : decode code 238 = .ok (.iload 4, 2) := by decide +kernel
theorem d_L_law_240 : decode code 240 = .ok (.iconst 2, 1) := by decide +kernel
theorem d_L_law_241 : decode code 241 = .ok (.iadd, 1) := by decide +kernel
theorem d_L_law_242 : decode code 242 = .ok (.iaload, 1) := by decide +kernel
theorem d_L_law_243 : decode code 243 = .ok (.aload_n 0, 1) := by decide +kernel
theorem d_L_law_244 : decode code 244 = .ok (.iload 4, 2) := by decide +kernel
theorem d_L_law_246 : decode code 246 = .ok (.iconst 3, 1) := by decide +kernel
theorem d_L_law_247 : decode code 247 = .ok (.iadd, 1) := by decide +kernel
theorem d_L_law_248 : decode code 248 = .ok (.iaload, 1) := by decide +kernel
theorem d_L_law_249 : decode code 249 = .ok (.aload_n 0, 1) := by decide +kernel
theorem d_L_law_250 : decode code 250 = .ok (.iload 4, 2) := by decide +kernel
theorem d_L_law_252 : decode code 252 = .ok (.iconst 4, 1) := by decide +kernel
theorem d_L_law_253 : decode code 253 = .ok (.iadd, 1) := by decide +kernel
theorem d_L_law_254 : decode code 254 = .ok (.iaload, 1) := by decide +kernel
theorem d_L_law_255 : decode code 255 = .ok (.i2l, 1) := by decide +kernel
theorem d_L_law_256 : decode code 256 = .ok (.bipush 32, 2) := by decide +kernel
theorem d_L_law_258 : decode code 258 = .ok (.lshl, 1) := by decide +kernel
theorem d_L_law_259 : decode code 259 = .ok (.aload_n 0, 1) := by decide +kernel
theorem d_L_law_260 : decode code 260 = .ok (.iload 4, 2) := by decide +kernel
theorem d_L_law_262 : decode code 262 = .ok (.iconst 5, 1) := by decide +kernel
theorem d_L_law_263 : decode code 263 = .ok (.iadd, 1) := by decide +kernel
theorem d_L_law_264 : decode code 264 = .ok (.iaload, 1) := by decide +kernel
theorem d_L_law_265 : decode code 265 = .ok (.i2l, 1) := by decide +kernel
theorem d_L_law_266 : decode code 266 = .ok (.ldc2_w 54, 3) := by decide +kernel
theorem d_L_law_269 : decode code 269 = .ok (.land, 1) := by decide +kernel
theorem d_L_law_270 : decode code 270 = .ok (.lor, 1) := by decide +kernel
theorem d_L_law_271 : decode code 271 = .ok (.invokevirtual 69, 3) := by decide +kernel
theorem d_L_law_274 : decode code 274 = .ok (.aload_n 2, 1) := by decide +kernel
theorem d_L_law_275 : decode code 275 = .ok (.invokevirtual 62, 3) := by decide +kernel
theorem d_L_law_278 : decode code 278 = .ok (.iload 5, 2) := by decide +kernel
theorem d_L_law_280 : decode code 280 = .ok (.if_icmp .eq 5, 3) := by decide +kernel
theorem d_L_law_283 : decode code 283 = .ok (.iconst 0, 1) := by decide +kernel
theorem d_L_law_284 : decode code 284 = .ok (.ireturn, 1) := by decide +kernel
theorem d_L_law_285 : decode code 285 = .ok (.goto 594, 3) := by decide +kernel
theorem d_L_law_288 : decode code 288 = .ok (.aload_n 1, 1) := by decide +kernel
theorem d_L_law_289 : decode code 289 = .ok (.aload_n 0, 1) := by decide +kernel
theorem d_L_law_290 : decode code 290 = .ok (.iload 4, 2) := by decide +kernel
theorem d_L_law_292 : decode code 292 = .ok (.iconst 1, 1) := by decide +kernel
theorem d_L_law_293 : decode code 293 = .ok (.iadd, 1) := by decide +kernel
theorem d_L_law_294 : decode code 294 = .ok (.iaload, 1) := by decide +kernel
theorem d_L_law_295 : decode code 295 = .ok (.aload_n 0, 1) := by decide +kernel
theorem d_L_law_296 : decode code 296 = .ok (.iload 4, 2) := by decide +kernel
theorem d_L_law_298 : decode code 298 = .ok (.iconst 2, 1) := by decide +kernel
theorem d_L_law_299 : decode code 299 = .ok (.iadd, 1) := by decide +kernel
theorem d_L_law_300 : decode code 300 = .ok (.iaload, 1) := by decide +kernel
theorem d_L_law_301 : decode code 301 = .ok (.invokestatic 70, 3) := by decide +kernel
theorem d_L_law_304 : decode code 304 = .ok (.istore 5, 2) := by decide +kernel
theorem d_L_law_306 : decode code 306 = .ok (.aload_n 2, 1) := by decide +kernel
theorem d_L_law_307 : decode code 307 = .ok (.aload_n 0, 1) := by decide +kernel
theorem d_L_law_308 : decode code 308 = .ok (.iload 4, 2) := by decide +kernel
theorem d_L_law_310 : decode code 310 = .ok (.iconst 1, 1) := by decide +kernel
theorem d_L_law_311 : decode code 311 = .ok (.iadd, 1) := by decide +kernel
theorem d_L_law_312 : decode code 312 = .ok (.iaload, 1) := by decide +kernel
theorem d_L_law_313 : decode code 313 = .ok (.aload_n 0, 1) := by decide +kernel
theorem d_L_law_314 : decode code 314 = .ok (.iload 4, 2) := by decide +kernel
theorem d_L_law_316 : decode code 316 = .ok (.iconst 2, 1) := by decide +kernel
theorem d_L_law_317 : decode code 317 = .ok (.iadd, 1) := by decide +kernel
theorem d_L_law_318 : decode code 318 = .ok (.iaload, 1) := by decide +kernel
theorem d_L_law_319 : decode code 319 = .ok (.invokevirtual 73, 3) := by decide +kernel
theorem d_L_law_322 : decode code 322 = .ok (.aload_n 2, 1) := by decide +kernel
theorem d_L_law_323 : decode code 323 = .ok (.invokevirtual 62, 3) := by decide +kernel
theorem d_L_law_326 : decode code 326 = .ok (.iload 5, 2) := by decide +kernel
theorem d_L_law_328 : decode code 328 = .ok (.if_icmp .eq 5, 3) := by decide +kernel
theorem d_L_law_331 : decode code 331 = .ok (.iconst 0, 1) := by decide +kernel
theorem d_L_law_332 : decode code 332 = .ok (.ireturn, 1) := by decide +kernel
theorem d_L_law_333 : decode code 333 = .ok (.goto 546, 3) := by decide +kernel
theorem d_L_law_336 : decode code 336 = .ok (.aload_n 1, 1) := by decide +kernel
theorem d_L_law_337 : decode code 337 = .ok (.aload_n 0, 1) := by decide +kernel
theorem d_L_law_338 : decode code 338 = .ok (.iload 4, 2) := by decide +kernel
theorem d_L_law_340 : decode code 340 = .ok (.iconst 1, 1) := by decide +kernel
theorem d_L_law_341 : decode code 341 = .ok (.iadd, 1) := by decide +kernel
theorem d_L_law_342 : decode code 342 = .ok (.iaload, 1) := by decide +kernel
theorem d_L_law_343 : decode code 343 = .ok (.aload_n 0, 1) := by decide +kernel
theorem d_L_law_344 : decode code 344 = .ok (.iload 4, 2) := by decide +kernel
theorem d_L_law_346 : decode code 346 = .ok (.iconst 2, 1) := by decide +kernel
theorem d_L_law_347 : decode code 347 = .ok (.iadd, 1) := by decide +kernel
theorem d_L_law_348 : decode code 348 = .ok (.iaload, 1) := by decide +kernel
theorem d_L_law_349 : decode code 349 = .ok (.aload_n 0, 1) := by decide +kernel
theorem d_L_law_350 : decode code 350 = .ok (.iload 4, 2) := by decide +kernel
theorem d_L_law_352 : decode code 352 = .ok (.iconst 3, 1) := by decide +kernel
theorem d_L_law_353 : decode code 353 = .ok (.iadd, 1) := by decide +kernel
theorem d_L_law_354 : decode code 354 = .ok (.iaload, 1) := by decide +kernel
theorem d_L_law_355 : decode code 355 = .ok (.i2l, 1) := by decide +kernel
theorem d_L_law_356 : decode code 356 = .ok (.bipush 32, 2) := by decide +kernel
theorem d_L_law_358 : decode code 358 = .ok (.lshl, 1) := by decide +kernel
theorem d_L_law_359 : decode code 359 = .ok (.aload_n 0, 1) := by decide +kernel
theorem d_L_law_360 : decode code 360 = .ok (.iload 4, 2) := by decide +kernel
theorem d_L_law_362 : decode code 362 = .ok (.iconst 4, 1) := by decide +kernel
theorem d_L_law_363 : decode code 363 = .ok (.iadd, 1) := by decide +kernel
theorem d_L_law_364 : decode code 364 = .ok (.iaload, 1) := by decide +kernel
theorem d_L_law_365 : decode code 365 = .ok (.i2l, 1) := by decide +kernel
theorem d_L_law_366 : decode code 366 = .ok (.ldc2_w 54, 3) := by decide +kernel
theorem d_L_law_369 : decode code 369 = .ok (.land, 1) := by decide +kernel
theorem d_L_law_370 : decode code 370 = .ok (.lor, 1) := by decide +kernel
theorem d_L_law_371 : decode code 371 = .ok (.aload_n 3, 1) := by decide +kernel
theorem d_L_law_372 : decode code 372 = .ok (.invokestatic 74, 3) := by decide +kernel
theorem d_L_law_375 : decode code 375 = .ok (.istore 5, 2) := by decide +kernel
theorem d_L_law_377 : decode code 377 = .ok (.aload_n 2, 1) := by decide +kernel
theorem d_L_law_378 : decode code 378 = .ok (.aload_n 0, 1) := by decide +kernel
theorem d_L_law_379 : decode code 379 = .ok (.iload 4, 2) := by decide +kernel
theorem d_L_law_381 : decode code 381 = .ok (.iconst 1, 1) := by decide +kernel
theorem d_L_law_382 : decode code 382 = .ok (.iadd, 1) := by decide +kernel
theorem d_L_law_383 : decode code 383 = .ok (.iaload, 1) := by decide +kernel
theorem d_L_law_384 : decode code 384 = .ok (.aload_n 0, 1) := by decide +kernel
theorem d_L_law_385 : decode code 385 = .ok (.iload 4, 2) := by decide +kernel
theorem d_L_law_387 : decode code 387 = .ok (.iconst 2, 1) := by decide +kernel
theorem d_L_law_388 : decode code 388 = .ok (.iadd, 1) := by decide +kernel
theorem d_L_law_389 : decode code 389 = .ok (.iaload, 1) := by decide +kernel
theorem d_L_law_390 : decode code 390 = .ok (.aload_n 0, 1) := by decide +kernel
theorem d_L_law_391 : decode code 391 = .ok (.iload 4, 2) := by decide +kernel
theorem d_L_law_393 : decode code 393 = .ok (.iconst 3, 1) := by decide +kernel
theorem d_L_law_394 : decode code 394 = .ok (.iadd, 1) := by decide +kernel
theorem d_L_law_395 : decode code 395 = .ok (.iaload, 1) := by decide +kernel
theorem d_L_law_396 : decode code 396 = .ok (.i2l, 1) := by decide +kernel
theorem d_L_law_397 : decode code 397 = .ok (.bipush 32, 2) := by decide +kernel
theorem d_L_law_399 : decode code 399 = .ok (.lshl, 1) := by decide +kernel
theorem d_L_law_400 : decode code 400 = .ok (.aload_n 0, 1) := by decide +kernel
theorem d_L_law_401 : decode code 401 = .ok (.iload 4, 2) := by decide +kernel
theorem d_L_law_403 : decode code 403 = .ok (.iconst 4, 1) := by decide +kernel
theorem d_L_law_404 : decode code 404 = .ok (.iadd, 1) := by decide +kernel
theorem d_L_law_405 : decode code 405 = .ok (.iaload, 1) := by decide +kernel
theorem d_L_law_406 : decode code 406 = .ok (.i2l, 1) := by decide +kernel
theorem d_L_law_407 : decode code 407 = .ok (.ldc2_w 54, 3) := by decide +kernel
theorem d_L_law_410 : decode code 410 = .ok (.land, 1) := by decide +kernel
theorem d_L_law_411 : decode code 411 = .ok (.lor, 1) := by decide +kernel
theorem d_L_law_412 : decode code 412 = .ok (.invokevirtual 77, 3) := by decide +kernel
theorem d_L_law_415 : decode code 415 = .ok (.lstore 6, 2) := by decide +kernel
theorem d_L_law_417 : decode code 417 = .ok (.aload_n 2, 1) := by decide +kernel
theorem d_L_law_418 : decode code 418 = .ok (.invokevirtual 62, 3) := by decide +kernel
theorem d_L_law_421 : decode code 421 = .ok (.iload 5, 2) := by decide +kernel
theorem d_L_law_423 : decode code 423 = .ok (.if_icmp .eq 5, 3) := by decide +kernel
theorem d_L_law_426 : decode code 426 = .ok (.iconst 0, 1) := by decide +kernel
theorem d_L_law_427 : decode code 427 = .ok (.ireturn, 1) := by decide +kernel
theorem d_L_law_428 : decode code 428 = .ok (.iload 5, 2) := by decide +kernel
theorem d_L_law_430 : decode code 430 = .ok (.ifCond .ne 14, 3) := by decide +kernel
theorem d_L_law_433 : decode code 433 = .ok (.aload_n 3, 1) := by decide +kernel
theorem d_L_law_434 : decode code 434 = .ok (.iconst 0, 1) := by decide +kernel
theorem d_L_law_435 : decode code 435 = .ok (.laload, 1) := by decide +kernel
theorem d_L_law_436 : decode code 436 = .ok (.lload 6, 2) := by decide +kernel
theorem d_L_law_438 : decode code 438 = .ok (.lcmp, 1) := by decide +kernel
theorem d_L_law_439 : decode code 439 = .ok (.ifCond .eq 5, 3) := by decide +kernel
theorem d_L_law_442 : decode code 442 = .ok (.iconst 0, 1) := by decide +kernel
theorem d_L_law_443 : decode code 443 = .ok (.ireturn, 1) := by decide +kernel
theorem d_L_law_444 : decode code 444 = .ok (.goto 435, 3) := by decide +kernel
theorem d_L_law_447 : decode code 447 = .ok (.aload_n 1, 1) := by decide +kernel
theorem d_L_law_448 : decode code 448 = .ok (.aload_n 0, 1) := by decide +kernel
theorem d_L_law_449 : decode code 449 = .ok (.iload 4, 2) := by decide +kernel
theorem d_L_law_451 : decode code 451 = .ok (.iconst 1, 1) := by decide +kernel
theorem d_L_law_452 : decode code 452 = .ok (.iadd, 1) := by decide +kernel
theorem d_L_law_453 : decode code 453 = .ok (.iaload, 1) := by decide +kernel
theorem d_L_law_454 : decode code 454 = .ok (.aload_n 0, 1) := by decide +kernel
theorem d_L_law_455 : decode code 455 = .ok (.iload 4, 2) := by decide +kernel
theorem d_L_law_457 : decode code 457 = .ok (.iconst 2, 1) := by decide +kernel
theorem d_L_law_458 : decode code 458 = .ok (.iadd, 1) := by decide +kernel
theorem d_L_law_459 : decode code 459 = .ok (.iaload, 1) := by decide +kernel
theorem d_L_law_460 : decode code 460 = .ok (.aload_n 0, 1) := by decide +kernel
theorem d_L_law_461 : decode code 461 = .ok (.iload 4, 2) := by decide +kernel
theorem d_L_law_463 : decode code 463 = .ok (.iconst 3, 1) := by decide +kernel
theorem d_L_law_464 : decode code 464 = .ok (.iadd, 1) := by decide +kernel
theorem d_L_law_465 : decode code 465 = .ok (.iaload, 1) := by decide +kernel
theorem d_L_law_466 : decode code 466 = .ok (.i2l, 1) := by decide +kernel
theorem d_L_law_467 : decode code 467 = .ok (.bipush 32, 2) := by decide +kernel
theorem d_L_law_469 : decode code 469 = .ok (.lshl, 1) := by decide +kernel
theorem d_L_law_470 : decode code 470 = .ok (.aload_n 0, 1) := by decide +kernel
theorem d_L_law_471 : decode code 471 = .ok (.iload 4, 2) := by decide +kernel
theorem d_L_law_473 : decode code 473 = .ok (.iconst 4, 1) := by decide +kernel
theorem d_L_law_474 : decode code 474 = .ok (.iadd, 1) := by decide +kernel
theorem d_L_law_475 : decode code 475 = .ok (.iaload, 1) := by decide +kernel
theorem d_L_law_476 : decode code 476 = .ok (.i2l, 1) := by decide +kernel
theorem d_L_law_477 : decode code 477 = .ok (.ldc2_w 54, 3) := by decide +kernel
theorem d_L_law_480 : decode code 480 = .ok (.land, 1) := by decide +kernel
theorem d_L_law_481 : decode code 481 = .ok (.lor, 1) := by decide +kernel
theorem d_L_law_482 : decode code 482 = .ok (.aload_n 0, 1) := by decide +kernel
theorem d_L_law_483 : decode code 483 = .ok (.iload 4, 2) := by decide +kernel
theorem d_L_law_485 : decode code 485 = .ok (.iconst 5, 1) := by decide +kernel
theorem d_L_law_486 : decode code 486 = .ok (.iadd, 1) := by decide +kernel
theorem d_L_law_487 : decode code 487 = .ok (.iaload, 1) := by decide +kernel
theorem d_L_law_488 : decode code 488 = .ok (.aload_n 3, 1) := by decide +kernel
theorem d_L_law_489 : decode code 489 = .ok (.invokestatic 78, 3) := by decide +kernel
theorem d_L_law_492 : decode code 492 = .ok (.istore 5, 2) := by decide +kernel
theorem d_L_law_494 : decode code 494 = .ok (.aload_n 2, 1) := by decide +kernel
theorem d_L_law_495 : decode code 495 = .ok (.aload_n 0, 1) := by decide +kernel
theorem d_L_law_496 : decode code 496 = .ok (.iload 4, 2) := by decide +kernel
theorem d_L_law_498 : decode code 498 = .ok (.iconst 1, 1) := by decide +kernel
theorem d_L_law_499 : decode code 499 = .ok (.iadd, 1) := by decide +kernel
theorem d_L_law_500 : decode code 500 = .ok (.iaload, 1) := by decide +kernel
theorem d_L_law_501 : decode code 501 = .ok (.aload_n 0, 1) := by decide +kernel
theorem d_L_law_502 : decode code 502 = .ok (.iload 4, 2) := by decide +kernel
theorem d_L_law_504 : decode code 504 = .ok (.iconst 2, 1) := by decide +kernel
theorem d_L_law_505 : decode code 505 = .ok (.iadd, 1) := by decide +kernel
theorem d_L_law_506 : decode code 506 = .ok (.iaload, 1) := by decide +kernel
theorem d_L_law_507 : decode code 507 = .ok (.aload_n 0, 1) := by decide +kernel
theorem d_L_law_508 : decode code 508 = .ok (.iload 4, 2) := by decide +kernel
theorem d_L_law_510 : decode code 510 = .ok (.iconst 3, 1) := by decide +kernel
theorem d_L_law_511 : decode code 511 = .ok (.iadd, 1) := by decide +kernel
theorem d_L_law_512 : decode code 512 = .ok (.iaload, 1) := by decide +kernel
theorem d_L_law_513 : decode code 513 = .ok (.i2l, 1) := by decide +kernel
theorem d_L_law_514 : decode code 514 = .ok (.bipush 32, 2) := by decide +kernel
theorem d_L_law_516 : decode code 516 = .ok (.lshl, 1) := by decide +kernel
theorem d_L_law_517 : decode code 517 = .ok (.aload_n 0, 1) := by decide +kernel
theorem d_L_law_518 : decode code 518 = .ok (.iload 4, 2) := by decide +kernel
theorem d_L_law_520 : decode code 520 = .ok (.iconst 4, 1) := by decide +kernel
theorem d_L_law_521 : decode code 521 = .ok (.iadd, 1) := by decide +kernel
theorem d_L_law_522 : decode code 522 = .ok (.iaload, 1) := by decide +kernel
theorem d_L_law_523 : decode code 523 = .ok (.i2l, 1) := by decide +kernel
theorem d_L_law_524 : decode code 524 = .ok (.ldc2_w 54, 3) := by decide +kernel
theorem d_L_law_527 : decode code 527 = .ok (.land, 1) := by decide +kernel
theorem d_L_law_528 : decode code 528 = .ok (.lor, 1) := by decide +kernel
theorem d_L_law_529 : decode code 529 = .ok (.aload_n 0, 1) := by decide +kernel
theorem d_L_law_530 : decode code 530 = .ok (.iload 4, 2) := by decide +kernel
theorem d_L_law_532 : decode code 532 = .ok (.iconst 5, 1) := by decide +kernel
theorem d_L_law_533 : decode code 533 = .ok (.iadd, 1) := by decide +kernel
theorem d_L_law_534 : decode code 534 = .ok (.iaload, 1) := by decide +kernel
theorem d_L_law_535 : decode code 535 = .ok (.invokevirtual 81, 3) := by decide +kernel
theorem d_L_law_538 : decode code 538 = .ok (.lstore 6, 2) := by decide +kernel
theorem d_L_law_540 : decode code 540 = .ok (.aload_n 2, 1) := by decide +kernel
theorem d_L_law_541 : decode code 541 = .ok (.invokevirtual 62, 3) := by decide +kernel
theorem d_L_law_544 : decode code 544 = .ok (.iload 5, 2) := by decide +kernel
theorem d_L_law_546 : decode code 546 = .ok (.if_icmp .eq 5, 3) := by decide +kernel
theorem d_L_law_549 : decode code 549 = .ok (.iconst 0, 1) := by decide +kernel
theorem d_L_law_550 : decode code 550 = .ok (.ireturn, 1) := by decide +kernel
theorem d_L_law_551 : decode code 551 = .ok (.iload 5, 2) := by decide +kernel
theorem d_L_law_553 : decode code 553 = .ok (.ifCond .ne 14, 3) := by decide +kernel
theorem d_L_law_556 : decode code 556 = .ok (.aload_n 3, 1) := by decide +kernel
theorem d_L_law_557 : decode code 557 = .ok (.iconst 0, 1) := by decide +kernel
theorem d_L_law_558 : decode code 558 = .ok (.laload, 1) := by decide +kernel
theorem d_L_law_559 : decode code 559 = .ok (.lload 6, 2) := by decide +kernel
theorem d_L_law_561 : decode code 561 = .ok (.lcmp, 1) := by decide +kernel
theorem d_L_law_562 : decode code 562 = .ok (.ifCond .eq 5, 3) := by decide +kernel
theorem d_L_law_565 : decode code 565 = .ok (.iconst 0, 1) := by decide +kernel
theorem d_L_law_566 : decode code 566 = .ok (.ireturn, 1) := by decide +kernel
theorem d_L_law_567 : decode code 567 = .ok (.goto 312, 3) := by decide +kernel
theorem d_L_law_570 : decode code 570 = .ok (.aload_n 1, 1) := by decide +kernel
theorem d_L_law_571 : decode code 571 = .ok (.aload_n 0, 1) := by decide +kernel
theorem d_L_law_572 : decode code 572 = .ok (.iload 4, 2) := by decide +kernel
theorem d_L_law_574 : decode code 574 = .ok (.iconst 1, 1) := by decide +kernel
theorem d_L_law_575 : decode code 575 = .ok (.iadd, 1) := by decide +kernel
theorem d_L_law_576 : decode code 576 = .ok (.iaload, 1) := by decide +kernel
theorem d_L_law_577 : decode code 577 = .ok (.aload_n 0, 1) := by decide +kernel
theorem d_L_law_578 : decode code 578 = .ok (.iload 4, 2) := by decide +kernel
theorem d_L_law_580 : decode code 580 = .ok (.iconst 2, 1) := by decide +kernel
theorem d_L_law_581 : decode code 581 = .ok (.iadd, 1) := by decide +kernel
theorem d_L_law_582 : decode code 582 = .ok (.iaload, 1) := by decide +kernel
theorem d_L_law_583 : decode code 583 = .ok (.aload_n 3, 1) := by decide +kernel
theorem d_L_law_584 : decode code 584 = .ok (.invokestatic 82, 3) := by decide +kernel
theorem d_L_law_587 : decode code 587 = .ok (.istore 5, 2) := by decide +kernel
theorem d_L_law_589 : decode code 589 = .ok (.aload_n 2, 1) := by decide +kernel
theorem d_L_law_590 : decode code 590 = .ok (.aload_n 0, 1) := by decide +kernel
theorem d_L_law_591 : decode code 591 = .ok (.iload 4, 2) := by decide +kernel
theorem d_L_law_593 : decode code 593 = .ok (.iconst 1, 1) := by decide +kernel
theorem d_L_law_594 : decode code 594 = .ok (.iadd, 1) := by decide +kernel
theorem d_L_law_595 : decode code 595 = .ok (.iaload, 1) := by decide +kernel
theorem d_L_law_596 : decode code 596 = .ok (.aload_n 0, 1) := by decide +kernel
theorem d_L_law_597 : decode code 597 = .ok (.iload 4, 2) := by decide +kernel
theorem d_L_law_599 : decode code 599 = .ok (.iconst 2, 1) := by decide +kernel
theorem d_L_law_600 : decode code 600 = .ok (.iadd, 1) := by decide +kernel
theorem d_L_law_601 : decode code 601 = .ok (.iaload, 1) := by decide +kernel
theorem d_L_law_602 : decode code 602 = .ok (.invokevirtual 85, 3) := by decide +kernel
theorem d_L_law_605 : decode code 605 = .ok (.lstore 6, 2) := by decide +kernel
theorem d_L_law_607 : decode code 607 = .ok (.aload_n 2, 1) := by decide +kernel
theorem d_L_law_608 : decode code 608 = .ok (.invokevirtual 62, 3) := by decide +kernel
theorem d_L_law_611 : decode code 611 = .ok (.iload 5, 2) := by decide +kernel
theorem d_L_law_613 : decode code 613 = .ok (.if_icmp .eq 5, 3) := by decide +kernel
theorem d_L_law_616 : decode code 616 = .ok (.iconst 0, 1) := by decide +kernel
theorem d_L_law_617 : decode code 617 = .ok (.ireturn, 1) := by decide +kernel
theorem d_L_law_618 : decode code 618 = .ok (.iload 5, 2) := by decide +kernel
theorem d_L_law_620 : decode code 620 = .ok (.ifCond .ne 14, 3) := by decide +kernel
theorem d_L_law_623 : decode code 623 = .ok (.aload_n 3, 1) := by decide +kernel
theorem d_L_law_624 : decode code 624 = .ok (.iconst 0, 1) := by decide +kernel
theorem d_L_law_625 : decode code 625 = .ok (.laload, 1) := by decide +kernel
theorem d_L_law_626 : decode code 626 = .ok (.lload 6, 2) := by decide +kernel
theorem d_L_law_628 : decode code 628 = .ok (.lcmp, 1) := by decide +kernel
theorem d_L_law_629 : decode code 629 = .ok (.ifCond .eq 5, 3) := by decide +kernel
theorem d_L_law_632 : decode code 632 = .ok (.iconst 0, 1) := by decide +kernel
theorem d_L_law_633 : decode code 633 = .ok (.ireturn, 1) := by decide +kernel
theorem d_L_law_634 : decode code 634 = .ok (.goto 245, 3) := by decide +kernel
theorem d_L_law_637 : decode code 637 = .ok (.aload_n 1, 1) := by decide +kernel
theorem d_L_law_638 : decode code 638 = .ok (.aload_n 0, 1) := by decide +kernel
theorem d_L_law_639 : decode code 639 = .ok (.iload 4, 2) := by decide +kernel
theorem d_L_law_641 : decode code 641 = .ok (.iconst 1, 1) := by decide +kernel
theorem d_L_law_642 : decode code 642 = .ok (.iadd, 1) := by decide +kernel
theorem d_L_law_643 : decode code 643 = .ok (.iaload, 1) := by decide +kernel
theorem d_L_law_644 : decode code 644 = .ok (.aload_n 0, 1) := by decide +kernel
theorem d_L_law_645 : decode code 645 = .ok (.iload 4, 2) := by decide +kernel
theorem d_L_law_647 : decode code 647 = .ok (.iconst 2, 1) := by decide +kernel
theorem d_L_law_648 : decode code 648 = .ok (.iadd, 1) := by decide +kernel
theorem d_L_law_649 : decode code 649 = .ok (.iaload, 1) := by decide +kernel
theorem d_L_law_650 : decode code 650 = .ok (.aload_n 3, 1) := by decide +kernel
theorem d_L_law_651 : decode code 651 = .ok (.invokestatic 86, 3) := by decide +kernel
theorem d_L_law_654 : decode code 654 = .ok (.istore 5, 2) := by decide +kernel
theorem d_L_law_656 : decode code 656 = .ok (.aload_n 2, 1) := by decide +kernel
theorem d_L_law_657 : decode code 657 = .ok (.aload_n 0, 1) := by decide +kernel
theorem d_L_law_658 : decode code 658 = .ok (.iload 4, 2) := by decide +kernel
theorem d_L_law_660 : decode code 660 = .ok (.iconst 1, 1) := by decide +kernel
theorem d_L_law_661 : decode code 661 = .ok (.iadd, 1) := by decide +kernel
theorem d_L_law_662 : decode code 662 = .ok (.iaload, 1) := by decide +kernel
theorem d_L_law_663 : decode code 663 = .ok (.aload_n 0, 1) := by decide +kernel
theorem d_L_law_664 : decode code 664 = .ok (.iload 4, 2) := by decide +kernel
theorem d_L_law_666 : decode code 666 = .ok (.iconst 2, 1) := by decide +kernel
theorem d_L_law_667 : decode code 667 = .ok (.iadd, 1) := by decide +kernel
theorem d_L_law_668 : decode code 668 = .ok (.iaload, 1) := by decide +kernel
theorem d_L_law_669 : decode code 669 = .ok (.invokevirtual 88, 3) := by decide +kernel
theorem d_L_law_672 : decode code 672 = .ok (.lstore 6, 2) := by decide +kernel
theorem d_L_law_674 : decode code 674 = .ok (.aload_n 2, 1) := by decide +kernel
theorem d_L_law_675 : decode code 675 = .ok (.invokevirtual 62, 3) := by decide +kernel
theorem d_L_law_678 : decode code 678 = .ok (.iload 5, 2) := by decide +kernel
theorem d_L_law_680 : decode code 680 = .ok (.if_icmp .eq 5, 3) := by decide +kernel
theorem d_L_law_683 : decode code 683 = .ok (.iconst 0, 1) := by decide +kernel
theorem d_L_law_684 : decode code 684 = .ok (.ireturn, 1) := by decide +kernel
theorem d_L_law_685 : decode code 685 = .ok (.iload 5, 2) := by decide +kernel
theorem d_L_law_687 : decode code 687 = .ok (.ifCond .ne 14, 3) := by decide +kernel
theorem d_L_law_690 : decode code 690 = .ok (.aload_n 3, 1) := by decide +kernel
theorem d_L_law_691 : decode code 691 = .ok (.iconst 0, 1) := by decide +kernel
theorem d_L_law_692 : decode code 692 = .ok (.laload, 1) := by decide +kernel
theorem d_L_law_693 : decode code 693 = .ok (.lload 6, 2) := by decide +kernel
theorem d_L_law_695 : decode code 695 = .ok (.lcmp, 1) := by decide +kernel
theorem d_L_law_696 : decode code 696 = .ok (.ifCond .eq 5, 3) := by decide +kernel
theorem d_L_law_699 : decode code 699 = .ok (.iconst 0, 1) := by decide +kernel
theorem d_L_law_700 : decode code 700 = .ok (.ireturn, 1) := by decide +kernel
theorem d_L_law_701 : decode code 701 = .ok (.goto 178, 3) := by decide +kernel
theorem d_L_law_704 : decode code 704 = .ok (.aload_n 1, 1) := by decide +kernel
theorem d_L_law_705 : decode code 705 = .ok (.aload_n 0, 1) := by decide +kernel
theorem d_L_law_706 : decode code 706 = .ok (.iload 4, 2) := by decide +kernel
theorem d_L_law_708 : decode code 708 = .ok (.iconst 1, 1) := by decide +kernel
theorem d_L_law_709 : decode code 709 = .ok (.iadd, 1) := by decide +kernel
theorem d_L_law_710 : decode code 710 = .ok (.iaload, 1) := by decide +kernel
theorem d_L_law_711 : decode code 711 = .ok (.aload_n 0, 1) := by decide +kernel
theorem d_L_law_712 : decode code 712 = .ok (.iload 4, 2) := by decide +kernel
theorem d_L_law_714 : decode code 714 = .ok (.iconst 2, 1) := by decide +kernel
theorem d_L_law_715 : decode code 715 = .ok (.iadd, 1) := by decide +kernel
theorem d_L_law_716 : decode code 716 = .ok (.iaload, 1) := by decide +kernel
theorem d_L_law_717 : decode code 717 = .ok (.aload_n 0, 1) := by decide +kernel
theorem d_L_law_718 : decode code 718 = .ok (.iload 4, 2) := by decide +kernel
theorem d_L_law_720 : decode code 720 = .ok (.iconst 3, 1) := by decide +kernel
theorem d_L_law_721 : decode code 721 = .ok (.iadd, 1) := by decide +kernel
theorem d_L_law_722 : decode code 722 = .ok (.iaload, 1) := by decide +kernel
theorem d_L_law_723 : decode code 723 = .ok (.ifCond .eq 7, 3) := by decide +kernel
theorem d_L_law_726 : decode code 726 = .ok (.iconst 1, 1) := by decide +kernel
theorem d_L_law_727 : decode code 727 = .ok (.goto 4, 3) := by decide +kernel
theorem d_L_law_730 : decode code 730 = .ok (.iconst 0, 1) := by decide +kernel
theorem d_L_law_731 : decode code 731 = .ok (.aload_n 3, 1) := by decide +kernel
theorem d_L_law_732 : decode code 732 = .ok (.invokestatic 89, 3) := by decide +kernel
theorem d_L_law_735 : decode code 735 = .ok (.istore 5, 2) := by decide +kernel
theorem d_L_law_737 : decode code 737 = .ok (.aload_n 2, 1) := by decide +kernel
theorem d_L_law_738 : decode code 738 = .ok (.aload_n 0, 1) := by decide +kernel
theorem d_L_law_739 : decode code 739 = .ok (.iload 4, 2) := by decide +kernel
theorem d_L_law_741 : decode code 741 = .ok (.iconst 1, 1) := by decide +kernel
theorem d_L_law_742 : decode code 742 = .ok (.iadd, 1) := by decide +kernel
theorem d_L_law_743 : decode code 743 = .ok (.iaload, 1) := by decide +kernel
theorem d_L_law_744 : decode code 744 = .ok (.aload_n 0, 1) := by decide +kernel
theorem d_L_law_745 : decode code 745 = .ok (.iload 4, 2) := by decide +kernel
theorem d_L_law_747 : decode code 747 = .ok (.iconst 2, 1) := by decide +kernel
theorem d_L_law_748 : decode code 748 = .ok (.iadd, 1) := by decide +kernel
theorem d_L_law_749 : decode code 749 = .ok (.iaload, 1) := by decide +kernel
theorem d_L_law_750 : decode code 750 = .ok (.aload_n 0, 1) := by decide +kernel
theorem d_L_law_751 : decode code 751 = .ok (.iload 4, 2) := by decide +kernel
theorem d_L_law_753 : decode code 753 = .ok (.iconst 3, 1) := by decide +kernel
theorem d_L_law_754 : decode code 754 = .ok (.iadd, 1) := by decide +kernel
theorem d_L_law_755 : decode code 755 = .ok (.iaload, 1) := by decide +kernel
theorem d_L_law_756 : decode code 756 = .ok (.ifCond .eq 7, 3) := by decide +kernel
theorem d_L_law_759 : decode code 759 = .ok (.iconst 1, 1) := by decide +kernel
theorem d_L_law_760 : decode code 760 = .ok (.goto 4, 3) := by decide +kernel
theorem d_L_law_763 : decode code 763 = .ok (.iconst 0, 1) := by decide +kernel
theorem d_L_law_764 : decode code 764 = .ok (.invokevirtual 92, 3) := by decide +kernel
theorem d_L_law_767 : decode code 767 = .ok (.lstore 6, 2) := by decide +kernel
theorem d_L_law_769 : decode code 769 = .ok (.aload_n 2, 1) := by decide +kernel
theorem d_L_law_770 : decode code 770 = .ok (.invokevirtual 62, 3) := by decide +kernel
theorem d_L_law_773 : decode code 773 = .ok (.iload 5, 2) := by decide +kernel
theorem d_L_law_775 : decode code 775 = .ok (.if_icmp .eq 5, 3) := by decide +kernel
theorem d_L_law_778 : decode code 778 = .ok (.iconst 0, 1) := by decide +kernel
theorem d_L_law_779 : decode code 779 = .ok (.ireturn, 1) := by decide +kernel
theorem d_L_law_780 : decode code 780 = .ok (.iload 5, 2) := by decide +kernel
theorem d_L_law_782 : decode code 782 = .ok (.ifCond .ne 14, 3) := by decide +kernel
theorem d_L_law_785 : decode code 785 = .ok (.aload_n 3, 1) := by decide +kernel
theorem d_L_law_786 : decode code 786 = .ok (.iconst 0, 1) := by decide +kernel
theorem d_L_law_787 : decode code 787 = .ok (.laload, 1) := by decide +kernel
theorem d_L_law_788 : decode code 788 = .ok (.lload 6, 2) := by decide +kernel
theorem d_L_law_790 : decode code 790 = .ok (.lcmp, 1) := by decide +kernel
theorem d_L_law_791 : decode code 791 = .ok (.ifCond .eq 5, 3) := by decide +kernel
theorem d_L_law_794 : decode code 794 = .ok (.iconst 0, 1) := by decide +kernel
theorem d_L_law_795 : decode code 795 = .ok (.ireturn, 1) := by decide +kernel
theorem d_L_law_796 : decode code 796 = .ok (.goto 83, 3) := by decide +kernel
theorem d_L_law_799 : decode code 799 = .ok (.aload_n 1, 1) := by decide +kernel
theorem d_L_law_800 : decode code 800 = .ok (.aload_n 0, 1) := by decide +kernel
theorem d_L_law_801 : decode code 801 = .ok (.iload 4, 2) := by decide +kernel
theorem d_L_law_803 : decode code 803 = .ok (.iconst 1, 1) := by decide +kernel
theorem d_L_law_804 : decode code 804 = .ok (.iadd, 1) := by decide +kernel
theorem d_L_law_805 : decode code 805 = .ok (.iaload, 1) := by decide +kernel
theorem d_L_law_806 : decode code 806 = .ok (.aload_n 0, 1) := by decide +kernel
theorem d_L_law_807 : decode code 807 = .ok (.iload 4, 2) := by decide +kernel
theorem d_L_law_809 : decode code 809 = .ok (.iconst 2, 1) := by decide +kernel
theorem d_L_law_810 : decode code 810 = .ok (.iadd, 1) := by decide +kernel
theorem d_L_law_811 : decode code 811 = .ok (.iaload, 1) := by decide +kernel
theorem d_L_law_812 : decode code 812 = .ok (.aload_n 0, 1) := by decide +kernel
theorem d_L_law_813 : decode code 813 = .ok (.iload 4, 2) := by decide +kernel
theorem d_L_law_815 : decode code 815 = .ok (.iconst 3, 1) := by decide +kernel
theorem d_L_law_816 : decode code 816 = .ok (.iadd, 1) := by decide +kernel
theorem d_L_law_817 : decode code 817 = .ok (.iaload, 1) := by decide +kernel
theorem d_L_law_818 : decode code 818 = .ok (.aload_n 3, 1) := by decide +kernel
theorem d_L_law_819 : decode code 819 = .ok (.invokestatic 93, 3) := by decide +kernel
theorem d_L_law_822 : decode code 822 = .ok (.istore 5, 2) := by decide +kernel
theorem d_L_law_824 : decode code 824 = .ok (.aload_n 2, 1) := by decide +kernel
theorem d_L_law_825 : decode code 825 = .ok (.aload_n 0, 1) := by decide +kernel
theorem d_L_law_826 : decode code 826 = .ok (.iload 4, 2) := by decide +kernel
theorem d_L_law_828 : decode code 828 = .ok (.iconst 1, 1) := by decide +kernel
theorem d_L_law_829 : decode code 829 = .ok (.iadd, 1) := by decide +kernel
theorem d_L_law_830 : decode code 830 = .ok (.iaload, 1) := by decide +kernel
theorem d_L_law_831 : decode code 831 = .ok (.aload_n 0, 1) := by decide +kernel
theorem d_L_law_832 : decode code 832 = .ok (.iload 4, 2) := by decide +kernel
theorem d_L_law_834 : decode code 834 = .ok (.iconst 2, 1) := by decide +kernel
theorem d_L_law_835 : decode code 835 = .ok (.iadd, 1) := by decide +kernel
theorem d_L_law_836 : decode code 836 = .ok (.iaload, 1) := by decide +kernel
theorem d_L_law_837 : decode code 837 = .ok (.aload_n 0, 1) := by decide +kernel
theorem d_L_law_838 : decode code 838 = .ok (.iload 4, 2) := by decide +kernel
theorem d_L_law_840 : decode code 840 = .ok (.iconst 3, 1) := by decide +kernel
theorem d_L_law_841 : decode code 841 = .ok (.iadd, 1) := by decide +kernel
theorem d_L_law_842 : decode code 842 = .ok (.iaload, 1) := by decide +kernel
theorem d_L_law_843 : decode code 843 = .ok (.invokevirtual 96, 3) := by decide +kernel
theorem d_L_law_846 : decode code 846 = .ok (.istore 6, 2) := by decide +kernel
theorem d_L_law_848 : decode code 848 = .ok (.aload_n 2, 1) := by decide +kernel
theorem d_L_law_849 : decode code 849 = .ok (.invokevirtual 62, 3) := by decide +kernel
theorem d_L_law_852 : decode code 852 = .ok (.iload 5, 2) := by decide +kernel
theorem d_L_law_854 : decode code 854 = .ok (.if_icmp .eq 5, 3) := by decide +kernel
theorem d_L_law_857 : decode code 857 = .ok (.iconst 0, 1) := by decide +kernel
theorem d_L_law_858 : decode code 858 = .ok (.ireturn, 1) := by decide +kernel
theorem d_L_law_859 : decode code 859 = .ok (.iload 5, 2) := by decide +kernel
theorem d_L_law_861 : decode code 861 = .ok (.ifCond .ne 15, 3) := by decide +kernel
theorem d_L_law_864 : decode code 864 = .ok (.aload_n 3, 1) := by decide +kernel
theorem d_L_law_865 : decode code 865 = .ok (.iconst 0, 1) := by decide +kernel
theorem d_L_law_866 : decode code 866 = .ok (.laload, 1) := by decide +kernel
theorem d_L_law_867 : decode code 867 = .ok (.iload 6, 2) := by decide +kernel
theorem d_L_law_869 : decode code 869 = .ok (.i2l, 1) := by decide +kernel
theorem d_L_law_870 : decode code 870 = .ok (.lcmp, 1) := by decide +kernel
theorem d_L_law_871 : decode code 871 = .ok (.ifCond .eq 5, 3) := by decide +kernel
theorem d_L_law_874 : decode code 874 = .ok (.iconst 0, 1) := by decide +kernel
theorem d_L_law_875 : decode code 875 = .ok (.ireturn, 1) := by decide +kernel
theorem d_L_law_876 : decode code 876 = .ok (.goto 3, 3) := by decide +kernel
theorem d_L_law_879 : decode code 879 = .ok (.iinc 4 6, 3) := by decide +kernel
theorem d_L_law_882 : decode code 882 = .ok (.goto (-859), 3) := by decide +kernel
theorem d_L_law_885 : decode code 885 = .ok (.iconst 1, 1) := by decide +kernel
theorem d_L_law_886 : decode code 886 = .ok (.ireturn, 1) := by decide +kernel
end
section
/-! rows for the law's body: three worlds side by side (the row, the reference, the array for the answer), the script's ints -/
def aL (s : State) : Nat → Prop := fun x => s.heap.size ≤ x
theorem aL_new {s : State} : ∀ q, s.heap.size ≤ q → aL s q := fun _ h => h
theorem aL_xn {s : State} : xn (aL s) s.heap := fun q cell h hc => by
  have h1 := (Array.getElem?_eq_some_iff.mp hc).1
  have h2 : s.heap.size ≤ q := h
  omega
theorem wF_mem {o : Nat → Nat} {cJ cI : ClassId} {M L G : Nat → Int64} {K : Nat → Int32} {V : Nat → Int64} {a b t : Int64} {k : Nat} {x : Nat × va_E} (h : (wF o cJ cI M L G K V a b t)[k]? = some x) : ∃ i, i < 6 ∧ x.1 = o i := by
  match k, h with
  | 0, h => cases h; exact ⟨0, by decide, rfl⟩
  | 1, h => cases h; exact ⟨1, by decide, rfl⟩
  | 2, h => cases h; exact ⟨2, by decide, rfl⟩
  | 3, h => cases h; exact ⟨3, by decide, rfl⟩
  | 4, h => cases h; exact ⟨4, by decide, rfl⟩
  | 5, h => cases h; exact ⟨5, by decide, rfl⟩
  | k + 6, h => simp at h
theorem wM_mem {o : Nat → Nat} {cJ cI : ClassId} {r : Int32} {K : Nat → Int32} {V : Nat → Int64} {k : Nat} {x : Nat × va_E} (h : (wM o cJ cI r K V)[k]? = some x) : ∃ i, i < 3 ∧ x.1 = o i := by
  match k, h with
  | 0, h => cases h; exact ⟨0, by decide, rfl⟩
  | 1, h => cases h; exact ⟨1, by decide, rfl⟩
  | 2, h => cases h; exact ⟨2, by decide, rfl⟩
  | k + 3, h => simp at h
theorem aF_not {o : Nat → Nat} {sz x : Nat} (h : ∀ i, i < 6 → o i ≠ x) (hx : x < sz) : ¬ aF o sz x := by
  intro z
  unfold aF at z
  rcases z with z | z | z | z | z | z | z
  · exact h 0 (by decide) z.symm
  · exact h 1 (by decide) z.symm
  · exact h 2 (by decide) z.symm
  · exact h 3 (by decide) z.symm
  · exact h 4 (by decide) z.symm
  · exact h 5 (by decide) z.symm
  · omega
theorem aM_not {o : Nat → Nat} {sz x : Nat} (h : ∀ i, i < 3 → o i ≠ x) (hx : x < sz) : ¬ aM o sz x := by
  intro z
  unfold aM at z
  rcases z with z | z | z | z
  · exact h 0 (by decide) z.symm
  · exact h 1 (by decide) z.symm
  · exact h 2 (by decide) z.symm
  · omega
/-- the law's picture -/
def iL (D : va_G) (o om : Nat → Nat) (q : Nat) (cJ cI : ClassId) (s : State) (H : Heap) (locs : List Loc) (u : FR) (r : Int32) (K : Nat → Int32) (V : Nat → Int64) (Z : Int64) : Prop :=
  iFu D o cJ cI (aL s) s.heap H locs u ∧ iM D om cJ cI (aL s) s.heap H locs r K V ∧ oP D cJ q Z H ∧ aL s q ∧ (∀ i, i < 6 → q ≠ o i) ∧ (∀ j, j < 3 → q ≠ om j) ∧ ∀ i j, i < 6 → j < 3 → o i ≠ om j
def x_ln (a b : Int32) : Int64 := (a.toInt64 <<< ((32 : Int32).toInt64 &&& 63)) ||| (b.toInt64 &&& 4294967295)
def x_nz (a : Int32) : Int32 := if a = 0 then 0 else 1
section LAW
variable {p : Program} {l : Launch} {e : Env} {R : Room} {s : State} {m : MethodId} {args : Array Value} {below : List Frame} {meth : Method} {c : Code} {H : Heap} {locs : List Loc} {cells slots : Nat} {Q : State → Prop}
variable {cc : ByteArray} {pc nL : Nat} {ls : Array Slot} {rest : List Value} {D : va_G} {cJ cI : ClassId} {own : String} {o om : Nat → Nat} {q : Nat} {u u' : FR} {r : Int32} {K : Nat → Int32} {V : Nat → Int64} {Z Z' : Int64}
/-- the reference's world and the array's, where only the row may have changed -/
theorem iL_M {H1 : Heap} {locs1 : List Loc} (hI : iL D o om q cJ cI s H locs u r K V Z) (hk : ∀ x : Nat, x < H.size → ¬ aF o H.size x → x ≠ q → H1[x]? = H[x]?) (hS : va_S (aL s) s.heap H1 locs1) : iM D om cJ cI (aL s) s.heap H1 locs1 r K V :=
  ⟨va_P.kept hI.2.1.1 (fun k x hx => by
    obtain ⟨j, hj, e⟩ := wM_mem hx
    refine hk x.1 ((hI.2.1.1 k x hx).lt) ?_ ?_
    · rw [e]
      exact aF_not (fun i hi => hI.2.2.2.2.2.2 i j hi hj) (by rw [← e]; exact (hI.2.1.1 k x hx).lt)
    · rw [e]
      exact fun z => hI.2.2.2.2.2.1 j hj z.symm), hI.2.1.2.1, hS⟩
theorem iL_F {H1 : Heap} {locs1 : List Loc} (hI : iL D o om q cJ cI s H locs u r K V Z) (hk : ∀ x : Nat, x < H.size → ¬ aM om H.size x → H1[x]? = H[x]?) (hS : va_S (aL s) s.heap H1 locs1) : iFu D o cJ cI (aL s) s.heap H1 locs1 u ∧ oP D cJ q Z H1 :=
  ⟨⟨va_P.kept hI.1.1 (fun k x hx => by
    obtain ⟨i, hi, e⟩ := wF_mem hx
    refine hk x.1 ((hI.1.1 k x hx).lt) ?_
    rw [e]
    exact aM_not (fun j hj z => hI.2.2.2.2.2.2 i j hi hj z.symm) (by rw [← e]; exact (hI.1.1 k x hx).lt)), hI.1.2.1, hS⟩,
   oP_kept hI.2.2.1 (hk q (oP_lt hI.2.2.1) (aM_not (fun j hj z => hI.2.2.2.2.2.1 j hj z.symm) (oP_lt hI.2.2.1)))⟩
/-- a call of one of the law's small methods, without and with the array -/
theorem xA_call {rv : Int32} {y : MethodName} {bytes : ByteArray} {maxL n index : Nat} {ret : Option FieldType} {hh : List (Nat × Nat × Nat × Nat)} {rm : Room} {As st0 : List Value} (hC : CX p m c cc nL s args own D cJ cI) (hz : xz s) (hI : iL D o om q cJ cI s H locs u r K V Z)
    (hM : Met l y (Cond.codeWith y bytes maxL ret hh :: tb) rm (va_Pc (.ref (o 0) :: As) (fun U => pFu D o cJ cI H.size u U ∧ xz U)) (va_Qi (fun (r9 : Int32) (_ : Unit) => r9 = rv) (fun _ => bFu D o cJ cI (aF o H.size) u') (aF o H.size)) 1 6 (aF o H.size))
    (hG : Cond.codeWith y bytes maxL ret hh ∈ tb) (hrc : rm.cells = 1) (hrs : rm.slots = 6) (hR : rm.frames + 1 ≤ R.frames ∧ 8 + (maxL + 11) + rm.locals ≤ R.locals) (hini : Cond.initialized y.cls ∈ tb) (hd : y.cls ≠ "java/lang/invoke/MethodHandle" ∧ y.cls ≠ "java/lang/invoke/VarHandle" ∧ (parseMethodDescriptor y.desc).map (fun d => d.parameters.length) = some n) (hl : Cond.methodLink own index y ∈ tb) (hstt : Cond.static y ∈ tb)
    (hn : As.length + 1 = n) (hsz : ls.size = nL) (hst : st0 = (Value.ref (o 0) :: As).reverse) (hdg : decode cc pc = .ok (.invokestatic index, 3)) (hf : cells + 1 ≤ R.cells ∧ slots + 6 ≤ R.slots)
    (kk : ∀ (H1 : Heap) (locs1 : List Loc), iL D o om q cJ cI s H1 locs1 u' r K V Z → W p l e R s m args below meth c H1 locs1 (cells + 1) (slots + 6) Q (F0 m (pc + 3) ls [.int rv])) : W p l e R s m args below meth c H locs cells slots Q (F0 m pc ls st0) := by
  have ht := hC.1.2.2.2.2
  refine va_calli (xw_runS (As := .ref (o 0) :: As) (rest := []) hC.1 hM hG hrc hrs hR (ht _ hini) hd (ht _ hl) (ht _ hstt) ⟨fun a U g mk q => ⟨q.1, (pF_blind (av := .ref (o 0) :: As) a U g mk ⟨q.1, q.2.1⟩).2, q.2.2.moved (V := U.calling g mk a) (Vm.Alike.refl U.vm) (fun _ _ h _ => h)⟩, fun U hU hW => ⟨rfl, (pF_at (av := .ref (o 0) :: As) hC.2 hI.1 hU hW).2, xz_at hz aL_xn hI.1.2.2 hU hW⟩⟩ rfl hn hsz (by rw [List.append_nil]; exact hst) (lv_room (Nat.zero_le _)) hdg hf) hI.1.2.2 (fun q _ h => iF_free hI.1 aL_new q h) (iF_free hI.1 aL_new) (fun r9 u9 t9 H1 locs1 ht hvm hw hB hz hk hS => ?_)
  subst hw
  refine kk H1 locs1 ⟨⟨by rw [← ht]; exact hB.1, hB.2.2.weaken (fun _ q _ h => iF_free hI.1 aL_new q.1 h), hS⟩, iL_M hI (fun x h1 h2 _ => hk x h1 h2) hS, oP_kept hI.2.2.1 (hk q (oP_lt hI.2.2.1) (aF_not (fun i hi z => hI.2.2.2.2.1 i hi z.symm) (oP_lt hI.2.2.1))), hI.2.2.2⟩
theorem xA_callO {rv : Int32} {y : MethodName} {bytes : ByteArray} {maxL n index : Nat} {ret : Option FieldType} {hh : List (Nat × Nat × Nat × Nat)} {rm : Room} {As st0 : List Value} (hC : CX p m c cc nL s args own D cJ cI) (hz : xz s) (hI : iL D o om q cJ cI s H locs u r K V Z)
    (hM : Met l y (Cond.codeWith y bytes maxL ret hh :: tb) rm (va_Pc (.ref (o 0) :: As) (fun U => (pFu D o cJ cI H.size u U ∧ xz U) ∧ oP D cJ q Z U.heap)) (va_Qi (fun (r9 : Int32) (_ : Unit) => r9 = rv) (fun _ U => bFu D o cJ cI (aO o q H.size) u' U ∧ oP D cJ q Z' U.heap) (aO o q H.size)) 1 6 (aO o q H.size))
    (hG : Cond.codeWith y bytes maxL ret hh ∈ tb) (hrc : rm.cells = 1) (hrs : rm.slots = 6) (hR : rm.frames + 1 ≤ R.frames ∧ 8 + (maxL + 11) + rm.locals ≤ R.locals) (hini : Cond.initialized y.cls ∈ tb) (hd : y.cls ≠ "java/lang/invoke/MethodHandle" ∧ y.cls ≠ "java/lang/invoke/VarHandle" ∧ (parseMethodDescriptor y.desc).map (fun d => d.parameters.length) = some n) (hl : Cond.methodLink own index y ∈ tb) (hstt : Cond.static y ∈ tb)
    (hn : As.length + 1 = n) (hsz : ls.size = nL) (hst : st0 = (Value.ref (o 0) :: As).reverse) (hdg : decode cc pc = .ok (.invokestatic index, 3)) (hf : cells + 1 ≤ R.cells ∧ slots + 6 ≤ R.slots)
    (kk : ∀ (H1 : Heap) (locs1 : List Loc), iL D o om q cJ cI s H1 locs1 u' r K V Z' → W p l e R s m args below meth c H1 locs1 (cells + 1) (slots + 6) Q (F0 m (pc + 3) ls [.int rv])) : W p l e R s m args below meth c H locs cells slots Q (F0 m pc ls st0) := by
  have ht := hC.1.2.2.2.2
  have hfr := aO_free hI.1 hI.2.2.2.1 aL_new
  refine va_calli (xw_runS (As := .ref (o 0) :: As) (rest := []) hC.1 hM hG hrc hrs hR (ht _ hini) hd (ht _ hl) (ht _ hstt) ⟨fun a U g mk q => ⟨q.1, ⟨(pF_blind (av := .ref (o 0) :: As) a U g mk ⟨q.1, q.2.1.1⟩).2, q.2.1.2.moved (V := U.calling g mk a) (Vm.Alike.refl U.vm) (fun _ _ h _ => h)⟩, q.2.2⟩, fun U hU hW => ⟨rfl, ⟨(pF_at (av := .ref (o 0) :: As) hC.2 hI.1 hU hW).2, xz_at hz aL_xn hI.1.2.2 hU hW⟩, by rw [hU]; exact hI.2.2.1⟩⟩ rfl hn hsz (by rw [List.append_nil]; exact hst) (lv_room (Nat.zero_le _)) hdg hf) hI.1.2.2 (fun q _ h => hfr q h) hfr (fun r9 u9 t9 H1 locs1 ht hvm hw hB hz hk hS => ?_)
  subst hw
  refine kk H1 locs1 ⟨⟨by rw [← ht]; exact hB.1.1, hB.1.2.2.weaken (fun _ q _ h => hfr q.1 h), hS⟩, iL_M hI (fun x h1 h2 h3 => hk x h1 (fun z => z.elim h2 h3)) hS, by rw [← ht]; exact hB.2, hI.2.2.2⟩
/-- calls of the reference -/
theorem xB_callv {r' : Int32} {K' : Nat → Int32} {V' : Nat → Int64} {y : MethodName} {bytes : ByteArray} {maxL idx k : Nat} {rm : Room} {As st0 : List Value} (hC : CX p m c cc nL s args own D cJ cI) (hI : iL D o om q cJ cI s H locs u r K V Z)
    (hM : Met l y (Cond.code y bytes maxL none :: tb) rm (va_Pc (.ref (om 0) :: As) (pM D om cJ cI H.size r K V)) (va_Qv (fun _ : Unit => True) (fun _ => bM D om cJ cI (aM om H.size) r' K' V') (aM om H.size)) 0 0 (aM om H.size))
    (cw : CallW R s args own R_M idx y bytes maxL none (Cond.code y bytes maxL none :: tb) rm 0 0 k) (hk : As.length = k) (hsz : ls.size = nL) (hst : st0 = As.reverse ++ .ref (om 0) :: rest) (hrm : (rest.map fun v => v.category).sum ≤ 8) (hdg : decode cc pc = .ok (.invokevirtual idx, 3)) (hf : cells + 0 ≤ R.cells ∧ slots + 0 ≤ R.slots)
    (kk : ∀ (H1 : Heap) (locs1 : List Loc), iL D o om q cJ cI s H1 locs1 u r' K' V' Z → W p l e R s m args below meth c H1 locs1 cells slots Q (F0 m (pc + 3) ls rest)) : W p l e R s m args below meth c H locs cells slots Q (F0 m pc ls st0) :=
  xM_callv (As := As) (rest := rest) hC hI.2.1 aL_new hM cw hk hsz hst hrm hdg hf (fun H1 locs1 hI1 hz hk => kk H1 locs1 (by
    obtain ⟨a, b⟩ := iL_F hI hk hI1.2.2
    exact ⟨a, hI1, b, hI.2.2.2⟩))
theorem xB_calll {rv : Int64} {r' : Int32} {K' : Nat → Int32} {V' : Nat → Int64} {y : MethodName} {bytes : ByteArray} {maxL idx k : Nat} {rm : Room} {As st0 : List Value} (hC : CX p m c cc nL s args own D cJ cI) (hI : iL D o om q cJ cI s H locs u r K V Z)
    (hM : Met l y (Cond.code y bytes maxL (some .long) :: tb) rm (va_Pc (.ref (om 0) :: As) (pM D om cJ cI H.size r K V)) (va_Ql (fun (r : Int64) (_ : Unit) => r = rv) (fun _ => bM D om cJ cI (aM om H.size) r' K' V') (aM om H.size)) 0 0 (aM om H.size))
    (cw : CallW R s args own R_M idx y bytes maxL (some .long) (Cond.code y bytes maxL (some .long) :: tb) rm 0 0 k) (hk : As.length = k) (hsz : ls.size = nL) (hst : st0 = As.reverse ++ .ref (om 0) :: rest) (hrm : (rest.map fun v => v.category).sum ≤ 8) (hdg : decode cc pc = .ok (.invokevirtual idx, 3)) (hf : cells + 0 ≤ R.cells ∧ slots + 0 ≤ R.slots)
    (kk : ∀ (H1 : Heap) (locs1 : List Loc), iL D o om q cJ cI s H1 locs1 u r' K' V' Z → W p l e R s m args below meth c H1 locs1 cells slots Q (F0 m (pc + 3) ls (.long rv :: rest))) : W p l e R s m args below meth c H locs cells slots Q (F0 m pc ls st0) :=
  xM_calll (As := As) (rest := rest) hC hI.2.1 aL_new hM cw hk hsz hst hrm hdg hf (fun H1 locs1 hI1 hz hk => kk H1 locs1 (by
    obtain ⟨a, b⟩ := iL_F hI hk hI1.2.2
    exact ⟨a, hI1, b, hI.2.2.2⟩))
theorem xB_calli {rv : Int32} {ret : Option FieldType} {r' : Int32} {K' : Nat → Int32} {V' : Nat → Int64} {y : MethodName} {bytes : ByteArray} {maxL idx k : Nat} {rm : Room} {As st0 : List Value} (hC : CX p m c cc nL s args own D cJ cI) (hI : iL D o om q cJ cI s H locs u r K V Z)
    (hM : Met l y (Cond.code y bytes maxL ret :: tb) rm (va_Pc (.ref (om 0) :: As) (pM D om cJ cI H.size r K V)) (va_Qi (fun (r : Int32) (_ : Unit) => r = rv) (fun _ => bM D om cJ cI (aM om H.size) r' K' V') (aM om H.size)) 0 0 (aM om H.size))
    (cw : CallW R s args own R_M idx y bytes maxL ret (Cond.code y bytes maxL ret :: tb) rm 0 0 k) (hk : As.length = k) (hsz : ls.size = nL) (hst : st0 = As.reverse ++ .ref (om 0) :: rest) (hrm : (rest.map fun v => v.category).sum ≤ 8) (hdg : decode cc pc = .ok (.invokevirtual idx, 3)) (hf : cells + 0 ≤ R.cells ∧ slots + 0 ≤ R.slots)
    (kk : ∀ (H1 : Heap) (locs1 : List Loc), iL D o om q cJ cI s H1 locs1 u r' K' V' Z → W p l e R s m args below meth c H1 locs1 cells slots Q (F0 m (pc + 3) ls (.int rv :: rest))) : W p l e R s m args below meth c H locs cells slots Q (F0 m pc ls st0) :=
  xM_calli (As := As) (rest := rest) hC hI.2.1 aL_new hM cw hk hsz hst hrm hdg hf (fun H1 locs1 hI1 hz hk => kk H1 locs1 (by
    obtain ⟨a, b⟩ := iL_F hI hk hI1.2.2
    exact ⟨a, hI1, b, hI.2.2.2⟩))
/-- the answer is read -/
theorem xO_ld (hC : CX p m c cc nL s args own D cJ cI) (hI : iL D o om q cJ cI s H locs u r K V Z) (hdg : decode cc pc = .ok (.laload, 1)) (kk : W p l e R s m args below meth c H locs cells slots Q (F0 m (pc + 1) ls (.long Z :: rest))) : W p l e R s m args below meth c H locs cells slots Q (F0 m pc ls (.int (nI 0) :: .ref q :: rest)) :=
  va_lald hC.1.1 hC.1.2.1 hC.2 hI.2.2.1 0 0 rfl rfl (vp_in_nI (n := 0) (N := 1) (by decide) (by decide)) hdg kk
-- the script's ints
variable {b L i k : Nat} {xs : Nat → Int32} {n n2 : Int}
theorem xL_arg (hC : CX p m c cc nL s args own D cJ cI) (hX : va_X b L xs s s.heap) (hbl : b < s.heap.size) (hL : L ≤ 3072) (hI : iL D o om q cJ cI s H locs u r K V Z) (h4 : ls[4]? = some (.val (.int (nI i)))) (h0 : ls[0]? = some (.val (.ref b))) (hk : i + k < L) (hn : Int32.ofInt n = nI k)
    (d0 : decode cc pc = .ok (.aload_n 0, 1)) (d1 : decode cc (pc + 1) = .ok (.iload 4, 2)) (d2 : decode cc (pc + 3) = .ok (.iconst n, 1)) (d3 : decode cc (pc + 4) = .ok (.iadd, 1)) (d4 : decode cc (pc + 5) = .ok (.iaload, 1))
    (kk : W p l e R s m args below meth c H locs cells slots Q (F0 m (pc + 6) ls (.int (xs (i + k)) :: rest))) : W p l e R s m args below meth c H locs cells slots Q (F0 m pc ls rest) := by
  have hx := hC.1.1
  have hb := hC.1.2.1
  refine lv_aload_n hx hb d0 rfl h0 (lv_iload hx hb d1 h4 (lv_iconst hx hb (v := nI k) d2 hn (lv_iadd hx hb d3 (xw_i (nI_add i k) (va_sld hx hb hX hbl (fun z => by have z' : s.heap.size ≤ b := z; omega) hI.1.2.2 (vp_in_nI hk (by omega)) d4 ?_)))))
  rw [nI_clamp (by omega)]
  exact kk
theorem xL_long {k2 : Nat} (hC : CX p m c cc nL s args R_L D cJ cI) (hX : va_X b L xs s s.heap) (hbl : b < s.heap.size) (hL : L ≤ 3072) (hI : iL D o om q cJ cI s H locs u r K V Z) (h4 : ls[4]? = some (.val (.int (nI i)))) (h0 : ls[0]? = some (.val (.ref b))) (hk : i + k < L) (hn : Int32.ofInt n = nI k) (hk2 : i + k2 < L) (hn2 : Int32.ofInt n2 = nI k2)
    (d0 : decode cc pc = .ok (.aload_n 0, 1)) (d1 : decode cc (pc + 1) = .ok (.iload 4, 2)) (d2 : decode cc (pc + 3) = .ok (.iconst n, 1)) (d3 : decode cc (pc + 4) = .ok (.iadd, 1)) (d4 : decode cc (pc + 5) = .ok (.iaload, 1))
    (d5 : decode cc (pc + 6) = .ok (.i2l, 1)) (d6 : decode cc (pc + 7) = .ok (.bipush 32, 2)) (d7 : decode cc (pc + 9) = .ok (.lshl, 1))
    (e0 : decode cc (pc + 10) = .ok (.aload_n 0, 1)) (e1 : decode cc (pc + 11) = .ok (.iload 4, 2)) (e2 : decode cc (pc + 13) = .ok (.iconst n2, 1)) (e3 : decode cc (pc + 14) = .ok (.iadd, 1)) (e4 : decode cc (pc + 15) = .ok (.iaload, 1))
    (e5 : decode cc (pc + 16) = .ok (.i2l, 1)) (e6 : decode cc (pc + 17) = .ok (.ldc2_w 54, 3)) (e7 : decode cc (pc + 20) = .ok (.land, 1)) (e8 : decode cc (pc + 21) = .ok (.lor, 1))
    (kk : W p l e R s m args below meth c H locs cells slots Q (F0 m (pc + 22) ls (.long (x_ln (xs (i + k)) (xs (i + k2))) :: rest))) : W p l e R s m args below meth c H locs cells slots Q (F0 m pc ls rest) := by
  have hx := hC.1.1
  have hb := hC.1.2.1
  refine xL_arg (k := k) hC hX hbl hL hI h4 h0 hk hn d0 d1 d2 d3 d4 (lv_i2l hx hb d5 rfl (lv_bipush hx hb (v := 32) d6 (by decide) (lv_lshl hx hb d7 rfl (xL_arg (k := k2) hC hX hbl hL hI h4 h0 hk2 hn2 e0 e1 e2 e3 e4 (lv_i2l hx hb e5 rfl (lv_ldc2 (v := 4294967295) hx hb hC.1.2.2.2.1 (hC.1.2.2.2.2 _ tw_367) e6 (lv_land hx hb e7 (lv_lor hx hb e8 ?_))))))))
  exact kk
theorem xL_bool (hC : CX p m c cc nL s args own D cJ cI) (hX : va_X b L xs s s.heap) (hbl : b < s.heap.size) (hL : L ≤ 3072) (hI : iL D o om q cJ cI s H locs u r K V Z) (h4 : ls[4]? = some (.val (.int (nI i)))) (h0 : ls[0]? = some (.val (.ref b))) (hk : i + k < L) (hn : Int32.ofInt n = nI k)
    (d0 : decode cc pc = .ok (.aload_n 0, 1)) (d1 : decode cc (pc + 1) = .ok (.iload 4, 2)) (d2 : decode cc (pc + 3) = .ok (.iconst n, 1)) (d3 : decode cc (pc + 4) = .ok (.iadd, 1)) (d4 : decode cc (pc + 5) = .ok (.iaload, 1))
    (d5 : decode cc (pc + 6) = .ok (.ifCond .eq 7, 3)) (d6 : decode cc (pc + 9) = .ok (.iconst 1, 1)) (d7 : decode cc (pc + 10) = .ok (.goto 4, 3)) (d8 : decode cc (pc + 13) = .ok (.iconst 0, 1))
    (kk : W p l e R s m args below meth c H locs cells slots Q (F0 m (pc + 14) ls (.int (x_nz (xs (i + k))) :: rest))) : W p l e R s m args below meth c H locs cells slots Q (F0 m pc ls rest) := by
  have hx := hC.1.1
  have hb := hC.1.2.1
  refine xL_arg (k := k) hC hX hbl hL hI h4 h0 hk hn d0 d1 d2 d3 d4 (lv_if_eq hx hb (tgt := pc + 13) d5 (by omega) (fun h => ?_) (fun h => ?_))
  · refine lv_iconst hx hb (v := 0) d8 (by decide) ?_
    unfold x_nz at kk
    rw [if_pos h] at kk
    exact kk
  · refine lv_iconst hx hb (v := 1) d6 (by decide) (lv_goto hx hb (tgt := pc + 14) d7 (by omega) ?_)
    unfold x_nz at kk
    rw [if_neg h] at kk
    exact kk
end LAW
end
section
/-! one turn of the law's loop, case by case (printed by gen/gen_law.py) -/
set_option maxHeartbeats 4000000 in
set_option maxRecDepth 100000 in
theorem st_set {l : Launch} {p : Program} {e : Env} {s : State} {m : MethodId} {args : Array Value} {below : List Frame} {meth : Method} {c : Code} {H : Heap} {locs : List Loc} {cells slots : Nat} {Q : State → Prop} {ls : Array Slot} {D : va_G} {cJ cI : ClassId} {o om : Nat → Nat} {q b L i : Nat} {xs : Nat → Int32} {u : FR} {r : Int32} {K : Nat → Int32} {V : Nat → Int64} {Z : Int64}
    (hC : CX p m c code 8 s args R_L D cJ cI) (hX : va_X b L xs s s.heap) (hbl : b < s.heap.size) (hL : L ≤ 3072) (hz : xz s) (hfl : l.flags = flags0) (hi : i + 6 ≤ L) (hI : iL D o om q cJ cI s H locs u r K V Z) (hR : Rel u K V) (hl : lv_has ls 8 [(4, .int (nI i)), (3, .ref q), (2, .ref (om 0)), (1, .ref (o 0)), (0, .ref b)]) (hf : cells + 1 ≤ room_1.cells ∧ slots + 6 ≤ room_1.slots)
    (kk : ∀ (H1 : Heap) (locs1 : List Loc) (ls1 : Array Slot) (u1 : FR) (r1 : Int32) (K1 : Nat → Int32) (V1 : Nat → Int64) (Z1 : Int64), Rel u1 K1 V1 → iL D o om q cJ cI s H1 locs1 u1 r1 K1 V1 Z1 → lv_has ls1 8 [(4, .int (nI i)), (3, .ref q), (2, .ref (om 0)), (1, .ref (o 0)), (0, .ref b)] → W p l e room_1 s m args below meth c H1 locs1 (cells + 1) (slots + 6) Q (F0 m 879 ls1 [])) : W p l e room_1 s m args below meth c H locs cells slots Q (F0 m 92 ls []) := by
  have hx := hC.1.1
  have hb := hC.1.2.1
  have ht := hC.1.2.2.2.2
  obtain ⟨rv, u1, K1, V1, hR1, hA, hB⟩ := op_set hR (xs (i + 1)) (xs (i + 2)) (x_ln (xs (i + 3)) (xs (i + 4)))
  refine lv_aload_n hx hb d_L_law_92 rfl (lv_at hl 3 rfl) ?_
  refine xL_arg (k := 1) hC hX hbl hL hI (lv_at hl 0 rfl) (lv_at hl 4 rfl) (by omega) (by decide +kernel) d_L_law_93 d_L_law_94 d_L_law_96 d_L_law_97 d_L_law_98 ?_
  refine xL_arg (k := 2) hC hX hbl hL hI (lv_at hl 0 rfl) (lv_at hl 4 rfl) (by omega) (by decide +kernel) d_L_law_99 d_L_law_100 d_L_law_102 d_L_law_103 d_L_law_104 ?_
  refine xL_long (k := 3) (k2 := 4) hC hX hbl hL hI (lv_at hl 0 rfl) (lv_at hl 4 rfl) (by omega) (by decide +kernel) (by omega) (by decide +kernel) d_L_law_105 d_L_law_106 d_L_law_108 d_L_law_109 d_L_law_110 d_L_law_111 d_L_law_112 d_L_law_114 d_L_law_115 d_L_law_116 d_L_law_118 d_L_law_119 d_L_law_120 d_L_law_121 d_L_law_122 d_L_law_125 d_L_law_126 ?_
  refine xA_call (n := 4) (As := [.int (xs (i + 1)), .int (xs (i + 2)), .long (x_ln (xs (i + 3)) (xs (i + 4)))]) hC hz hI (hA l D o cJ cI H.size hfl) tw_53 rfl rfl ⟨by decide, by decide⟩ tw_0 ⟨by decide, by decide, by decide +kernel⟩ tw_51 tw_52 rfl hl.1 rfl d_L_law_127 hf (fun H locs hI => ?_)
  refine lv_istore hx hb d_L_law_130 hl (by decide) (lv' := [(5, .int rv), (4, .int (nI i)), (3, .ref q), (2, .ref (om 0)), (1, .ref (o 0)), (0, .ref b)]) rfl (fun ls hl => ?_)
  refine lv_aload_n hx hb d_L_law_132 rfl (lv_at hl 3 rfl) ?_
  refine xL_arg (k := 1) hC hX hbl hL hI (lv_at hl 1 rfl) (lv_at hl 5 rfl) (by omega) (by decide +kernel) d_L_law_133 d_L_law_134 d_L_law_136 d_L_law_137 d_L_law_138 ?_
  refine xL_arg (k := 2) hC hX hbl hL hI (lv_at hl 1 rfl) (lv_at hl 5 rfl) (by omega) (by decide +kernel) d_L_law_139 d_L_law_140 d_L_law_142 d_L_law_143 d_L_law_144 ?_
  refine xL_long (k := 3) (k2 := 4) hC hX hbl hL hI (lv_at hl 1 rfl) (lv_at hl 5 rfl) (by omega) (by decide +kernel) (by omega) (by decide +kernel) d_L_law_145 d_L_law_146 d_L_law_148 d_L_law_149 d_L_law_150 d_L_law_151 d_L_law_152 d_L_law_154 d_L_law_155 d_L_law_156 d_L_law_158 d_L_law_159 d_L_law_160 d_L_law_161 d_L_law_162 d_L_law_165 d_L_law_166 ?_
  refine xB_callv (As := [.int (xs (i + 1)), .int (xs (i + 2)), .long (x_ln (xs (i + 3)) (xs (i + 4)))]) (rest := []) hC hI (hB l D om cJ cI H.size r) (cwV 3 ht gv_L_61 rfl rfl rfl ⟨rfl, by decide, by decide, by decide +kernel⟩ ⟨by decide, by decide⟩) rfl hl.1 rfl (Nat.zero_le _) d_L_law_167 hf (fun H locs hI => ?_)
  refine lv_aload_n hx hb d_L_law_170 rfl (lv_at hl 3 rfl) ?_
  refine xB_calli (As := []) (rest := []) hC hI c_M_thrown (cwV 0 ht gv_L_62 rfl rfl rfl ⟨rfl, by decide, by decide, by decide +kernel⟩ ⟨by decide, by decide⟩) rfl hl.1 rfl (Nat.zero_le _) d_L_law_171 hf (fun H locs hI => ?_)
  refine lv_iload hx hb d_L_law_174 (lv_at hl 0 rfl) ?_
  refine lv_icmp_eq hx hb (tgt := 181) d_L_law_176 (by decide) (fun _ => ?_) (fun h => absurd rfl h)
  refine lv_goto hx hb (tgt := 879) d_L_law_181 (by decide) ?_
  exact kk H locs ls u1 rv K1 V1 Z hR1 hI (lv_sub hl [1, 2, 3, 4, 5] rfl)
set_option maxHeartbeats 4000000 in
set_option maxRecDepth 100000 in
theorem st_fill {l : Launch} {p : Program} {e : Env} {s : State} {m : MethodId} {args : Array Value} {below : List Frame} {meth : Method} {c : Code} {H : Heap} {locs : List Loc} {cells slots : Nat} {Q : State → Prop} {ls : Array Slot} {D : va_G} {cJ cI : ClassId} {o om : Nat → Nat} {q b L i : Nat} {xs : Nat → Int32} {u : FR} {r : Int32} {K : Nat → Int32} {V : Nat → Int64} {Z : Int64}
    (hC : CX p m c code 8 s args R_L D cJ cI) (hX : va_X b L xs s s.heap) (hbl : b < s.heap.size) (hL : L ≤ 3072) (hz : xz s) (hfl : l.flags = flags0) (hi : i + 6 ≤ L) (hI : iL D o om q cJ cI s H locs u r K V Z) (hR : Rel u K V) (hl : lv_has ls 8 [(4, .int (nI i)), (3, .ref q), (2, .ref (om 0)), (1, .ref (o 0)), (0, .ref b)]) (hf : cells + 1 ≤ room_1.cells ∧ slots + 6 ≤ room_1.slots)
    (kk : ∀ (H1 : Heap) (locs1 : List Loc) (ls1 : Array Slot) (u1 : FR) (r1 : Int32) (K1 : Nat → Int32) (V1 : Nat → Int64) (Z1 : Int64), Rel u1 K1 V1 → iL D o om q cJ cI s H1 locs1 u1 r1 K1 V1 Z1 → lv_has ls1 8 [(4, .int (nI i)), (3, .ref q), (2, .ref (om 0)), (1, .ref (o 0)), (0, .ref b)] → W p l e room_1 s m args below meth c H1 locs1 (cells + 1) (slots + 6) Q (F0 m 879 ls1 [])) : W p l e room_1 s m args below meth c H locs cells slots Q (F0 m 184 ls []) := by
  have hx := hC.1.1
  have hb := hC.1.2.1
  have ht := hC.1.2.2.2.2
  obtain ⟨rv, u1, K1, V1, hR1, hA, hB⟩ := op_fill hR (xs (i + 1)) (xs (i + 2)) (xs (i + 3)) (x_ln (xs (i + 4)) (xs (i + 5)))
  refine lv_aload_n hx hb d_L_law_184 rfl (lv_at hl 3 rfl) ?_
  refine xL_arg (k := 1) hC hX hbl hL hI (lv_at hl 0 rfl) (lv_at hl 4 rfl) (by omega) (by decide +kernel) d_L_law_185 d_L_law_186 d_L_law_188 d_L_law_189 d_L_law_190 ?_
  refine xL_arg (k := 2) hC hX hbl hL hI (lv_at hl 0 rfl) (lv_at hl 4 rfl) (by omega) (by decide +kernel) d_L_law_191 d_L_law_192 d_L_law_194 d_L_law_195 d_L_law_196 ?_
  refine xL_arg (k := 3) hC hX hbl hL hI (lv_at hl 0 rfl) (lv_at hl 4 rfl) (by omega) (by decide +kernel) d_L_law_197 d_L_law_198 d_L_law_200 d_L_law_201 d_L_law_202 ?_
  refine xL_long (k := 4) (k2 := 5) hC hX hbl hL hI (lv_at hl 0 rfl) (lv_at hl 4 rfl) (by omega) (by decide +kernel) (by omega) (by decide +kernel) d_L_law_203 d_L_law_204 d_L_law_206 d_L_law_207 d_L_law_208 d_L_law_209 d_L_law_210 d_L_law_212 d_L_law_213 d_L_law_214 d_L_law_216 d_L_law_217 d_L_law_218 d_L_law_219 d_L_law_220 d_L_law_223 d_L_law_224 ?_
  refine xA_call (n := 5) (As := [.int (xs (i + 1)), .int (xs (i + 2)), .int (xs (i + 3)), .long (x_ln (xs (i + 4)) (xs (i + 5)))]) hC hz hI (hA l D o cJ cI H.size hfl) tw_192 rfl rfl ⟨by decide, by decide⟩ tw_0 ⟨by decide, by decide, by decide +kernel⟩ tw_190 tw_191 rfl hl.1 rfl d_L_law_225 hf (fun H locs hI => ?_)
  refine lv_istore hx hb d_L_law_228 hl (by decide) (lv' := [(5, .int rv), (4, .int (nI i)), (3, .ref q), (2, .ref (om 0)), (1, .ref (o 0)), (0, .ref b)]) rfl (fun ls hl => ?_)
  refine lv_aload_n hx hb d_L_law_230 rfl (lv_at hl 3 rfl) ?_
  refine xL_arg (k := 1) hC hX hbl hL hI (lv_at hl 1 rfl) (lv_at hl 5 rfl) (by omega) (by decide +kernel) d_L_law_231 d_L_law_232 d_L_law_234 d_L_law_235 d_L_law_236 ?_
  refine xL_arg (k := 2) hC hX hbl hL hI (lv_at hl 1 rfl) (lv_at hl 5 rfl) (by omega) (by decide +kernel) d_L_law_237 d_L_law_238 d_L_law_240 d_L_law_241 d_L_law_242 ?_
  refine xL_arg (k := 3) hC hX hbl hL hI (lv_at hl 1 rfl) (lv_at hl 5 rfl) (by omega) (by decide +kernel) d_L_law_243 d_L_law_244 d_L_law_246 d_L_law_247 d_L_law_248 ?_
  refine xL_long (k := 4) (k2 := 5) hC hX hbl hL hI (lv_at hl 1 rfl) (lv_at hl 5 rfl) (by omega) (by decide +kernel) (by omega) (by decide +kernel) d_L_law_249 d_L_law_250 d_L_law_252 d_L_law_253 d_L_law_254 d_L_law_255 d_L_law_256 d_L_law_258 d_L_law_259 d_L_law_260 d_L_law_262 d_L_law_263 d_L_law_264 d_L_law_265 d_L_law_266 d_L_law_269 d_L_law_270 ?_
  refine xB_callv (As := [.int (xs (i + 1)), .int (xs (i + 2)), .int (xs (i + 3)), .long (x_ln (xs (i + 4)) (xs (i + 5)))]) (rest := []) hC hI (hB l D om cJ cI H.size r) (cwV 4 ht gv_L_69 rfl rfl rfl ⟨rfl, by decide, by decide, by decide +kernel⟩ ⟨by decide, by decide⟩) rfl hl.1 rfl (Nat.zero_le _) d_L_law_271 hf (fun H locs hI => ?_)
  refine lv_aload_n hx hb d_L_law_274 rfl (lv_at hl 3 rfl) ?_
  refine xB_calli (As := []) (rest := []) hC hI c_M_thrown (cwV 0 ht gv_L_62 rfl rfl rfl ⟨rfl, by decide, by decide, by decide +kernel⟩ ⟨by decide, by decide⟩) rfl hl.1 rfl (Nat.zero_le _) d_L_law_275 hf (fun H locs hI => ?_)
  refine lv_iload hx hb d_L_law_278 (lv_at hl 0 rfl) ?_
  refine lv_icmp_eq hx hb (tgt := 285) d_L_law_280 (by decide) (fun _ => ?_) (fun h => absurd rfl h)
  refine lv_goto hx hb (tgt := 879) d_L_law_285 (by decide) ?_
  exact kk H locs ls u1 rv K1 V1 Z hR1 hI (lv_sub hl [1, 2, 3, 4, 5] rfl)
set_option maxHeartbeats 4000000 in
set_option maxRecDepth 100000 in
theorem st_swap {l : Launch} {p : Program} {e : Env} {s : State} {m : MethodId} {args : Array Value} {below : List Frame} {meth : Method} {c : Code} {H : Heap} {locs : List Loc} {cells slots : Nat} {Q : State → Prop} {ls : Array Slot} {D : va_G} {cJ cI : ClassId} {o om : Nat → Nat} {q b L i : Nat} {xs : Nat → Int32} {u : FR} {r : Int32} {K : Nat → Int32} {V : Nat → Int64} {Z : Int64}
    (hC : CX p m c code 8 s args R_L D cJ cI) (hX : va_X b L xs s s.heap) (hbl : b < s.heap.size) (hL : L ≤ 3072) (hz : xz s) (hfl : l.flags = flags0) (hi : i + 6 ≤ L) (hI : iL D o om q cJ cI s H locs u r K V Z) (hR : Rel u K V) (hl : lv_has ls 8 [(4, .int (nI i)), (3, .ref q), (2, .ref (om 0)), (1, .ref (o 0)), (0, .ref b)]) (hf : cells + 1 ≤ room_1.cells ∧ slots + 6 ≤ room_1.slots)
    (kk : ∀ (H1 : Heap) (locs1 : List Loc) (ls1 : Array Slot) (u1 : FR) (r1 : Int32) (K1 : Nat → Int32) (V1 : Nat → Int64) (Z1 : Int64), Rel u1 K1 V1 → iL D o om q cJ cI s H1 locs1 u1 r1 K1 V1 Z1 → lv_has ls1 8 [(4, .int (nI i)), (3, .ref q), (2, .ref (om 0)), (1, .ref (o 0)), (0, .ref b)] → W p l e room_1 s m args below meth c H1 locs1 (cells + 1) (slots + 6) Q (F0 m 879 ls1 [])) : W p l e room_1 s m args below meth c H locs cells slots Q (F0 m 288 ls []) := by
  have hx := hC.1.1
  have hb := hC.1.2.1
  have ht := hC.1.2.2.2.2
  obtain ⟨rv, u1, K1, V1, hR1, hA, hB⟩ := op_swap hR (xs (i + 1)) (xs (i + 2))
  refine lv_aload_n hx hb d_L_law_288 rfl (lv_at hl 3 rfl) ?_
  refine xL_arg (k := 1) hC hX hbl hL hI (lv_at hl 0 rfl) (lv_at hl 4 rfl) (by omega) (by decide +kernel) d_L_law_289 d_L_law_290 d_L_law_292 d_L_law_293 d_L_law_294 ?_
  refine xL_arg (k := 2) hC hX hbl hL hI (lv_at hl 0 rfl) (lv_at hl 4 rfl) (by omega) (by decide +kernel) d_L_law_295 d_L_law_296 d_L_law_298 d_L_law_299 d_L_law_300 ?_
  refine xA_call (n := 3) (As := [.int (xs (i + 1)), .int (xs (i + 2))]) hC hz hI (hA l D o cJ cI H.size hfl) tw_202 rfl rfl ⟨by decide, by decide⟩ tw_0 ⟨by decide, by decide, by decide +kernel⟩ tw_200 tw_201 rfl hl.1 rfl d_L_law_301 hf (fun H locs hI => ?_)
  refine lv_istore hx hb d_L_law_304 hl (by decide) (lv' := [(5, .int rv), (4, .int (nI i)), (3, .ref q), (2, .ref (om 0)), (1, .ref (o 0)), (0, .ref b)]) rfl (fun ls hl => ?_)
  refine lv_aload_n hx hb d_L_law_306 rfl (lv_at hl 3 rfl) ?_
  refine xL_arg (k := 1) hC hX hbl hL hI (lv_at hl 1 rfl) (lv_at hl 5 rfl) (by omega) (by decide +kernel) d_L_law_307 d_L_law_308 d_L_law_310 d_L_law_311 d_L_law_312 ?_
  refine xL_arg (k := 2) hC hX hbl hL hI (lv_at hl 1 rfl) (lv_at hl 5 rfl) (by omega) (by decide +kernel) d_L_law_313 d_L_law_314 d_L_law_316 d_L_law_317 d_L_law_318 ?_
  refine xB_callv (As := [.int (xs (i + 1)), .int (xs (i + 2))]) (rest := []) hC hI (hB l D om cJ cI H.size r) (cwV 2 ht gv_L_73 rfl rfl rfl ⟨rfl, by decide, by decide, by decide +kernel⟩ ⟨by decide, by decide⟩) rfl hl.1 rfl (Nat.zero_le _) d_L_law_319 hf (fun H locs hI => ?_)
  refine lv_aload_n hx hb d_L_law_322 rfl (lv_at hl 3 rfl) ?_
  refine xB_calli (As := []) (rest := []) hC hI c_M_thrown (cwV 0 ht gv_L_62 rfl rfl rfl ⟨rfl, by decide, by decide, by decide +kernel⟩ ⟨by decide, by decide⟩) rfl hl.1 rfl (Nat.zero_le _) d_L_law_323 hf (fun H locs hI => ?_)
  refine lv_iload hx hb d_L_law_326 (lv_at hl 0 rfl) ?_
  refine lv_icmp_eq hx hb (tgt := 333) d_L_law_328 (by decide) (fun _ => ?_) (fun h => absurd rfl h)
  refine lv_goto hx hb (tgt := 879) d_L_law_333 (by decide) ?_
  exact kk H locs ls u1 rv K1 V1 Z hR1 hI (lv_sub hl [1, 2, 3, 4, 5] rfl)
set_option maxHeartbeats 4000000 in
set_option maxRecDepth 100000 in
theorem st_fold {l : Launch} {p : Program} {e : Env} {s : State} {m : MethodId} {args : Array Value} {below : List Frame} {meth : Method} {c : Code} {H : Heap} {locs : List Loc} {cells slots : Nat} {Q : State → Prop} {ls : Array Slot} {D : va_G} {cJ cI : ClassId} {o om : Nat → Nat} {q b L i : Nat} {xs : Nat → Int32} {u : FR} {r : Int32} {K : Nat → Int32} {V : Nat → Int64} {Z : Int64}
    (hC : CX p m c code 8 s args R_L D cJ cI) (hX : va_X b L xs s s.heap) (hbl : b < s.heap.size) (hL : L ≤ 3072) (hz : xz s) (hfl : l.flags = flags0) (hi : i + 6 ≤ L) (hI : iL D o om q cJ cI s H locs u r K V Z) (hR : Rel u K V) (hl : lv_has ls 8 [(4, .int (nI i)), (3, .ref q), (2, .ref (om 0)), (1, .ref (o 0)), (0, .ref b)]) (hf : cells + 1 ≤ room_1.cells ∧ slots + 6 ≤ room_1.slots)
    (kk : ∀ (H1 : Heap) (locs1 : List Loc) (ls1 : Array Slot) (u1 : FR) (r1 : Int32) (K1 : Nat → Int32) (V1 : Nat → Int64) (Z1 : Int64), Rel u1 K1 V1 → iL D o om q cJ cI s H1 locs1 u1 r1 K1 V1 Z1 → lv_has ls1 8 [(4, .int (nI i)), (3, .ref q), (2, .ref (om 0)), (1, .ref (o 0)), (0, .ref b)] → W p l e room_1 s m args below meth c H1 locs1 (cells + 1) (slots + 6) Q (F0 m 879 ls1 [])) : W p l e room_1 s m args below meth c H locs cells slots Q (F0 m 336 ls []) := by
  have hx := hC.1.1
  have hb := hC.1.2.1
  have ht := hC.1.2.2.2.2
  obtain ⟨rv, u1, Z1, b9, hR1, hZ, hA, hB⟩ := op_fold hR Z (xs (i + 1)) (xs (i + 2)) (x_ln (xs (i + 3)) (xs (i + 4)))
  refine lv_aload_n hx hb d_L_law_336 rfl (lv_at hl 3 rfl) ?_
  refine xL_arg (k := 1) hC hX hbl hL hI (lv_at hl 0 rfl) (lv_at hl 4 rfl) (by omega) (by decide +kernel) d_L_law_337 d_L_law_338 d_L_law_340 d_L_law_341 d_L_law_342 ?_
  refine xL_arg (k := 2) hC hX hbl hL hI (lv_at hl 0 rfl) (lv_at hl 4 rfl) (by omega) (by decide +kernel) d_L_law_343 d_L_law_344 d_L_law_346 d_L_law_347 d_L_law_348 ?_
  refine xL_long (k := 3) (k2 := 4) hC hX hbl hL hI (lv_at hl 0 rfl) (lv_at hl 4 rfl) (by omega) (by decide +kernel) (by omega) (by decide +kernel) d_L_law_349 d_L_law_350 d_L_law_352 d_L_law_353 d_L_law_354 d_L_law_355 d_L_law_356 d_L_law_358 d_L_law_359 d_L_law_360 d_L_law_362 d_L_law_363 d_L_law_364 d_L_law_365 d_L_law_366 d_L_law_369 d_L_law_370 ?_
  refine lv_aload_n hx hb d_L_law_371 rfl (lv_at hl 1 rfl) ?_
  refine xA_callO (n := 5) (As := [.int (xs (i + 1)), .int (xs (i + 2)), .long (x_ln (xs (i + 3)) (xs (i + 4))), .ref q]) hC hz hI (hA l D o cJ cI H.size q hI.2.2.2.2.1 hfl) tw_209 rfl rfl ⟨by decide, by decide⟩ tw_0 ⟨by decide, by decide, by decide +kernel⟩ tw_207 tw_208 rfl hl.1 rfl d_L_law_372 hf (fun H locs hI => ?_)
  refine lv_istore hx hb d_L_law_375 hl (by decide) (lv' := [(5, .int rv), (4, .int (nI i)), (3, .ref q), (2, .ref (om 0)), (1, .ref (o 0)), (0, .ref b)]) rfl (fun ls hl => ?_)
  refine lv_aload_n hx hb d_L_law_377 rfl (lv_at hl 3 rfl) ?_
  refine xL_arg (k := 1) hC hX hbl hL hI (lv_at hl 1 rfl) (lv_at hl 5 rfl) (by omega) (by decide +kernel) d_L_law_378 d_L_law_379 d_L_law_381 d_L_law_382 d_L_law_383 ?_
  refine xL_arg (k := 2) hC hX hbl hL hI (lv_at hl 1 rfl) (lv_at hl 5 rfl) (by omega) (by decide +kernel) d_L_law_384 d_L_law_385 d_L_law_387 d_L_law_388 d_L_law_389 ?_
  refine xL_long (k := 3) (k2 := 4) hC hX hbl hL hI (lv_at hl 1 rfl) (lv_at hl 5 rfl) (by omega) (by decide +kernel) (by omega) (by decide +kernel) d_L_law_390 d_L_law_391 d_L_law_393 d_L_law_394 d_L_law_395 d_L_law_396 d_L_law_397 d_L_law_399 d_L_law_400 d_L_law_401 d_L_law_403 d_L_law_404 d_L_law_405 d_L_law_406 d_L_law_407 d_L_law_410 d_L_law_411 ?_
  refine xB_calll (As := [.int (xs (i + 1)), .int (xs (i + 2)), .long (x_ln (xs (i + 3)) (xs (i + 4)))]) (rest := []) hC hI (hB l D om cJ cI H.size r) (cwV 3 ht gv_L_77 rfl rfl rfl ⟨rfl, by decide, by decide, by decide +kernel⟩ ⟨by decide, by decide⟩) rfl hl.1 rfl (Nat.zero_le _) d_L_law_412 hf (fun H locs hI => ?_)
  refine lv_lstore hx hb d_L_law_415 hl (by decide) (lv' := [(6, .long b9), (5, .int rv), (4, .int (nI i)), (3, .ref q), (2, .ref (om 0)), (1, .ref (o 0)), (0, .ref b)]) rfl (fun ls hl => ?_)
  refine lv_aload_n hx hb d_L_law_417 rfl (lv_at hl 4 rfl) ?_
  refine xB_calli (As := []) (rest := []) hC hI c_M_thrown (cwV 0 ht gv_L_62 rfl rfl rfl ⟨rfl, by decide, by decide, by decide +kernel⟩ ⟨by decide, by decide⟩) rfl hl.1 rfl (Nat.zero_le _) d_L_law_418 hf (fun H locs hI => ?_)
  refine lv_iload hx hb d_L_law_421 (lv_at hl 1 rfl) ?_
  refine lv_icmp_eq hx hb (tgt := 428) d_L_law_423 (by decide) (fun _ => ?_) (fun h => absurd rfl h)
  refine lv_iload hx hb d_L_law_428 (lv_at hl 1 rfl) ?_
  refine lv_if_ne hx hb (tgt := 444) d_L_law_430 (by decide) (fun h0 => ?_) (fun h0 => ?_)
  · skip
    refine lv_goto hx hb (tgt := 879) d_L_law_444 (by decide) ?_
    exact kk H locs ls u1 rv K V Z1 hR1 hI (lv_sub hl [2, 3, 4, 5, 6] rfl)
  · skip
    refine lv_aload_n hx hb d_L_law_433 rfl (lv_at hl 3 rfl) ?_
    refine lv_iconst hx hb (v := nI 0) d_L_law_434 (by decide +kernel) ?_
    refine xO_ld hC hI d_L_law_435 ?_
    refine lv_lload hx hb d_L_law_436 (lv_at hl 0 rfl) ?_
    refine W.lcmp hx hb d_L_law_438 ?_
    refine lv_if_eq hx hb (tgt := 444) d_L_law_439 (by decide) (fun _ => ?_) (fun h => absurd ((lg_cmp_eq _ _).mpr (hZ h0)) h)
    refine lv_goto hx hb (tgt := 879) d_L_law_444 (by decide) ?_
    exact kk H locs ls u1 rv K V Z1 hR1 hI (lv_sub hl [2, 3, 4, 5, 6] rfl)
set_option maxHeartbeats 4000000 in
set_option maxRecDepth 100000 in
theorem st_again {l : Launch} {p : Program} {e : Env} {s : State} {m : MethodId} {args : Array Value} {below : List Frame} {meth : Method} {c : Code} {H : Heap} {locs : List Loc} {cells slots : Nat} {Q : State → Prop} {ls : Array Slot} {D : va_G} {cJ cI : ClassId} {o om : Nat → Nat} {q b L i : Nat} {xs : Nat → Int32} {u : FR} {r : Int32} {K : Nat → Int32} {V : Nat → Int64} {Z : Int64}
    (hC : CX p m c code 8 s args R_L D cJ cI) (hX : va_X b L xs s s.heap) (hbl : b < s.heap.size) (hL : L ≤ 3072) (hz : xz s) (hfl : l.flags = flags0) (hi : i + 6 ≤ L) (hI : iL D o om q cJ cI s H locs u r K V Z) (hR : Rel u K V) (hl : lv_has ls 8 [(4, .int (nI i)), (3, .ref q), (2, .ref (om 0)), (1, .ref (o 0)), (0, .ref b)]) (hf : cells + 1 ≤ room_1.cells ∧ slots + 6 ≤ room_1.slots)
    (kk : ∀ (H1 : Heap) (locs1 : List Loc) (ls1 : Array Slot) (u1 : FR) (r1 : Int32) (K1 : Nat → Int32) (V1 : Nat → Int64) (Z1 : Int64), Rel u1 K1 V1 → iL D o om q cJ cI s H1 locs1 u1 r1 K1 V1 Z1 → lv_has ls1 8 [(4, .int (nI i)), (3, .ref q), (2, .ref (om 0)), (1, .ref (o 0)), (0, .ref b)] → W p l e room_1 s m args below meth c H1 locs1 (cells + 1) (slots + 6) Q (F0 m 879 ls1 [])) : W p l e room_1 s m args below meth c H locs cells slots Q (F0 m 447 ls []) := by
  have hx := hC.1.1
  have hb := hC.1.2.1
  have ht := hC.1.2.2.2.2
  obtain ⟨rv, u1, Z1, b9, hR1, hZ, hA, hB⟩ := op_again hR Z (xs (i + 1)) (xs (i + 2)) (x_ln (xs (i + 3)) (xs (i + 4))) (xs (i + 5))
  refine lv_aload_n hx hb d_L_law_447 rfl (lv_at hl 3 rfl) ?_
  refine xL_arg (k := 1) hC hX hbl hL hI (lv_at hl 0 rfl) (lv_at hl 4 rfl) (by omega) (by decide +kernel) d_L_law_448 d_L_law_449 d_L_law_451 d_L_law_452 d_L_law_453 ?_
  refine xL_arg (k := 2) hC hX hbl hL hI (lv_at hl 0 rfl) (lv_at hl 4 rfl) (by omega) (by decide +kernel) d_L_law_454 d_L_law_455 d_L_law_457 d_L_law_458 d_L_law_459 ?_
  refine xL_long (k := 3) (k2 := 4) hC hX hbl hL hI (lv_at hl 0 rfl) (lv_at hl 4 rfl) (by omega) (by decide +kernel) (by omega) (by decide +kernel) d_L_law_460 d_L_law_461 d_L_law_463 d_L_law_464 d_L_law_465 d_L_law_466 d_L_law_467 d_L_law_469 d_L_law_470 d_L_law_471 d_L_law_473 d_L_law_474 d_L_law_475 d_L_law_476 d_L_law_477 d_L_law_480 d_L_law_481 ?_
  refine xL_arg (k := 5) hC hX hbl hL hI (lv_at hl 0 rfl) (lv_at hl 4 rfl) (by omega) (by decide +kernel) d_L_law_482 d_L_law_483 d_L_law_485 d_L_law_486 d_L_law_487 ?_
  refine lv_aload_n hx hb d_L_law_488 rfl (lv_at hl 1 rfl) ?_
  refine xA_callO (n := 6) (As := [.int (xs (i + 1)), .int (xs (i + 2)), .long (x_ln (xs (i + 3)) (xs (i + 4))), .int (xs (i + 5)), .ref q]) hC hz hI (hA l D o cJ cI H.size q hI.2.2.2.2.1 hfl) tw_225 rfl rfl ⟨by decide, by decide⟩ tw_0 ⟨by decide, by decide, by decide +kernel⟩ tw_223 tw_224 rfl hl.1 rfl d_L_law_489 hf (fun H locs hI => ?_)
  refine lv_istore hx hb d_L_law_492 hl (by decide) (lv' := [(5, .int rv), (4, .int (nI i)), (3, .ref q), (2, .ref (om 0)), (1, .ref (o 0)), (0, .ref b)]) rfl (fun ls hl => ?_)
  refine lv_aload_n hx hb d_L_law_494 rfl (lv_at hl 3 rfl) ?_
  refine xL_arg (k := 1) hC hX hbl hL hI (lv_at hl 1 rfl) (lv_at hl 5 rfl) (by omega) (by decide +kernel) d_L_law_495 d_L_law_496 d_L_law_498 d_L_law_499 d_L_law_500 ?_
  refine xL_arg (k := 2) hC hX hbl hL hI (lv_at hl 1 rfl) (lv_at hl 5 rfl) (by omega) (by decide +kernel) d_L_law_501 d_L_law_502 d_L_law_504 d_L_law_505 d_L_law_506 ?_
  refine xL_long (k := 3) (k2 := 4) hC hX hbl hL hI (lv_at hl 1 rfl) (lv_at hl 5 rfl) (by omega) (by decide +kernel) (by omega) (by decide +kernel) d_L_law_507 d_L_law_508 d_L_law_510 d_L_law_511 d_L_law_512 d_L_law_513 d_L_law_514 d_L_law_516 d_L_law_517 d_L_law_518 d_L_law_520 d_L_law_521 d_L_law_522 d_L_law_523 d_L_law_524 d_L_law_527 d_L_law_528 ?_
  refine xL_arg (k := 5) hC hX hbl hL hI (lv_at hl 1 rfl) (lv_at hl 5 rfl) (by omega) (by decide +kernel) d_L_law_529 d_L_law_530 d_L_law_532 d_L_law_533 d_L_law_534 ?_
  refine xB_calll (As := [.int (xs (i + 1)), .int (xs (i + 2)), .long (x_ln (xs (i + 3)) (xs (i + 4))), .int (xs (i + 5))]) (rest := []) hC hI (hB l D om cJ cI H.size r) (cwV 4 ht gv_L_81 rfl rfl rfl ⟨rfl, by decide, by decide, by decide +kernel⟩ ⟨by decide, by decide⟩) rfl hl.1 rfl (Nat.zero_le _) d_L_law_535 hf (fun H locs hI => ?_)
  refine lv_lstore hx hb d_L_law_538 hl (by decide) (lv' := [(6, .long b9), (5, .int rv), (4, .int (nI i)), (3, .ref q), (2, .ref (om 0)), (1, .ref (o 0)), (0, .ref b)]) rfl (fun ls hl => ?_)
  refine lv_aload_n hx hb d_L_law_540 rfl (lv_at hl 4 rfl) ?_
  refine xB_calli (As := []) (rest := []) hC hI c_M_thrown (cwV 0 ht gv_L_62 rfl rfl rfl ⟨rfl, by decide, by decide, by decide +kernel⟩ ⟨by decide, by decide⟩) rfl hl.1 rfl (Nat.zero_le _) d_L_law_541 hf (fun H locs hI => ?_)
  refine lv_iload hx hb d_L_law_544 (lv_at hl 1 rfl) ?_
  refine lv_icmp_eq hx hb (tgt := 551) d_L_law_546 (by decide) (fun _ => ?_) (fun h => absurd rfl h)
  refine lv_iload hx hb d_L_law_551 (lv_at hl 1 rfl) ?_
  refine lv_if_ne hx hb (tgt := 567) d_L_law_553 (by decide) (fun h0 => ?_) (fun h0 => ?_)
  · skip
    refine lv_goto hx hb (tgt := 879) d_L_law_567 (by decide) ?_
    exact kk H locs ls u1 rv K V Z1 hR1 hI (lv_sub hl [2, 3, 4, 5, 6] rfl)
  · skip
    refine lv_aload_n hx hb d_L_law_556 rfl (lv_at hl 3 rfl) ?_
    refine lv_iconst hx hb (v := nI 0) d_L_law_557 (by decide +kernel) ?_
    refine xO_ld hC hI d_L_law_558 ?_
    refine lv_lload hx hb d_L_law_559 (lv_at hl 0 rfl) ?_
    refine W.lcmp hx hb d_L_law_561 ?_
    refine lv_if_eq hx hb (tgt := 567) d_L_law_562 (by decide) (fun _ => ?_) (fun h => absurd ((lg_cmp_eq _ _).mpr (hZ h0)) h)
    refine lv_goto hx hb (tgt := 879) d_L_law_567 (by decide) ?_
    exact kk H locs ls u1 rv K V Z1 hR1 hI (lv_sub hl [2, 3, 4, 5, 6] rfl)
set_option maxHeartbeats 4000000 in
set_option maxRecDepth 100000 in
theorem st_least {l : Launch} {p : Program} {e : Env} {s : State} {m : MethodId} {args : Array Value} {below : List Frame} {meth : Method} {c : Code} {H : Heap} {locs : List Loc} {cells slots : Nat} {Q : State → Prop} {ls : Array Slot} {D : va_G} {cJ cI : ClassId} {o om : Nat → Nat} {q b L i : Nat} {xs : Nat → Int32} {u : FR} {r : Int32} {K : Nat → Int32} {V : Nat → Int64} {Z : Int64}
    (hC : CX p m c code 8 s args R_L D cJ cI) (hX : va_X b L xs s s.heap) (hbl : b < s.heap.size) (hL : L ≤ 3072) (hz : xz s) (hfl : l.flags = flags0) (hi : i + 6 ≤ L) (hI : iL D o om q cJ cI s H locs u r K V Z) (hR : Rel u K V) (hl : lv_has ls 8 [(4, .int (nI i)), (3, .ref q), (2, .ref (om 0)), (1, .ref (o 0)), (0, .ref b)]) (hf : cells + 1 ≤ room_1.cells ∧ slots + 6 ≤ room_1.slots)
    (kk : ∀ (H1 : Heap) (locs1 : List Loc) (ls1 : Array Slot) (u1 : FR) (r1 : Int32) (K1 : Nat → Int32) (V1 : Nat → Int64) (Z1 : Int64), Rel u1 K1 V1 → iL D o om q cJ cI s H1 locs1 u1 r1 K1 V1 Z1 → lv_has ls1 8 [(4, .int (nI i)), (3, .ref q), (2, .ref (om 0)), (1, .ref (o 0)), (0, .ref b)] → W p l e room_1 s m args below meth c H1 locs1 (cells + 1) (slots + 6) Q (F0 m 879 ls1 [])) : W p l e room_1 s m args below meth c H locs cells slots Q (F0 m 570 ls []) := by
  have hx := hC.1.1
  have hb := hC.1.2.1
  have ht := hC.1.2.2.2.2
  obtain ⟨rv, u1, Z1, b9, hR1, hZ, hA, hB⟩ := op_least hR Z (xs (i + 1)) (xs (i + 2))
  refine lv_aload_n hx hb d_L_law_570 rfl (lv_at hl 3 rfl) ?_
  refine xL_arg (k := 1) hC hX hbl hL hI (lv_at hl 0 rfl) (lv_at hl 4 rfl) (by omega) (by decide +kernel) d_L_law_571 d_L_law_572 d_L_law_574 d_L_law_575 d_L_law_576 ?_
  refine xL_arg (k := 2) hC hX hbl hL hI (lv_at hl 0 rfl) (lv_at hl 4 rfl) (by omega) (by decide +kernel) d_L_law_577 d_L_law_578 d_L_law_580 d_L_law_581 d_L_law_582 ?_
  refine lv_aload_n hx hb d_L_law_583 rfl (lv_at hl 1 rfl) ?_
  refine xA_callO (n := 4) (As := [.int (xs (i + 1)), .int (xs (i + 2)), .ref q]) hC hz hI (hA l D o cJ cI H.size q hI.2.2.2.2.1 hfl) tw_232 rfl rfl ⟨by decide, by decide⟩ tw_0 ⟨by decide, by decide, by decide +kernel⟩ tw_230 tw_231 rfl hl.1 rfl d_L_law_584 hf (fun H locs hI => ?_)
  refine lv_istore hx hb d_L_law_587 hl (by decide) (lv' := [(5, .int rv), (4, .int (nI i)), (3, .ref q), (2, .ref (om 0)), (1, .ref (o 0)), (0, .ref b)]) rfl (fun ls hl => ?_)
  refine lv_aload_n hx hb d_L_law_589 rfl (lv_at hl 3 rfl) ?_
  refine xL_arg (k := 1) hC hX hbl hL hI (lv_at hl 1 rfl) (lv_at hl 5 rfl) (by omega) (by decide +kernel) d_L_law_590 d_L_law_591 d_L_law_593 d_L_law_594 d_L_law_595 ?_
  refine xL_arg (k := 2) hC hX hbl hL hI (lv_at hl 1 rfl) (lv_at hl 5 rfl) (by omega) (by decide +kernel) d_L_law_596 d_L_law_597 d_L_law_599 d_L_law_600 d_L_law_601 ?_
  refine xB_calll (As := [.int (xs (i + 1)), .int (xs (i + 2))]) (rest := []) hC hI (hB l D om cJ cI H.size r) (cwV 2 ht gv_L_85 rfl rfl rfl ⟨rfl, by decide, by decide, by decide +kernel⟩ ⟨by decide, by decide⟩) rfl hl.1 rfl (Nat.zero_le _) d_L_law_602 hf (fun H locs hI => ?_)
  refine lv_lstore hx hb d_L_law_605 hl (by decide) (lv' := [(6, .long b9), (5, .int rv), (4, .int (nI i)), (3, .ref q), (2, .ref (om 0)), (1, .ref (o 0)), (0, .ref b)]) rfl (fun ls hl => ?_)
  refine lv_aload_n hx hb d_L_law_607 rfl (lv_at hl 4 rfl) ?_
  refine xB_calli (As := []) (rest := []) hC hI c_M_thrown (cwV 0 ht gv_L_62 rfl rfl rfl ⟨rfl, by decide, by decide, by decide +kernel⟩ ⟨by decide, by decide⟩) rfl hl.1 rfl (Nat.zero_le _) d_L_law_608 hf (fun H locs hI => ?_)
  refine lv_iload hx hb d_L_law_611 (lv_at hl 1 rfl) ?_
  refine lv_icmp_eq hx hb (tgt := 618) d_L_law_613 (by decide) (fun _ => ?_) (fun h => absurd rfl h)
  refine lv_iload hx hb d_L_law_618 (lv_at hl 1 rfl) ?_
  refine lv_if_ne hx hb (tgt := 634) d_L_law_620 (by decide) (fun h0 => ?_) (fun h0 => ?_)
  · skip
    refine lv_goto hx hb (tgt := 879) d_L_law_634 (by decide) ?_
    exact kk H locs ls u1 rv K V Z1 hR1 hI (lv_sub hl [2, 3, 4, 5, 6] rfl)
  · skip
    refine lv_aload_n hx hb d_L_law_623 rfl (lv_at hl 3 rfl) ?_
    refine lv_iconst hx hb (v := nI 0) d_L_law_624 (by decide +kernel) ?_
    refine xO_ld hC hI d_L_law_625 ?_
    refine lv_lload hx hb d_L_law_626 (lv_at hl 0 rfl) ?_
    refine W.lcmp hx hb d_L_law_628 ?_
    refine lv_if_eq hx hb (tgt := 634) d_L_law_629 (by decide) (fun _ => ?_) (fun h => absurd ((lg_cmp_eq _ _).mpr (hZ h0)) h)
    refine lv_goto hx hb (tgt := 879) d_L_law_634 (by decide) ?_
    exact kk H locs ls u1 rv K V Z1 hR1 hI (lv_sub hl [2, 3, 4, 5, 6] rfl)
set_option maxHeartbeats 4000000 in
set_option maxRecDepth 100000 in
theorem st_greatest {l : Launch} {p : Program} {e : Env} {s : State} {m : MethodId} {args : Array Value} {below : List Frame} {meth : Method} {c : Code} {H : Heap} {locs : List Loc} {cells slots : Nat} {Q : State → Prop} {ls : Array Slot} {D : va_G} {cJ cI : ClassId} {o om : Nat → Nat} {q b L i : Nat} {xs : Nat → Int32} {u : FR} {r : Int32} {K : Nat → Int32} {V : Nat → Int64} {Z : Int64}
    (hC : CX p m c code 8 s args R_L D cJ cI) (hX : va_X b L xs s s.heap) (hbl : b < s.heap.size) (hL : L ≤ 3072) (hz : xz s) (hfl : l.flags = flags0) (hi : i + 6 ≤ L) (hI : iL D o om q cJ cI s H locs u r K V Z) (hR : Rel u K V) (hl : lv_has ls 8 [(4, .int (nI i)), (3, .ref q), (2, .ref (om 0)), (1, .ref (o 0)), (0, .ref b)]) (hf : cells + 1 ≤ room_1.cells ∧ slots + 6 ≤ room_1.slots)
    (kk : ∀ (H1 : Heap) (locs1 : List Loc) (ls1 : Array Slot) (u1 : FR) (r1 : Int32) (K1 : Nat → Int32) (V1 : Nat → Int64) (Z1 : Int64), Rel u1 K1 V1 → iL D o om q cJ cI s H1 locs1 u1 r1 K1 V1 Z1 → lv_has ls1 8 [(4, .int (nI i)), (3, .ref q), (2, .ref (om 0)), (1, .ref (o 0)), (0, .ref b)] → W p l e room_1 s m args below meth c H1 locs1 (cells + 1) (slots + 6) Q (F0 m 879 ls1 [])) : W p l e room_1 s m args below meth c H locs cells slots Q (F0 m 637 ls []) := by
  have hx := hC.1.1
  have hb := hC.1.2.1
  have ht := hC.1.2.2.2.2
  obtain ⟨rv, u1, Z1, b9, hR1, hZ, hA, hB⟩ := op_greatest hR Z (xs (i + 1)) (xs (i + 2))
  refine lv_aload_n hx hb d_L_law_637 rfl (lv_at hl 3 rfl) ?_
  refine xL_arg (k := 1) hC hX hbl hL hI (lv_at hl 0 rfl) (lv_at hl 4 rfl) (by omega) (by decide +kernel) d_L_law_638 d_L_law_639 d_L_law_641 d_L_law_642 d_L_law_643 ?_
  refine xL_arg (k := 2) hC hX hbl hL hI (lv_at hl 0 rfl) (lv_at hl 4 rfl) (by omega) (by decide +kernel) d_L_law_644 d_L_law_645 d_L_law_647 d_L_law_648 d_L_law_649 ?_
  refine lv_aload_n hx hb d_L_law_650 rfl (lv_at hl 1 rfl) ?_
  refine xA_callO (n := 4) (As := [.int (xs (i + 1)), .int (xs (i + 2)), .ref q]) hC hz hI (hA l D o cJ cI H.size q hI.2.2.2.2.1 hfl) tw_258 rfl rfl ⟨by decide, by decide⟩ tw_0 ⟨by decide, by decide, by decide +kernel⟩ tw_256 tw_257 rfl hl.1 rfl d_L_law_651 hf (fun H locs hI => ?_)
  refine lv_istore hx hb d_L_law_654 hl (by decide) (lv' := [(5, .int rv), (4, .int (nI i)), (3, .ref q), (2, .ref (om 0)), (1, .ref (o 0)), (0, .ref b)]) rfl (fun ls hl => ?_)
  refine lv_aload_n hx hb d_L_law_656 rfl (lv_at hl 3 rfl) ?_
  refine xL_arg (k := 1) hC hX hbl hL hI (lv_at hl 1 rfl) (lv_at hl 5 rfl) (by omega) (by decide +kernel) d_L_law_657 d_L_law_658 d_L_law_660 d_L_law_661 d_L_law_662 ?_
  refine xL_arg (k := 2) hC hX hbl hL hI (lv_at hl 1 rfl) (lv_at hl 5 rfl) (by omega) (by decide +kernel) d_L_law_663 d_L_law_664 d_L_law_666 d_L_law_667 d_L_law_668 ?_
  refine xB_calll (As := [.int (xs (i + 1)), .int (xs (i + 2))]) (rest := []) hC hI (hB l D om cJ cI H.size r) (cwV 2 ht gv_L_88 rfl rfl rfl ⟨rfl, by decide, by decide, by decide +kernel⟩ ⟨by decide, by decide⟩) rfl hl.1 rfl (Nat.zero_le _) d_L_law_669 hf (fun H locs hI => ?_)
  refine lv_lstore hx hb d_L_law_672 hl (by decide) (lv' := [(6, .long b9), (5, .int rv), (4, .int (nI i)), (3, .ref q), (2, .ref (om 0)), (1, .ref (o 0)), (0, .ref b)]) rfl (fun ls hl => ?_)
  refine lv_aload_n hx hb d_L_law_674 rfl (lv_at hl 4 rfl) ?_
  refine xB_calli (As := []) (rest := []) hC hI c_M_thrown (cwV 0 ht gv_L_62 rfl rfl rfl ⟨rfl, by decide, by decide, by decide +kernel⟩ ⟨by decide, by decide⟩) rfl hl.1 rfl (Nat.zero_le _) d_L_law_675 hf (fun H locs hI => ?_)
  refine lv_iload hx hb d_L_law_678 (lv_at hl 1 rfl) ?_
  refine lv_icmp_eq hx hb (tgt := 685) d_L_law_680 (by decide) (fun _ => ?_) (fun h => absurd rfl h)
  refine lv_iload hx hb d_L_law_685 (lv_at hl 1 rfl) ?_
  refine lv_if_ne hx hb (tgt := 701) d_L_law_687 (by decide) (fun h0 => ?_) (fun h0 => ?_)
  · skip
    refine lv_goto hx hb (tgt := 879) d_L_law_701 (by decide) ?_
    exact kk H locs ls u1 rv K V Z1 hR1 hI (lv_sub hl [2, 3, 4, 5, 6] rfl)
  · skip
    refine lv_aload_n hx hb d_L_law_690 rfl (lv_at hl 3 rfl) ?_
    refine lv_iconst hx hb (v := nI 0) d_L_law_691 (by decide +kernel) ?_
    refine xO_ld hC hI d_L_law_692 ?_
    refine lv_lload hx hb d_L_law_693 (lv_at hl 0 rfl) ?_
    refine W.lcmp hx hb d_L_law_695 ?_
    refine lv_if_eq hx hb (tgt := 701) d_L_law_696 (by decide) (fun _ => ?_) (fun h => absurd ((lg_cmp_eq _ _).mpr (hZ h0)) h)
    refine lv_goto hx hb (tgt := 879) d_L_law_701 (by decide) ?_
    exact kk H locs ls u1 rv K V Z1 hR1 hI (lv_sub hl [2, 3, 4, 5, 6] rfl)
set_option maxHeartbeats 4000000 in
set_option maxRecDepth 100000 in
theorem st_fixed {l : Launch} {p : Program} {e : Env} {s : State} {m : MethodId} {args : Array Value} {below : List Frame} {meth : Method} {c : Code} {H : Heap} {locs : List Loc} {cells slots : Nat} {Q : State → Prop} {ls : Array Slot} {D : va_G} {cJ cI : ClassId} {o om : Nat → Nat} {q b L i : Nat} {xs : Nat → Int32} {u : FR} {r : Int32} {K : Nat → Int32} {V : Nat → Int64} {Z : Int64}
    (hC : CX p m c code 8 s args R_L D cJ cI) (hX : va_X b L xs s s.heap) (hbl : b < s.heap.size) (hL : L ≤ 3072) (hz : xz s) (hfl : l.flags = flags0) (hi : i + 6 ≤ L) (hI : iL D o om q cJ cI s H locs u r K V Z) (hR : Rel u K V) (hl : lv_has ls 8 [(4, .int (nI i)), (3, .ref q), (2, .ref (om 0)), (1, .ref (o 0)), (0, .ref b)]) (hf : cells + 1 ≤ room_1.cells ∧ slots + 6 ≤ room_1.slots)
    (kk : ∀ (H1 : Heap) (locs1 : List Loc) (ls1 : Array Slot) (u1 : FR) (r1 : Int32) (K1 : Nat → Int32) (V1 : Nat → Int64) (Z1 : Int64), Rel u1 K1 V1 → iL D o om q cJ cI s H1 locs1 u1 r1 K1 V1 Z1 → lv_has ls1 8 [(4, .int (nI i)), (3, .ref q), (2, .ref (om 0)), (1, .ref (o 0)), (0, .ref b)] → W p l e room_1 s m args below meth c H1 locs1 (cells + 1) (slots + 6) Q (F0 m 879 ls1 [])) : W p l e room_1 s m args below meth c H locs cells slots Q (F0 m 704 ls []) := by
  have hx := hC.1.1
  have hb := hC.1.2.1
  have ht := hC.1.2.2.2.2
  obtain ⟨rv, u1, Z1, b9, hR1, hZ, hA, hB⟩ := op_fixed hR Z (xs (i + 1)) (xs (i + 2)) (x_nz (xs (i + 3)))
  refine lv_aload_n hx hb d_L_law_704 rfl (lv_at hl 3 rfl) ?_
  refine xL_arg (k := 1) hC hX hbl hL hI (lv_at hl 0 rfl) (lv_at hl 4 rfl) (by omega) (by decide +kernel) d_L_law_705 d_L_law_706 d_L_law_708 d_L_law_709 d_L_law_710 ?_
  refine xL_arg (k := 2) hC hX hbl hL hI (lv_at hl 0 rfl) (lv_at hl 4 rfl) (by omega) (by decide +kernel) d_L_law_711 d_L_law_712 d_L_law_714 d_L_law_715 d_L_law_716 ?_
  refine xL_bool (k := 3) hC hX hbl hL hI (lv_at hl 0 rfl) (lv_at hl 4 rfl) (by omega) (by decide +kernel) d_L_law_717 d_L_law_718 d_L_law_720 d_L_law_721 d_L_law_722 d_L_law_723 d_L_law_726 d_L_law_727 d_L_law_730 ?_
  refine lv_aload_n hx hb d_L_law_731 rfl (lv_at hl 1 rfl) ?_
  refine xA_callO (n := 5) (As := [.int (xs (i + 1)), .int (xs (i + 2)), .int (x_nz (xs (i + 3))), .ref q]) hC hz hI (hA l D o cJ cI H.size q hI.2.2.2.2.1 hfl) tw_265 rfl rfl ⟨by decide, by decide⟩ tw_0 ⟨by decide, by decide, by decide +kernel⟩ tw_263 tw_264 rfl hl.1 rfl d_L_law_732 hf (fun H locs hI => ?_)
  refine lv_istore hx hb d_L_law_735 hl (by decide) (lv' := [(5, .int rv), (4, .int (nI i)), (3, .ref q), (2, .ref (om 0)), (1, .ref (o 0)), (0, .ref b)]) rfl (fun ls hl => ?_)
  refine lv_aload_n hx hb d_L_law_737 rfl (lv_at hl 3 rfl) ?_
  refine xL_arg (k := 1) hC hX hbl hL hI (lv_at hl 1 rfl) (lv_at hl 5 rfl) (by omega) (by decide +kernel) d_L_law_738 d_L_law_739 d_L_law_741 d_L_law_742 d_L_law_743 ?_
  refine xL_arg (k := 2) hC hX hbl hL hI (lv_at hl 1 rfl) (lv_at hl 5 rfl) (by omega) (by decide +kernel) d_L_law_744 d_L_law_745 d_L_law_747 d_L_law_748 d_L_law_749 ?_
  refine xL_bool (k := 3) hC hX hbl hL hI (lv_at hl 1 rfl) (lv_at hl 5 rfl) (by omega) (by decide +kernel) d_L_law_750 d_L_law_751 d_L_law_753 d_L_law_754 d_L_law_755 d_L_law_756 d_L_law_759 d_L_law_760 d_L_law_763 ?_
  refine xB_calll (As := [.int (xs (i + 1)), .int (xs (i + 2)), .int (x_nz (xs (i + 3)))]) (rest := []) hC hI (hB l D om cJ cI H.size r) (cwV 3 ht gv_L_92 rfl rfl rfl ⟨rfl, by decide, by decide, by decide +kernel⟩ ⟨by decide, by decide⟩) rfl hl.1 rfl (Nat.zero_le _) d_L_law_764 hf (fun H locs hI => ?_)
  refine lv_lstore hx hb d_L_law_767 hl (by decide) (lv' := [(6, .long b9), (5, .int rv), (4, .int (nI i)), (3, .ref q), (2, .ref (om 0)), (1, .ref (o 0)), (0, .ref b)]) rfl (fun ls hl => ?_)
  refine lv_aload_n hx hb d_L_law_769 rfl (lv_at hl 4 rfl) ?_
  refine xB_calli (As := []) (rest := []) hC hI c_M_thrown (cwV 0 ht gv_L_62 rfl rfl rfl ⟨rfl, by decide, by decide, by decide +kernel⟩ ⟨by decide, by decide⟩) rfl hl.1 rfl (Nat.zero_le _) d_L_law_770 hf (fun H locs hI => ?_)
  refine lv_iload hx hb d_L_law_773 (lv_at hl 1 rfl) ?_
  refine lv_icmp_eq hx hb (tgt := 780) d_L_law_775 (by decide) (fun _ => ?_) (fun h => absurd rfl h)
  refine lv_iload hx hb d_L_law_780 (lv_at hl 1 rfl) ?_
  refine lv_if_ne hx hb (tgt := 796) d_L_law_782 (by decide) (fun h0 => ?_) (fun h0 => ?_)
  · skip
    refine lv_goto hx hb (tgt := 879) d_L_law_796 (by decide) ?_
    exact kk H locs ls u1 rv K V Z1 hR1 hI (lv_sub hl [2, 3, 4, 5, 6] rfl)
  · skip
    refine lv_aload_n hx hb d_L_law_785 rfl (lv_at hl 3 rfl) ?_
    refine lv_iconst hx hb (v := nI 0) d_L_law_786 (by decide +kernel) ?_
    refine xO_ld hC hI d_L_law_787 ?_
    refine lv_lload hx hb d_L_law_788 (lv_at hl 0 rfl) ?_
    refine W.lcmp hx hb d_L_law_790 ?_
    refine lv_if_eq hx hb (tgt := 796) d_L_law_791 (by decide) (fun _ => ?_) (fun h => absurd ((lg_cmp_eq _ _).mpr (hZ h0)) h)
    refine lv_goto hx hb (tgt := 879) d_L_law_796 (by decide) ?_
    exact kk H locs ls u1 rv K V Z1 hR1 hI (lv_sub hl [2, 3, 4, 5, 6] rfl)
set_option maxHeartbeats 4000000 in
set_option maxRecDepth 100000 in
theorem st_about {l : Launch} {p : Program} {e : Env} {s : State} {m : MethodId} {args : Array Value} {below : List Frame} {meth : Method} {c : Code} {H : Heap} {locs : List Loc} {cells slots : Nat} {Q : State → Prop} {ls : Array Slot} {D : va_G} {cJ cI : ClassId} {o om : Nat → Nat} {q b L i : Nat} {xs : Nat → Int32} {u : FR} {r : Int32} {K : Nat → Int32} {V : Nat → Int64} {Z : Int64}
    (hC : CX p m c code 8 s args R_L D cJ cI) (hX : va_X b L xs s s.heap) (hbl : b < s.heap.size) (hL : L ≤ 3072) (hz : xz s) (hfl : l.flags = flags0) (hi : i + 6 ≤ L) (hI : iL D o om q cJ cI s H locs u r K V Z) (hR : Rel u K V) (hl : lv_has ls 8 [(4, .int (nI i)), (3, .ref q), (2, .ref (om 0)), (1, .ref (o 0)), (0, .ref b)]) (hf : cells + 1 ≤ room_1.cells ∧ slots + 6 ≤ room_1.slots)
    (kk : ∀ (H1 : Heap) (locs1 : List Loc) (ls1 : Array Slot) (u1 : FR) (r1 : Int32) (K1 : Nat → Int32) (V1 : Nat → Int64) (Z1 : Int64), Rel u1 K1 V1 → iL D o om q cJ cI s H1 locs1 u1 r1 K1 V1 Z1 → lv_has ls1 8 [(4, .int (nI i)), (3, .ref q), (2, .ref (om 0)), (1, .ref (o 0)), (0, .ref b)] → W p l e room_1 s m args below meth c H1 locs1 (cells + 1) (slots + 6) Q (F0 m 879 ls1 [])) : W p l e room_1 s m args below meth c H locs cells slots Q (F0 m 799 ls []) := by
  have hx := hC.1.1
  have hb := hC.1.2.1
  have ht := hC.1.2.2.2.2
  obtain ⟨rv, u1, Z1, b9, hR1, hZ, hA, hB⟩ := op_about hR Z (xs (i + 1)) (xs (i + 2)) (xs (i + 3))
  refine lv_aload_n hx hb d_L_law_799 rfl (lv_at hl 3 rfl) ?_
  refine xL_arg (k := 1) hC hX hbl hL hI (lv_at hl 0 rfl) (lv_at hl 4 rfl) (by omega) (by decide +kernel) d_L_law_800 d_L_law_801 d_L_law_803 d_L_law_804 d_L_law_805 ?_
  refine xL_arg (k := 2) hC hX hbl hL hI (lv_at hl 0 rfl) (lv_at hl 4 rfl) (by omega) (by decide +kernel) d_L_law_806 d_L_law_807 d_L_law_809 d_L_law_810 d_L_law_811 ?_
  refine xL_arg (k := 3) hC hX hbl hL hI (lv_at hl 0 rfl) (lv_at hl 4 rfl) (by omega) (by decide +kernel) d_L_law_812 d_L_law_813 d_L_law_815 d_L_law_816 d_L_law_817 ?_
  refine lv_aload_n hx hb d_L_law_818 rfl (lv_at hl 1 rfl) ?_
  refine xA_callO (n := 5) (As := [.int (xs (i + 1)), .int (xs (i + 2)), .int (xs (i + 3)), .ref q]) hC hz hI (hA l D o cJ cI H.size q hI.2.2.2.2.1 hfl) tw_272 rfl rfl ⟨by decide, by decide⟩ tw_0 ⟨by decide, by decide, by decide +kernel⟩ tw_270 tw_271 rfl hl.1 rfl d_L_law_819 hf (fun H locs hI => ?_)
  refine lv_istore hx hb d_L_law_822 hl (by decide) (lv' := [(5, .int rv), (4, .int (nI i)), (3, .ref q), (2, .ref (om 0)), (1, .ref (o 0)), (0, .ref b)]) rfl (fun ls hl => ?_)
  refine lv_aload_n hx hb d_L_law_824 rfl (lv_at hl 3 rfl) ?_
  refine xL_arg (k := 1) hC hX hbl hL hI (lv_at hl 1 rfl) (lv_at hl 5 rfl) (by omega) (by decide +kernel) d_L_law_825 d_L_law_826 d_L_law_828 d_L_law_829 d_L_law_830 ?_
  refine xL_arg (k := 2) hC hX hbl hL hI (lv_at hl 1 rfl) (lv_at hl 5 rfl) (by omega) (by decide +kernel) d_L_law_831 d_L_law_832 d_L_law_834 d_L_law_835 d_L_law_836 ?_
  refine xL_arg (k := 3) hC hX hbl hL hI (lv_at hl 1 rfl) (lv_at hl 5 rfl) (by omega) (by decide +kernel) d_L_law_837 d_L_law_838 d_L_law_840 d_L_law_841 d_L_law_842 ?_
  refine xB_calli (As := [.int (xs (i + 1)), .int (xs (i + 2)), .int (xs (i + 3))]) (rest := []) hC hI (hB l D om cJ cI H.size r) (cwV 3 ht gv_L_96 rfl rfl rfl ⟨rfl, by decide, by decide, by decide +kernel⟩ ⟨by decide, by decide⟩) rfl hl.1 rfl (Nat.zero_le _) d_L_law_843 hf (fun H locs hI => ?_)
  refine lv_istore hx hb d_L_law_846 hl (by decide) (lv' := [(6, .int b9), (5, .int rv), (4, .int (nI i)), (3, .ref q), (2, .ref (om 0)), (1, .ref (o 0)), (0, .ref b)]) rfl (fun ls hl => ?_)
  refine lv_aload_n hx hb d_L_law_848 rfl (lv_at hl 4 rfl) ?_
  refine xB_calli (As := []) (rest := []) hC hI c_M_thrown (cwV 0 ht gv_L_62 rfl rfl rfl ⟨rfl, by decide, by decide, by decide +kernel⟩ ⟨by decide, by decide⟩) rfl hl.1 rfl (Nat.zero_le _) d_L_law_849 hf (fun H locs hI => ?_)
  refine lv_iload hx hb d_L_law_852 (lv_at hl 1 rfl) ?_
  refine lv_icmp_eq hx hb (tgt := 859) d_L_law_854 (by decide) (fun _ => ?_) (fun h => absurd rfl h)
  refine lv_iload hx hb d_L_law_859 (lv_at hl 1 rfl) ?_
  refine lv_if_ne hx hb (tgt := 876) d_L_law_861 (by decide) (fun h0 => ?_) (fun h0 => ?_)
  · skip
    refine lv_goto hx hb (tgt := 879) d_L_law_876 (by decide) ?_
    exact kk H locs ls u1 rv K V Z1 hR1 hI (lv_sub hl [2, 3, 4, 5, 6] rfl)
  · skip
    refine lv_aload_n hx hb d_L_law_864 rfl (lv_at hl 3 rfl) ?_
    refine lv_iconst hx hb (v := nI 0) d_L_law_865 (by decide +kernel) ?_
    refine xO_ld hC hI d_L_law_866 ?_
    refine lv_iload hx hb d_L_law_867 (lv_at hl 0 rfl) ?_
    refine lv_i2l hx hb (v := b9.toInt64) d_L_law_869 rfl ?_
    refine W.lcmp hx hb d_L_law_870 ?_
    refine lv_if_eq hx hb (tgt := 876) d_L_law_871 (by decide) (fun _ => ?_) (fun h => absurd ((lg_cmp_eq _ _).mpr (hZ h0)) h)
    refine lv_goto hx hb (tgt := 879) d_L_law_876 (by decide) ?_
    exact kk H locs ls u1 rv K V Z1 hR1 hI (lv_sub hl [2, 3, 4, 5, 6] rfl)
end
section
/-! THE CLAIM OUT OF ONE WALK OF THE LAW'S BODY. Your part is whole_start (and what it stands on); all else here is the same for every law, but numbers. -/
def R_law : String := "FoldRowLaw"
def lw_P (b : Addr) (xs : List Int32) (args : Array Value) (s : State) : Prop := args = #[.ref b] ∧ s.IntsAt b xs ∧ xs.length ≤ 3072 ∧ (Jvm.Cond.and given_1 narrow_1).before args s = true
def lw_Q (_ : Array Value) (s : State) (o : Outcome) (t : State) : Prop := o = .returned (some (.int 1)) ∧ Framed s o t [] 1037 10782
def lw_Z (below : List Frame) (a : Array Value) (s : State) : State → Prop := fun t => ∃ o, t.status = .running ∧ Ended t below o ∧ lw_Q a s o t
/-- the law's own end, with 1 on the stack, nothing written that was there before, its room as the claim has it -/
theorem lw_ret {p : Program} {l : Launch} {e : Env} {s : State} {m : MethodId} {below : List Frame} {meth : Method} {c : Code} {b : Nat} (hx : p.tables.exec = Jvm.exec) (hb : c.code = code) (hr : meth.sig.returnType = ret) (hlocks : meth.locks = false) {pc : Nat} {H : Heap} {ls : Array Slot} (hdg : decode code pc = .ok (.ireturn, 1)) : W p l e room_1 s m #[Value.ref b] below meth c H [] 1037 10782 (lw_Z below #[Value.ref b] s) (F0 m pc ls [.int 1]) := by
  intro T hT X
  obtain ⟨fs, hret, hrun, hended, hW, hframe⟩ := X.leave (v := some (.int 1)) (hlocks := hlocks) (fun h => by rw [hr] at h; cases h)
  have hmeth' : T.vm.method? m = some meth := X.method'
  refine ⟨T.setFrames fs, ?_, .returned (some (.int 1)), hrun, hended, rfl, ⟨_, rfl⟩, hW, hframe⟩
  jvm_step X.here [X.here.top, hx, hb, hdg, hmeth', hr, ret, narrow_b1]
  (try refine ⟨rfl, ?_⟩); (try refine ⟨rfl, ?_⟩)
  first | (intro acts; rw [hret _ acts rfl rfl rfl]) | rw [hret _ _ rfl rfl rfl]
  exact Steps.refl _
/-- what holds at the law's entry: the machine, the code, the tables' words (any of lw_tbl by 'hts w (by decide +kernel)'), the script of L ints xs at the cell b, what the Statement gives of the start (any of its parts by flat_of_before) -/
def lw_At (p : Program) (s : State) (m : MethodId) (meth : Method) (c : Code) (b L : Nat) (xs : Nat → Int32) : Prop :=
  p.tables.exec = Jvm.exec ∧ c.code = code ∧ meth.sig.returnType = ret ∧ c.maxLocals = 8 ∧ s.vm.findClass R_law = some m.cls ∧ (∀ w ∈ lw_tbl, w.before #[Value.ref b] s = true) ∧ va_X b L xs s s.heap ∧ b < s.heap.size ∧ meth.locks = false ∧ (Jvm.Cond.and given_1 narrow_1).before #[Value.ref b] s = true
end
section
/-! the law's body: its start, its loop, its end -/
theorem dist_push {A : Nat → Prop} {ws : va_W} {a : Nat} {e : va_E} (h : va_D A (ws ++ [(a, e)])) {k : Nat} {x : Nat × va_E} (hk : ws[k]? = some x) : x.1 ≠ a := by
  have hl : k < ws.length := (List.getElem?_eq_some_iff.mp hk).1
  intro z
  have h1 : (ws ++ [(a, e)])[k]? = some x := by rw [List.getElem?_append_left hl]; exact hk
  have h2 : (ws ++ [(a, e)])[ws.length]? = some (a, e) := by simp
  have := h.1 k ws.length x (a, e) h1 h2 z
  omega
theorem last_push {A : Nat → Prop} {ws : va_W} {a : Nat} {e : va_E} (h : va_D A (ws ++ [(a, e)])) : A a := h.2 ws.length (a, e) (by simp)
theorem wF_at {o : Nat → Nat} {cJ cI : ClassId} {M L G : Nat → Int64} {K : Nat → Int32} {V : Nat → Int64} {a b t : Int64} {i : Nat} (h : i < 6) : ∃ x : Nat × va_E, (wF o cJ cI M L G K V a b t)[i]? = some x ∧ x.1 = o i := by
  match i, h with
  | 0, _ => exact ⟨_, rfl, rfl⟩
  | 1, _ => exact ⟨_, rfl, rfl⟩
  | 2, _ => exact ⟨_, rfl, rfl⟩
  | 3, _ => exact ⟨_, rfl, rfl⟩
  | 4, _ => exact ⟨_, rfl, rfl⟩
  | 5, _ => exact ⟨_, rfl, rfl⟩
  | k + 6, h => omega
theorem wM_at {o : Nat → Nat} {cJ cI : ClassId} {r : Int32} {K : Nat → Int32} {V : Nat → Int64} {i : Nat} (h : i < 3) : ∃ x : Nat × va_E, (wM o cJ cI r K V)[i]? = some x ∧ x.1 = o i := by
  match i, h with
  | 0, _ => exact ⟨_, rfl, rfl⟩
  | 1, _ => exact ⟨_, rfl, rfl⟩
  | 2, _ => exact ⟨_, rfl, rfl⟩
  | k + 3, h => omega
/-- what a throw needs of the start -/
theorem xz_start {args : Array Value} {s : State} (hts : ∀ w ∈ lw_tbl, w.before args s = true) (hpre : (Jvm.Cond.and given_1 narrow_1).before args s = true) : xz s := by
  have hs := flat_of_before _ hpre
  refine ⟨xzs.of (hts _ twx_97) (hs _ (by decide +kernel)), xzs.of (hts _ twx_99) (hs _ (by decide +kernel)), ?_, va_Nc.of (hs _ (by decide +kernel)), va_Nc.of (hs _ (by decide +kernel))⟩
  exact List.forall_mem_cons.mpr ⟨va_any rfl (hts _ twx_73), List.forall_mem_cons.mpr ⟨va_any rfl (hts _ twx_75), List.forall_mem_cons.mpr ⟨va_any rfl (hts _ twx_77), List.forall_mem_cons.mpr ⟨va_any rfl (hts _ twx_72), List.forall_mem_cons.mpr ⟨va_any rfl (hts _ twx_141), List.forall_mem_cons.mpr ⟨va_any rfl (hts _ twx_243), fun _ h => absurd h List.not_mem_nil⟩⟩⟩⟩⟩⟩
/-- the classes' numbers and slots -/
theorem K_start {args : Array Value} {s : State} (ht : ∀ w ∈ tb, w.before args s = true) : ∃ (D : va_G) (cJ cI : ClassId), va_K D xcl (xty cJ cI) s := by
  obtain ⟨cF, iS, hF⟩ := u_known ht uF_in (ht _ tw_11)
  obtain ⟨cM, iT, hM⟩ := u_known ht uM_in (ht _ tw_278)
  obtain ⟨cJ, kJ, compJ, j1, j2, j3⟩ := Cond.arrayClass_spec (ht _ tw_49)
  obtain ⟨cI, kI, compI, i1, i2, i3⟩ := Cond.arrayClass_spec (ht _ tw_50)
  refine ⟨(fun k => if k = 0 then cF else cM, fun k => if k = 0 then iS else iT), cJ, cI, fun c q hq => ?_, fun k q hk => ?_⟩
  · match c, hq with
    | 0, hq => cases hq; exact hF
    | 1, hq => cases hq; exact hM
    | c + 2, hq => simp at hq
  · match k, hk with
    | 0, hk => cases hk; exact ⟨fun n z => ⟨fun k h => (by cases h), kJ, j2, compJ, j3⟩, j1⟩
    | 1, hk => cases hk; exact ⟨fun n z => ⟨fun k h => (by cases h), kI, i2, compI, i3⟩, i1⟩
    | k + 2, hk => simp at hk
set_option maxHeartbeats 4000000 in
set_option maxRecDepth 100000 in
/-- the law's loop -/
theorem lw_loop {l : Launch} {p : Program} {e : Env} {s : State} {m : MethodId} {below : List Frame} {meth : Method} {c : Code} {D : va_G} {cJ cI : ClassId} {o om : Nat → Nat} {q b L : Nat} {xs : Nat → Int32}
    (hC : CX p m c code 8 s #[Value.ref b] R_L D cJ cI) (hX : va_X b L xs s s.heap) (hbl : b < s.heap.size) (hL : L ≤ 3072) (hz : xz s) (hfl : l.flags = flags0) (hr : meth.sig.returnType = ret) (hlocks : meth.locks = false) :
    ∀ (n t : Nat) (H : Heap) (locs : List Loc) (ls : Array Slot) (u : FR) (r : Int32) (K : Nat → Int32) (V : Nat → Int64) (Z : Int64), t + n = 513 → Rel u K V → iL D o om q cJ cI s H locs u r K V Z → lv_has ls 8 [(4, .int (nI (6 * t))), (3, .ref q), (2, .ref (om 0)), (1, .ref (o 0)), (0, .ref b)] →
      W p l e room_1 s m #[Value.ref b] below meth c H locs (10 + t) (2572 + 6 * t) (lw_Z below #[Value.ref b] s) (F0 m 23 ls []) := by
  have hx := hC.1.1
  have hb := hC.1.2.1
  have hbA : ¬ aL s b := fun z => by have z' : s.heap.size ≤ b := z; omega
  intro n
  induction n with
  | zero =>
    intro t H locs ls u r K V Z ht hR hI hl
    have ht' : t = 513 := by omega
    subst ht'
    refine lv_iload hx hb d_L_law_23 (lv_at hl 0 rfl) ?_
    refine lv_aload_n hx hb d_L_law_25 rfl (lv_at hl 4 rfl) ?_
    refine va_slen hx hb hX hbl hbA hI.1.2.2 d_L_law_26 ?_
    refine lv_bipush hx hb (v := nI 6) d_L_law_27 (by decide +kernel) ?_
    refine lv_isub hx hb d_L_law_29 ?_
    have hexit : nI L - nI 6 < nI (6 * 513) := by
      rw [i_lt, pk_sub_toInt (by omega) (by decide), nI_toInt (by decide)]
      omega
    refine lv_icmp_gt hx hb (tgt := 885) d_L_law_30 (by decide) (fun _ => ?_) (fun h => absurd hexit h)
    refine lv_iconst hx hb (v := 1) d_L_law_885 (by decide) ?_
    exact va_forget (fun z hz9 => hI.1.2.2.2.2 z hz9) (W.widen (by omega) (by omega) (lw_ret hx hb hr hlocks d_L_law_886))
  | succ n ih =>
    intro t H locs ls u r K V Z ht hR hI hl
    refine lv_iload hx hb d_L_law_23 (lv_at hl 0 rfl) ?_
    refine lv_aload_n hx hb d_L_law_25 rfl (lv_at hl 4 rfl) ?_
    refine va_slen hx hb hX hbl hbA hI.1.2.2 d_L_law_26 ?_
    refine lv_bipush hx hb (v := nI 6) d_L_law_27 (by decide +kernel) ?_
    refine lv_isub hx hb d_L_law_29 ?_
    refine lv_icmp_gt hx hb (tgt := 885) d_L_law_30 (by decide) (fun _ => ?_) (fun h => ?_)
    · refine lv_iconst hx hb (v := 1) d_L_law_885 (by decide) ?_
      exact va_forget (fun z hz9 => hI.1.2.2.2.2 z hz9) (W.widen (by omega) (by omega) (lw_ret hx hb hr hlocks d_L_law_886))
    · have hi : 6 * t + 6 ≤ L := by
        have h1 := (not_congr i_lt).mp h
        rw [show Int32.ofNat L = nI L from rfl, pk_sub_toInt (by omega) (by decide), nI_toInt (by omega)] at h1
        omega
      have hf : 10 + t + 1 ≤ room_1.cells ∧ 2572 + 6 * t + 6 ≤ room_1.slots := by
        show 10 + t + 1 ≤ 1037 ∧ 2572 + 6 * t + 6 ≤ 10782
        omega
      have kk : ∀ (H1 : Heap) (locs1 : List Loc) (ls1 : Array Slot) (u1 : FR) (r1 : Int32) (K1 : Nat → Int32) (V1 : Nat → Int64) (Z1 : Int64), Rel u1 K1 V1 → iL D o om q cJ cI s H1 locs1 u1 r1 K1 V1 Z1 → lv_has ls1 8 [(4, .int (nI (6 * t))), (3, .ref q), (2, .ref (om 0)), (1, .ref (o 0)), (0, .ref b)] → W p l e room_1 s m #[Value.ref b] below meth c H1 locs1 (10 + t + 1) (2572 + 6 * t + 6) (lw_Z below #[Value.ref b] s) (F0 m 879 ls1 []) := by
        intro H1 locs1 ls1 u1 r1 K1 V1 Z1 hR1 hI1 hl1
        refine lv_iinc (k := 0) hx hb d_L_law_879 hl1 rfl (show nI (6 * t) + Int32.ofInt 6 = nI (6 * (t + 1)) from nI_add (6 * t) 6) (by decide) (lv' := [(4, .int (nI (6 * (t + 1)))), (3, .ref q), (2, .ref (om 0)), (1, .ref (o 0)), (0, .ref b)]) rfl (fun ls hl => ?_)
        refine lv_goto hx hb (tgt := 23) d_L_law_882 (by decide) ?_
        exact ih (t + 1) H1 locs1 ls u1 r1 K1 V1 Z1 (by omega) hR1 hI1 hl
      refine lv_aload_n hx hb d_L_law_33 rfl (lv_at hl 4 rfl) ?_
      refine lv_iload hx hb d_L_law_34 (lv_at hl 0 rfl) ?_
      refine va_sld hx hb hX hbl hbA hI.1.2.2 (vp_in_nI (n := 6 * t) (N := L) (by omega) (by omega)) d_L_law_36 ?_
      refine lv_bipush hx hb (v := 15) d_L_law_37 (by decide +kernel) ?_
      refine lv_iand hx hb d_L_law_39 ?_
      obtain ⟨j, hj, ej⟩ := pk_andE (xs (nI (6 * t)).toNatClampNeg) (m := 15) 4 (by decide +kernel)
      refine xw_i ej ?_
      have hj16 : j < 16 := hj
      have hin : ∀ j0 : Nat, j0 < 9 → ¬ (nI j0).toInt < 0 ∧ ¬ (8 : Int) < (nI j0).toInt := fun j0 h0 => by
        rw [nI_toInt (by omega)]
        omega
      match j, hj16 with
      | 0, _ => exact lv_tableIn hx hb (tgt := 92) d_L_law_40 (hin 0 (by decide)).1 (hin 0 (by decide)).2 (off := 52) (by decide +kernel) (by decide) (st_set hC hX hbl hL hz hfl hi hI hR hl hf kk)
      | 1, _ => exact lv_tableIn hx hb (tgt := 184) d_L_law_40 (hin 1 (by decide)).1 (hin 1 (by decide)).2 (off := 144) (by decide +kernel) (by decide) (st_fill hC hX hbl hL hz hfl hi hI hR hl hf kk)
      | 2, _ => exact lv_tableIn hx hb (tgt := 288) d_L_law_40 (hin 2 (by decide)).1 (hin 2 (by decide)).2 (off := 248) (by decide +kernel) (by decide) (st_swap hC hX hbl hL hz hfl hi hI hR hl hf kk)
      | 3, _ => exact lv_tableIn hx hb (tgt := 336) d_L_law_40 (hin 3 (by decide)).1 (hin 3 (by decide)).2 (off := 296) (by decide +kernel) (by decide) (st_fold hC hX hbl hL hz hfl hi hI hR hl hf kk)
      | 4, _ => exact lv_tableIn hx hb (tgt := 447) d_L_law_40 (hin 4 (by decide)).1 (hin 4 (by decide)).2 (off := 407) (by decide +kernel) (by decide) (st_again hC hX hbl hL hz hfl hi hI hR hl hf kk)
      | 5, _ => exact lv_tableIn hx hb (tgt := 570) d_L_law_40 (hin 5 (by decide)).1 (hin 5 (by decide)).2 (off := 530) (by decide +kernel) (by decide) (st_least hC hX hbl hL hz hfl hi hI hR hl hf kk)
      | 6, _ => exact lv_tableIn hx hb (tgt := 637) d_L_law_40 (hin 6 (by decide)).1 (hin 6 (by decide)).2 (off := 597) (by decide +kernel) (by decide) (st_greatest hC hX hbl hL hz hfl hi hI hR hl hf kk)
      | 7, _ => exact lv_tableIn hx hb (tgt := 704) d_L_law_40 (hin 7 (by decide)).1 (hin 7 (by decide)).2 (off := 664) (by decide +kernel) (by decide) (st_fixed hC hX hbl hL hz hfl hi hI hR hl hf kk)
      | 8, _ => exact lv_tableIn hx hb (tgt := 799) d_L_law_40 (hin 8 (by decide)).1 (hin 8 (by decide)).2 (off := 759) (by decide +kernel) (by decide) (st_about hC hX hbl hL hz hfl hi hI hR hl hf kk)
      | j + 9, h16 => exact lv_tableOut hx hb (tgt := 879) d_L_law_40 (Or.inr (by rw [nI_toInt (by omega)]; omega)) (by decide) (W.widen (by omega) (by omega) (kk H locs ls u r K V Z hR hI hl))
set_option maxHeartbeats 4000000 in
set_option maxRecDepth 100000 in
/-- from the entry, for every script of at most 3072 ints, the law comes to its end with true -/
theorem whole_start {p : Program} {e : Env} {s : State} {m : MethodId} {below : List Frame} {meth : Method} {c : Code} (l : Launch) (hfl : l.flags = flags0) {b L : Nat} {xs : Nat → Int32} (hL : L ≤ 3072) (C0 : lw_At p s m meth c b L xs) : W p l e room_1 s m #[Value.ref b] below meth c s.heap [] 0 0 (lw_Z below #[Value.ref b] s) (entryFrame m ([Value.ref b] : List Value).toArray 8) := by
  obtain ⟨hx, hb, hr, hml, hown, hts, hX, hbl, hlocks, hpre⟩ := C0
  have hz : xz s := xz_start hts hpre
  have ht : ∀ w ∈ tb, w.before #[Value.ref b] s = true := fun w hw => hts w (tb_in hw)
  obtain ⟨D, cJ, cI, hK⟩ := K_start ht
  have hown : s.vm.findClass R_L = some m.cls := hown
  have S : CallFix p m c code 8 s #[Value.ref b] tb R_L := ⟨hx, hb, hml, hown, ht⟩
  have hC : CX p m c code 8 s #[Value.ref b] R_L D cJ cI := ⟨S, hK⟩
  have hl := lv_entry ([.ref b]) (n := 8) (Nat.le_of_ble_eq_true rfl)
  rw [lg_entry_eq]
  generalize (lg_sl ([.ref b]) ++ List.replicate (8 - (lg_sl ([.ref b])).length) Slot.unset).toArray = ls at hl ⊢
  have hl : lv_has ls 8 [(0, .ref b)] := hl
  have hP0 : va_P D xcl ([] : va_W) s.heap := fun k q h => by simp at h
  have hD0 : va_D (aL s) ([] : va_W) := ⟨fun i j p q h => by simp at h, fun k q h => by simp at h⟩
  refine va_new (D := D) (ci := 0) (C := R_F) (T := F_F) (N := 8) hx hb ht uF_in t_F t_F_ok hown (ht _ tw_10) (ht _ tw_11) (ht _ tw_1) hK hP0 hD0 va_S.rf aL_new rfl (fs := [.null, .null, .null, .null, .null, .long 0, .long 0, .long 0]) (by decide) (by decide) (by decide) d_L_law_0 (fun h H hP hD hS => ?_)
  have hP : va_P D xcl [(h, .inr (0, [.null, .null, .null, .null, .null, .long 0, .long 0, .long 0]))] H := hP
  have hD : va_D (aL s) ([(h, .inr (0, [.null, .null, .null, .null, .null, .long 0, .long 0, .long 0]))] : va_W) := hD
  have hh : aL s h := hD.2 0 _ rfl
  have hsz : s.heap.size ≤ H.size := hS.1
  have hfr : ∀ z : Nat, aN h H.size z → aL s z := fun z hz => by
    rcases hz with rfl | hz
    · exact hh
    · exact Nat.le_trans hsz hz
  refine lv_dup hx hb d_L_law_3 rfl ?_
  refine va_callv (va_runI (As := []) (rest := [.ref h]) S (c_F_init (l := l) (D := D) (cJ := cJ) (cI := cI) (sz := H.size) (h := h)) (cwI 0 ht (tb_gc tw_14) rfl rfl rfl (ht _ tw_1) (ht _ tw_12) (ht _ tw_13) rfl ⟨by decide, by decide, by decide +kernel⟩ ⟨by decide, by decide⟩) ⟨fun a U g mk z => ⟨z.1, z.2.1, z.2.2.1, va_K.moved (u := U) (U := U.calling g mk a) (Vm.Alike.refl U.vm) z.2.2.2.1, z.2.2.2.2⟩, fun U hU hW => ⟨rfl, by rw [hU], by rw [hU]; exact hP, va_K.moved hW.alike hK, hD.weaken (fun _ _ _ _ => trivial)⟩⟩ rfl rfl hl.1 rfl (lv_room (Nat.le_of_ble_eq_true rfl)) d_L_law_4 ⟨by decide, by decide⟩) hS (fun z _ hz => hfr z hz) hfr (fun o t H1 locs1 ht1 hvm ho hB hsz1 hk1 hS1 => ?_)
  have hI : iF D o cJ cI (aL s) s.heap H1 locs1 (x_ini 0 512) (x_ini nN 512) (x_ini nP 512) (fun _ => 0) (fun _ => 0) 0 0 0 := ⟨by rw [← ht1]; exact hB.1, hB.2.2.weaken (fun _ z _ hz => hfr z.1 hz), hS1⟩
  clear hk1 hB hvm ht1 hS hP hD
  have ho : o 0 = h := ho
  subst ho
  refine lv_astore_n hx hb d_L_law_7 rfl hl (by decide) (lv' := [(1, .ref (o 0)), (0, .ref b)]) rfl (fun ls hl => ?_)
  refine va_new (D := D) (ci := 1) (C := R_M) (T := F_M) (N := 3) hx hb ht uM_in t_M t_M_ok hown (ht _ tw_277) (ht _ tw_278) (ht _ tw_2) hK hI.1 hI.2.1 hI.2.2 aL_new rfl (fs := [.int 0, .null, .null]) (by decide) (by decide) (by decide) d_L_law_8 (fun h H hP hD hS => ?_)
  have hh : aL s h := last_push hD
  have hoh : ∀ i, i < 6 → o i ≠ h := fun i hi => by
    obtain ⟨x, hx1, hx2⟩ := wF_at (o := o) (cJ := cJ) (cI := cI) (M := x_ini 0 512) (L := x_ini nN 512) (G := x_ini nP 512) (K := fun _ => 0) (V := fun _ => 0) (a := 0) (b := 0) (t := 0) hi
    rw [← hx2]
    exact dist_push hD hx1
  have hPF : va_P D xcl (wF o cJ cI (x_ini 0 512) (x_ini nN 512) (x_ini nP 512) (fun _ => 0) (fun _ => 0) 0 0 0) H := hP.sub [0, 1, 2, 3, 4, 5] rfl
  have hPM : va_P D xcl [(h, .inr (1, [.int 0, .null, .null]))] H := hP.sub [6] rfl
  have hDM : va_D (aL s) ([(h, .inr (1, [.int 0, .null, .null]))] : va_W) := hD.sub [6] (by decide) rfl
  have hsz : s.heap.size ≤ H.size := hS.1
  have hfr : ∀ z : Nat, aN h H.size z → aL s z := fun z hz => by
    rcases hz with rfl | hz
    · exact hh
    · exact Nat.le_trans hsz hz
  refine lv_dup hx hb d_L_law_11 rfl ?_
  refine va_callv (va_runI (As := []) (rest := [.ref h]) S (c_M_init (l := l) (D := D) (cJ := cJ) (cI := cI) (sz := H.size) (h := h)) (cwI 0 ht (tb_gc tw_281) rfl rfl rfl (ht _ tw_2) (ht _ tw_279) (ht _ tw_280) rfl ⟨by decide, by decide, by decide +kernel⟩ ⟨by decide, by decide⟩) ⟨fun a U g mk z => ⟨z.1, z.2.1, z.2.2.1, va_K.moved (u := U) (U := U.calling g mk a) (Vm.Alike.refl U.vm) z.2.2.2.1, z.2.2.2.2⟩, fun U hU hW => ⟨rfl, by rw [hU], by rw [hU]; exact hPM, va_K.moved hW.alike hK, hDM.weaken (fun _ _ _ _ => trivial)⟩⟩ rfl rfl hl.1 rfl (lv_room (Nat.le_of_ble_eq_true rfl)) d_L_law_12 ⟨by decide, by decide⟩) hS (fun z _ hz => hfr z hz) hfr (fun om t H2 locs2 ht2 hvm hom hB hsz2 hk2 hS2 => ?_)
  have hom : om 0 = h := hom
  subst hom
  have hlt : ∀ i, i < 6 → o i < H.size := fun i hi => by
    obtain ⟨x, hx1, hx2⟩ := wF_at (o := o) (cJ := cJ) (cI := cI) (M := x_ini 0 512) (L := x_ini nN 512) (G := x_ini nP 512) (K := fun _ => 0) (V := fun _ => 0) (a := 0) (b := 0) (t := 0) hi
    rw [← hx2]
    exact (hPF i x hx1).lt
  have hP2 : va_P D xcl (wF o cJ cI (x_ini 0 512) (x_ini nN 512) (x_ini nP 512) (fun _ => 0) (fun _ => 0) 0 0 0) H2 := va_P.kept hPF (fun k x hx9 => by
    obtain ⟨i, hi, e9⟩ := wF_mem hx9
    rw [e9]
    refine hk2 (o i) (hlt i hi) (fun z => ?_)
    rcases z with z | z
    · exact hoh i hi z
    · have := hlt i hi
      omega)
  have hM : iM D om cJ cI (aL s) s.heap H2 locs2 0 (fun _ => 0) (fun _ => 0) := ⟨by rw [← ht2]; exact hB.1, hB.2.2.weaken (fun _ z _ hz => hfr z.1 hz), hS2⟩
  have hdis : ∀ i j, i < 6 → j < 3 → o i ≠ om j := fun i j hi hj z => by
    obtain ⟨x, hx1, hx2⟩ := wM_at (o := om) (cJ := cJ) (cI := cI) (r := 0) (K := fun _ => 0) (V := fun _ => 0) hj
    have h9 := hB.2.2.2 j x hx1
    rw [hx2, ← z] at h9
    rcases h9 with h9 | h9
    · exact hoh i hi h9
    · have := hlt i hi
      omega
  refine lv_astore_n hx hb d_L_law_15 rfl hl (by decide) (lv' := [(2, .ref (om 0)), (1, .ref (o 0)), (0, .ref b)]) rfl (fun ls hl => ?_)
  refine lv_iconst hx hb (v := nI 1) d_L_law_16 (by decide +kernel) ?_
  have hDD := va_D.app hI.2.1 hM.2.1 (fun i j x y hx9 hy9 => by
    obtain ⟨i', hi', ei⟩ := wF_mem hx9
    obtain ⟨j', hj', ej⟩ := wM_mem hy9
    rw [ei, ej]
    exact hdis i' j' hi' hj')
  refine xa_newJ hx hb ht hK (va_P.app hP2 hM.1) hDD hS2 aL_new (N := 1) (by decide) (by decide) (by decide) (by decide) (by decide) d_L_law_17 (fun q H hP hD hS => ?_)
  have hqF : ∀ i, i < 6 → q ≠ o i := fun i hi z => by
    obtain ⟨x, hx1, hx2⟩ := wF_at (o := o) (cJ := cJ) (cI := cI) (M := x_ini 0 512) (L := x_ini nN 512) (G := x_ini nP 512) (K := fun _ => 0) (V := fun _ => 0) (a := 0) (b := 0) (t := 0) hi
    refine dist_push hD (k := i) (x := x) ?_ (hx2.trans z.symm)
    rw [List.getElem?_append_left (List.getElem?_eq_some_iff.mp hx1).1]
    exact hx1
  have hqM : ∀ j, j < 3 → q ≠ om j := fun j hj z => by
    obtain ⟨x, hx1, hx2⟩ := wM_at (o := om) (cJ := cJ) (cI := cI) (r := 0) (K := fun _ => 0) (V := fun _ => 0) hj
    refine dist_push hD (k := 6 + j) (x := x) ?_ (hx2.trans z.symm)
    rw [List.getElem?_append_right (Nat.le_add_right 6 j)]
    rw [show 6 + j - (wF o cJ cI (x_ini 0 512) (x_ini nN 512) (x_ini nP 512) (fun _ => 0) (fun _ => 0) 0 0 0).length = j from Nat.add_sub_cancel_left 6 j]
    exact hx1
  have hIL : iL D o om q cJ cI s H locs2 ((x_ini 0 512, x_ini nN 512, x_ini nP 512), (fun _ => 0), (fun _ => 0), (0, 0, 0)) 0 (fun _ => 0) (fun _ => 0) 0 := ⟨⟨hP.sub [0, 1, 2, 3, 4, 5] rfl, hI.2.1, hS⟩, ⟨hP.sub [6, 7, 8] rfl, hM.2.1, hS⟩, hP.sub [9] rfl, last_push hD, hqF, hqM, hdis⟩
  refine lv_astore_n hx hb d_L_law_19 rfl hl (by decide) (lv' := [(3, .ref q), (2, .ref (om 0)), (1, .ref (o 0)), (0, .ref b)]) rfl (fun ls hl => ?_)
  refine lv_iconst hx hb (v := nI 0) d_L_law_20 (by decide +kernel) ?_
  refine lv_istore hx hb d_L_law_21 hl (by decide) (lv' := [(4, .int (nI 0)), (3, .ref q), (2, .ref (om 0)), (1, .ref (o 0)), (0, .ref b)]) rfl (fun ls hl => ?_)
  exact lw_loop hC hX hbl hL hz hfl hr hlocks 513 0 H locs2 ls _ 0 _ _ 0 (by decide) (ini_rel (0, 0, 0)) hIL hl
end
section
/-! the claim out of the law's walk (began as the end of the starting text SKELETON.whole; the launch's flags are carried) -/
set_option maxHeartbeats 4000000 in
theorem lw_walk (l : Launch) (hfl : l.flags = flags0) (b : Addr) (xs : List Int32) : MetFree l x (headSpec (Jvm.Cond.code x code maxLocals ret :: tables_1) room_1) (lw_P b xs) (fun _ _ _ _ _ => True) lw_Q := by
  refine MetFree.of_bodyS (code := code) (maxLocals := maxLocals) (ret := ret) (by decide) ?_ ?_
  · intro args s m h hn
    obtain ⟨meth, c, h1, h2, h3, h4, h5, h6, -, -⟩ := Cond.code_spec hn (atoms_spec (ws := Jvm.Cond.code x code maxLocals ret :: tables_1) h _ List.mem_cons_self)
    exact ⟨meth, c, h1, h2, h3, h4, h5, h6⟩
  · intro p e s m args below meth c s₁ B hml0 hP _
    obtain ⟨rfl, hx, hbd, hgv⟩ := hP
    obtain ⟨scr, harrAt, hlist, hof, hsmall⟩ := hx
    obtain ⟨hcb, hkn, -, -⟩ := State.arrayAt?_spec harrAt
    have hown : s.vm.findClass R_law = some m.cls := findClass_of_methodNamed B.named
    have hts0 : ∀ c ∈ (Jvm.Cond.code x code maxLocals ret :: tables_1), c.before #[Value.ref b] s = true := atoms_spec (ws := Jvm.Cond.code x code maxLocals ret :: tables_1) B.pre
    have hts : ∀ w ∈ lw_tbl, w.before #[Value.ref b] s = true := k2_hts_sels lw_privs (fun w hw => hts0 w (List.mem_cons_of_mem _ hw)) lw_privs_ok
    have hml : c.maxLocals = 8 := B.maxLocals_eq (hts0 _ List.mem_cons_self)
    have X₀ : Stand p l e room_1 s m #[Value.ref b] below meth c s₁ [] 0 0 := Stand.of_body B
    have hh0 : s₁.heap = s.heap := by rw [B.state]; rfl
    have hsz : scr.slots.size = xs.length := by rw [← Array.length_toList, hlist, List.length_map]
    have hval : ∀ j : Nat, j < xs.length → scr.slots[j]? = some (.int (xs.getD j 0)) := fun j hj => by
      rw [← Array.getElem?_toList, hlist]
      simp [hj]
    have hbl : b < s.heap.size := (Array.getElem?_eq_some_iff.mp hcb).1
    have hX : va_X b xs.length (fun j => xs.getD j 0) s s.heap := ⟨scr, hcb, hof, hkn, hsz, hval⟩
    have K : W p l e room_1 s m #[Value.ref b] below meth c s₁.heap [] 0 0 (lw_Z below #[Value.ref b] s) (entryFrame m ([Value.ref b] : List Value).toArray 8) := by
      rw [hh0]
      exact whole_start l hfl hbd ⟨B.exec, B.bytes, B.returns, hml, hown, hts, hX, hbl, B.notSynchronized, hgv⟩
    obtain ⟨t, a1, o, b1, b2, b3⟩ := K s₁ rfl X₀
    exact ⟨t, o, a1, b1, b2, b3⟩
theorem lw_pre_spec {args : Array Value} {s : State} (h : (Jvm.Cond.and given_1 narrow_1).before args s = true) (hr : rest_1_c.before args s = true) : ∃ (b : Addr) (xs : List Int32), lw_P b xs args s := by
  have hs := flat_of_before _ h
  have hq := flat_of_before _ hr
  have hc : (Cond.count 1).before args s = true := hs _ (by decide +kernel)
  have harr : (Cond.arrayOf (.arg 0) .int).before args s = true := hs _ (by decide +kernel)
  have hle : (Cond.le (.length (.arg 0)) (.int 3072)).before args s = true := hs _ (by decide +kernel)
  have hlen : (Cond.isInt (.length (.arg 0))).before args s = true := hq _ (by decide +kernel)
  have hall : (Cond.all (.arg 0) (.isInt (.elem (.arg 0) (.index 0)))).before args s = true := hq _ (by decide +kernel)
  obtain ⟨b, xs, hb, hx⟩ := State.ints_of_pre rfl harr hlen hall
  have hsm : xs.length < 2 ^ 31 := hx.choose_spec.2.2.2
  have hev : (Term.length (.arg 0)).eval args s none [] s = some (.int xs.length.toInt32) := hx.length_eval hb
  have hv := Cond.le_ints hev (show (Term.int 3072).eval args s none [] s = some (.int 3072) from rfl)
  have hd : xs.length.toInt32 ≤ 3072 := by
    simpa [Cond.before, Cond.holds, hv] using hle
  have hN : xs.length ≤ 3072 := (Int32.ofNat_le_ofNat hsm (by decide)).mp (show Int32.ofNat xs.length ≤ Int32.ofNat 3072 from hd)
  exact ⟨b, xs, Cond.one_arg hc (show args[0]? = some (.ref b) from hb), hx, hN, h⟩
theorem lw_comes (l : Launch) (hfl : l.flags = flags0) : Comes l x (Jvm.Cond.code x code maxLocals ret :: tables_1) room_1 (fun tb e args s => Calls_1 tb e args s ∧ rest_1 tb e args s ∧ Pre_1 tb e args s)
    (fun _ _ args s o t => lw_Q args s o t) := by
  intro p e ha hc hk s m args below hf hfit hheap happ hpre
  obtain ⟨b, xs, hP⟩ := lw_pre_spec hpre.2.2 hpre.2.1
  obtain ⟨k, o, h1, h2, h3, hQ⟩ := lw_walk l hfl b xs p e ha hc hk s m args below hf ((Spec.applies_iff_loose hf).mp happ).1 hP trivial
  exact ⟨k, o, h1, h2, h3, hQ⟩
theorem lw_frame {s t : State} {o : Outcome} {args : Array Value} (h : Framed s o t [] 1037 10782) :
    Framed s o t (fieldLocs frame_1_writes args s ++ arrayLocs frame_1_arrays args s ++ staticLocs frame_1_statics s) 1037 10782 := h
theorem lw_limb (L : Cond) (hL : ∀ (args : Array Value) (s t : State), L.after args s (.returned (some (.int 1))) t = true) :
    ArmFor flags0 classFile x code maxLocals ret World_1 tables_1 room_1 Calls_1 rest_1 Pre_1
      (fun tb e a s o t => postC L tb e a s o t ∧ Framed s o t (fieldLocs frame_1_writes a s ++ arrayLocs frame_1_arrays a s ++ staticLocs frame_1_statics s) 1037 10782) := by
  intro l hfl _ _ p e ha hc hk s m args below hf hfit hheap happ hpre
  obtain ⟨k, o, h1, h2, h3, rfl, hF⟩ := lw_comes l hfl p e ha hc hk s m args below hf hfit hheap happ hpre
  exact ⟨k, _, h1, h2, h3, hL args s _, lw_frame hF⟩
theorem i_vc : Claimed_1_1 ∧ Claimed_1_2 := ⟨lw_limb limb_1_1 (fun args s t => by simp [limb_1_1, Cond.after, Cond.holds, Cond.value]), lw_limb limb_1_2 (fun args s t => Cond.after_iff.mpr (by
  first | (rw [show limb_1_2 = Cond.eq .result (.int 1) from rfl, Cond.eq_ints (x := 1) (y := 1) rfl rfl]; simp; done) | (simp [limb_1_2, Cond.value, Term.eval]; done)))⟩
end
