section
-- ===== PART A: goes FIRST, ahead of the names: the tables' words, and 'selects' of the private methods out of them =====
/-- a private method of a class that the tables say can be made, by its rows of tables_1 -/
def lw_okq (q : MethodName × Nat) : Prop := (q.1.cls ≠ "java/lang/invoke/MethodHandle" ∧ q.1.cls ≠ "java/lang/invoke/VarHandle") ∧ Cond.instantiable q.1.cls q.2 ∈ tables_1 ∧ Cond.privateMethod q.1 ∈ tables_1 ∧ Cond.instanceMethod q.1 ∈ tables_1
set_option maxRecDepth 100000
theorem lw_p0 : lw_okq (⟨"ShortVectors", "reduce", "()V"⟩, 11) := ⟨⟨by decide +kernel, by decide +kernel⟩, List.mem_of_getElem? (i := 4) rfl, List.mem_of_getElem? (i := 12) rfl, List.mem_of_getElem? (i := 13) rfl⟩
theorem lw_p1 : lw_okq (⟨"ShortVectors", "exchange", "()V"⟩, 11) := ⟨⟨by decide +kernel, by decide +kernel⟩, List.mem_of_getElem? (i := 4) rfl, List.mem_of_getElem? (i := 19) rfl, List.mem_of_getElem? (i := 20) rfl⟩
theorem lw_p2 : lw_okq (⟨"ShortVectors", "isPoint", "(II)Z"⟩, 11) := ⟨⟨by decide +kernel, by decide +kernel⟩, List.mem_of_getElem? (i := 4) rfl, List.mem_of_getElem? (i := 74) rfl, List.mem_of_getElem? (i := 75) rfl⟩
theorem lw_p3 : lw_okq (⟨"ShortVectors", "findNearest", "(II)V"⟩, 11) := ⟨⟨by decide +kernel, by decide +kernel⟩, List.mem_of_getElem? (i := 4) rfl, List.mem_of_getElem? (i := 95) rfl, List.mem_of_getElem? (i := 96) rfl⟩
theorem lw_p4 : lw_okq (⟨"ShortVectors", "area", "()I"⟩, 11) := ⟨⟨by decide +kernel, by decide +kernel⟩, List.mem_of_getElem? (i := 4) rfl, List.mem_of_getElem? (i := 99) rfl, List.mem_of_getElem? (i := 100) rfl⟩
theorem lw_p5 : lw_okq (⟨"ShortVectors", "offer", "(IIII)V"⟩, 11) := ⟨⟨by decide +kernel, by decide +kernel⟩, List.mem_of_getElem? (i := 4) rfl, List.mem_of_getElem? (i := 104) rfl, List.mem_of_getElem? (i := 105) rfl⟩
theorem lw_p6 : lw_okq (⟨"ShortVectorsModel", "isPoint", "(II)Z"⟩, 7) := ⟨⟨by decide +kernel, by decide +kernel⟩, List.mem_of_getElem? (i := 124) rfl, List.mem_of_getElem? (i := 166) rfl, List.mem_of_getElem? (i := 167) rfl⟩
theorem lw_p7 : lw_okq (⟨"ShortVectorsModel", "search", "(II)V"⟩, 7) := ⟨⟨by decide +kernel, by decide +kernel⟩, List.mem_of_getElem? (i := 124) rfl, List.mem_of_getElem? (i := 190) rfl, List.mem_of_getElem? (i := 191) rfl⟩
def lw_privs_1 : List (MethodName × Nat) := [(⟨"ShortVectors", "reduce", "()V"⟩, 11), (⟨"ShortVectors", "exchange", "()V"⟩, 11), (⟨"ShortVectors", "isPoint", "(II)Z"⟩, 11), (⟨"ShortVectors", "findNearest", "(II)V"⟩, 11), (⟨"ShortVectors", "area", "()I"⟩, 11), (⟨"ShortVectors", "offer", "(IIII)V"⟩, 11), (⟨"ShortVectorsModel", "isPoint", "(II)Z"⟩, 7), (⟨"ShortVectorsModel", "search", "(II)V"⟩, 7)]
theorem lw_r1 : ∀ q ∈ lw_privs_1, lw_okq q := List.forall_mem_cons.mpr ⟨lw_p0, List.forall_mem_cons.mpr ⟨lw_p1, List.forall_mem_cons.mpr ⟨lw_p2, List.forall_mem_cons.mpr ⟨lw_p3, List.forall_mem_cons.mpr ⟨lw_p4, List.forall_mem_cons.mpr ⟨lw_p5, List.forall_mem_cons.mpr ⟨lw_p6, List.forall_mem_cons.mpr ⟨lw_p7, fun _ h => absurd h List.not_mem_nil⟩⟩⟩⟩⟩⟩⟩⟩
def lw_privs : List (MethodName × Nat) := lw_privs_1
def lw_tbl : List Cond := k2_sels lw_privs ++ tables_1
theorem lw_privs_ok : ∀ q ∈ lw_privs, lw_okq q := lw_r1
-- ===== ONE list of words for every method: the tables' words that hold all through a run =====
def lw_all : List Cond := lw_tbl.filter goodWord
/-- a word of the tables by its place: claim/WORDS.tsv -/
theorem lw_w {w : Cond} (i : Nat) (h : lw_tbl[i]? = some w) (g : goodWord w = true) : w ∈ lw_all := List.mem_filter.mpr ⟨List.mem_of_getElem? h, g⟩
theorem lw_all_tbl {w : Cond} (h : w ∈ lw_all) : w ∈ lw_tbl := (List.mem_filter.mp h).1
theorem lw_self : GoodIn lw_all lw_all := fun w h => ⟨h, good_of_word (List.mem_filter.mp h).2⟩
/-- a class's field words, by their places -/
theorem lw_in (ws : List Cond) (ps : List Nat) (hp : ws = ps.filterMap (fun i => lw_tbl[i]?)) (hg : ws.all goodWord = true) : ∀ w ∈ ws, w ∈ lw_all := by
  intro w h
  have h1 := List.all_eq_true.mp hg w h
  rw [hp] at h
  obtain ⟨i, -, hi⟩ := List.mem_filterMap.mp h
  exact lw_w i hi h1
/-- the words of a contract for the method y with code b, L locals, answer r -/
abbrev ws_ (y : MethodName) (b : ByteArray) (L : Nat) (r : Option FieldType) : List Cond := Cond.code y b L r :: lw_all
theorem lw_meth {y : MethodName} {b : ByteArray} {L : Nat} {r : Option FieldType} (h : Cond.code y b L r ∈ lw_all) : GoodIn lw_all (ws_ y b L r) := by
  intro w hw
  rcases List.mem_cons.mp hw with e | e
  · rw [e]
    exact lw_self _ h
  · exact lw_self _ e
theorem lw_app {a c : List Cond} (ha : ∀ w ∈ a, w ∈ lw_all) (hc : GoodIn lw_all c) : GoodIn lw_all (a ++ c) := by
  intro w hw
  rcases List.mem_append.mp hw with e | e
  · exact lw_self w (ha w e)
  · exact hc w e
/-- what a call through an object asks: cwV n hts (lw_V ..) -/
theorem lw_V {own : String} {idx : Nat} {C : String} {y : MethodName} {b : ByteArray} {L : Nat} {r : Option FieldType} (h1 : Cond.methodLink own idx y ∈ lw_all) (h2 : Cond.instanceMethod y ∈ lw_all) (h3 : Cond.selects C y y ∈ lw_all) (h4 : Cond.initialized C ∈ lw_all) (h5 : Cond.code y b L r ∈ lw_all) : GoodIn lw_all (wsV own idx C y (ws_ y b L r)) := by
  refine lw_app ?_ (lw_meth h5)
  intro w hw
  simp only [List.mem_cons, List.not_mem_nil, or_false] at hw
  rcases hw with e | e | e | e
  · rw [e]; exact h1
  · rw [e]; exact h2
  · rw [e]; exact h3
  · rw [e]; exact h4
/-- what a static call asks: va_cwS n hts (lw_S ..) -/
theorem lw_S {own : String} {idx : Nat} {y : MethodName} {b : ByteArray} {L : Nat} {r : Option FieldType} (h1 : Cond.methodLink own idx y ∈ lw_all) (h2 : Cond.static y ∈ lw_all) (h3 : Cond.initialized y.cls ∈ lw_all) (h4 : Cond.code y b L r ∈ lw_all) : GoodIn lw_all (va_wsS own idx y (ws_ y b L r)) := by
  refine lw_app ?_ (lw_meth h4)
  intro w hw
  simp only [List.mem_cons, List.not_mem_nil, or_false] at hw
  rcases hw with e | e | e
  · rw [e]; exact h1
  · rw [e]; exact h2
  · rw [e]; exact h3
/-- the words of a contract for a method WITH HANDLERS (hh: its table) -/
abbrev wsW_ (y : MethodName) (b : ByteArray) (L : Nat) (r : Option FieldType) (hh : List (Nat × Nat × Nat × Nat)) : List Cond := Cond.codeWith y b L r hh :: lw_all
theorem lw_methW {y : MethodName} {b : ByteArray} {L : Nat} {r : Option FieldType} {hh : List (Nat × Nat × Nat × Nat)} (h : Cond.codeWith y b L r hh ∈ lw_all) : GoodIn lw_all (wsW_ y b L r hh) := by
  intro w hw
  rcases List.mem_cons.mp hw with e | e
  · rw [e]
    exact lw_self _ h
  · exact lw_self _ e
/-- any list of words by their places (lw_in), good -/
theorem lw_good {ws : List Cond} (h : ∀ w ∈ ws, w ∈ lw_all) : GoodIn lw_all ws := fun w hw => lw_self w (h w hw)
/-- what a call of a method with handlers asks: vx_cwVW n hts (lw_VW ..), vx_cwSW n hts (lw_SW ..) -/
theorem lw_VW {own : String} {idx : Nat} {C : String} {y : MethodName} {b : ByteArray} {L : Nat} {r : Option FieldType} {hh : List (Nat × Nat × Nat × Nat)} (h1 : Cond.methodLink own idx y ∈ lw_all) (h2 : Cond.instanceMethod y ∈ lw_all) (h3 : Cond.selects C y y ∈ lw_all) (h4 : Cond.initialized C ∈ lw_all) (h5 : Cond.codeWith y b L r hh ∈ lw_all) : GoodIn lw_all (wsV own idx C y (wsW_ y b L r hh)) := by
  refine lw_app ?_ (lw_methW h5)
  intro w hw
  simp only [List.mem_cons, List.not_mem_nil, or_false] at hw
  rcases hw with e | e | e | e
  · rw [e]; exact h1
  · rw [e]; exact h2
  · rw [e]; exact h3
  · rw [e]; exact h4
theorem lw_SW {own : String} {idx : Nat} {y : MethodName} {b : ByteArray} {L : Nat} {r : Option FieldType} {hh : List (Nat × Nat × Nat × Nat)} (h1 : Cond.methodLink own idx y ∈ lw_all) (h2 : Cond.static y ∈ lw_all) (h3 : Cond.initialized y.cls ∈ lw_all) (h4 : Cond.codeWith y b L r hh ∈ lw_all) : GoodIn lw_all (va_wsS own idx y (wsW_ y b L r hh)) := by
  refine lw_app ?_ (lw_methW h4)
  intro w hw
  simp only [List.mem_cons, List.not_mem_nil, or_false] at hw
  rcases hw with e | e | e
  · rw [e]; exact h1
  · rw [e]; exact h2
  · rw [e]; exact h3
/-- a word by its place in its run of the tables -/
theorem lw_at {r : List Cond} (hr : ∀ w ∈ r, w ∈ lw_tbl) {w : Cond} (i : Nat) (h : r[i]? = some w) : w ∈ lw_tbl := hr w (List.mem_of_getElem? h)
theorem lw_g {w : Cond} (h : w ∈ lw_tbl) (g : goodWord w = true) : w ∈ lw_all := List.mem_filter.mpr ⟨h, g⟩
theorem lw_ms : ∀ w ∈ k2_sels lw_privs, w ∈ lw_tbl := fun w h => show w ∈ k2_sels lw_privs ++ tables_1 from List.mem_append_left _ h
theorem lw_m0 : ∀ w ∈ tables_1, w ∈ lw_tbl := fun w h => show w ∈ k2_sels lw_privs ++ tables_1 from List.mem_append_right (k2_sels lw_privs) h
theorem qs0 : (Cond.selects "ShortVectors" ⟨"ShortVectors", "reduce", "()V"⟩ ⟨"ShortVectors", "reduce", "()V"⟩) ∈ lw_all := lw_g (lw_at lw_ms 0 rfl) rfl
theorem qs1 : (Cond.selects "ShortVectors" ⟨"ShortVectors", "exchange", "()V"⟩ ⟨"ShortVectors", "exchange", "()V"⟩) ∈ lw_all := lw_g (lw_at lw_ms 1 rfl) rfl
theorem qs2 : (Cond.selects "ShortVectors" ⟨"ShortVectors", "isPoint", "(II)Z"⟩ ⟨"ShortVectors", "isPoint", "(II)Z"⟩) ∈ lw_all := lw_g (lw_at lw_ms 2 rfl) rfl
theorem qs3 : (Cond.selects "ShortVectors" ⟨"ShortVectors", "findNearest", "(II)V"⟩ ⟨"ShortVectors", "findNearest", "(II)V"⟩) ∈ lw_all := lw_g (lw_at lw_ms 3 rfl) rfl
theorem qs4 : (Cond.selects "ShortVectors" ⟨"ShortVectors", "area", "()I"⟩ ⟨"ShortVectors", "area", "()I"⟩) ∈ lw_all := lw_g (lw_at lw_ms 4 rfl) rfl
theorem qs5 : (Cond.selects "ShortVectors" ⟨"ShortVectors", "offer", "(IIII)V"⟩ ⟨"ShortVectors", "offer", "(IIII)V"⟩) ∈ lw_all := lw_g (lw_at lw_ms 5 rfl) rfl
theorem qs6 : (Cond.selects "ShortVectorsModel" ⟨"ShortVectorsModel", "isPoint", "(II)Z"⟩ ⟨"ShortVectorsModel", "isPoint", "(II)Z"⟩) ∈ lw_all := lw_g (lw_at lw_ms 6 rfl) rfl
theorem qs7 : (Cond.selects "ShortVectorsModel" ⟨"ShortVectorsModel", "search", "(II)V"⟩ ⟨"ShortVectorsModel", "search", "(II)V"⟩) ∈ lw_all := lw_g (lw_at lw_ms 7 rfl) rfl
end
section
/-! ShortVectors -/
set_option maxRecDepth 100000
def RX0 : String := "ShortVectors"
def TX0 : u_T := fun k => match k with
  | 0 => ("ShortVectors", "a", "I", false)
  | 1 => ("ShortVectors", "b", "I", false)
  | 2 => ("ShortVectors", "c", "I", false)
  | 3 => ("ShortVectors", "d", "I", false)
  | 4 => ("ShortVectors", "px", "I", false)
  | 5 => ("ShortVectors", "py", "I", false)
  | 6 => ("ShortVectors", "qx", "I", false)
  | 7 => ("ShortVectors", "qy", "I", false)
  | 8 => ("ShortVectors", "bestSize", "I", false)
  | 9 => ("ShortVectors", "bestU", "I", false)
  | _ => ("ShortVectors", "bestV", "I", false)
def tyX0 : Nat → FieldType := fun k => match k with
  | 0 => .int
  | 1 => .int
  | 2 => .int
  | 3 => .int
  | 4 => .int
  | 5 => .int
  | 6 => .int
  | 7 => .int
  | 8 => .int
  | 9 => .int
  | _ => .int
abbrev wsX00 : List Cond := u_ws RX0 TX0 11
theorem nmX0 : ∀ a, a < 11 → ∀ b, b < 11 → a ≠ b → (TX0 a).2.1 ≠ (TX0 b).2.1 := by decide +kernel
theorem tyX0_ok : ∀ k, k < 11 → parseFieldDescriptor (TX0 k).2.2.1 = some (tyX0 k) := by decide +kernel
abbrev cX0_init : ByteArray := prog_1_method_1_code
def yX0_init : MethodName := ⟨RX0, "<init>", "()V"⟩
theorem dX0_init_0 : decode cX0_init 0 = .ok (.aload_n 0, 1) := by decide +kernel
theorem dX0_init_1 : decode cX0_init 1 = .ok (.invokespecial 1, 3) := by decide +kernel
theorem dX0_init_4 : decode cX0_init 4 = .ok (.aload_n 0, 1) := by decide +kernel
theorem dX0_init_5 : decode cX0_init 5 = .ok (.iconst 1, 1) := by decide +kernel
theorem dX0_init_6 : decode cX0_init 6 = .ok (.putfield 7, 3) := by decide +kernel
theorem dX0_init_9 : decode cX0_init 9 = .ok (.aload_n 0, 1) := by decide +kernel
theorem dX0_init_10 : decode cX0_init 10 = .ok (.iconst 1, 1) := by decide +kernel
theorem dX0_init_11 : decode cX0_init 11 = .ok (.putfield 13, 3) := by decide +kernel
theorem dX0_init_14 : decode cX0_init 14 = .ok (.aload_n 0, 1) := by decide +kernel
theorem dX0_init_15 : decode cX0_init 15 = .ok (.invokevirtual 16, 3) := by decide +kernel
theorem dX0_init_18 : decode cX0_init 18 = .ok (.return_, 1) := by decide +kernel
abbrev cX0_reduce : ByteArray := prog_1_method_18_code
def yX0_reduce : MethodName := ⟨RX0, "reduce", "()V"⟩
theorem dX0_reduce_0 : decode cX0_reduce 0 = .ok (.aload_n 0, 1) := by decide +kernel
theorem dX0_reduce_1 : decode cX0_reduce 1 = .ok (.aload_n 0, 1) := by decide +kernel
theorem dX0_reduce_2 : decode cX0_reduce 2 = .ok (.getfield 7, 3) := by decide +kernel
theorem dX0_reduce_5 : decode cX0_reduce 5 = .ok (.putfield 36, 3) := by decide +kernel
theorem dX0_reduce_8 : decode cX0_reduce 8 = .ok (.aload_n 0, 1) := by decide +kernel
theorem dX0_reduce_9 : decode cX0_reduce 9 = .ok (.aload_n 0, 1) := by decide +kernel
theorem dX0_reduce_10 : decode cX0_reduce 10 = .ok (.getfield 23, 3) := by decide +kernel
theorem dX0_reduce_13 : decode cX0_reduce 13 = .ok (.putfield 39, 3) := by decide +kernel
theorem dX0_reduce_16 : decode cX0_reduce 16 = .ok (.aload_n 0, 1) := by decide +kernel
theorem dX0_reduce_17 : decode cX0_reduce 17 = .ok (.aload_n 0, 1) := by decide +kernel
theorem dX0_reduce_18 : decode cX0_reduce 18 = .ok (.getfield 26, 3) := by decide +kernel
theorem dX0_reduce_21 : decode cX0_reduce 21 = .ok (.putfield 46, 3) := by decide +kernel
theorem dX0_reduce_24 : decode cX0_reduce 24 = .ok (.aload_n 0, 1) := by decide +kernel
theorem dX0_reduce_25 : decode cX0_reduce 25 = .ok (.aload_n 0, 1) := by decide +kernel
theorem dX0_reduce_26 : decode cX0_reduce 26 = .ok (.getfield 13, 3) := by decide +kernel
theorem dX0_reduce_29 : decode cX0_reduce 29 = .ok (.putfield 49, 3) := by decide +kernel
theorem dX0_reduce_32 : decode cX0_reduce 32 = .ok (.iconst 1, 1) := by decide +kernel
theorem dX0_reduce_33 : decode cX0_reduce 33 = .ok (.istore_n 1, 1) := by decide +kernel
theorem dX0_reduce_34 : decode cX0_reduce 34 = .ok (.iconst 0, 1) := by decide +kernel
theorem dX0_reduce_35 : decode cX0_reduce 35 = .ok (.istore_n 2, 1) := by decide +kernel
theorem dX0_reduce_36 : decode cX0_reduce 36 = .ok (.iload_n 2, 1) := by decide +kernel
theorem dX0_reduce_37 : decode cX0_reduce 37 = .ok (.sipush 1900, 3) := by decide +kernel
theorem dX0_reduce_40 : decode cX0_reduce 40 = .ok (.if_icmp .ge 156, 3) := by decide +kernel
theorem dX0_reduce_43 : decode cX0_reduce 43 = .ok (.iload_n 1, 1) := by decide +kernel
theorem dX0_reduce_44 : decode cX0_reduce 44 = .ok (.ifCond .eq 152, 3) := by decide +kernel
theorem dX0_reduce_47 : decode cX0_reduce 47 = .ok (.aload_n 0, 1) := by decide +kernel
theorem dX0_reduce_48 : decode cX0_reduce 48 = .ok (.getfield 36, 3) := by decide +kernel
theorem dX0_reduce_51 : decode cX0_reduce 51 = .ok (.aload_n 0, 1) := by decide +kernel
theorem dX0_reduce_52 : decode cX0_reduce 52 = .ok (.getfield 39, 3) := by decide +kernel
theorem dX0_reduce_55 : decode cX0_reduce 55 = .ok (.invokestatic 52, 3) := by decide +kernel
theorem dX0_reduce_58 : decode cX0_reduce 58 = .ok (.aload_n 0, 1) := by decide +kernel
theorem dX0_reduce_59 : decode cX0_reduce 59 = .ok (.getfield 46, 3) := by decide +kernel
theorem dX0_reduce_62 : decode cX0_reduce 62 = .ok (.aload_n 0, 1) := by decide +kernel
theorem dX0_reduce_63 : decode cX0_reduce 63 = .ok (.getfield 49, 3) := by decide +kernel
theorem dX0_reduce_66 : decode cX0_reduce 66 = .ok (.invokestatic 52, 3) := by decide +kernel
theorem dX0_reduce_69 : decode cX0_reduce 69 = .ok (.if_icmp .le 7, 3) := by decide +kernel
theorem dX0_reduce_72 : decode cX0_reduce 72 = .ok (.aload_n 0, 1) := by decide +kernel
theorem dX0_reduce_73 : decode cX0_reduce 73 = .ok (.invokevirtual 80, 3) := by decide +kernel
theorem dX0_reduce_76 : decode cX0_reduce 76 = .ok (.aload_n 0, 1) := by decide +kernel
theorem dX0_reduce_77 : decode cX0_reduce 77 = .ok (.getfield 36, 3) := by decide +kernel
theorem dX0_reduce_80 : decode cX0_reduce 80 = .ok (.aload_n 0, 1) := by decide +kernel
theorem dX0_reduce_81 : decode cX0_reduce 81 = .ok (.getfield 39, 3) := by decide +kernel
theorem dX0_reduce_84 : decode cX0_reduce 84 = .ok (.invokestatic 52, 3) := by decide +kernel
theorem dX0_reduce_87 : decode cX0_reduce 87 = .ok (.istore_n 3, 1) := by decide +kernel
theorem dX0_reduce_88 : decode cX0_reduce 88 = .ok (.iconst 2, 1) := by decide +kernel
theorem dX0_reduce_89 : decode cX0_reduce 89 = .ok (.aload_n 0, 1) := by decide +kernel
theorem dX0_reduce_90 : decode cX0_reduce 90 = .ok (.getfield 36, 3) := by decide +kernel
theorem dX0_reduce_93 : decode cX0_reduce 93 = .ok (.aload_n 0, 1) := by decide +kernel
theorem dX0_reduce_94 : decode cX0_reduce 94 = .ok (.getfield 46, 3) := by decide +kernel
theorem dX0_reduce_97 : decode cX0_reduce 97 = .ok (.imul, 1) := by decide +kernel
theorem dX0_reduce_98 : decode cX0_reduce 98 = .ok (.aload_n 0, 1) := by decide +kernel
theorem dX0_reduce_99 : decode cX0_reduce 99 = .ok (.getfield 39, 3) := by decide +kernel
theorem dX0_reduce_102 : decode cX0_reduce 102 = .ok (.aload_n 0, 1) := by decide +kernel
theorem dX0_reduce_103 : decode cX0_reduce 103 = .ok (.getfield 49, 3) := by decide +kernel
theorem dX0_reduce_106 : decode cX0_reduce 106 = .ok (.imul, 1) := by decide +kernel
theorem dX0_reduce_107 : decode cX0_reduce 107 = .ok (.iadd, 1) := by decide +kernel
theorem dX0_reduce_108 : decode cX0_reduce 108 = .ok (.imul, 1) := by decide +kernel
theorem dX0_reduce_109 : decode cX0_reduce 109 = .ok (.iload_n 3, 1) := by decide +kernel
theorem dX0_reduce_110 : decode cX0_reduce 110 = .ok (.iadd, 1) := by decide +kernel
theorem dX0_reduce_111 : decode cX0_reduce 111 = .ok (.iconst 2, 1) := by decide +kernel
theorem dX0_reduce_112 : decode cX0_reduce 112 = .ok (.iload_n 3, 1) := by decide +kernel
theorem dX0_reduce_113 : decode cX0_reduce 113 = .ok (.imul, 1) := by decide +kernel
theorem dX0_reduce_114 : decode cX0_reduce 114 = .ok (.invokestatic 76, 3) := by decide +kernel
theorem dX0_reduce_117 : decode cX0_reduce 117 = .ok (.istore 4, 2) := by decide +kernel
theorem dX0_reduce_119 : decode cX0_reduce 119 = .ok (.aload_n 0, 1) := by decide +kernel
theorem dX0_reduce_120 : decode cX0_reduce 120 = .ok (.getfield 46, 3) := by decide +kernel
theorem dX0_reduce_123 : decode cX0_reduce 123 = .ok (.iload 4, 2) := by decide +kernel
theorem dX0_reduce_125 : decode cX0_reduce 125 = .ok (.aload_n 0, 1) := by decide +kernel
theorem dX0_reduce_126 : decode cX0_reduce 126 = .ok (.getfield 36, 3) := by decide +kernel
theorem dX0_reduce_129 : decode cX0_reduce 129 = .ok (.imul, 1) := by decide +kernel
theorem dX0_reduce_130 : decode cX0_reduce 130 = .ok (.isub, 1) := by decide +kernel
theorem dX0_reduce_131 : decode cX0_reduce 131 = .ok (.istore 5, 2) := by decide +kernel
theorem dX0_reduce_133 : decode cX0_reduce 133 = .ok (.aload_n 0, 1) := by decide +kernel
theorem dX0_reduce_134 : decode cX0_reduce 134 = .ok (.getfield 49, 3) := by decide +kernel
theorem dX0_reduce_137 : decode cX0_reduce 137 = .ok (.iload 4, 2) := by decide +kernel
theorem dX0_reduce_139 : decode cX0_reduce 139 = .ok (.aload_n 0, 1) := by decide +kernel
theorem dX0_reduce_140 : decode cX0_reduce 140 = .ok (.getfield 39, 3) := by decide +kernel
theorem dX0_reduce_143 : decode cX0_reduce 143 = .ok (.imul, 1) := by decide +kernel
theorem dX0_reduce_144 : decode cX0_reduce 144 = .ok (.isub, 1) := by decide +kernel
theorem dX0_reduce_145 : decode cX0_reduce 145 = .ok (.istore 6, 2) := by decide +kernel
theorem dX0_reduce_147 : decode cX0_reduce 147 = .ok (.iload 5, 2) := by decide +kernel
theorem dX0_reduce_149 : decode cX0_reduce 149 = .ok (.iload 6, 2) := by decide +kernel
theorem dX0_reduce_151 : decode cX0_reduce 151 = .ok (.invokestatic 52, 3) := by decide +kernel
theorem dX0_reduce_154 : decode cX0_reduce 154 = .ok (.aload_n 0, 1) := by decide +kernel
theorem dX0_reduce_155 : decode cX0_reduce 155 = .ok (.getfield 46, 3) := by decide +kernel
theorem dX0_reduce_158 : decode cX0_reduce 158 = .ok (.aload_n 0, 1) := by decide +kernel
theorem dX0_reduce_159 : decode cX0_reduce 159 = .ok (.getfield 49, 3) := by decide +kernel
theorem dX0_reduce_162 : decode cX0_reduce 162 = .ok (.invokestatic 52, 3) := by decide +kernel
theorem dX0_reduce_165 : decode cX0_reduce 165 = .ok (.if_icmp .ge 7, 3) := by decide +kernel
theorem dX0_reduce_168 : decode cX0_reduce 168 = .ok (.iconst 1, 1) := by decide +kernel
theorem dX0_reduce_169 : decode cX0_reduce 169 = .ok (.goto 4, 3) := by decide +kernel
theorem dX0_reduce_172 : decode cX0_reduce 172 = .ok (.iconst 0, 1) := by decide +kernel
theorem dX0_reduce_173 : decode cX0_reduce 173 = .ok (.istore_n 1, 1) := by decide +kernel
theorem dX0_reduce_174 : decode cX0_reduce 174 = .ok (.iload_n 1, 1) := by decide +kernel
theorem dX0_reduce_175 : decode cX0_reduce 175 = .ok (.ifCond .eq 15, 3) := by decide +kernel
theorem dX0_reduce_178 : decode cX0_reduce 178 = .ok (.aload_n 0, 1) := by decide +kernel
theorem dX0_reduce_179 : decode cX0_reduce 179 = .ok (.iload 5, 2) := by decide +kernel
theorem dX0_reduce_181 : decode cX0_reduce 181 = .ok (.putfield 46, 3) := by decide +kernel
theorem dX0_reduce_184 : decode cX0_reduce 184 = .ok (.aload_n 0, 1) := by decide +kernel
theorem dX0_reduce_185 : decode cX0_reduce 185 = .ok (.iload 6, 2) := by decide +kernel
theorem dX0_reduce_187 : decode cX0_reduce 187 = .ok (.putfield 49, 3) := by decide +kernel
theorem dX0_reduce_190 : decode cX0_reduce 190 = .ok (.iinc 2 1, 3) := by decide +kernel
theorem dX0_reduce_193 : decode cX0_reduce 193 = .ok (.goto (-157), 3) := by decide +kernel
theorem dX0_reduce_196 : decode cX0_reduce 196 = .ok (.return_, 1) := by decide +kernel
abbrev cX0_size : ByteArray := prog_1_method_13_code
def yX0_size : MethodName := ⟨RX0, "size", "(II)I"⟩
theorem dX0_size_0 : decode cX0_size 0 = .ok (.iload_n 0, 1) := by decide +kernel
theorem dX0_size_1 : decode cX0_size 1 = .ok (.iload_n 0, 1) := by decide +kernel
theorem dX0_size_2 : decode cX0_size 2 = .ok (.imul, 1) := by decide +kernel
theorem dX0_size_3 : decode cX0_size 3 = .ok (.iload_n 1, 1) := by decide +kernel
theorem dX0_size_4 : decode cX0_size 4 = .ok (.iload_n 1, 1) := by decide +kernel
theorem dX0_size_5 : decode cX0_size 5 = .ok (.imul, 1) := by decide +kernel
theorem dX0_size_6 : decode cX0_size 6 = .ok (.iadd, 1) := by decide +kernel
theorem dX0_size_7 : decode cX0_size 7 = .ok (.ireturn, 1) := by decide +kernel
abbrev cX0_exchange : ByteArray := prog_1_method_19_code
def yX0_exchange : MethodName := ⟨RX0, "exchange", "()V"⟩
theorem dX0_exchange_0 : decode cX0_exchange 0 = .ok (.aload_n 0, 1) := by decide +kernel
theorem dX0_exchange_1 : decode cX0_exchange 1 = .ok (.getfield 36, 3) := by decide +kernel
theorem dX0_exchange_4 : decode cX0_exchange 4 = .ok (.istore_n 1, 1) := by decide +kernel
theorem dX0_exchange_5 : decode cX0_exchange 5 = .ok (.aload_n 0, 1) := by decide +kernel
theorem dX0_exchange_6 : decode cX0_exchange 6 = .ok (.getfield 39, 3) := by decide +kernel
theorem dX0_exchange_9 : decode cX0_exchange 9 = .ok (.istore_n 2, 1) := by decide +kernel
theorem dX0_exchange_10 : decode cX0_exchange 10 = .ok (.aload_n 0, 1) := by decide +kernel
theorem dX0_exchange_11 : decode cX0_exchange 11 = .ok (.aload_n 0, 1) := by decide +kernel
theorem dX0_exchange_12 : decode cX0_exchange 12 = .ok (.getfield 46, 3) := by decide +kernel
theorem dX0_exchange_15 : decode cX0_exchange 15 = .ok (.putfield 36, 3) := by decide +kernel
theorem dX0_exchange_18 : decode cX0_exchange 18 = .ok (.aload_n 0, 1) := by decide +kernel
theorem dX0_exchange_19 : decode cX0_exchange 19 = .ok (.aload_n 0, 1) := by decide +kernel
theorem dX0_exchange_20 : decode cX0_exchange 20 = .ok (.getfield 49, 3) := by decide +kernel
theorem dX0_exchange_23 : decode cX0_exchange 23 = .ok (.putfield 39, 3) := by decide +kernel
theorem dX0_exchange_26 : decode cX0_exchange 26 = .ok (.aload_n 0, 1) := by decide +kernel
theorem dX0_exchange_27 : decode cX0_exchange 27 = .ok (.iload_n 1, 1) := by decide +kernel
theorem dX0_exchange_28 : decode cX0_exchange 28 = .ok (.putfield 46, 3) := by decide +kernel
theorem dX0_exchange_31 : decode cX0_exchange 31 = .ok (.aload_n 0, 1) := by decide +kernel
theorem dX0_exchange_32 : decode cX0_exchange 32 = .ok (.iload_n 2, 1) := by decide +kernel
theorem dX0_exchange_33 : decode cX0_exchange 33 = .ok (.putfield 49, 3) := by decide +kernel
theorem dX0_exchange_36 : decode cX0_exchange 36 = .ok (.return_, 1) := by decide +kernel
abbrev cX0_floorDivide : ByteArray := prog_1_method_15_code
def yX0_floorDivide : MethodName := ⟨RX0, "floorDivide", "(II)I"⟩
theorem dX0_floorDivide_0 : decode cX0_floorDivide 0 = .ok (.iload_n 0, 1) := by decide +kernel
theorem dX0_floorDivide_1 : decode cX0_floorDivide 1 = .ok (.iload_n 1, 1) := by decide +kernel
theorem dX0_floorDivide_2 : decode cX0_floorDivide 2 = .ok (.idiv, 1) := by decide +kernel
theorem dX0_floorDivide_3 : decode cX0_floorDivide 3 = .ok (.istore_n 2, 1) := by decide +kernel
theorem dX0_floorDivide_4 : decode cX0_floorDivide 4 = .ok (.iload_n 0, 1) := by decide +kernel
theorem dX0_floorDivide_5 : decode cX0_floorDivide 5 = .ok (.iload_n 1, 1) := by decide +kernel
theorem dX0_floorDivide_6 : decode cX0_floorDivide 6 = .ok (.irem, 1) := by decide +kernel
theorem dX0_floorDivide_7 : decode cX0_floorDivide 7 = .ok (.ifCond .ge 9, 3) := by decide +kernel
theorem dX0_floorDivide_10 : decode cX0_floorDivide 10 = .ok (.iload_n 2, 1) := by decide +kernel
theorem dX0_floorDivide_11 : decode cX0_floorDivide 11 = .ok (.iconst 1, 1) := by decide +kernel
theorem dX0_floorDivide_12 : decode cX0_floorDivide 12 = .ok (.isub, 1) := by decide +kernel
theorem dX0_floorDivide_13 : decode cX0_floorDivide 13 = .ok (.goto 4, 3) := by decide +kernel
theorem dX0_floorDivide_16 : decode cX0_floorDivide 16 = .ok (.iload_n 2, 1) := by decide +kernel
theorem dX0_floorDivide_17 : decode cX0_floorDivide 17 = .ok (.ireturn, 1) := by decide +kernel
abbrev cX0_steps : ByteArray := prog_1_method_2_code
def yX0_steps : MethodName := ⟨RX0, "steps", "(IIII)I"⟩
theorem dX0_steps_0 : decode cX0_steps 0 = .ok (.iload_n 1, 1) := by decide +kernel
theorem dX0_steps_1 : decode cX0_steps 1 = .ok (.iload_n 2, 1) := by decide +kernel
theorem dX0_steps_2 : decode cX0_steps 2 = .ok (.iload_n 3, 1) := by decide +kernel
theorem dX0_steps_3 : decode cX0_steps 3 = .ok (.iload 4, 2) := by decide +kernel
theorem dX0_steps_5 : decode cX0_steps 5 = .ok (.invokestatic 19, 3) := by decide +kernel
theorem dX0_steps_8 : decode cX0_steps 8 = .ok (.ifCond .ne 5, 3) := by decide +kernel
theorem dX0_steps_11 : decode cX0_steps 11 = .ok (.iconst (-1), 1) := by decide +kernel
theorem dX0_steps_12 : decode cX0_steps 12 = .ok (.ireturn, 1) := by decide +kernel
theorem dX0_steps_13 : decode cX0_steps 13 = .ok (.aload_n 0, 1) := by decide +kernel
theorem dX0_steps_14 : decode cX0_steps 14 = .ok (.iload_n 1, 1) := by decide +kernel
theorem dX0_steps_15 : decode cX0_steps 15 = .ok (.putfield 7, 3) := by decide +kernel
theorem dX0_steps_18 : decode cX0_steps 18 = .ok (.aload_n 0, 1) := by decide +kernel
theorem dX0_steps_19 : decode cX0_steps 19 = .ok (.iload_n 2, 1) := by decide +kernel
theorem dX0_steps_20 : decode cX0_steps 20 = .ok (.putfield 23, 3) := by decide +kernel
theorem dX0_steps_23 : decode cX0_steps 23 = .ok (.aload_n 0, 1) := by decide +kernel
theorem dX0_steps_24 : decode cX0_steps 24 = .ok (.iload_n 3, 1) := by decide +kernel
theorem dX0_steps_25 : decode cX0_steps 25 = .ok (.putfield 26, 3) := by decide +kernel
theorem dX0_steps_28 : decode cX0_steps 28 = .ok (.aload_n 0, 1) := by decide +kernel
theorem dX0_steps_29 : decode cX0_steps 29 = .ok (.iload 4, 2) := by decide +kernel
theorem dX0_steps_31 : decode cX0_steps 31 = .ok (.putfield 13, 3) := by decide +kernel
theorem dX0_steps_34 : decode cX0_steps 34 = .ok (.aload_n 0, 1) := by decide +kernel
theorem dX0_steps_35 : decode cX0_steps 35 = .ok (.invokevirtual 16, 3) := by decide +kernel
theorem dX0_steps_38 : decode cX0_steps 38 = .ok (.iconst 0, 1) := by decide +kernel
theorem dX0_steps_39 : decode cX0_steps 39 = .ok (.ireturn, 1) := by decide +kernel
abbrev cX0_areSteps : ByteArray := prog_1_method_11_code
def yX0_areSteps : MethodName := ⟨RX0, "areSteps", "(IIII)Z"⟩
theorem dX0_areSteps_0 : decode cX0_areSteps 0 = .ok (.iload_n 0, 1) := by decide +kernel
theorem dX0_areSteps_1 : decode cX0_areSteps 1 = .ok (.bipush (-30), 2) := by decide +kernel
theorem dX0_areSteps_3 : decode cX0_areSteps 3 = .ok (.if_icmp .lt 25, 3) := by decide +kernel
theorem dX0_areSteps_6 : decode cX0_areSteps 6 = .ok (.iload_n 0, 1) := by decide +kernel
theorem dX0_areSteps_7 : decode cX0_areSteps 7 = .ok (.bipush 30, 2) := by decide +kernel
theorem dX0_areSteps_9 : decode cX0_areSteps 9 = .ok (.if_icmp .gt 19, 3) := by decide +kernel
theorem dX0_areSteps_12 : decode cX0_areSteps 12 = .ok (.iload_n 1, 1) := by decide +kernel
theorem dX0_areSteps_13 : decode cX0_areSteps 13 = .ok (.bipush (-30), 2) := by decide +kernel
theorem dX0_areSteps_15 : decode cX0_areSteps 15 = .ok (.if_icmp .lt 13, 3) := by decide +kernel
theorem dX0_areSteps_18 : decode cX0_areSteps 18 = .ok (.iload_n 1, 1) := by decide +kernel
theorem dX0_areSteps_19 : decode cX0_areSteps 19 = .ok (.bipush 30, 2) := by decide +kernel
theorem dX0_areSteps_21 : decode cX0_areSteps 21 = .ok (.if_icmp .gt 7, 3) := by decide +kernel
theorem dX0_areSteps_24 : decode cX0_areSteps 24 = .ok (.iconst 1, 1) := by decide +kernel
theorem dX0_areSteps_25 : decode cX0_areSteps 25 = .ok (.goto 4, 3) := by decide +kernel
theorem dX0_areSteps_28 : decode cX0_areSteps 28 = .ok (.iconst 0, 1) := by decide +kernel
theorem dX0_areSteps_29 : decode cX0_areSteps 29 = .ok (.istore 4, 2) := by decide +kernel
theorem dX0_areSteps_31 : decode cX0_areSteps 31 = .ok (.iload 4, 2) := by decide +kernel
theorem dX0_areSteps_33 : decode cX0_areSteps 33 = .ok (.ifCond .eq 31, 3) := by decide +kernel
theorem dX0_areSteps_36 : decode cX0_areSteps 36 = .ok (.iload_n 2, 1) := by decide +kernel
theorem dX0_areSteps_37 : decode cX0_areSteps 37 = .ok (.bipush (-30), 2) := by decide +kernel
theorem dX0_areSteps_39 : decode cX0_areSteps 39 = .ok (.if_icmp .lt 25, 3) := by decide +kernel
theorem dX0_areSteps_42 : decode cX0_areSteps 42 = .ok (.iload_n 2, 1) := by decide +kernel
theorem dX0_areSteps_43 : decode cX0_areSteps 43 = .ok (.bipush 30, 2) := by decide +kernel
theorem dX0_areSteps_45 : decode cX0_areSteps 45 = .ok (.if_icmp .gt 19, 3) := by decide +kernel
theorem dX0_areSteps_48 : decode cX0_areSteps 48 = .ok (.iload_n 3, 1) := by decide +kernel
theorem dX0_areSteps_49 : decode cX0_areSteps 49 = .ok (.bipush (-30), 2) := by decide +kernel
theorem dX0_areSteps_51 : decode cX0_areSteps 51 = .ok (.if_icmp .lt 13, 3) := by decide +kernel
theorem dX0_areSteps_54 : decode cX0_areSteps 54 = .ok (.iload_n 3, 1) := by decide +kernel
theorem dX0_areSteps_55 : decode cX0_areSteps 55 = .ok (.bipush 30, 2) := by decide +kernel
theorem dX0_areSteps_57 : decode cX0_areSteps 57 = .ok (.if_icmp .gt 7, 3) := by decide +kernel
theorem dX0_areSteps_60 : decode cX0_areSteps 60 = .ok (.iconst 1, 1) := by decide +kernel
theorem dX0_areSteps_61 : decode cX0_areSteps 61 = .ok (.goto 4, 3) := by decide +kernel
theorem dX0_areSteps_64 : decode cX0_areSteps 64 = .ok (.iconst 0, 1) := by decide +kernel
theorem dX0_areSteps_65 : decode cX0_areSteps 65 = .ok (.istore 4, 2) := by decide +kernel
theorem dX0_areSteps_67 : decode cX0_areSteps 67 = .ok (.iload 4, 2) := by decide +kernel
theorem dX0_areSteps_69 : decode cX0_areSteps 69 = .ok (.ifCond .eq 17, 3) := by decide +kernel
theorem dX0_areSteps_72 : decode cX0_areSteps 72 = .ok (.iload_n 0, 1) := by decide +kernel
theorem dX0_areSteps_73 : decode cX0_areSteps 73 = .ok (.iload_n 3, 1) := by decide +kernel
theorem dX0_areSteps_74 : decode cX0_areSteps 74 = .ok (.imul, 1) := by decide +kernel
theorem dX0_areSteps_75 : decode cX0_areSteps 75 = .ok (.iload_n 1, 1) := by decide +kernel
theorem dX0_areSteps_76 : decode cX0_areSteps 76 = .ok (.iload_n 2, 1) := by decide +kernel
theorem dX0_areSteps_77 : decode cX0_areSteps 77 = .ok (.imul, 1) := by decide +kernel
theorem dX0_areSteps_78 : decode cX0_areSteps 78 = .ok (.isub, 1) := by decide +kernel
theorem dX0_areSteps_79 : decode cX0_areSteps 79 = .ok (.ifCond .eq 7, 3) := by decide +kernel
theorem dX0_areSteps_82 : decode cX0_areSteps 82 = .ok (.iconst 1, 1) := by decide +kernel
theorem dX0_areSteps_83 : decode cX0_areSteps 83 = .ok (.goto 4, 3) := by decide +kernel
theorem dX0_areSteps_86 : decode cX0_areSteps 86 = .ok (.iconst 0, 1) := by decide +kernel
theorem dX0_areSteps_87 : decode cX0_areSteps 87 = .ok (.ireturn, 1) := by decide +kernel
abbrev cX0_has : ByteArray := prog_1_method_3_code
def yX0_has : MethodName := ⟨RX0, "has", "(II)I"⟩
theorem dX0_has_0 : decode cX0_has 0 = .ok (.iload_n 1, 1) := by decide +kernel
theorem dX0_has_1 : decode cX0_has 1 = .ok (.iload_n 2, 1) := by decide +kernel
theorem dX0_has_2 : decode cX0_has 2 = .ok (.invokestatic 29, 3) := by decide +kernel
theorem dX0_has_5 : decode cX0_has 5 = .ok (.ifCond .ne 5, 3) := by decide +kernel
theorem dX0_has_8 : decode cX0_has 8 = .ok (.iconst (-1), 1) := by decide +kernel
theorem dX0_has_9 : decode cX0_has 9 = .ok (.ireturn, 1) := by decide +kernel
theorem dX0_has_10 : decode cX0_has 10 = .ok (.aload_n 0, 1) := by decide +kernel
theorem dX0_has_11 : decode cX0_has 11 = .ok (.iload_n 1, 1) := by decide +kernel
theorem dX0_has_12 : decode cX0_has 12 = .ok (.iload_n 2, 1) := by decide +kernel
theorem dX0_has_13 : decode cX0_has 13 = .ok (.invokevirtual 33, 3) := by decide +kernel
theorem dX0_has_16 : decode cX0_has 16 = .ok (.ifCond .eq 7, 3) := by decide +kernel
theorem dX0_has_19 : decode cX0_has 19 = .ok (.iconst 1, 1) := by decide +kernel
theorem dX0_has_20 : decode cX0_has 20 = .ok (.goto 4, 3) := by decide +kernel
theorem dX0_has_23 : decode cX0_has 23 = .ok (.iconst 0, 1) := by decide +kernel
theorem dX0_has_24 : decode cX0_has 24 = .ok (.ireturn, 1) := by decide +kernel
abbrev cX0_inRange : ByteArray := prog_1_method_12_code
def yX0_inRange : MethodName := ⟨RX0, "inRange", "(II)Z"⟩
theorem dX0_inRange_0 : decode cX0_inRange 0 = .ok (.iload_n 0, 1) := by decide +kernel
theorem dX0_inRange_1 : decode cX0_inRange 1 = .ok (.sipush (-1000), 3) := by decide +kernel
theorem dX0_inRange_4 : decode cX0_inRange 4 = .ok (.if_icmp .lt 28, 3) := by decide +kernel
theorem dX0_inRange_7 : decode cX0_inRange 7 = .ok (.iload_n 0, 1) := by decide +kernel
theorem dX0_inRange_8 : decode cX0_inRange 8 = .ok (.sipush 1000, 3) := by decide +kernel
theorem dX0_inRange_11 : decode cX0_inRange 11 = .ok (.if_icmp .gt 21, 3) := by decide +kernel
theorem dX0_inRange_14 : decode cX0_inRange 14 = .ok (.iload_n 1, 1) := by decide +kernel
theorem dX0_inRange_15 : decode cX0_inRange 15 = .ok (.sipush (-1000), 3) := by decide +kernel
theorem dX0_inRange_18 : decode cX0_inRange 18 = .ok (.if_icmp .lt 14, 3) := by decide +kernel
theorem dX0_inRange_21 : decode cX0_inRange 21 = .ok (.iload_n 1, 1) := by decide +kernel
theorem dX0_inRange_22 : decode cX0_inRange 22 = .ok (.sipush 1000, 3) := by decide +kernel
theorem dX0_inRange_25 : decode cX0_inRange 25 = .ok (.if_icmp .gt 7, 3) := by decide +kernel
theorem dX0_inRange_28 : decode cX0_inRange 28 = .ok (.iconst 1, 1) := by decide +kernel
theorem dX0_inRange_29 : decode cX0_inRange 29 = .ok (.goto 4, 3) := by decide +kernel
theorem dX0_inRange_32 : decode cX0_inRange 32 = .ok (.iconst 0, 1) := by decide +kernel
theorem dX0_inRange_33 : decode cX0_inRange 33 = .ok (.ireturn, 1) := by decide +kernel
abbrev cX0_isPoint : ByteArray := prog_1_method_14_code
def yX0_isPoint : MethodName := ⟨RX0, "isPoint", "(II)Z"⟩
theorem dX0_isPoint_0 : decode cX0_isPoint 0 = .ok (.aload_n 0, 1) := by decide +kernel
theorem dX0_isPoint_1 : decode cX0_isPoint 1 = .ok (.getfield 7, 3) := by decide +kernel
theorem dX0_isPoint_4 : decode cX0_isPoint 4 = .ok (.aload_n 0, 1) := by decide +kernel
theorem dX0_isPoint_5 : decode cX0_isPoint 5 = .ok (.getfield 13, 3) := by decide +kernel
theorem dX0_isPoint_8 : decode cX0_isPoint 8 = .ok (.imul, 1) := by decide +kernel
theorem dX0_isPoint_9 : decode cX0_isPoint 9 = .ok (.aload_n 0, 1) := by decide +kernel
theorem dX0_isPoint_10 : decode cX0_isPoint 10 = .ok (.getfield 23, 3) := by decide +kernel
theorem dX0_isPoint_13 : decode cX0_isPoint 13 = .ok (.aload_n 0, 1) := by decide +kernel
theorem dX0_isPoint_14 : decode cX0_isPoint 14 = .ok (.getfield 26, 3) := by decide +kernel
theorem dX0_isPoint_17 : decode cX0_isPoint 17 = .ok (.imul, 1) := by decide +kernel
theorem dX0_isPoint_18 : decode cX0_isPoint 18 = .ok (.isub, 1) := by decide +kernel
theorem dX0_isPoint_19 : decode cX0_isPoint 19 = .ok (.istore_n 3, 1) := by decide +kernel
theorem dX0_isPoint_20 : decode cX0_isPoint 20 = .ok (.iload_n 3, 1) := by decide +kernel
theorem dX0_isPoint_21 : decode cX0_isPoint 21 = .ok (.ifCond .eq 43, 3) := by decide +kernel
theorem dX0_isPoint_24 : decode cX0_isPoint 24 = .ok (.iload_n 1, 1) := by decide +kernel
theorem dX0_isPoint_25 : decode cX0_isPoint 25 = .ok (.aload_n 0, 1) := by decide +kernel
theorem dX0_isPoint_26 : decode cX0_isPoint 26 = .ok (.getfield 13, 3) := by decide +kernel
theorem dX0_isPoint_29 : decode cX0_isPoint 29 = .ok (.imul, 1) := by decide +kernel
theorem dX0_isPoint_30 : decode cX0_isPoint 30 = .ok (.iload_n 2, 1) := by decide +kernel
theorem dX0_isPoint_31 : decode cX0_isPoint 31 = .ok (.aload_n 0, 1) := by decide +kernel
theorem dX0_isPoint_32 : decode cX0_isPoint 32 = .ok (.getfield 26, 3) := by decide +kernel
theorem dX0_isPoint_35 : decode cX0_isPoint 35 = .ok (.imul, 1) := by decide +kernel
theorem dX0_isPoint_36 : decode cX0_isPoint 36 = .ok (.isub, 1) := by decide +kernel
theorem dX0_isPoint_37 : decode cX0_isPoint 37 = .ok (.iload_n 3, 1) := by decide +kernel
theorem dX0_isPoint_38 : decode cX0_isPoint 38 = .ok (.irem, 1) := by decide +kernel
theorem dX0_isPoint_39 : decode cX0_isPoint 39 = .ok (.ifCond .ne 25, 3) := by decide +kernel
theorem dX0_isPoint_42 : decode cX0_isPoint 42 = .ok (.aload_n 0, 1) := by decide +kernel
theorem dX0_isPoint_43 : decode cX0_isPoint 43 = .ok (.getfield 7, 3) := by decide +kernel
theorem dX0_isPoint_46 : decode cX0_isPoint 46 = .ok (.iload_n 2, 1) := by decide +kernel
theorem dX0_isPoint_47 : decode cX0_isPoint 47 = .ok (.imul, 1) := by decide +kernel
theorem dX0_isPoint_48 : decode cX0_isPoint 48 = .ok (.aload_n 0, 1) := by decide +kernel
theorem dX0_isPoint_49 : decode cX0_isPoint 49 = .ok (.getfield 23, 3) := by decide +kernel
theorem dX0_isPoint_52 : decode cX0_isPoint 52 = .ok (.iload_n 1, 1) := by decide +kernel
theorem dX0_isPoint_53 : decode cX0_isPoint 53 = .ok (.imul, 1) := by decide +kernel
theorem dX0_isPoint_54 : decode cX0_isPoint 54 = .ok (.isub, 1) := by decide +kernel
theorem dX0_isPoint_55 : decode cX0_isPoint 55 = .ok (.iload_n 3, 1) := by decide +kernel
theorem dX0_isPoint_56 : decode cX0_isPoint 56 = .ok (.irem, 1) := by decide +kernel
theorem dX0_isPoint_57 : decode cX0_isPoint 57 = .ok (.ifCond .ne 7, 3) := by decide +kernel
theorem dX0_isPoint_60 : decode cX0_isPoint 60 = .ok (.iconst 1, 1) := by decide +kernel
theorem dX0_isPoint_61 : decode cX0_isPoint 61 = .ok (.goto 4, 3) := by decide +kernel
theorem dX0_isPoint_64 : decode cX0_isPoint 64 = .ok (.iconst 0, 1) := by decide +kernel
theorem dX0_isPoint_65 : decode cX0_isPoint 65 = .ok (.ireturn, 1) := by decide +kernel
abbrev cX0_shortest : ByteArray := prog_1_method_4_code
def yX0_shortest : MethodName := ⟨RX0, "shortest", "()I"⟩
theorem dX0_shortest_0 : decode cX0_shortest 0 = .ok (.aload_n 0, 1) := by decide +kernel
theorem dX0_shortest_1 : decode cX0_shortest 1 = .ok (.getfield 36, 3) := by decide +kernel
theorem dX0_shortest_4 : decode cX0_shortest 4 = .ok (.aload_n 0, 1) := by decide +kernel
theorem dX0_shortest_5 : decode cX0_shortest 5 = .ok (.getfield 36, 3) := by decide +kernel
theorem dX0_shortest_8 : decode cX0_shortest 8 = .ok (.imul, 1) := by decide +kernel
theorem dX0_shortest_9 : decode cX0_shortest 9 = .ok (.aload_n 0, 1) := by decide +kernel
theorem dX0_shortest_10 : decode cX0_shortest 10 = .ok (.getfield 39, 3) := by decide +kernel
theorem dX0_shortest_13 : decode cX0_shortest 13 = .ok (.aload_n 0, 1) := by decide +kernel
theorem dX0_shortest_14 : decode cX0_shortest 14 = .ok (.getfield 39, 3) := by decide +kernel
theorem dX0_shortest_17 : decode cX0_shortest 17 = .ok (.imul, 1) := by decide +kernel
theorem dX0_shortest_18 : decode cX0_shortest 18 = .ok (.iadd, 1) := by decide +kernel
theorem dX0_shortest_19 : decode cX0_shortest 19 = .ok (.ireturn, 1) := by decide +kernel
abbrev cX0_many : ByteArray := prog_1_method_5_code
def yX0_many : MethodName := ⟨RX0, "many", "()I"⟩
theorem dX0_many_0 : decode cX0_many 0 = .ok (.aload_n 0, 1) := by decide +kernel
theorem dX0_many_1 : decode cX0_many 1 = .ok (.invokevirtual 42, 3) := by decide +kernel
theorem dX0_many_4 : decode cX0_many 4 = .ok (.istore_n 1, 1) := by decide +kernel
theorem dX0_many_5 : decode cX0_many 5 = .ok (.iconst 2, 1) := by decide +kernel
theorem dX0_many_6 : decode cX0_many 6 = .ok (.istore_n 2, 1) := by decide +kernel
theorem dX0_many_7 : decode cX0_many 7 = .ok (.iload_n 2, 1) := by decide +kernel
theorem dX0_many_8 : decode cX0_many 8 = .ok (.aload_n 0, 1) := by decide +kernel
theorem dX0_many_9 : decode cX0_many 9 = .ok (.getfield 46, 3) := by decide +kernel
theorem dX0_many_12 : decode cX0_many 12 = .ok (.aload_n 0, 1) := by decide +kernel
theorem dX0_many_13 : decode cX0_many 13 = .ok (.getfield 46, 3) := by decide +kernel
theorem dX0_many_16 : decode cX0_many 16 = .ok (.imul, 1) := by decide +kernel
theorem dX0_many_17 : decode cX0_many 17 = .ok (.aload_n 0, 1) := by decide +kernel
theorem dX0_many_18 : decode cX0_many 18 = .ok (.getfield 49, 3) := by decide +kernel
theorem dX0_many_21 : decode cX0_many 21 = .ok (.aload_n 0, 1) := by decide +kernel
theorem dX0_many_22 : decode cX0_many 22 = .ok (.getfield 49, 3) := by decide +kernel
theorem dX0_many_25 : decode cX0_many 25 = .ok (.imul, 1) := by decide +kernel
theorem dX0_many_26 : decode cX0_many 26 = .ok (.iadd, 1) := by decide +kernel
theorem dX0_many_27 : decode cX0_many 27 = .ok (.iload_n 1, 1) := by decide +kernel
theorem dX0_many_28 : decode cX0_many 28 = .ok (.if_icmp .ne 7, 3) := by decide +kernel
theorem dX0_many_31 : decode cX0_many 31 = .ok (.iconst 2, 1) := by decide +kernel
theorem dX0_many_32 : decode cX0_many 32 = .ok (.goto 4, 3) := by decide +kernel
theorem dX0_many_35 : decode cX0_many 35 = .ok (.iconst 0, 1) := by decide +kernel
theorem dX0_many_36 : decode cX0_many 36 = .ok (.iadd, 1) := by decide +kernel
theorem dX0_many_37 : decode cX0_many 37 = .ok (.istore_n 2, 1) := by decide +kernel
theorem dX0_many_38 : decode cX0_many 38 = .ok (.iload_n 2, 1) := by decide +kernel
theorem dX0_many_39 : decode cX0_many 39 = .ok (.aload_n 0, 1) := by decide +kernel
theorem dX0_many_40 : decode cX0_many 40 = .ok (.getfield 36, 3) := by decide +kernel
theorem dX0_many_43 : decode cX0_many 43 = .ok (.aload_n 0, 1) := by decide +kernel
theorem dX0_many_44 : decode cX0_many 44 = .ok (.getfield 46, 3) := by decide +kernel
theorem dX0_many_47 : decode cX0_many 47 = .ok (.iadd, 1) := by decide +kernel
theorem dX0_many_48 : decode cX0_many 48 = .ok (.aload_n 0, 1) := by decide +kernel
theorem dX0_many_49 : decode cX0_many 49 = .ok (.getfield 39, 3) := by decide +kernel
theorem dX0_many_52 : decode cX0_many 52 = .ok (.aload_n 0, 1) := by decide +kernel
theorem dX0_many_53 : decode cX0_many 53 = .ok (.getfield 49, 3) := by decide +kernel
theorem dX0_many_56 : decode cX0_many 56 = .ok (.iadd, 1) := by decide +kernel
theorem dX0_many_57 : decode cX0_many 57 = .ok (.invokestatic 52, 3) := by decide +kernel
theorem dX0_many_60 : decode cX0_many 60 = .ok (.iload_n 1, 1) := by decide +kernel
theorem dX0_many_61 : decode cX0_many 61 = .ok (.if_icmp .ne 7, 3) := by decide +kernel
theorem dX0_many_64 : decode cX0_many 64 = .ok (.iconst 2, 1) := by decide +kernel
theorem dX0_many_65 : decode cX0_many 65 = .ok (.goto 4, 3) := by decide +kernel
theorem dX0_many_68 : decode cX0_many 68 = .ok (.iconst 0, 1) := by decide +kernel
theorem dX0_many_69 : decode cX0_many 69 = .ok (.iadd, 1) := by decide +kernel
theorem dX0_many_70 : decode cX0_many 70 = .ok (.istore_n 2, 1) := by decide +kernel
theorem dX0_many_71 : decode cX0_many 71 = .ok (.iload_n 2, 1) := by decide +kernel
theorem dX0_many_72 : decode cX0_many 72 = .ok (.aload_n 0, 1) := by decide +kernel
theorem dX0_many_73 : decode cX0_many 73 = .ok (.getfield 36, 3) := by decide +kernel
theorem dX0_many_76 : decode cX0_many 76 = .ok (.aload_n 0, 1) := by decide +kernel
theorem dX0_many_77 : decode cX0_many 77 = .ok (.getfield 46, 3) := by decide +kernel
theorem dX0_many_80 : decode cX0_many 80 = .ok (.isub, 1) := by decide +kernel
theorem dX0_many_81 : decode cX0_many 81 = .ok (.aload_n 0, 1) := by decide +kernel
theorem dX0_many_82 : decode cX0_many 82 = .ok (.getfield 39, 3) := by decide +kernel
theorem dX0_many_85 : decode cX0_many 85 = .ok (.aload_n 0, 1) := by decide +kernel
theorem dX0_many_86 : decode cX0_many 86 = .ok (.getfield 49, 3) := by decide +kernel
theorem dX0_many_89 : decode cX0_many 89 = .ok (.isub, 1) := by decide +kernel
theorem dX0_many_90 : decode cX0_many 90 = .ok (.invokestatic 52, 3) := by decide +kernel
theorem dX0_many_93 : decode cX0_many 93 = .ok (.iload_n 1, 1) := by decide +kernel
theorem dX0_many_94 : decode cX0_many 94 = .ok (.if_icmp .ne 7, 3) := by decide +kernel
theorem dX0_many_97 : decode cX0_many 97 = .ok (.iconst 2, 1) := by decide +kernel
theorem dX0_many_98 : decode cX0_many 98 = .ok (.goto 4, 3) := by decide +kernel
theorem dX0_many_101 : decode cX0_many 101 = .ok (.iconst 0, 1) := by decide +kernel
theorem dX0_many_102 : decode cX0_many 102 = .ok (.iadd, 1) := by decide +kernel
theorem dX0_many_103 : decode cX0_many 103 = .ok (.istore_n 2, 1) := by decide +kernel
theorem dX0_many_104 : decode cX0_many 104 = .ok (.iload_n 2, 1) := by decide +kernel
theorem dX0_many_105 : decode cX0_many 105 = .ok (.ireturn, 1) := by decide +kernel
end
section
set_option maxRecDepth 100000
abbrev cX0_second : ByteArray := prog_1_method_6_code
def yX0_second : MethodName := ⟨RX0, "second", "()I"⟩
theorem dX0_second_0 : decode cX0_second 0 = .ok (.aload_n 0, 1) := by decide +kernel
theorem dX0_second_1 : decode cX0_second 1 = .ok (.getfield 46, 3) := by decide +kernel
theorem dX0_second_4 : decode cX0_second 4 = .ok (.aload_n 0, 1) := by decide +kernel
theorem dX0_second_5 : decode cX0_second 5 = .ok (.getfield 46, 3) := by decide +kernel
theorem dX0_second_8 : decode cX0_second 8 = .ok (.imul, 1) := by decide +kernel
theorem dX0_second_9 : decode cX0_second 9 = .ok (.aload_n 0, 1) := by decide +kernel
theorem dX0_second_10 : decode cX0_second 10 = .ok (.getfield 49, 3) := by decide +kernel
theorem dX0_second_13 : decode cX0_second 13 = .ok (.aload_n 0, 1) := by decide +kernel
theorem dX0_second_14 : decode cX0_second 14 = .ok (.getfield 49, 3) := by decide +kernel
theorem dX0_second_17 : decode cX0_second 17 = .ok (.imul, 1) := by decide +kernel
theorem dX0_second_18 : decode cX0_second 18 = .ok (.iadd, 1) := by decide +kernel
theorem dX0_second_19 : decode cX0_second 19 = .ok (.ireturn, 1) := by decide +kernel
abbrev cX0_distance : ByteArray := prog_1_method_7_code
def yX0_distance : MethodName := ⟨RX0, "distance", "(II)I"⟩
theorem dX0_distance_0 : decode cX0_distance 0 = .ok (.iload_n 1, 1) := by decide +kernel
theorem dX0_distance_1 : decode cX0_distance 1 = .ok (.iload_n 2, 1) := by decide +kernel
theorem dX0_distance_2 : decode cX0_distance 2 = .ok (.invokestatic 29, 3) := by decide +kernel
theorem dX0_distance_5 : decode cX0_distance 5 = .ok (.ifCond .ne 5, 3) := by decide +kernel
theorem dX0_distance_8 : decode cX0_distance 8 = .ok (.iconst (-1), 1) := by decide +kernel
theorem dX0_distance_9 : decode cX0_distance 9 = .ok (.ireturn, 1) := by decide +kernel
theorem dX0_distance_10 : decode cX0_distance 10 = .ok (.aload_n 0, 1) := by decide +kernel
theorem dX0_distance_11 : decode cX0_distance 11 = .ok (.iload_n 1, 1) := by decide +kernel
theorem dX0_distance_12 : decode cX0_distance 12 = .ok (.iload_n 2, 1) := by decide +kernel
theorem dX0_distance_13 : decode cX0_distance 13 = .ok (.invokevirtual 56, 3) := by decide +kernel
theorem dX0_distance_16 : decode cX0_distance 16 = .ok (.aload_n 0, 1) := by decide +kernel
theorem dX0_distance_17 : decode cX0_distance 17 = .ok (.getfield 60, 3) := by decide +kernel
theorem dX0_distance_20 : decode cX0_distance 20 = .ok (.ireturn, 1) := by decide +kernel
abbrev cX0_findNearest : ByteArray := prog_1_method_20_code
def yX0_findNearest : MethodName := ⟨RX0, "findNearest", "(II)V"⟩
theorem dX0_findNearest_0 : decode cX0_findNearest 0 = .ok (.aload_n 0, 1) := by decide +kernel
theorem dX0_findNearest_1 : decode cX0_findNearest 1 = .ok (.invokevirtual 69, 3) := by decide +kernel
theorem dX0_findNearest_4 : decode cX0_findNearest 4 = .ok (.istore_n 3, 1) := by decide +kernel
theorem dX0_findNearest_5 : decode cX0_findNearest 5 = .ok (.iload_n 3, 1) := by decide +kernel
theorem dX0_findNearest_6 : decode cX0_findNearest 6 = .ok (.ifCond .ge 7, 3) := by decide +kernel
theorem dX0_findNearest_9 : decode cX0_findNearest 9 = .ok (.iconst (-1), 1) := by decide +kernel
theorem dX0_findNearest_10 : decode cX0_findNearest 10 = .ok (.goto 4, 3) := by decide +kernel
theorem dX0_findNearest_13 : decode cX0_findNearest 13 = .ok (.iconst 1, 1) := by decide +kernel
theorem dX0_findNearest_14 : decode cX0_findNearest 14 = .ok (.istore 4, 2) := by decide +kernel
theorem dX0_findNearest_16 : decode cX0_findNearest 16 = .ok (.iload 4, 2) := by decide +kernel
theorem dX0_findNearest_18 : decode cX0_findNearest 18 = .ok (.iload_n 1, 1) := by decide +kernel
theorem dX0_findNearest_19 : decode cX0_findNearest 19 = .ok (.aload_n 0, 1) := by decide +kernel
theorem dX0_findNearest_20 : decode cX0_findNearest 20 = .ok (.getfield 49, 3) := by decide +kernel
theorem dX0_findNearest_23 : decode cX0_findNearest 23 = .ok (.imul, 1) := by decide +kernel
theorem dX0_findNearest_24 : decode cX0_findNearest 24 = .ok (.iload_n 2, 1) := by decide +kernel
theorem dX0_findNearest_25 : decode cX0_findNearest 25 = .ok (.aload_n 0, 1) := by decide +kernel
theorem dX0_findNearest_26 : decode cX0_findNearest 26 = .ok (.getfield 46, 3) := by decide +kernel
theorem dX0_findNearest_29 : decode cX0_findNearest 29 = .ok (.imul, 1) := by decide +kernel
theorem dX0_findNearest_30 : decode cX0_findNearest 30 = .ok (.isub, 1) := by decide +kernel
theorem dX0_findNearest_31 : decode cX0_findNearest 31 = .ok (.imul, 1) := by decide +kernel
theorem dX0_findNearest_32 : decode cX0_findNearest 32 = .ok (.iload 4, 2) := by decide +kernel
theorem dX0_findNearest_34 : decode cX0_findNearest 34 = .ok (.iload_n 3, 1) := by decide +kernel
theorem dX0_findNearest_35 : decode cX0_findNearest 35 = .ok (.imul, 1) := by decide +kernel
theorem dX0_findNearest_36 : decode cX0_findNearest 36 = .ok (.invokestatic 76, 3) := by decide +kernel
theorem dX0_findNearest_39 : decode cX0_findNearest 39 = .ok (.istore 5, 2) := by decide +kernel
theorem dX0_findNearest_41 : decode cX0_findNearest 41 = .ok (.iload 4, 2) := by decide +kernel
theorem dX0_findNearest_43 : decode cX0_findNearest 43 = .ok (.aload_n 0, 1) := by decide +kernel
theorem dX0_findNearest_44 : decode cX0_findNearest 44 = .ok (.getfield 36, 3) := by decide +kernel
theorem dX0_findNearest_47 : decode cX0_findNearest 47 = .ok (.iload_n 2, 1) := by decide +kernel
theorem dX0_findNearest_48 : decode cX0_findNearest 48 = .ok (.imul, 1) := by decide +kernel
theorem dX0_findNearest_49 : decode cX0_findNearest 49 = .ok (.aload_n 0, 1) := by decide +kernel
theorem dX0_findNearest_50 : decode cX0_findNearest 50 = .ok (.getfield 39, 3) := by decide +kernel
theorem dX0_findNearest_53 : decode cX0_findNearest 53 = .ok (.iload_n 1, 1) := by decide +kernel
theorem dX0_findNearest_54 : decode cX0_findNearest 54 = .ok (.imul, 1) := by decide +kernel
theorem dX0_findNearest_55 : decode cX0_findNearest 55 = .ok (.isub, 1) := by decide +kernel
theorem dX0_findNearest_56 : decode cX0_findNearest 56 = .ok (.imul, 1) := by decide +kernel
theorem dX0_findNearest_57 : decode cX0_findNearest 57 = .ok (.iload 4, 2) := by decide +kernel
theorem dX0_findNearest_59 : decode cX0_findNearest 59 = .ok (.iload_n 3, 1) := by decide +kernel
theorem dX0_findNearest_60 : decode cX0_findNearest 60 = .ok (.imul, 1) := by decide +kernel
theorem dX0_findNearest_61 : decode cX0_findNearest 61 = .ok (.invokestatic 76, 3) := by decide +kernel
theorem dX0_findNearest_64 : decode cX0_findNearest 64 = .ok (.istore 6, 2) := by decide +kernel
theorem dX0_findNearest_66 : decode cX0_findNearest 66 = .ok (.aload_n 0, 1) := by decide +kernel
theorem dX0_findNearest_67 : decode cX0_findNearest 67 = .ok (.ldc 83, 2) := by decide +kernel
theorem dX0_findNearest_69 : decode cX0_findNearest 69 = .ok (.putfield 60, 3) := by decide +kernel
theorem dX0_findNearest_72 : decode cX0_findNearest 72 = .ok (.iload 5, 2) := by decide +kernel
theorem dX0_findNearest_74 : decode cX0_findNearest 74 = .ok (.iconst 1, 1) := by decide +kernel
theorem dX0_findNearest_75 : decode cX0_findNearest 75 = .ok (.isub, 1) := by decide +kernel
theorem dX0_findNearest_76 : decode cX0_findNearest 76 = .ok (.istore 7, 2) := by decide +kernel
theorem dX0_findNearest_78 : decode cX0_findNearest 78 = .ok (.iload 7, 2) := by decide +kernel
theorem dX0_findNearest_80 : decode cX0_findNearest 80 = .ok (.iload 5, 2) := by decide +kernel
theorem dX0_findNearest_82 : decode cX0_findNearest 82 = .ok (.iconst 2, 1) := by decide +kernel
theorem dX0_findNearest_83 : decode cX0_findNearest 83 = .ok (.iadd, 1) := by decide +kernel
theorem dX0_findNearest_84 : decode cX0_findNearest 84 = .ok (.if_icmp .gt 66, 3) := by decide +kernel
theorem dX0_findNearest_87 : decode cX0_findNearest 87 = .ok (.iload 6, 2) := by decide +kernel
theorem dX0_findNearest_89 : decode cX0_findNearest 89 = .ok (.iconst 1, 1) := by decide +kernel
theorem dX0_findNearest_90 : decode cX0_findNearest 90 = .ok (.isub, 1) := by decide +kernel
theorem dX0_findNearest_91 : decode cX0_findNearest 91 = .ok (.istore 8, 2) := by decide +kernel
theorem dX0_findNearest_93 : decode cX0_findNearest 93 = .ok (.iload 8, 2) := by decide +kernel
theorem dX0_findNearest_95 : decode cX0_findNearest 95 = .ok (.iload 6, 2) := by decide +kernel
theorem dX0_findNearest_97 : decode cX0_findNearest 97 = .ok (.iconst 2, 1) := by decide +kernel
theorem dX0_findNearest_98 : decode cX0_findNearest 98 = .ok (.iadd, 1) := by decide +kernel
theorem dX0_findNearest_99 : decode cX0_findNearest 99 = .ok (.if_icmp .gt 45, 3) := by decide +kernel
theorem dX0_findNearest_102 : decode cX0_findNearest 102 = .ok (.aload_n 0, 1) := by decide +kernel
theorem dX0_findNearest_103 : decode cX0_findNearest 103 = .ok (.iload_n 1, 1) := by decide +kernel
theorem dX0_findNearest_104 : decode cX0_findNearest 104 = .ok (.iload_n 2, 1) := by decide +kernel
theorem dX0_findNearest_105 : decode cX0_findNearest 105 = .ok (.iload 7, 2) := by decide +kernel
theorem dX0_findNearest_107 : decode cX0_findNearest 107 = .ok (.aload_n 0, 1) := by decide +kernel
theorem dX0_findNearest_108 : decode cX0_findNearest 108 = .ok (.getfield 36, 3) := by decide +kernel
theorem dX0_findNearest_111 : decode cX0_findNearest 111 = .ok (.imul, 1) := by decide +kernel
theorem dX0_findNearest_112 : decode cX0_findNearest 112 = .ok (.iload 8, 2) := by decide +kernel
theorem dX0_findNearest_114 : decode cX0_findNearest 114 = .ok (.aload_n 0, 1) := by decide +kernel
theorem dX0_findNearest_115 : decode cX0_findNearest 115 = .ok (.getfield 46, 3) := by decide +kernel
theorem dX0_findNearest_118 : decode cX0_findNearest 118 = .ok (.imul, 1) := by decide +kernel
theorem dX0_findNearest_119 : decode cX0_findNearest 119 = .ok (.iadd, 1) := by decide +kernel
theorem dX0_findNearest_120 : decode cX0_findNearest 120 = .ok (.iload 7, 2) := by decide +kernel
theorem dX0_findNearest_122 : decode cX0_findNearest 122 = .ok (.aload_n 0, 1) := by decide +kernel
theorem dX0_findNearest_123 : decode cX0_findNearest 123 = .ok (.getfield 39, 3) := by decide +kernel
theorem dX0_findNearest_126 : decode cX0_findNearest 126 = .ok (.imul, 1) := by decide +kernel
theorem dX0_findNearest_127 : decode cX0_findNearest 127 = .ok (.iload 8, 2) := by decide +kernel
theorem dX0_findNearest_129 : decode cX0_findNearest 129 = .ok (.aload_n 0, 1) := by decide +kernel
theorem dX0_findNearest_130 : decode cX0_findNearest 130 = .ok (.getfield 49, 3) := by decide +kernel
theorem dX0_findNearest_133 : decode cX0_findNearest 133 = .ok (.imul, 1) := by decide +kernel
theorem dX0_findNearest_134 : decode cX0_findNearest 134 = .ok (.iadd, 1) := by decide +kernel
theorem dX0_findNearest_135 : decode cX0_findNearest 135 = .ok (.invokevirtual 84, 3) := by decide +kernel
theorem dX0_findNearest_138 : decode cX0_findNearest 138 = .ok (.iinc 8 1, 3) := by decide +kernel
theorem dX0_findNearest_141 : decode cX0_findNearest 141 = .ok (.goto (-48), 3) := by decide +kernel
theorem dX0_findNearest_144 : decode cX0_findNearest 144 = .ok (.iinc 7 1, 3) := by decide +kernel
theorem dX0_findNearest_147 : decode cX0_findNearest 147 = .ok (.goto (-69), 3) := by decide +kernel
theorem dX0_findNearest_150 : decode cX0_findNearest 150 = .ok (.return_, 1) := by decide +kernel
abbrev cX0_area : ByteArray := prog_1_method_17_code
def yX0_area : MethodName := ⟨RX0, "area", "()I"⟩
theorem dX0_area_0 : decode cX0_area 0 = .ok (.aload_n 0, 1) := by decide +kernel
theorem dX0_area_1 : decode cX0_area 1 = .ok (.getfield 36, 3) := by decide +kernel
theorem dX0_area_4 : decode cX0_area 4 = .ok (.aload_n 0, 1) := by decide +kernel
theorem dX0_area_5 : decode cX0_area 5 = .ok (.getfield 49, 3) := by decide +kernel
theorem dX0_area_8 : decode cX0_area 8 = .ok (.imul, 1) := by decide +kernel
theorem dX0_area_9 : decode cX0_area 9 = .ok (.aload_n 0, 1) := by decide +kernel
theorem dX0_area_10 : decode cX0_area 10 = .ok (.getfield 39, 3) := by decide +kernel
theorem dX0_area_13 : decode cX0_area 13 = .ok (.aload_n 0, 1) := by decide +kernel
theorem dX0_area_14 : decode cX0_area 14 = .ok (.getfield 46, 3) := by decide +kernel
theorem dX0_area_17 : decode cX0_area 17 = .ok (.imul, 1) := by decide +kernel
theorem dX0_area_18 : decode cX0_area 18 = .ok (.isub, 1) := by decide +kernel
theorem dX0_area_19 : decode cX0_area 19 = .ok (.ireturn, 1) := by decide +kernel
abbrev cX0_offer : ByteArray := prog_1_method_21_code
def yX0_offer : MethodName := ⟨RX0, "offer", "(IIII)V"⟩
theorem dX0_offer_0 : decode cX0_offer 0 = .ok (.iload_n 1, 1) := by decide +kernel
theorem dX0_offer_1 : decode cX0_offer 1 = .ok (.iload_n 3, 1) := by decide +kernel
theorem dX0_offer_2 : decode cX0_offer 2 = .ok (.isub, 1) := by decide +kernel
theorem dX0_offer_3 : decode cX0_offer 3 = .ok (.iload_n 2, 1) := by decide +kernel
theorem dX0_offer_4 : decode cX0_offer 4 = .ok (.iload 4, 2) := by decide +kernel
theorem dX0_offer_6 : decode cX0_offer 6 = .ok (.isub, 1) := by decide +kernel
theorem dX0_offer_7 : decode cX0_offer 7 = .ok (.invokestatic 52, 3) := by decide +kernel
theorem dX0_offer_10 : decode cX0_offer 10 = .ok (.istore 5, 2) := by decide +kernel
theorem dX0_offer_12 : decode cX0_offer 12 = .ok (.iload 5, 2) := by decide +kernel
theorem dX0_offer_14 : decode cX0_offer 14 = .ok (.aload_n 0, 1) := by decide +kernel
theorem dX0_offer_15 : decode cX0_offer 15 = .ok (.getfield 60, 3) := by decide +kernel
theorem dX0_offer_18 : decode cX0_offer 18 = .ok (.if_icmp .lt 37, 3) := by decide +kernel
theorem dX0_offer_21 : decode cX0_offer 21 = .ok (.iload 5, 2) := by decide +kernel
theorem dX0_offer_23 : decode cX0_offer 23 = .ok (.aload_n 0, 1) := by decide +kernel
theorem dX0_offer_24 : decode cX0_offer 24 = .ok (.getfield 60, 3) := by decide +kernel
theorem dX0_offer_27 : decode cX0_offer 27 = .ok (.if_icmp .ne 32, 3) := by decide +kernel
theorem dX0_offer_30 : decode cX0_offer 30 = .ok (.iload_n 3, 1) := by decide +kernel
theorem dX0_offer_31 : decode cX0_offer 31 = .ok (.aload_n 0, 1) := by decide +kernel
theorem dX0_offer_32 : decode cX0_offer 32 = .ok (.getfield 63, 3) := by decide +kernel
theorem dX0_offer_35 : decode cX0_offer 35 = .ok (.if_icmp .lt 20, 3) := by decide +kernel
theorem dX0_offer_38 : decode cX0_offer 38 = .ok (.iload_n 3, 1) := by decide +kernel
theorem dX0_offer_39 : decode cX0_offer 39 = .ok (.aload_n 0, 1) := by decide +kernel
theorem dX0_offer_40 : decode cX0_offer 40 = .ok (.getfield 63, 3) := by decide +kernel
theorem dX0_offer_43 : decode cX0_offer 43 = .ok (.if_icmp .ne 16, 3) := by decide +kernel
theorem dX0_offer_46 : decode cX0_offer 46 = .ok (.iload 4, 2) := by decide +kernel
theorem dX0_offer_48 : decode cX0_offer 48 = .ok (.aload_n 0, 1) := by decide +kernel
theorem dX0_offer_49 : decode cX0_offer 49 = .ok (.getfield 66, 3) := by decide +kernel
theorem dX0_offer_52 : decode cX0_offer 52 = .ok (.if_icmp .ge 7, 3) := by decide +kernel
theorem dX0_offer_55 : decode cX0_offer 55 = .ok (.iconst 1, 1) := by decide +kernel
theorem dX0_offer_56 : decode cX0_offer 56 = .ok (.goto 4, 3) := by decide +kernel
theorem dX0_offer_59 : decode cX0_offer 59 = .ok (.iconst 0, 1) := by decide +kernel
theorem dX0_offer_60 : decode cX0_offer 60 = .ok (.istore 6, 2) := by decide +kernel
theorem dX0_offer_62 : decode cX0_offer 62 = .ok (.iload 6, 2) := by decide +kernel
theorem dX0_offer_64 : decode cX0_offer 64 = .ok (.ifCond .eq 20, 3) := by decide +kernel
theorem dX0_offer_67 : decode cX0_offer 67 = .ok (.aload_n 0, 1) := by decide +kernel
theorem dX0_offer_68 : decode cX0_offer 68 = .ok (.iload 5, 2) := by decide +kernel
theorem dX0_offer_70 : decode cX0_offer 70 = .ok (.putfield 60, 3) := by decide +kernel
theorem dX0_offer_73 : decode cX0_offer 73 = .ok (.aload_n 0, 1) := by decide +kernel
theorem dX0_offer_74 : decode cX0_offer 74 = .ok (.iload_n 3, 1) := by decide +kernel
theorem dX0_offer_75 : decode cX0_offer 75 = .ok (.putfield 63, 3) := by decide +kernel
theorem dX0_offer_78 : decode cX0_offer 78 = .ok (.aload_n 0, 1) := by decide +kernel
theorem dX0_offer_79 : decode cX0_offer 79 = .ok (.iload 4, 2) := by decide +kernel
theorem dX0_offer_81 : decode cX0_offer 81 = .ok (.putfield 66, 3) := by decide +kernel
theorem dX0_offer_84 : decode cX0_offer 84 = .ok (.return_, 1) := by decide +kernel
abbrev cX0_nearest : ByteArray := prog_1_method_8_code
def yX0_nearest : MethodName := ⟨RX0, "nearest", "(II)I"⟩
theorem dX0_nearest_0 : decode cX0_nearest 0 = .ok (.iload_n 1, 1) := by decide +kernel
theorem dX0_nearest_1 : decode cX0_nearest 1 = .ok (.iload_n 2, 1) := by decide +kernel
theorem dX0_nearest_2 : decode cX0_nearest 2 = .ok (.invokestatic 29, 3) := by decide +kernel
theorem dX0_nearest_5 : decode cX0_nearest 5 = .ok (.ifCond .ne 5, 3) := by decide +kernel
theorem dX0_nearest_8 : decode cX0_nearest 8 = .ok (.iconst 0, 1) := by decide +kernel
theorem dX0_nearest_9 : decode cX0_nearest 9 = .ok (.ireturn, 1) := by decide +kernel
theorem dX0_nearest_10 : decode cX0_nearest 10 = .ok (.aload_n 0, 1) := by decide +kernel
theorem dX0_nearest_11 : decode cX0_nearest 11 = .ok (.iload_n 1, 1) := by decide +kernel
theorem dX0_nearest_12 : decode cX0_nearest 12 = .ok (.iload_n 2, 1) := by decide +kernel
theorem dX0_nearest_13 : decode cX0_nearest 13 = .ok (.invokevirtual 56, 3) := by decide +kernel
theorem dX0_nearest_16 : decode cX0_nearest 16 = .ok (.sipush 10000, 3) := by decide +kernel
theorem dX0_nearest_19 : decode cX0_nearest 19 = .ok (.aload_n 0, 1) := by decide +kernel
theorem dX0_nearest_20 : decode cX0_nearest 20 = .ok (.getfield 63, 3) := by decide +kernel
theorem dX0_nearest_23 : decode cX0_nearest 23 = .ok (.imul, 1) := by decide +kernel
theorem dX0_nearest_24 : decode cX0_nearest 24 = .ok (.aload_n 0, 1) := by decide +kernel
theorem dX0_nearest_25 : decode cX0_nearest 25 = .ok (.getfield 66, 3) := by decide +kernel
theorem dX0_nearest_28 : decode cX0_nearest 28 = .ok (.iadd, 1) := by decide +kernel
theorem dX0_nearest_29 : decode cX0_nearest 29 = .ok (.ireturn, 1) := by decide +kernel
abbrev cX0_within : ByteArray := prog_1_method_9_code
def yX0_within : MethodName := ⟨RX0, "within", "(I)I"⟩
theorem dX0_within_0 : decode cX0_within 0 = .ok (.iload_n 1, 1) := by decide +kernel
theorem dX0_within_1 : decode cX0_within 1 = .ok (.ifCond .ge 5, 3) := by decide +kernel
theorem dX0_within_4 : decode cX0_within 4 = .ok (.iconst 0, 1) := by decide +kernel
theorem dX0_within_5 : decode cX0_within 5 = .ok (.ireturn, 1) := by decide +kernel
theorem dX0_within_6 : decode cX0_within 6 = .ok (.iload_n 1, 1) := by decide +kernel
theorem dX0_within_7 : decode cX0_within 7 = .ok (.sipush 900, 3) := by decide +kernel
theorem dX0_within_10 : decode cX0_within 10 = .ok (.if_icmp .le 9, 3) := by decide +kernel
theorem dX0_within_13 : decode cX0_within 13 = .ok (.sipush 900, 3) := by decide +kernel
theorem dX0_within_16 : decode cX0_within 16 = .ok (.goto 4, 3) := by decide +kernel
theorem dX0_within_19 : decode cX0_within 19 = .ok (.iload_n 1, 1) := by decide +kernel
theorem dX0_within_20 : decode cX0_within 20 = .ok (.istore_n 2, 1) := by decide +kernel
theorem dX0_within_21 : decode cX0_within 21 = .ok (.aload_n 0, 1) := by decide +kernel
theorem dX0_within_22 : decode cX0_within 22 = .ok (.getfield 36, 3) := by decide +kernel
theorem dX0_within_25 : decode cX0_within 25 = .ok (.aload_n 0, 1) := by decide +kernel
theorem dX0_within_26 : decode cX0_within 26 = .ok (.getfield 36, 3) := by decide +kernel
theorem dX0_within_29 : decode cX0_within 29 = .ok (.imul, 1) := by decide +kernel
theorem dX0_within_30 : decode cX0_within 30 = .ok (.aload_n 0, 1) := by decide +kernel
theorem dX0_within_31 : decode cX0_within 31 = .ok (.getfield 39, 3) := by decide +kernel
theorem dX0_within_34 : decode cX0_within 34 = .ok (.aload_n 0, 1) := by decide +kernel
theorem dX0_within_35 : decode cX0_within 35 = .ok (.getfield 39, 3) := by decide +kernel
theorem dX0_within_38 : decode cX0_within 38 = .ok (.imul, 1) := by decide +kernel
theorem dX0_within_39 : decode cX0_within 39 = .ok (.iadd, 1) := by decide +kernel
theorem dX0_within_40 : decode cX0_within 40 = .ok (.istore_n 3, 1) := by decide +kernel
theorem dX0_within_41 : decode cX0_within 41 = .ok (.aload_n 0, 1) := by decide +kernel
theorem dX0_within_42 : decode cX0_within 42 = .ok (.getfield 36, 3) := by decide +kernel
theorem dX0_within_45 : decode cX0_within 45 = .ok (.aload_n 0, 1) := by decide +kernel
theorem dX0_within_46 : decode cX0_within 46 = .ok (.getfield 46, 3) := by decide +kernel
theorem dX0_within_49 : decode cX0_within 49 = .ok (.imul, 1) := by decide +kernel
theorem dX0_within_50 : decode cX0_within 50 = .ok (.aload_n 0, 1) := by decide +kernel
theorem dX0_within_51 : decode cX0_within 51 = .ok (.getfield 39, 3) := by decide +kernel
theorem dX0_within_54 : decode cX0_within 54 = .ok (.aload_n 0, 1) := by decide +kernel
theorem dX0_within_55 : decode cX0_within 55 = .ok (.getfield 49, 3) := by decide +kernel
theorem dX0_within_58 : decode cX0_within 58 = .ok (.imul, 1) := by decide +kernel
theorem dX0_within_59 : decode cX0_within 59 = .ok (.iadd, 1) := by decide +kernel
theorem dX0_within_60 : decode cX0_within 60 = .ok (.istore 4, 2) := by decide +kernel
theorem dX0_within_62 : decode cX0_within 62 = .ok (.iconst 0, 1) := by decide +kernel
theorem dX0_within_63 : decode cX0_within 63 = .ok (.istore 5, 2) := by decide +kernel
theorem dX0_within_65 : decode cX0_within 65 = .ok (.bipush (-40), 2) := by decide +kernel
theorem dX0_within_67 : decode cX0_within 67 = .ok (.istore 6, 2) := by decide +kernel
theorem dX0_within_69 : decode cX0_within 69 = .ok (.iload 6, 2) := by decide +kernel
theorem dX0_within_71 : decode cX0_within 71 = .ok (.bipush 40, 2) := by decide +kernel
theorem dX0_within_73 : decode cX0_within 73 = .ok (.if_icmp .gt 104, 3) := by decide +kernel
theorem dX0_within_76 : decode cX0_within 76 = .ok (.iload 6, 2) := by decide +kernel
theorem dX0_within_78 : decode cX0_within 78 = .ok (.i2l, 1) := by decide +kernel
theorem dX0_within_79 : decode cX0_within 79 = .ok (.aload_n 0, 1) := by decide +kernel
theorem dX0_within_80 : decode cX0_within 80 = .ok (.invokevirtual 69, 3) := by decide +kernel
theorem dX0_within_83 : decode cX0_within 83 = .ok (.i2l, 1) := by decide +kernel
theorem dX0_within_84 : decode cX0_within 84 = .ok (.lmul, 1) := by decide +kernel
theorem dX0_within_85 : decode cX0_within 85 = .ok (.lstore 7, 2) := by decide +kernel
theorem dX0_within_87 : decode cX0_within 87 = .ok (.iload_n 3, 1) := by decide +kernel
theorem dX0_within_88 : decode cX0_within 88 = .ok (.iload_n 2, 1) := by decide +kernel
theorem dX0_within_89 : decode cX0_within 89 = .ok (.imul, 1) := by decide +kernel
theorem dX0_within_90 : decode cX0_within 90 = .ok (.i2l, 1) := by decide +kernel
theorem dX0_within_91 : decode cX0_within 91 = .ok (.lload 7, 2) := by decide +kernel
theorem dX0_within_93 : decode cX0_within 93 = .ok (.lload 7, 2) := by decide +kernel
theorem dX0_within_95 : decode cX0_within 95 = .ok (.lmul, 1) := by decide +kernel
theorem dX0_within_96 : decode cX0_within 96 = .ok (.lsub, 1) := by decide +kernel
theorem dX0_within_97 : decode cX0_within 97 = .ok (.lstore 9, 2) := by decide +kernel
theorem dX0_within_99 : decode cX0_within 99 = .ok (.lload 9, 2) := by decide +kernel
theorem dX0_within_101 : decode cX0_within 101 = .ok (.lconst 0, 1) := by decide +kernel
theorem dX0_within_102 : decode cX0_within 102 = .ok (.lcmp, 1) := by decide +kernel
theorem dX0_within_103 : decode cX0_within 103 = .ok (.ifCond .lt 68, 3) := by decide +kernel
theorem dX0_within_106 : decode cX0_within 106 = .ok (.lload 9, 2) := by decide +kernel
theorem dX0_within_108 : decode cX0_within 108 = .ok (.l2i, 1) := by decide +kernel
theorem dX0_within_109 : decode cX0_within 109 = .ok (.invokestatic 72, 3) := by decide +kernel
theorem dX0_within_112 : decode cX0_within 112 = .ok (.istore 11, 2) := by decide +kernel
theorem dX0_within_114 : decode cX0_within 114 = .ok (.iload 6, 2) := by decide +kernel
theorem dX0_within_116 : decode cX0_within 116 = .ok (.ineg, 1) := by decide +kernel
theorem dX0_within_117 : decode cX0_within 117 = .ok (.iload 4, 2) := by decide +kernel
theorem dX0_within_119 : decode cX0_within 119 = .ok (.imul, 1) := by decide +kernel
theorem dX0_within_120 : decode cX0_within 120 = .ok (.iload 11, 2) := by decide +kernel
theorem dX0_within_122 : decode cX0_within 122 = .ok (.isub, 1) := by decide +kernel
theorem dX0_within_123 : decode cX0_within 123 = .ok (.iload_n 3, 1) := by decide +kernel
theorem dX0_within_124 : decode cX0_within 124 = .ok (.iadd, 1) := by decide +kernel
theorem dX0_within_125 : decode cX0_within 125 = .ok (.iconst 1, 1) := by decide +kernel
theorem dX0_within_126 : decode cX0_within 126 = .ok (.isub, 1) := by decide +kernel
theorem dX0_within_127 : decode cX0_within 127 = .ok (.iload_n 3, 1) := by decide +kernel
theorem dX0_within_128 : decode cX0_within 128 = .ok (.invokestatic 76, 3) := by decide +kernel
theorem dX0_within_131 : decode cX0_within 131 = .ok (.istore 12, 2) := by decide +kernel
theorem dX0_within_133 : decode cX0_within 133 = .ok (.iload 6, 2) := by decide +kernel
theorem dX0_within_135 : decode cX0_within 135 = .ok (.ineg, 1) := by decide +kernel
theorem dX0_within_136 : decode cX0_within 136 = .ok (.iload 4, 2) := by decide +kernel
theorem dX0_within_138 : decode cX0_within 138 = .ok (.imul, 1) := by decide +kernel
theorem dX0_within_139 : decode cX0_within 139 = .ok (.iload 11, 2) := by decide +kernel
theorem dX0_within_141 : decode cX0_within 141 = .ok (.iadd, 1) := by decide +kernel
theorem dX0_within_142 : decode cX0_within 142 = .ok (.iload_n 3, 1) := by decide +kernel
theorem dX0_within_143 : decode cX0_within 143 = .ok (.invokestatic 76, 3) := by decide +kernel
theorem dX0_within_146 : decode cX0_within 146 = .ok (.istore 13, 2) := by decide +kernel
theorem dX0_within_148 : decode cX0_within 148 = .ok (.iload 5, 2) := by decide +kernel
theorem dX0_within_150 : decode cX0_within 150 = .ok (.iload 13, 2) := by decide +kernel
theorem dX0_within_152 : decode cX0_within 152 = .ok (.iload 12, 2) := by decide +kernel
theorem dX0_within_154 : decode cX0_within 154 = .ok (.if_icmp .lt 13, 3) := by decide +kernel
theorem dX0_within_157 : decode cX0_within 157 = .ok (.iload 13, 2) := by decide +kernel
theorem dX0_within_159 : decode cX0_within 159 = .ok (.iload 12, 2) := by decide +kernel
theorem dX0_within_161 : decode cX0_within 161 = .ok (.isub, 1) := by decide +kernel
theorem dX0_within_162 : decode cX0_within 162 = .ok (.iconst 1, 1) := by decide +kernel
theorem dX0_within_163 : decode cX0_within 163 = .ok (.iadd, 1) := by decide +kernel
theorem dX0_within_164 : decode cX0_within 164 = .ok (.goto 4, 3) := by decide +kernel
theorem dX0_within_167 : decode cX0_within 167 = .ok (.iconst 0, 1) := by decide +kernel
theorem dX0_within_168 : decode cX0_within 168 = .ok (.iadd, 1) := by decide +kernel
theorem dX0_within_169 : decode cX0_within 169 = .ok (.istore 5, 2) := by decide +kernel
theorem dX0_within_171 : decode cX0_within 171 = .ok (.iinc 6 1, 3) := by decide +kernel
theorem dX0_within_174 : decode cX0_within 174 = .ok (.goto (-105), 3) := by decide +kernel
theorem dX0_within_177 : decode cX0_within 177 = .ok (.iload 5, 2) := by decide +kernel
theorem dX0_within_179 : decode cX0_within 179 = .ok (.ireturn, 1) := by decide +kernel
abbrev cX0_rootOf : ByteArray := prog_1_method_16_code
def yX0_rootOf : MethodName := ⟨RX0, "rootOf", "(I)I"⟩
theorem dX0_rootOf_0 : decode cX0_rootOf 0 = .ok (.iconst 0, 1) := by decide +kernel
theorem dX0_rootOf_1 : decode cX0_rootOf 1 = .ok (.istore_n 1, 1) := by decide +kernel
theorem dX0_rootOf_2 : decode cX0_rootOf 2 = .ok (.ldc 79, 2) := by decide +kernel
theorem dX0_rootOf_4 : decode cX0_rootOf 4 = .ok (.istore_n 2, 1) := by decide +kernel
theorem dX0_rootOf_5 : decode cX0_rootOf 5 = .ok (.iload_n 2, 1) := by decide +kernel
theorem dX0_rootOf_6 : decode cX0_rootOf 6 = .ok (.ifCond .le 32, 3) := by decide +kernel
theorem dX0_rootOf_9 : decode cX0_rootOf 9 = .ok (.iload_n 1, 1) := by decide +kernel
theorem dX0_rootOf_10 : decode cX0_rootOf 10 = .ok (.iload_n 2, 1) := by decide +kernel
theorem dX0_rootOf_11 : decode cX0_rootOf 11 = .ok (.iadd, 1) := by decide +kernel
theorem dX0_rootOf_12 : decode cX0_rootOf 12 = .ok (.i2l, 1) := by decide +kernel
theorem dX0_rootOf_13 : decode cX0_rootOf 13 = .ok (.lstore_n 3, 1) := by decide +kernel
theorem dX0_rootOf_14 : decode cX0_rootOf 14 = .ok (.lload_n 3, 1) := by decide +kernel
theorem dX0_rootOf_15 : decode cX0_rootOf 15 = .ok (.lload_n 3, 1) := by decide +kernel
theorem dX0_rootOf_16 : decode cX0_rootOf 16 = .ok (.lmul, 1) := by decide +kernel
theorem dX0_rootOf_17 : decode cX0_rootOf 17 = .ok (.iload_n 0, 1) := by decide +kernel
theorem dX0_rootOf_18 : decode cX0_rootOf 18 = .ok (.i2l, 1) := by decide +kernel
theorem dX0_rootOf_19 : decode cX0_rootOf 19 = .ok (.lcmp, 1) := by decide +kernel
theorem dX0_rootOf_20 : decode cX0_rootOf 20 = .ok (.ifCond .gt 9, 3) := by decide +kernel
theorem dX0_rootOf_23 : decode cX0_rootOf 23 = .ok (.iload_n 1, 1) := by decide +kernel
theorem dX0_rootOf_24 : decode cX0_rootOf 24 = .ok (.iload_n 2, 1) := by decide +kernel
theorem dX0_rootOf_25 : decode cX0_rootOf 25 = .ok (.iadd, 1) := by decide +kernel
theorem dX0_rootOf_26 : decode cX0_rootOf 26 = .ok (.goto 4, 3) := by decide +kernel
theorem dX0_rootOf_29 : decode cX0_rootOf 29 = .ok (.iload_n 1, 1) := by decide +kernel
theorem dX0_rootOf_30 : decode cX0_rootOf 30 = .ok (.istore_n 1, 1) := by decide +kernel
theorem dX0_rootOf_31 : decode cX0_rootOf 31 = .ok (.iload_n 2, 1) := by decide +kernel
theorem dX0_rootOf_32 : decode cX0_rootOf 32 = .ok (.iconst 2, 1) := by decide +kernel
theorem dX0_rootOf_33 : decode cX0_rootOf 33 = .ok (.idiv, 1) := by decide +kernel
theorem dX0_rootOf_34 : decode cX0_rootOf 34 = .ok (.istore_n 2, 1) := by decide +kernel
theorem dX0_rootOf_35 : decode cX0_rootOf 35 = .ok (.goto (-30), 3) := by decide +kernel
theorem dX0_rootOf_38 : decode cX0_rootOf 38 = .ok (.iload_n 1, 1) := by decide +kernel
theorem dX0_rootOf_39 : decode cX0_rootOf 39 = .ok (.ireturn, 1) := by decide +kernel
abbrev cX0_same : ByteArray := prog_1_method_10_code
def yX0_same : MethodName := ⟨RX0, "same", "(IIII)I"⟩
theorem dX0_same_0 : decode cX0_same 0 = .ok (.iload_n 1, 1) := by decide +kernel
theorem dX0_same_1 : decode cX0_same 1 = .ok (.iload_n 2, 1) := by decide +kernel
theorem dX0_same_2 : decode cX0_same 2 = .ok (.iload_n 3, 1) := by decide +kernel
theorem dX0_same_3 : decode cX0_same 3 = .ok (.iload 4, 2) := by decide +kernel
theorem dX0_same_5 : decode cX0_same 5 = .ok (.invokestatic 19, 3) := by decide +kernel
theorem dX0_same_8 : decode cX0_same 8 = .ok (.ifCond .ne 5, 3) := by decide +kernel
theorem dX0_same_11 : decode cX0_same 11 = .ok (.iconst (-1), 1) := by decide +kernel
theorem dX0_same_12 : decode cX0_same 12 = .ok (.ireturn, 1) := by decide +kernel
theorem dX0_same_13 : decode cX0_same 13 = .ok (.aload_n 0, 1) := by decide +kernel
theorem dX0_same_14 : decode cX0_same 14 = .ok (.getfield 7, 3) := by decide +kernel
theorem dX0_same_17 : decode cX0_same 17 = .ok (.aload_n 0, 1) := by decide +kernel
theorem dX0_same_18 : decode cX0_same 18 = .ok (.getfield 13, 3) := by decide +kernel
theorem dX0_same_21 : decode cX0_same 21 = .ok (.imul, 1) := by decide +kernel
theorem dX0_same_22 : decode cX0_same 22 = .ok (.aload_n 0, 1) := by decide +kernel
theorem dX0_same_23 : decode cX0_same 23 = .ok (.getfield 23, 3) := by decide +kernel
theorem dX0_same_26 : decode cX0_same 26 = .ok (.aload_n 0, 1) := by decide +kernel
theorem dX0_same_27 : decode cX0_same 27 = .ok (.getfield 26, 3) := by decide +kernel
theorem dX0_same_30 : decode cX0_same 30 = .ok (.imul, 1) := by decide +kernel
theorem dX0_same_31 : decode cX0_same 31 = .ok (.isub, 1) := by decide +kernel
theorem dX0_same_32 : decode cX0_same 32 = .ok (.istore 5, 2) := by decide +kernel
theorem dX0_same_34 : decode cX0_same 34 = .ok (.iload_n 1, 1) := by decide +kernel
theorem dX0_same_35 : decode cX0_same 35 = .ok (.iload 4, 2) := by decide +kernel
theorem dX0_same_37 : decode cX0_same 37 = .ok (.imul, 1) := by decide +kernel
theorem dX0_same_38 : decode cX0_same 38 = .ok (.iload_n 2, 1) := by decide +kernel
theorem dX0_same_39 : decode cX0_same 39 = .ok (.iload_n 3, 1) := by decide +kernel
theorem dX0_same_40 : decode cX0_same 40 = .ok (.imul, 1) := by decide +kernel
theorem dX0_same_41 : decode cX0_same 41 = .ok (.isub, 1) := by decide +kernel
theorem dX0_same_42 : decode cX0_same 42 = .ok (.istore 6, 2) := by decide +kernel
theorem dX0_same_44 : decode cX0_same 44 = .ok (.aload_n 0, 1) := by decide +kernel
theorem dX0_same_45 : decode cX0_same 45 = .ok (.iload_n 1, 1) := by decide +kernel
theorem dX0_same_46 : decode cX0_same 46 = .ok (.iload_n 2, 1) := by decide +kernel
theorem dX0_same_47 : decode cX0_same 47 = .ok (.invokevirtual 33, 3) := by decide +kernel
theorem dX0_same_50 : decode cX0_same 50 = .ok (.ifCond .eq 17, 3) := by decide +kernel
theorem dX0_same_53 : decode cX0_same 53 = .ok (.aload_n 0, 1) := by decide +kernel
theorem dX0_same_54 : decode cX0_same 54 = .ok (.iload_n 3, 1) := by decide +kernel
theorem dX0_same_55 : decode cX0_same 55 = .ok (.iload 4, 2) := by decide +kernel
theorem dX0_same_57 : decode cX0_same 57 = .ok (.invokevirtual 33, 3) := by decide +kernel
theorem dX0_same_60 : decode cX0_same 60 = .ok (.ifCond .eq 7, 3) := by decide +kernel
theorem dX0_same_63 : decode cX0_same 63 = .ok (.iconst 1, 1) := by decide +kernel
theorem dX0_same_64 : decode cX0_same 64 = .ok (.goto 4, 3) := by decide +kernel
theorem dX0_same_67 : decode cX0_same 67 = .ok (.iconst 0, 1) := by decide +kernel
theorem dX0_same_68 : decode cX0_same 68 = .ok (.istore 7, 2) := by decide +kernel
theorem dX0_same_70 : decode cX0_same 70 = .ok (.iload 7, 2) := by decide +kernel
theorem dX0_same_72 : decode cX0_same 72 = .ok (.ifCond .eq 22, 3) := by decide +kernel
theorem dX0_same_75 : decode cX0_same 75 = .ok (.iload 5, 2) := by decide +kernel
theorem dX0_same_77 : decode cX0_same 77 = .ok (.iload 6, 2) := by decide +kernel
theorem dX0_same_79 : decode cX0_same 79 = .ok (.if_icmp .eq 11, 3) := by decide +kernel
theorem dX0_same_82 : decode cX0_same 82 = .ok (.iload 5, 2) := by decide +kernel
theorem dX0_same_84 : decode cX0_same 84 = .ok (.iload 6, 2) := by decide +kernel
theorem dX0_same_86 : decode cX0_same 86 = .ok (.ineg, 1) := by decide +kernel
theorem dX0_same_87 : decode cX0_same 87 = .ok (.if_icmp .ne 7, 3) := by decide +kernel
theorem dX0_same_90 : decode cX0_same 90 = .ok (.iconst 1, 1) := by decide +kernel
theorem dX0_same_91 : decode cX0_same 91 = .ok (.goto 4, 3) := by decide +kernel
theorem dX0_same_94 : decode cX0_same 94 = .ok (.iconst 0, 1) := by decide +kernel
theorem dX0_same_95 : decode cX0_same 95 = .ok (.ireturn, 1) := by decide +kernel
theorem q9 : (Jvm.Cond.initialized "ShortVectors") ∈ lw_all := lw_g (lw_at lw_m0 1 rfl) rfl
theorem q12 : (Jvm.Cond.instantiable "ShortVectors" (11 : Nat)) ∈ lw_all := lw_g (lw_at lw_m0 4 rfl) rfl
theorem q14 : (Jvm.Cond.instanceMethod ({ cls := "ShortVectors", name := "<init>", desc := "()V" } : Jvm.MethodName)) ∈ lw_all := lw_g (lw_at lw_m0 6 rfl) rfl
theorem q15 : (Jvm.Cond.code ({ cls := "ShortVectors", name := "<init>", desc := "()V" } : Jvm.MethodName) prog_1_method_1_code (1 : Nat) (Option.none : Option Jvm.ClassFile.FieldType)) ∈ lw_all := lw_g (lw_at lw_m0 7 rfl) rfl
theorem q16 : (Jvm.Cond.methodLink "ShortVectors" (1 : Nat) ({ cls := "java/lang/Object", name := "<init>", desc := "()V" } : Jvm.MethodName)) ∈ lw_all := lw_g (lw_at lw_m0 8 rfl) rfl
theorem q19 : (Jvm.Cond.methodLink "ShortVectors" (16 : Nat) ({ cls := "ShortVectors", name := "reduce", desc := "()V" } : Jvm.MethodName)) ∈ lw_all := lw_g (lw_at lw_m0 11 rfl) rfl
theorem q20 : (Jvm.Cond.privateMethod ({ cls := "ShortVectors", name := "reduce", desc := "()V" } : Jvm.MethodName)) ∈ lw_tbl := lw_at lw_m0 12 rfl
theorem q21 : (Jvm.Cond.instanceMethod ({ cls := "ShortVectors", name := "reduce", desc := "()V" } : Jvm.MethodName)) ∈ lw_all := lw_g (lw_at lw_m0 13 rfl) rfl
theorem q22 : (Jvm.Cond.code ({ cls := "ShortVectors", name := "reduce", desc := "()V" } : Jvm.MethodName) prog_1_method_18_code (7 : Nat) (Option.none : Option Jvm.ClassFile.FieldType)) ∈ lw_all := lw_g (lw_at lw_m0 14 rfl) rfl
theorem q23 : (Jvm.Cond.methodLink "ShortVectors" (52 : Nat) ({ cls := "ShortVectors", name := "size", desc := "(II)I" } : Jvm.MethodName)) ∈ lw_all := lw_g (lw_at lw_m0 15 rfl) rfl
theorem q24 : (Jvm.Cond.static ({ cls := "ShortVectors", name := "size", desc := "(II)I" } : Jvm.MethodName)) ∈ lw_all := lw_g (lw_at lw_m0 16 rfl) rfl
theorem q25 : (Jvm.Cond.code ({ cls := "ShortVectors", name := "size", desc := "(II)I" } : Jvm.MethodName) prog_1_method_13_code (2 : Nat) (Option.some Jvm.ClassFile.FieldType.int)) ∈ lw_all := lw_g (lw_at lw_m0 17 rfl) rfl
theorem q26 : (Jvm.Cond.methodLink "ShortVectors" (80 : Nat) ({ cls := "ShortVectors", name := "exchange", desc := "()V" } : Jvm.MethodName)) ∈ lw_all := lw_g (lw_at lw_m0 18 rfl) rfl
theorem q27 : (Jvm.Cond.privateMethod ({ cls := "ShortVectors", name := "exchange", desc := "()V" } : Jvm.MethodName)) ∈ lw_tbl := lw_at lw_m0 19 rfl
theorem q28 : (Jvm.Cond.instanceMethod ({ cls := "ShortVectors", name := "exchange", desc := "()V" } : Jvm.MethodName)) ∈ lw_all := lw_g (lw_at lw_m0 20 rfl) rfl
theorem q29 : (Jvm.Cond.code ({ cls := "ShortVectors", name := "exchange", desc := "()V" } : Jvm.MethodName) prog_1_method_19_code (3 : Nat) (Option.none : Option Jvm.ClassFile.FieldType)) ∈ lw_all := lw_g (lw_at lw_m0 21 rfl) rfl
theorem q30 : (Jvm.Cond.methodLink "ShortVectors" (76 : Nat) ({ cls := "ShortVectors", name := "floorDivide", desc := "(II)I" } : Jvm.MethodName)) ∈ lw_all := lw_g (lw_at lw_m0 22 rfl) rfl
theorem q31 : (Jvm.Cond.static ({ cls := "ShortVectors", name := "floorDivide", desc := "(II)I" } : Jvm.MethodName)) ∈ lw_all := lw_g (lw_at lw_m0 23 rfl) rfl
theorem q32 : (Jvm.Cond.code ({ cls := "ShortVectors", name := "floorDivide", desc := "(II)I" } : Jvm.MethodName) prog_1_method_15_code (3 : Nat) (Option.some Jvm.ClassFile.FieldType.int)) ∈ lw_all := lw_g (lw_at lw_m0 24 rfl) rfl
theorem q33 : (Jvm.Cond.fieldLink "ShortVectors" (7 : Nat) "ShortVectors" "a" "I") ∈ lw_all := lw_g (lw_at lw_m0 25 rfl) rfl
theorem q34 : (Jvm.Cond.fieldLink "ShortVectors" (23 : Nat) "ShortVectors" "b" "I") ∈ lw_all := lw_g (lw_at lw_m0 26 rfl) rfl
theorem q35 : (Jvm.Cond.fieldLink "ShortVectors" (26 : Nat) "ShortVectors" "c" "I") ∈ lw_all := lw_g (lw_at lw_m0 27 rfl) rfl
theorem q36 : (Jvm.Cond.fieldLink "ShortVectors" (13 : Nat) "ShortVectors" "d" "I") ∈ lw_all := lw_g (lw_at lw_m0 28 rfl) rfl
theorem q37 : (Jvm.Cond.fieldLink "ShortVectors" (36 : Nat) "ShortVectors" "px" "I") ∈ lw_all := lw_g (lw_at lw_m0 29 rfl) rfl
theorem q38 : (Jvm.Cond.fieldLink "ShortVectors" (39 : Nat) "ShortVectors" "py" "I") ∈ lw_all := lw_g (lw_at lw_m0 30 rfl) rfl
theorem q39 : (Jvm.Cond.fieldLink "ShortVectors" (46 : Nat) "ShortVectors" "qx" "I") ∈ lw_all := lw_g (lw_at lw_m0 31 rfl) rfl
theorem q40 : (Jvm.Cond.fieldLink "ShortVectors" (49 : Nat) "ShortVectors" "qy" "I") ∈ lw_all := lw_g (lw_at lw_m0 32 rfl) rfl
theorem q41 : (Jvm.Cond.fieldLink "ShortVectors" (60 : Nat) "ShortVectors" "bestSize" "I") ∈ lw_all := lw_g (lw_at lw_m0 33 rfl) rfl
theorem q42 : (Jvm.Cond.fieldLink "ShortVectors" (63 : Nat) "ShortVectors" "bestU" "I") ∈ lw_all := lw_g (lw_at lw_m0 34 rfl) rfl
theorem q43 : (Jvm.Cond.fieldLink "ShortVectors" (66 : Nat) "ShortVectors" "bestV" "I") ∈ lw_all := lw_g (lw_at lw_m0 35 rfl) rfl
theorem q44 : (Jvm.Cond.lays "ShortVectors" "ShortVectors" "a" "I") ∈ lw_all := lw_g (lw_at lw_m0 36 rfl) rfl
theorem q45 : (Jvm.Cond.soleField "ShortVectors" "a") ∈ lw_all := lw_g (lw_at lw_m0 37 rfl) rfl
theorem q46 : (Jvm.Cond.lays "ShortVectors" "ShortVectors" "b" "I") ∈ lw_all := lw_g (lw_at lw_m0 38 rfl) rfl
theorem q47 : (Jvm.Cond.soleField "ShortVectors" "b") ∈ lw_all := lw_g (lw_at lw_m0 39 rfl) rfl
theorem q48 : (Jvm.Cond.lays "ShortVectors" "ShortVectors" "c" "I") ∈ lw_all := lw_g (lw_at lw_m0 40 rfl) rfl
theorem q49 : (Jvm.Cond.soleField "ShortVectors" "c") ∈ lw_all := lw_g (lw_at lw_m0 41 rfl) rfl
theorem q50 : (Jvm.Cond.lays "ShortVectors" "ShortVectors" "d" "I") ∈ lw_all := lw_g (lw_at lw_m0 42 rfl) rfl
theorem q51 : (Jvm.Cond.soleField "ShortVectors" "d") ∈ lw_all := lw_g (lw_at lw_m0 43 rfl) rfl
theorem q52 : (Jvm.Cond.lays "ShortVectors" "ShortVectors" "px" "I") ∈ lw_all := lw_g (lw_at lw_m0 44 rfl) rfl
theorem q53 : (Jvm.Cond.soleField "ShortVectors" "px") ∈ lw_all := lw_g (lw_at lw_m0 45 rfl) rfl
theorem q54 : (Jvm.Cond.lays "ShortVectors" "ShortVectors" "py" "I") ∈ lw_all := lw_g (lw_at lw_m0 46 rfl) rfl
theorem q55 : (Jvm.Cond.soleField "ShortVectors" "py") ∈ lw_all := lw_g (lw_at lw_m0 47 rfl) rfl
theorem q56 : (Jvm.Cond.lays "ShortVectors" "ShortVectors" "qx" "I") ∈ lw_all := lw_g (lw_at lw_m0 48 rfl) rfl
theorem q57 : (Jvm.Cond.soleField "ShortVectors" "qx") ∈ lw_all := lw_g (lw_at lw_m0 49 rfl) rfl
theorem q58 : (Jvm.Cond.lays "ShortVectors" "ShortVectors" "qy" "I") ∈ lw_all := lw_g (lw_at lw_m0 50 rfl) rfl
theorem q59 : (Jvm.Cond.soleField "ShortVectors" "qy") ∈ lw_all := lw_g (lw_at lw_m0 51 rfl) rfl
theorem q60 : (Jvm.Cond.lays "ShortVectors" "ShortVectors" "bestSize" "I") ∈ lw_all := lw_g (lw_at lw_m0 52 rfl) rfl
theorem q61 : (Jvm.Cond.soleField "ShortVectors" "bestSize") ∈ lw_all := lw_g (lw_at lw_m0 53 rfl) rfl
theorem q62 : (Jvm.Cond.lays "ShortVectors" "ShortVectors" "bestU" "I") ∈ lw_all := lw_g (lw_at lw_m0 54 rfl) rfl
theorem q63 : (Jvm.Cond.soleField "ShortVectors" "bestU") ∈ lw_all := lw_g (lw_at lw_m0 55 rfl) rfl
theorem q64 : (Jvm.Cond.lays "ShortVectors" "ShortVectors" "bestV" "I") ∈ lw_all := lw_g (lw_at lw_m0 56 rfl) rfl
theorem q65 : (Jvm.Cond.soleField "ShortVectors" "bestV") ∈ lw_all := lw_g (lw_at lw_m0 57 rfl) rfl
theorem q66 : (Jvm.Cond.superclass "ShortVectors" "java/lang/Object") ∈ lw_all := lw_g (lw_at lw_m0 58 rfl) rfl
theorem q68 : (Jvm.Cond.instanceMethod ({ cls := "ShortVectors", name := "steps", desc := "(IIII)I" } : Jvm.MethodName)) ∈ lw_all := lw_g (lw_at lw_m0 60 rfl) rfl
theorem q69 : (Jvm.Cond.selects "ShortVectors" ({ cls := "ShortVectors", name := "steps", desc := "(IIII)I" } : Jvm.MethodName) ({ cls := "ShortVectors", name := "steps", desc := "(IIII)I" } : Jvm.MethodName)) ∈ lw_all := lw_g (lw_at lw_m0 61 rfl) rfl
theorem q70 : (Jvm.Cond.code ({ cls := "ShortVectors", name := "steps", desc := "(IIII)I" } : Jvm.MethodName) prog_1_method_2_code (5 : Nat) (Option.some Jvm.ClassFile.FieldType.int)) ∈ lw_all := lw_g (lw_at lw_m0 62 rfl) rfl
theorem q71 : (Jvm.Cond.methodLink "ShortVectors" (19 : Nat) ({ cls := "ShortVectors", name := "areSteps", desc := "(IIII)Z" } : Jvm.MethodName)) ∈ lw_all := lw_g (lw_at lw_m0 63 rfl) rfl
theorem q72 : (Jvm.Cond.static ({ cls := "ShortVectors", name := "areSteps", desc := "(IIII)Z" } : Jvm.MethodName)) ∈ lw_all := lw_g (lw_at lw_m0 64 rfl) rfl
theorem q73 : (Jvm.Cond.code ({ cls := "ShortVectors", name := "areSteps", desc := "(IIII)Z" } : Jvm.MethodName) prog_1_method_11_code (5 : Nat) (Option.some Jvm.ClassFile.FieldType.boolean)) ∈ lw_all := lw_g (lw_at lw_m0 65 rfl) rfl
theorem q75 : (Jvm.Cond.instanceMethod ({ cls := "ShortVectors", name := "has", desc := "(II)I" } : Jvm.MethodName)) ∈ lw_all := lw_g (lw_at lw_m0 67 rfl) rfl
theorem q76 : (Jvm.Cond.selects "ShortVectors" ({ cls := "ShortVectors", name := "has", desc := "(II)I" } : Jvm.MethodName) ({ cls := "ShortVectors", name := "has", desc := "(II)I" } : Jvm.MethodName)) ∈ lw_all := lw_g (lw_at lw_m0 68 rfl) rfl
theorem q77 : (Jvm.Cond.code ({ cls := "ShortVectors", name := "has", desc := "(II)I" } : Jvm.MethodName) prog_1_method_3_code (3 : Nat) (Option.some Jvm.ClassFile.FieldType.int)) ∈ lw_all := lw_g (lw_at lw_m0 69 rfl) rfl
theorem q78 : (Jvm.Cond.methodLink "ShortVectors" (29 : Nat) ({ cls := "ShortVectors", name := "inRange", desc := "(II)Z" } : Jvm.MethodName)) ∈ lw_all := lw_g (lw_at lw_m0 70 rfl) rfl
theorem q79 : (Jvm.Cond.static ({ cls := "ShortVectors", name := "inRange", desc := "(II)Z" } : Jvm.MethodName)) ∈ lw_all := lw_g (lw_at lw_m0 71 rfl) rfl
theorem q80 : (Jvm.Cond.code ({ cls := "ShortVectors", name := "inRange", desc := "(II)Z" } : Jvm.MethodName) prog_1_method_12_code (2 : Nat) (Option.some Jvm.ClassFile.FieldType.boolean)) ∈ lw_all := lw_g (lw_at lw_m0 72 rfl) rfl
theorem q81 : (Jvm.Cond.methodLink "ShortVectors" (33 : Nat) ({ cls := "ShortVectors", name := "isPoint", desc := "(II)Z" } : Jvm.MethodName)) ∈ lw_all := lw_g (lw_at lw_m0 73 rfl) rfl
theorem q82 : (Jvm.Cond.privateMethod ({ cls := "ShortVectors", name := "isPoint", desc := "(II)Z" } : Jvm.MethodName)) ∈ lw_tbl := lw_at lw_m0 74 rfl
theorem q83 : (Jvm.Cond.instanceMethod ({ cls := "ShortVectors", name := "isPoint", desc := "(II)Z" } : Jvm.MethodName)) ∈ lw_all := lw_g (lw_at lw_m0 75 rfl) rfl
theorem q84 : (Jvm.Cond.code ({ cls := "ShortVectors", name := "isPoint", desc := "(II)Z" } : Jvm.MethodName) prog_1_method_14_code (4 : Nat) (Option.some Jvm.ClassFile.FieldType.boolean)) ∈ lw_all := lw_g (lw_at lw_m0 76 rfl) rfl
theorem q86 : (Jvm.Cond.instanceMethod ({ cls := "ShortVectors", name := "shortest", desc := "()I" } : Jvm.MethodName)) ∈ lw_all := lw_g (lw_at lw_m0 78 rfl) rfl
theorem q87 : (Jvm.Cond.selects "ShortVectors" ({ cls := "ShortVectors", name := "shortest", desc := "()I" } : Jvm.MethodName) ({ cls := "ShortVectors", name := "shortest", desc := "()I" } : Jvm.MethodName)) ∈ lw_all := lw_g (lw_at lw_m0 79 rfl) rfl
theorem q88 : (Jvm.Cond.code ({ cls := "ShortVectors", name := "shortest", desc := "()I" } : Jvm.MethodName) prog_1_method_4_code (1 : Nat) (Option.some Jvm.ClassFile.FieldType.int)) ∈ lw_all := lw_g (lw_at lw_m0 80 rfl) rfl
theorem q90 : (Jvm.Cond.instanceMethod ({ cls := "ShortVectors", name := "many", desc := "()I" } : Jvm.MethodName)) ∈ lw_all := lw_g (lw_at lw_m0 82 rfl) rfl
theorem q91 : (Jvm.Cond.selects "ShortVectors" ({ cls := "ShortVectors", name := "many", desc := "()I" } : Jvm.MethodName) ({ cls := "ShortVectors", name := "many", desc := "()I" } : Jvm.MethodName)) ∈ lw_all := lw_g (lw_at lw_m0 83 rfl) rfl
theorem q92 : (Jvm.Cond.code ({ cls := "ShortVectors", name := "many", desc := "()I" } : Jvm.MethodName) prog_1_method_5_code (3 : Nat) (Option.some Jvm.ClassFile.FieldType.int)) ∈ lw_all := lw_g (lw_at lw_m0 84 rfl) rfl
theorem q93 : (Jvm.Cond.methodLink "ShortVectors" (42 : Nat) ({ cls := "ShortVectors", name := "shortest", desc := "()I" } : Jvm.MethodName)) ∈ lw_all := lw_g (lw_at lw_m0 85 rfl) rfl
theorem q95 : (Jvm.Cond.instanceMethod ({ cls := "ShortVectors", name := "second", desc := "()I" } : Jvm.MethodName)) ∈ lw_all := lw_g (lw_at lw_m0 87 rfl) rfl
theorem q96 : (Jvm.Cond.selects "ShortVectors" ({ cls := "ShortVectors", name := "second", desc := "()I" } : Jvm.MethodName) ({ cls := "ShortVectors", name := "second", desc := "()I" } : Jvm.MethodName)) ∈ lw_all := lw_g (lw_at lw_m0 88 rfl) rfl
theorem q97 : (Jvm.Cond.code ({ cls := "ShortVectors", name := "second", desc := "()I" } : Jvm.MethodName) prog_1_method_6_code (1 : Nat) (Option.some Jvm.ClassFile.FieldType.int)) ∈ lw_all := lw_g (lw_at lw_m0 89 rfl) rfl
theorem q99 : (Jvm.Cond.instanceMethod ({ cls := "ShortVectors", name := "distance", desc := "(II)I" } : Jvm.MethodName)) ∈ lw_all := lw_g (lw_at lw_m0 91 rfl) rfl
theorem q100 : (Jvm.Cond.selects "ShortVectors" ({ cls := "ShortVectors", name := "distance", desc := "(II)I" } : Jvm.MethodName) ({ cls := "ShortVectors", name := "distance", desc := "(II)I" } : Jvm.MethodName)) ∈ lw_all := lw_g (lw_at lw_m0 92 rfl) rfl
theorem q101 : (Jvm.Cond.code ({ cls := "ShortVectors", name := "distance", desc := "(II)I" } : Jvm.MethodName) prog_1_method_7_code (3 : Nat) (Option.some Jvm.ClassFile.FieldType.int)) ∈ lw_all := lw_g (lw_at lw_m0 93 rfl) rfl
theorem q102 : (Jvm.Cond.methodLink "ShortVectors" (56 : Nat) ({ cls := "ShortVectors", name := "findNearest", desc := "(II)V" } : Jvm.MethodName)) ∈ lw_all := lw_g (lw_at lw_m0 94 rfl) rfl
theorem q103 : (Jvm.Cond.privateMethod ({ cls := "ShortVectors", name := "findNearest", desc := "(II)V" } : Jvm.MethodName)) ∈ lw_tbl := lw_at lw_m0 95 rfl
theorem q104 : (Jvm.Cond.instanceMethod ({ cls := "ShortVectors", name := "findNearest", desc := "(II)V" } : Jvm.MethodName)) ∈ lw_all := lw_g (lw_at lw_m0 96 rfl) rfl
theorem q105 : (Jvm.Cond.code ({ cls := "ShortVectors", name := "findNearest", desc := "(II)V" } : Jvm.MethodName) prog_1_method_20_code (9 : Nat) (Option.none : Option Jvm.ClassFile.FieldType)) ∈ lw_all := lw_g (lw_at lw_m0 97 rfl) rfl
theorem q106 : (Jvm.Cond.methodLink "ShortVectors" (69 : Nat) ({ cls := "ShortVectors", name := "area", desc := "()I" } : Jvm.MethodName)) ∈ lw_all := lw_g (lw_at lw_m0 98 rfl) rfl
theorem q107 : (Jvm.Cond.privateMethod ({ cls := "ShortVectors", name := "area", desc := "()I" } : Jvm.MethodName)) ∈ lw_tbl := lw_at lw_m0 99 rfl
theorem q108 : (Jvm.Cond.instanceMethod ({ cls := "ShortVectors", name := "area", desc := "()I" } : Jvm.MethodName)) ∈ lw_all := lw_g (lw_at lw_m0 100 rfl) rfl
theorem q109 : (Jvm.Cond.code ({ cls := "ShortVectors", name := "area", desc := "()I" } : Jvm.MethodName) prog_1_method_17_code (1 : Nat) (Option.some Jvm.ClassFile.FieldType.int)) ∈ lw_all := lw_g (lw_at lw_m0 101 rfl) rfl
theorem q110 : (Jvm.Cond.constant "ShortVectors" (83 : Nat) (2147483647 : Int32)) ∈ lw_all := lw_g (lw_at lw_m0 102 rfl) rfl
theorem q111 : (Jvm.Cond.methodLink "ShortVectors" (84 : Nat) ({ cls := "ShortVectors", name := "offer", desc := "(IIII)V" } : Jvm.MethodName)) ∈ lw_all := lw_g (lw_at lw_m0 103 rfl) rfl
theorem q112 : (Jvm.Cond.privateMethod ({ cls := "ShortVectors", name := "offer", desc := "(IIII)V" } : Jvm.MethodName)) ∈ lw_tbl := lw_at lw_m0 104 rfl
theorem q113 : (Jvm.Cond.instanceMethod ({ cls := "ShortVectors", name := "offer", desc := "(IIII)V" } : Jvm.MethodName)) ∈ lw_all := lw_g (lw_at lw_m0 105 rfl) rfl
theorem q114 : (Jvm.Cond.code ({ cls := "ShortVectors", name := "offer", desc := "(IIII)V" } : Jvm.MethodName) prog_1_method_21_code (7 : Nat) (Option.none : Option Jvm.ClassFile.FieldType)) ∈ lw_all := lw_g (lw_at lw_m0 106 rfl) rfl
theorem q116 : (Jvm.Cond.instanceMethod ({ cls := "ShortVectors", name := "nearest", desc := "(II)I" } : Jvm.MethodName)) ∈ lw_all := lw_g (lw_at lw_m0 108 rfl) rfl
theorem q117 : (Jvm.Cond.selects "ShortVectors" ({ cls := "ShortVectors", name := "nearest", desc := "(II)I" } : Jvm.MethodName) ({ cls := "ShortVectors", name := "nearest", desc := "(II)I" } : Jvm.MethodName)) ∈ lw_all := lw_g (lw_at lw_m0 109 rfl) rfl
theorem q118 : (Jvm.Cond.code ({ cls := "ShortVectors", name := "nearest", desc := "(II)I" } : Jvm.MethodName) prog_1_method_8_code (3 : Nat) (Option.some Jvm.ClassFile.FieldType.int)) ∈ lw_all := lw_g (lw_at lw_m0 110 rfl) rfl
theorem q120 : (Jvm.Cond.instanceMethod ({ cls := "ShortVectors", name := "within", desc := "(I)I" } : Jvm.MethodName)) ∈ lw_all := lw_g (lw_at lw_m0 112 rfl) rfl
theorem q121 : (Jvm.Cond.selects "ShortVectors" ({ cls := "ShortVectors", name := "within", desc := "(I)I" } : Jvm.MethodName) ({ cls := "ShortVectors", name := "within", desc := "(I)I" } : Jvm.MethodName)) ∈ lw_all := lw_g (lw_at lw_m0 113 rfl) rfl
theorem q122 : (Jvm.Cond.code ({ cls := "ShortVectors", name := "within", desc := "(I)I" } : Jvm.MethodName) prog_1_method_9_code (14 : Nat) (Option.some Jvm.ClassFile.FieldType.int)) ∈ lw_all := lw_g (lw_at lw_m0 114 rfl) rfl
theorem q123 : (Jvm.Cond.methodLink "ShortVectors" (72 : Nat) ({ cls := "ShortVectors", name := "rootOf", desc := "(I)I" } : Jvm.MethodName)) ∈ lw_all := lw_g (lw_at lw_m0 115 rfl) rfl
theorem q124 : (Jvm.Cond.static ({ cls := "ShortVectors", name := "rootOf", desc := "(I)I" } : Jvm.MethodName)) ∈ lw_all := lw_g (lw_at lw_m0 116 rfl) rfl
theorem q125 : (Jvm.Cond.code ({ cls := "ShortVectors", name := "rootOf", desc := "(I)I" } : Jvm.MethodName) prog_1_method_16_code (5 : Nat) (Option.some Jvm.ClassFile.FieldType.int)) ∈ lw_all := lw_g (lw_at lw_m0 117 rfl) rfl
theorem q126 : (Jvm.Cond.constant "ShortVectors" (79 : Nat) (32768 : Int32)) ∈ lw_all := lw_g (lw_at lw_m0 118 rfl) rfl
theorem q128 : (Jvm.Cond.instanceMethod ({ cls := "ShortVectors", name := "same", desc := "(IIII)I" } : Jvm.MethodName)) ∈ lw_all := lw_g (lw_at lw_m0 120 rfl) rfl
theorem q129 : (Jvm.Cond.selects "ShortVectors" ({ cls := "ShortVectors", name := "same", desc := "(IIII)I" } : Jvm.MethodName) ({ cls := "ShortVectors", name := "same", desc := "(IIII)I" } : Jvm.MethodName)) ∈ lw_all := lw_g (lw_at lw_m0 121 rfl) rfl
theorem q130 : (Jvm.Cond.code ({ cls := "ShortVectors", name := "same", desc := "(IIII)I" } : Jvm.MethodName) prog_1_method_10_code (8 : Nat) (Option.some Jvm.ClassFile.FieldType.int)) ∈ lw_all := lw_g (lw_at lw_m0 122 rfl) rfl
theorem in_X0 : ∀ w ∈ wsX00, w ∈ lw_all := lw_in wsX00 [44, 46, 48, 50, 52, 54, 56, 58, 60, 62, 64] (by decide +kernel) (by decide +kernel)
end
section
/-! ShortVectorsModel -/
set_option maxRecDepth 100000
def RX1 : String := "ShortVectorsModel"
def TX1 : u_T := fun k => match k with
  | 0 => ("ShortVectorsModel", "a", "I", false)
  | 1 => ("ShortVectorsModel", "b", "I", false)
  | 2 => ("ShortVectorsModel", "c", "I", false)
  | 3 => ("ShortVectorsModel", "d", "I", false)
  | 4 => ("ShortVectorsModel", "nearU", "I", false)
  | 5 => ("ShortVectorsModel", "nearV", "I", false)
  | _ => ("ShortVectorsModel", "away", "I", false)
def tyX1 : Nat → FieldType := fun k => match k with
  | 0 => .int
  | 1 => .int
  | 2 => .int
  | 3 => .int
  | 4 => .int
  | 5 => .int
  | _ => .int
abbrev wsX10 : List Cond := u_ws RX1 TX1 7
theorem nmX1 : ∀ a, a < 7 → ∀ b, b < 7 → a ≠ b → (TX1 a).2.1 ≠ (TX1 b).2.1 := by decide +kernel
theorem tyX1_ok : ∀ k, k < 7 → parseFieldDescriptor (TX1 k).2.2.1 = some (tyX1 k) := by decide +kernel
abbrev cX1_init : ByteArray := prog_3_method_1_code
def yX1_init : MethodName := ⟨RX1, "<init>", "()V"⟩
theorem dX1_init_0 : decode cX1_init 0 = .ok (.aload_n 0, 1) := by decide +kernel
theorem dX1_init_1 : decode cX1_init 1 = .ok (.invokespecial 1, 3) := by decide +kernel
theorem dX1_init_4 : decode cX1_init 4 = .ok (.aload_n 0, 1) := by decide +kernel
theorem dX1_init_5 : decode cX1_init 5 = .ok (.iconst 1, 1) := by decide +kernel
theorem dX1_init_6 : decode cX1_init 6 = .ok (.putfield 7, 3) := by decide +kernel
theorem dX1_init_9 : decode cX1_init 9 = .ok (.aload_n 0, 1) := by decide +kernel
theorem dX1_init_10 : decode cX1_init 10 = .ok (.iconst 1, 1) := by decide +kernel
theorem dX1_init_11 : decode cX1_init 11 = .ok (.putfield 13, 3) := by decide +kernel
theorem dX1_init_14 : decode cX1_init 14 = .ok (.return_, 1) := by decide +kernel
abbrev cX1_steps : ByteArray := prog_3_method_3_code
def yX1_steps : MethodName := ⟨RX1, "steps", "(IIII)I"⟩
theorem dX1_steps_0 : decode cX1_steps 0 = .ok (.iload_n 1, 1) := by decide +kernel
theorem dX1_steps_1 : decode cX1_steps 1 = .ok (.invokestatic 16, 3) := by decide +kernel
theorem dX1_steps_4 : decode cX1_steps 4 = .ok (.ifCond .ne 36, 3) := by decide +kernel
theorem dX1_steps_7 : decode cX1_steps 7 = .ok (.iload_n 2, 1) := by decide +kernel
theorem dX1_steps_8 : decode cX1_steps 8 = .ok (.invokestatic 16, 3) := by decide +kernel
theorem dX1_steps_11 : decode cX1_steps 11 = .ok (.ifCond .ne 29, 3) := by decide +kernel
theorem dX1_steps_14 : decode cX1_steps 14 = .ok (.iload_n 3, 1) := by decide +kernel
theorem dX1_steps_15 : decode cX1_steps 15 = .ok (.invokestatic 16, 3) := by decide +kernel
theorem dX1_steps_18 : decode cX1_steps 18 = .ok (.ifCond .ne 22, 3) := by decide +kernel
theorem dX1_steps_21 : decode cX1_steps 21 = .ok (.iload 4, 2) := by decide +kernel
theorem dX1_steps_23 : decode cX1_steps 23 = .ok (.invokestatic 16, 3) := by decide +kernel
theorem dX1_steps_26 : decode cX1_steps 26 = .ok (.ifCond .ne 14, 3) := by decide +kernel
theorem dX1_steps_29 : decode cX1_steps 29 = .ok (.iload_n 1, 1) := by decide +kernel
theorem dX1_steps_30 : decode cX1_steps 30 = .ok (.iload 4, 2) := by decide +kernel
theorem dX1_steps_32 : decode cX1_steps 32 = .ok (.imul, 1) := by decide +kernel
theorem dX1_steps_33 : decode cX1_steps 33 = .ok (.iload_n 2, 1) := by decide +kernel
theorem dX1_steps_34 : decode cX1_steps 34 = .ok (.iload_n 3, 1) := by decide +kernel
theorem dX1_steps_35 : decode cX1_steps 35 = .ok (.imul, 1) := by decide +kernel
theorem dX1_steps_36 : decode cX1_steps 36 = .ok (.isub, 1) := by decide +kernel
theorem dX1_steps_37 : decode cX1_steps 37 = .ok (.ifCond .ne 5, 3) := by decide +kernel
theorem dX1_steps_40 : decode cX1_steps 40 = .ok (.iconst (-1), 1) := by decide +kernel
theorem dX1_steps_41 : decode cX1_steps 41 = .ok (.ireturn, 1) := by decide +kernel
theorem dX1_steps_42 : decode cX1_steps 42 = .ok (.aload_n 0, 1) := by decide +kernel
theorem dX1_steps_43 : decode cX1_steps 43 = .ok (.iload_n 1, 1) := by decide +kernel
theorem dX1_steps_44 : decode cX1_steps 44 = .ok (.putfield 7, 3) := by decide +kernel
theorem dX1_steps_47 : decode cX1_steps 47 = .ok (.aload_n 0, 1) := by decide +kernel
theorem dX1_steps_48 : decode cX1_steps 48 = .ok (.iload_n 2, 1) := by decide +kernel
theorem dX1_steps_49 : decode cX1_steps 49 = .ok (.putfield 20, 3) := by decide +kernel
theorem dX1_steps_52 : decode cX1_steps 52 = .ok (.aload_n 0, 1) := by decide +kernel
theorem dX1_steps_53 : decode cX1_steps 53 = .ok (.iload_n 3, 1) := by decide +kernel
theorem dX1_steps_54 : decode cX1_steps 54 = .ok (.putfield 23, 3) := by decide +kernel
theorem dX1_steps_57 : decode cX1_steps 57 = .ok (.aload_n 0, 1) := by decide +kernel
theorem dX1_steps_58 : decode cX1_steps 58 = .ok (.iload 4, 2) := by decide +kernel
theorem dX1_steps_60 : decode cX1_steps 60 = .ok (.putfield 13, 3) := by decide +kernel
theorem dX1_steps_63 : decode cX1_steps 63 = .ok (.iconst 0, 1) := by decide +kernel
theorem dX1_steps_64 : decode cX1_steps 64 = .ok (.ireturn, 1) := by decide +kernel
abbrev cX1_bad : ByteArray := prog_3_method_2_code
def yX1_bad : MethodName := ⟨RX1, "bad", "(I)Z"⟩
theorem dX1_bad_0 : decode cX1_bad 0 = .ok (.iload_n 0, 1) := by decide +kernel
theorem dX1_bad_1 : decode cX1_bad 1 = .ok (.bipush (-30), 2) := by decide +kernel
theorem dX1_bad_3 : decode cX1_bad 3 = .ok (.if_icmp .lt 9, 3) := by decide +kernel
theorem dX1_bad_6 : decode cX1_bad 6 = .ok (.iload_n 0, 1) := by decide +kernel
theorem dX1_bad_7 : decode cX1_bad 7 = .ok (.bipush 30, 2) := by decide +kernel
theorem dX1_bad_9 : decode cX1_bad 9 = .ok (.if_icmp .le 7, 3) := by decide +kernel
theorem dX1_bad_12 : decode cX1_bad 12 = .ok (.iconst 1, 1) := by decide +kernel
theorem dX1_bad_13 : decode cX1_bad 13 = .ok (.goto 4, 3) := by decide +kernel
theorem dX1_bad_16 : decode cX1_bad 16 = .ok (.iconst 0, 1) := by decide +kernel
theorem dX1_bad_17 : decode cX1_bad 17 = .ok (.ireturn, 1) := by decide +kernel
abbrev cX1_has : ByteArray := prog_3_method_7_code
def yX1_has : MethodName := ⟨RX1, "has", "(II)I"⟩
theorem dX1_has_0 : decode cX1_has 0 = .ok (.iload_n 1, 1) := by decide +kernel
theorem dX1_has_1 : decode cX1_has 1 = .ok (.iload_n 2, 1) := by decide +kernel
theorem dX1_has_2 : decode cX1_has 2 = .ok (.invokestatic 30, 3) := by decide +kernel
theorem dX1_has_5 : decode cX1_has 5 = .ok (.ifCond .eq 5, 3) := by decide +kernel
theorem dX1_has_8 : decode cX1_has 8 = .ok (.iconst (-1), 1) := by decide +kernel
theorem dX1_has_9 : decode cX1_has 9 = .ok (.ireturn, 1) := by decide +kernel
theorem dX1_has_10 : decode cX1_has 10 = .ok (.aload_n 0, 1) := by decide +kernel
theorem dX1_has_11 : decode cX1_has 11 = .ok (.iload_n 1, 1) := by decide +kernel
theorem dX1_has_12 : decode cX1_has 12 = .ok (.iload_n 2, 1) := by decide +kernel
theorem dX1_has_13 : decode cX1_has 13 = .ok (.invokevirtual 34, 3) := by decide +kernel
theorem dX1_has_16 : decode cX1_has 16 = .ok (.ifCond .eq 7, 3) := by decide +kernel
theorem dX1_has_19 : decode cX1_has 19 = .ok (.iconst 1, 1) := by decide +kernel
theorem dX1_has_20 : decode cX1_has 20 = .ok (.goto 4, 3) := by decide +kernel
theorem dX1_has_23 : decode cX1_has 23 = .ok (.iconst 0, 1) := by decide +kernel
theorem dX1_has_24 : decode cX1_has 24 = .ok (.ireturn, 1) := by decide +kernel
abbrev cX1_far : ByteArray := prog_3_method_6_code
def yX1_far : MethodName := ⟨RX1, "far", "(II)Z"⟩
theorem dX1_far_0 : decode cX1_far 0 = .ok (.iload_n 0, 1) := by decide +kernel
theorem dX1_far_1 : decode cX1_far 1 = .ok (.sipush (-1000), 3) := by decide +kernel
theorem dX1_far_4 : decode cX1_far 4 = .ok (.if_icmp .lt 24, 3) := by decide +kernel
theorem dX1_far_7 : decode cX1_far 7 = .ok (.iload_n 0, 1) := by decide +kernel
theorem dX1_far_8 : decode cX1_far 8 = .ok (.sipush 1000, 3) := by decide +kernel
theorem dX1_far_11 : decode cX1_far 11 = .ok (.if_icmp .gt 17, 3) := by decide +kernel
theorem dX1_far_14 : decode cX1_far 14 = .ok (.iload_n 1, 1) := by decide +kernel
theorem dX1_far_15 : decode cX1_far 15 = .ok (.sipush (-1000), 3) := by decide +kernel
theorem dX1_far_18 : decode cX1_far 18 = .ok (.if_icmp .lt 10, 3) := by decide +kernel
theorem dX1_far_21 : decode cX1_far 21 = .ok (.iload_n 1, 1) := by decide +kernel
theorem dX1_far_22 : decode cX1_far 22 = .ok (.sipush 1000, 3) := by decide +kernel
theorem dX1_far_25 : decode cX1_far 25 = .ok (.if_icmp .le 7, 3) := by decide +kernel
theorem dX1_far_28 : decode cX1_far 28 = .ok (.iconst 1, 1) := by decide +kernel
theorem dX1_far_29 : decode cX1_far 29 = .ok (.goto 4, 3) := by decide +kernel
theorem dX1_far_32 : decode cX1_far 32 = .ok (.iconst 0, 1) := by decide +kernel
theorem dX1_far_33 : decode cX1_far 33 = .ok (.ireturn, 1) := by decide +kernel
abbrev cX1_isPoint : ByteArray := prog_3_method_5_code
def yX1_isPoint : MethodName := ⟨RX1, "isPoint", "(II)Z"⟩
theorem dX1_isPoint_0 : decode cX1_isPoint 0 = .ok (.iload_n 1, 1) := by decide +kernel
theorem dX1_isPoint_1 : decode cX1_isPoint 1 = .ok (.iload_n 2, 1) := by decide +kernel
theorem dX1_isPoint_2 : decode cX1_isPoint 2 = .ok (.aload_n 0, 1) := by decide +kernel
theorem dX1_isPoint_3 : decode cX1_isPoint 3 = .ok (.getfield 7, 3) := by decide +kernel
theorem dX1_isPoint_6 : decode cX1_isPoint 6 = .ok (.aload_n 0, 1) := by decide +kernel
theorem dX1_isPoint_7 : decode cX1_isPoint 7 = .ok (.getfield 20, 3) := by decide +kernel
theorem dX1_isPoint_10 : decode cX1_isPoint 10 = .ok (.aload_n 0, 1) := by decide +kernel
theorem dX1_isPoint_11 : decode cX1_isPoint 11 = .ok (.getfield 23, 3) := by decide +kernel
theorem dX1_isPoint_14 : decode cX1_isPoint 14 = .ok (.aload_n 0, 1) := by decide +kernel
theorem dX1_isPoint_15 : decode cX1_isPoint 15 = .ok (.getfield 13, 3) := by decide +kernel
theorem dX1_isPoint_18 : decode cX1_isPoint 18 = .ok (.invokestatic 26, 3) := by decide +kernel
theorem dX1_isPoint_21 : decode cX1_isPoint 21 = .ok (.ireturn, 1) := by decide +kernel
abbrev cX1_in : ByteArray := prog_3_method_4_code
def yX1_in : MethodName := ⟨RX1, "in", "(IIIIII)Z"⟩
theorem dX1_in_0 : decode cX1_in 0 = .ok (.iload_n 2, 1) := by decide +kernel
theorem dX1_in_1 : decode cX1_in 1 = .ok (.iload 5, 2) := by decide +kernel
theorem dX1_in_3 : decode cX1_in 3 = .ok (.imul, 1) := by decide +kernel
theorem dX1_in_4 : decode cX1_in 4 = .ok (.iload_n 3, 1) := by decide +kernel
theorem dX1_in_5 : decode cX1_in 5 = .ok (.iload 4, 2) := by decide +kernel
theorem dX1_in_7 : decode cX1_in 7 = .ok (.imul, 1) := by decide +kernel
theorem dX1_in_8 : decode cX1_in 8 = .ok (.isub, 1) := by decide +kernel
theorem dX1_in_9 : decode cX1_in 9 = .ok (.istore 6, 2) := by decide +kernel
theorem dX1_in_11 : decode cX1_in 11 = .ok (.iload 6, 2) := by decide +kernel
theorem dX1_in_13 : decode cX1_in 13 = .ok (.ifCond .ne 5, 3) := by decide +kernel
theorem dX1_in_16 : decode cX1_in 16 = .ok (.iconst 0, 1) := by decide +kernel
theorem dX1_in_17 : decode cX1_in 17 = .ok (.ireturn, 1) := by decide +kernel
theorem dX1_in_18 : decode cX1_in 18 = .ok (.iload_n 0, 1) := by decide +kernel
theorem dX1_in_19 : decode cX1_in 19 = .ok (.iload 5, 2) := by decide +kernel
theorem dX1_in_21 : decode cX1_in 21 = .ok (.imul, 1) := by decide +kernel
theorem dX1_in_22 : decode cX1_in 22 = .ok (.iload_n 1, 1) := by decide +kernel
theorem dX1_in_23 : decode cX1_in 23 = .ok (.iload 4, 2) := by decide +kernel
theorem dX1_in_25 : decode cX1_in 25 = .ok (.imul, 1) := by decide +kernel
theorem dX1_in_26 : decode cX1_in 26 = .ok (.isub, 1) := by decide +kernel
theorem dX1_in_27 : decode cX1_in 27 = .ok (.iload 6, 2) := by decide +kernel
theorem dX1_in_29 : decode cX1_in 29 = .ok (.irem, 1) := by decide +kernel
theorem dX1_in_30 : decode cX1_in 30 = .ok (.ifCond .ne 20, 3) := by decide +kernel
theorem dX1_in_33 : decode cX1_in 33 = .ok (.iload_n 1, 1) := by decide +kernel
theorem dX1_in_34 : decode cX1_in 34 = .ok (.iload_n 2, 1) := by decide +kernel
theorem dX1_in_35 : decode cX1_in 35 = .ok (.imul, 1) := by decide +kernel
theorem dX1_in_36 : decode cX1_in 36 = .ok (.iload_n 0, 1) := by decide +kernel
theorem dX1_in_37 : decode cX1_in 37 = .ok (.iload_n 3, 1) := by decide +kernel
theorem dX1_in_38 : decode cX1_in 38 = .ok (.imul, 1) := by decide +kernel
theorem dX1_in_39 : decode cX1_in 39 = .ok (.isub, 1) := by decide +kernel
theorem dX1_in_40 : decode cX1_in 40 = .ok (.iload 6, 2) := by decide +kernel
theorem dX1_in_42 : decode cX1_in 42 = .ok (.irem, 1) := by decide +kernel
theorem dX1_in_43 : decode cX1_in 43 = .ok (.ifCond .ne 7, 3) := by decide +kernel
theorem dX1_in_46 : decode cX1_in 46 = .ok (.iconst 1, 1) := by decide +kernel
theorem dX1_in_47 : decode cX1_in 47 = .ok (.goto 4, 3) := by decide +kernel
theorem dX1_in_50 : decode cX1_in 50 = .ok (.iconst 0, 1) := by decide +kernel
theorem dX1_in_51 : decode cX1_in 51 = .ok (.ireturn, 1) := by decide +kernel
abbrev cX1_shortest : ByteArray := prog_3_method_8_code
def yX1_shortest : MethodName := ⟨RX1, "shortest", "()I"⟩
theorem dX1_shortest_0 : decode cX1_shortest 0 = .ok (.sipush 10000, 3) := by decide +kernel
theorem dX1_shortest_3 : decode cX1_shortest 3 = .ok (.istore_n 1, 1) := by decide +kernel
theorem dX1_shortest_4 : decode cX1_shortest 4 = .ok (.bipush (-43), 2) := by decide +kernel
theorem dX1_shortest_6 : decode cX1_shortest 6 = .ok (.istore_n 2, 1) := by decide +kernel
theorem dX1_shortest_7 : decode cX1_shortest 7 = .ok (.iload_n 2, 1) := by decide +kernel
theorem dX1_shortest_8 : decode cX1_shortest 8 = .ok (.bipush 43, 2) := by decide +kernel
theorem dX1_shortest_10 : decode cX1_shortest 10 = .ok (.if_icmp .gt 56, 3) := by decide +kernel
theorem dX1_shortest_13 : decode cX1_shortest 13 = .ok (.bipush (-43), 2) := by decide +kernel
theorem dX1_shortest_15 : decode cX1_shortest 15 = .ok (.istore_n 3, 1) := by decide +kernel
theorem dX1_shortest_16 : decode cX1_shortest 16 = .ok (.iload_n 3, 1) := by decide +kernel
theorem dX1_shortest_17 : decode cX1_shortest 17 = .ok (.bipush 43, 2) := by decide +kernel
theorem dX1_shortest_19 : decode cX1_shortest 19 = .ok (.if_icmp .gt 41, 3) := by decide +kernel
theorem dX1_shortest_22 : decode cX1_shortest 22 = .ok (.iload_n 2, 1) := by decide +kernel
theorem dX1_shortest_23 : decode cX1_shortest 23 = .ok (.iload_n 2, 1) := by decide +kernel
theorem dX1_shortest_24 : decode cX1_shortest 24 = .ok (.imul, 1) := by decide +kernel
theorem dX1_shortest_25 : decode cX1_shortest 25 = .ok (.iload_n 3, 1) := by decide +kernel
theorem dX1_shortest_26 : decode cX1_shortest 26 = .ok (.iload_n 3, 1) := by decide +kernel
theorem dX1_shortest_27 : decode cX1_shortest 27 = .ok (.imul, 1) := by decide +kernel
theorem dX1_shortest_28 : decode cX1_shortest 28 = .ok (.iadd, 1) := by decide +kernel
theorem dX1_shortest_29 : decode cX1_shortest 29 = .ok (.istore 4, 2) := by decide +kernel
theorem dX1_shortest_31 : decode cX1_shortest 31 = .ok (.iload 4, 2) := by decide +kernel
theorem dX1_shortest_33 : decode cX1_shortest 33 = .ok (.ifCond .le 21, 3) := by decide +kernel
theorem dX1_shortest_36 : decode cX1_shortest 36 = .ok (.iload 4, 2) := by decide +kernel
theorem dX1_shortest_38 : decode cX1_shortest 38 = .ok (.iload_n 1, 1) := by decide +kernel
theorem dX1_shortest_39 : decode cX1_shortest 39 = .ok (.if_icmp .ge 15, 3) := by decide +kernel
theorem dX1_shortest_42 : decode cX1_shortest 42 = .ok (.aload_n 0, 1) := by decide +kernel
theorem dX1_shortest_43 : decode cX1_shortest 43 = .ok (.iload_n 2, 1) := by decide +kernel
theorem dX1_shortest_44 : decode cX1_shortest 44 = .ok (.iload_n 3, 1) := by decide +kernel
theorem dX1_shortest_45 : decode cX1_shortest 45 = .ok (.invokevirtual 34, 3) := by decide +kernel
theorem dX1_shortest_48 : decode cX1_shortest 48 = .ok (.ifCond .eq 6, 3) := by decide +kernel
theorem dX1_shortest_51 : decode cX1_shortest 51 = .ok (.iload 4, 2) := by decide +kernel
theorem dX1_shortest_53 : decode cX1_shortest 53 = .ok (.istore_n 1, 1) := by decide +kernel
theorem dX1_shortest_54 : decode cX1_shortest 54 = .ok (.iinc 3 1, 3) := by decide +kernel
theorem dX1_shortest_57 : decode cX1_shortest 57 = .ok (.goto (-41), 3) := by decide +kernel
theorem dX1_shortest_60 : decode cX1_shortest 60 = .ok (.iinc 2 1, 3) := by decide +kernel
theorem dX1_shortest_63 : decode cX1_shortest 63 = .ok (.goto (-56), 3) := by decide +kernel
theorem dX1_shortest_66 : decode cX1_shortest 66 = .ok (.iload_n 1, 1) := by decide +kernel
theorem dX1_shortest_67 : decode cX1_shortest 67 = .ok (.ireturn, 1) := by decide +kernel
abbrev cX1_many : ByteArray := prog_3_method_9_code
def yX1_many : MethodName := ⟨RX1, "many", "()I"⟩
theorem dX1_many_0 : decode cX1_many 0 = .ok (.aload_n 0, 1) := by decide +kernel
theorem dX1_many_1 : decode cX1_many 1 = .ok (.invokevirtual 37, 3) := by decide +kernel
theorem dX1_many_4 : decode cX1_many 4 = .ok (.istore_n 1, 1) := by decide +kernel
theorem dX1_many_5 : decode cX1_many 5 = .ok (.iconst 0, 1) := by decide +kernel
theorem dX1_many_6 : decode cX1_many 6 = .ok (.istore_n 2, 1) := by decide +kernel
theorem dX1_many_7 : decode cX1_many 7 = .ok (.bipush (-43), 2) := by decide +kernel
theorem dX1_many_9 : decode cX1_many 9 = .ok (.istore_n 3, 1) := by decide +kernel
theorem dX1_many_10 : decode cX1_many 10 = .ok (.iload_n 3, 1) := by decide +kernel
theorem dX1_many_11 : decode cX1_many 11 = .ok (.bipush 43, 2) := by decide +kernel
theorem dX1_many_13 : decode cX1_many 13 = .ok (.if_icmp .gt 52, 3) := by decide +kernel
theorem dX1_many_16 : decode cX1_many 16 = .ok (.bipush (-43), 2) := by decide +kernel
theorem dX1_many_18 : decode cX1_many 18 = .ok (.istore 4, 2) := by decide +kernel
theorem dX1_many_20 : decode cX1_many 20 = .ok (.iload 4, 2) := by decide +kernel
theorem dX1_many_22 : decode cX1_many 22 = .ok (.bipush 43, 2) := by decide +kernel
theorem dX1_many_24 : decode cX1_many 24 = .ok (.if_icmp .gt 35, 3) := by decide +kernel
theorem dX1_many_27 : decode cX1_many 27 = .ok (.iload_n 3, 1) := by decide +kernel
theorem dX1_many_28 : decode cX1_many 28 = .ok (.iload_n 3, 1) := by decide +kernel
theorem dX1_many_29 : decode cX1_many 29 = .ok (.imul, 1) := by decide +kernel
theorem dX1_many_30 : decode cX1_many 30 = .ok (.iload 4, 2) := by decide +kernel
theorem dX1_many_32 : decode cX1_many 32 = .ok (.iload 4, 2) := by decide +kernel
theorem dX1_many_34 : decode cX1_many 34 = .ok (.imul, 1) := by decide +kernel
theorem dX1_many_35 : decode cX1_many 35 = .ok (.iadd, 1) := by decide +kernel
theorem dX1_many_36 : decode cX1_many 36 = .ok (.iload_n 1, 1) := by decide +kernel
theorem dX1_many_37 : decode cX1_many 37 = .ok (.if_icmp .ne 16, 3) := by decide +kernel
theorem dX1_many_40 : decode cX1_many 40 = .ok (.aload_n 0, 1) := by decide +kernel
theorem dX1_many_41 : decode cX1_many 41 = .ok (.iload_n 3, 1) := by decide +kernel
theorem dX1_many_42 : decode cX1_many 42 = .ok (.iload 4, 2) := by decide +kernel
theorem dX1_many_44 : decode cX1_many 44 = .ok (.invokevirtual 34, 3) := by decide +kernel
theorem dX1_many_47 : decode cX1_many 47 = .ok (.ifCond .eq 6, 3) := by decide +kernel
theorem dX1_many_50 : decode cX1_many 50 = .ok (.iinc 2 1, 3) := by decide +kernel
theorem dX1_many_53 : decode cX1_many 53 = .ok (.iinc 4 1, 3) := by decide +kernel
theorem dX1_many_56 : decode cX1_many 56 = .ok (.goto (-36), 3) := by decide +kernel
theorem dX1_many_59 : decode cX1_many 59 = .ok (.iinc 3 1, 3) := by decide +kernel
theorem dX1_many_62 : decode cX1_many 62 = .ok (.goto (-52), 3) := by decide +kernel
theorem dX1_many_65 : decode cX1_many 65 = .ok (.iload_n 2, 1) := by decide +kernel
theorem dX1_many_66 : decode cX1_many 66 = .ok (.ireturn, 1) := by decide +kernel
abbrev cX1_second : ByteArray := prog_3_method_10_code
def yX1_second : MethodName := ⟨RX1, "second", "()I"⟩
theorem dX1_second_0 : decode cX1_second 0 = .ok (.aload_n 0, 1) := by decide +kernel
theorem dX1_second_1 : decode cX1_second 1 = .ok (.invokevirtual 37, 3) := by decide +kernel
theorem dX1_second_4 : decode cX1_second 4 = .ok (.istore_n 1, 1) := by decide +kernel
theorem dX1_second_5 : decode cX1_second 5 = .ok (.iconst 0, 1) := by decide +kernel
theorem dX1_second_6 : decode cX1_second 6 = .ok (.istore_n 2, 1) := by decide +kernel
theorem dX1_second_7 : decode cX1_second 7 = .ok (.iconst 0, 1) := by decide +kernel
theorem dX1_second_8 : decode cX1_second 8 = .ok (.istore_n 3, 1) := by decide +kernel
theorem dX1_second_9 : decode cX1_second 9 = .ok (.bipush (-43), 2) := by decide +kernel
theorem dX1_second_11 : decode cX1_second 11 = .ok (.istore 4, 2) := by decide +kernel
theorem dX1_second_13 : decode cX1_second 13 = .ok (.iload 4, 2) := by decide +kernel
theorem dX1_second_15 : decode cX1_second 15 = .ok (.bipush 43, 2) := by decide +kernel
theorem dX1_second_17 : decode cX1_second 17 = .ok (.if_icmp .gt 58, 3) := by decide +kernel
theorem dX1_second_20 : decode cX1_second 20 = .ok (.bipush (-43), 2) := by decide +kernel
theorem dX1_second_22 : decode cX1_second 22 = .ok (.istore 5, 2) := by decide +kernel
theorem dX1_second_24 : decode cX1_second 24 = .ok (.iload 5, 2) := by decide +kernel
theorem dX1_second_26 : decode cX1_second 26 = .ok (.bipush 43, 2) := by decide +kernel
theorem dX1_second_28 : decode cX1_second 28 = .ok (.if_icmp .gt 41, 3) := by decide +kernel
theorem dX1_second_31 : decode cX1_second 31 = .ok (.iload 4, 2) := by decide +kernel
theorem dX1_second_33 : decode cX1_second 33 = .ok (.iload 4, 2) := by decide +kernel
theorem dX1_second_35 : decode cX1_second 35 = .ok (.imul, 1) := by decide +kernel
theorem dX1_second_36 : decode cX1_second 36 = .ok (.iload 5, 2) := by decide +kernel
theorem dX1_second_38 : decode cX1_second 38 = .ok (.iload 5, 2) := by decide +kernel
theorem dX1_second_40 : decode cX1_second 40 = .ok (.imul, 1) := by decide +kernel
theorem dX1_second_41 : decode cX1_second 41 = .ok (.iadd, 1) := by decide +kernel
theorem dX1_second_42 : decode cX1_second 42 = .ok (.iload_n 1, 1) := by decide +kernel
theorem dX1_second_43 : decode cX1_second 43 = .ok (.if_icmp .ne 20, 3) := by decide +kernel
theorem dX1_second_46 : decode cX1_second 46 = .ok (.aload_n 0, 1) := by decide +kernel
theorem dX1_second_47 : decode cX1_second 47 = .ok (.iload 4, 2) := by decide +kernel
theorem dX1_second_49 : decode cX1_second 49 = .ok (.iload 5, 2) := by decide +kernel
theorem dX1_second_51 : decode cX1_second 51 = .ok (.invokevirtual 34, 3) := by decide +kernel
theorem dX1_second_54 : decode cX1_second 54 = .ok (.ifCond .eq 9, 3) := by decide +kernel
theorem dX1_second_57 : decode cX1_second 57 = .ok (.iload 4, 2) := by decide +kernel
theorem dX1_second_59 : decode cX1_second 59 = .ok (.istore_n 2, 1) := by decide +kernel
theorem dX1_second_60 : decode cX1_second 60 = .ok (.iload 5, 2) := by decide +kernel
theorem dX1_second_62 : decode cX1_second 62 = .ok (.istore_n 3, 1) := by decide +kernel
theorem dX1_second_63 : decode cX1_second 63 = .ok (.iinc 5 1, 3) := by decide +kernel
theorem dX1_second_66 : decode cX1_second 66 = .ok (.goto (-42), 3) := by decide +kernel
theorem dX1_second_69 : decode cX1_second 69 = .ok (.iinc 4 1, 3) := by decide +kernel
theorem dX1_second_72 : decode cX1_second 72 = .ok (.goto (-59), 3) := by decide +kernel
theorem dX1_second_75 : decode cX1_second 75 = .ok (.sipush 10000, 3) := by decide +kernel
theorem dX1_second_78 : decode cX1_second 78 = .ok (.istore 4, 2) := by decide +kernel
theorem dX1_second_80 : decode cX1_second 80 = .ok (.bipush (-43), 2) := by decide +kernel
theorem dX1_second_82 : decode cX1_second 82 = .ok (.istore 5, 2) := by decide +kernel
theorem dX1_second_84 : decode cX1_second 84 = .ok (.iload 5, 2) := by decide +kernel
theorem dX1_second_86 : decode cX1_second 86 = .ok (.bipush 43, 2) := by decide +kernel
theorem dX1_second_88 : decode cX1_second 88 = .ok (.if_icmp .gt 72, 3) := by decide +kernel
theorem dX1_second_91 : decode cX1_second 91 = .ok (.bipush (-43), 2) := by decide +kernel
theorem dX1_second_93 : decode cX1_second 93 = .ok (.istore 6, 2) := by decide +kernel
theorem dX1_second_95 : decode cX1_second 95 = .ok (.iload 6, 2) := by decide +kernel
theorem dX1_second_97 : decode cX1_second 97 = .ok (.bipush 43, 2) := by decide +kernel
theorem dX1_second_99 : decode cX1_second 99 = .ok (.if_icmp .gt 55, 3) := by decide +kernel
theorem dX1_second_102 : decode cX1_second 102 = .ok (.iload 5, 2) := by decide +kernel
theorem dX1_second_104 : decode cX1_second 104 = .ok (.iload 5, 2) := by decide +kernel
theorem dX1_second_106 : decode cX1_second 106 = .ok (.imul, 1) := by decide +kernel
theorem dX1_second_107 : decode cX1_second 107 = .ok (.iload 6, 2) := by decide +kernel
theorem dX1_second_109 : decode cX1_second 109 = .ok (.iload 6, 2) := by decide +kernel
theorem dX1_second_111 : decode cX1_second 111 = .ok (.imul, 1) := by decide +kernel
theorem dX1_second_112 : decode cX1_second 112 = .ok (.iadd, 1) := by decide +kernel
theorem dX1_second_113 : decode cX1_second 113 = .ok (.istore 7, 2) := by decide +kernel
theorem dX1_second_115 : decode cX1_second 115 = .ok (.iload 5, 2) := by decide +kernel
theorem dX1_second_117 : decode cX1_second 117 = .ok (.iload_n 3, 1) := by decide +kernel
theorem dX1_second_118 : decode cX1_second 118 = .ok (.imul, 1) := by decide +kernel
theorem dX1_second_119 : decode cX1_second 119 = .ok (.iload 6, 2) := by decide +kernel
theorem dX1_second_121 : decode cX1_second 121 = .ok (.iload_n 2, 1) := by decide +kernel
theorem dX1_second_122 : decode cX1_second 122 = .ok (.imul, 1) := by decide +kernel
theorem dX1_second_123 : decode cX1_second 123 = .ok (.if_icmp .eq 25, 3) := by decide +kernel
theorem dX1_second_126 : decode cX1_second 126 = .ok (.iload 7, 2) := by decide +kernel
theorem dX1_second_128 : decode cX1_second 128 = .ok (.iload 4, 2) := by decide +kernel
theorem dX1_second_130 : decode cX1_second 130 = .ok (.if_icmp .ge 18, 3) := by decide +kernel
theorem dX1_second_133 : decode cX1_second 133 = .ok (.aload_n 0, 1) := by decide +kernel
theorem dX1_second_134 : decode cX1_second 134 = .ok (.iload 5, 2) := by decide +kernel
theorem dX1_second_136 : decode cX1_second 136 = .ok (.iload 6, 2) := by decide +kernel
theorem dX1_second_138 : decode cX1_second 138 = .ok (.invokevirtual 34, 3) := by decide +kernel
theorem dX1_second_141 : decode cX1_second 141 = .ok (.ifCond .eq 7, 3) := by decide +kernel
theorem dX1_second_144 : decode cX1_second 144 = .ok (.iload 7, 2) := by decide +kernel
theorem dX1_second_146 : decode cX1_second 146 = .ok (.istore 4, 2) := by decide +kernel
theorem dX1_second_148 : decode cX1_second 148 = .ok (.iinc 6 1, 3) := by decide +kernel
theorem dX1_second_151 : decode cX1_second 151 = .ok (.goto (-56), 3) := by decide +kernel
theorem dX1_second_154 : decode cX1_second 154 = .ok (.iinc 5 1, 3) := by decide +kernel
theorem dX1_second_157 : decode cX1_second 157 = .ok (.goto (-73), 3) := by decide +kernel
theorem dX1_second_160 : decode cX1_second 160 = .ok (.iload 4, 2) := by decide +kernel
theorem dX1_second_162 : decode cX1_second 162 = .ok (.ireturn, 1) := by decide +kernel
abbrev cX1_distance : ByteArray := prog_3_method_12_code
def yX1_distance : MethodName := ⟨RX1, "distance", "(II)I"⟩
theorem dX1_distance_0 : decode cX1_distance 0 = .ok (.iload_n 1, 1) := by decide +kernel
theorem dX1_distance_1 : decode cX1_distance 1 = .ok (.iload_n 2, 1) := by decide +kernel
theorem dX1_distance_2 : decode cX1_distance 2 = .ok (.invokestatic 30, 3) := by decide +kernel
theorem dX1_distance_5 : decode cX1_distance 5 = .ok (.ifCond .eq 5, 3) := by decide +kernel
theorem dX1_distance_8 : decode cX1_distance 8 = .ok (.iconst (-1), 1) := by decide +kernel
theorem dX1_distance_9 : decode cX1_distance 9 = .ok (.ireturn, 1) := by decide +kernel
theorem dX1_distance_10 : decode cX1_distance 10 = .ok (.aload_n 0, 1) := by decide +kernel
theorem dX1_distance_11 : decode cX1_distance 11 = .ok (.iload_n 1, 1) := by decide +kernel
theorem dX1_distance_12 : decode cX1_distance 12 = .ok (.iload_n 2, 1) := by decide +kernel
theorem dX1_distance_13 : decode cX1_distance 13 = .ok (.invokevirtual 51, 3) := by decide +kernel
theorem dX1_distance_16 : decode cX1_distance 16 = .ok (.aload_n 0, 1) := by decide +kernel
theorem dX1_distance_17 : decode cX1_distance 17 = .ok (.getfield 42, 3) := by decide +kernel
theorem dX1_distance_20 : decode cX1_distance 20 = .ok (.ireturn, 1) := by decide +kernel
abbrev cX1_search : ByteArray := prog_3_method_11_code
def yX1_search : MethodName := ⟨RX1, "search", "(II)V"⟩
theorem dX1_search_0 : decode cX1_search 0 = .ok (.aload_n 0, 1) := by decide +kernel
theorem dX1_search_1 : decode cX1_search 1 = .ok (.ldc 41, 2) := by decide +kernel
theorem dX1_search_3 : decode cX1_search 3 = .ok (.putfield 42, 3) := by decide +kernel
theorem dX1_search_6 : decode cX1_search 6 = .ok (.iload_n 1, 1) := by decide +kernel
theorem dX1_search_7 : decode cX1_search 7 = .ok (.bipush 43, 2) := by decide +kernel
theorem dX1_search_9 : decode cX1_search 9 = .ok (.isub, 1) := by decide +kernel
theorem dX1_search_10 : decode cX1_search 10 = .ok (.istore_n 3, 1) := by decide +kernel
theorem dX1_search_11 : decode cX1_search 11 = .ok (.iload_n 3, 1) := by decide +kernel
theorem dX1_search_12 : decode cX1_search 12 = .ok (.iload_n 1, 1) := by decide +kernel
theorem dX1_search_13 : decode cX1_search 13 = .ok (.bipush 43, 2) := by decide +kernel
theorem dX1_search_15 : decode cX1_search 15 = .ok (.iadd, 1) := by decide +kernel
theorem dX1_search_16 : decode cX1_search 16 = .ok (.if_icmp .gt 85, 3) := by decide +kernel
theorem dX1_search_19 : decode cX1_search 19 = .ok (.iload_n 2, 1) := by decide +kernel
theorem dX1_search_20 : decode cX1_search 20 = .ok (.bipush 43, 2) := by decide +kernel
theorem dX1_search_22 : decode cX1_search 22 = .ok (.isub, 1) := by decide +kernel
theorem dX1_search_23 : decode cX1_search 23 = .ok (.istore 4, 2) := by decide +kernel
theorem dX1_search_25 : decode cX1_search 25 = .ok (.iload 4, 2) := by decide +kernel
theorem dX1_search_27 : decode cX1_search 27 = .ok (.iload_n 2, 1) := by decide +kernel
theorem dX1_search_28 : decode cX1_search 28 = .ok (.bipush 43, 2) := by decide +kernel
theorem dX1_search_30 : decode cX1_search 30 = .ok (.iadd, 1) := by decide +kernel
theorem dX1_search_31 : decode cX1_search 31 = .ok (.if_icmp .gt 64, 3) := by decide +kernel
theorem dX1_search_34 : decode cX1_search 34 = .ok (.iload_n 1, 1) := by decide +kernel
theorem dX1_search_35 : decode cX1_search 35 = .ok (.iload_n 3, 1) := by decide +kernel
theorem dX1_search_36 : decode cX1_search 36 = .ok (.isub, 1) := by decide +kernel
theorem dX1_search_37 : decode cX1_search 37 = .ok (.iload_n 1, 1) := by decide +kernel
theorem dX1_search_38 : decode cX1_search 38 = .ok (.iload_n 3, 1) := by decide +kernel
theorem dX1_search_39 : decode cX1_search 39 = .ok (.isub, 1) := by decide +kernel
theorem dX1_search_40 : decode cX1_search 40 = .ok (.imul, 1) := by decide +kernel
theorem dX1_search_41 : decode cX1_search 41 = .ok (.iload_n 2, 1) := by decide +kernel
theorem dX1_search_42 : decode cX1_search 42 = .ok (.iload 4, 2) := by decide +kernel
theorem dX1_search_44 : decode cX1_search 44 = .ok (.isub, 1) := by decide +kernel
theorem dX1_search_45 : decode cX1_search 45 = .ok (.iload_n 2, 1) := by decide +kernel
theorem dX1_search_46 : decode cX1_search 46 = .ok (.iload 4, 2) := by decide +kernel
theorem dX1_search_48 : decode cX1_search 48 = .ok (.isub, 1) := by decide +kernel
theorem dX1_search_49 : decode cX1_search 49 = .ok (.imul, 1) := by decide +kernel
theorem dX1_search_50 : decode cX1_search 50 = .ok (.iadd, 1) := by decide +kernel
theorem dX1_search_51 : decode cX1_search 51 = .ok (.istore 5, 2) := by decide +kernel
theorem dX1_search_53 : decode cX1_search 53 = .ok (.iload 5, 2) := by decide +kernel
theorem dX1_search_55 : decode cX1_search 55 = .ok (.aload_n 0, 1) := by decide +kernel
theorem dX1_search_56 : decode cX1_search 56 = .ok (.getfield 42, 3) := by decide +kernel
theorem dX1_search_59 : decode cX1_search 59 = .ok (.if_icmp .ge 30, 3) := by decide +kernel
theorem dX1_search_62 : decode cX1_search 62 = .ok (.aload_n 0, 1) := by decide +kernel
theorem dX1_search_63 : decode cX1_search 63 = .ok (.iload_n 3, 1) := by decide +kernel
theorem dX1_search_64 : decode cX1_search 64 = .ok (.iload 4, 2) := by decide +kernel
theorem dX1_search_66 : decode cX1_search 66 = .ok (.invokevirtual 34, 3) := by decide +kernel
theorem dX1_search_69 : decode cX1_search 69 = .ok (.ifCond .eq 20, 3) := by decide +kernel
theorem dX1_search_72 : decode cX1_search 72 = .ok (.aload_n 0, 1) := by decide +kernel
theorem dX1_search_73 : decode cX1_search 73 = .ok (.iload 5, 2) := by decide +kernel
theorem dX1_search_75 : decode cX1_search 75 = .ok (.putfield 42, 3) := by decide +kernel
theorem dX1_search_78 : decode cX1_search 78 = .ok (.aload_n 0, 1) := by decide +kernel
theorem dX1_search_79 : decode cX1_search 79 = .ok (.iload_n 3, 1) := by decide +kernel
theorem dX1_search_80 : decode cX1_search 80 = .ok (.putfield 45, 3) := by decide +kernel
theorem dX1_search_83 : decode cX1_search 83 = .ok (.aload_n 0, 1) := by decide +kernel
theorem dX1_search_84 : decode cX1_search 84 = .ok (.iload 4, 2) := by decide +kernel
theorem dX1_search_86 : decode cX1_search 86 = .ok (.putfield 48, 3) := by decide +kernel
theorem dX1_search_89 : decode cX1_search 89 = .ok (.iinc 4 1, 3) := by decide +kernel
theorem dX1_search_92 : decode cX1_search 92 = .ok (.goto (-67), 3) := by decide +kernel
theorem dX1_search_95 : decode cX1_search 95 = .ok (.iinc 3 1, 3) := by decide +kernel
theorem dX1_search_98 : decode cX1_search 98 = .ok (.goto (-87), 3) := by decide +kernel
theorem dX1_search_101 : decode cX1_search 101 = .ok (.return_, 1) := by decide +kernel
abbrev cX1_nearest : ByteArray := prog_3_method_13_code
def yX1_nearest : MethodName := ⟨RX1, "nearest", "(II)I"⟩
theorem dX1_nearest_0 : decode cX1_nearest 0 = .ok (.iload_n 1, 1) := by decide +kernel
theorem dX1_nearest_1 : decode cX1_nearest 1 = .ok (.iload_n 2, 1) := by decide +kernel
theorem dX1_nearest_2 : decode cX1_nearest 2 = .ok (.invokestatic 30, 3) := by decide +kernel
theorem dX1_nearest_5 : decode cX1_nearest 5 = .ok (.ifCond .eq 5, 3) := by decide +kernel
theorem dX1_nearest_8 : decode cX1_nearest 8 = .ok (.iconst 0, 1) := by decide +kernel
theorem dX1_nearest_9 : decode cX1_nearest 9 = .ok (.ireturn, 1) := by decide +kernel
theorem dX1_nearest_10 : decode cX1_nearest 10 = .ok (.aload_n 0, 1) := by decide +kernel
theorem dX1_nearest_11 : decode cX1_nearest 11 = .ok (.iload_n 1, 1) := by decide +kernel
theorem dX1_nearest_12 : decode cX1_nearest 12 = .ok (.iload_n 2, 1) := by decide +kernel
theorem dX1_nearest_13 : decode cX1_nearest 13 = .ok (.invokevirtual 51, 3) := by decide +kernel
theorem dX1_nearest_16 : decode cX1_nearest 16 = .ok (.sipush 10000, 3) := by decide +kernel
theorem dX1_nearest_19 : decode cX1_nearest 19 = .ok (.aload_n 0, 1) := by decide +kernel
theorem dX1_nearest_20 : decode cX1_nearest 20 = .ok (.getfield 45, 3) := by decide +kernel
theorem dX1_nearest_23 : decode cX1_nearest 23 = .ok (.imul, 1) := by decide +kernel
theorem dX1_nearest_24 : decode cX1_nearest 24 = .ok (.aload_n 0, 1) := by decide +kernel
theorem dX1_nearest_25 : decode cX1_nearest 25 = .ok (.getfield 48, 3) := by decide +kernel
theorem dX1_nearest_28 : decode cX1_nearest 28 = .ok (.iadd, 1) := by decide +kernel
theorem dX1_nearest_29 : decode cX1_nearest 29 = .ok (.ireturn, 1) := by decide +kernel
abbrev cX1_within : ByteArray := prog_3_method_14_code
def yX1_within : MethodName := ⟨RX1, "within", "(I)I"⟩
theorem dX1_within_0 : decode cX1_within 0 = .ok (.iload_n 1, 1) := by decide +kernel
theorem dX1_within_1 : decode cX1_within 1 = .ok (.sipush 900, 3) := by decide +kernel
theorem dX1_within_4 : decode cX1_within 4 = .ok (.if_icmp .le 9, 3) := by decide +kernel
theorem dX1_within_7 : decode cX1_within 7 = .ok (.sipush 900, 3) := by decide +kernel
theorem dX1_within_10 : decode cX1_within 10 = .ok (.goto 4, 3) := by decide +kernel
theorem dX1_within_13 : decode cX1_within 13 = .ok (.iload_n 1, 1) := by decide +kernel
theorem dX1_within_14 : decode cX1_within 14 = .ok (.istore_n 2, 1) := by decide +kernel
theorem dX1_within_15 : decode cX1_within 15 = .ok (.iconst 0, 1) := by decide +kernel
theorem dX1_within_16 : decode cX1_within 16 = .ok (.istore_n 3, 1) := by decide +kernel
theorem dX1_within_17 : decode cX1_within 17 = .ok (.bipush (-30), 2) := by decide +kernel
theorem dX1_within_19 : decode cX1_within 19 = .ok (.istore 4, 2) := by decide +kernel
theorem dX1_within_21 : decode cX1_within 21 = .ok (.iload 4, 2) := by decide +kernel
theorem dX1_within_23 : decode cX1_within 23 = .ok (.bipush 30, 2) := by decide +kernel
theorem dX1_within_25 : decode cX1_within 25 = .ok (.if_icmp .gt 55, 3) := by decide +kernel
theorem dX1_within_28 : decode cX1_within 28 = .ok (.bipush (-30), 2) := by decide +kernel
theorem dX1_within_30 : decode cX1_within 30 = .ok (.istore 5, 2) := by decide +kernel
theorem dX1_within_32 : decode cX1_within 32 = .ok (.iload 5, 2) := by decide +kernel
theorem dX1_within_34 : decode cX1_within 34 = .ok (.bipush 30, 2) := by decide +kernel
theorem dX1_within_36 : decode cX1_within 36 = .ok (.if_icmp .gt 38, 3) := by decide +kernel
theorem dX1_within_39 : decode cX1_within 39 = .ok (.iload 4, 2) := by decide +kernel
theorem dX1_within_41 : decode cX1_within 41 = .ok (.iload 4, 2) := by decide +kernel
theorem dX1_within_43 : decode cX1_within 43 = .ok (.imul, 1) := by decide +kernel
theorem dX1_within_44 : decode cX1_within 44 = .ok (.iload 5, 2) := by decide +kernel
theorem dX1_within_46 : decode cX1_within 46 = .ok (.iload 5, 2) := by decide +kernel
theorem dX1_within_48 : decode cX1_within 48 = .ok (.imul, 1) := by decide +kernel
theorem dX1_within_49 : decode cX1_within 49 = .ok (.iadd, 1) := by decide +kernel
theorem dX1_within_50 : decode cX1_within 50 = .ok (.iload_n 2, 1) := by decide +kernel
theorem dX1_within_51 : decode cX1_within 51 = .ok (.if_icmp .gt 17, 3) := by decide +kernel
theorem dX1_within_54 : decode cX1_within 54 = .ok (.aload_n 0, 1) := by decide +kernel
theorem dX1_within_55 : decode cX1_within 55 = .ok (.iload 4, 2) := by decide +kernel
theorem dX1_within_57 : decode cX1_within 57 = .ok (.iload 5, 2) := by decide +kernel
theorem dX1_within_59 : decode cX1_within 59 = .ok (.invokevirtual 34, 3) := by decide +kernel
theorem dX1_within_62 : decode cX1_within 62 = .ok (.ifCond .eq 6, 3) := by decide +kernel
theorem dX1_within_65 : decode cX1_within 65 = .ok (.iinc 3 1, 3) := by decide +kernel
theorem dX1_within_68 : decode cX1_within 68 = .ok (.iinc 5 1, 3) := by decide +kernel
theorem dX1_within_71 : decode cX1_within 71 = .ok (.goto (-39), 3) := by decide +kernel
theorem dX1_within_74 : decode cX1_within 74 = .ok (.iinc 4 1, 3) := by decide +kernel
theorem dX1_within_77 : decode cX1_within 77 = .ok (.goto (-56), 3) := by decide +kernel
theorem dX1_within_80 : decode cX1_within 80 = .ok (.iload_n 3, 1) := by decide +kernel
theorem dX1_within_81 : decode cX1_within 81 = .ok (.ireturn, 1) := by decide +kernel
abbrev cX1_same : ByteArray := prog_3_method_15_code
def yX1_same : MethodName := ⟨RX1, "same", "(IIII)I"⟩
theorem dX1_same_0 : decode cX1_same 0 = .ok (.iload_n 1, 1) := by decide +kernel
theorem dX1_same_1 : decode cX1_same 1 = .ok (.invokestatic 16, 3) := by decide +kernel
theorem dX1_same_4 : decode cX1_same 4 = .ok (.ifCond .ne 36, 3) := by decide +kernel
theorem dX1_same_7 : decode cX1_same 7 = .ok (.iload_n 2, 1) := by decide +kernel
theorem dX1_same_8 : decode cX1_same 8 = .ok (.invokestatic 16, 3) := by decide +kernel
theorem dX1_same_11 : decode cX1_same 11 = .ok (.ifCond .ne 29, 3) := by decide +kernel
theorem dX1_same_14 : decode cX1_same 14 = .ok (.iload_n 3, 1) := by decide +kernel
theorem dX1_same_15 : decode cX1_same 15 = .ok (.invokestatic 16, 3) := by decide +kernel
theorem dX1_same_18 : decode cX1_same 18 = .ok (.ifCond .ne 22, 3) := by decide +kernel
theorem dX1_same_21 : decode cX1_same 21 = .ok (.iload 4, 2) := by decide +kernel
theorem dX1_same_23 : decode cX1_same 23 = .ok (.invokestatic 16, 3) := by decide +kernel
theorem dX1_same_26 : decode cX1_same 26 = .ok (.ifCond .ne 14, 3) := by decide +kernel
theorem dX1_same_29 : decode cX1_same 29 = .ok (.iload_n 1, 1) := by decide +kernel
theorem dX1_same_30 : decode cX1_same 30 = .ok (.iload 4, 2) := by decide +kernel
theorem dX1_same_32 : decode cX1_same 32 = .ok (.imul, 1) := by decide +kernel
theorem dX1_same_33 : decode cX1_same 33 = .ok (.iload_n 2, 1) := by decide +kernel
theorem dX1_same_34 : decode cX1_same 34 = .ok (.iload_n 3, 1) := by decide +kernel
theorem dX1_same_35 : decode cX1_same 35 = .ok (.imul, 1) := by decide +kernel
theorem dX1_same_36 : decode cX1_same 36 = .ok (.isub, 1) := by decide +kernel
theorem dX1_same_37 : decode cX1_same 37 = .ok (.ifCond .ne 5, 3) := by decide +kernel
theorem dX1_same_40 : decode cX1_same 40 = .ok (.iconst (-1), 1) := by decide +kernel
theorem dX1_same_41 : decode cX1_same 41 = .ok (.ireturn, 1) := by decide +kernel
theorem dX1_same_42 : decode cX1_same 42 = .ok (.aload_n 0, 1) := by decide +kernel
theorem dX1_same_43 : decode cX1_same 43 = .ok (.iload_n 1, 1) := by decide +kernel
theorem dX1_same_44 : decode cX1_same 44 = .ok (.iload_n 2, 1) := by decide +kernel
theorem dX1_same_45 : decode cX1_same 45 = .ok (.invokevirtual 34, 3) := by decide +kernel
theorem dX1_same_48 : decode cX1_same 48 = .ok (.ifCond .eq 17, 3) := by decide +kernel
theorem dX1_same_51 : decode cX1_same 51 = .ok (.aload_n 0, 1) := by decide +kernel
theorem dX1_same_52 : decode cX1_same 52 = .ok (.iload_n 3, 1) := by decide +kernel
theorem dX1_same_53 : decode cX1_same 53 = .ok (.iload 4, 2) := by decide +kernel
theorem dX1_same_55 : decode cX1_same 55 = .ok (.invokevirtual 34, 3) := by decide +kernel
theorem dX1_same_58 : decode cX1_same 58 = .ok (.ifCond .eq 7, 3) := by decide +kernel
theorem dX1_same_61 : decode cX1_same 61 = .ok (.iconst 1, 1) := by decide +kernel
theorem dX1_same_62 : decode cX1_same 62 = .ok (.goto 4, 3) := by decide +kernel
theorem dX1_same_65 : decode cX1_same 65 = .ok (.iconst 0, 1) := by decide +kernel
theorem dX1_same_66 : decode cX1_same 66 = .ok (.istore 5, 2) := by decide +kernel
theorem dX1_same_68 : decode cX1_same 68 = .ok (.aload_n 0, 1) := by decide +kernel
theorem dX1_same_69 : decode cX1_same 69 = .ok (.getfield 7, 3) := by decide +kernel
theorem dX1_same_72 : decode cX1_same 72 = .ok (.aload_n 0, 1) := by decide +kernel
theorem dX1_same_73 : decode cX1_same 73 = .ok (.getfield 20, 3) := by decide +kernel
theorem dX1_same_76 : decode cX1_same 76 = .ok (.iload_n 1, 1) := by decide +kernel
theorem dX1_same_77 : decode cX1_same 77 = .ok (.iload_n 2, 1) := by decide +kernel
theorem dX1_same_78 : decode cX1_same 78 = .ok (.iload_n 3, 1) := by decide +kernel
theorem dX1_same_79 : decode cX1_same 79 = .ok (.iload 4, 2) := by decide +kernel
theorem dX1_same_81 : decode cX1_same 81 = .ok (.invokestatic 26, 3) := by decide +kernel
theorem dX1_same_84 : decode cX1_same 84 = .ok (.ifCond .eq 26, 3) := by decide +kernel
theorem dX1_same_87 : decode cX1_same 87 = .ok (.aload_n 0, 1) := by decide +kernel
theorem dX1_same_88 : decode cX1_same 88 = .ok (.getfield 23, 3) := by decide +kernel
theorem dX1_same_91 : decode cX1_same 91 = .ok (.aload_n 0, 1) := by decide +kernel
theorem dX1_same_92 : decode cX1_same 92 = .ok (.getfield 13, 3) := by decide +kernel
theorem dX1_same_95 : decode cX1_same 95 = .ok (.iload_n 1, 1) := by decide +kernel
theorem dX1_same_96 : decode cX1_same 96 = .ok (.iload_n 2, 1) := by decide +kernel
theorem dX1_same_97 : decode cX1_same 97 = .ok (.iload_n 3, 1) := by decide +kernel
theorem dX1_same_98 : decode cX1_same 98 = .ok (.iload 4, 2) := by decide +kernel
theorem dX1_same_100 : decode cX1_same 100 = .ok (.invokestatic 26, 3) := by decide +kernel
theorem dX1_same_103 : decode cX1_same 103 = .ok (.ifCond .eq 7, 3) := by decide +kernel
theorem dX1_same_106 : decode cX1_same 106 = .ok (.iconst 1, 1) := by decide +kernel
theorem dX1_same_107 : decode cX1_same 107 = .ok (.goto 4, 3) := by decide +kernel
theorem dX1_same_110 : decode cX1_same 110 = .ok (.iconst 0, 1) := by decide +kernel
theorem dX1_same_111 : decode cX1_same 111 = .ok (.istore 6, 2) := by decide +kernel
theorem dX1_same_113 : decode cX1_same 113 = .ok (.iload 5, 2) := by decide +kernel
theorem dX1_same_115 : decode cX1_same 115 = .ok (.ifCond .eq 12, 3) := by decide +kernel
theorem dX1_same_118 : decode cX1_same 118 = .ok (.iload 6, 2) := by decide +kernel
theorem dX1_same_120 : decode cX1_same 120 = .ok (.ifCond .eq 7, 3) := by decide +kernel
theorem dX1_same_123 : decode cX1_same 123 = .ok (.iconst 1, 1) := by decide +kernel
theorem dX1_same_124 : decode cX1_same 124 = .ok (.goto 4, 3) := by decide +kernel
theorem dX1_same_127 : decode cX1_same 127 = .ok (.iconst 0, 1) := by decide +kernel
theorem dX1_same_128 : decode cX1_same 128 = .ok (.ireturn, 1) := by decide +kernel
theorem q10 : (Jvm.Cond.initialized "ShortVectorsModel") ∈ lw_all := lw_g (lw_at lw_m0 2 rfl) rfl
theorem q132 : (Jvm.Cond.instantiable "ShortVectorsModel" (7 : Nat)) ∈ lw_all := lw_g (lw_at lw_m0 124 rfl) rfl
theorem q134 : (Jvm.Cond.instanceMethod ({ cls := "ShortVectorsModel", name := "<init>", desc := "()V" } : Jvm.MethodName)) ∈ lw_all := lw_g (lw_at lw_m0 126 rfl) rfl
theorem q135 : (Jvm.Cond.code ({ cls := "ShortVectorsModel", name := "<init>", desc := "()V" } : Jvm.MethodName) prog_3_method_1_code (1 : Nat) (Option.none : Option Jvm.ClassFile.FieldType)) ∈ lw_all := lw_g (lw_at lw_m0 127 rfl) rfl
theorem q136 : (Jvm.Cond.methodLink "ShortVectorsModel" (1 : Nat) ({ cls := "java/lang/Object", name := "<init>", desc := "()V" } : Jvm.MethodName)) ∈ lw_all := lw_g (lw_at lw_m0 128 rfl) rfl
theorem q137 : (Jvm.Cond.fieldLink "ShortVectorsModel" (7 : Nat) "ShortVectorsModel" "a" "I") ∈ lw_all := lw_g (lw_at lw_m0 129 rfl) rfl
theorem q138 : (Jvm.Cond.fieldLink "ShortVectorsModel" (20 : Nat) "ShortVectorsModel" "b" "I") ∈ lw_all := lw_g (lw_at lw_m0 130 rfl) rfl
theorem q139 : (Jvm.Cond.fieldLink "ShortVectorsModel" (23 : Nat) "ShortVectorsModel" "c" "I") ∈ lw_all := lw_g (lw_at lw_m0 131 rfl) rfl
theorem q140 : (Jvm.Cond.fieldLink "ShortVectorsModel" (13 : Nat) "ShortVectorsModel" "d" "I") ∈ lw_all := lw_g (lw_at lw_m0 132 rfl) rfl
theorem q141 : (Jvm.Cond.fieldLink "ShortVectorsModel" (45 : Nat) "ShortVectorsModel" "nearU" "I") ∈ lw_all := lw_g (lw_at lw_m0 133 rfl) rfl
theorem q142 : (Jvm.Cond.fieldLink "ShortVectorsModel" (48 : Nat) "ShortVectorsModel" "nearV" "I") ∈ lw_all := lw_g (lw_at lw_m0 134 rfl) rfl
theorem q143 : (Jvm.Cond.fieldLink "ShortVectorsModel" (42 : Nat) "ShortVectorsModel" "away" "I") ∈ lw_all := lw_g (lw_at lw_m0 135 rfl) rfl
theorem q144 : (Jvm.Cond.lays "ShortVectorsModel" "ShortVectorsModel" "a" "I") ∈ lw_all := lw_g (lw_at lw_m0 136 rfl) rfl
theorem q145 : (Jvm.Cond.soleField "ShortVectorsModel" "a") ∈ lw_all := lw_g (lw_at lw_m0 137 rfl) rfl
theorem q146 : (Jvm.Cond.lays "ShortVectorsModel" "ShortVectorsModel" "b" "I") ∈ lw_all := lw_g (lw_at lw_m0 138 rfl) rfl
theorem q147 : (Jvm.Cond.soleField "ShortVectorsModel" "b") ∈ lw_all := lw_g (lw_at lw_m0 139 rfl) rfl
theorem q148 : (Jvm.Cond.lays "ShortVectorsModel" "ShortVectorsModel" "c" "I") ∈ lw_all := lw_g (lw_at lw_m0 140 rfl) rfl
theorem q149 : (Jvm.Cond.soleField "ShortVectorsModel" "c") ∈ lw_all := lw_g (lw_at lw_m0 141 rfl) rfl
theorem q150 : (Jvm.Cond.lays "ShortVectorsModel" "ShortVectorsModel" "d" "I") ∈ lw_all := lw_g (lw_at lw_m0 142 rfl) rfl
theorem q151 : (Jvm.Cond.soleField "ShortVectorsModel" "d") ∈ lw_all := lw_g (lw_at lw_m0 143 rfl) rfl
theorem q152 : (Jvm.Cond.lays "ShortVectorsModel" "ShortVectorsModel" "nearU" "I") ∈ lw_all := lw_g (lw_at lw_m0 144 rfl) rfl
theorem q153 : (Jvm.Cond.soleField "ShortVectorsModel" "nearU") ∈ lw_all := lw_g (lw_at lw_m0 145 rfl) rfl
theorem q154 : (Jvm.Cond.lays "ShortVectorsModel" "ShortVectorsModel" "nearV" "I") ∈ lw_all := lw_g (lw_at lw_m0 146 rfl) rfl
theorem q155 : (Jvm.Cond.soleField "ShortVectorsModel" "nearV") ∈ lw_all := lw_g (lw_at lw_m0 147 rfl) rfl
theorem q156 : (Jvm.Cond.lays "ShortVectorsModel" "ShortVectorsModel" "away" "I") ∈ lw_all := lw_g (lw_at lw_m0 148 rfl) rfl
theorem q157 : (Jvm.Cond.soleField "ShortVectorsModel" "away") ∈ lw_all := lw_g (lw_at lw_m0 149 rfl) rfl
theorem q158 : (Jvm.Cond.superclass "ShortVectorsModel" "java/lang/Object") ∈ lw_all := lw_g (lw_at lw_m0 150 rfl) rfl
theorem q160 : (Jvm.Cond.instanceMethod ({ cls := "ShortVectorsModel", name := "steps", desc := "(IIII)I" } : Jvm.MethodName)) ∈ lw_all := lw_g (lw_at lw_m0 152 rfl) rfl
theorem q161 : (Jvm.Cond.selects "ShortVectorsModel" ({ cls := "ShortVectorsModel", name := "steps", desc := "(IIII)I" } : Jvm.MethodName) ({ cls := "ShortVectorsModel", name := "steps", desc := "(IIII)I" } : Jvm.MethodName)) ∈ lw_all := lw_g (lw_at lw_m0 153 rfl) rfl
theorem q162 : (Jvm.Cond.code ({ cls := "ShortVectorsModel", name := "steps", desc := "(IIII)I" } : Jvm.MethodName) prog_3_method_3_code (5 : Nat) (Option.some Jvm.ClassFile.FieldType.int)) ∈ lw_all := lw_g (lw_at lw_m0 154 rfl) rfl
theorem q163 : (Jvm.Cond.methodLink "ShortVectorsModel" (16 : Nat) ({ cls := "ShortVectorsModel", name := "bad", desc := "(I)Z" } : Jvm.MethodName)) ∈ lw_all := lw_g (lw_at lw_m0 155 rfl) rfl
theorem q164 : (Jvm.Cond.static ({ cls := "ShortVectorsModel", name := "bad", desc := "(I)Z" } : Jvm.MethodName)) ∈ lw_all := lw_g (lw_at lw_m0 156 rfl) rfl
theorem q165 : (Jvm.Cond.code ({ cls := "ShortVectorsModel", name := "bad", desc := "(I)Z" } : Jvm.MethodName) prog_3_method_2_code (1 : Nat) (Option.some Jvm.ClassFile.FieldType.boolean)) ∈ lw_all := lw_g (lw_at lw_m0 157 rfl) rfl
theorem q167 : (Jvm.Cond.instanceMethod ({ cls := "ShortVectorsModel", name := "has", desc := "(II)I" } : Jvm.MethodName)) ∈ lw_all := lw_g (lw_at lw_m0 159 rfl) rfl
theorem q168 : (Jvm.Cond.selects "ShortVectorsModel" ({ cls := "ShortVectorsModel", name := "has", desc := "(II)I" } : Jvm.MethodName) ({ cls := "ShortVectorsModel", name := "has", desc := "(II)I" } : Jvm.MethodName)) ∈ lw_all := lw_g (lw_at lw_m0 160 rfl) rfl
theorem q169 : (Jvm.Cond.code ({ cls := "ShortVectorsModel", name := "has", desc := "(II)I" } : Jvm.MethodName) prog_3_method_7_code (3 : Nat) (Option.some Jvm.ClassFile.FieldType.int)) ∈ lw_all := lw_g (lw_at lw_m0 161 rfl) rfl
theorem q170 : (Jvm.Cond.methodLink "ShortVectorsModel" (30 : Nat) ({ cls := "ShortVectorsModel", name := "far", desc := "(II)Z" } : Jvm.MethodName)) ∈ lw_all := lw_g (lw_at lw_m0 162 rfl) rfl
theorem q171 : (Jvm.Cond.static ({ cls := "ShortVectorsModel", name := "far", desc := "(II)Z" } : Jvm.MethodName)) ∈ lw_all := lw_g (lw_at lw_m0 163 rfl) rfl
theorem q172 : (Jvm.Cond.code ({ cls := "ShortVectorsModel", name := "far", desc := "(II)Z" } : Jvm.MethodName) prog_3_method_6_code (2 : Nat) (Option.some Jvm.ClassFile.FieldType.boolean)) ∈ lw_all := lw_g (lw_at lw_m0 164 rfl) rfl
theorem q173 : (Jvm.Cond.methodLink "ShortVectorsModel" (34 : Nat) ({ cls := "ShortVectorsModel", name := "isPoint", desc := "(II)Z" } : Jvm.MethodName)) ∈ lw_all := lw_g (lw_at lw_m0 165 rfl) rfl
theorem q174 : (Jvm.Cond.privateMethod ({ cls := "ShortVectorsModel", name := "isPoint", desc := "(II)Z" } : Jvm.MethodName)) ∈ lw_tbl := lw_at lw_m0 166 rfl
theorem q175 : (Jvm.Cond.instanceMethod ({ cls := "ShortVectorsModel", name := "isPoint", desc := "(II)Z" } : Jvm.MethodName)) ∈ lw_all := lw_g (lw_at lw_m0 167 rfl) rfl
theorem q176 : (Jvm.Cond.code ({ cls := "ShortVectorsModel", name := "isPoint", desc := "(II)Z" } : Jvm.MethodName) prog_3_method_5_code (3 : Nat) (Option.some Jvm.ClassFile.FieldType.boolean)) ∈ lw_all := lw_g (lw_at lw_m0 168 rfl) rfl
theorem q177 : (Jvm.Cond.methodLink "ShortVectorsModel" (26 : Nat) ({ cls := "ShortVectorsModel", name := "in", desc := "(IIIIII)Z" } : Jvm.MethodName)) ∈ lw_all := lw_g (lw_at lw_m0 169 rfl) rfl
theorem q178 : (Jvm.Cond.static ({ cls := "ShortVectorsModel", name := "in", desc := "(IIIIII)Z" } : Jvm.MethodName)) ∈ lw_all := lw_g (lw_at lw_m0 170 rfl) rfl
theorem q179 : (Jvm.Cond.code ({ cls := "ShortVectorsModel", name := "in", desc := "(IIIIII)Z" } : Jvm.MethodName) prog_3_method_4_code (7 : Nat) (Option.some Jvm.ClassFile.FieldType.boolean)) ∈ lw_all := lw_g (lw_at lw_m0 171 rfl) rfl
theorem q181 : (Jvm.Cond.instanceMethod ({ cls := "ShortVectorsModel", name := "shortest", desc := "()I" } : Jvm.MethodName)) ∈ lw_all := lw_g (lw_at lw_m0 173 rfl) rfl
theorem q182 : (Jvm.Cond.selects "ShortVectorsModel" ({ cls := "ShortVectorsModel", name := "shortest", desc := "()I" } : Jvm.MethodName) ({ cls := "ShortVectorsModel", name := "shortest", desc := "()I" } : Jvm.MethodName)) ∈ lw_all := lw_g (lw_at lw_m0 174 rfl) rfl
theorem q183 : (Jvm.Cond.code ({ cls := "ShortVectorsModel", name := "shortest", desc := "()I" } : Jvm.MethodName) prog_3_method_8_code (5 : Nat) (Option.some Jvm.ClassFile.FieldType.int)) ∈ lw_all := lw_g (lw_at lw_m0 175 rfl) rfl
theorem q185 : (Jvm.Cond.instanceMethod ({ cls := "ShortVectorsModel", name := "many", desc := "()I" } : Jvm.MethodName)) ∈ lw_all := lw_g (lw_at lw_m0 177 rfl) rfl
theorem q186 : (Jvm.Cond.selects "ShortVectorsModel" ({ cls := "ShortVectorsModel", name := "many", desc := "()I" } : Jvm.MethodName) ({ cls := "ShortVectorsModel", name := "many", desc := "()I" } : Jvm.MethodName)) ∈ lw_all := lw_g (lw_at lw_m0 178 rfl) rfl
theorem q187 : (Jvm.Cond.code ({ cls := "ShortVectorsModel", name := "many", desc := "()I" } : Jvm.MethodName) prog_3_method_9_code (5 : Nat) (Option.some Jvm.ClassFile.FieldType.int)) ∈ lw_all := lw_g (lw_at lw_m0 179 rfl) rfl
theorem q188 : (Jvm.Cond.methodLink "ShortVectorsModel" (37 : Nat) ({ cls := "ShortVectorsModel", name := "shortest", desc := "()I" } : Jvm.MethodName)) ∈ lw_all := lw_g (lw_at lw_m0 180 rfl) rfl
theorem q190 : (Jvm.Cond.instanceMethod ({ cls := "ShortVectorsModel", name := "second", desc := "()I" } : Jvm.MethodName)) ∈ lw_all := lw_g (lw_at lw_m0 182 rfl) rfl
theorem q191 : (Jvm.Cond.selects "ShortVectorsModel" ({ cls := "ShortVectorsModel", name := "second", desc := "()I" } : Jvm.MethodName) ({ cls := "ShortVectorsModel", name := "second", desc := "()I" } : Jvm.MethodName)) ∈ lw_all := lw_g (lw_at lw_m0 183 rfl) rfl
theorem q192 : (Jvm.Cond.code ({ cls := "ShortVectorsModel", name := "second", desc := "()I" } : Jvm.MethodName) prog_3_method_10_code (8 : Nat) (Option.some Jvm.ClassFile.FieldType.int)) ∈ lw_all := lw_g (lw_at lw_m0 184 rfl) rfl
theorem q194 : (Jvm.Cond.instanceMethod ({ cls := "ShortVectorsModel", name := "distance", desc := "(II)I" } : Jvm.MethodName)) ∈ lw_all := lw_g (lw_at lw_m0 186 rfl) rfl
theorem q195 : (Jvm.Cond.selects "ShortVectorsModel" ({ cls := "ShortVectorsModel", name := "distance", desc := "(II)I" } : Jvm.MethodName) ({ cls := "ShortVectorsModel", name := "distance", desc := "(II)I" } : Jvm.MethodName)) ∈ lw_all := lw_g (lw_at lw_m0 187 rfl) rfl
theorem q196 : (Jvm.Cond.code ({ cls := "ShortVectorsModel", name := "distance", desc := "(II)I" } : Jvm.MethodName) prog_3_method_12_code (3 : Nat) (Option.some Jvm.ClassFile.FieldType.int)) ∈ lw_all := lw_g (lw_at lw_m0 188 rfl) rfl
theorem q197 : (Jvm.Cond.methodLink "ShortVectorsModel" (51 : Nat) ({ cls := "ShortVectorsModel", name := "search", desc := "(II)V" } : Jvm.MethodName)) ∈ lw_all := lw_g (lw_at lw_m0 189 rfl) rfl
theorem q198 : (Jvm.Cond.privateMethod ({ cls := "ShortVectorsModel", name := "search", desc := "(II)V" } : Jvm.MethodName)) ∈ lw_tbl := lw_at lw_m0 190 rfl
theorem q199 : (Jvm.Cond.instanceMethod ({ cls := "ShortVectorsModel", name := "search", desc := "(II)V" } : Jvm.MethodName)) ∈ lw_all := lw_g (lw_at lw_m0 191 rfl) rfl
theorem q200 : (Jvm.Cond.code ({ cls := "ShortVectorsModel", name := "search", desc := "(II)V" } : Jvm.MethodName) prog_3_method_11_code (6 : Nat) (Option.none : Option Jvm.ClassFile.FieldType)) ∈ lw_all := lw_g (lw_at lw_m0 192 rfl) rfl
theorem q201 : (Jvm.Cond.constant "ShortVectorsModel" (41 : Nat) (100000 : Int32)) ∈ lw_all := lw_g (lw_at lw_m0 193 rfl) rfl
theorem q203 : (Jvm.Cond.instanceMethod ({ cls := "ShortVectorsModel", name := "nearest", desc := "(II)I" } : Jvm.MethodName)) ∈ lw_all := lw_g (lw_at lw_m0 195 rfl) rfl
theorem q204 : (Jvm.Cond.selects "ShortVectorsModel" ({ cls := "ShortVectorsModel", name := "nearest", desc := "(II)I" } : Jvm.MethodName) ({ cls := "ShortVectorsModel", name := "nearest", desc := "(II)I" } : Jvm.MethodName)) ∈ lw_all := lw_g (lw_at lw_m0 196 rfl) rfl
theorem q205 : (Jvm.Cond.code ({ cls := "ShortVectorsModel", name := "nearest", desc := "(II)I" } : Jvm.MethodName) prog_3_method_13_code (3 : Nat) (Option.some Jvm.ClassFile.FieldType.int)) ∈ lw_all := lw_g (lw_at lw_m0 197 rfl) rfl
theorem q207 : (Jvm.Cond.instanceMethod ({ cls := "ShortVectorsModel", name := "within", desc := "(I)I" } : Jvm.MethodName)) ∈ lw_all := lw_g (lw_at lw_m0 199 rfl) rfl
theorem q208 : (Jvm.Cond.selects "ShortVectorsModel" ({ cls := "ShortVectorsModel", name := "within", desc := "(I)I" } : Jvm.MethodName) ({ cls := "ShortVectorsModel", name := "within", desc := "(I)I" } : Jvm.MethodName)) ∈ lw_all := lw_g (lw_at lw_m0 200 rfl) rfl
theorem q209 : (Jvm.Cond.code ({ cls := "ShortVectorsModel", name := "within", desc := "(I)I" } : Jvm.MethodName) prog_3_method_14_code (6 : Nat) (Option.some Jvm.ClassFile.FieldType.int)) ∈ lw_all := lw_g (lw_at lw_m0 201 rfl) rfl
theorem q211 : (Jvm.Cond.instanceMethod ({ cls := "ShortVectorsModel", name := "same", desc := "(IIII)I" } : Jvm.MethodName)) ∈ lw_all := lw_g (lw_at lw_m0 203 rfl) rfl
theorem q212 : (Jvm.Cond.selects "ShortVectorsModel" ({ cls := "ShortVectorsModel", name := "same", desc := "(IIII)I" } : Jvm.MethodName) ({ cls := "ShortVectorsModel", name := "same", desc := "(IIII)I" } : Jvm.MethodName)) ∈ lw_all := lw_g (lw_at lw_m0 204 rfl) rfl
theorem q213 : (Jvm.Cond.code ({ cls := "ShortVectorsModel", name := "same", desc := "(IIII)I" } : Jvm.MethodName) prog_3_method_15_code (7 : Nat) (Option.some Jvm.ClassFile.FieldType.int)) ∈ lw_all := lw_g (lw_at lw_m0 205 rfl) rfl
theorem in_X1 : ∀ w ∈ wsX10, w ∈ lw_all := lw_in wsX10 [144, 146, 148, 150, 152, 154, 156] (by decide +kernel) (by decide +kernel)

/-! java/lang/Object -/
set_option maxRecDepth 100000
def RJ0 : String := "java/lang/Object"
abbrev cJ0_init : ByteArray := object_method_1_code
def yJ0_init : MethodName := ⟨RJ0, "<init>", "()V"⟩
theorem dJ0_init_0 : decode cJ0_init 0 = .ok (.return_, 1) := by decide +kernel
theorem q17 : (Jvm.Cond.instanceMethod ({ cls := "java/lang/Object", name := "<init>", desc := "()V" } : Jvm.MethodName)) ∈ lw_all := lw_g (lw_at lw_m0 9 rfl) rfl
theorem q18 : (Jvm.Cond.code ({ cls := "java/lang/Object", name := "<init>", desc := "()V" } : Jvm.MethodName) object_method_1_code (1 : Nat) (Option.none : Option Jvm.ClassFile.FieldType)) ∈ lw_all := lw_g (lw_at lw_m0 10 rfl) rfl
end
section
theorem q8 : (Jvm.Cond.initialized "ShortVectorsLaw") ∈ lw_all := lw_g (lw_at lw_m0 0 rfl) rfl
set_option maxRecDepth 100000
theorem q11 : (Jvm.Cond.classLink "ShortVectorsLaw" (7 : Nat) "ShortVectors") ∈ lw_all := lw_g (lw_at lw_m0 3 rfl) rfl
theorem q13 : (Jvm.Cond.methodLink "ShortVectorsLaw" (9 : Nat) ({ cls := "ShortVectors", name := "<init>", desc := "()V" } : Jvm.MethodName)) ∈ lw_all := lw_g (lw_at lw_m0 5 rfl) rfl
theorem q67 : (Jvm.Cond.methodLink "ShortVectorsLaw" (13 : Nat) ({ cls := "ShortVectors", name := "steps", desc := "(IIII)I" } : Jvm.MethodName)) ∈ lw_all := lw_g (lw_at lw_m0 59 rfl) rfl
theorem q74 : (Jvm.Cond.methodLink "ShortVectorsLaw" (18 : Nat) ({ cls := "ShortVectors", name := "has", desc := "(II)I" } : Jvm.MethodName)) ∈ lw_all := lw_g (lw_at lw_m0 66 rfl) rfl
theorem q85 : (Jvm.Cond.methodLink "ShortVectorsLaw" (23 : Nat) ({ cls := "ShortVectors", name := "shortest", desc := "()I" } : Jvm.MethodName)) ∈ lw_all := lw_g (lw_at lw_m0 77 rfl) rfl
theorem q89 : (Jvm.Cond.methodLink "ShortVectorsLaw" (28 : Nat) ({ cls := "ShortVectors", name := "many", desc := "()I" } : Jvm.MethodName)) ∈ lw_all := lw_g (lw_at lw_m0 81 rfl) rfl
theorem q94 : (Jvm.Cond.methodLink "ShortVectorsLaw" (32 : Nat) ({ cls := "ShortVectors", name := "second", desc := "()I" } : Jvm.MethodName)) ∈ lw_all := lw_g (lw_at lw_m0 86 rfl) rfl
theorem q98 : (Jvm.Cond.methodLink "ShortVectorsLaw" (36 : Nat) ({ cls := "ShortVectors", name := "distance", desc := "(II)I" } : Jvm.MethodName)) ∈ lw_all := lw_g (lw_at lw_m0 90 rfl) rfl
theorem q115 : (Jvm.Cond.methodLink "ShortVectorsLaw" (40 : Nat) ({ cls := "ShortVectors", name := "nearest", desc := "(II)I" } : Jvm.MethodName)) ∈ lw_all := lw_g (lw_at lw_m0 107 rfl) rfl
theorem q119 : (Jvm.Cond.methodLink "ShortVectorsLaw" (44 : Nat) ({ cls := "ShortVectors", name := "within", desc := "(I)I" } : Jvm.MethodName)) ∈ lw_all := lw_g (lw_at lw_m0 111 rfl) rfl
theorem q127 : (Jvm.Cond.methodLink "ShortVectorsLaw" (49 : Nat) ({ cls := "ShortVectors", name := "same", desc := "(IIII)I" } : Jvm.MethodName)) ∈ lw_all := lw_g (lw_at lw_m0 119 rfl) rfl
theorem q131 : (Jvm.Cond.classLink "ShortVectorsLaw" (10 : Nat) "ShortVectorsModel") ∈ lw_all := lw_g (lw_at lw_m0 123 rfl) rfl
theorem q133 : (Jvm.Cond.methodLink "ShortVectorsLaw" (12 : Nat) ({ cls := "ShortVectorsModel", name := "<init>", desc := "()V" } : Jvm.MethodName)) ∈ lw_all := lw_g (lw_at lw_m0 125 rfl) rfl
theorem q159 : (Jvm.Cond.methodLink "ShortVectorsLaw" (17 : Nat) ({ cls := "ShortVectorsModel", name := "steps", desc := "(IIII)I" } : Jvm.MethodName)) ∈ lw_all := lw_g (lw_at lw_m0 151 rfl) rfl
theorem q166 : (Jvm.Cond.methodLink "ShortVectorsLaw" (22 : Nat) ({ cls := "ShortVectorsModel", name := "has", desc := "(II)I" } : Jvm.MethodName)) ∈ lw_all := lw_g (lw_at lw_m0 158 rfl) rfl
theorem q180 : (Jvm.Cond.methodLink "ShortVectorsLaw" (27 : Nat) ({ cls := "ShortVectorsModel", name := "shortest", desc := "()I" } : Jvm.MethodName)) ∈ lw_all := lw_g (lw_at lw_m0 172 rfl) rfl
theorem q184 : (Jvm.Cond.methodLink "ShortVectorsLaw" (31 : Nat) ({ cls := "ShortVectorsModel", name := "many", desc := "()I" } : Jvm.MethodName)) ∈ lw_all := lw_g (lw_at lw_m0 176 rfl) rfl
theorem q189 : (Jvm.Cond.methodLink "ShortVectorsLaw" (35 : Nat) ({ cls := "ShortVectorsModel", name := "second", desc := "()I" } : Jvm.MethodName)) ∈ lw_all := lw_g (lw_at lw_m0 181 rfl) rfl
theorem q193 : (Jvm.Cond.methodLink "ShortVectorsLaw" (39 : Nat) ({ cls := "ShortVectorsModel", name := "distance", desc := "(II)I" } : Jvm.MethodName)) ∈ lw_all := lw_g (lw_at lw_m0 185 rfl) rfl
theorem q202 : (Jvm.Cond.methodLink "ShortVectorsLaw" (43 : Nat) ({ cls := "ShortVectorsModel", name := "nearest", desc := "(II)I" } : Jvm.MethodName)) ∈ lw_all := lw_g (lw_at lw_m0 194 rfl) rfl
theorem q206 : (Jvm.Cond.methodLink "ShortVectorsLaw" (48 : Nat) ({ cls := "ShortVectorsModel", name := "within", desc := "(I)I" } : Jvm.MethodName)) ∈ lw_all := lw_g (lw_at lw_m0 198 rfl) rfl
theorem q210 : (Jvm.Cond.methodLink "ShortVectorsLaw" (52 : Nat) ({ cls := "ShortVectorsModel", name := "same", desc := "(IIII)I" } : Jvm.MethodName)) ∈ lw_all := lw_g (lw_at lw_m0 202 rfl) rfl

/-! the law's own entry -/
set_option maxRecDepth 100000
abbrev cL_law : ByteArray := code
theorem dL_law_0 : decode cL_law 0 = .ok (.new 7, 3) := by decide +kernel
theorem dL_law_3 : decode cL_law 3 = .ok (.dup, 1) := by decide +kernel
theorem dL_law_4 : decode cL_law 4 = .ok (.invokespecial 9, 3) := by decide +kernel
theorem dL_law_7 : decode cL_law 7 = .ok (.astore_n 1, 1) := by decide +kernel
theorem dL_law_8 : decode cL_law 8 = .ok (.new 10, 3) := by decide +kernel
theorem dL_law_11 : decode cL_law 11 = .ok (.dup, 1) := by decide +kernel
theorem dL_law_12 : decode cL_law 12 = .ok (.invokespecial 12, 3) := by decide +kernel
theorem dL_law_15 : decode cL_law 15 = .ok (.astore_n 2, 1) := by decide +kernel
theorem dL_law_16 : decode cL_law 16 = .ok (.iconst 0, 1) := by decide +kernel
theorem dL_law_17 : decode cL_law 17 = .ok (.istore_n 3, 1) := by decide +kernel
theorem dL_law_18 : decode cL_law 18 = .ok (.iload_n 3, 1) := by decide +kernel
theorem dL_law_19 : decode cL_law 19 = .ok (.aload_n 0, 1) := by decide +kernel
theorem dL_law_20 : decode cL_law 20 = .ok (.arraylength, 1) := by decide +kernel
theorem dL_law_21 : decode cL_law 21 = .ok (.iconst 5, 1) := by decide +kernel
theorem dL_law_22 : decode cL_law 22 = .ok (.isub, 1) := by decide +kernel
theorem dL_law_23 : decode cL_law 23 = .ok (.if_icmp .gt 334, 3) := by decide +kernel
theorem dL_law_26 : decode cL_law 26 = .ok (.aload_n 0, 1) := by decide +kernel
theorem dL_law_27 : decode cL_law 27 = .ok (.iload_n 3, 1) := by decide +kernel
theorem dL_law_28 : decode cL_law 28 = .ok (.iaload, 1) := by decide +kernel
theorem dL_law_29 : decode cL_law 29 = .ok (.bipush 15, 2) := by decide +kernel
theorem dL_law_31 : decode cL_law 31 = .ok (.iand, 1) := by decide +kernel
theorem dL_law_32 : decode cL_law 32 = .ok (.tableswitch 319 0 8 #[52, 105, 138, 151, 164, 177, 210, 243, 266], 52) := by decide +kernel
theorem dL_law_84 : decode cL_law 84 = .ok (.aload_n 1, 1) := by decide +kernel
theorem dL_law_85 : decode cL_law 85 = .ok (.aload_n 0, 1) := by decide +kernel
theorem dL_law_86 : decode cL_law 86 = .ok (.iload_n 3, 1) := by decide +kernel
theorem dL_law_87 : decode cL_law 87 = .ok (.iconst 1, 1) := by decide +kernel
theorem dL_law_88 : decode cL_law 88 = .ok (.iadd, 1) := by decide +kernel
theorem dL_law_89 : decode cL_law 89 = .ok (.iaload, 1) := by decide +kernel
theorem dL_law_90 : decode cL_law 90 = .ok (.aload_n 0, 1) := by decide +kernel
theorem dL_law_91 : decode cL_law 91 = .ok (.iload_n 3, 1) := by decide +kernel
theorem dL_law_92 : decode cL_law 92 = .ok (.iconst 2, 1) := by decide +kernel
theorem dL_law_93 : decode cL_law 93 = .ok (.iadd, 1) := by decide +kernel
theorem dL_law_94 : decode cL_law 94 = .ok (.iaload, 1) := by decide +kernel
theorem dL_law_95 : decode cL_law 95 = .ok (.aload_n 0, 1) := by decide +kernel
theorem dL_law_96 : decode cL_law 96 = .ok (.iload_n 3, 1) := by decide +kernel
theorem dL_law_97 : decode cL_law 97 = .ok (.iconst 3, 1) := by decide +kernel
theorem dL_law_98 : decode cL_law 98 = .ok (.iadd, 1) := by decide +kernel
theorem dL_law_99 : decode cL_law 99 = .ok (.iaload, 1) := by decide +kernel
theorem dL_law_100 : decode cL_law 100 = .ok (.aload_n 0, 1) := by decide +kernel
theorem dL_law_101 : decode cL_law 101 = .ok (.iload_n 3, 1) := by decide +kernel
theorem dL_law_102 : decode cL_law 102 = .ok (.iconst 4, 1) := by decide +kernel
theorem dL_law_103 : decode cL_law 103 = .ok (.iadd, 1) := by decide +kernel
theorem dL_law_104 : decode cL_law 104 = .ok (.iaload, 1) := by decide +kernel
theorem dL_law_105 : decode cL_law 105 = .ok (.invokevirtual 13, 3) := by decide +kernel
theorem dL_law_108 : decode cL_law 108 = .ok (.aload_n 2, 1) := by decide +kernel
theorem dL_law_109 : decode cL_law 109 = .ok (.aload_n 0, 1) := by decide +kernel
theorem dL_law_110 : decode cL_law 110 = .ok (.iload_n 3, 1) := by decide +kernel
theorem dL_law_111 : decode cL_law 111 = .ok (.iconst 1, 1) := by decide +kernel
theorem dL_law_112 : decode cL_law 112 = .ok (.iadd, 1) := by decide +kernel
theorem dL_law_113 : decode cL_law 113 = .ok (.iaload, 1) := by decide +kernel
theorem dL_law_114 : decode cL_law 114 = .ok (.aload_n 0, 1) := by decide +kernel
theorem dL_law_115 : decode cL_law 115 = .ok (.iload_n 3, 1) := by decide +kernel
theorem dL_law_116 : decode cL_law 116 = .ok (.iconst 2, 1) := by decide +kernel
theorem dL_law_117 : decode cL_law 117 = .ok (.iadd, 1) := by decide +kernel
theorem dL_law_118 : decode cL_law 118 = .ok (.iaload, 1) := by decide +kernel
theorem dL_law_119 : decode cL_law 119 = .ok (.aload_n 0, 1) := by decide +kernel
theorem dL_law_120 : decode cL_law 120 = .ok (.iload_n 3, 1) := by decide +kernel
theorem dL_law_121 : decode cL_law 121 = .ok (.iconst 3, 1) := by decide +kernel
theorem dL_law_122 : decode cL_law 122 = .ok (.iadd, 1) := by decide +kernel
theorem dL_law_123 : decode cL_law 123 = .ok (.iaload, 1) := by decide +kernel
theorem dL_law_124 : decode cL_law 124 = .ok (.aload_n 0, 1) := by decide +kernel
theorem dL_law_125 : decode cL_law 125 = .ok (.iload_n 3, 1) := by decide +kernel
theorem dL_law_126 : decode cL_law 126 = .ok (.iconst 4, 1) := by decide +kernel
theorem dL_law_127 : decode cL_law 127 = .ok (.iadd, 1) := by decide +kernel
theorem dL_law_128 : decode cL_law 128 = .ok (.iaload, 1) := by decide +kernel
theorem dL_law_129 : decode cL_law 129 = .ok (.invokevirtual 17, 3) := by decide +kernel
theorem dL_law_132 : decode cL_law 132 = .ok (.if_icmp .eq 219, 3) := by decide +kernel
theorem dL_law_135 : decode cL_law 135 = .ok (.iconst 0, 1) := by decide +kernel
theorem dL_law_136 : decode cL_law 136 = .ok (.ireturn, 1) := by decide +kernel
theorem dL_law_137 : decode cL_law 137 = .ok (.aload_n 1, 1) := by decide +kernel
theorem dL_law_138 : decode cL_law 138 = .ok (.aload_n 0, 1) := by decide +kernel
theorem dL_law_139 : decode cL_law 139 = .ok (.iload_n 3, 1) := by decide +kernel
theorem dL_law_140 : decode cL_law 140 = .ok (.iconst 1, 1) := by decide +kernel
theorem dL_law_141 : decode cL_law 141 = .ok (.iadd, 1) := by decide +kernel
theorem dL_law_142 : decode cL_law 142 = .ok (.iaload, 1) := by decide +kernel
theorem dL_law_143 : decode cL_law 143 = .ok (.aload_n 0, 1) := by decide +kernel
theorem dL_law_144 : decode cL_law 144 = .ok (.iload_n 3, 1) := by decide +kernel
theorem dL_law_145 : decode cL_law 145 = .ok (.iconst 2, 1) := by decide +kernel
theorem dL_law_146 : decode cL_law 146 = .ok (.iadd, 1) := by decide +kernel
theorem dL_law_147 : decode cL_law 147 = .ok (.iaload, 1) := by decide +kernel
theorem dL_law_148 : decode cL_law 148 = .ok (.invokevirtual 18, 3) := by decide +kernel
theorem dL_law_151 : decode cL_law 151 = .ok (.aload_n 2, 1) := by decide +kernel
theorem dL_law_152 : decode cL_law 152 = .ok (.aload_n 0, 1) := by decide +kernel
theorem dL_law_153 : decode cL_law 153 = .ok (.iload_n 3, 1) := by decide +kernel
theorem dL_law_154 : decode cL_law 154 = .ok (.iconst 1, 1) := by decide +kernel
theorem dL_law_155 : decode cL_law 155 = .ok (.iadd, 1) := by decide +kernel
theorem dL_law_156 : decode cL_law 156 = .ok (.iaload, 1) := by decide +kernel
theorem dL_law_157 : decode cL_law 157 = .ok (.aload_n 0, 1) := by decide +kernel
theorem dL_law_158 : decode cL_law 158 = .ok (.iload_n 3, 1) := by decide +kernel
theorem dL_law_159 : decode cL_law 159 = .ok (.iconst 2, 1) := by decide +kernel
theorem dL_law_160 : decode cL_law 160 = .ok (.iadd, 1) := by decide +kernel
theorem dL_law_161 : decode cL_law 161 = .ok (.iaload, 1) := by decide +kernel
theorem dL_law_162 : decode cL_law 162 = .ok (.invokevirtual 22, 3) := by decide +kernel
theorem dL_law_165 : decode cL_law 165 = .ok (.if_icmp .eq 186, 3) := by decide +kernel
theorem dL_law_168 : decode cL_law 168 = .ok (.iconst 0, 1) := by decide +kernel
theorem dL_law_169 : decode cL_law 169 = .ok (.ireturn, 1) := by decide +kernel
theorem dL_law_170 : decode cL_law 170 = .ok (.aload_n 1, 1) := by decide +kernel
theorem dL_law_171 : decode cL_law 171 = .ok (.invokevirtual 23, 3) := by decide +kernel
theorem dL_law_174 : decode cL_law 174 = .ok (.aload_n 2, 1) := by decide +kernel
theorem dL_law_175 : decode cL_law 175 = .ok (.invokevirtual 27, 3) := by decide +kernel
theorem dL_law_178 : decode cL_law 178 = .ok (.if_icmp .eq 173, 3) := by decide +kernel
theorem dL_law_181 : decode cL_law 181 = .ok (.iconst 0, 1) := by decide +kernel
theorem dL_law_182 : decode cL_law 182 = .ok (.ireturn, 1) := by decide +kernel
theorem dL_law_183 : decode cL_law 183 = .ok (.aload_n 1, 1) := by decide +kernel
theorem dL_law_184 : decode cL_law 184 = .ok (.invokevirtual 28, 3) := by decide +kernel
theorem dL_law_187 : decode cL_law 187 = .ok (.aload_n 2, 1) := by decide +kernel
theorem dL_law_188 : decode cL_law 188 = .ok (.invokevirtual 31, 3) := by decide +kernel
theorem dL_law_191 : decode cL_law 191 = .ok (.if_icmp .eq 160, 3) := by decide +kernel
theorem dL_law_194 : decode cL_law 194 = .ok (.iconst 0, 1) := by decide +kernel
theorem dL_law_195 : decode cL_law 195 = .ok (.ireturn, 1) := by decide +kernel
theorem dL_law_196 : decode cL_law 196 = .ok (.aload_n 1, 1) := by decide +kernel
theorem dL_law_197 : decode cL_law 197 = .ok (.invokevirtual 32, 3) := by decide +kernel
theorem dL_law_200 : decode cL_law 200 = .ok (.aload_n 2, 1) := by decide +kernel
theorem dL_law_201 : decode cL_law 201 = .ok (.invokevirtual 35, 3) := by decide +kernel
theorem dL_law_204 : decode cL_law 204 = .ok (.if_icmp .eq 147, 3) := by decide +kernel
theorem dL_law_207 : decode cL_law 207 = .ok (.iconst 0, 1) := by decide +kernel
theorem dL_law_208 : decode cL_law 208 = .ok (.ireturn, 1) := by decide +kernel
theorem dL_law_209 : decode cL_law 209 = .ok (.aload_n 1, 1) := by decide +kernel
theorem dL_law_210 : decode cL_law 210 = .ok (.aload_n 0, 1) := by decide +kernel
theorem dL_law_211 : decode cL_law 211 = .ok (.iload_n 3, 1) := by decide +kernel
end
section
set_option maxRecDepth 100000
theorem dL_law_212 : decode cL_law 212 = .ok (.iconst 1, 1) := by decide +kernel
theorem dL_law_213 : decode cL_law 213 = .ok (.iadd, 1) := by decide +kernel
theorem dL_law_214 : decode cL_law 214 = .ok (.iaload, 1) := by decide +kernel
theorem dL_law_215 : decode cL_law 215 = .ok (.aload_n 0, 1) := by decide +kernel
theorem dL_law_216 : decode cL_law 216 = .ok (.iload_n 3, 1) := by decide +kernel
theorem dL_law_217 : decode cL_law 217 = .ok (.iconst 2, 1) := by decide +kernel
theorem dL_law_218 : decode cL_law 218 = .ok (.iadd, 1) := by decide +kernel
theorem dL_law_219 : decode cL_law 219 = .ok (.iaload, 1) := by decide +kernel
theorem dL_law_220 : decode cL_law 220 = .ok (.invokevirtual 36, 3) := by decide +kernel
theorem dL_law_223 : decode cL_law 223 = .ok (.aload_n 2, 1) := by decide +kernel
theorem dL_law_224 : decode cL_law 224 = .ok (.aload_n 0, 1) := by decide +kernel
theorem dL_law_225 : decode cL_law 225 = .ok (.iload_n 3, 1) := by decide +kernel
theorem dL_law_226 : decode cL_law 226 = .ok (.iconst 1, 1) := by decide +kernel
theorem dL_law_227 : decode cL_law 227 = .ok (.iadd, 1) := by decide +kernel
theorem dL_law_228 : decode cL_law 228 = .ok (.iaload, 1) := by decide +kernel
theorem dL_law_229 : decode cL_law 229 = .ok (.aload_n 0, 1) := by decide +kernel
theorem dL_law_230 : decode cL_law 230 = .ok (.iload_n 3, 1) := by decide +kernel
theorem dL_law_231 : decode cL_law 231 = .ok (.iconst 2, 1) := by decide +kernel
theorem dL_law_232 : decode cL_law 232 = .ok (.iadd, 1) := by decide +kernel
theorem dL_law_233 : decode cL_law 233 = .ok (.iaload, 1) := by decide +kernel
theorem dL_law_234 : decode cL_law 234 = .ok (.invokevirtual 39, 3) := by decide +kernel
theorem dL_law_237 : decode cL_law 237 = .ok (.if_icmp .eq 114, 3) := by decide +kernel
theorem dL_law_240 : decode cL_law 240 = .ok (.iconst 0, 1) := by decide +kernel
theorem dL_law_241 : decode cL_law 241 = .ok (.ireturn, 1) := by decide +kernel
theorem dL_law_242 : decode cL_law 242 = .ok (.aload_n 1, 1) := by decide +kernel
theorem dL_law_243 : decode cL_law 243 = .ok (.aload_n 0, 1) := by decide +kernel
theorem dL_law_244 : decode cL_law 244 = .ok (.iload_n 3, 1) := by decide +kernel
theorem dL_law_245 : decode cL_law 245 = .ok (.iconst 1, 1) := by decide +kernel
theorem dL_law_246 : decode cL_law 246 = .ok (.iadd, 1) := by decide +kernel
theorem dL_law_247 : decode cL_law 247 = .ok (.iaload, 1) := by decide +kernel
theorem dL_law_248 : decode cL_law 248 = .ok (.aload_n 0, 1) := by decide +kernel
theorem dL_law_249 : decode cL_law 249 = .ok (.iload_n 3, 1) := by decide +kernel
theorem dL_law_250 : decode cL_law 250 = .ok (.iconst 2, 1) := by decide +kernel
theorem dL_law_251 : decode cL_law 251 = .ok (.iadd, 1) := by decide +kernel
theorem dL_law_252 : decode cL_law 252 = .ok (.iaload, 1) := by decide +kernel
theorem dL_law_253 : decode cL_law 253 = .ok (.invokevirtual 40, 3) := by decide +kernel
theorem dL_law_256 : decode cL_law 256 = .ok (.aload_n 2, 1) := by decide +kernel
theorem dL_law_257 : decode cL_law 257 = .ok (.aload_n 0, 1) := by decide +kernel
theorem dL_law_258 : decode cL_law 258 = .ok (.iload_n 3, 1) := by decide +kernel
theorem dL_law_259 : decode cL_law 259 = .ok (.iconst 1, 1) := by decide +kernel
theorem dL_law_260 : decode cL_law 260 = .ok (.iadd, 1) := by decide +kernel
theorem dL_law_261 : decode cL_law 261 = .ok (.iaload, 1) := by decide +kernel
theorem dL_law_262 : decode cL_law 262 = .ok (.aload_n 0, 1) := by decide +kernel
theorem dL_law_263 : decode cL_law 263 = .ok (.iload_n 3, 1) := by decide +kernel
theorem dL_law_264 : decode cL_law 264 = .ok (.iconst 2, 1) := by decide +kernel
theorem dL_law_265 : decode cL_law 265 = .ok (.iadd, 1) := by decide +kernel
theorem dL_law_266 : decode cL_law 266 = .ok (.iaload, 1) := by decide +kernel
theorem dL_law_267 : decode cL_law 267 = .ok (.invokevirtual 43, 3) := by decide +kernel
theorem dL_law_270 : decode cL_law 270 = .ok (.if_icmp .eq 81, 3) := by decide +kernel
theorem dL_law_273 : decode cL_law 273 = .ok (.iconst 0, 1) := by decide +kernel
theorem dL_law_274 : decode cL_law 274 = .ok (.ireturn, 1) := by decide +kernel
theorem dL_law_275 : decode cL_law 275 = .ok (.aload_n 1, 1) := by decide +kernel
theorem dL_law_276 : decode cL_law 276 = .ok (.aload_n 0, 1) := by decide +kernel
theorem dL_law_277 : decode cL_law 277 = .ok (.iload_n 3, 1) := by decide +kernel
theorem dL_law_278 : decode cL_law 278 = .ok (.iconst 1, 1) := by decide +kernel
theorem dL_law_279 : decode cL_law 279 = .ok (.iadd, 1) := by decide +kernel
theorem dL_law_280 : decode cL_law 280 = .ok (.iaload, 1) := by decide +kernel
theorem dL_law_281 : decode cL_law 281 = .ok (.invokevirtual 44, 3) := by decide +kernel
theorem dL_law_284 : decode cL_law 284 = .ok (.aload_n 2, 1) := by decide +kernel
theorem dL_law_285 : decode cL_law 285 = .ok (.aload_n 0, 1) := by decide +kernel
theorem dL_law_286 : decode cL_law 286 = .ok (.iload_n 3, 1) := by decide +kernel
theorem dL_law_287 : decode cL_law 287 = .ok (.iconst 1, 1) := by decide +kernel
theorem dL_law_288 : decode cL_law 288 = .ok (.iadd, 1) := by decide +kernel
theorem dL_law_289 : decode cL_law 289 = .ok (.iaload, 1) := by decide +kernel
theorem dL_law_290 : decode cL_law 290 = .ok (.invokevirtual 48, 3) := by decide +kernel
theorem dL_law_293 : decode cL_law 293 = .ok (.if_icmp .eq 58, 3) := by decide +kernel
theorem dL_law_296 : decode cL_law 296 = .ok (.iconst 0, 1) := by decide +kernel
theorem dL_law_297 : decode cL_law 297 = .ok (.ireturn, 1) := by decide +kernel
theorem dL_law_298 : decode cL_law 298 = .ok (.aload_n 1, 1) := by decide +kernel
theorem dL_law_299 : decode cL_law 299 = .ok (.aload_n 0, 1) := by decide +kernel
theorem dL_law_300 : decode cL_law 300 = .ok (.iload_n 3, 1) := by decide +kernel
theorem dL_law_301 : decode cL_law 301 = .ok (.iconst 1, 1) := by decide +kernel
theorem dL_law_302 : decode cL_law 302 = .ok (.iadd, 1) := by decide +kernel
theorem dL_law_303 : decode cL_law 303 = .ok (.iaload, 1) := by decide +kernel
theorem dL_law_304 : decode cL_law 304 = .ok (.aload_n 0, 1) := by decide +kernel
theorem dL_law_305 : decode cL_law 305 = .ok (.iload_n 3, 1) := by decide +kernel
theorem dL_law_306 : decode cL_law 306 = .ok (.iconst 2, 1) := by decide +kernel
theorem dL_law_307 : decode cL_law 307 = .ok (.iadd, 1) := by decide +kernel
theorem dL_law_308 : decode cL_law 308 = .ok (.iaload, 1) := by decide +kernel
theorem dL_law_309 : decode cL_law 309 = .ok (.aload_n 0, 1) := by decide +kernel
theorem dL_law_310 : decode cL_law 310 = .ok (.iload_n 3, 1) := by decide +kernel
theorem dL_law_311 : decode cL_law 311 = .ok (.iconst 3, 1) := by decide +kernel
theorem dL_law_312 : decode cL_law 312 = .ok (.iadd, 1) := by decide +kernel
theorem dL_law_313 : decode cL_law 313 = .ok (.iaload, 1) := by decide +kernel
theorem dL_law_314 : decode cL_law 314 = .ok (.aload_n 0, 1) := by decide +kernel
theorem dL_law_315 : decode cL_law 315 = .ok (.iload_n 3, 1) := by decide +kernel
theorem dL_law_316 : decode cL_law 316 = .ok (.iconst 4, 1) := by decide +kernel
theorem dL_law_317 : decode cL_law 317 = .ok (.iadd, 1) := by decide +kernel
theorem dL_law_318 : decode cL_law 318 = .ok (.iaload, 1) := by decide +kernel
theorem dL_law_319 : decode cL_law 319 = .ok (.invokevirtual 49, 3) := by decide +kernel
theorem dL_law_322 : decode cL_law 322 = .ok (.aload_n 2, 1) := by decide +kernel
theorem dL_law_323 : decode cL_law 323 = .ok (.aload_n 0, 1) := by decide +kernel
theorem dL_law_324 : decode cL_law 324 = .ok (.iload_n 3, 1) := by decide +kernel
theorem dL_law_325 : decode cL_law 325 = .ok (.iconst 1, 1) := by decide +kernel
theorem dL_law_326 : decode cL_law 326 = .ok (.iadd, 1) := by decide +kernel
theorem dL_law_327 : decode cL_law 327 = .ok (.iaload, 1) := by decide +kernel
theorem dL_law_328 : decode cL_law 328 = .ok (.aload_n 0, 1) := by decide +kernel
theorem dL_law_329 : decode cL_law 329 = .ok (.iload_n 3, 1) := by decide +kernel
theorem dL_law_330 : decode cL_law 330 = .ok (.iconst 2, 1) := by decide +kernel
theorem dL_law_331 : decode cL_law 331 = .ok (.iadd, 1) := by decide +kernel
theorem dL_law_332 : decode cL_law 332 = .ok (.iaload, 1) := by decide +kernel
theorem dL_law_333 : decode cL_law 333 = .ok (.aload_n 0, 1) := by decide +kernel
theorem dL_law_334 : decode cL_law 334 = .ok (.iload_n 3, 1) := by decide +kernel
theorem dL_law_335 : decode cL_law 335 = .ok (.iconst 3, 1) := by decide +kernel
theorem dL_law_336 : decode cL_law 336 = .ok (.iadd, 1) := by decide +kernel
theorem dL_law_337 : decode cL_law 337 = .ok (.iaload, 1) := by decide +kernel
theorem dL_law_338 : decode cL_law 338 = .ok (.aload_n 0, 1) := by decide +kernel
theorem dL_law_339 : decode cL_law 339 = .ok (.iload_n 3, 1) := by decide +kernel
theorem dL_law_340 : decode cL_law 340 = .ok (.iconst 4, 1) := by decide +kernel
theorem dL_law_341 : decode cL_law 341 = .ok (.iadd, 1) := by decide +kernel
theorem dL_law_342 : decode cL_law 342 = .ok (.iaload, 1) := by decide +kernel
theorem dL_law_343 : decode cL_law 343 = .ok (.invokevirtual 52, 3) := by decide +kernel
theorem dL_law_346 : decode cL_law 346 = .ok (.if_icmp .eq 5, 3) := by decide +kernel
theorem dL_law_349 : decode cL_law 349 = .ok (.iconst 0, 1) := by decide +kernel
theorem dL_law_350 : decode cL_law 350 = .ok (.ireturn, 1) := by decide +kernel
theorem dL_law_351 : decode cL_law 351 = .ok (.iinc 3 5, 3) := by decide +kernel
theorem dL_law_354 : decode cL_law 354 = .ok (.goto (-336), 3) := by decide +kernel
theorem dL_law_357 : decode cL_law 357 = .ok (.iconst 1, 1) := by decide +kernel
theorem dL_law_358 : decode cL_law 358 = .ok (.ireturn, 1) := by decide +kernel
end
section
/-! the plain words of this proof: whole numbers as ints, loops, the grid, what each method computes -/
def jI (z : Int) : Int32 := Int32.ofInt z
def kL (z : Int) : Int64 := Int64.ofInt z
def b2_ (b : Bool) : Int := if b then 1 else 0
/-- a counting loop: f at x, x+1, .. n times -/
def up_ {σ : Type} (f : Int → σ → σ) : Nat → Int → σ → σ
  | 0, _, s => s
  | n + 1, x, s => up_ f n (x + 1) (f x s)
abbrev nm_ (x y : Int) : Int := x * x + y * y
/-- the steps that are taken -/
def ok_ (a b c d : Int) : Prop := -30 ≤ a ∧ a ≤ 30 ∧ -30 ≤ b ∧ b ≤ 30 ∧ -30 ≤ c ∧ c ≤ 30 ∧ -30 ≤ d ∧ d ≤ 30 ∧ a * d - b * c ≠ 0
def okB_ (a b c d : Int) : Bool := decide (-30 ≤ a ∧ a ≤ 30 ∧ -30 ≤ b ∧ b ≤ 30 ∧ -30 ≤ c ∧ c ≤ 30 ∧ -30 ≤ d ∧ d ≤ 30 ∧ a * d - b * c ≠ 0)
theorem okB_iff {a b c d : Int} : okB_ a b c d = true ↔ ok_ a b c d := by
  unfold okB_ ok_
  exact decide_eq_true_iff
/-- the point (x, y) belongs to the grid of the steps (a, b), (c, d) -/
def inB_ (a b c d x y : Int) : Bool := decide ((a * d - b * c) ∣ (x * d - y * c)) && decide ((a * d - b * c) ∣ (a * y - b * x))
def rgB_ (x y : Int) : Bool := decide (-1000 ≤ x ∧ x ≤ 1000 ∧ -1000 ≤ y ∧ y ≤ 1000)
/-! the model's loops -/
def sh_f (a b c d x y t : Int) : Int := if 0 < nm_ x y ∧ nm_ x y < t ∧ inB_ a b c d x y = true then nm_ x y else t
def sh_m (a b c d : Int) : Int := up_ (fun x t => up_ (fun y t => sh_f a b c d x y t) 87 (-43) t) 87 (-43) 10000
def mn_f (a b c d lst x y n : Int) : Int := if nm_ x y = lst ∧ inB_ a b c d x y = true then n + 1 else n
def mn_m (a b c d : Int) : Int := up_ (fun x t => up_ (fun y t => mn_f a b c d (sh_m a b c d) x y t) 87 (-43) t) 87 (-43) 0
def sp_f (a b c d lst x y : Int) (t : Int × Int) : Int × Int := if nm_ x y = lst ∧ inB_ a b c d x y = true then (x, y) else t
def sp_m (a b c d : Int) : Int × Int := up_ (fun x t => up_ (fun y t => sp_f a b c d (sh_m a b c d) x y t) 87 (-43) t) 87 (-43) (0, 0)
def sc_f (a b c d px py x y t : Int) : Int := if ¬ x * py = y * px ∧ nm_ x y < t ∧ inB_ a b c d x y = true then nm_ x y else t
def sc_m (a b c d : Int) : Int := up_ (fun x t => up_ (fun y t => sc_f a b c d (sp_m a b c d).1 (sp_m a b c d).2 x y t) 87 (-43) t) 87 (-43) 10000
def se_f (a b c d X Y u v : Int) (t : Int × Int × Int) : Int × Int × Int := if nm_ (X - u) (Y - v) < t.1 ∧ inB_ a b c d u v = true then (nm_ (X - u) (Y - v), u, v) else t
def se_m (a b c d X Y nu nv : Int) : Int × Int × Int := up_ (fun u t => up_ (fun v t => se_f a b c d X Y u v t) 87 (Y - 43) t) 87 (X - 43) (100000, nu, nv)
def wi_f (a b c d most x y n : Int) : Int := if nm_ x y ≤ most ∧ inB_ a b c d x y = true then n + 1 else n
def mo_ (lim : Int) : Int := if 900 < lim then 900 else lim
def wi_m (a b c d lim : Int) : Int := up_ (fun x t => up_ (fun y t => wi_f a b c d (mo_ lim) x y t) 61 (-30) t) 61 (-30) 0
def sm_m (a b c d a2 b2 c2 d2 : Int) : Int := if okB_ a2 b2 c2 d2 then b2_ ((inB_ a b c d a2 b2 && inB_ a b c d c2 d2) && (inB_ a2 b2 c2 d2 a b && inB_ a2 b2 c2 d2 c d)) else -1
/-! the other side -/
def kk_ (px py qx qy : Int) : Int := (2 * (px * qx + py * qy) + nm_ px py) / (2 * nm_ px py)
def r1_ (go : Int → Int → Int → Int → Int × Int × Int × Int) (px py qx qy : Int) : Int × Int × Int × Int :=
  if nm_ (qx - kk_ px py qx qy * px) (qy - kk_ px py qx qy * py) < nm_ qx qy then go px py (qx - kk_ px py qx qy * px) (qy - kk_ px py qx qy * py) else (px, py, qx, qy)
def rd_ : Nat → Int → Int → Int → Int → Int × Int × Int × Int
  | 0, px, py, qx, qy => (px, py, qx, qy)
  | n + 1, px, py, qx, qy => if nm_ px py ≤ nm_ qx qy then r1_ (rd_ n) px py qx qy else r1_ (rd_ n) qx qy px py
/-- the bit of rootOf with n rounds to go -/
def bt_ : Nat → Int
  | 0 => 0
  | n + 1 => 2 ^ n
def rt_ (x : Int) : Nat → Int → Int
  | 0, r => r
  | n + 1, r => rt_ x n (if (r + bt_ (n + 1)) * (r + bt_ (n + 1)) ≤ x then r + bt_ (n + 1) else r)
def mc_ (px py qx qy : Int) : Int := 2 + (if nm_ qx qy = nm_ px py then 2 else 0) + (if nm_ (px + qx) (py + qy) = nm_ px py then 2 else 0) + (if nm_ (px - qx) (py - qy) = nm_ px py then 2 else 0)
def tu_ (D : Int) : Int := if 0 ≤ D then 1 else -1
def fi_ (px py qx qy X Y : Int) : Int := (tu_ (px * qy - py * qx) * (X * qy - Y * qx)) / (tu_ (px * qy - py * qx) * (px * qy - py * qx))
def fj_ (px py qx qy X Y : Int) : Int := (tu_ (px * qy - py * qx) * (px * Y - py * X)) / (tu_ (px * qy - py * qx) * (px * qy - py * qx))
def of_ (X Y u v : Int) (t : Int × Int × Int) : Int × Int × Int := if nm_ (X - u) (Y - v) < t.1 ∨ (nm_ (X - u) (Y - v) = t.1 ∧ (u < t.2.1 ∨ (u = t.2.1 ∧ v < t.2.2))) then (nm_ (X - u) (Y - v), u, v) else t
def fn_ (px py qx qy X Y bu bv : Int) : Int × Int × Int := up_ (fun k t => up_ (fun l t => of_ X Y (k * px + l * qx) (k * py + l * qy) t) 4 (fj_ px py qx qy X Y - 1) t) 4 (fi_ px py qx qy X Y - 1) (2147483647, bu, bv)
def wf_ (A B s j : Int) : Int := ((-j) * B - s + A - 1) / A
def wo_ (A B s j : Int) : Int := ((-j) * B + s) / A
def wc_ (A B D most j : Int) : Int := if A * most - j * D * (j * D) < 0 then 0 else
  if wo_ A B (rt_ (A * most - j * D * (j * D)) 16 0) j < wf_ A B (rt_ (A * most - j * D * (j * D)) 16 0) j then 0
  else wo_ A B (rt_ (A * most - j * D * (j * D)) 16 0) j - wf_ A B (rt_ (A * most - j * D * (j * D)) 16 0) j + 1
def wt_ (px py qx qy lim : Int) : Int := if 0 ≤ lim then up_ (fun j n => n + wc_ (nm_ px py) (px * qx + py * qy) (px * qy - py * qx) (mo_ lim) j) 81 (-40) 0 else 0
def sm_ (a b c d a2 b2 c2 d2 : Int) : Int := if okB_ a2 b2 c2 d2 then b2_ ((inB_ a b c d a2 b2 && inB_ a b c d c2 d2) && (decide (a * d - b * c = a2 * d2 - b2 * c2) || decide (a * d - b * c = -(a2 * d2 - b2 * c2)))) else -1
/-! ints and whole numbers -/
abbrev rI (z : Int) : Prop := -2147483648 ≤ z ∧ z ≤ 2147483647
abbrev rL (z : Int) : Prop := -9223372036854775808 ≤ z ∧ z ≤ 9223372036854775807
theorem jI_add (x y : Int) : jI x + jI y = jI (x + y) := (Int32.ofInt_add x y).symm
theorem jI_sub (x y : Int) : jI x - jI y = jI (x - y) := (Int32.ofInt_sub x y).symm
theorem jI_mul (x y : Int) : jI x * jI y = jI (x * y) := (Int32.ofInt_mul x y).symm
theorem jI_neg (x : Int) : -jI x = jI (-x) := (Int32.ofInt_neg x).symm
theorem jI_to (x : Int32) : jI x.toInt = x := Int32.ofInt_toInt x
theorem jI_rng (x : Int32) : rI x.toInt := ⟨Int32.le_toInt x, Int32.toInt_le x⟩
theorem toInt_jI {x : Int} (h : rI x) : (jI x).toInt = x := Int32.toInt_ofInt_of_le (by omega) (by omega)
theorem jI_lt {x y : Int} (hx : rI x) (hy : rI y) : jI x < jI y ↔ x < y := by rw [Int32.lt_iff_toInt_lt, toInt_jI hx, toInt_jI hy]
theorem jI_le {x y : Int} (hx : rI x) (hy : rI y) : jI x ≤ jI y ↔ x ≤ y := by rw [Int32.le_iff_toInt_le, toInt_jI hx, toInt_jI hy]
theorem jI_eq {x y : Int} (hx : rI x) (hy : rI y) : jI x = jI y ↔ x = y := by rw [← Int32.toInt_inj, toInt_jI hx, toInt_jI hy]
theorem jI_0 : (0 : Int32) = jI 0 := by decide
theorem rI_0 : rI 0 := by omega
theorem jI_div {x y : Int} (hx : rI x) (hy : rI y) : jI x / jI y = jI (x.tdiv y) := (Int32.ofInt_tdiv hx.1 hx.2 hy.1 hy.2).symm
theorem jI_rem {x y : Int} (hx : rI x) (hy : rI y) : jI x - jI x / jI y * jI y = jI (x.tmod y) := by
  rw [jI_div hx hy, jI_mul, jI_sub]
  congr 1
  have := Int.tmod_add_mul_tdiv x y
  rw [Int.mul_comm] at this
  omega
theorem tmod_dvd {x y : Int} : x.tmod y = 0 ↔ y ∣ x := (Int.dvd_iff_tmod_eq_zero).symm
theorem kL_of {x : Int} (h : rI x) : (jI x).toInt64 = kL x := Int32.toInt64_ofInt h.1 h.2
theorem kL_mul (x y : Int) : kL x * kL y = kL (x * y) := (Int64.ofInt_mul x y).symm
theorem kL_sub (x y : Int) : kL x - kL y = kL (x - y) := (Int64.ofInt_sub x y).symm
theorem kL_i (x : Int) : (kL x).toInt32 = jI x := Int64.toInt32_ofInt
theorem toInt_kL {x : Int} (h : rL x) : (kL x).toInt = x := Int64.toInt_ofInt_of_le (by omega) (by omega)
theorem kL_lt {x y : Int} (hx : rL x) (hy : rL y) : kL x < kL y ↔ x < y := by rw [Int64.lt_iff_toInt_lt, toInt_kL hx, toInt_kL hy]
theorem kL_0 : (0 : Int64) = kL 0 := by decide
theorem b2_0 : ∀ {b : Bool}, b2_ b = 0 ↔ b = false := by decide
theorem b2_rng : ∀ b : Bool, 0 ≤ b2_ b ∧ b2_ b ≤ 1 := by decide
theorem b2_t : b2_ true = 1 := rfl
theorem b2_f : b2_ false = 0 := rfl
theorem b2_narrow (b : Bool) : narrow .boolean (.int (jI (b2_ b))) = .int (jI (b2_ b)) := by cases b <;> rfl
/-- the divisor above 0: Java's division made a floor -/
theorem fd_ {x d : Int} (hd : 0 < d) : (if 0 ≤ x.tmod d then x.tdiv d else x.tdiv d - 1) = x / d := by
  have h1 := Int.tmod_add_mul_tdiv x d
  have h2 := Int.emod_add_mul_ediv x d
  have h3 := Int.emod_nonneg x (Int.ne_of_gt hd)
  have h4 := Int.emod_lt_of_pos x hd
  have h5 : x.tmod d < d := Int.tmod_lt_of_pos x hd
  have h6 : -d < x.tmod d := by
    have := Int.lt_tmod_of_pos x hd
    omega
  split
  · rename_i h
    have e : d * (x.tdiv d - x / d) = x % d - x.tmod d := by rw [Int.mul_sub]; omega
    have l1 : d * (x.tdiv d - x / d) < d * 1 := by omega
    have l2 : d * (-1) < d * (x.tdiv d - x / d) := by omega
    have := Int.lt_of_mul_lt_mul_left l1 (Int.le_of_lt hd)
    have := Int.lt_of_mul_lt_mul_left l2 (Int.le_of_lt hd)
    omega
  · rename_i h
    have e : d * (x.tdiv d - x / d) = x % d - x.tmod d := by rw [Int.mul_sub]; omega
    have l1 : d * (x.tdiv d - x / d) < d * 2 := by omega
    have l2 : d * 0 < d * (x.tdiv d - x / d) := by omega
    have := Int.lt_of_mul_lt_mul_left l1 (Int.le_of_lt hd)
    have := Int.lt_of_mul_lt_mul_left l2 (Int.le_of_lt hd)
    omega
theorem up_0 {σ : Type} (f : Int → σ → σ) (x : Int) (s : σ) : up_ f 0 x s = s := rfl
theorem up_s {σ : Type} (f : Int → σ → σ) (n : Nat) (x : Int) (s : σ) : up_ f (n + 1) x s = up_ f n (x + 1) (f x s) := rfl
/-- what a loop keeps -/
theorem up_keep {σ : Type} {f : Int → σ → σ} (P : σ → Prop) (lo hi : Int) (hf : ∀ x s, lo ≤ x → x < hi → P s → P (f x s)) : ∀ (n : Nat) (x : Int) (s : σ), lo ≤ x → x + n ≤ hi → P s → P (up_ f n x s)
  | 0, _, _, _, _, h => h
  | n + 1, x, s, h1, h2, h => by
    rw [up_s]
    exact up_keep P lo hi hf n (x + 1) (f x s) (by omega) (by omega) (hf x s h1 (by omega) h)
theorem lt_ge_ (a b : Int) : a < b ∨ b ≤ a := by omega
theorem sqn_ (x : Int) : 0 ≤ x * x := by
  rcases Int.le_total 0 x with h | h
  · exact Int.mul_nonneg h h
  · have := Int.mul_nonneg (show 0 ≤ -x by omega) (show 0 ≤ -x by omega)
    grind
theorem up_step {σ : Type} {f : Int → σ → σ} {n : Nat} {y : Int} {t t2 t3 : σ} (e : t3 = up_ f n (y + 1) t2) (h : f y t = t2) : t3 = up_ f (n + 1) y t := by rw [e, up_s, h]
end
section
/-! ===== the machine's rows, every int written as jI of a whole number ===== -/
section JW
variable {p : Program} {l : Launch} {e : Env} {R : Room} {s : State} {m : MethodId} {args : Array Value} {below : List Frame} {meth : Method} {c : Code} {H : Heap} {locs : List Loc} {cells slots : Nat} {Q : State → Prop}
variable {cc : ByteArray} {pc : Nat} {ls : Array Slot} {rest : List Value}
theorem jv_iadd (hx : p.tables.exec = Jvm.exec) (hb : c.code = cc) {x y : Int} (hd : decode cc pc = .ok (.iadd, 1)) (k : W p l e R s m args below meth c H locs cells slots Q (F0 m (pc + 1) ls (.int (jI (x + y)) :: rest))) : W p l e R s m args below meth c H locs cells slots Q (F0 m pc ls (.int (jI y) :: .int (jI x) :: rest)) := lv_iadd hx hb hd (by rw [jI_add]; exact k)
theorem jv_isub (hx : p.tables.exec = Jvm.exec) (hb : c.code = cc) {x y : Int} (hd : decode cc pc = .ok (.isub, 1)) (k : W p l e R s m args below meth c H locs cells slots Q (F0 m (pc + 1) ls (.int (jI (x - y)) :: rest))) : W p l e R s m args below meth c H locs cells slots Q (F0 m pc ls (.int (jI y) :: .int (jI x) :: rest)) := lv_isub hx hb hd (by rw [jI_sub]; exact k)
theorem jv_imul (hx : p.tables.exec = Jvm.exec) (hb : c.code = cc) {x y : Int} (hd : decode cc pc = .ok (.imul, 1)) (k : W p l e R s m args below meth c H locs cells slots Q (F0 m (pc + 1) ls (.int (jI (x * y)) :: rest))) : W p l e R s m args below meth c H locs cells slots Q (F0 m pc ls (.int (jI y) :: .int (jI x) :: rest)) := lv_imul hx hb hd (by rw [jI_mul]; exact k)
theorem jv_ineg (hx : p.tables.exec = Jvm.exec) (hb : c.code = cc) {x : Int} (hd : decode cc pc = .ok (.ineg, 1)) (k : W p l e R s m args below meth c H locs cells slots Q (F0 m (pc + 1) ls (.int (jI (-x)) :: rest))) : W p l e R s m args below meth c H locs cells slots Q (F0 m pc ls (.int (jI x) :: rest)) := lv_ineg hx hb hd (by rw [jI_neg]; exact k)
theorem jI_nz {y : Int} (hy : rI y) (h : y ≠ 0) : ¬ jI y = 0 := fun q => h ((jI_eq hy rI_0).mp (q.trans jI_0))
theorem jv_idiv (hx : p.tables.exec = Jvm.exec) (hb : c.code = cc) {x y : Int} (hd : decode cc pc = .ok (.idiv, 1)) (h1 : rI x) (h2 : rI y) (h0 : y ≠ 0) (k : W p l e R s m args below meth c H locs cells slots Q (F0 m (pc + 1) ls (.int (jI (x.tdiv y)) :: rest))) : W p l e R s m args below meth c H locs cells slots Q (F0 m pc ls (.int (jI y) :: .int (jI x) :: rest)) := lv_idiv hx hb hd (jI_nz h2 h0) (by rw [jI_div h1 h2]; exact k)
theorem jv_irem (hx : p.tables.exec = Jvm.exec) (hb : c.code = cc) {x y : Int} (hd : decode cc pc = .ok (.irem, 1)) (h1 : rI x) (h2 : rI y) (h0 : y ≠ 0) (k : W p l e R s m args below meth c H locs cells slots Q (F0 m (pc + 1) ls (.int (jI (x.tmod y)) :: rest))) : W p l e R s m args below meth c H locs cells slots Q (F0 m pc ls (.int (jI y) :: .int (jI x) :: rest)) := lv_irem hx hb hd (jI_nz h2 h0) (by rw [jI_rem h1 h2]; exact k)
theorem jv_iconst (hx : p.tables.exec = Jvm.exec) (hb : c.code = cc) {n : Int} (hd : decode cc pc = .ok (.iconst n, 1)) (k : W p l e R s m args below meth c H locs cells slots Q (F0 m (pc + 1) ls (.int (jI n) :: rest))) : W p l e R s m args below meth c H locs cells slots Q (F0 m pc ls rest) := lv_iconst hx hb hd rfl k
theorem jv_bipush (hx : p.tables.exec = Jvm.exec) (hb : c.code = cc) {n : Int} (hd : decode cc pc = .ok (.bipush n, 2)) (h : (Int8.ofInt n).toInt32 = jI n) (k : W p l e R s m args below meth c H locs cells slots Q (F0 m (pc + 2) ls (.int (jI n) :: rest))) : W p l e R s m args below meth c H locs cells slots Q (F0 m pc ls rest) := lv_bipush hx hb hd h k
theorem jv_sipush (hx : p.tables.exec = Jvm.exec) (hb : c.code = cc) {n : Int} (hd : decode cc pc = .ok (.sipush n, 3)) (h : (Int16.ofInt n).toInt32 = jI n) (k : W p l e R s m args below meth c H locs cells slots Q (F0 m (pc + 3) ls (.int (jI n) :: rest))) : W p l e R s m args below meth c H locs cells slots Q (F0 m pc ls rest) := lv_sipush hx hb hd h k
theorem jv_ldc (hx : p.tables.exec = Jvm.exec) (hb : c.code = cc) {own : String} {index : Nat} {v : Int32} {n : Int} (hown : s.vm.findClass own = some m.cls) (hc : (Jvm.Cond.constant own index v).before args s = true) (hv : v = jI n) (hd : decode cc pc = .ok (.ldc index, 2)) (k : W p l e R s m args below meth c H locs cells slots Q (F0 m (pc + 2) ls (.int (jI n) :: rest))) : W p l e R s m args below meth c H locs cells slots Q (F0 m pc ls rest) := lv_ldc hx hb hown hc hd (by rw [hv]; exact k)
theorem jv_as {x y : Int} (h : x = y) (k : W p l e R s m args below meth c H locs cells slots Q (F0 m pc ls (.int (jI y) :: rest))) : W p l e R s m args below meth c H locs cells slots Q (F0 m pc ls (.int (jI x) :: rest)) := by rw [h]; exact k
theorem jv_asl {x y : Int} (h : x = y) (k : W p l e R s m args below meth c H locs cells slots Q (F0 m pc ls (.long (kL y) :: rest))) : W p l e R s m args below meth c H locs cells slots Q (F0 m pc ls (.long (kL x) :: rest)) := by rw [h]; exact k
theorem jv_i2l (hx : p.tables.exec = Jvm.exec) (hb : c.code = cc) {x : Int} (hd : decode cc pc = .ok (.i2l, 1)) (h : rI x) (k : W p l e R s m args below meth c H locs cells slots Q (F0 m (pc + 1) ls (.long (kL x) :: rest))) : W p l e R s m args below meth c H locs cells slots Q (F0 m pc ls (.int (jI x) :: rest)) := lv_i2l hx hb hd (kL_of h) k
theorem jv_l2i (hx : p.tables.exec = Jvm.exec) (hb : c.code = cc) {x : Int} (hd : decode cc pc = .ok (.l2i, 1)) (k : W p l e R s m args below meth c H locs cells slots Q (F0 m (pc + 1) ls (.int (jI x) :: rest))) : W p l e R s m args below meth c H locs cells slots Q (F0 m pc ls (.long (kL x) :: rest)) := lv_l2i hx hb hd (kL_i x) k
theorem jv_lsub (hx : p.tables.exec = Jvm.exec) (hb : c.code = cc) {x y : Int} (hd : decode cc pc = .ok (.lsub, 1)) (k : W p l e R s m args below meth c H locs cells slots Q (F0 m (pc + 1) ls (.long (kL (x - y)) :: rest))) : W p l e R s m args below meth c H locs cells slots Q (F0 m pc ls (.long (kL y) :: .long (kL x) :: rest)) := lv_lsub hx hb hd (by rw [kL_sub]; exact k)
theorem jv_lmul (hx : p.tables.exec = Jvm.exec) (hb : c.code = cc) {x y : Int} (hd : decode cc pc = .ok (.lmul, 1)) (k : W p l e R s m args below meth c H locs cells slots Q (F0 m (pc + 1) ls (.long (kL (x * y)) :: rest))) : W p l e R s m args below meth c H locs cells slots Q (F0 m pc ls (.long (kL y) :: .long (kL x) :: rest)) := lv_lmul hx hb hd (by rw [kL_mul]; exact k)
theorem jv_lconst0 (hx : p.tables.exec = Jvm.exec) (hb : c.code = cc) (hd : decode cc pc = .ok (.lconst 0, 1)) (k : W p l e R s m args below meth c H locs cells slots Q (F0 m (pc + 1) ls (.long (kL 0) :: rest))) : W p l e R s m args below meth c H locs cells slots Q (F0 m pc ls rest) := lv_lconst hx hb hd kL_0 k
theorem jv_lcmp_gt (hx : p.tables.exec = Jvm.exec) (hb : c.code = cc) {x y : Int} {off : Int} {tgt : Nat} (hd : decode cc pc = .ok (.lcmp, 1)) (hd2 : decode cc (pc + 1) = .ok (.ifCond .gt off, 3)) (ht : ((pc + 1 : Nat) : Int) + off = (tgt : Int)) (h1 : rL x) (h2 : rL y) (kt : y < x → W p l e R s m args below meth c H locs cells slots Q (F0 m tgt ls rest)) (kf : ¬ y < x → W p l e R s m args below meth c H locs cells slots Q (F0 m (pc + 1 + 3) ls rest)) : W p l e R s m args below meth c H locs cells slots Q (F0 m pc ls (.long (kL y) :: .long (kL x) :: rest)) := W.lcmp hx hb hd (lv_if_gt hx hb hd2 ht (fun q => kt ((kL_lt h2 h1).mp ((lg_cmp_gt _ _).mp q))) (fun q => kf (fun z => q ((lg_cmp_gt _ _).mpr ((kL_lt h2 h1).mpr z)))))
theorem jv_lcmp_lt (hx : p.tables.exec = Jvm.exec) (hb : c.code = cc) {x y : Int} {off : Int} {tgt : Nat} (hd : decode cc pc = .ok (.lcmp, 1)) (hd2 : decode cc (pc + 1) = .ok (.ifCond .lt off, 3)) (ht : ((pc + 1 : Nat) : Int) + off = (tgt : Int)) (h1 : rL x) (h2 : rL y) (kt : x < y → W p l e R s m args below meth c H locs cells slots Q (F0 m tgt ls rest)) (kf : ¬ x < y → W p l e R s m args below meth c H locs cells slots Q (F0 m (pc + 1 + 3) ls rest)) : W p l e R s m args below meth c H locs cells slots Q (F0 m pc ls (.long (kL y) :: .long (kL x) :: rest)) := W.lcmp hx hb hd (lv_if_lt hx hb hd2 ht (fun q => kt ((kL_lt h1 h2).mp ((lg_cmp_lt _ _).mp q))) (fun q => kf (fun z => q ((lg_cmp_lt _ _).mpr ((kL_lt h1 h2).mpr z)))))
theorem jv_icmp_eq (hx : p.tables.exec = Jvm.exec) (hb : c.code = cc) {x y : Int} {off : Int} {tgt : Nat} (hd : decode cc pc = .ok (.if_icmp .eq off, 3)) (ht : (pc : Int) + off = (tgt : Int)) (h1 : rI x) (h2 : rI y) (kt : x = y → W p l e R s m args below meth c H locs cells slots Q (F0 m tgt ls rest)) (kf : ¬ x = y → W p l e R s m args below meth c H locs cells slots Q (F0 m (pc + 3) ls rest)) : W p l e R s m args below meth c H locs cells slots Q (F0 m pc ls (.int (jI y) :: .int (jI x) :: rest)) := lv_icmp_eq hx hb hd ht (fun q => kt ((jI_eq h1 h2).mp q)) (fun q => kf (fun z => q ((jI_eq h1 h2).mpr z)))
theorem jv_if_eq (hx : p.tables.exec = Jvm.exec) (hb : c.code = cc) {x : Int} {off : Int} {tgt : Nat} (hd : decode cc pc = .ok (.ifCond .eq off, 3)) (ht : (pc : Int) + off = (tgt : Int)) (h1 : rI x) (kt : x = 0 → W p l e R s m args below meth c H locs cells slots Q (F0 m tgt ls rest)) (kf : ¬ x = 0 → W p l e R s m args below meth c H locs cells slots Q (F0 m (pc + 3) ls rest)) : W p l e R s m args below meth c H locs cells slots Q (F0 m pc ls (.int (jI x) :: rest)) := lv_if_eq hx hb hd ht (fun q => kt ((jI_eq h1 rI_0).mp (by rw [← jI_0]; exact q))) (fun q => kf (fun z => q (by have := (jI_eq h1 rI_0).mpr z; rw [← jI_0] at this; exact this)))
theorem jv_icmp_ne (hx : p.tables.exec = Jvm.exec) (hb : c.code = cc) {x y : Int} {off : Int} {tgt : Nat} (hd : decode cc pc = .ok (.if_icmp .ne off, 3)) (ht : (pc : Int) + off = (tgt : Int)) (h1 : rI x) (h2 : rI y) (kt : ¬ x = y → W p l e R s m args below meth c H locs cells slots Q (F0 m tgt ls rest)) (kf : x = y → W p l e R s m args below meth c H locs cells slots Q (F0 m (pc + 3) ls rest)) : W p l e R s m args below meth c H locs cells slots Q (F0 m pc ls (.int (jI y) :: .int (jI x) :: rest)) := lv_icmp_ne hx hb hd ht (fun q => kt (fun z => q ((jI_eq h1 h2).mpr z))) (fun q => kf ((jI_eq h1 h2).mp q))
theorem jv_if_ne (hx : p.tables.exec = Jvm.exec) (hb : c.code = cc) {x : Int} {off : Int} {tgt : Nat} (hd : decode cc pc = .ok (.ifCond .ne off, 3)) (ht : (pc : Int) + off = (tgt : Int)) (h1 : rI x) (kt : ¬ x = 0 → W p l e R s m args below meth c H locs cells slots Q (F0 m tgt ls rest)) (kf : x = 0 → W p l e R s m args below meth c H locs cells slots Q (F0 m (pc + 3) ls rest)) : W p l e R s m args below meth c H locs cells slots Q (F0 m pc ls (.int (jI x) :: rest)) := lv_if_ne hx hb hd ht (fun q => kt (fun z => q (by have := (jI_eq h1 rI_0).mpr z; rw [← jI_0] at this; exact this))) (fun q => kf ((jI_eq h1 rI_0).mp (by rw [← jI_0]; exact q)))
theorem jv_icmp_lt (hx : p.tables.exec = Jvm.exec) (hb : c.code = cc) {x y : Int} {off : Int} {tgt : Nat} (hd : decode cc pc = .ok (.if_icmp .lt off, 3)) (ht : (pc : Int) + off = (tgt : Int)) (h1 : rI x) (h2 : rI y) (kt : x < y → W p l e R s m args below meth c H locs cells slots Q (F0 m tgt ls rest)) (kf : ¬ x < y → W p l e R s m args below meth c H locs cells slots Q (F0 m (pc + 3) ls rest)) : W p l e R s m args below meth c H locs cells slots Q (F0 m pc ls (.int (jI y) :: .int (jI x) :: rest)) := lv_icmp_lt hx hb hd ht (fun q => kt ((jI_lt h1 h2).mp q)) (fun q => kf (fun z => q ((jI_lt h1 h2).mpr z)))
theorem jv_if_lt (hx : p.tables.exec = Jvm.exec) (hb : c.code = cc) {x : Int} {off : Int} {tgt : Nat} (hd : decode cc pc = .ok (.ifCond .lt off, 3)) (ht : (pc : Int) + off = (tgt : Int)) (h1 : rI x) (kt : x < 0 → W p l e R s m args below meth c H locs cells slots Q (F0 m tgt ls rest)) (kf : ¬ x < 0 → W p l e R s m args below meth c H locs cells slots Q (F0 m (pc + 3) ls rest)) : W p l e R s m args below meth c H locs cells slots Q (F0 m pc ls (.int (jI x) :: rest)) := lv_if_lt hx hb hd ht (fun q => kt ((jI_lt h1 rI_0).mp (by rw [← jI_0]; exact q))) (fun q => kf (fun z => q (by have := (jI_lt h1 rI_0).mpr z; rw [← jI_0] at this; exact this)))
theorem jv_icmp_ge (hx : p.tables.exec = Jvm.exec) (hb : c.code = cc) {x y : Int} {off : Int} {tgt : Nat} (hd : decode cc pc = .ok (.if_icmp .ge off, 3)) (ht : (pc : Int) + off = (tgt : Int)) (h1 : rI x) (h2 : rI y) (kt : y ≤ x → W p l e R s m args below meth c H locs cells slots Q (F0 m tgt ls rest)) (kf : ¬ y ≤ x → W p l e R s m args below meth c H locs cells slots Q (F0 m (pc + 3) ls rest)) : W p l e R s m args below meth c H locs cells slots Q (F0 m pc ls (.int (jI y) :: .int (jI x) :: rest)) := lv_icmp_ge hx hb hd ht (fun q => kt ((jI_le h2 h1).mp q)) (fun q => kf (fun z => q ((jI_le h2 h1).mpr z)))
theorem jv_if_ge (hx : p.tables.exec = Jvm.exec) (hb : c.code = cc) {x : Int} {off : Int} {tgt : Nat} (hd : decode cc pc = .ok (.ifCond .ge off, 3)) (ht : (pc : Int) + off = (tgt : Int)) (h1 : rI x) (kt : 0 ≤ x → W p l e R s m args below meth c H locs cells slots Q (F0 m tgt ls rest)) (kf : ¬ 0 ≤ x → W p l e R s m args below meth c H locs cells slots Q (F0 m (pc + 3) ls rest)) : W p l e R s m args below meth c H locs cells slots Q (F0 m pc ls (.int (jI x) :: rest)) := lv_if_ge hx hb hd ht (fun q => kt ((jI_le rI_0 h1).mp (by rw [← jI_0]; exact q))) (fun q => kf (fun z => q (by have := (jI_le rI_0 h1).mpr z; rw [← jI_0] at this; exact this)))
theorem jv_icmp_gt (hx : p.tables.exec = Jvm.exec) (hb : c.code = cc) {x y : Int} {off : Int} {tgt : Nat} (hd : decode cc pc = .ok (.if_icmp .gt off, 3)) (ht : (pc : Int) + off = (tgt : Int)) (h1 : rI x) (h2 : rI y) (kt : y < x → W p l e R s m args below meth c H locs cells slots Q (F0 m tgt ls rest)) (kf : ¬ y < x → W p l e R s m args below meth c H locs cells slots Q (F0 m (pc + 3) ls rest)) : W p l e R s m args below meth c H locs cells slots Q (F0 m pc ls (.int (jI y) :: .int (jI x) :: rest)) := lv_icmp_gt hx hb hd ht (fun q => kt ((jI_lt h2 h1).mp q)) (fun q => kf (fun z => q ((jI_lt h2 h1).mpr z)))
theorem jv_if_gt (hx : p.tables.exec = Jvm.exec) (hb : c.code = cc) {x : Int} {off : Int} {tgt : Nat} (hd : decode cc pc = .ok (.ifCond .gt off, 3)) (ht : (pc : Int) + off = (tgt : Int)) (h1 : rI x) (kt : 0 < x → W p l e R s m args below meth c H locs cells slots Q (F0 m tgt ls rest)) (kf : ¬ 0 < x → W p l e R s m args below meth c H locs cells slots Q (F0 m (pc + 3) ls rest)) : W p l e R s m args below meth c H locs cells slots Q (F0 m pc ls (.int (jI x) :: rest)) := lv_if_gt hx hb hd ht (fun q => kt ((jI_lt rI_0 h1).mp (by rw [← jI_0]; exact q))) (fun q => kf (fun z => q (by have := (jI_lt rI_0 h1).mpr z; rw [← jI_0] at this; exact this)))
theorem jv_icmp_le (hx : p.tables.exec = Jvm.exec) (hb : c.code = cc) {x y : Int} {off : Int} {tgt : Nat} (hd : decode cc pc = .ok (.if_icmp .le off, 3)) (ht : (pc : Int) + off = (tgt : Int)) (h1 : rI x) (h2 : rI y) (kt : x ≤ y → W p l e R s m args below meth c H locs cells slots Q (F0 m tgt ls rest)) (kf : ¬ x ≤ y → W p l e R s m args below meth c H locs cells slots Q (F0 m (pc + 3) ls rest)) : W p l e R s m args below meth c H locs cells slots Q (F0 m pc ls (.int (jI y) :: .int (jI x) :: rest)) := lv_icmp_le hx hb hd ht (fun q => kt ((jI_le h1 h2).mp q)) (fun q => kf (fun z => q ((jI_le h1 h2).mpr z)))
theorem jv_if_le (hx : p.tables.exec = Jvm.exec) (hb : c.code = cc) {x : Int} {off : Int} {tgt : Nat} (hd : decode cc pc = .ok (.ifCond .le off, 3)) (ht : (pc : Int) + off = (tgt : Int)) (h1 : rI x) (kt : x ≤ 0 → W p l e R s m args below meth c H locs cells slots Q (F0 m tgt ls rest)) (kf : ¬ x ≤ 0 → W p l e R s m args below meth c H locs cells slots Q (F0 m (pc + 3) ls rest)) : W p l e R s m args below meth c H locs cells slots Q (F0 m pc ls (.int (jI x) :: rest)) := lv_if_le hx hb hd ht (fun q => kt ((jI_le h1 rI_0).mp (by rw [← jI_0]; exact q))) (fun q => kf (fun z => q (by have := (jI_le h1 rI_0).mpr z; rw [← jI_0] at this; exact this)))
theorem b2_rI (b : Bool) : rI (b2_ b) := ⟨by have := b2_rng b; omega, by have := b2_rng b; omega⟩
/-- a branch on a yes or no -/
theorem jv_if_no (hx : p.tables.exec = Jvm.exec) (hb : c.code = cc) {b : Bool} {off : Int} {tgt : Nat} (hd : decode cc pc = .ok (.ifCond .eq off, 3)) (ht : (pc : Int) + off = (tgt : Int)) (kt : b = false → W p l e R s m args below meth c H locs cells slots Q (F0 m tgt ls rest)) (kf : b = true → W p l e R s m args below meth c H locs cells slots Q (F0 m (pc + 3) ls rest)) : W p l e R s m args below meth c H locs cells slots Q (F0 m pc ls (.int (jI (b2_ b)) :: rest)) := jv_if_eq hx hb hd ht (b2_rI b) (fun q => kt (b2_0.mp q)) (fun q => kf (by cases b with | true => rfl | false => exact absurd rfl q))
theorem jv_if_yes (hx : p.tables.exec = Jvm.exec) (hb : c.code = cc) {b : Bool} {off : Int} {tgt : Nat} (hd : decode cc pc = .ok (.ifCond .ne off, 3)) (ht : (pc : Int) + off = (tgt : Int)) (kt : b = true → W p l e R s m args below meth c H locs cells slots Q (F0 m tgt ls rest)) (kf : b = false → W p l e R s m args below meth c H locs cells slots Q (F0 m (pc + 3) ls rest)) : W p l e R s m args below meth c H locs cells slots Q (F0 m pc ls (.int (jI (b2_ b)) :: rest)) := jv_if_ne hx hb hd ht (b2_rI b) (fun q => kt (by cases b with | true => rfl | false => exact absurd rfl q)) (fun q => kf (b2_0.mp q))
theorem jv_iinc (hx : p.tables.exec = Jvm.exec) (hb : c.code = cc) {i nL k : Nat} {n x : Int} {lv lv' : List (Nat × Value)} (hd : decode cc pc = .ok (.iinc i n, 3)) (h : lv_has ls nL lv) (hk : lv[k]? = some (i, .int (jI x))) (hn : i < nL) (hl : (i, Value.int (jI (x + n))) :: lv.filter (fun q => !(q.1 == i) && !(q.1 + 1 == i && q.2.category == 2)) = lv') (kk : ∀ ls : Array Slot, lv_has ls nL lv' → W p l e R s m args below meth c H locs cells slots Q (F0 m (pc + 3) ls rest)) : W p l e R s m args below meth c H locs cells slots Q (F0 m pc ls rest) := lv_iinc hx hb hd h hk (jI_add x n) hn hl kk
end JW
/-! ===== what a method's walk stands on; its world; contracts with a fixed answer ===== -/
abbrev vwCl : List vw_C := [(RX0, TX0, 11), (RX1, TX1, 7)]
def cx_ (p : Program) (s : State) (m : MethodId) (args : Array Value) (meth : Method) (c : Code) (cc : ByteArray) (nL : Nat) (own : String) (rt : Option FieldType) (D : va_G) (A : Nat → Prop) : Prop :=
  p.tables.exec = Jvm.exec ∧ c.code = cc ∧ c.maxLocals = nL ∧ s.vm.findClass own = some m.cls ∧ (∀ w ∈ lw_all, w.before args s = true) ∧ meth.sig.returnType = rt ∧ meth.locks = false ∧ va_K D vwCl [] s ∧ (∀ q : Nat, s.heap.size ≤ q → A q)
def wd_ (D : va_G) (A : Nat → Prop) (s : State) (H : Heap) (locs : List Loc) (ws : va_W) : Prop := va_P D vwCl ws H ∧ va_D A ws ∧ va_S A s.heap H locs
abbrev ob_ (h0 ci : Nat) (fs : List Value) : va_W := [(h0, .inr (ci, fs))]
def qs_ (r : Int) (sz : Nat) : Array Value → State → Outcome → State → Prop := va_Qi (fun (x : Int32) (_ : Unit) => x = jI r) (fun _ _ => True) (va_A [] sz)
def qi_ (D : va_G) (ws : va_W) (r : Int) (A : Nat → Prop) : Array Value → State → Outcome → State → Prop := va_Qi (fun (x : Int32) (_ : Unit) => x = jI r) (fun _ t => va_P D vwCl ws t.heap ∧ va_K D vwCl [] t ∧ va_D A ws) A
def qv_ (D : va_G) (ws : va_W) (A : Nat → Prop) : Array Value → State → Outcome → State → Prop := va_Qv (fun (_ : Unit) => True) (fun _ t => va_P D vwCl ws t.heap ∧ va_K D vwCl [] t ∧ va_D A ws) A
def pc_ (D : va_G) (h0 ci : Nat) (As fs : List Value) (sz : Nat) : Array Value → State → Prop := va_Pc (.ref h0 :: As) (fun U => U.heap.size = sz ∧ va_P D vwCl (ob_ h0 ci fs) U.heap ∧ va_K D vwCl [] U ∧ va_D (fun _ => True) (ob_ h0 ci fs))
/-- a static method: it answers r, and touches no cell -/
def ms_ (l : Launch) (y : MethodName) (b : ByteArray) (nL : Nat) (rt : Option FieldType) (rm : Room) (As : List Value) (r : Int) : Prop := ∀ sz : Nat, Met l y (ws_ y b nL rt) rm (va_Pc As (fun U => U.heap.size = sz)) (qs_ r sz) 0 0 (va_A [] sz)
/-- an object's method: the fields fs become fs2, it answers r -/
def mi_ (l : Launch) (y : MethodName) (b : ByteArray) (nL : Nat) (rt : Option FieldType) (rm : Room) (h0 ci : Nat) (As fs fs2 : List Value) (r : Int) : Prop := ∀ (D : va_G) (sz : Nat), Met l y (ws_ y b nL rt) rm (pc_ D h0 ci As fs sz) (qi_ D (ob_ h0 ci fs2) r (va_A (ob_ h0 ci fs) sz)) 0 0 (va_A (ob_ h0 ci fs) sz)
def mv_ (l : Launch) (y : MethodName) (b : ByteArray) (nL : Nat) (rt : Option FieldType) (rm : Room) (h0 ci : Nat) (As fs fs2 : List Value) : Prop := ∀ (D : va_G) (sz : Nat), Met l y (ws_ y b nL rt) rm (pc_ D h0 ci As fs sz) (qv_ D (ob_ h0 ci fs2) (va_A (ob_ h0 ci fs) sz)) 0 0 (va_A (ob_ h0 ci fs) sz)
theorem ms_of {l : Launch} {y : MethodName} {b : ByteArray} {nL : Nat} {rt : Option FieldType} {rm : Room} {As : List Value} {r : Int} (hy : plainName y.cls = true) (hlen : (lg_sl As).length ≤ nL)
    (body : ∀ (p : Program) (e : Env) (s : State) (m : MethodId) (args : Array Value) (below : List Frame) (meth : Method) (c : Code), p.tables.exec = Jvm.exec → c.code = b → s.vm.findClass y.cls = some m.cls → (∀ w ∈ lw_all, w.before args s = true) → meth.sig.returnType = rt → meth.locks = false → ∀ ls : Array Slot, lv_has ls nL (lv_args 0 As) → W p l e rm s m args below meth c s.heap [] 0 0 (MQ below (qs_ r s.heap.size) args s 0 0 (va_A [] s.heap.size)) (F0 m 0 ls [])) : ms_ l y b nL rt rm As r := by
  intro sz
  refine Met.ofW (cc := b) (maxL := nL) (ret := rt) hy rfl ?_
  intro p e s m args below meth c s₁ B hml hv
  obtain ⟨rfl, hsz⟩ := hv
  have hts0 := atoms_spec (ws := ws_ y b nL rt) B.pre
  have hts : ∀ w ∈ lw_all, w.before _ s = true := fun w h => hts0 w (List.mem_cons_of_mem _ h)
  subst hsz
  rw [lg_entry_eq]
  exact body p e s m _ below meth c B.exec B.bytes (findClass_of_methodNamed B.named) hts B.returns B.notSynchronized _ (lv_entry _ hlen)
theorem mi_of {l : Launch} {y : MethodName} {b : ByteArray} {nL : Nat} {rt : Option FieldType} {rm : Room} {h0 ci : Nat} {As fs fs2 : List Value} {r : Int} (hy : plainName y.cls = true) (hlen : (lg_sl (.ref h0 :: As)).length ≤ nL)
    (body : ∀ (p : Program) (e : Env) (s : State) (m : MethodId) (args : Array Value) (below : List Frame) (meth : Method) (c : Code) (D : va_G) (A : Nat → Prop), cx_ p s m args meth c b nL y.cls rt D A → wd_ D A s s.heap [] (ob_ h0 ci fs) → ∀ ls : Array Slot, lv_has ls nL (lv_args 0 (.ref h0 :: As)) → W p l e rm s m args below meth c s.heap [] 0 0 (MQ below (qi_ D (ob_ h0 ci fs2) r A) args s 0 0 A) (F0 m 0 ls [])) : mi_ l y b nL rt rm h0 ci As fs fs2 r := by
  intro D sz
  refine Met.ofW (cc := b) (maxL := nL) (ret := rt) hy rfl ?_
  intro p e s m args below meth c s₁ B hml hv
  obtain ⟨rfl, hsz, hP, hK, hD0⟩ := hv
  have hts0 := atoms_spec (ws := ws_ y b nL rt) B.pre
  have hts : ∀ w ∈ lw_all, w.before _ s = true := fun w h => hts0 w (List.mem_cons_of_mem _ h)
  subst hsz
  rw [lg_entry_eq]
  exact body p e s m _ below meth c D _ ⟨B.exec, B.bytes, hml, findClass_of_methodNamed B.named, hts, B.returns, B.notSynchronized, hK, fun q h => Or.inr h⟩ ⟨hP, hD0.self, va_S.rf⟩ _ (lv_entry _ hlen)
theorem mv_of {l : Launch} {y : MethodName} {b : ByteArray} {nL : Nat} {rt : Option FieldType} {rm : Room} {h0 ci : Nat} {As fs fs2 : List Value} (hy : plainName y.cls = true) (hlen : (lg_sl (.ref h0 :: As)).length ≤ nL)
    (body : ∀ (p : Program) (e : Env) (s : State) (m : MethodId) (args : Array Value) (below : List Frame) (meth : Method) (c : Code) (D : va_G) (A : Nat → Prop), cx_ p s m args meth c b nL y.cls rt D A → wd_ D A s s.heap [] (ob_ h0 ci fs) → ∀ ls : Array Slot, lv_has ls nL (lv_args 0 (.ref h0 :: As)) → W p l e rm s m args below meth c s.heap [] 0 0 (MQ below (qv_ D (ob_ h0 ci fs2) A) args s 0 0 A) (F0 m 0 ls [])) : mv_ l y b nL rt rm h0 ci As fs fs2 := by
  intro D sz
  refine Met.ofW (cc := b) (maxL := nL) (ret := rt) hy rfl ?_
  intro p e s m args below meth c s₁ B hml hv
  obtain ⟨rfl, hsz, hP, hK, hD0⟩ := hv
  have hts0 := atoms_spec (ws := ws_ y b nL rt) B.pre
  have hts : ∀ w ∈ lw_all, w.before _ s = true := fun w h => hts0 w (List.mem_cons_of_mem _ h)
  subst hsz
  rw [lg_entry_eq]
  exact body p e s m _ below meth c D _ ⟨B.exec, B.bytes, hml, findClass_of_methodNamed B.named, hts, B.returns, B.notSynchronized, hK, fun q h => Or.inr h⟩ ⟨hP, hD0.self, va_S.rf⟩ _ (lv_entry _ hlen)
section JC
variable {p : Program} {l : Launch} {e : Env} {R : Room} {s : State} {m : MethodId} {args : Array Value} {below : List Frame} {meth : Method} {c : Code} {H : Heap} {locs : List Loc} {cells slots : Nat} {Q : State → Prop}
variable {cc : ByteArray} {pc : Nat} {ls : Array Slot} {rest : List Value}
variable {D : va_G} {A : Nat → Prop} {nL : Nat} {own : String} {rt : Option FieldType} {ws ws2 : va_W} {st0 : List Value}
theorem ms_reti (hx : p.tables.exec = Jvm.exec) (hb : c.code = cc) (hr : meth.sig.returnType = some .int) (hlk : meth.locks = false) {v r : Int} (h : v = r) (hd : decode cc pc = .ok (.ireturn, 1)) : W p l e R s m args below meth c s.heap [] 0 0 (MQ below (qs_ r s.heap.size) args s 0 0 (va_A [] s.heap.size)) (F0 m pc ls [.int (jI v)]) := by
  subst h
  exact W.iret hx hb hr (fun t ht hW => ⟨⟨jI v, (), rfl, rfl, trivial⟩, (va_S.rf (A := va_A [] s.heap.size)).F ht⟩) (fun q h => by cases h) hd
theorem ms_retz (hx : p.tables.exec = Jvm.exec) (hb : c.code = cc) (hr : meth.sig.returnType = some .boolean) (hlk : meth.locks = false) {v r : Int} (h : v = r) (hz : ∃ b : Bool, v = b2_ b) (hd : decode cc pc = .ok (.ireturn, 1)) : W p l e R s m args below meth c s.heap [] 0 0 (MQ below (qs_ r s.heap.size) args s 0 0 (va_A [] s.heap.size)) (F0 m pc ls [.int (jI v)]) := by
  subst h
  obtain ⟨b, rfl⟩ := hz
  exact W.zret hx hb hr (b2_narrow b) (fun t ht hW => ⟨⟨jI (b2_ b), (), rfl, rfl, trivial⟩, (va_S.rf (A := va_A [] s.heap.size)).F ht⟩) (fun q h => by cases h) hd
theorem mi_reti (C : cx_ p s m args meth c cc nL own (some .int) D A) (hW : wd_ D A s H locs ws) {v r : Int} (h : v = r) (hw : ws = ws2) (hd : decode cc pc = .ok (.ireturn, 1)) : W p l e R s m args below meth c H locs 0 0 (MQ below (qi_ D ws2 r A) args s 0 0 A) (F0 m pc ls [.int (jI v)]) := by
  subst h; subst hw
  obtain ⟨hx, hb, hml, hown, hts, hr, hlk, hK, hA⟩ := C
  obtain ⟨hP, hD, hS⟩ := hW
  exact W.iret hx hb hr (fun t ht hW => ⟨⟨jI v, (), rfl, rfl, by rw [ht]; exact hP, va_K.moved hW.alike hK, hD⟩, hS.F ht⟩) hS.2.2 hd
theorem mi_retz (C : cx_ p s m args meth c cc nL own (some .boolean) D A) (hW : wd_ D A s H locs ws) {v r : Int} (h : v = r) (hz : ∃ b : Bool, v = b2_ b) (hw : ws = ws2) (hd : decode cc pc = .ok (.ireturn, 1)) : W p l e R s m args below meth c H locs 0 0 (MQ below (qi_ D ws2 r A) args s 0 0 A) (F0 m pc ls [.int (jI v)]) := by
  subst h; subst hw
  obtain ⟨b, rfl⟩ := hz
  obtain ⟨hx, hb, hml, hown, hts, hr, hlk, hK, hA⟩ := C
  obtain ⟨hP, hD, hS⟩ := hW
  exact W.zret hx hb hr (b2_narrow b) (fun t ht hW => ⟨⟨jI (b2_ b), (), rfl, rfl, by rw [ht]; exact hP, va_K.moved hW.alike hK, hD⟩, hS.F ht⟩) hS.2.2 hd
theorem mv_ret (C : cx_ p s m args meth c cc nL own none D A) (hW : wd_ D A s H locs ws) (hw : ws = ws2) (hd : decode cc pc = .ok (.return_, 1)) : W p l e R s m args below meth c H locs 0 0 (MQ below (qv_ D ws2 A) args s 0 0 A) (F0 m pc ls []) := by
  subst hw
  obtain ⟨hx, hb, hml, hown, hts, hr, hlk, hK, hA⟩ := C
  obtain ⟨hP, hD, hS⟩ := hW
  exact W.vret hx hb hr (fun t ht hW => ⟨⟨(), rfl, trivial, by rw [ht]; exact hP, va_K.moved hW.alike hK, hD⟩, hS.F ht⟩) hS.2.2 hd
/-- a call of a static method -/
theorem cs_ {y : MethodName} {b2 : ByteArray} {nL2 n idx : Nat} {rt2 : Option FieldType} {rm2 : Room} {As : List Value} {r : Int} (C : cx_ p s m args meth c cc nL own rt D A) (hW : wd_ D A s H locs ws) (hM : ms_ l y b2 nL2 rt2 rm2 As r) (hg : GoodIn lw_all (va_wsS own idx y (ws_ y b2 nL2 rt2))) (h0 : rm2.cells = 0 ∧ rm2.slots = 0)
    (hdn : y.cls ≠ "java/lang/invoke/MethodHandle" ∧ y.cls ≠ "java/lang/invoke/VarHandle" ∧ (parseMethodDescriptor y.desc).map (fun d => d.parameters.length) = some n) (hR : rm2.frames + 1 ≤ R.frames ∧ 8 + (nL2 + 11) + rm2.locals ≤ R.locals) (hn : As.length = n) (hls : ls.size = nL) (hst : st0 = As.reverse ++ rest) (hrm : (rest.map fun v => v.category).sum ≤ 8) (hf : cells ≤ R.cells ∧ slots ≤ R.slots) (hd : decode cc pc = .ok (.invokestatic idx, 3))
    (kk : ∀ (H : Heap) (locs : List Loc), wd_ D A s H locs ws → W p l e R s m args below meth c H locs cells slots Q (F0 m (pc + 3) ls (.int (jI r) :: rest))) : W p l e R s m args below meth c H locs cells slots Q (F0 m pc ls st0) := by
  obtain ⟨hx, hb, hml, hown, hts, hr, hlk, hK, hA⟩ := C
  obtain ⟨hP, hD, hS⟩ := hW
  have hno : ∀ q : Nat, va_A [] H.size q → H.size ≤ q := fun q h => by
    rcases h with ⟨k, e, h⟩ | h
    · simp at h
    · exact h
  refine va_calli (A1 := va_A [] H.size) (va_runS (As := As) (rest := rest) ⟨hx, hb, hml, hown, hts⟩ (hM H.size) (va_cwS n hts hg rfl h0.1 h0.2 hdn hR) ⟨fun a U g mk q => ⟨q.1, q.2⟩, fun U hU hW => ⟨rfl, by show Array.size U.heap = _; rw [hU]⟩⟩ rfl hn hls hst (lv_room hrm) hd hf) hS (fun q h1 h2 => absurd (hno q h2) (Nat.not_le.mpr h1)) (fun q h => hA q (Nat.le_trans hS.1 (hno q h))) (fun x u t H1 locs1 ht hvm hp hB hz hk hS1 => ?_)
  rw [show x = jI r from hp]
  exact kk H1 locs1 ⟨hP.kept (fun k q hq => hk q.1 (hP k q hq).lt (fun h => absurd (hno _ h) (Nat.not_le.mpr (hP k q hq).lt))), hD, hS1⟩
/-- a call of the one object's own method, with an answer -/
theorem ci_ {y : MethodName} {b2 : ByteArray} {nL2 n idx : Nat} {rt2 : Option FieldType} {rm2 : Room} {h0 ci : Nat} {As fs fs2 : List Value} {r : Int} {q : vw_C} (C : cx_ p s m args meth c cc nL own rt D A) (hW : wd_ D A s H locs (ob_ h0 ci fs)) (hM : mi_ l y b2 nL2 rt2 rm2 h0 ci As fs fs2 r) (hcl : vwCl[ci]? = some q) (hg : GoodIn lw_all (wsV own idx q.1 y (ws_ y b2 nL2 rt2))) (hz : rm2.cells = 0 ∧ rm2.slots = 0)
    (hdn : y.cls = q.1 ∧ y.cls ≠ "java/lang/invoke/MethodHandle" ∧ y.cls ≠ "java/lang/invoke/VarHandle" ∧ (parseMethodDescriptor y.desc).map (fun d => d.parameters.length) = some n) (hR : rm2.frames + 1 ≤ R.frames ∧ 8 + (nL2 + 11) + rm2.locals ≤ R.locals) (hn : As.length = n) (hls : ls.size = nL) (hst : st0 = As.reverse ++ .ref h0 :: rest) (hrm : (rest.map fun v => v.category).sum ≤ 8) (hf : cells ≤ R.cells ∧ slots ≤ R.slots) (hd : decode cc pc = .ok (.invokevirtual idx, 3))
    (kk : ∀ (H : Heap) (locs : List Loc), wd_ D A s H locs (ob_ h0 ci fs2) → W p l e R s m args below meth c H locs cells slots Q (F0 m (pc + 3) ls (.int (jI r) :: rest))) : W p l e R s m args below meth c H locs cells slots Q (F0 m pc ls st0) := by
  obtain ⟨hx, hb, hml, hown, hts, hr, hlk, hK, hA⟩ := C
  obtain ⟨hP, hD, hS⟩ := hW
  have hFc := va_free (wc := ob_ h0 ci fs) hD hS hA [0] rfl
  refine va_calli (va_runV (As := As) (rest := rest) ⟨hx, hb, hml, hown, hts⟩ (hM D H.size) (cwV n hts hg rfl hz.1 hz.2 hdn hR) ⟨fun a U g mk q => by obtain ⟨q0, q1, qP, qK, qD⟩ := q; exact ⟨q0, q1, qP, va_K.moved (u := U) (U := U.calling g mk a) (Vm.Alike.refl U.vm) qK, qD⟩, va_recv hK hP (ci := ci) (q0 := 0) hcl rfl, fun U hU hW => ⟨rfl, by rw [hU], by rw [hU]; exact hP, va_K.moved hW.alike hK, hD.weaken (fun _ _ _ _ => trivial)⟩⟩ rfl hn hls hst (lv_room hrm) hd hf) hS (fun q _ h => hFc q h) hFc (fun x u t H1 locs1 ht hvm hp hB hz1 hk1 hS1 => ?_)
  rw [show x = jI r from hp]
  obtain ⟨hP1, hK1, hD1⟩ := hB
  rw [ht] at hP1
  obtain ⟨hP, hD⟩ := va_join (wr := []) (w1 := ob_ h0 ci fs2) hP hD [0] [] rfl rfl (by decide) (by decide) hk1 hFc hP1 hD1
  exact kk H1 locs1 ⟨hP, hD, hS1⟩
theorem cv_ {y : MethodName} {b2 : ByteArray} {nL2 n idx : Nat} {rt2 : Option FieldType} {rm2 : Room} {h0 ci : Nat} {As fs fs2 : List Value} {q : vw_C} (C : cx_ p s m args meth c cc nL own rt D A) (hW : wd_ D A s H locs (ob_ h0 ci fs)) (hM : mv_ l y b2 nL2 rt2 rm2 h0 ci As fs fs2) (hcl : vwCl[ci]? = some q) (hg : GoodIn lw_all (wsV own idx q.1 y (ws_ y b2 nL2 rt2))) (hz : rm2.cells = 0 ∧ rm2.slots = 0)
    (hdn : y.cls = q.1 ∧ y.cls ≠ "java/lang/invoke/MethodHandle" ∧ y.cls ≠ "java/lang/invoke/VarHandle" ∧ (parseMethodDescriptor y.desc).map (fun d => d.parameters.length) = some n) (hR : rm2.frames + 1 ≤ R.frames ∧ 8 + (nL2 + 11) + rm2.locals ≤ R.locals) (hn : As.length = n) (hls : ls.size = nL) (hst : st0 = As.reverse ++ .ref h0 :: rest) (hrm : (rest.map fun v => v.category).sum ≤ 8) (hf : cells ≤ R.cells ∧ slots ≤ R.slots) (hd : decode cc pc = .ok (.invokevirtual idx, 3))
    (kk : ∀ (H : Heap) (locs : List Loc), wd_ D A s H locs (ob_ h0 ci fs2) → W p l e R s m args below meth c H locs cells slots Q (F0 m (pc + 3) ls rest)) : W p l e R s m args below meth c H locs cells slots Q (F0 m pc ls st0) := by
  obtain ⟨hx, hb, hml, hown, hts, hr, hlk, hK, hA⟩ := C
  obtain ⟨hP, hD, hS⟩ := hW
  have hFc := va_free (wc := ob_ h0 ci fs) hD hS hA [0] rfl
  refine va_callv (va_runV (As := As) (rest := rest) ⟨hx, hb, hml, hown, hts⟩ (hM D H.size) (cwV n hts hg rfl hz.1 hz.2 hdn hR) ⟨fun a U g mk q => by obtain ⟨q0, q1, qP, qK, qD⟩ := q; exact ⟨q0, q1, qP, va_K.moved (u := U) (U := U.calling g mk a) (Vm.Alike.refl U.vm) qK, qD⟩, va_recv hK hP (ci := ci) (q0 := 0) hcl rfl, fun U hU hW => ⟨rfl, by rw [hU], by rw [hU]; exact hP, va_K.moved hW.alike hK, hD.weaken (fun _ _ _ _ => trivial)⟩⟩ rfl hn hls hst (lv_room hrm) hd hf) hS (fun q _ h => hFc q h) hFc (fun u t H1 locs1 ht hvm hp hB hz1 hk1 hS1 => ?_)
  obtain ⟨hP1, hK1, hD1⟩ := hB
  rw [ht] at hP1
  obtain ⟨hP, hD⟩ := va_join (wr := []) (w1 := ob_ h0 ci fs2) hP hD [0] [] rfl rfl (by decide) (by decide) hk1 hFc hP1 hD1
  exact kk H1 locs1 ⟨hP, hD, hS1⟩
theorem g0_fa {h0 : Nat} {fa fb fc fd px py qx qy bs bu bv : Int} (C : cx_ p s m args meth c cc nL RX0 rt D A) (hW : wd_ D A s H locs (ob_ h0 0 [.int (jI fa), .int (jI fb), .int (jI fc), .int (jI fd), .int (jI px), .int (jI py), .int (jI qx), .int (jI qy), .int (jI bs), .int (jI bu), .int (jI bv)])) (hd : decode cc pc = .ok (.getfield 7, 3)) (kk : W p l e R s m args below meth c H locs cells slots Q (F0 m (pc + 3) ls (.int (jI fa) :: rest))) : W p l e R s m args below meth c H locs cells slots Q (F0 m pc ls (.ref h0 :: rest)) := va_get (D := D) (ci := 0) (v := .int (jI fa)) (C := RX0) (T := TX0) (N := 11) C.1 C.2.1 C.2.2.2.2.1 in_X0 C.2.2.2.1 C.2.2.2.2.2.2.2.1 hW.1 0 rfl rfl 0 (by decide) (C.2.2.2.2.1 _ q33) (fun _ h9 => h9) rfl hd kk
theorem p0_fa {h0 : Nat} {fa fb fc fd px py qx qy bs bu bv z : Int} (C : cx_ p s m args meth c cc nL RX0 rt D A) (hW : wd_ D A s H locs (ob_ h0 0 [.int (jI fa), .int (jI fb), .int (jI fc), .int (jI fd), .int (jI px), .int (jI py), .int (jI qx), .int (jI qy), .int (jI bs), .int (jI bu), .int (jI bv)])) (hd : decode cc pc = .ok (.putfield 7, 3)) (kk : ∀ (H : Heap) (locs : List Loc), wd_ D A s H locs (ob_ h0 0 [.int (jI z), .int (jI fb), .int (jI fc), .int (jI fd), .int (jI px), .int (jI py), .int (jI qx), .int (jI qy), .int (jI bs), .int (jI bu), .int (jI bv)]) → W p l e R s m args below meth c H locs cells slots Q (F0 m (pc + 3) ls rest)) : W p l e R s m args below meth c H locs cells slots Q (F0 m pc ls (.int (jI z) :: .ref h0 :: rest)) := va_put (D := D) (ci := 0) (v := .int (jI z)) (ty := .int) (C := RX0) (T := TX0) (N := 11) C.1 C.2.1 C.2.2.2.2.1 in_X0 tyX0 tyX0_ok nmX0 C.2.2.2.1 C.2.2.2.2.2.2.2.1 hW.1 hW.2.1 hW.2.2 0 rfl rfl 0 (by decide) (C.2.2.2.2.1 _ q33) (fun _ h9 => h9) rfl (by decide +kernel) rfl rfl (Nat.le_of_ble_eq_true rfl) hd (fun H1 locs1 h1 h2 h3 => kk H1 locs1 ⟨h1, h2, h3⟩)
theorem g0_fb {h0 : Nat} {fa fb fc fd px py qx qy bs bu bv : Int} (C : cx_ p s m args meth c cc nL RX0 rt D A) (hW : wd_ D A s H locs (ob_ h0 0 [.int (jI fa), .int (jI fb), .int (jI fc), .int (jI fd), .int (jI px), .int (jI py), .int (jI qx), .int (jI qy), .int (jI bs), .int (jI bu), .int (jI bv)])) (hd : decode cc pc = .ok (.getfield 23, 3)) (kk : W p l e R s m args below meth c H locs cells slots Q (F0 m (pc + 3) ls (.int (jI fb) :: rest))) : W p l e R s m args below meth c H locs cells slots Q (F0 m pc ls (.ref h0 :: rest)) := va_get (D := D) (ci := 0) (v := .int (jI fb)) (C := RX0) (T := TX0) (N := 11) C.1 C.2.1 C.2.2.2.2.1 in_X0 C.2.2.2.1 C.2.2.2.2.2.2.2.1 hW.1 0 rfl rfl 1 (by decide) (C.2.2.2.2.1 _ q34) (fun _ h9 => h9) rfl hd kk
theorem p0_fb {h0 : Nat} {fa fb fc fd px py qx qy bs bu bv z : Int} (C : cx_ p s m args meth c cc nL RX0 rt D A) (hW : wd_ D A s H locs (ob_ h0 0 [.int (jI fa), .int (jI fb), .int (jI fc), .int (jI fd), .int (jI px), .int (jI py), .int (jI qx), .int (jI qy), .int (jI bs), .int (jI bu), .int (jI bv)])) (hd : decode cc pc = .ok (.putfield 23, 3)) (kk : ∀ (H : Heap) (locs : List Loc), wd_ D A s H locs (ob_ h0 0 [.int (jI fa), .int (jI z), .int (jI fc), .int (jI fd), .int (jI px), .int (jI py), .int (jI qx), .int (jI qy), .int (jI bs), .int (jI bu), .int (jI bv)]) → W p l e R s m args below meth c H locs cells slots Q (F0 m (pc + 3) ls rest)) : W p l e R s m args below meth c H locs cells slots Q (F0 m pc ls (.int (jI z) :: .ref h0 :: rest)) := va_put (D := D) (ci := 0) (v := .int (jI z)) (ty := .int) (C := RX0) (T := TX0) (N := 11) C.1 C.2.1 C.2.2.2.2.1 in_X0 tyX0 tyX0_ok nmX0 C.2.2.2.1 C.2.2.2.2.2.2.2.1 hW.1 hW.2.1 hW.2.2 0 rfl rfl 1 (by decide) (C.2.2.2.2.1 _ q34) (fun _ h9 => h9) rfl (by decide +kernel) rfl rfl (Nat.le_of_ble_eq_true rfl) hd (fun H1 locs1 h1 h2 h3 => kk H1 locs1 ⟨h1, h2, h3⟩)
theorem g0_fc {h0 : Nat} {fa fb fc fd px py qx qy bs bu bv : Int} (C : cx_ p s m args meth c cc nL RX0 rt D A) (hW : wd_ D A s H locs (ob_ h0 0 [.int (jI fa), .int (jI fb), .int (jI fc), .int (jI fd), .int (jI px), .int (jI py), .int (jI qx), .int (jI qy), .int (jI bs), .int (jI bu), .int (jI bv)])) (hd : decode cc pc = .ok (.getfield 26, 3)) (kk : W p l e R s m args below meth c H locs cells slots Q (F0 m (pc + 3) ls (.int (jI fc) :: rest))) : W p l e R s m args below meth c H locs cells slots Q (F0 m pc ls (.ref h0 :: rest)) := va_get (D := D) (ci := 0) (v := .int (jI fc)) (C := RX0) (T := TX0) (N := 11) C.1 C.2.1 C.2.2.2.2.1 in_X0 C.2.2.2.1 C.2.2.2.2.2.2.2.1 hW.1 0 rfl rfl 2 (by decide) (C.2.2.2.2.1 _ q35) (fun _ h9 => h9) rfl hd kk
theorem p0_fc {h0 : Nat} {fa fb fc fd px py qx qy bs bu bv z : Int} (C : cx_ p s m args meth c cc nL RX0 rt D A) (hW : wd_ D A s H locs (ob_ h0 0 [.int (jI fa), .int (jI fb), .int (jI fc), .int (jI fd), .int (jI px), .int (jI py), .int (jI qx), .int (jI qy), .int (jI bs), .int (jI bu), .int (jI bv)])) (hd : decode cc pc = .ok (.putfield 26, 3)) (kk : ∀ (H : Heap) (locs : List Loc), wd_ D A s H locs (ob_ h0 0 [.int (jI fa), .int (jI fb), .int (jI z), .int (jI fd), .int (jI px), .int (jI py), .int (jI qx), .int (jI qy), .int (jI bs), .int (jI bu), .int (jI bv)]) → W p l e R s m args below meth c H locs cells slots Q (F0 m (pc + 3) ls rest)) : W p l e R s m args below meth c H locs cells slots Q (F0 m pc ls (.int (jI z) :: .ref h0 :: rest)) := va_put (D := D) (ci := 0) (v := .int (jI z)) (ty := .int) (C := RX0) (T := TX0) (N := 11) C.1 C.2.1 C.2.2.2.2.1 in_X0 tyX0 tyX0_ok nmX0 C.2.2.2.1 C.2.2.2.2.2.2.2.1 hW.1 hW.2.1 hW.2.2 0 rfl rfl 2 (by decide) (C.2.2.2.2.1 _ q35) (fun _ h9 => h9) rfl (by decide +kernel) rfl rfl (Nat.le_of_ble_eq_true rfl) hd (fun H1 locs1 h1 h2 h3 => kk H1 locs1 ⟨h1, h2, h3⟩)
theorem g0_fd {h0 : Nat} {fa fb fc fd px py qx qy bs bu bv : Int} (C : cx_ p s m args meth c cc nL RX0 rt D A) (hW : wd_ D A s H locs (ob_ h0 0 [.int (jI fa), .int (jI fb), .int (jI fc), .int (jI fd), .int (jI px), .int (jI py), .int (jI qx), .int (jI qy), .int (jI bs), .int (jI bu), .int (jI bv)])) (hd : decode cc pc = .ok (.getfield 13, 3)) (kk : W p l e R s m args below meth c H locs cells slots Q (F0 m (pc + 3) ls (.int (jI fd) :: rest))) : W p l e R s m args below meth c H locs cells slots Q (F0 m pc ls (.ref h0 :: rest)) := va_get (D := D) (ci := 0) (v := .int (jI fd)) (C := RX0) (T := TX0) (N := 11) C.1 C.2.1 C.2.2.2.2.1 in_X0 C.2.2.2.1 C.2.2.2.2.2.2.2.1 hW.1 0 rfl rfl 3 (by decide) (C.2.2.2.2.1 _ q36) (fun _ h9 => h9) rfl hd kk
theorem p0_fd {h0 : Nat} {fa fb fc fd px py qx qy bs bu bv z : Int} (C : cx_ p s m args meth c cc nL RX0 rt D A) (hW : wd_ D A s H locs (ob_ h0 0 [.int (jI fa), .int (jI fb), .int (jI fc), .int (jI fd), .int (jI px), .int (jI py), .int (jI qx), .int (jI qy), .int (jI bs), .int (jI bu), .int (jI bv)])) (hd : decode cc pc = .ok (.putfield 13, 3)) (kk : ∀ (H : Heap) (locs : List Loc), wd_ D A s H locs (ob_ h0 0 [.int (jI fa), .int (jI fb), .int (jI fc), .int (jI z), .int (jI px), .int (jI py), .int (jI qx), .int (jI qy), .int (jI bs), .int (jI bu), .int (jI bv)]) → W p l e R s m args below meth c H locs cells slots Q (F0 m (pc + 3) ls rest)) : W p l e R s m args below meth c H locs cells slots Q (F0 m pc ls (.int (jI z) :: .ref h0 :: rest)) := va_put (D := D) (ci := 0) (v := .int (jI z)) (ty := .int) (C := RX0) (T := TX0) (N := 11) C.1 C.2.1 C.2.2.2.2.1 in_X0 tyX0 tyX0_ok nmX0 C.2.2.2.1 C.2.2.2.2.2.2.2.1 hW.1 hW.2.1 hW.2.2 0 rfl rfl 3 (by decide) (C.2.2.2.2.1 _ q36) (fun _ h9 => h9) rfl (by decide +kernel) rfl rfl (Nat.le_of_ble_eq_true rfl) hd (fun H1 locs1 h1 h2 h3 => kk H1 locs1 ⟨h1, h2, h3⟩)
theorem g0_px {h0 : Nat} {fa fb fc fd px py qx qy bs bu bv : Int} (C : cx_ p s m args meth c cc nL RX0 rt D A) (hW : wd_ D A s H locs (ob_ h0 0 [.int (jI fa), .int (jI fb), .int (jI fc), .int (jI fd), .int (jI px), .int (jI py), .int (jI qx), .int (jI qy), .int (jI bs), .int (jI bu), .int (jI bv)])) (hd : decode cc pc = .ok (.getfield 36, 3)) (kk : W p l e R s m args below meth c H locs cells slots Q (F0 m (pc + 3) ls (.int (jI px) :: rest))) : W p l e R s m args below meth c H locs cells slots Q (F0 m pc ls (.ref h0 :: rest)) := va_get (D := D) (ci := 0) (v := .int (jI px)) (C := RX0) (T := TX0) (N := 11) C.1 C.2.1 C.2.2.2.2.1 in_X0 C.2.2.2.1 C.2.2.2.2.2.2.2.1 hW.1 0 rfl rfl 4 (by decide) (C.2.2.2.2.1 _ q37) (fun _ h9 => h9) rfl hd kk
theorem p0_px {h0 : Nat} {fa fb fc fd px py qx qy bs bu bv z : Int} (C : cx_ p s m args meth c cc nL RX0 rt D A) (hW : wd_ D A s H locs (ob_ h0 0 [.int (jI fa), .int (jI fb), .int (jI fc), .int (jI fd), .int (jI px), .int (jI py), .int (jI qx), .int (jI qy), .int (jI bs), .int (jI bu), .int (jI bv)])) (hd : decode cc pc = .ok (.putfield 36, 3)) (kk : ∀ (H : Heap) (locs : List Loc), wd_ D A s H locs (ob_ h0 0 [.int (jI fa), .int (jI fb), .int (jI fc), .int (jI fd), .int (jI z), .int (jI py), .int (jI qx), .int (jI qy), .int (jI bs), .int (jI bu), .int (jI bv)]) → W p l e R s m args below meth c H locs cells slots Q (F0 m (pc + 3) ls rest)) : W p l e R s m args below meth c H locs cells slots Q (F0 m pc ls (.int (jI z) :: .ref h0 :: rest)) := va_put (D := D) (ci := 0) (v := .int (jI z)) (ty := .int) (C := RX0) (T := TX0) (N := 11) C.1 C.2.1 C.2.2.2.2.1 in_X0 tyX0 tyX0_ok nmX0 C.2.2.2.1 C.2.2.2.2.2.2.2.1 hW.1 hW.2.1 hW.2.2 0 rfl rfl 4 (by decide) (C.2.2.2.2.1 _ q37) (fun _ h9 => h9) rfl (by decide +kernel) rfl rfl (Nat.le_of_ble_eq_true rfl) hd (fun H1 locs1 h1 h2 h3 => kk H1 locs1 ⟨h1, h2, h3⟩)
theorem g0_py {h0 : Nat} {fa fb fc fd px py qx qy bs bu bv : Int} (C : cx_ p s m args meth c cc nL RX0 rt D A) (hW : wd_ D A s H locs (ob_ h0 0 [.int (jI fa), .int (jI fb), .int (jI fc), .int (jI fd), .int (jI px), .int (jI py), .int (jI qx), .int (jI qy), .int (jI bs), .int (jI bu), .int (jI bv)])) (hd : decode cc pc = .ok (.getfield 39, 3)) (kk : W p l e R s m args below meth c H locs cells slots Q (F0 m (pc + 3) ls (.int (jI py) :: rest))) : W p l e R s m args below meth c H locs cells slots Q (F0 m pc ls (.ref h0 :: rest)) := va_get (D := D) (ci := 0) (v := .int (jI py)) (C := RX0) (T := TX0) (N := 11) C.1 C.2.1 C.2.2.2.2.1 in_X0 C.2.2.2.1 C.2.2.2.2.2.2.2.1 hW.1 0 rfl rfl 5 (by decide) (C.2.2.2.2.1 _ q38) (fun _ h9 => h9) rfl hd kk
theorem p0_py {h0 : Nat} {fa fb fc fd px py qx qy bs bu bv z : Int} (C : cx_ p s m args meth c cc nL RX0 rt D A) (hW : wd_ D A s H locs (ob_ h0 0 [.int (jI fa), .int (jI fb), .int (jI fc), .int (jI fd), .int (jI px), .int (jI py), .int (jI qx), .int (jI qy), .int (jI bs), .int (jI bu), .int (jI bv)])) (hd : decode cc pc = .ok (.putfield 39, 3)) (kk : ∀ (H : Heap) (locs : List Loc), wd_ D A s H locs (ob_ h0 0 [.int (jI fa), .int (jI fb), .int (jI fc), .int (jI fd), .int (jI px), .int (jI z), .int (jI qx), .int (jI qy), .int (jI bs), .int (jI bu), .int (jI bv)]) → W p l e R s m args below meth c H locs cells slots Q (F0 m (pc + 3) ls rest)) : W p l e R s m args below meth c H locs cells slots Q (F0 m pc ls (.int (jI z) :: .ref h0 :: rest)) := va_put (D := D) (ci := 0) (v := .int (jI z)) (ty := .int) (C := RX0) (T := TX0) (N := 11) C.1 C.2.1 C.2.2.2.2.1 in_X0 tyX0 tyX0_ok nmX0 C.2.2.2.1 C.2.2.2.2.2.2.2.1 hW.1 hW.2.1 hW.2.2 0 rfl rfl 5 (by decide) (C.2.2.2.2.1 _ q38) (fun _ h9 => h9) rfl (by decide +kernel) rfl rfl (Nat.le_of_ble_eq_true rfl) hd (fun H1 locs1 h1 h2 h3 => kk H1 locs1 ⟨h1, h2, h3⟩)
theorem g0_qx {h0 : Nat} {fa fb fc fd px py qx qy bs bu bv : Int} (C : cx_ p s m args meth c cc nL RX0 rt D A) (hW : wd_ D A s H locs (ob_ h0 0 [.int (jI fa), .int (jI fb), .int (jI fc), .int (jI fd), .int (jI px), .int (jI py), .int (jI qx), .int (jI qy), .int (jI bs), .int (jI bu), .int (jI bv)])) (hd : decode cc pc = .ok (.getfield 46, 3)) (kk : W p l e R s m args below meth c H locs cells slots Q (F0 m (pc + 3) ls (.int (jI qx) :: rest))) : W p l e R s m args below meth c H locs cells slots Q (F0 m pc ls (.ref h0 :: rest)) := va_get (D := D) (ci := 0) (v := .int (jI qx)) (C := RX0) (T := TX0) (N := 11) C.1 C.2.1 C.2.2.2.2.1 in_X0 C.2.2.2.1 C.2.2.2.2.2.2.2.1 hW.1 0 rfl rfl 6 (by decide) (C.2.2.2.2.1 _ q39) (fun _ h9 => h9) rfl hd kk
theorem p0_qx {h0 : Nat} {fa fb fc fd px py qx qy bs bu bv z : Int} (C : cx_ p s m args meth c cc nL RX0 rt D A) (hW : wd_ D A s H locs (ob_ h0 0 [.int (jI fa), .int (jI fb), .int (jI fc), .int (jI fd), .int (jI px), .int (jI py), .int (jI qx), .int (jI qy), .int (jI bs), .int (jI bu), .int (jI bv)])) (hd : decode cc pc = .ok (.putfield 46, 3)) (kk : ∀ (H : Heap) (locs : List Loc), wd_ D A s H locs (ob_ h0 0 [.int (jI fa), .int (jI fb), .int (jI fc), .int (jI fd), .int (jI px), .int (jI py), .int (jI z), .int (jI qy), .int (jI bs), .int (jI bu), .int (jI bv)]) → W p l e R s m args below meth c H locs cells slots Q (F0 m (pc + 3) ls rest)) : W p l e R s m args below meth c H locs cells slots Q (F0 m pc ls (.int (jI z) :: .ref h0 :: rest)) := va_put (D := D) (ci := 0) (v := .int (jI z)) (ty := .int) (C := RX0) (T := TX0) (N := 11) C.1 C.2.1 C.2.2.2.2.1 in_X0 tyX0 tyX0_ok nmX0 C.2.2.2.1 C.2.2.2.2.2.2.2.1 hW.1 hW.2.1 hW.2.2 0 rfl rfl 6 (by decide) (C.2.2.2.2.1 _ q39) (fun _ h9 => h9) rfl (by decide +kernel) rfl rfl (Nat.le_of_ble_eq_true rfl) hd (fun H1 locs1 h1 h2 h3 => kk H1 locs1 ⟨h1, h2, h3⟩)
theorem g0_qy {h0 : Nat} {fa fb fc fd px py qx qy bs bu bv : Int} (C : cx_ p s m args meth c cc nL RX0 rt D A) (hW : wd_ D A s H locs (ob_ h0 0 [.int (jI fa), .int (jI fb), .int (jI fc), .int (jI fd), .int (jI px), .int (jI py), .int (jI qx), .int (jI qy), .int (jI bs), .int (jI bu), .int (jI bv)])) (hd : decode cc pc = .ok (.getfield 49, 3)) (kk : W p l e R s m args below meth c H locs cells slots Q (F0 m (pc + 3) ls (.int (jI qy) :: rest))) : W p l e R s m args below meth c H locs cells slots Q (F0 m pc ls (.ref h0 :: rest)) := va_get (D := D) (ci := 0) (v := .int (jI qy)) (C := RX0) (T := TX0) (N := 11) C.1 C.2.1 C.2.2.2.2.1 in_X0 C.2.2.2.1 C.2.2.2.2.2.2.2.1 hW.1 0 rfl rfl 7 (by decide) (C.2.2.2.2.1 _ q40) (fun _ h9 => h9) rfl hd kk
theorem p0_qy {h0 : Nat} {fa fb fc fd px py qx qy bs bu bv z : Int} (C : cx_ p s m args meth c cc nL RX0 rt D A) (hW : wd_ D A s H locs (ob_ h0 0 [.int (jI fa), .int (jI fb), .int (jI fc), .int (jI fd), .int (jI px), .int (jI py), .int (jI qx), .int (jI qy), .int (jI bs), .int (jI bu), .int (jI bv)])) (hd : decode cc pc = .ok (.putfield 49, 3)) (kk : ∀ (H : Heap) (locs : List Loc), wd_ D A s H locs (ob_ h0 0 [.int (jI fa), .int (jI fb), .int (jI fc), .int (jI fd), .int (jI px), .int (jI py), .int (jI qx), .int (jI z), .int (jI bs), .int (jI bu), .int (jI bv)]) → W p l e R s m args below meth c H locs cells slots Q (F0 m (pc + 3) ls rest)) : W p l e R s m args below meth c H locs cells slots Q (F0 m pc ls (.int (jI z) :: .ref h0 :: rest)) := va_put (D := D) (ci := 0) (v := .int (jI z)) (ty := .int) (C := RX0) (T := TX0) (N := 11) C.1 C.2.1 C.2.2.2.2.1 in_X0 tyX0 tyX0_ok nmX0 C.2.2.2.1 C.2.2.2.2.2.2.2.1 hW.1 hW.2.1 hW.2.2 0 rfl rfl 7 (by decide) (C.2.2.2.2.1 _ q40) (fun _ h9 => h9) rfl (by decide +kernel) rfl rfl (Nat.le_of_ble_eq_true rfl) hd (fun H1 locs1 h1 h2 h3 => kk H1 locs1 ⟨h1, h2, h3⟩)
theorem g0_bs {h0 : Nat} {fa fb fc fd px py qx qy bs bu bv : Int} (C : cx_ p s m args meth c cc nL RX0 rt D A) (hW : wd_ D A s H locs (ob_ h0 0 [.int (jI fa), .int (jI fb), .int (jI fc), .int (jI fd), .int (jI px), .int (jI py), .int (jI qx), .int (jI qy), .int (jI bs), .int (jI bu), .int (jI bv)])) (hd : decode cc pc = .ok (.getfield 60, 3)) (kk : W p l e R s m args below meth c H locs cells slots Q (F0 m (pc + 3) ls (.int (jI bs) :: rest))) : W p l e R s m args below meth c H locs cells slots Q (F0 m pc ls (.ref h0 :: rest)) := va_get (D := D) (ci := 0) (v := .int (jI bs)) (C := RX0) (T := TX0) (N := 11) C.1 C.2.1 C.2.2.2.2.1 in_X0 C.2.2.2.1 C.2.2.2.2.2.2.2.1 hW.1 0 rfl rfl 8 (by decide) (C.2.2.2.2.1 _ q41) (fun _ h9 => h9) rfl hd kk
theorem p0_bs {h0 : Nat} {fa fb fc fd px py qx qy bs bu bv z : Int} (C : cx_ p s m args meth c cc nL RX0 rt D A) (hW : wd_ D A s H locs (ob_ h0 0 [.int (jI fa), .int (jI fb), .int (jI fc), .int (jI fd), .int (jI px), .int (jI py), .int (jI qx), .int (jI qy), .int (jI bs), .int (jI bu), .int (jI bv)])) (hd : decode cc pc = .ok (.putfield 60, 3)) (kk : ∀ (H : Heap) (locs : List Loc), wd_ D A s H locs (ob_ h0 0 [.int (jI fa), .int (jI fb), .int (jI fc), .int (jI fd), .int (jI px), .int (jI py), .int (jI qx), .int (jI qy), .int (jI z), .int (jI bu), .int (jI bv)]) → W p l e R s m args below meth c H locs cells slots Q (F0 m (pc + 3) ls rest)) : W p l e R s m args below meth c H locs cells slots Q (F0 m pc ls (.int (jI z) :: .ref h0 :: rest)) := va_put (D := D) (ci := 0) (v := .int (jI z)) (ty := .int) (C := RX0) (T := TX0) (N := 11) C.1 C.2.1 C.2.2.2.2.1 in_X0 tyX0 tyX0_ok nmX0 C.2.2.2.1 C.2.2.2.2.2.2.2.1 hW.1 hW.2.1 hW.2.2 0 rfl rfl 8 (by decide) (C.2.2.2.2.1 _ q41) (fun _ h9 => h9) rfl (by decide +kernel) rfl rfl (Nat.le_of_ble_eq_true rfl) hd (fun H1 locs1 h1 h2 h3 => kk H1 locs1 ⟨h1, h2, h3⟩)
theorem g0_bu {h0 : Nat} {fa fb fc fd px py qx qy bs bu bv : Int} (C : cx_ p s m args meth c cc nL RX0 rt D A) (hW : wd_ D A s H locs (ob_ h0 0 [.int (jI fa), .int (jI fb), .int (jI fc), .int (jI fd), .int (jI px), .int (jI py), .int (jI qx), .int (jI qy), .int (jI bs), .int (jI bu), .int (jI bv)])) (hd : decode cc pc = .ok (.getfield 63, 3)) (kk : W p l e R s m args below meth c H locs cells slots Q (F0 m (pc + 3) ls (.int (jI bu) :: rest))) : W p l e R s m args below meth c H locs cells slots Q (F0 m pc ls (.ref h0 :: rest)) := va_get (D := D) (ci := 0) (v := .int (jI bu)) (C := RX0) (T := TX0) (N := 11) C.1 C.2.1 C.2.2.2.2.1 in_X0 C.2.2.2.1 C.2.2.2.2.2.2.2.1 hW.1 0 rfl rfl 9 (by decide) (C.2.2.2.2.1 _ q42) (fun _ h9 => h9) rfl hd kk
theorem p0_bu {h0 : Nat} {fa fb fc fd px py qx qy bs bu bv z : Int} (C : cx_ p s m args meth c cc nL RX0 rt D A) (hW : wd_ D A s H locs (ob_ h0 0 [.int (jI fa), .int (jI fb), .int (jI fc), .int (jI fd), .int (jI px), .int (jI py), .int (jI qx), .int (jI qy), .int (jI bs), .int (jI bu), .int (jI bv)])) (hd : decode cc pc = .ok (.putfield 63, 3)) (kk : ∀ (H : Heap) (locs : List Loc), wd_ D A s H locs (ob_ h0 0 [.int (jI fa), .int (jI fb), .int (jI fc), .int (jI fd), .int (jI px), .int (jI py), .int (jI qx), .int (jI qy), .int (jI bs), .int (jI z), .int (jI bv)]) → W p l e R s m args below meth c H locs cells slots Q (F0 m (pc + 3) ls rest)) : W p l e R s m args below meth c H locs cells slots Q (F0 m pc ls (.int (jI z) :: .ref h0 :: rest)) := va_put (D := D) (ci := 0) (v := .int (jI z)) (ty := .int) (C := RX0) (T := TX0) (N := 11) C.1 C.2.1 C.2.2.2.2.1 in_X0 tyX0 tyX0_ok nmX0 C.2.2.2.1 C.2.2.2.2.2.2.2.1 hW.1 hW.2.1 hW.2.2 0 rfl rfl 9 (by decide) (C.2.2.2.2.1 _ q42) (fun _ h9 => h9) rfl (by decide +kernel) rfl rfl (Nat.le_of_ble_eq_true rfl) hd (fun H1 locs1 h1 h2 h3 => kk H1 locs1 ⟨h1, h2, h3⟩)
theorem g0_bv {h0 : Nat} {fa fb fc fd px py qx qy bs bu bv : Int} (C : cx_ p s m args meth c cc nL RX0 rt D A) (hW : wd_ D A s H locs (ob_ h0 0 [.int (jI fa), .int (jI fb), .int (jI fc), .int (jI fd), .int (jI px), .int (jI py), .int (jI qx), .int (jI qy), .int (jI bs), .int (jI bu), .int (jI bv)])) (hd : decode cc pc = .ok (.getfield 66, 3)) (kk : W p l e R s m args below meth c H locs cells slots Q (F0 m (pc + 3) ls (.int (jI bv) :: rest))) : W p l e R s m args below meth c H locs cells slots Q (F0 m pc ls (.ref h0 :: rest)) := va_get (D := D) (ci := 0) (v := .int (jI bv)) (C := RX0) (T := TX0) (N := 11) C.1 C.2.1 C.2.2.2.2.1 in_X0 C.2.2.2.1 C.2.2.2.2.2.2.2.1 hW.1 0 rfl rfl 10 (by decide) (C.2.2.2.2.1 _ q43) (fun _ h9 => h9) rfl hd kk
theorem p0_bv {h0 : Nat} {fa fb fc fd px py qx qy bs bu bv z : Int} (C : cx_ p s m args meth c cc nL RX0 rt D A) (hW : wd_ D A s H locs (ob_ h0 0 [.int (jI fa), .int (jI fb), .int (jI fc), .int (jI fd), .int (jI px), .int (jI py), .int (jI qx), .int (jI qy), .int (jI bs), .int (jI bu), .int (jI bv)])) (hd : decode cc pc = .ok (.putfield 66, 3)) (kk : ∀ (H : Heap) (locs : List Loc), wd_ D A s H locs (ob_ h0 0 [.int (jI fa), .int (jI fb), .int (jI fc), .int (jI fd), .int (jI px), .int (jI py), .int (jI qx), .int (jI qy), .int (jI bs), .int (jI bu), .int (jI z)]) → W p l e R s m args below meth c H locs cells slots Q (F0 m (pc + 3) ls rest)) : W p l e R s m args below meth c H locs cells slots Q (F0 m pc ls (.int (jI z) :: .ref h0 :: rest)) := va_put (D := D) (ci := 0) (v := .int (jI z)) (ty := .int) (C := RX0) (T := TX0) (N := 11) C.1 C.2.1 C.2.2.2.2.1 in_X0 tyX0 tyX0_ok nmX0 C.2.2.2.1 C.2.2.2.2.2.2.2.1 hW.1 hW.2.1 hW.2.2 0 rfl rfl 10 (by decide) (C.2.2.2.2.1 _ q43) (fun _ h9 => h9) rfl (by decide +kernel) rfl rfl (Nat.le_of_ble_eq_true rfl) hd (fun H1 locs1 h1 h2 h3 => kk H1 locs1 ⟨h1, h2, h3⟩)
theorem g1_fa {h0 : Nat} {fa fb fc fd nu nv aw : Int} (C : cx_ p s m args meth c cc nL RX1 rt D A) (hW : wd_ D A s H locs (ob_ h0 1 [.int (jI fa), .int (jI fb), .int (jI fc), .int (jI fd), .int (jI nu), .int (jI nv), .int (jI aw)])) (hd : decode cc pc = .ok (.getfield 7, 3)) (kk : W p l e R s m args below meth c H locs cells slots Q (F0 m (pc + 3) ls (.int (jI fa) :: rest))) : W p l e R s m args below meth c H locs cells slots Q (F0 m pc ls (.ref h0 :: rest)) := va_get (D := D) (ci := 1) (v := .int (jI fa)) (C := RX1) (T := TX1) (N := 7) C.1 C.2.1 C.2.2.2.2.1 in_X1 C.2.2.2.1 C.2.2.2.2.2.2.2.1 hW.1 0 rfl rfl 0 (by decide) (C.2.2.2.2.1 _ q137) (fun _ h9 => h9) rfl hd kk
theorem p1_fa {h0 : Nat} {fa fb fc fd nu nv aw z : Int} (C : cx_ p s m args meth c cc nL RX1 rt D A) (hW : wd_ D A s H locs (ob_ h0 1 [.int (jI fa), .int (jI fb), .int (jI fc), .int (jI fd), .int (jI nu), .int (jI nv), .int (jI aw)])) (hd : decode cc pc = .ok (.putfield 7, 3)) (kk : ∀ (H : Heap) (locs : List Loc), wd_ D A s H locs (ob_ h0 1 [.int (jI z), .int (jI fb), .int (jI fc), .int (jI fd), .int (jI nu), .int (jI nv), .int (jI aw)]) → W p l e R s m args below meth c H locs cells slots Q (F0 m (pc + 3) ls rest)) : W p l e R s m args below meth c H locs cells slots Q (F0 m pc ls (.int (jI z) :: .ref h0 :: rest)) := va_put (D := D) (ci := 1) (v := .int (jI z)) (ty := .int) (C := RX1) (T := TX1) (N := 7) C.1 C.2.1 C.2.2.2.2.1 in_X1 tyX1 tyX1_ok nmX1 C.2.2.2.1 C.2.2.2.2.2.2.2.1 hW.1 hW.2.1 hW.2.2 0 rfl rfl 0 (by decide) (C.2.2.2.2.1 _ q137) (fun _ h9 => h9) rfl (by decide +kernel) rfl rfl (Nat.le_of_ble_eq_true rfl) hd (fun H1 locs1 h1 h2 h3 => kk H1 locs1 ⟨h1, h2, h3⟩)
theorem g1_fb {h0 : Nat} {fa fb fc fd nu nv aw : Int} (C : cx_ p s m args meth c cc nL RX1 rt D A) (hW : wd_ D A s H locs (ob_ h0 1 [.int (jI fa), .int (jI fb), .int (jI fc), .int (jI fd), .int (jI nu), .int (jI nv), .int (jI aw)])) (hd : decode cc pc = .ok (.getfield 20, 3)) (kk : W p l e R s m args below meth c H locs cells slots Q (F0 m (pc + 3) ls (.int (jI fb) :: rest))) : W p l e R s m args below meth c H locs cells slots Q (F0 m pc ls (.ref h0 :: rest)) := va_get (D := D) (ci := 1) (v := .int (jI fb)) (C := RX1) (T := TX1) (N := 7) C.1 C.2.1 C.2.2.2.2.1 in_X1 C.2.2.2.1 C.2.2.2.2.2.2.2.1 hW.1 0 rfl rfl 1 (by decide) (C.2.2.2.2.1 _ q138) (fun _ h9 => h9) rfl hd kk
theorem p1_fb {h0 : Nat} {fa fb fc fd nu nv aw z : Int} (C : cx_ p s m args meth c cc nL RX1 rt D A) (hW : wd_ D A s H locs (ob_ h0 1 [.int (jI fa), .int (jI fb), .int (jI fc), .int (jI fd), .int (jI nu), .int (jI nv), .int (jI aw)])) (hd : decode cc pc = .ok (.putfield 20, 3)) (kk : ∀ (H : Heap) (locs : List Loc), wd_ D A s H locs (ob_ h0 1 [.int (jI fa), .int (jI z), .int (jI fc), .int (jI fd), .int (jI nu), .int (jI nv), .int (jI aw)]) → W p l e R s m args below meth c H locs cells slots Q (F0 m (pc + 3) ls rest)) : W p l e R s m args below meth c H locs cells slots Q (F0 m pc ls (.int (jI z) :: .ref h0 :: rest)) := va_put (D := D) (ci := 1) (v := .int (jI z)) (ty := .int) (C := RX1) (T := TX1) (N := 7) C.1 C.2.1 C.2.2.2.2.1 in_X1 tyX1 tyX1_ok nmX1 C.2.2.2.1 C.2.2.2.2.2.2.2.1 hW.1 hW.2.1 hW.2.2 0 rfl rfl 1 (by decide) (C.2.2.2.2.1 _ q138) (fun _ h9 => h9) rfl (by decide +kernel) rfl rfl (Nat.le_of_ble_eq_true rfl) hd (fun H1 locs1 h1 h2 h3 => kk H1 locs1 ⟨h1, h2, h3⟩)
theorem g1_fc {h0 : Nat} {fa fb fc fd nu nv aw : Int} (C : cx_ p s m args meth c cc nL RX1 rt D A) (hW : wd_ D A s H locs (ob_ h0 1 [.int (jI fa), .int (jI fb), .int (jI fc), .int (jI fd), .int (jI nu), .int (jI nv), .int (jI aw)])) (hd : decode cc pc = .ok (.getfield 23, 3)) (kk : W p l e R s m args below meth c H locs cells slots Q (F0 m (pc + 3) ls (.int (jI fc) :: rest))) : W p l e R s m args below meth c H locs cells slots Q (F0 m pc ls (.ref h0 :: rest)) := va_get (D := D) (ci := 1) (v := .int (jI fc)) (C := RX1) (T := TX1) (N := 7) C.1 C.2.1 C.2.2.2.2.1 in_X1 C.2.2.2.1 C.2.2.2.2.2.2.2.1 hW.1 0 rfl rfl 2 (by decide) (C.2.2.2.2.1 _ q139) (fun _ h9 => h9) rfl hd kk
theorem p1_fc {h0 : Nat} {fa fb fc fd nu nv aw z : Int} (C : cx_ p s m args meth c cc nL RX1 rt D A) (hW : wd_ D A s H locs (ob_ h0 1 [.int (jI fa), .int (jI fb), .int (jI fc), .int (jI fd), .int (jI nu), .int (jI nv), .int (jI aw)])) (hd : decode cc pc = .ok (.putfield 23, 3)) (kk : ∀ (H : Heap) (locs : List Loc), wd_ D A s H locs (ob_ h0 1 [.int (jI fa), .int (jI fb), .int (jI z), .int (jI fd), .int (jI nu), .int (jI nv), .int (jI aw)]) → W p l e R s m args below meth c H locs cells slots Q (F0 m (pc + 3) ls rest)) : W p l e R s m args below meth c H locs cells slots Q (F0 m pc ls (.int (jI z) :: .ref h0 :: rest)) := va_put (D := D) (ci := 1) (v := .int (jI z)) (ty := .int) (C := RX1) (T := TX1) (N := 7) C.1 C.2.1 C.2.2.2.2.1 in_X1 tyX1 tyX1_ok nmX1 C.2.2.2.1 C.2.2.2.2.2.2.2.1 hW.1 hW.2.1 hW.2.2 0 rfl rfl 2 (by decide) (C.2.2.2.2.1 _ q139) (fun _ h9 => h9) rfl (by decide +kernel) rfl rfl (Nat.le_of_ble_eq_true rfl) hd (fun H1 locs1 h1 h2 h3 => kk H1 locs1 ⟨h1, h2, h3⟩)
theorem g1_fd {h0 : Nat} {fa fb fc fd nu nv aw : Int} (C : cx_ p s m args meth c cc nL RX1 rt D A) (hW : wd_ D A s H locs (ob_ h0 1 [.int (jI fa), .int (jI fb), .int (jI fc), .int (jI fd), .int (jI nu), .int (jI nv), .int (jI aw)])) (hd : decode cc pc = .ok (.getfield 13, 3)) (kk : W p l e R s m args below meth c H locs cells slots Q (F0 m (pc + 3) ls (.int (jI fd) :: rest))) : W p l e R s m args below meth c H locs cells slots Q (F0 m pc ls (.ref h0 :: rest)) := va_get (D := D) (ci := 1) (v := .int (jI fd)) (C := RX1) (T := TX1) (N := 7) C.1 C.2.1 C.2.2.2.2.1 in_X1 C.2.2.2.1 C.2.2.2.2.2.2.2.1 hW.1 0 rfl rfl 3 (by decide) (C.2.2.2.2.1 _ q140) (fun _ h9 => h9) rfl hd kk
theorem p1_fd {h0 : Nat} {fa fb fc fd nu nv aw z : Int} (C : cx_ p s m args meth c cc nL RX1 rt D A) (hW : wd_ D A s H locs (ob_ h0 1 [.int (jI fa), .int (jI fb), .int (jI fc), .int (jI fd), .int (jI nu), .int (jI nv), .int (jI aw)])) (hd : decode cc pc = .ok (.putfield 13, 3)) (kk : ∀ (H : Heap) (locs : List Loc), wd_ D A s H locs (ob_ h0 1 [.int (jI fa), .int (jI fb), .int (jI fc), .int (jI z), .int (jI nu), .int (jI nv), .int (jI aw)]) → W p l e R s m args below meth c H locs cells slots Q (F0 m (pc + 3) ls rest)) : W p l e R s m args below meth c H locs cells slots Q (F0 m pc ls (.int (jI z) :: .ref h0 :: rest)) := va_put (D := D) (ci := 1) (v := .int (jI z)) (ty := .int) (C := RX1) (T := TX1) (N := 7) C.1 C.2.1 C.2.2.2.2.1 in_X1 tyX1 tyX1_ok nmX1 C.2.2.2.1 C.2.2.2.2.2.2.2.1 hW.1 hW.2.1 hW.2.2 0 rfl rfl 3 (by decide) (C.2.2.2.2.1 _ q140) (fun _ h9 => h9) rfl (by decide +kernel) rfl rfl (Nat.le_of_ble_eq_true rfl) hd (fun H1 locs1 h1 h2 h3 => kk H1 locs1 ⟨h1, h2, h3⟩)
theorem g1_nu {h0 : Nat} {fa fb fc fd nu nv aw : Int} (C : cx_ p s m args meth c cc nL RX1 rt D A) (hW : wd_ D A s H locs (ob_ h0 1 [.int (jI fa), .int (jI fb), .int (jI fc), .int (jI fd), .int (jI nu), .int (jI nv), .int (jI aw)])) (hd : decode cc pc = .ok (.getfield 45, 3)) (kk : W p l e R s m args below meth c H locs cells slots Q (F0 m (pc + 3) ls (.int (jI nu) :: rest))) : W p l e R s m args below meth c H locs cells slots Q (F0 m pc ls (.ref h0 :: rest)) := va_get (D := D) (ci := 1) (v := .int (jI nu)) (C := RX1) (T := TX1) (N := 7) C.1 C.2.1 C.2.2.2.2.1 in_X1 C.2.2.2.1 C.2.2.2.2.2.2.2.1 hW.1 0 rfl rfl 4 (by decide) (C.2.2.2.2.1 _ q141) (fun _ h9 => h9) rfl hd kk
theorem p1_nu {h0 : Nat} {fa fb fc fd nu nv aw z : Int} (C : cx_ p s m args meth c cc nL RX1 rt D A) (hW : wd_ D A s H locs (ob_ h0 1 [.int (jI fa), .int (jI fb), .int (jI fc), .int (jI fd), .int (jI nu), .int (jI nv), .int (jI aw)])) (hd : decode cc pc = .ok (.putfield 45, 3)) (kk : ∀ (H : Heap) (locs : List Loc), wd_ D A s H locs (ob_ h0 1 [.int (jI fa), .int (jI fb), .int (jI fc), .int (jI fd), .int (jI z), .int (jI nv), .int (jI aw)]) → W p l e R s m args below meth c H locs cells slots Q (F0 m (pc + 3) ls rest)) : W p l e R s m args below meth c H locs cells slots Q (F0 m pc ls (.int (jI z) :: .ref h0 :: rest)) := va_put (D := D) (ci := 1) (v := .int (jI z)) (ty := .int) (C := RX1) (T := TX1) (N := 7) C.1 C.2.1 C.2.2.2.2.1 in_X1 tyX1 tyX1_ok nmX1 C.2.2.2.1 C.2.2.2.2.2.2.2.1 hW.1 hW.2.1 hW.2.2 0 rfl rfl 4 (by decide) (C.2.2.2.2.1 _ q141) (fun _ h9 => h9) rfl (by decide +kernel) rfl rfl (Nat.le_of_ble_eq_true rfl) hd (fun H1 locs1 h1 h2 h3 => kk H1 locs1 ⟨h1, h2, h3⟩)
theorem g1_nv {h0 : Nat} {fa fb fc fd nu nv aw : Int} (C : cx_ p s m args meth c cc nL RX1 rt D A) (hW : wd_ D A s H locs (ob_ h0 1 [.int (jI fa), .int (jI fb), .int (jI fc), .int (jI fd), .int (jI nu), .int (jI nv), .int (jI aw)])) (hd : decode cc pc = .ok (.getfield 48, 3)) (kk : W p l e R s m args below meth c H locs cells slots Q (F0 m (pc + 3) ls (.int (jI nv) :: rest))) : W p l e R s m args below meth c H locs cells slots Q (F0 m pc ls (.ref h0 :: rest)) := va_get (D := D) (ci := 1) (v := .int (jI nv)) (C := RX1) (T := TX1) (N := 7) C.1 C.2.1 C.2.2.2.2.1 in_X1 C.2.2.2.1 C.2.2.2.2.2.2.2.1 hW.1 0 rfl rfl 5 (by decide) (C.2.2.2.2.1 _ q142) (fun _ h9 => h9) rfl hd kk
theorem p1_nv {h0 : Nat} {fa fb fc fd nu nv aw z : Int} (C : cx_ p s m args meth c cc nL RX1 rt D A) (hW : wd_ D A s H locs (ob_ h0 1 [.int (jI fa), .int (jI fb), .int (jI fc), .int (jI fd), .int (jI nu), .int (jI nv), .int (jI aw)])) (hd : decode cc pc = .ok (.putfield 48, 3)) (kk : ∀ (H : Heap) (locs : List Loc), wd_ D A s H locs (ob_ h0 1 [.int (jI fa), .int (jI fb), .int (jI fc), .int (jI fd), .int (jI nu), .int (jI z), .int (jI aw)]) → W p l e R s m args below meth c H locs cells slots Q (F0 m (pc + 3) ls rest)) : W p l e R s m args below meth c H locs cells slots Q (F0 m pc ls (.int (jI z) :: .ref h0 :: rest)) := va_put (D := D) (ci := 1) (v := .int (jI z)) (ty := .int) (C := RX1) (T := TX1) (N := 7) C.1 C.2.1 C.2.2.2.2.1 in_X1 tyX1 tyX1_ok nmX1 C.2.2.2.1 C.2.2.2.2.2.2.2.1 hW.1 hW.2.1 hW.2.2 0 rfl rfl 5 (by decide) (C.2.2.2.2.1 _ q142) (fun _ h9 => h9) rfl (by decide +kernel) rfl rfl (Nat.le_of_ble_eq_true rfl) hd (fun H1 locs1 h1 h2 h3 => kk H1 locs1 ⟨h1, h2, h3⟩)
theorem g1_aw {h0 : Nat} {fa fb fc fd nu nv aw : Int} (C : cx_ p s m args meth c cc nL RX1 rt D A) (hW : wd_ D A s H locs (ob_ h0 1 [.int (jI fa), .int (jI fb), .int (jI fc), .int (jI fd), .int (jI nu), .int (jI nv), .int (jI aw)])) (hd : decode cc pc = .ok (.getfield 42, 3)) (kk : W p l e R s m args below meth c H locs cells slots Q (F0 m (pc + 3) ls (.int (jI aw) :: rest))) : W p l e R s m args below meth c H locs cells slots Q (F0 m pc ls (.ref h0 :: rest)) := va_get (D := D) (ci := 1) (v := .int (jI aw)) (C := RX1) (T := TX1) (N := 7) C.1 C.2.1 C.2.2.2.2.1 in_X1 C.2.2.2.1 C.2.2.2.2.2.2.2.1 hW.1 0 rfl rfl 6 (by decide) (C.2.2.2.2.1 _ q143) (fun _ h9 => h9) rfl hd kk
theorem p1_aw {h0 : Nat} {fa fb fc fd nu nv aw z : Int} (C : cx_ p s m args meth c cc nL RX1 rt D A) (hW : wd_ D A s H locs (ob_ h0 1 [.int (jI fa), .int (jI fb), .int (jI fc), .int (jI fd), .int (jI nu), .int (jI nv), .int (jI aw)])) (hd : decode cc pc = .ok (.putfield 42, 3)) (kk : ∀ (H : Heap) (locs : List Loc), wd_ D A s H locs (ob_ h0 1 [.int (jI fa), .int (jI fb), .int (jI fc), .int (jI fd), .int (jI nu), .int (jI nv), .int (jI z)]) → W p l e R s m args below meth c H locs cells slots Q (F0 m (pc + 3) ls rest)) : W p l e R s m args below meth c H locs cells slots Q (F0 m pc ls (.int (jI z) :: .ref h0 :: rest)) := va_put (D := D) (ci := 1) (v := .int (jI z)) (ty := .int) (C := RX1) (T := TX1) (N := 7) C.1 C.2.1 C.2.2.2.2.1 in_X1 tyX1 tyX1_ok nmX1 C.2.2.2.1 C.2.2.2.2.2.2.2.1 hW.1 hW.2.1 hW.2.2 0 rfl rfl 6 (by decide) (C.2.2.2.2.1 _ q143) (fun _ h9 => h9) rfl (by decide +kernel) rfl rfl (Nat.le_of_ble_eq_true rfl) hd (fun H1 locs1 h1 h2 h3 => kk H1 locs1 ⟨h1, h2, h3⟩)
end JC
end
section
/-! ===== forms: 0 < A, A ≤ C, -A ≤ 2B ≤ A ===== -/
def rdd_ (A B C : Int) : Prop := 0 < A ∧ A ≤ C ∧ -A ≤ 2 * B ∧ 2 * B ≤ A
abbrev qf_ (A B C i j : Int) : Int := i * i * A + 2 * (i * j) * B + j * j * C
theorem qf_abs {A B C : Int} (h : rdd_ A B C) (i j : Int) : ∃ u v : Int, 0 ≤ u ∧ 0 ≤ v ∧ (u = i ∨ u = -i) ∧ (v = j ∨ v = -j) ∧ u * u * A - u * v * A + v * v * C ≤ qf_ A B C i j := by
  obtain ⟨hA, hC, h1, h2⟩ := h
  have p1 : 0 ≤ 2 * B + A := by omega
  have p2 : 0 ≤ A - 2 * B := by omega
  rcases Int.le_total 0 i with hi | hi <;> rcases Int.le_total 0 j with hj | hj
  · refine ⟨i, j, hi, hj, Or.inl rfl, Or.inl rfl, ?_⟩
    have := Int.mul_nonneg (Int.mul_nonneg hi hj) p1
    grind
  · have hj' : 0 ≤ -j := by omega
    refine ⟨i, -j, hi, hj', Or.inl rfl, Or.inr rfl, ?_⟩
    have := Int.mul_nonneg (Int.mul_nonneg hi hj') p2
    grind
  · have hi' : 0 ≤ -i := by omega
    refine ⟨-i, j, hi', hj, Or.inr rfl, Or.inl rfl, ?_⟩
    have := Int.mul_nonneg (Int.mul_nonneg hi' hj) p2
    grind
  · have hi' : 0 ≤ -i := by omega
    have hj' : 0 ≤ -j := by omega
    refine ⟨-i, -j, hi', hj', Or.inr rfl, Or.inr rfl, ?_⟩
    have := Int.mul_nonneg (Int.mul_nonneg hi' hj') p1
    grind
theorem qf_lo {A C u v : Int} (hA : 0 < A) (hC : A ≤ C) (hu : 0 ≤ u) (hv : 1 ≤ v) : C ≤ u * u * A - u * v * A + v * v * C := by
  have hC0 : 0 ≤ C := by omega
  rcases Int.le_total v u with h | h
  · have h1 := Int.mul_nonneg (Int.mul_nonneg hu (show 0 ≤ u - v by omega)) (Int.le_of_lt hA)
    have h2 := Int.mul_nonneg (Int.mul_nonneg (show 0 ≤ v - 1 by omega) (show 0 ≤ v + 1 by omega)) hC0
    grind
  · rcases Int.lt_or_eq_of_le h with h | h
    · have h1 := Int.mul_nonneg (Int.mul_nonneg hu (show 0 ≤ v - u by omega)) (show 0 ≤ C - A by omega)
      have h2 := Int.mul_nonneg (Int.mul_nonneg hu hu) hC0
      have h3 := Int.mul_nonneg (Int.mul_nonneg (show 0 ≤ v - 1 by omega) (show 0 ≤ v - u by omega)) hC0
      have h4 := Int.mul_nonneg (show 0 ≤ v - u - 1 by omega) hC0
      grind
    · subst h
      have h2 := Int.mul_nonneg (Int.mul_nonneg (show 0 ≤ u - 1 by omega) (show 0 ≤ u + 1 by omega)) hC0
      grind
theorem qf_geC {A B C i j : Int} (h : rdd_ A B C) (hj : j ≠ 0) : C ≤ qf_ A B C i j := by
  obtain ⟨u, v, hu, hv, hui, hvj, hq⟩ := qf_abs h i j
  have := qf_lo h.1 h.2.1 hu (v := v) (by omega)
  omega
theorem qf_geA {A B C i j : Int} (h : rdd_ A B C) (hij : i ≠ 0 ∨ j ≠ 0) : A ≤ qf_ A B C i j := by
  by_cases hj : j = 0
  · subst hj
    have hi : i ≠ 0 := by omega
    have h1 : 0 ≤ (i * i - 1) * A := by
      refine Int.mul_nonneg ?_ (Int.le_of_lt h.1)
      rcases Int.lt_or_gt_of_ne hi with h2 | h2
      · have := Int.mul_nonneg (show 0 ≤ -i - 1 by omega) (show 0 ≤ -i + 1 by omega)
        grind
      · have := Int.mul_nonneg (show 0 ≤ i - 1 by omega) (show 0 ≤ i + 1 by omega)
        grind
    grind
  · have h1 := qf_geC (i := i) h hj
    have := h.2.1
    omega
theorem qf_uv {A C u v : Int} (hA : 0 < A) (hC : A ≤ C) (hu : 0 ≤ u) (hv : 0 ≤ v) (h : u * u * A - u * v * A + v * v * C ≤ A) : u ≤ 1 ∧ v ≤ 1 := by
  have hC0 : 0 ≤ C := by omega
  have hv1 : v ≤ 1 := by
    rcases lt_ge_ 1 v with hv2 | hv2
    · exfalso
      rcases Int.le_total v u with q | q
      · have h1 := Int.mul_nonneg (Int.mul_nonneg hu (show 0 ≤ u - v by omega)) (Int.le_of_lt hA)
        have h2 := Int.mul_nonneg (Int.mul_nonneg (show 0 ≤ v - 2 by omega) (show 0 ≤ v + 2 by omega)) hC0
        grind
      · rcases Int.lt_or_eq_of_le q with q | q
        · have h1 := Int.mul_nonneg (Int.mul_nonneg hu (show 0 ≤ v - u by omega)) (show 0 ≤ C - A by omega)
          have h2 := Int.mul_nonneg (Int.mul_nonneg hu hu) hC0
          have h3 := Int.mul_nonneg (Int.mul_nonneg (show 0 ≤ v - 2 by omega) (show 0 ≤ v - u by omega)) hC0
          have h4 := Int.mul_nonneg (show 0 ≤ v - u - 1 by omega) hC0
          grind
        · subst q
          have h2 := Int.mul_nonneg (Int.mul_nonneg (show 0 ≤ u - 2 by omega) (show 0 ≤ u + 2 by omega)) hC0
          grind
    · exact hv2
  refine ⟨?_, hv1⟩
  rcases lt_ge_ 1 u with hu2 | hu2
  · exfalso
    rcases (show v = 0 ∨ v = 1 by omega) with q | q
    · subst q
      have h2 := Int.mul_nonneg (Int.mul_nonneg (show 0 ≤ u - 2 by omega) (show 0 ≤ u + 2 by omega)) (Int.le_of_lt hA)
      grind
    · subst q
      have h2 := Int.mul_nonneg (Int.mul_nonneg (show 0 ≤ u - 2 by omega) (show 0 ≤ u + 1 by omega)) (Int.le_of_lt hA)
      grind
  · exact hu2
theorem qf_eqA {A B C i j : Int} (h : rdd_ A B C) (hq : qf_ A B C i j = A) : (j = 0 ∧ (i = 1 ∨ i = -1)) ∨ (i = 0 ∧ (j = 1 ∨ j = -1)) ∨ ((i = 1 ∨ i = -1) ∧ (j = 1 ∨ j = -1)) := by
  obtain ⟨u, v, hu, hv, hui, hvj, h1⟩ := qf_abs h i j
  rw [hq] at h1
  obtain ⟨h2, h3⟩ := qf_uv h.1 h.2.1 hu hv h1
  by_cases h0 : i = 0 ∧ j = 0
  · obtain ⟨rfl, rfl⟩ := h0
    have := h.1
    have hq : (0 : Int) * 0 * A + 2 * (0 * 0) * B + 0 * 0 * C = A := hq
    exfalso
    omega
  · omega
/-! ===== the grid of two steps ===== -/
theorem sq_pos {x y : Int} (h : ¬ (x = 0 ∧ y = 0)) : 0 < nm_ x y := by
  have h1 := sqn_ x
  have h2 := sqn_ y
  by_cases hx : x = 0
  · have hy : y ≠ 0 := fun e => h ⟨hx, e⟩
    have : 0 < y * y := by
      rcases Int.lt_or_gt_of_ne hy with q | q
      · have := Int.mul_pos (show 0 < -y by omega) (show 0 < -y by omega)
        grind
      · exact Int.mul_pos q q
    show 0 < x * x + y * y
    omega
  · have : 0 < x * x := by
      rcases Int.lt_or_gt_of_ne hx with q | q
      · have := Int.mul_pos (show 0 < -x by omega) (show 0 < -x by omega)
        grind
      · exact Int.mul_pos q q
    show 0 < x * x + y * y
    omega
theorem sq_bd {x M : Int} (hM : 0 ≤ M) (h : x * x ≤ M * M) : -M ≤ x ∧ x ≤ M := by
  constructor
  · rcases lt_ge_ x (-M) with q | q
    · exfalso
      have := Int.mul_pos (show 0 < -x - M by omega) (show 0 < -x + M by omega)
      grind
    · exact q
  · rcases lt_ge_ M x with q | q
    · exfalso
      have := Int.mul_pos (show 0 < x - M by omega) (show 0 < x + M by omega)
      grind
    · exact q
theorem sq_le {x M : Int} (h1 : -M ≤ x) (h2 : x ≤ M) : x * x ≤ M * M := by
  have := Int.mul_nonneg (show 0 ≤ M - x by omega) (show 0 ≤ M + x by omega)
  grind
theorem nm_bd {x y : Int} (h : nm_ x y ≤ 1800) : -42 ≤ x ∧ x ≤ 42 ∧ -42 ≤ y ∧ y ≤ 42 := by
  have h1 := sqn_ x
  have h2 := sqn_ y
  have hx : -42 ≤ x ∧ x ≤ 42 := by
    constructor
    · rcases lt_ge_ x (-42) with q | q
      · exfalso
        have := Int.mul_nonneg (show 0 ≤ -x - 43 by omega) (show 0 ≤ -x + 43 by omega)
        grind
      · exact q
    · rcases lt_ge_ 42 x with q | q
      · exfalso
        have := Int.mul_nonneg (show 0 ≤ x - 43 by omega) (show 0 ≤ x + 43 by omega)
        grind
      · exact q
  have hy : -42 ≤ y ∧ y ≤ 42 := by
    constructor
    · rcases lt_ge_ y (-42) with q | q
      · exfalso
        have := Int.mul_nonneg (show 0 ≤ -y - 43 by omega) (show 0 ≤ -y + 43 by omega)
        grind
      · exact q
    · rcases lt_ge_ 42 y with q | q
      · exfalso
        have := Int.mul_nonneg (show 0 ≤ y - 43 by omega) (show 0 ≤ y + 43 by omega)
        grind
      · exact q
  exact ⟨hx.1, hx.2, hy.1, hy.2⟩
def gen_ (a b c d px py qx qy : Int) : Prop := ∀ x y, inB_ a b c d x y = true ↔ ∃ i j : Int, x = i * px + j * qx ∧ y = i * py + j * qy
theorem inB_iff {a b c d x y : Int} : inB_ a b c d x y = true ↔ (a * d - b * c) ∣ (x * d - y * c) ∧ (a * d - b * c) ∣ (a * y - b * x) := by
  unfold inB_
  rw [Bool.and_eq_true, decide_eq_true_iff, decide_eq_true_iff]
theorem gen_0 {a b c d : Int} (h : a * d - b * c ≠ 0) : gen_ a b c d a b c d := by
  intro x y
  rw [inB_iff]
  constructor
  · rintro ⟨⟨i, hi⟩, ⟨j, hj⟩⟩
    refine ⟨i, j, ?_, ?_⟩
    · refine Int.eq_of_mul_eq_mul_left h ?_
      have e : (a * d - b * c) * (i * a + j * c) = ((a * d - b * c) * i) * a + ((a * d - b * c) * j) * c := by grind
      rw [e, ← hi, ← hj]
      grind
    · refine Int.eq_of_mul_eq_mul_left h ?_
      have e : (a * d - b * c) * (i * b + j * d) = ((a * d - b * c) * i) * b + ((a * d - b * c) * j) * d := by grind
      rw [e, ← hi, ← hj]
      grind
  · rintro ⟨i, j, rfl, rfl⟩
    exact ⟨⟨i, by grind⟩, ⟨j, by grind⟩⟩
theorem gen_sw {a b c d px py qx qy : Int} (h : gen_ a b c d px py qx qy) : gen_ a b c d qx qy px py := by
  intro x y
  rw [h x y]
  constructor
  · rintro ⟨i, j, e1, e2⟩
    exact ⟨j, i, by omega, by omega⟩
  · rintro ⟨i, j, e1, e2⟩
    exact ⟨j, i, by omega, by omega⟩
theorem gen_st {a b c d px py qx qy : Int} (k : Int) (h : gen_ a b c d px py qx qy) : gen_ a b c d px py (qx - k * px) (qy - k * py) := by
  intro x y
  rw [h x y]
  constructor
  · rintro ⟨i, j, e1, e2⟩
    exact ⟨i + k * j, j, by grind, by grind⟩
  · rintro ⟨i, j, e1, e2⟩
    exact ⟨i - k * j, j, by grind, by grind⟩
theorem one_ {px py qx qy i j i2 j2 : Int} (hD : px * qy - py * qx ≠ 0) (h1 : i * px + j * qx = i2 * px + j2 * qx) (h2 : i * py + j * qy = i2 * py + j2 * qy) : i = i2 ∧ j = j2 := by
  constructor
  · have : (px * qy - py * qx) * i = (px * qy - py * qx) * i2 := by grind
    exact Int.eq_of_mul_eq_mul_left hD this
  · have : (px * qy - py * qx) * j = (px * qy - py * qx) * j2 := by grind
    exact Int.eq_of_mul_eq_mul_left hD this
theorem nm_qf (px py qx qy i j : Int) : nm_ (i * px + j * qx) (i * py + j * qy) = qf_ (nm_ px py) (px * qx + py * qy) (nm_ qx qy) i j := by
  show (i * px + j * qx) * (i * px + j * qx) + (i * py + j * qy) * (i * py + j * qy) = i * i * (px * px + py * py) + 2 * (i * j) * (px * qx + py * qy) + j * j * (qx * qx + qy * qy)
  grind
theorem lagr (px py qx qy : Int) : nm_ px py * nm_ qx qy - (px * qx + py * qy) * (px * qx + py * qy) = (px * qy - py * qx) * (px * qy - py * qx) := by
  show (px * px + py * py) * (qx * qx + qy * qy) - (px * qx + py * qy) * (px * qx + py * qy) = (px * qy - py * qx) * (px * qy - py * qx)
  grind
/-! ===== the rounds of reduce ===== -/
def bd_ (px py qx qy : Int) : Prop := px * qy - py * qx ≠ 0 ∧ nm_ px py ≤ 1800 ∧ nm_ qx qy ≤ 1800
theorem bd_sw {px py qx qy : Int} (h : bd_ px py qx qy) : bd_ qx qy px py := ⟨fun e => h.1 (by grind), h.2.2, h.2.1⟩
theorem bd_p {px py qx qy : Int} (h : bd_ px py qx qy) : 0 < nm_ px py := sq_pos (fun e => h.1 (by rw [e.1, e.2]; omega))
theorem bd_q {px py qx qy : Int} (h : bd_ px py qx qy) : 0 < nm_ qx qy := bd_p (bd_sw h)
theorem kk_b {A B : Int} (hA : 0 < A) : 2 * (A * ((2 * B + A) / (2 * A))) ≤ 2 * B + A ∧ 2 * B + A < 2 * (A * ((2 * B + A) / (2 * A))) + 2 * A := by
  have h1 := Int.emod_add_mul_ediv (2 * B + A) (2 * A)
  have h2 := Int.emod_nonneg (2 * B + A) (show 2 * A ≠ 0 by omega)
  have h3 := Int.emod_lt_of_pos (2 * B + A) (show 0 < 2 * A by omega)
  rw [Int.mul_assoc] at h1
  omega
theorem nm_st (px py qx qy k : Int) : nm_ (qx - k * px) (qy - k * py) = nm_ qx qy - 2 * (k * (px * qx + py * qy)) + k * (k * nm_ px py) := by
  show (qx - k * px) * (qx - k * px) + (qy - k * py) * (qy - k * py) = (qx * qx + qy * qy) - 2 * (k * (px * qx + py * qy)) + k * (k * (px * px + py * py))
  grind
theorem kk_le {A B k : Int} (hA : 0 < A) (h1 : 2 * (A * k) ≤ 2 * B + A) (h2 : 2 * B + A < 2 * (A * k) + 2 * A) : k * (k * A) ≤ 2 * (k * B) := by
  rcases lt_ge_ k 0 with q | q
  · have p1 := Int.mul_nonneg (show 0 ≤ -k - 1 by omega) (Int.le_of_lt hA)
    have p2 : 0 ≤ A * k - 2 * B := by grind
    have p3 := Int.mul_nonneg (show 0 ≤ -k by omega) p2
    grind
  · rcases Int.lt_or_eq_of_le q with q | q
    · have p1 := Int.mul_nonneg (show 0 ≤ k - 1 by omega) (Int.le_of_lt hA)
      have p2 : 0 ≤ 2 * B - A * k := by grind
      have p3 := Int.mul_nonneg (show 0 ≤ k by omega) p2
      grind
    · subst q
      omega
theorem kk_nm {px py qx qy : Int} (h : 0 < nm_ px py) : nm_ (qx - kk_ px py qx qy * px) (qy - kk_ px py qx qy * py) ≤ nm_ qx qy := by
  obtain ⟨h1, h2⟩ := kk_b (B := px * qx + py * qy) h
  have h3 := kk_le h h1 h2
  rw [nm_st]
  unfold kk_
  omega
theorem bd_st {px py qx qy : Int} (h : bd_ px py qx qy) : bd_ px py (qx - kk_ px py qx qy * px) (qy - kk_ px py qx qy * py) := by
  refine ⟨fun e => h.1 ?_, h.2.1, Int.le_trans (kk_nm (bd_p h)) h.2.2⟩
  generalize kk_ px py qx qy = k at e
  grind
theorem bd_0 {a b c d : Int} (h : ok_ a b c d) : bd_ a b c d := by
  obtain ⟨h1, h2, h3, h4, h5, h6, h7, h8, h9⟩ := h
  have := sq_le h1 h2
  have := sq_le h3 h4
  have := sq_le h5 h6
  have := sq_le h7 h8
  exact ⟨h9, show a * a + b * b ≤ 1800 by omega, show c * c + d * d ≤ 1800 by omega⟩
def inv_ (a b c d px py qx qy : Int) : Prop := gen_ a b c d px py qx qy ∧ bd_ px py qx qy
theorem kk_red {A B C k : Int} (hA : 0 < A) (h1 : 2 * (A * k) ≤ 2 * B + A) (h2 : 2 * B + A < 2 * (A * k) + 2 * A) (h : 2 * (k * B) ≤ k * (k * A)) : -A ≤ 2 * B ∧ 2 * B ≤ A := by
  rcases lt_ge_ k 0 with q | q
  · exfalso
    have p1 := Int.mul_nonneg (show 0 ≤ -k - 1 by omega) (Int.le_of_lt hA)
    have p2 : 0 < A * k - 2 * B := by grind
    have p3 := Int.mul_pos (show 0 < -k by omega) p2
    grind
  · rcases Int.lt_or_eq_of_le q with q | q
    · have p1 := Int.mul_nonneg (show 0 ≤ k - 1 by omega) (Int.le_of_lt hA)
      have p4 : 2 * B ≤ A * k := by
        rcases lt_ge_ (A * k) (2 * B) with w | w
        · exfalso
          have p3 := Int.mul_pos q (show 0 < 2 * B - A * k by omega)
          grind
        · exact w
      have p5 : A * k ≤ A := by omega
      have p6 : A * k = A := by grind
      omega
    · subst q
      omega
/-- a round that is the last one ends reduced -/
theorem rd_last {px py qx qy : Int} (h : 0 < nm_ px py) (hle : nm_ px py ≤ nm_ qx qy) (hn : ¬ nm_ (qx - kk_ px py qx qy * px) (qy - kk_ px py qx qy * py) < nm_ qx qy) : rdd_ (nm_ px py) (px * qx + py * qy) (nm_ qx qy) := by
  obtain ⟨h1, h2⟩ := kk_b (B := px * qx + py * qy) h
  rw [nm_st] at hn
  unfold kk_ at hn
  have h3 := kk_red (C := nm_ qx qy) h h1 h2 (by omega)
  exact ⟨h, hle, h3.1, h3.2⟩
/-- what a changed second step is -/
theorem rd_next {px py qx qy : Int} (h : 0 < nm_ px py) : -nm_ px py ≤ 2 * (px * (qx - kk_ px py qx qy * px) + py * (qy - kk_ px py qx qy * py)) ∧ 2 * (px * (qx - kk_ px py qx qy * px) + py * (qy - kk_ px py qx qy * py)) < nm_ px py := by
  obtain ⟨h1, h2⟩ := kk_b (B := px * qx + py * qy) h
  have e : px * (qx - kk_ px py qx qy * px) + py * (qy - kk_ px py qx qy * py) = px * qx + py * qy - nm_ px py * kk_ px py qx qy := by
    generalize kk_ px py qx qy = k
    show px * (qx - k * px) + py * (qy - k * py) = px * qx + py * qy - (px * px + py * py) * k
    grind
  rw [e]
  unfold kk_
  omega
theorem kk_0 {px py qx qy : Int} (h : 0 < nm_ px py) (h1 : -nm_ px py ≤ 2 * (px * qx + py * qy)) (h2 : 2 * (px * qx + py * qy) < nm_ px py) : kk_ px py qx qy = 0 := by
  unfold kk_
  exact Int.ediv_eq_zero_of_lt (by omega) (by omega)
theorem rd_main {a b c d : Int} : ∀ (n : Nat) (px py qx qy : Int), inv_ a b c d px py qx qy →
    (nm_ px py + 1 ≤ n ∨ nm_ qx qy + 1 ≤ n ∨ (1 ≤ n ∧ nm_ px py ≤ nm_ qx qy ∧ -nm_ px py ≤ 2 * (px * qx + py * qy) ∧ 2 * (px * qx + py * qy) < nm_ px py)) →
    ∃ rx ry sx sy, rd_ n px py qx qy = (rx, ry, sx, sy) ∧ inv_ a b c d rx ry sx sy ∧ rdd_ (nm_ rx ry) (rx * sx + ry * sy) (nm_ sx sy) := by
  intro n
  induction n with
  | zero =>
    intro px py qx qy hi hn
    have := bd_p hi.2
    have := bd_q hi.2
    exfalso
    omega
  | succ n ih =>
    have key : ∀ px py qx qy : Int, inv_ a b c d px py qx qy → nm_ px py ≤ nm_ qx qy → (nm_ px py ≤ n ∨ (-nm_ px py ≤ 2 * (px * qx + py * qy) ∧ 2 * (px * qx + py * qy) < nm_ px py)) →
        ∃ rx ry sx sy, r1_ (rd_ n) px py qx qy = (rx, ry, sx, sy) ∧ inv_ a b c d rx ry sx sy ∧ rdd_ (nm_ rx ry) (rx * sx + ry * sy) (nm_ sx sy) := by
      intro px py qx qy hi hle hn
      have hp := bd_p hi.2
      unfold r1_
      by_cases hc : nm_ (qx - kk_ px py qx qy * px) (qy - kk_ px py qx qy * py) < nm_ qx qy
      · rw [if_pos hc]
        rcases hn with hn | hn
        · refine ih _ _ _ _ ⟨gen_st _ hi.1, bd_st hi.2⟩ ?_
          rcases lt_ge_ (nm_ (qx - kk_ px py qx qy * px) (qy - kk_ px py qx qy * py)) (nm_ px py) with q | q
          · exact Or.inr (Or.inl (by omega))
          · have := rd_next (qx := qx) (qy := qy) hp
            exact Or.inr (Or.inr ⟨by omega, by omega, this.1, this.2⟩)
        · exfalso
          rw [kk_0 hp hn.1 hn.2] at hc
          simp only [Int.zero_mul, Int.sub_zero] at hc
          omega
      · rw [if_neg hc]
        exact ⟨px, py, qx, qy, rfl, hi, rd_last hp hle hc⟩
    intro px py qx qy hi hn
    unfold rd_
    by_cases hle : nm_ px py ≤ nm_ qx qy
    · rw [if_pos hle]
      refine key px py qx qy hi hle ?_
      rcases hn with hn | hn | hn
      · exact Or.inl (by omega)
      · exact Or.inl (by omega)
      · exact Or.inr ⟨hn.2.2.1, hn.2.2.2⟩
    · rw [if_neg hle]
      refine key qx qy px py ⟨gen_sw hi.1, bd_sw hi.2⟩ (by omega) ?_
      rcases hn with hn | hn | hn
      · exact Or.inl (by omega)
      · exact Or.inl (by omega)
      · exfalso
        omega
theorem rd_ok {a b c d : Int} (h : ok_ a b c d) : ∃ px py qx qy, rd_ 1900 a b c d = (px, py, qx, qy) ∧ inv_ a b c d px py qx qy ∧ rdd_ (nm_ px py) (px * qx + py * qy) (nm_ qx qy) := by
  have hb := bd_0 h
  refine rd_main 1900 a b c d ⟨gen_0 h.2.2.2.2.2.2.2.2, hb⟩ (Or.inl ?_)
  have := hb.2.1
  omega
end
section
/-! ===== sums over a range, and nested loops ===== -/
def rs_ (f : Int → Int) : Nat → Int → Int
  | 0, _ => 0
  | n + 1, x => f x + rs_ f n (x + 1)
theorem rs_s (f : Int → Int) (n : Nat) (x : Int) : rs_ f (n + 1) x = f x + rs_ f n (x + 1) := rfl
theorem rs_z (f : Int → Int) (x : Int) : rs_ f 0 x = 0 := rfl
theorem rs_cong {f g : Int → Int} : ∀ (n : Nat) (x : Int), (∀ z, x ≤ z → z < x + n → f z = g z) → rs_ f n x = rs_ g n x
  | 0, _, _ => rfl
  | n + 1, x, h => by
    rw [rs_s, rs_s, h x (by omega) (by omega), rs_cong n (x + 1) (fun z h1 h2 => h z (by omega) (by omega))]
theorem rs_add (f g : Int → Int) : ∀ (n : Nat) (x : Int), rs_ (fun z => f z + g z) n x = rs_ f n x + rs_ g n x
  | 0, _ => rfl
  | n + 1, x => by
    rw [rs_s, rs_s, rs_s, rs_add f g n (x + 1)]
    omega
theorem rs_0 : ∀ (n : Nat) (x : Int), rs_ (fun _ => 0) n x = 0
  | 0, _ => rfl
  | n + 1, x => by rw [rs_s, rs_0 n (x + 1)]; rfl
theorem rs_ind (v k : Int) : ∀ (n : Nat) (x : Int), rs_ (fun z => if z = v then k else 0) n x = if x ≤ v ∧ v < x + n then k else 0
  | 0, x => by
    rw [rs_z, if_neg (by omega)]
  | n + 1, x => by
    rw [rs_s, rs_ind v k n (x + 1)]
    by_cases h1 : x = v
    · rw [if_pos h1, if_neg (by omega), if_pos (by omega)]
      omega
    · rw [if_neg h1]
      by_cases h2 : x + 1 ≤ v ∧ v < x + 1 + n
      · rw [if_pos h2, if_pos (by omega)]
        omega
      · rw [if_neg h2, if_neg (by omega)]
        omega
theorem rs_swap (f : Int → Int → Int) (m : Nat) (y : Int) : ∀ (n : Nat) (x : Int), rs_ (fun a => rs_ (fun b => f a b) m y) n x = rs_ (fun b => rs_ (fun a => f a b) n x) m y
  | 0, x => by
    rw [rs_z]
    exact (rs_0 m y).symm
  | n + 1, x => by
    rw [rs_s, rs_swap f m y n (x + 1), ← rs_add]
    rfl
theorem rs_itv (a b : Int) : ∀ (n : Nat) (x : Int), rs_ (fun z => if a ≤ z ∧ z ≤ b then 1 else 0) n x = if max a x ≤ min b (x + n - 1) then min b (x + n - 1) - max a x + 1 else 0
  | 0, x => by
    rw [rs_z, if_neg (by omega)]
  | n + 1, x => by
    rw [rs_s, rs_itv a b n (x + 1)]
    by_cases h1 : a ≤ x ∧ x ≤ b
    · rw [if_pos h1]
      by_cases h2 : max a (x + 1) ≤ min b (x + 1 + n - 1)
      · rw [if_pos h2, if_pos (by omega)]
        omega
      · rw [if_neg h2, if_pos (by omega)]
        omega
    · rw [if_neg h1]
      by_cases h2 : max a (x + 1) ≤ min b (x + 1 + n - 1)
      · rw [if_pos h2, if_pos (by omega)]
        omega
      · rw [if_neg h2, if_neg (by omega)]
        omega
theorem up_sum (f : Int → Int) : ∀ (n : Nat) (x t : Int), up_ (fun y t => t + f y) n x t = t + rs_ f n x
  | 0, x, t => by rw [up_0, rs_z]; omega
  | n + 1, x, t => by
    rw [up_s, up_sum f n (x + 1), rs_s]
    omega
theorem up_sum2 (f : Int → Int → Int) (m : Nat) (y0 : Int) (n : Nat) (x t : Int) : up_ (fun x t => up_ (fun y t => t + f x y) m y0 t) n x t = t + rs_ (fun x => rs_ (fun y => f x y) m y0) n x := by
  rw [← up_sum]
  congr 1
  funext x t
  exact up_sum (fun y => f x y) m y0 t
theorem up_inv {σ : Type} (f : Int → σ → σ) (I : Int → σ → Prop) (lo hi : Int) (h : ∀ x t, lo ≤ x → x < hi → I x t → I (x + 1) (f x t)) : ∀ (n : Nat) (x : Int) (t : σ), lo ≤ x → x + n ≤ hi → I x t → I (x + n) (up_ f n x t)
  | 0, x, t, _, _, h0 => by
    have e : x + ((0 : Nat) : Int) = x := by omega
    rw [e]
    exact h0
  | n + 1, x, t, h1, h2, h0 => by
    have e : x + ((n + 1 : Nat) : Int) = x + 1 + n := by omega
    rw [e]
    exact up_inv f I lo hi h n (x + 1) (f x t) (by omega) (by omega) (h x t h1 (by omega) h0)
theorem up2_inv {σ : Type} (F : Int → Int → σ → σ) (I : Int → Int → σ → Prop) (x0 y0 : Int) (n m : Nat) (t0 : σ) (h0 : I x0 y0 t0)
    (hy : ∀ x y t, x0 ≤ x → x < x0 + n → y0 ≤ y → y < y0 + m → I x y t → I x (y + 1) (F x y t))
    (hx : ∀ x t, x0 ≤ x → x < x0 + n → I x (y0 + m) t → I (x + 1) y0 t) :
    I (x0 + n) y0 (up_ (fun x t => up_ (fun y t => F x y t) m y0 t) n x0 t0) :=
  up_inv (fun x t => up_ (fun y t => F x y t) m y0 t) (fun x t => I x y0 t) x0 (x0 + n)
    (fun x t h1 h2 h => hx x _ h1 h2 (up_inv (fun y t => F x y t) (I x) y0 (y0 + m) (fun y t h3 h4 h5 => hy x y t h1 h2 h3 h4 h5) m y0 t (Int.le_refl _) (Int.le_refl _) h)) n x0 t0 (Int.le_refl _) (Int.le_refl _) h0
def seen_ (x0 y0 : Int) (m : Nat) (x y x2 y2 : Int) : Prop := x0 ≤ x2 ∧ y0 ≤ y2 ∧ y2 < y0 + m ∧ (x2 < x ∨ (x2 = x ∧ y2 < y))
theorem seen_row {x0 y0 : Int} {m : Nat} {x x2 y2 : Int} : seen_ x0 y0 m (x + 1) y0 x2 y2 ↔ seen_ x0 y0 m x (y0 + m) x2 y2 := by
  unfold seen_
  omega
theorem seen_one {x0 y0 : Int} {m : Nat} {x y x2 y2 : Int} (hx : x0 ≤ x) (h1 : y0 ≤ y) (h2 : y < y0 + m) : seen_ x0 y0 m x (y + 1) x2 y2 ↔ seen_ x0 y0 m x y x2 y2 ∨ (x2 = x ∧ y2 = y) := by
  unfold seen_
  omega
theorem seen_end {x0 y0 : Int} {n m : Nat} {x2 y2 : Int} : seen_ x0 y0 m (x0 + n) y0 x2 y2 ↔ x0 ≤ x2 ∧ x2 < x0 + n ∧ y0 ≤ y2 ∧ y2 < y0 + m := by
  unfold seen_
  omega
theorem seen_no {x0 y0 : Int} {m : Nat} {x2 y2 : Int} : ¬ seen_ x0 y0 m x0 y0 x2 y2 := by
  unfold seen_
  omega
/-- the least of what is seen -/
theorem min2_ (P : Int → Int → Prop) (s : Int → Int → Int) (F : Int → Int → Int → Int) (hF : ∀ x y t, (P x y ∧ s x y < t → F x y t = s x y) ∧ (¬ (P x y ∧ s x y < t) → F x y t = t)) (x0 y0 : Int) (n m : Nat) (t0 v : Int)
    (hv : v < t0) (hat : ∃ x y, x0 ≤ x ∧ x < x0 + n ∧ y0 ≤ y ∧ y < y0 + m ∧ P x y ∧ s x y = v) (hlo : ∀ x y, x0 ≤ x → x < x0 + n → y0 ≤ y → y < y0 + m → P x y → v ≤ s x y) :
    up_ (fun x t => up_ (fun y t => F x y t) m y0 t) n x0 t0 = v := by
  have key := up2_inv F (fun x y t => (t = t0 ∨ ∃ x2 y2, seen_ x0 y0 m x y x2 y2 ∧ P x2 y2 ∧ s x2 y2 = t) ∧ ∀ x2 y2, seen_ x0 y0 m x y x2 y2 → P x2 y2 → t ≤ s x2 y2) x0 y0 n m t0
    ⟨Or.inl rfl, fun x2 y2 h => absurd h seen_no⟩
    (fun x y t h1 h2 h3 h4 h => by
      by_cases hc : P x y ∧ s x y < t
      · rw [(hF x y t).1 hc]
        refine ⟨Or.inr ⟨x, y, (seen_one h1 h3 h4).mpr (Or.inr ⟨rfl, rfl⟩), hc.1, rfl⟩, fun x2 y2 hs hp => ?_⟩
        rcases (seen_one h1 h3 h4).mp hs with q | ⟨rfl, rfl⟩
        · have := h.2 x2 y2 q hp
          omega
        · omega
      · rw [(hF x y t).2 hc]
        refine ⟨?_, fun x2 y2 hs hp => ?_⟩
        · rcases h.1 with q | ⟨x2, y2, q1, q2, q3⟩
          · exact Or.inl q
          · exact Or.inr ⟨x2, y2, (seen_one h1 h3 h4).mpr (Or.inl q1), q2, q3⟩
        · rcases (seen_one h1 h3 h4).mp hs with q | ⟨rfl, rfl⟩
          · exact h.2 x2 y2 q hp
          · rcases lt_ge_ (s x2 y2) t with w | w
            · exact absurd ⟨hp, w⟩ hc
            · exact w)
    (fun x t _ _ h => by
      refine ⟨?_, fun x2 y2 hs hp => h.2 x2 y2 (seen_row.mp hs) hp⟩
      rcases h.1 with q | ⟨x2, y2, q1, q2, q3⟩
      · exact Or.inl q
      · exact Or.inr ⟨x2, y2, seen_row.mpr q1, q2, q3⟩)
  obtain ⟨xa, ya, a1, a2, a3, a4, a5, a6⟩ := hat
  have k1 := key.2 xa ya (seen_end.mpr ⟨a1, a2, a3, a4⟩) a5
  rcases key.1 with q | ⟨x2, y2, q1, q2, q3⟩
  · omega
  · obtain ⟨b1, b2, b3, b4⟩ := seen_end.mp q1
    have := hlo x2 y2 b1 b2 b3 b4 q2
    omega
theorem bx_ind (u v k : Int) (n m : Nat) (x0 y0 : Int) (h1 : x0 ≤ u) (h2 : u < x0 + n) (h3 : y0 ≤ v) (h4 : v < y0 + m) : rs_ (fun x => rs_ (fun y => if x = u ∧ y = v then k else 0) m y0) n x0 = k := by
  have e : ∀ x, rs_ (fun y => if x = u ∧ y = v then k else 0) m y0 = if x = u then k else 0 := by
    intro x
    by_cases hx : x = u
    · rw [if_pos hx]
      have : (fun y : Int => if x = u ∧ y = v then k else 0) = (fun y => if y = v then k else 0) := by
        funext y
        by_cases hy : y = v
        · rw [if_pos ⟨hx, hy⟩, if_pos hy]
        · rw [if_neg (fun q => hy q.2), if_neg hy]
      rw [this, rs_ind, if_pos ⟨h3, h4⟩]
    · rw [if_neg hx]
      have : (fun y : Int => if x = u ∧ y = v then k else 0) = (fun _ => 0) := by
        funext y
        rw [if_neg (fun q => hx q.1)]
      rw [this, rs_0]
  rw [show (fun x => rs_ (fun y => if x = u ∧ y = v then k else 0) m y0) = (fun x => if x = u then k else 0) from funext e, rs_ind, if_pos ⟨h1, h2⟩]
theorem bx_add (f g : Int → Int → Int) (n m : Nat) (x0 y0 : Int) : rs_ (fun x => rs_ (fun y => f x y + g x y) m y0) n x0 = rs_ (fun x => rs_ (fun y => f x y) m y0) n x0 + rs_ (fun x => rs_ (fun y => g x y) m y0) n x0 := by
  rw [← rs_add]
  congr 1
  funext x
  exact rs_add (fun y => f x y) (fun y => g x y) m y0
theorem bx_cong {f g : Int → Int → Int} (n m : Nat) (x0 y0 : Int) (h : ∀ x y, x0 ≤ x → x < x0 + n → y0 ≤ y → y < y0 + m → f x y = g x y) : rs_ (fun x => rs_ (fun y => f x y) m y0) n x0 = rs_ (fun x => rs_ (fun y => g x y) m y0) n x0 :=
  rs_cong n x0 (fun x h1 h2 => rs_cong m y0 (fun y h3 h4 => h x y h1 h2 h3 h4))
/-- a sum over (x, y) of a sum over (j, i), turned round -/
theorem bx_swap (f : Int → Int → Int → Int → Int) (n m : Nat) (x0 y0 : Int) (n2 m2 : Nat) (j0 i0 : Int) :
    rs_ (fun x => rs_ (fun y => rs_ (fun j => rs_ (fun i => f x y j i) m2 i0) n2 j0) m y0) n x0 = rs_ (fun j => rs_ (fun i => rs_ (fun x => rs_ (fun y => f x y j i) m y0) n x0) m2 i0) n2 j0 := by
  have e1 : ∀ x, rs_ (fun y => rs_ (fun j => rs_ (fun i => f x y j i) m2 i0) n2 j0) m y0 = rs_ (fun j => rs_ (fun i => rs_ (fun y => f x y j i) m y0) m2 i0) n2 j0 := by
    intro x
    rw [rs_swap (fun y j => rs_ (fun i => f x y j i) m2 i0) n2 j0 m y0]
    congr 1
    funext j
    exact rs_swap (fun y i => f x y j i) m2 i0 m y0
  rw [show (fun x => rs_ (fun y => rs_ (fun j => rs_ (fun i => f x y j i) m2 i0) n2 j0) m y0) = (fun x => rs_ (fun j => rs_ (fun i => rs_ (fun y => f x y j i) m y0) m2 i0) n2 j0) from funext e1]
  rw [rs_swap (fun x j => rs_ (fun i => rs_ (fun y => f x y j i) m y0) m2 i0) n2 j0 n x0]
  congr 1
  funext j
  exact rs_swap (fun x i => rs_ (fun y => f x y j i) m y0) m2 i0 n x0
end
section
/-! ===== shortest, many, second ===== -/
/-- what the law's two sides share: steps, the pair that reduce leaves -/
def st_ (a b c d px py qx qy : Int) : Prop := ok_ a b c d ∧ rd_ 1900 a b c d = (px, py, qx, qy)
theorem st_red {a b c d px py qx qy : Int} (h : st_ a b c d px py qx qy) : gen_ a b c d px py qx qy ∧ bd_ px py qx qy ∧ rdd_ (nm_ px py) (px * qx + py * qy) (nm_ qx qy) := by
  obtain ⟨rx, ry, sx, sy, e, h1, h2⟩ := rd_ok h.1
  have e2 := h.2.symm.trans e
  simp only [Prod.mk.injEq] at e2
  obtain ⟨rfl, rfl, rfl, rfl⟩ := e2
  exact ⟨h1.1, h1.2, h2⟩
theorem in_ij {a b c d px py qx qy : Int} (h : gen_ a b c d px py qx qy) (i j : Int) : inB_ a b c d (i * px + j * qx) (i * py + j * qy) = true := (h _ _).mpr ⟨i, j, rfl, rfl⟩
theorem in_p {a b c d px py qx qy : Int} (h : gen_ a b c d px py qx qy) : inB_ a b c d px py = true := (h _ _).mpr ⟨1, 0, by omega, by omega⟩
theorem in_q {a b c d px py qx qy : Int} (h : gen_ a b c d px py qx qy) : inB_ a b c d qx qy = true := (h _ _).mpr ⟨0, 1, by omega, by omega⟩
theorem geA_ {a b c d px py qx qy x y : Int} (hg : gen_ a b c d px py qx qy) (hr : rdd_ (nm_ px py) (px * qx + py * qy) (nm_ qx qy)) (hi : inB_ a b c d x y = true) (h0 : 0 < nm_ x y) : nm_ px py ≤ nm_ x y := by
  obtain ⟨i, j, rfl, rfl⟩ := (hg x y).mp hi
  rw [nm_qf]
  refine qf_geA hr ?_
  by_cases h1 : i = 0
  · by_cases h2 : j = 0
    · exfalso
      subst h1; subst h2
      simp only [nm_, Int.zero_mul, Int.add_zero] at h0
      omega
    · exact Or.inr h2
  · exact Or.inl h1
theorem t_short {a b c d px py qx qy : Int} (h : st_ a b c d px py qx qy) : sh_m a b c d = nm_ px py := by
  obtain ⟨hg, hb, hr⟩ := st_red h
  obtain ⟨b1, b2, b3, b4⟩ := nm_bd hb.2.1
  have hp := bd_p hb
  unfold sh_m
  refine min2_ (fun x y => 0 < nm_ x y ∧ inB_ a b c d x y = true) nm_ (fun x y t => sh_f a b c d x y t) (fun x y t => ⟨fun hc => ?_, fun hc => ?_⟩) (-43) (-43) 87 87 10000 (nm_ px py) ?_ ⟨px, py, by omega, by omega, by omega, by omega, ⟨hp, in_p hg⟩, rfl⟩ (fun x y _ _ _ _ hP => geA_ hg hr hP.2 hP.1)
  · exact if_pos ⟨hc.1.1, hc.2, hc.1.2⟩
  · exact if_neg (fun q => hc ⟨⟨q.1, q.2.2⟩, q.2.1⟩)
  · have := hb.2.1
    omega
/-- counting the points of one size by their multiples -/
theorem mn_ij {A B C : Int} (h : rdd_ A B C) (i j : Int) : (if qf_ A B C i j = A then (1 : Int) else 0) =
    (if i = 1 ∧ j = 0 then 1 else 0) + (if i = -1 ∧ j = 0 then 1 else 0) + ((if i = 0 ∧ j = 1 then (if C = A then 1 else 0) else 0) + (if i = 0 ∧ j = -1 then (if C = A then 1 else 0) else 0))
    + ((if i = 1 ∧ j = 1 then (if A + 2 * B + C = A then 1 else 0) else 0) + (if i = -1 ∧ j = -1 then (if A + 2 * B + C = A then 1 else 0) else 0))
    + ((if i = 1 ∧ j = -1 then (if A - 2 * B + C = A then 1 else 0) else 0) + (if i = -1 ∧ j = 1 then (if A - 2 * B + C = A then 1 else 0) else 0)) := by
  by_cases c1 : i = 1 ∧ j = 0
  · obtain ⟨rfl, rfl⟩ := c1
    have e : qf_ A B C 1 0 = A := by show (1 : Int) * 1 * A + 2 * (1 * 0) * B + 0 * 0 * C = A; omega
    rw [if_pos e]
    simp
  by_cases c2 : i = -1 ∧ j = 0
  · obtain ⟨rfl, rfl⟩ := c2
    have e : qf_ A B C (-1) 0 = A := by show (-1 : Int) * (-1) * A + 2 * ((-1) * 0) * B + 0 * 0 * C = A; omega
    rw [if_pos e]
    simp
  by_cases c3 : i = 0 ∧ j = 1
  · obtain ⟨rfl, rfl⟩ := c3
    have e : qf_ A B C 0 1 = C := by show (0 : Int) * 0 * A + 2 * (0 * 1) * B + 1 * 1 * C = C; omega
    rw [e]
    simp
  by_cases c4 : i = 0 ∧ j = -1
  · obtain ⟨rfl, rfl⟩ := c4
    have e : qf_ A B C 0 (-1) = C := by show (0 : Int) * 0 * A + 2 * (0 * (-1)) * B + (-1) * (-1) * C = C; omega
    rw [e]
    simp
  by_cases c5 : i = 1 ∧ j = 1
  · obtain ⟨rfl, rfl⟩ := c5
    have e : qf_ A B C 1 1 = A + 2 * B + C := by show (1 : Int) * 1 * A + 2 * (1 * 1) * B + 1 * 1 * C = A + 2 * B + C; omega
    rw [e]
    simp
  by_cases c6 : i = -1 ∧ j = -1
  · obtain ⟨rfl, rfl⟩ := c6
    have e : qf_ A B C (-1) (-1) = A + 2 * B + C := by show (-1 : Int) * (-1) * A + 2 * ((-1) * (-1)) * B + (-1) * (-1) * C = A + 2 * B + C; omega
    rw [e]
    simp
  by_cases c7 : i = 1 ∧ j = -1
  · obtain ⟨rfl, rfl⟩ := c7
    have e : qf_ A B C 1 (-1) = A - 2 * B + C := by show (1 : Int) * 1 * A + 2 * (1 * (-1)) * B + (-1) * (-1) * C = A - 2 * B + C; omega
    rw [e]
    simp
  by_cases c8 : i = -1 ∧ j = 1
  · obtain ⟨rfl, rfl⟩ := c8
    have e : qf_ A B C (-1) 1 = A - 2 * B + C := by show (-1 : Int) * (-1) * A + 2 * ((-1) * 1) * B + 1 * 1 * C = A - 2 * B + C; omega
    rw [e]
    simp
  rw [if_neg (fun e => ?_), if_neg c1, if_neg c2, if_neg c3, if_neg c4, if_neg c5, if_neg c6, if_neg c7, if_neg c8]
  · rfl
  · have := qf_eqA h e
    omega
abbrev pt_ (u v k x y : Int) : Int := if x = u ∧ y = v then k else 0
theorem if_iff {p q : Prop} [Decidable p] [Decidable q] (h : p ↔ q) (a b : Int) : (if p then a else b) = (if q then a else b) := by
  by_cases hp : p
  · rw [if_pos hp, if_pos (h.mp hp)]
  · rw [if_neg hp, if_neg (fun e => hp (h.mpr e))]
theorem mn_pt {a b c d px py qx qy x y : Int} (hg : gen_ a b c d px py qx qy) (hD : px * qy - py * qx ≠ 0) (hr : rdd_ (nm_ px py) (px * qx + py * qy) (nm_ qx qy)) :
    (if nm_ x y = nm_ px py ∧ inB_ a b c d x y = true then (1 : Int) else 0) = pt_ px py 1 x y + pt_ (-px) (-py) 1 x y + (pt_ qx qy (if nm_ qx qy = nm_ px py then 1 else 0) x y + pt_ (-qx) (-qy) (if nm_ qx qy = nm_ px py then 1 else 0) x y)
      + (pt_ (px + qx) (py + qy) (if nm_ (px + qx) (py + qy) = nm_ px py then 1 else 0) x y + pt_ (-(px + qx)) (-(py + qy)) (if nm_ (px + qx) (py + qy) = nm_ px py then 1 else 0) x y)
      + (pt_ (px - qx) (py - qy) (if nm_ (px - qx) (py - qy) = nm_ px py then 1 else 0) x y + pt_ (-(px - qx)) (-(py - qy)) (if nm_ (px - qx) (py - qy) = nm_ px py then 1 else 0) x y) := by
  have e5 : nm_ (px + qx) (py + qy) = nm_ px py + 2 * (px * qx + py * qy) + nm_ qx qy := by
    show (px + qx) * (px + qx) + (py + qy) * (py + qy) = (px * px + py * py) + 2 * (px * qx + py * qy) + (qx * qx + qy * qy)
    grind
  have e7 : nm_ (px - qx) (py - qy) = nm_ px py - 2 * (px * qx + py * qy) + nm_ qx qy := by
    show (px - qx) * (px - qx) + (py - qy) * (py - qy) = (px * px + py * py) - 2 * (px * qx + py * qy) + (qx * qx + qy * qy)
    grind
  by_cases hi : inB_ a b c d x y = true
  · obtain ⟨i, j, ex, ey⟩ := (hg x y).mp hi
    have key : ∀ i2 j2 u v : Int, u = i2 * px + j2 * qx → v = i2 * py + j2 * qy → ((x = u ∧ y = v) ↔ (i = i2 ∧ j = j2)) := by
      intro i2 j2 u v hu hv
      constructor
      · intro ⟨h1, h2⟩
        exact one_ hD (by omega) (by omega)
      · rintro ⟨rfl, rfl⟩
        exact ⟨by omega, by omega⟩
    have hn : nm_ x y = qf_ (nm_ px py) (px * qx + py * qy) (nm_ qx qy) i j := by rw [ex, ey, nm_qf]
    have h0 : (nm_ x y = nm_ px py ∧ inB_ a b c d x y = true) ↔ qf_ (nm_ px py) (px * qx + py * qy) (nm_ qx qy) i j = nm_ px py := by
      rw [hn]
      exact ⟨fun q => q.1, fun q => ⟨q, hi⟩⟩
    rw [if_iff h0, mn_ij hr i j, e5, e7]
    unfold pt_
    rw [if_iff (key 1 0 px py (by omega) (by omega)), if_iff (key (-1) 0 (-px) (-py) (by omega) (by omega)), if_iff (key 0 1 qx qy (by omega) (by omega)), if_iff (key 0 (-1) (-qx) (-qy) (by omega) (by omega)), if_iff (key 1 1 (px + qx) (py + qy) (by omega) (by omega)), if_iff (key (-1) (-1) (-(px + qx)) (-(py + qy)) (by omega) (by omega)), if_iff (key 1 (-1) (px - qx) (py - qy) (by omega) (by omega)), if_iff (key (-1) 1 (-(px - qx)) (-(py - qy)) (by omega) (by omega))]
  · have no : ∀ (i2 j2 u v k : Int), u = i2 * px + j2 * qx → v = i2 * py + j2 * qy → pt_ u v k x y = 0 := by
      intro i2 j2 u v k hu hv
      refine if_neg (fun q => hi ?_)
      exact (hg x y).mpr ⟨i2, j2, by omega, by omega⟩
    rw [if_neg (fun q => hi q.2), no 1 0 px py _ (by omega) (by omega), no (-1) 0 (-px) (-py) _ (by omega) (by omega), no 0 1 qx qy _ (by omega) (by omega), no 0 (-1) (-qx) (-qy) _ (by omega) (by omega), no 1 1 (px + qx) (py + qy) _ (by omega) (by omega), no (-1) (-1) (-(px + qx)) (-(py + qy)) _ (by omega) (by omega), no 1 (-1) (px - qx) (py - qy) _ (by omega) (by omega), no (-1) 1 (-(px - qx)) (-(py - qy)) _ (by omega) (by omega)]
    rfl
theorem bx_if {u v : Int} (c : Prop) [Decidable c] (hc : c → -43 ≤ u ∧ u ≤ 43 ∧ -43 ≤ v ∧ v ≤ 43) : rs_ (fun x => rs_ (fun y => pt_ u v (if c then 1 else 0) x y) 87 (-43)) 87 (-43) = if c then 1 else 0 := by
  by_cases h : c
  · obtain ⟨h1, h2, h3, h4⟩ := hc h
    exact bx_ind u v _ 87 87 (-43) (-43) (by omega) (by omega) (by omega) (by omega)
  · rw [if_neg h]
    have e : (fun x => rs_ (fun y => pt_ u v 0 x y) 87 (-43)) = (fun _ => 0) := by
      funext x
      have e2 : (fun y => pt_ u v 0 x y) = (fun _ => 0) := by
        funext y
        exact ite_self 0
      rw [e2, rs_0]
    rw [e, rs_0]
theorem t_many {a b c d px py qx qy : Int} (h : st_ a b c d px py qx qy) : mn_m a b c d = mc_ px py qx qy := by
  obtain ⟨hg, hb, hr⟩ := st_red h
  obtain ⟨b1, b2, b3, b4⟩ := nm_bd hb.2.1
  unfold mn_m
  rw [t_short h]
  have e : (fun (x t : Int) => up_ (fun y t => mn_f a b c d (nm_ px py) x y t) 87 (-43) t) = (fun x t => up_ (fun y t => t + (if nm_ x y = nm_ px py ∧ inB_ a b c d x y = true then 1 else 0)) 87 (-43) t) := by
    funext x t
    congr 1
    funext y t
    unfold mn_f
    by_cases hc : nm_ x y = nm_ px py ∧ inB_ a b c d x y = true
    · rw [if_pos hc, if_pos hc]
    · rw [if_neg hc, if_neg hc]
      omega
  rw [e, up_sum2]
  rw [bx_cong 87 87 (-43) (-43) (fun x y _ _ _ _ => mn_pt hg hb.1 hr)]
  rw [bx_add, bx_add, bx_add, bx_add, bx_add, bx_add, bx_add]
  have r1 : ∀ {u v : Int}, nm_ u v = nm_ px py → -43 ≤ u ∧ u ≤ 43 ∧ -43 ≤ v ∧ v ≤ 43 := by
    intro u v q
    have := nm_bd (x := u) (y := v) (by have := hb.2.1; omega)
    omega
  rw [bx_ind px py 1 87 87 (-43) (-43) (by omega) (by omega) (by omega) (by omega), bx_ind (-px) (-py) 1 87 87 (-43) (-43) (by omega) (by omega) (by omega) (by omega)]
  rw [bx_if (nm_ qx qy = nm_ px py) (fun q => r1 q), bx_if (nm_ qx qy = nm_ px py) (fun q => by have := r1 q; omega)]
  rw [bx_if (nm_ (px + qx) (py + qy) = nm_ px py) (fun q => r1 q), bx_if (nm_ (px + qx) (py + qy) = nm_ px py) (fun q => by have := r1 q; omega)]
  rw [bx_if (nm_ (px - qx) (py - qy) = nm_ px py) (fun q => r1 q), bx_if (nm_ (px - qx) (py - qy) = nm_ px py) (fun q => by have := r1 q; omega)]
  unfold mc_
  repeat' split
  all_goals omega
/-- the last of the shortest that the model finds -/
theorem sp_ok {a b c d px py qx qy : Int} (h : st_ a b c d px py qx qy) : nm_ (sp_m a b c d).1 (sp_m a b c d).2 = nm_ px py ∧ inB_ a b c d (sp_m a b c d).1 (sp_m a b c d).2 = true := by
  obtain ⟨hg, hb, hr⟩ := st_red h
  obtain ⟨b1, b2, b3, b4⟩ := nm_bd hb.2.1
  unfold sp_m
  rw [t_short h]
  have key := up2_inv (fun x y t => sp_f a b c d (nm_ px py) x y t) (fun x y t => (∃ x2 y2, seen_ (-43) (-43) 87 x y x2 y2 ∧ nm_ x2 y2 = nm_ px py ∧ inB_ a b c d x2 y2 = true) → nm_ t.1 t.2 = nm_ px py ∧ inB_ a b c d t.1 t.2 = true) (-43) (-43) 87 87 (0, 0)
    (fun ⟨x2, y2, q, _⟩ => absurd q seen_no)
    (fun x y t h1 h2 h3 h4 hI => by
      rintro ⟨x2, y2, q1, q2⟩
      unfold sp_f
      by_cases hc : nm_ x y = nm_ px py ∧ inB_ a b c d x y = true
      · rw [if_pos hc]
        exact hc
      · rw [if_neg hc]
        rcases (seen_one h1 h3 h4).mp q1 with w | ⟨rfl, rfl⟩
        · exact hI ⟨x2, y2, w, q2⟩
        · exact absurd q2 hc)
    (fun x t _ _ hI => by
      rintro ⟨x2, y2, q1, q2⟩
      exact hI ⟨x2, y2, seen_row.mp q1, q2⟩)
  exact key ⟨px, py, seen_end.mpr ⟨by omega, by omega, by omega, by omega⟩, rfl, in_p hg⟩
theorem cr_ij (px py qx qy i j k l : Int) : (i * px + j * qx) * (k * py + l * qy) - (i * py + j * qy) * (k * px + l * qx) = (i * l - j * k) * (px * qy - py * qx) := by grind
theorem t_second {a b c d px py qx qy : Int} (h : st_ a b c d px py qx qy) : sc_m a b c d = nm_ qx qy := by
  obtain ⟨hg, hb, hr⟩ := st_red h
  obtain ⟨b1, b2, b3, b4⟩ := nm_bd hb.2.1
  obtain ⟨b5, b6, b7, b8⟩ := nm_bd hb.2.2
  obtain ⟨s1, s2⟩ := sp_ok h
  unfold sc_m
  generalize hP : sp_m a b c d = P at s1 s2 ⊢
  obtain ⟨P1, P2⟩ := P
  dsimp only at s1 s2 ⊢
  obtain ⟨k, l, e1, e2⟩ := (hg P1 P2).mp s2
  have hD := hb.1
  have col : ∀ i j : Int, (i * px + j * qx) * P2 = (i * py + j * qy) * P1 ↔ i * l = j * k := by
    intro i j
    have e := cr_ij px py qx qy i j k l
    rw [← e1, ← e2] at e
    constructor
    · intro q
      have : (i * l - j * k) * (px * qy - py * qx) = 0 := by omega
      rcases Int.mul_eq_zero.mp this with w | w
      · omega
      · exact absurd w hD
    · intro q
      have : i * l - j * k = 0 := by omega
      rw [this] at e
      omega
  have hCA : l ≠ 0 → nm_ qx qy = nm_ px py := by
    intro hl
    have h1 := qf_geC (i := k) hr hl
    rw [← nm_qf, ← e1, ← e2] at h1
    have := hr.2.1
    omega
  refine min2_ (fun x y => ¬ x * P2 = y * P1 ∧ inB_ a b c d x y = true) nm_ (fun x y t => sc_f a b c d P1 P2 x y t) (fun x y t => ⟨fun hc => ?_, fun hc => ?_⟩) (-43) (-43) 87 87 10000 (nm_ qx qy) ?_ ?_ ?_
  · exact if_pos ⟨hc.1.1, hc.2, hc.1.2⟩
  · exact if_neg (fun q => hc ⟨⟨q.1, q.2.2⟩, q.2.1⟩)
  · have := hb.2.2
    omega
  · by_cases hl : l = 0
    · refine ⟨qx, qy, by omega, by omega, by omega, by omega, ⟨fun q => ?_, in_q hg⟩, rfl⟩
      have w := (col 0 1).mp (by rw [show 0 * px + 1 * qx = qx by omega, show 0 * py + 1 * qy = qy by omega]; exact q)
      have hk : k = 0 := by omega
      rw [hk, hl] at e1 e2
      have := bd_p hb
      have z1 : P1 = 0 := by omega
      have z2 : P2 = 0 := by omega
      rw [z1, z2] at s1
      have : nm_ 0 0 = 0 := rfl
      omega
    · refine ⟨px, py, by omega, by omega, by omega, by omega, ⟨fun q => ?_, in_p hg⟩, (hCA hl).symm⟩
      have w := (col 1 0).mp (by rw [show 1 * px + 0 * qx = px by omega, show 1 * py + 0 * qy = py by omega]; exact q)
      omega
  · intro x y _ _ _ _ hQ
    obtain ⟨i, j, rfl, rfl⟩ := (hg x y).mp hQ.2
    rw [nm_qf]
    by_cases hj : j = 0
    · have hl : l ≠ 0 := by
        intro q
        refine hQ.1 ((col i j).mpr ?_)
        rw [q, hj]
        omega
      rw [hCA hl]
      refine qf_geA (C := nm_ px py) ?_ ?_
      · have := hr
        rw [hCA hl] at this
        exact this
      · refine Or.inl (fun q => hQ.1 ((col i j).mpr ?_))
        rw [q, hj]
        omega
    · exact qf_geC hr hj
end
section
/-! ===== the nearest point ===== -/
theorem abs2 {x y M : Int} (hx : 0 ≤ x) (h1 : -M ≤ y) (h2 : y ≤ M) : -(x * M) ≤ x * y ∧ x * y ≤ x * M := by
  have p1 := Int.mul_nonneg hx (show 0 ≤ y + M by omega)
  have p2 := Int.mul_nonneg hx (show 0 ≤ M - y by omega)
  constructor
  · grind
  · grind
/-- half of it: g above 0 -/
theorem box_g {A B C D f g : Int} (hA : 0 < A) (hC : A ≤ C) (hB1 : -A ≤ 2 * B) (hB2 : 2 * B ≤ A) (hD : 0 < D) (h1 : -(A * D) ≤ 2 * (f * A + g * B)) (h2 : 2 * (f * A + g * B) ≤ A * D) (h3 : 2 * (f * B + g * C) ≤ C * D) : g ≤ D := by
  rcases lt_ge_ D g with q | q
  · exfalso
    have hg : 0 ≤ g := by omega
    have p1 := Int.mul_nonneg hg (show 0 ≤ 2 * B + A by omega)
    have p2 := Int.mul_nonneg hg (show 0 ≤ A - 2 * B by omega)
    have p3 := Int.mul_nonneg hg (show 0 ≤ C - A by omega)
    have p4 := Int.mul_nonneg (Int.le_of_lt hD) (show 0 ≤ C - A by omega)
    have p5 := Int.mul_pos (show 0 < g - D by omega) (show 0 < C by omega)
    rcases Int.le_total 0 f with w | w
    · have p6 := Int.mul_nonneg w (show 0 ≤ 2 * B + A by omega)
      grind
    · have p6 := Int.mul_nonneg (show 0 ≤ -f by omega) (show 0 ≤ A - 2 * B by omega)
      grind
  · exact q
theorem box_f {A B C D f g : Int} (hA : 0 < A) (hB1 : -A ≤ 2 * B) (hB2 : 2 * B ≤ A) (hg1 : -D ≤ g) (hg2 : g ≤ D) (h2 : 2 * (f * A + g * B) ≤ A * D) : f ≤ D := by
  rcases lt_ge_ D f with q | q
  · exfalso
    have p1 := Int.mul_pos (show 0 < f - D by omega) hA
    rcases Int.le_total 0 g with w | w
    · have p2 := Int.mul_nonneg w (show 0 ≤ 2 * B + A by omega)
      have p3 := Int.mul_nonneg (show 0 ≤ D - g by omega) (Int.le_of_lt hA)
      grind
    · have p2 := Int.mul_nonneg (show 0 ≤ -g by omega) (show 0 ≤ A - 2 * B by omega)
      have p3 := Int.mul_nonneg (show 0 ≤ D + g by omega) (Int.le_of_lt hA)
      grind
  · exact q
theorem box_ {A B C D f g : Int} (h : rdd_ A B C) (hD : 0 < D) (h1 : -(A * D) ≤ 2 * (f * A + g * B)) (h2 : 2 * (f * A + g * B) ≤ A * D) (h3 : -(C * D) ≤ 2 * (f * B + g * C)) (h4 : 2 * (f * B + g * C) ≤ C * D) : -D ≤ f ∧ f ≤ D ∧ -D ≤ g ∧ g ≤ D := by
  obtain ⟨hA, hC, hB1, hB2⟩ := h
  have g2 := box_g hA hC hB1 hB2 hD h1 h2 h4
  have g1 : -g ≤ D := box_g (f := -f) (g := -g) hA hC hB1 hB2 hD (by rw [show -f * A + -g * B = -(f * A + g * B) by grind]; omega) (by rw [show -f * A + -g * B = -(f * A + g * B) by grind]; omega) (by rw [show -f * B + -g * C = -(f * B + g * C) by grind]; omega)
  have f2 := box_f (C := C) hA hB1 hB2 (show -D ≤ g by omega) g2 h2
  have f1 : -f ≤ D := box_f (C := C) (f := -f) (g := -g) hA hB1 hB2 (show -D ≤ -g by omega) (by omega) (by rw [show -f * A + -g * B = -(f * A + g * B) by grind]; omega)
  omega
theorem half_ {D E f P : Int} (h1 : -D ≤ f) (h2 : f ≤ D) (h3 : -E ≤ P) (h4 : P ≤ E) : f * P ≤ D * E := by
  have p1 := Int.mul_nonneg (show 0 ≤ D - f by omega) (show 0 ≤ E + P by omega)
  have p2 := Int.mul_nonneg (show 0 ≤ D + f by omega) (show 0 ≤ E - P by omega)
  grind
theorem tu_pos {D : Int} (h : D ≠ 0) : 0 < tu_ D * D := by
  unfold tu_
  split <;> omega
theorem tu_sq (D : Int) : tu_ D * tu_ D = 1 := by
  unfold tu_
  split <;> rfl
/-- the place as multiples of the two steps, D times -/
theorem fr_ (px py qx qy X Y t : Int) : t * (X * qy - Y * qx) * px + t * (px * Y - py * X) * qx = t * (px * qy - py * qx) * X ∧ t * (X * qy - Y * qx) * py + t * (px * Y - py * X) * qy = t * (px * qy - py * qx) * Y := by
  constructor <;> grind
/-- a point no farther than its four neighbours: its multiples lie near the place's own -/
theorem near_box {px py qx qy X Y k l : Int} (hr : rdd_ (nm_ px py) (px * qx + py * qy) (nm_ qx qy)) (hD : px * qy - py * qx ≠ 0)
    (hm : ∀ k2 l2 : Int, nm_ (X - (k * px + l * qx)) (Y - (k * py + l * qy)) ≤ nm_ (X - (k2 * px + l2 * qx)) (Y - (k2 * py + l2 * qy))) :
    (fi_ px py qx qy X Y - 1 ≤ k ∧ k ≤ fi_ px py qx qy X Y + 1) ∧ (fj_ px py qx qy X Y - 1 ≤ l ∧ l ≤ fj_ px py qx qy X Y + 1) ∧ 2 * nm_ (X - (k * px + l * qx)) (Y - (k * py + l * qy)) ≤ nm_ px py + nm_ qx qy := by
  have hT := tu_pos hD
  obtain ⟨fx, fy⟩ := fr_ px py qx qy X Y (tu_ (px * qy - py * qx))
  have m1 := hm (k + 1) l
  have m2 := hm (k - 1) l
  have m3 := hm k (l + 1)
  have m4 := hm k (l - 1)
  unfold fi_ fj_
  generalize tu_ (px * qy - py * qx) * (px * qy - py * qx) = T at hT fx fy ⊢
  generalize tu_ (px * qy - py * qx) * (X * qy - Y * qx) = al at fx fy ⊢
  generalize tu_ (px * qy - py * qx) * (px * Y - py * X) = be at fx fy ⊢
  obtain ⟨V, hV⟩ : ∃ V, V = X - (k * px + l * qx) := ⟨_, rfl⟩
  obtain ⟨U, hU⟩ : ∃ U, U = Y - (k * py + l * qy) := ⟨_, rfl⟩
  have n1 : X - ((k + 1) * px + l * qx) = V - px := by grind
  have n2 : Y - ((k + 1) * py + l * qy) = U - py := by grind
  have n3 : X - ((k - 1) * px + l * qx) = V + px := by grind
  have n4 : Y - ((k - 1) * py + l * qy) = U + py := by grind
  have n5 : X - (k * px + (l + 1) * qx) = V - qx := by grind
  have n6 : Y - (k * py + (l + 1) * qy) = U - qy := by grind
  have n7 : X - (k * px + (l - 1) * qx) = V + qx := by grind
  have n8 : Y - (k * py + (l - 1) * qy) = U + qy := by grind
  rw [← hV, ← hU]
  rw [n1, n2, ← hV, ← hU] at m1
  rw [n3, n4, ← hV, ← hU] at m2
  rw [n5, n6, ← hV, ← hU] at m3
  rw [n7, n8, ← hV, ← hU] at m4
  have c1 : 2 * (V * px + U * py) ≤ nm_ px py := by
    have e : nm_ (V - px) (U - py) = nm_ V U - 2 * (V * px + U * py) + nm_ px py := by
      show (V - px) * (V - px) + (U - py) * (U - py) = (V * V + U * U) - 2 * (V * px + U * py) + (px * px + py * py)
      grind
    omega
  have c2 : -nm_ px py ≤ 2 * (V * px + U * py) := by
    have e : nm_ (V + px) (U + py) = nm_ V U + 2 * (V * px + U * py) + nm_ px py := by
      show (V + px) * (V + px) + (U + py) * (U + py) = (V * V + U * U) + 2 * (V * px + U * py) + (px * px + py * py)
      grind
    omega
  have c3 : 2 * (V * qx + U * qy) ≤ nm_ qx qy := by
    have e : nm_ (V - qx) (U - qy) = nm_ V U - 2 * (V * qx + U * qy) + nm_ qx qy := by
      show (V - qx) * (V - qx) + (U - qy) * (U - qy) = (V * V + U * U) - 2 * (V * qx + U * qy) + (qx * qx + qy * qy)
      grind
    omega
  have c4 : -nm_ qx qy ≤ 2 * (V * qx + U * qy) := by
    have e : nm_ (V + qx) (U + qy) = nm_ V U + 2 * (V * qx + U * qy) + nm_ qx qy := by
      show (V + qx) * (V + qx) + (U + qy) * (U + qy) = (V * V + U * U) + 2 * (V * qx + U * qy) + (qx * qx + qy * qy)
      grind
    omega
  clear m1 m2 m3 m4 hm n1 n2 n3 n4 n5 n6 n7 n8
  obtain ⟨f, hf⟩ : ∃ f, f = al - k * T := ⟨_, rfl⟩
  obtain ⟨g, hg⟩ : ∃ g, g = be - l * T := ⟨_, rfl⟩
  have vx : f * px + g * qx = T * V := by grind
  have vy : f * py + g * qy = T * U := by grind
  have d1 : f * nm_ px py + g * (px * qx + py * qy) = T * (V * px + U * py) := by
    show f * (px * px + py * py) + g * (px * qx + py * qy) = T * (V * px + U * py)
    grind
  have d2 : f * (px * qx + py * qy) + g * nm_ qx qy = T * (V * qx + U * qy) := by
    show f * (px * qx + py * qy) + g * (qx * qx + qy * qy) = T * (V * qx + U * qy)
    grind
  have hT0 := Int.le_of_lt hT
  have z1 := Int.mul_le_mul_of_nonneg_left c1 hT0
  have z2 := Int.mul_le_mul_of_nonneg_left c2 hT0
  have z3 := Int.mul_le_mul_of_nonneg_left c3 hT0
  have z4 := Int.mul_le_mul_of_nonneg_left c4 hT0
  have e1 : T * (2 * (V * px + U * py)) = 2 * (f * nm_ px py + g * (px * qx + py * qy)) := by rw [d1]; grind
  have e2 : T * (2 * (V * qx + U * qy)) = 2 * (f * (px * qx + py * qy) + g * nm_ qx qy) := by rw [d2]; grind
  have e3 : T * nm_ px py = nm_ px py * T := Int.mul_comm _ _
  have e4 : T * nm_ qx qy = nm_ qx qy * T := Int.mul_comm _ _
  have e5 : T * -nm_ px py = -(nm_ px py * T) := by rw [Int.mul_neg, Int.mul_comm]
  have e6 : T * -nm_ qx qy = -(nm_ qx qy * T) := by rw [Int.mul_neg, Int.mul_comm]
  rw [e1, e3] at z1
  rw [e1, e5] at z2
  rw [e2, e4] at z3
  rw [e2, e6] at z4
  obtain ⟨f1, f2, g1, g2⟩ := box_ hr hT z2 z1 z4 z3
  have fl : ∀ (w k : Int), -T ≤ w - k * T → w - k * T ≤ T → w / T - 1 ≤ k ∧ k ≤ w / T + 1 := by
    intro w k a1 a2
    have q1 := Int.emod_add_mul_ediv w T
    have q2 := Int.emod_nonneg w (Int.ne_of_gt hT)
    have q3 := Int.emod_lt_of_pos w hT
    generalize w / T = i at q1 ⊢
    constructor
    · have : T * (i - 1) ≤ T * k := by
        have : T * (i - 1) = T * i - T := by grind
        have : k * T = T * k := Int.mul_comm _ _
        omega
      exact Int.le_of_mul_le_mul_left this hT
    · have : T * k < T * (i + 2) := by
        have : T * (i + 2) = T * i + 2 * T := by grind
        have : k * T = T * k := Int.mul_comm _ _
        omega
      have := Int.lt_of_mul_lt_mul_left this hT0
      omega
  refine ⟨fl al k (by omega) (by omega), fl be l (by omega) (by omega), ?_⟩
  have w1 := half_ f1 f2 (E := nm_ px py) c2 c1
  have w2 := half_ g1 g2 (E := nm_ qx qy) c4 c3
  have e7 : T * (2 * nm_ V U) = f * (2 * (V * px + U * py)) + g * (2 * (V * qx + U * qy)) := by
    show T * (2 * (V * V + U * U)) = f * (2 * (V * px + U * py)) + g * (2 * (V * qx + U * qy))
    have : T * (2 * (V * V + U * U)) = 2 * (V * (T * V) + U * (T * U)) := by grind
    rw [this, ← vx, ← vy]
    grind
  have e8 : T * (2 * nm_ V U) ≤ T * (nm_ px py + nm_ qx qy) := by
    rw [e7, Int.mul_add T (nm_ px py) (nm_ qx qy)]
    exact Int.add_le_add w1 w2
  exact Int.le_of_mul_le_mul_left e8 hT
/-- there is a nearest point -/
theorem near_ex (px py qx qy X Y : Int) : ∃ k l : Int, ∀ k2 l2 : Int, nm_ (X - (k * px + l * qx)) (Y - (k * py + l * qy)) ≤ nm_ (X - (k2 * px + l2 * qx)) (Y - (k2 * py + l2 * qy)) := by
  have pos : ∀ x y : Int, 0 ≤ nm_ x y := fun x y => Int.add_nonneg (sqn_ x) (sqn_ y)
  obtain ⟨n, ⟨k, l, e⟩, hn⟩ := pk_least (fun n => ∃ k l : Int, nm_ (X - (k * px + l * qx)) (Y - (k * py + l * qy)) = (n : Int)) ⟨(nm_ (X - (0 * px + 0 * qx)) (Y - (0 * py + 0 * qy))).toNat, 0, 0, by have := pos (X - (0 * px + 0 * qx)) (Y - (0 * py + 0 * qy)); omega⟩
  refine ⟨k, l, fun k2 l2 => ?_⟩
  rcases lt_ge_ (nm_ (X - (k2 * px + l2 * qx)) (Y - (k2 * py + l2 * qy))) (nm_ (X - (k * px + l * qx)) (Y - (k * py + l * qy))) with q | q
  · exfalso
    have p := pos (X - (k2 * px + l2 * qx)) (Y - (k2 * py + l2 * qy))
    exact hn (nm_ (X - (k2 * px + l2 * qx)) (Y - (k2 * py + l2 * qy))).toNat (by omega) ⟨k2, l2, by omega⟩
  · exact q
def lx_ (t w : Int × Int × Int) : Prop := t.1 < w.1 ∨ (t.1 = w.1 ∧ (t.2.1 < w.2.1 ∨ (t.2.1 = w.2.1 ∧ t.2.2 ≤ w.2.2)))
theorem lx_anti {t w : Int × Int × Int} (h1 : lx_ t w) (h2 : lx_ w t) : t = w := by
  obtain ⟨a, b, c⟩ := t
  obtain ⟨d, e, f⟩ := w
  unfold lx_ at h1 h2
  dsimp only at h1 h2
  have : a = d ∧ b = e ∧ c = f := by omega
  obtain ⟨rfl, rfl, rfl⟩ := this
  rfl
theorem lx_refl (t : Int × Int × Int) : lx_ t t := by
  unfold lx_
  omega
theorem lx_trans {t w z : Int × Int × Int} (h1 : lx_ t w) (h2 : lx_ w z) : lx_ t z := by
  unfold lx_ at *
  omega
abbrev dp_ (X Y u v : Int) : Int × Int × Int := (nm_ (X - u) (Y - v), u, v)
/-- what the model's search leaves -/
theorem se_ok (a b c d X Y nu nv : Int) : ((se_m a b c d X Y nu nv).1 = 100000 ∧ ∀ u v, X - 43 ≤ u → u ≤ X + 43 → Y - 43 ≤ v → v ≤ Y + 43 → inB_ a b c d u v = true → 100000 ≤ nm_ (X - u) (Y - v)) ∨
    (∃ u v, se_m a b c d X Y nu nv = dp_ X Y u v ∧ inB_ a b c d u v = true ∧ ∀ u2 v2, X - 43 ≤ u2 → u2 ≤ X + 43 → Y - 43 ≤ v2 → v2 ≤ Y + 43 → inB_ a b c d u2 v2 = true → lx_ (dp_ X Y u v) (dp_ X Y u2 v2)) := by
  have key := up2_inv (fun u v t => se_f a b c d X Y u v t) (fun x y t => (t.1 = 100000 ∧ ∀ u v, seen_ (X - 43) (Y - 43) 87 x y u v → inB_ a b c d u v = true → 100000 ≤ nm_ (X - u) (Y - v)) ∨
      (∃ u v, t = dp_ X Y u v ∧ inB_ a b c d u v = true ∧ seen_ (X - 43) (Y - 43) 87 x y u v ∧ ∀ u2 v2, seen_ (X - 43) (Y - 43) 87 x y u2 v2 → inB_ a b c d u2 v2 = true → lx_ (dp_ X Y u v) (dp_ X Y u2 v2))) (X - 43) (Y - 43) 87 87 (100000, nu, nv)
    (Or.inl ⟨rfl, fun u v q => absurd q seen_no⟩)
    (fun x y t h1 h2 h3 h4 h => by
      show ((se_f a b c d X Y x y t).1 = 100000 ∧ _) ∨ _
      by_cases hc : nm_ (X - x) (Y - y) < t.1 ∧ inB_ a b c d x y = true
      · refine Or.inr ⟨x, y, if_pos hc, hc.2, (seen_one h1 h3 h4).mpr (Or.inr ⟨rfl, rfl⟩), fun u2 v2 q1 q2 => ?_⟩
        rcases (seen_one h1 h3 h4).mp q1 with w | ⟨rfl, rfl⟩
        · rcases h with ⟨a1, a2⟩ | ⟨u, v, a1, a2, a3, a4⟩
          · have := a2 u2 v2 w q2
            refine Or.inl ?_
            dsimp only
            omega
          · have := a4 u2 v2 w q2
            have e : t.1 = nm_ (X - u) (Y - v) := by rw [a1]
            refine Or.inl ?_
            unfold lx_ at this
            dsimp only at this ⊢
            omega
        · exact lx_refl _
      · have e : se_f a b c d X Y x y t = t := if_neg hc
        rw [e]
        rcases h with ⟨a1, a2⟩ | ⟨u, v, a1, a2, a3, a4⟩
        · refine Or.inl ⟨a1, fun u2 v2 q1 q2 => ?_⟩
          rcases (seen_one h1 h3 h4).mp q1 with w | ⟨rfl, rfl⟩
          · exact a2 u2 v2 w q2
          · rcases lt_ge_ (nm_ (X - u2) (Y - v2)) 100000 with w | w
            · exact absurd ⟨by rw [a1]; exact w, q2⟩ hc
            · exact w
        · refine Or.inr ⟨u, v, a1, a2, (seen_one h1 h3 h4).mpr (Or.inl a3), fun u2 v2 q1 q2 => ?_⟩
          rcases (seen_one h1 h3 h4).mp q1 with w | ⟨rfl, rfl⟩
          · exact a4 u2 v2 w q2
          · have e : t.1 = nm_ (X - u) (Y - v) := by rw [a1]
            have w : ¬ nm_ (X - u2) (Y - v2) < t.1 := fun w => hc ⟨w, q2⟩
            unfold seen_ at a3
            unfold lx_
            dsimp only
            omega)
    (fun x t _ _ h => by
      rcases h with ⟨a1, a2⟩ | ⟨u, v, a1, a2, a3, a4⟩
      · exact Or.inl ⟨a1, fun u v q1 q2 => a2 u v (seen_row.mp q1) q2⟩
      · exact Or.inr ⟨u, v, a1, a2, seen_row.mpr a3, fun u2 v2 q1 q2 => a4 u2 v2 (seen_row.mp q1) q2⟩)
  rcases key with ⟨a1, a2⟩ | ⟨u, v, a1, a2, a3, a4⟩
  · exact Or.inl ⟨a1, fun u v q1 q2 q3 q4 q5 => a2 u v (seen_end.mpr ⟨by omega, by omega, by omega, by omega⟩) q5⟩
  · exact Or.inr ⟨u, v, a1, a2, fun u2 v2 q1 q2 q3 q4 q5 => a4 u2 v2 (seen_end.mpr ⟨by omega, by omega, by omega, by omega⟩) q5⟩
/-- what the other side's sixteen offers leave -/
theorem fn_ok {px py qx qy X Y : Int} (bu bv : Int) (hs : ∀ k l, fi_ px py qx qy X Y - 1 ≤ k → k ≤ fi_ px py qx qy X Y + 2 → fj_ px py qx qy X Y - 1 ≤ l → l ≤ fj_ px py qx qy X Y + 2 → nm_ (X - (k * px + l * qx)) (Y - (k * py + l * qy)) < 2147483647) :
    ∃ k l, fn_ px py qx qy X Y bu bv = dp_ X Y (k * px + l * qx) (k * py + l * qy) ∧ ∀ k2 l2, fi_ px py qx qy X Y - 1 ≤ k2 → k2 ≤ fi_ px py qx qy X Y + 2 → fj_ px py qx qy X Y - 1 ≤ l2 → l2 ≤ fj_ px py qx qy X Y + 2 → lx_ (dp_ X Y (k * px + l * qx) (k * py + l * qy)) (dp_ X Y (k2 * px + l2 * qx) (k2 * py + l2 * qy)) := by
  unfold fn_
  generalize fi_ px py qx qy X Y = i at hs ⊢
  generalize fj_ px py qx qy X Y = j at hs ⊢
  have key := up2_inv (fun k l t => of_ X Y (k * px + l * qx) (k * py + l * qy) t) (fun x y t => (t.1 = 2147483647 ∧ x = i - 1 ∧ y = j - 1) ∨
      (∃ k l, t = dp_ X Y (k * px + l * qx) (k * py + l * qy) ∧ ∀ k2 l2, seen_ (i - 1) (j - 1) 4 x y k2 l2 → lx_ (dp_ X Y (k * px + l * qx) (k * py + l * qy)) (dp_ X Y (k2 * px + l2 * qx) (k2 * py + l2 * qy)))) (i - 1) (j - 1) 4 4 (2147483647, bu, bv)
    (Or.inl ⟨rfl, rfl, rfl⟩)
    (fun x y t h1 h2 h3 h4 h => by
      have hlt := hs x y (by omega) (by omega) (by omega) (by omega)
      refine Or.inr ?_
      by_cases hc : nm_ (X - (x * px + y * qx)) (Y - (x * py + y * qy)) < t.1 ∨ (nm_ (X - (x * px + y * qx)) (Y - (x * py + y * qy)) = t.1 ∧ (x * px + y * qx < t.2.1 ∨ (x * px + y * qx = t.2.1 ∧ x * py + y * qy < t.2.2)))
      · refine ⟨x, y, if_pos hc, fun k2 l2 q => ?_⟩
        rcases (seen_one h1 h3 h4).mp q with w | ⟨rfl, rfl⟩
        · rcases h with ⟨a1, a2, a3⟩ | ⟨k, l, a1, a2⟩
          · rw [a2, a3] at w
            exact absurd w seen_no
          · refine lx_trans ?_ (a2 k2 l2 w)
            rw [a1] at hc
            unfold lx_
            dsimp only at hc ⊢
            omega
        · exact lx_refl _
      · rcases h with ⟨a1, a2, a3⟩ | ⟨k, l, a1, a2⟩
        · exact absurd (Or.inl (by rw [a1]; exact hlt)) hc
        · refine ⟨k, l, (if_neg hc).trans a1, fun k2 l2 q => ?_⟩
          rcases (seen_one h1 h3 h4).mp q with w | ⟨rfl, rfl⟩
          · exact a2 k2 l2 w
          · rw [a1] at hc
            unfold lx_
            dsimp only at hc ⊢
            omega)
    (fun x t _ _ h => by
      rcases h with ⟨a1, a2, a3⟩ | ⟨k, l, a1, a2⟩
      · exfalso
        omega
      · exact Or.inr ⟨k, l, a1, fun k2 l2 q => a2 k2 l2 (seen_row.mp q)⟩)
  rcases key with ⟨a1, a2, a3⟩ | ⟨k, l, a1, a2⟩
  · exfalso
    omega
  · exact ⟨k, l, a1, fun k2 l2 q1 q2 q3 q4 => a2 k2 l2 (seen_end.mpr ⟨by omega, by omega, by omega, by omega⟩)⟩
/-- how far the sixteen points lie -/
theorem near_sz {px py qx qy X Y k l : Int} (hb : bd_ px py qx qy) (h1 : fi_ px py qx qy X Y - 1 ≤ k) (h2 : k ≤ fi_ px py qx qy X Y + 2) (h3 : fj_ px py qx qy X Y - 1 ≤ l) (h4 : l ≤ fj_ px py qx qy X Y + 2) :
    (-168 ≤ X - (k * px + l * qx) ∧ X - (k * px + l * qx) ≤ 168) ∧ (-168 ≤ Y - (k * py + l * qy) ∧ Y - (k * py + l * qy) ≤ 168) := by
  obtain ⟨b1, b2, b3, b4⟩ := nm_bd hb.2.1
  obtain ⟨b5, b6, b7, b8⟩ := nm_bd hb.2.2
  have hT := tu_pos hb.1
  obtain ⟨fx, fy⟩ := fr_ px py qx qy X Y (tu_ (px * qy - py * qx))
  unfold fi_ at h1 h2
  unfold fj_ at h3 h4
  generalize tu_ (px * qy - py * qx) * (px * qy - py * qx) = T at hT fx fy h1 h2 h3 h4
  generalize tu_ (px * qy - py * qx) * (X * qy - Y * qx) = al at fx fy h1 h2
  generalize tu_ (px * qy - py * qx) * (px * Y - py * X) = be at fx fy h3 h4
  have hT0 := Int.le_of_lt hT
  have fl : ∀ (w k : Int), w / T - 1 ≤ k → k ≤ w / T + 2 → -(2 * T) ≤ w - k * T ∧ w - k * T ≤ 2 * T := by
    intro w k a1 a2
    have q1 := Int.emod_add_mul_ediv w T
    have q2 := Int.emod_nonneg w (Int.ne_of_gt hT)
    have q3 := Int.emod_lt_of_pos w hT
    generalize w / T = i at q1 a1 a2
    have p1 := Int.mul_nonneg hT0 (show 0 ≤ k - i + 1 by omega)
    have p2 := Int.mul_nonneg hT0 (show 0 ≤ i + 2 - k by omega)
    constructor
    · grind
    · grind
  obtain ⟨f1, f2⟩ := fl al k h1 h2
  obtain ⟨g1, g2⟩ := fl be l h3 h4
  have one : ∀ (p q Z : Int), al * p + be * q = T * Z → -42 ≤ p → p ≤ 42 → -42 ≤ q → q ≤ 42 → -168 ≤ Z - (k * p + l * q) ∧ Z - (k * p + l * q) ≤ 168 := by
    intro p q Z e p1 p2 q1 q2
    have w1 := half_ f1 f2 p1 p2
    have w2 := half_ g1 g2 q1 q2
    have w3 := half_ f1 f2 (P := -p) (E := 42) (by omega) (by omega)
    have w4 := half_ g1 g2 (P := -q) (E := 42) (by omega) (by omega)
    have e2 : T * (Z - (k * p + l * q)) = (al - k * T) * p + (be - l * T) * q := by grind
    constructor
    · have : T * (-168) ≤ T * (Z - (k * p + l * q)) := by grind
      exact Int.le_of_mul_le_mul_left this hT
    · have : T * (Z - (k * p + l * q)) ≤ T * 168 := by grind
      exact Int.le_of_mul_le_mul_left this hT
  exact ⟨one px qx X fx b1 b2 b5 b6, one py qy Y fy b3 b4 b7 b8⟩
theorem t_near {a b c d px py qx qy : Int} (h : st_ a b c d px py qx qy) (X Y bu bv nu nv : Int) : fn_ px py qx qy X Y bu bv = se_m a b c d X Y nu nv := by
  obtain ⟨hg, hb, hr⟩ := st_red h
  have hA := hb.2.1
  have hC := hb.2.2
  obtain ⟨k, l, e, hmin⟩ := fn_ok (px := px) (py := py) (qx := qx) (qy := qy) (X := X) (Y := Y) bu bv (fun k l q1 q2 q3 q4 => by
    obtain ⟨⟨w1, w2⟩, w3, w4⟩ := near_sz hb q1 q2 q3 q4
    have := sq_le w1 w2
    have := sq_le w3 w4
    show (X - (k * px + l * qx)) * (X - (k * px + l * qx)) + (Y - (k * py + l * qy)) * (Y - (k * py + l * qy)) < 2147483647
    omega)
  obtain ⟨k0, l0, h0⟩ := near_ex px py qx qy X Y
  obtain ⟨⟨a1, a2⟩, ⟨a3, a4⟩, a5⟩ := near_box hr hb.1 h0
  have s1 : nm_ (X - (k * px + l * qx)) (Y - (k * py + l * qy)) ≤ nm_ (X - (k0 * px + l0 * qx)) (Y - (k0 * py + l0 * qy)) := by
    have := hmin k0 l0 a1 (by omega) a3 (by omega)
    unfold lx_ at this
    dsimp only at this
    omega
  have hk : ∀ k2 l2 : Int, nm_ (X - (k * px + l * qx)) (Y - (k * py + l * qy)) ≤ nm_ (X - (k2 * px + l2 * qx)) (Y - (k2 * py + l2 * qy)) := fun k2 l2 => Int.le_trans s1 (h0 k2 l2)
  have s2 : nm_ (X - (k * px + l * qx)) (Y - (k * py + l * qy)) ≤ 1800 := by
    have := (near_box hr hb.1 hk).2.2
    omega
  obtain ⟨b1, b2, b3, b4⟩ := nm_bd s2
  have hin := in_ij hg k l
  rcases se_ok a b c d X Y nu nv with ⟨q1, q2⟩ | ⟨u, v, q1, q2, q3⟩
  · have := q2 (k * px + l * qx) (k * py + l * qy) (by omega) (by omega) (by omega) (by omega) hin
    omega
  · have w1 := q3 (k * px + l * qx) (k * py + l * qy) (by omega) (by omega) (by omega) (by omega) hin
    obtain ⟨k3, l3, rfl, rfl⟩ := (hg u v).mp q2
    have w2 : nm_ (X - (k3 * px + l3 * qx)) (Y - (k3 * py + l3 * qy)) ≤ nm_ (X - (k * px + l * qx)) (Y - (k * py + l * qy)) := by
      unfold lx_ at w1
      dsimp only at w1
      omega
    have h3 : ∀ k2 l2 : Int, nm_ (X - (k3 * px + l3 * qx)) (Y - (k3 * py + l3 * qy)) ≤ nm_ (X - (k2 * px + l2 * qx)) (Y - (k2 * py + l2 * qy)) := fun k2 l2 => Int.le_trans w2 (hk k2 l2)
    obtain ⟨⟨c1, c2⟩, ⟨c3, c4⟩, -⟩ := near_box hr hb.1 h3
    have w3 := hmin k3 l3 c1 (by omega) c3 (by omega)
    rw [e, q1]
    exact lx_anti w3 w1
end
section
/-! ===== within, same ===== -/
theorem rt_0 (x r : Int) : rt_ x 0 r = r := rfl
theorem rt_s (x : Int) (n : Nat) (r : Int) : rt_ x (n + 1) r = rt_ x n (if (r + 2 ^ n) * (r + 2 ^ n) ≤ x then r + 2 ^ n else r) := rfl
theorem rt_ok {x : Int} : ∀ (n : Nat) (r : Int), 0 ≤ r → r * r ≤ x → x < (r + 2 ^ n) * (r + 2 ^ n) → 0 ≤ rt_ x n r ∧ rt_ x n r * rt_ x n r ≤ x ∧ x < (rt_ x n r + 1) * (rt_ x n r + 1)
  | 0, r, h0, h1, h2 => by
    rw [rt_0]
    exact ⟨h0, h1, by simpa using h2⟩
  | n + 1, r, h0, h1, h2 => by
    have e : (2 : Int) ^ (n + 1) = 2 ^ n + 2 ^ n := by rw [Int.pow_succ]; omega
    have hp : (0 : Int) < 2 ^ n := Int.pow_pos (by decide)
    rw [e] at h2
    rw [rt_s]
    by_cases hc : (r + 2 ^ n) * (r + 2 ^ n) ≤ x
    · rw [if_pos hc]
      exact rt_ok n (r + 2 ^ n) (by omega) hc (by rw [Int.add_assoc]; exact h2)
    · rw [if_neg hc]
      exact rt_ok n r h0 h1 (by omega)
theorem isq_ {x : Int} (h0 : 0 ≤ x) (h1 : x < 4294967296) : 0 ≤ rt_ x 16 0 ∧ rt_ x 16 0 * rt_ x 16 0 ≤ x ∧ x < (rt_ x 16 0 + 1) * (rt_ x 16 0 + 1) :=
  rt_ok 16 0 (by decide) (by omega) (by
    have : ((0 : Int) + 2 ^ 16) * (0 + 2 ^ 16) = 4294967296 := by decide
    omega)
theorem isq_iff {x s z : Int} (h0 : 0 ≤ s) (h1 : s * s ≤ x) (h2 : x < (s + 1) * (s + 1)) : z * z ≤ x ↔ -s ≤ z ∧ z ≤ s := by
  constructor
  · intro h
    have h3 : z * z < (s + 1) * (s + 1) := by omega
    constructor
    · rcases lt_ge_ z (-s) with q | q
      · exfalso
        have := Int.mul_nonneg (show 0 ≤ -z - (s + 1) by omega) (show 0 ≤ -z + (s + 1) by omega)
        grind
      · exact q
    · rcases lt_ge_ s z with q | q
      · exfalso
        have := Int.mul_nonneg (show 0 ≤ z - (s + 1) by omega) (show 0 ≤ z + (s + 1) by omega)
        grind
      · exact q
  · intro ⟨h3, h4⟩
    have := sq_le h3 h4
    omega
/-- a quotient's floor and its bounds -/
theorem fl_le {w A i : Int} (hA : 0 < A) : i ≤ w / A ↔ i * A ≤ w := Int.le_ediv_iff_mul_le hA
theorem wfo_iff {A B s i j : Int} (hA : 0 < A) : (-s ≤ i * A + j * B ∧ i * A + j * B ≤ s) ↔ (wf_ A B s j ≤ i ∧ i ≤ wo_ A B s j) := by
  have e1 : i ≤ wo_ A B s j ↔ i * A ≤ -j * B + s := fl_le hA
  have e2 : wf_ A B s j ≤ i ↔ ¬ (i + 1 ≤ wf_ A B s j) := by omega
  have e3 : i + 1 ≤ wf_ A B s j ↔ (i + 1) * A ≤ -j * B - s + A - 1 := fl_le hA
  have e4 : (i + 1) * A = i * A + A := by grind
  have e5 : -j * B = -(j * B) := by grind
  rw [e1, e2, e3, e4, e5]
  omega
theorem wn_iff {A B C D i j most : Int} (hA : 0 < A) (hl : A * C - B * B = D * D) : qf_ A B C i j ≤ most ↔ (i * A + j * B) * (i * A + j * B) ≤ A * most - j * D * (j * D) := by
  have e : A * qf_ A B C i j = (i * A + j * B) * (i * A + j * B) + j * D * (j * D) := by
    have : j * D * (j * D) = j * j * (A * C - B * B) := by rw [hl]; grind
    rw [this]
    show A * (i * i * A + 2 * (i * j) * B + j * j * C) = _
    grind
  constructor
  · intro h
    have := Int.mul_le_mul_of_nonneg_left h (Int.le_of_lt hA)
    omega
  · intro h
    have : A * qf_ A B C i j ≤ A * most := by omega
    exact Int.le_of_mul_le_mul_left this hA
/-- the multiples of a short point are few -/
theorem wr_ij {A B C i j most : Int} (h : rdd_ A B C) (hm : most ≤ 900) (hq : qf_ A B C i j ≤ most) : (-40 ≤ i ∧ i ≤ 40) ∧ (-40 ≤ j ∧ j ≤ 40) := by
  obtain ⟨u, v, hu, hv, hui, hvj, h1⟩ := qf_abs h i j
  obtain ⟨hA, hC, -, -⟩ := h
  have h2 : u * u * A - u * v * A + v * v * C ≤ 900 := by omega
  have p0 := Int.mul_nonneg (Int.mul_nonneg hv hv) (show 0 ≤ C - A by omega)
  have hv2 : v ≤ 40 := by
    rcases lt_ge_ 40 v with q | q
    · exfalso
      have p1 := Int.mul_nonneg (sqn_ (2 * u - v)) (Int.le_of_lt hA)
      have p2 := Int.mul_nonneg (Int.mul_nonneg (show 0 ≤ v - 41 by omega) (show 0 ≤ v + 41 by omega)) (Int.le_of_lt hA)
      grind
    · exact q
  have hu2 : u ≤ 40 := by
    rcases lt_ge_ 40 u with q | q
    · exfalso
      have p1 := Int.mul_nonneg (sqn_ (2 * v - u)) (Int.le_of_lt hA)
      have p2 := Int.mul_nonneg (Int.mul_nonneg (show 0 ≤ u - 41 by omega) (show 0 ≤ u + 41 by omega)) (Int.le_of_lt hA)
      grind
    · exact q
  omega
/-- one row: how many multiples of the first step -/
theorem wc_row {A B C D j most : Int} (h : rdd_ A B C) (hl : A * C - B * B = D * D) (hA : A ≤ 1800) (h0 : 0 ≤ most) (hm : most ≤ 900) : rs_ (fun i => if qf_ A B C i j ≤ most then (1 : Int) else 0) 81 (-40) = wc_ A B D most j := by
  unfold wc_
  by_cases hs : A * most - j * D * (j * D) < 0
  · rw [if_pos hs]
    have e : (fun i => if qf_ A B C i j ≤ most then (1 : Int) else 0) = (fun _ => 0) := by
      funext i
      refine if_neg (fun q => ?_)
      have := (wn_iff h.1 hl).mp q
      have := sqn_ (i * A + j * B)
      omega
    rw [e, rs_0]
  · rw [if_neg hs]
    have hb : A * most - j * D * (j * D) < 4294967296 := by
      have p1 := sqn_ (j * D)
      have p2 := Int.mul_nonneg (show 0 ≤ 1800 - A by omega) h0
      grind
    obtain ⟨s0, s1, s2⟩ := isq_ (show 0 ≤ A * most - j * D * (j * D) by omega) hb
    generalize rt_ (A * most - j * D * (j * D)) 16 0 = s at s0 s1 s2 ⊢
    have key : ∀ i, qf_ A B C i j ≤ most ↔ (wf_ A B s j ≤ i ∧ i ≤ wo_ A B s j) := fun i => by rw [wn_iff h.1 hl, isq_iff s0 s1 s2, wfo_iff h.1]
    have e : (fun i => if qf_ A B C i j ≤ most then (1 : Int) else 0) = (fun i => if wf_ A B s j ≤ i ∧ i ≤ wo_ A B s j then 1 else 0) := by
      funext i
      exact if_iff (key i) 1 0
    rw [e, rs_itv]
    by_cases hw : wo_ A B s j < wf_ A B s j
    · rw [if_pos hw, if_neg (by omega)]
    · have r1 := wr_ij h hm ((key (wf_ A B s j)).mpr ⟨Int.le_refl _, by omega⟩)
      have r2 := wr_ij h hm ((key (wo_ A B s j)).mpr ⟨by omega, Int.le_refl _⟩)
      rw [if_neg hw, if_pos (by omega)]
      omega
theorem nm_30 {x y : Int} (h : nm_ x y ≤ 900) : -30 ≤ x ∧ x ≤ 30 ∧ -30 ≤ y ∧ y ≤ 30 := by
  have h : x * x + y * y ≤ 900 := h
  have h1 := sqn_ x
  have h2 := sqn_ y
  have hx := sq_bd (x := x) (M := 30) (by decide) (by omega)
  have hy := sq_bd (x := y) (M := 30) (by decide) (by omega)
  exact ⟨hx.1, hx.2, hy.1, hy.2⟩
theorem t_within {a b c d px py qx qy : Int} (h : st_ a b c d px py qx qy) (lim : Int) : wt_ px py qx qy lim = wi_m a b c d lim := by
  obtain ⟨hg, hb, hr⟩ := st_red h
  have e : (fun (x t : Int) => up_ (fun y t => wi_f a b c d (mo_ lim) x y t) 61 (-30) t) = (fun x t => up_ (fun y t => t + (if nm_ x y ≤ mo_ lim ∧ inB_ a b c d x y = true then 1 else 0)) 61 (-30) t) := by
    funext x t
    congr 1
    funext y t
    unfold wi_f
    by_cases hc : nm_ x y ≤ mo_ lim ∧ inB_ a b c d x y = true
    · rw [if_pos hc, if_pos hc]
    · rw [if_neg hc, if_neg hc]
      omega
  unfold wi_m
  rw [e, up_sum2]
  have hm9 : mo_ lim ≤ 900 := by
    unfold mo_
    split <;> omega
  unfold wt_
  by_cases h0 : 0 ≤ lim
  · rw [if_pos h0]
    have hm0 : 0 ≤ mo_ lim := by
      unfold mo_
      split <;> omega
    generalize mo_ lim = most at hm9 hm0 ⊢
    rw [up_sum (fun j => wc_ (nm_ px py) (px * qx + py * qy) (px * qy - py * qx) most j) 81 (-40) 0]
    congr 1
    have e1 : rs_ (fun j => wc_ (nm_ px py) (px * qx + py * qy) (px * qy - py * qx) most j) 81 (-40) = rs_ (fun j => rs_ (fun i => rs_ (fun x => rs_ (fun y => pt_ (i * px + j * qx) (i * py + j * qy) (if qf_ (nm_ px py) (px * qx + py * qy) (nm_ qx qy) i j ≤ most then 1 else 0) x y) 61 (-30)) 61 (-30)) 81 (-40)) 81 (-40) := by
      congr 1
      funext j
      rw [← wc_row hr (lagr px py qx qy) hb.2.1 hm0 hm9]
      congr 1
      funext i
      by_cases hq : qf_ (nm_ px py) (px * qx + py * qy) (nm_ qx qy) i j ≤ most
      · rw [if_pos hq]
        have hn := hq
        rw [← nm_qf] at hn
        obtain ⟨r1, r2, r3, r4⟩ := nm_30 (Int.le_trans hn hm9)
        exact (bx_ind _ _ 1 61 61 (-30) (-30) (by omega) (by omega) (by omega) (by omega)).symm
      · rw [if_neg hq]
        have z : (fun x => rs_ (fun y => pt_ (i * px + j * qx) (i * py + j * qy) 0 x y) 61 (-30)) = (fun _ => 0) := by
          funext x
          have z2 : (fun y => pt_ (i * px + j * qx) (i * py + j * qy) 0 x y) = (fun _ => 0) := by
            funext y
            exact ite_self 0
          rw [z2, rs_0]
        rw [z, rs_0]
    rw [e1, ← bx_swap (fun x y j i => pt_ (i * px + j * qx) (i * py + j * qy) (if qf_ (nm_ px py) (px * qx + py * qy) (nm_ qx qy) i j ≤ most then 1 else 0) x y) 61 61 (-30) (-30) 81 81 (-40) (-40)]
    refine bx_cong 61 61 (-30) (-30) (fun x y _ _ _ _ => ?_)
    by_cases hc : nm_ x y ≤ most ∧ inB_ a b c d x y = true
    · rw [if_pos hc]
      obtain ⟨i0, j0, ex, ey⟩ := (hg x y).mp hc.2
      have hq : qf_ (nm_ px py) (px * qx + py * qy) (nm_ qx qy) i0 j0 ≤ most := by
        rw [← nm_qf, ← ex, ← ey]
        exact hc.1
      obtain ⟨⟨r1, r2⟩, r3, r4⟩ := wr_ij hr hm9 hq
      refine Eq.trans (bx_cong (g := fun j i => if j = j0 ∧ i = i0 then 1 else 0) 81 81 (-40) (-40) (fun j i _ _ _ _ => ?_)) (bx_ind j0 i0 1 81 81 (-40) (-40) (by omega) (by omega) (by omega) (by omega))
      have hiff : (x = i * px + j * qx ∧ y = i * py + j * qy) ↔ (j = j0 ∧ i = i0) := by
        constructor
        · intro ⟨q1, q2⟩
          have := one_ hb.1 (i := i) (j := j) (i2 := i0) (j2 := j0) (by omega) (by omega)
          exact ⟨this.2, this.1⟩
        · rintro ⟨rfl, rfl⟩
          exact ⟨ex, ey⟩
      unfold pt_
      rw [if_iff hiff]
      by_cases hj : j = j0 ∧ i = i0
      · rw [if_pos hj, if_pos hj, hj.1, hj.2, if_pos hq]
      · rw [if_neg hj, if_neg hj]
    · rw [if_neg hc]
      refine Eq.trans (bx_cong (g := fun _ _ => 0) 81 81 (-40) (-40) (fun j i _ _ _ _ => ?_)) ?_
      · unfold pt_
        by_cases hx : x = i * px + j * qx ∧ y = i * py + j * qy
        · rw [if_pos hx]
          refine if_neg (fun q => hc ?_)
          rw [hx.1, hx.2]
          exact ⟨by rw [nm_qf]; exact q, in_ij hg i j⟩
        · rw [if_neg hx]
      · have z : (fun j : Int => rs_ (fun i : Int => (fun _ _ : Int => (0 : Int)) j i) 81 (-40)) = (fun _ => 0) := by
          funext j
          exact rs_0 81 (-40)
        rw [z, rs_0]
  · rw [if_neg h0]
    have hm0 : mo_ lim < 0 := by
      unfold mo_
      split <;> omega
    have z : (fun x => rs_ (fun y => if nm_ x y ≤ mo_ lim ∧ inB_ a b c d x y = true then (1 : Int) else 0) 61 (-30)) = (fun _ => 0) := by
      funext x
      have z2 : (fun y => if nm_ x y ≤ mo_ lim ∧ inB_ a b c d x y = true then (1 : Int) else 0) = (fun _ => 0) := by
        funext y
        refine if_neg (fun q => ?_)
        have h1 := sqn_ x
        have h2 := sqn_ y
        have : x * x + y * y ≤ mo_ lim := q.1
        omega
      rw [z2, rs_0]
    rw [z, rs_0]
    rfl
/-! ===== same ===== -/
theorem dv_cancel {D m z w : Int} (hD : D ≠ 0) (e : w = D * z) : (m * D) ∣ w ↔ m ∣ z := by
  rw [e, Int.mul_comm m D]
  exact Int.mul_dvd_mul_iff_left hD
theorem t_same {a b c d : Int} (h : ok_ a b c d) (a2 b2 c2 d2 : Int) : sm_ a b c d a2 b2 c2 d2 = sm_m a b c d a2 b2 c2 d2 := by
  unfold sm_ sm_m
  by_cases hok : okB_ a2 b2 c2 d2 = true
  · rw [if_pos hok, if_pos hok]
    congr 1
    have hD := h.2.2.2.2.2.2.2.2
    have hE : a2 * d2 - b2 * c2 ≠ 0 := (okB_iff.mp hok).2.2.2.2.2.2.2.2
    have hg := gen_0 hD
    by_cases hin : (inB_ a b c d a2 b2 && inB_ a b c d c2 d2) = true
    · rw [hin]
      obtain ⟨h1, h2⟩ := Bool.and_eq_true_iff.mp hin
      obtain ⟨i, j, e1, e2⟩ := (hg a2 b2).mp h1
      obtain ⟨k, l, e3, e4⟩ := (hg c2 d2).mp h2
      have em : a2 * d2 - b2 * c2 = (i * l - j * k) * (a * d - b * c) := by
        rw [e1, e2, e3, e4]
        grind
      rw [Bool.eq_iff_iff]
      simp only [Bool.true_and, Bool.or_eq_true, Bool.and_eq_true, decide_eq_true_iff, inB_iff]
      rw [em] at hE ⊢
      generalize hm : i * l - j * k = mm at hE ⊢
      rw [dv_cancel (z := l) hD (by rw [e3, e4]; grind), dv_cancel (z := -j) hD (by rw [e1, e2]; grind), dv_cancel (z := -k) hD (by rw [e3, e4]; grind), dv_cancel (z := i) hD (by rw [e1, e2]; grind)]
      have hm0 : mm ≠ 0 := fun q => hE (by rw [q]; omega)
      constructor
      · intro hq
        have hu : mm = 1 ∨ mm = -1 := by
          rcases hq with q | q
          · refine Or.inl (Int.eq_of_mul_eq_mul_right hD ?_)
            omega
          · refine Or.inr (Int.eq_of_mul_eq_mul_right hD ?_)
            omega
        rcases hu with rfl | rfl
        · exact ⟨⟨Int.one_dvd _, Int.one_dvd _⟩, Int.one_dvd _, Int.one_dvd _⟩
        · exact ⟨⟨Int.neg_dvd.mpr (Int.one_dvd _), Int.neg_dvd.mpr (Int.one_dvd _)⟩, Int.neg_dvd.mpr (Int.one_dvd _), Int.neg_dvd.mpr (Int.one_dvd _)⟩
      · rintro ⟨⟨⟨x1, q1⟩, ⟨x2, q2⟩⟩, ⟨x3, q3⟩, ⟨x4, q4⟩⟩
        have hone : mm * (x4 * x1 - x2 * x3) = 1 := by
          refine Int.eq_of_mul_eq_mul_left hm0 ?_
          have : mm * (mm * (x4 * x1 - x2 * x3)) = (mm * x4) * (mm * x1) - (mm * x2) * (mm * x3) := by grind
          rw [this, ← q1, ← q2, ← q3, ← q4]
          grind
        have hu : mm = 1 ∨ mm = -1 := by
          have hd : mm ∣ 1 := ⟨_, hone.symm⟩
          rcases Int.le_total 0 mm with w | w
          · exact Or.inl (Int.eq_one_of_dvd_one w hd)
          · have := Int.eq_one_of_dvd_one (show 0 ≤ -mm by omega) (Int.neg_dvd.mpr hd)
            exact Or.inr (by omega)
        rcases hu with rfl | rfl
        · exact Or.inl (by omega)
        · exact Or.inr (by omega)
    · have : (inB_ a b c d a2 b2 && inB_ a b c d c2 d2) = false := by simpa using hin
      rw [this]
      rfl
  · rw [if_neg hok, if_neg hok]
end
section
/-! ===== small facts for the walks ===== -/
theorem tm_rng {x : Int} (y : Int) (h : -2147483647 ≤ x ∧ x ≤ 2147483647) : rI (x.tmod y) := by
  have h1 := Int.natAbs_tmod x y
  have h2 := Nat.mod_le x.natAbs y.natAbs
  constructor
  · omega
  · omega
theorem pr_bd {x y M N : Int} (h1 : -M ≤ x) (h2 : x ≤ M) (h3 : -N ≤ y) (h4 : y ≤ N) : -(M * N) ≤ x * y ∧ x * y ≤ M * N := by
  have a1 := half_ h1 h2 h3 h4
  have a2 := half_ (f := -x) (D := M) (by omega) (by omega) h3 h4
  have e : -x * y = -(x * y) := by grind
  omega
theorem in_no1 {a b c d x y : Int} (h : ¬ (x * d - y * c).tmod (a * d - b * c) = 0) : (0 : Int) = b2_ (inB_ a b c d x y) := by
  have : inB_ a b c d x y = false := by
    unfold inB_
    rw [decide_eq_false (fun q => h (tmod_dvd.mpr q))]
    rfl
  rw [this]
  rfl
theorem in_no2 {a b c d x y : Int} (h : ¬ (a * y - b * x).tmod (a * d - b * c) = 0) : (0 : Int) = b2_ (inB_ a b c d x y) := by
  have : inB_ a b c d x y = false := by
    unfold inB_
    rw [decide_eq_false (p := (a * d - b * c) ∣ (a * y - b * x)) (fun q => h (tmod_dvd.mpr q)), Bool.and_false]
  rw [this]
  rfl
theorem in_yes {a b c d x y : Int} (h1 : (x * d - y * c).tmod (a * d - b * c) = 0) (h2 : (a * y - b * x).tmod (a * d - b * c) = 0) : (1 : Int) = b2_ (inB_ a b c d x y) := by
  have : inB_ a b c d x y = true := by
    unfold inB_
    rw [decide_eq_true (tmod_dvd.mp h1), decide_eq_true (tmod_dvd.mp h2)]
    rfl
  rw [this]
  rfl
theorem in_no2m {a b c d x y : Int} (h : ¬ (y * a - x * b).tmod (a * d - b * c) = 0) : (0 : Int) = b2_ (inB_ a b c d x y) := in_no2 (by rw [Int.mul_comm a y, Int.mul_comm b x]; exact h)
theorem in_yesm {a b c d x y : Int} (h1 : (x * d - y * c).tmod (a * d - b * c) = 0) (h2 : (y * a - x * b).tmod (a * d - b * c) = 0) : (1 : Int) = b2_ (inB_ a b c d x y) := in_yes h1 (by rw [Int.mul_comm a y, Int.mul_comm b x]; exact h2)
def baB_ (n : Int) : Bool := decide (n < -30 ∨ 30 < n)
theorem baB_t {n : Int} (h : n < -30 ∨ 30 < n) : baB_ n = true := decide_eq_true h
theorem baB_f {n : Int} (h : ¬ (n < -30 ∨ 30 < n)) : baB_ n = false := decide_eq_false h
theorem baB_no {n : Int} (h : baB_ n = false) : -30 ≤ n ∧ n ≤ 30 := by
  have := of_decide_eq_false h
  omega
theorem baB_yes {n : Int} (h : baB_ n = true) : n < -30 ∨ 30 < n := of_decide_eq_true h
theorem okB_no {a b c d : Int} (h : ¬ ok_ a b c d) : okB_ a b c d = false := decide_eq_false h
theorem rgB_no {x y : Int} (h : ¬ (-1000 ≤ x ∧ x ≤ 1000 ∧ -1000 ≤ y ∧ y ≤ 1000)) : rgB_ x y = false := decide_eq_false h
theorem rgB_yes {x y : Int} (h : -1000 ≤ x ∧ x ≤ 1000 ∧ -1000 ≤ y ∧ y ≤ 1000) : rgB_ x y = true := decide_eq_true h
theorem rgB_of {x y : Int} (h : rgB_ x y = true) : -1000 ≤ x ∧ x ≤ 1000 ∧ -1000 ≤ y ∧ y ≤ 1000 := of_decide_eq_true h
theorem sh_rng (a b c d : Int) : 0 ≤ sh_m a b c d ∧ sh_m a b c d ≤ 10000 := by
  unfold sh_m
  refine up_keep (fun t => 0 ≤ t ∧ t ≤ 10000) (-43) 44 (fun x t _ _ h => ?_) 87 (-43) 10000 (by decide) (by decide) (by decide)
  refine up_keep (fun t => 0 ≤ t ∧ t ≤ 10000) (-43) 44 (fun y t _ _ h => ?_) 87 (-43) t (by decide) (by decide) h
  show 0 ≤ sh_f a b c d x y t ∧ sh_f a b c d x y t ≤ 10000
  unfold sh_f
  split
  · rename_i q
    omega
  · exact h
theorem mo_rng {x : Int} (h : rI x) : rI (mo_ x) ∧ mo_ x ≤ 900 := by
  unfold mo_
  split
  · exact ⟨⟨by omega, by omega⟩, by omega⟩
  · exact ⟨h, by omega⟩
theorem bt_div (n : Nat) : (bt_ (n + 1)).tdiv 2 = bt_ n := by
  cases n with
  | zero => rfl
  | succ n =>
    show ((2 : Int) ^ (n + 1)).tdiv 2 = 2 ^ n
    rw [Int.pow_succ]
    exact Int.mul_tdiv_cancel _ (by decide)
theorem bt_rng : ∀ n, n ≤ 16 → 0 ≤ bt_ n ∧ bt_ n ≤ 32768
  | n, h => by
    have key : ∀ n : Fin 17, 0 ≤ bt_ n.val ∧ bt_ n.val ≤ 32768 := by decide
    exact key ⟨n, by omega⟩
theorem bt_pos (n : Nat) : 0 < bt_ (n + 1) := Int.pow_pos (by decide)
theorem tm_rngd {x d : Int} (hd : 0 < d) (h : rI d) : rI (x.tmod d) := by
  have h5 := Int.tmod_lt_of_pos x hd
  have h6 := Int.lt_tmod_of_pos x hd
  exact ⟨by omega, by omega⟩
theorem bt_dbl (n : Nat) : 2 * bt_ n ≤ bt_ (n + 1) := by
  cases n with
  | zero => decide
  | succ n =>
    show 2 * (2 : Int) ^ n ≤ 2 ^ (n + 1)
    rw [Int.pow_succ]
    omega
end
section
/-! ===== walks: static methods ===== -/
abbrev rm_X0_size : Room := { frames := 0, cells := 0, slots := 0, locals := 0 }
theorem dn_X0_size : yX0_size.cls ≠ "java/lang/invoke/MethodHandle" ∧ yX0_size.cls ≠ "java/lang/invoke/VarHandle" ∧ (parseMethodDescriptor yX0_size.desc).map (fun d => d.parameters.length) = some 2 := by decide +kernel
set_option maxHeartbeats 4000000 in
set_option maxRecDepth 100000 in
/-- size -/
theorem met_X0_size (l : Launch) (x y : Int) : ms_ l yX0_size cX0_size 2 (some .int) rm_X0_size [.int (jI x), .int (jI y)] (nm_ x y) := by
  refine ms_of (by decide) (Nat.le_of_ble_eq_true rfl) ?_
  intro p e s m args below meth c hx hb hown hts hr hlk ls hl
  have hown : s.vm.findClass RX0 = some m.cls := hown
  have hl : lv_has ls 2 [(0, .int (jI x)), (1, .int (jI y))] := hl
  refine lv_iload_n hx hb dX0_size_0 rfl (lv_at hl 0 rfl) ?_
  refine lv_iload_n hx hb dX0_size_1 rfl (lv_at hl 0 rfl) ?_
  refine jv_imul hx hb dX0_size_2 ?_
  refine lv_iload_n hx hb dX0_size_3 rfl (lv_at hl 1 rfl) ?_
  refine lv_iload_n hx hb dX0_size_4 rfl (lv_at hl 1 rfl) ?_
  refine jv_imul hx hb dX0_size_5 ?_
  refine jv_iadd hx hb dX0_size_6 ?_
  exact ms_reti hx hb hr hlk rfl dX0_size_7
abbrev rm_X0_floorDivide : Room := { frames := 0, cells := 0, slots := 0, locals := 0 }
theorem dn_X0_floorDivide : yX0_floorDivide.cls ≠ "java/lang/invoke/MethodHandle" ∧ yX0_floorDivide.cls ≠ "java/lang/invoke/VarHandle" ∧ (parseMethodDescriptor yX0_floorDivide.desc).map (fun d => d.parameters.length) = some 2 := by decide +kernel
set_option maxHeartbeats 4000000 in
set_option maxRecDepth 100000 in
/-- floorDivide -/
theorem met_X0_floorDivide (l : Launch) (x d : Int) (h1 : rI x) (hd : 0 < d) (h2 : rI d) : ms_ l yX0_floorDivide cX0_floorDivide 3 (some .int) rm_X0_floorDivide [.int (jI x), .int (jI d)] (x / d) := by
  refine ms_of (by decide) (Nat.le_of_ble_eq_true rfl) ?_
  intro p e s m args below meth c hx hb hown hts hr hlk ls hl
  have hown : s.vm.findClass RX0 = some m.cls := hown
  have hl : lv_has ls 3 [(0, .int (jI x)), (1, .int (jI d))] := hl
  refine lv_iload_n hx hb dX0_floorDivide_0 rfl (lv_at hl 0 rfl) ?_
  refine lv_iload_n hx hb dX0_floorDivide_1 rfl (lv_at hl 1 rfl) ?_
  refine jv_idiv hx hb dX0_floorDivide_2 h1 h2 (by omega) ?_
  refine lv_istore_n (lv' := [(2, .int (jI (x.tdiv d))), (0, .int (jI x)), (1, .int (jI d))]) hx hb dX0_floorDivide_3 rfl hl (by decide) rfl (fun ls hl => ?_)
  refine lv_iload_n hx hb dX0_floorDivide_4 rfl (lv_at hl 1 rfl) ?_
  refine lv_iload_n hx hb dX0_floorDivide_5 rfl (lv_at hl 2 rfl) ?_
  refine jv_irem hx hb dX0_floorDivide_6 h1 h2 (by omega) ?_
  refine jv_if_ge (tgt := 16) hx hb dX0_floorDivide_7 (by decide) (tm_rngd hd h2) (fun c_7 => ?_) (fun c_7 => ?_)
  · refine lv_iload_n hx hb dX0_floorDivide_16 rfl (lv_at hl 0 rfl) ?_
    exact ms_reti hx hb hr hlk (by have q := fd_ (x := x) hd; rw [if_pos c_7] at q; exact q) dX0_floorDivide_17
  · refine lv_iload_n hx hb dX0_floorDivide_10 rfl (lv_at hl 0 rfl) ?_
    refine jv_iconst hx hb dX0_floorDivide_11 ?_
    refine jv_isub hx hb dX0_floorDivide_12 ?_
    refine lv_goto (tgt := 17) hx hb dX0_floorDivide_13 (by decide) ?_
    exact ms_reti hx hb hr hlk (by have q := fd_ (x := x) hd; rw [if_neg c_7] at q; exact q) dX0_floorDivide_17
abbrev rm_X0_inRange : Room := { frames := 0, cells := 0, slots := 0, locals := 0 }
theorem dn_X0_inRange : yX0_inRange.cls ≠ "java/lang/invoke/MethodHandle" ∧ yX0_inRange.cls ≠ "java/lang/invoke/VarHandle" ∧ (parseMethodDescriptor yX0_inRange.desc).map (fun d => d.parameters.length) = some 2 := by decide +kernel
set_option maxHeartbeats 4000000 in
set_option maxRecDepth 100000 in
/-- inRange -/
theorem met_X0_inRange (l : Launch) (x y : Int) (h1 : rI x) (h2 : rI y) : ms_ l yX0_inRange cX0_inRange 2 (some .boolean) rm_X0_inRange [.int (jI x), .int (jI y)] (b2_ (rgB_ x y)) := by
  refine ms_of (by decide) (Nat.le_of_ble_eq_true rfl) ?_
  intro p e s m args below meth c hx hb hown hts hr hlk ls hl
  have hown : s.vm.findClass RX0 = some m.cls := hown
  have hl : lv_has ls 2 [(0, .int (jI x)), (1, .int (jI y))] := hl
  refine lv_iload_n hx hb dX0_inRange_0 rfl (lv_at hl 0 rfl) ?_
  refine jv_sipush hx hb dX0_inRange_1 (by decide) ?_
  refine jv_icmp_lt (tgt := 32) hx hb dX0_inRange_4 (by decide) ⟨by omega, by omega⟩ ⟨by omega, by omega⟩ (fun c_4 => ?_) (fun c_4 => ?_)
  · refine jv_iconst hx hb dX0_inRange_32 ?_
    exact ms_retz hx hb hr hlk (by rw [rgB_no (by omega)]; rfl) ⟨false, rfl⟩ dX0_inRange_33
  · refine lv_iload_n hx hb dX0_inRange_7 rfl (lv_at hl 0 rfl) ?_
    refine jv_sipush hx hb dX0_inRange_8 (by decide) ?_
    refine jv_icmp_gt (tgt := 32) hx hb dX0_inRange_11 (by decide) ⟨by omega, by omega⟩ ⟨by omega, by omega⟩ (fun c_11 => ?_) (fun c_11 => ?_)
    · refine jv_iconst hx hb dX0_inRange_32 ?_
      exact ms_retz hx hb hr hlk (by rw [rgB_no (by omega)]; rfl) ⟨false, rfl⟩ dX0_inRange_33
    · refine lv_iload_n hx hb dX0_inRange_14 rfl (lv_at hl 1 rfl) ?_
      refine jv_sipush hx hb dX0_inRange_15 (by decide) ?_
      refine jv_icmp_lt (tgt := 32) hx hb dX0_inRange_18 (by decide) ⟨by omega, by omega⟩ ⟨by omega, by omega⟩ (fun c_18 => ?_) (fun c_18 => ?_)
      · refine jv_iconst hx hb dX0_inRange_32 ?_
        exact ms_retz hx hb hr hlk (by rw [rgB_no (by omega)]; rfl) ⟨false, rfl⟩ dX0_inRange_33
      · refine lv_iload_n hx hb dX0_inRange_21 rfl (lv_at hl 1 rfl) ?_
        refine jv_sipush hx hb dX0_inRange_22 (by decide) ?_
        refine jv_icmp_gt (tgt := 32) hx hb dX0_inRange_25 (by decide) ⟨by omega, by omega⟩ ⟨by omega, by omega⟩ (fun c_25 => ?_) (fun c_25 => ?_)
        · refine jv_iconst hx hb dX0_inRange_32 ?_
          exact ms_retz hx hb hr hlk (by rw [rgB_no (by omega)]; rfl) ⟨false, rfl⟩ dX0_inRange_33
        · refine jv_iconst hx hb dX0_inRange_28 ?_
          refine lv_goto (tgt := 33) hx hb dX0_inRange_29 (by decide) ?_
          exact ms_retz hx hb hr hlk (by rw [rgB_yes (by omega)]; rfl) ⟨true, rfl⟩ dX0_inRange_33
abbrev rm_X1_far : Room := { frames := 0, cells := 0, slots := 0, locals := 0 }
theorem dn_X1_far : yX1_far.cls ≠ "java/lang/invoke/MethodHandle" ∧ yX1_far.cls ≠ "java/lang/invoke/VarHandle" ∧ (parseMethodDescriptor yX1_far.desc).map (fun d => d.parameters.length) = some 2 := by decide +kernel
set_option maxHeartbeats 4000000 in
set_option maxRecDepth 100000 in
/-- far -/
theorem met_X1_far (l : Launch) (x y : Int) (h1 : rI x) (h2 : rI y) : ms_ l yX1_far cX1_far 2 (some .boolean) rm_X1_far [.int (jI x), .int (jI y)] (b2_ (!rgB_ x y)) := by
  refine ms_of (by decide) (Nat.le_of_ble_eq_true rfl) ?_
  intro p e s m args below meth c hx hb hown hts hr hlk ls hl
  have hown : s.vm.findClass RX1 = some m.cls := hown
  have hl : lv_has ls 2 [(0, .int (jI x)), (1, .int (jI y))] := hl
  refine lv_iload_n hx hb dX1_far_0 rfl (lv_at hl 0 rfl) ?_
  refine jv_sipush hx hb dX1_far_1 (by decide) ?_
  refine jv_icmp_lt (tgt := 28) hx hb dX1_far_4 (by decide) ⟨by omega, by omega⟩ ⟨by omega, by omega⟩ (fun c_4 => ?_) (fun c_4 => ?_)
  · refine jv_iconst hx hb dX1_far_28 ?_
    refine lv_goto (tgt := 33) hx hb dX1_far_29 (by decide) ?_
    exact ms_retz hx hb hr hlk (by rw [rgB_no (by omega)]; rfl) ⟨true, rfl⟩ dX1_far_33
  · refine lv_iload_n hx hb dX1_far_7 rfl (lv_at hl 0 rfl) ?_
    refine jv_sipush hx hb dX1_far_8 (by decide) ?_
    refine jv_icmp_gt (tgt := 28) hx hb dX1_far_11 (by decide) ⟨by omega, by omega⟩ ⟨by omega, by omega⟩ (fun c_11 => ?_) (fun c_11 => ?_)
    · refine jv_iconst hx hb dX1_far_28 ?_
      refine lv_goto (tgt := 33) hx hb dX1_far_29 (by decide) ?_
      exact ms_retz hx hb hr hlk (by rw [rgB_no (by omega)]; rfl) ⟨true, rfl⟩ dX1_far_33
    · refine lv_iload_n hx hb dX1_far_14 rfl (lv_at hl 1 rfl) ?_
      refine jv_sipush hx hb dX1_far_15 (by decide) ?_
      refine jv_icmp_lt (tgt := 28) hx hb dX1_far_18 (by decide) ⟨by omega, by omega⟩ ⟨by omega, by omega⟩ (fun c_18 => ?_) (fun c_18 => ?_)
      · refine jv_iconst hx hb dX1_far_28 ?_
        refine lv_goto (tgt := 33) hx hb dX1_far_29 (by decide) ?_
        exact ms_retz hx hb hr hlk (by rw [rgB_no (by omega)]; rfl) ⟨true, rfl⟩ dX1_far_33
      · refine lv_iload_n hx hb dX1_far_21 rfl (lv_at hl 1 rfl) ?_
        refine jv_sipush hx hb dX1_far_22 (by decide) ?_
        refine jv_icmp_le (tgt := 32) hx hb dX1_far_25 (by decide) ⟨by omega, by omega⟩ ⟨by omega, by omega⟩ (fun c_25 => ?_) (fun c_25 => ?_)
        · refine jv_iconst hx hb dX1_far_32 ?_
          exact ms_retz hx hb hr hlk (by rw [rgB_yes (by omega)]; rfl) ⟨false, rfl⟩ dX1_far_33
        · refine jv_iconst hx hb dX1_far_28 ?_
          refine lv_goto (tgt := 33) hx hb dX1_far_29 (by decide) ?_
          exact ms_retz hx hb hr hlk (by rw [rgB_no (by omega)]; rfl) ⟨true, rfl⟩ dX1_far_33
abbrev rm_X0_areSteps : Room := { frames := 0, cells := 0, slots := 0, locals := 0 }
theorem dn_X0_areSteps : yX0_areSteps.cls ≠ "java/lang/invoke/MethodHandle" ∧ yX0_areSteps.cls ≠ "java/lang/invoke/VarHandle" ∧ (parseMethodDescriptor yX0_areSteps.desc).map (fun d => d.parameters.length) = some 4 := by decide +kernel
set_option maxHeartbeats 4000000 in
set_option maxRecDepth 100000 in
/-- areSteps -/
theorem met_X0_areSteps (l : Launch) (a2 b2 c2 d2 : Int) (h1 : rI a2) (h2 : rI b2) (h3 : rI c2) (h4 : rI d2) : ms_ l yX0_areSteps cX0_areSteps 5 (some .boolean) rm_X0_areSteps [.int (jI a2), .int (jI b2), .int (jI c2), .int (jI d2)] (b2_ (okB_ a2 b2 c2 d2)) := by
  refine ms_of (by decide) (Nat.le_of_ble_eq_true rfl) ?_
  intro p e s m args below meth c hx hb hown hts hr hlk ls hl
  have hown : s.vm.findClass RX0 = some m.cls := hown
  have hl : lv_has ls 5 [(0, .int (jI a2)), (1, .int (jI b2)), (2, .int (jI c2)), (3, .int (jI d2))] := hl
  refine lv_iload_n hx hb dX0_areSteps_0 rfl (lv_at hl 0 rfl) ?_
  refine jv_bipush hx hb dX0_areSteps_1 (by decide) ?_
  refine jv_icmp_lt (tgt := 28) hx hb dX0_areSteps_3 (by decide) ⟨by omega, by omega⟩ ⟨by omega, by omega⟩ (fun c_3 => ?_) (fun c_3 => ?_)
  · refine jv_iconst hx hb dX0_areSteps_28 ?_
    refine lv_istore (lv' := [(4, .int (jI 0)), (0, .int (jI a2)), (1, .int (jI b2)), (2, .int (jI c2)), (3, .int (jI d2))]) hx hb dX0_areSteps_29 hl (by decide) rfl (fun ls hl => ?_)
    refine lv_iload hx hb dX0_areSteps_31 (lv_at hl 0 rfl) ?_
    refine jv_if_eq (tgt := 64) hx hb dX0_areSteps_33 (by decide) ⟨by omega, by omega⟩ (fun c_33 => ?_) (fun c_33 => ?_)
    · refine jv_iconst hx hb dX0_areSteps_64 ?_
      refine lv_istore (lv' := [(4, .int (jI 0)), (0, .int (jI a2)), (1, .int (jI b2)), (2, .int (jI c2)), (3, .int (jI d2))]) hx hb dX0_areSteps_65 hl (by decide) rfl (fun ls hl => ?_)
      refine lv_iload hx hb dX0_areSteps_67 (lv_at hl 0 rfl) ?_
      refine jv_if_eq (tgt := 86) hx hb dX0_areSteps_69 (by decide) ⟨by omega, by omega⟩ (fun c_69 => ?_) (fun c_69 => ?_)
      · refine jv_iconst hx hb dX0_areSteps_86 ?_
        exact ms_retz hx hb hr hlk (by rw [okB_no (fun q => by unfold ok_ at q; omega)]; rfl) ⟨false, rfl⟩ dX0_areSteps_87
      · exact absurd c_69 (by decide)
    · exact absurd c_33 (by decide)
  · refine lv_iload_n hx hb dX0_areSteps_6 rfl (lv_at hl 0 rfl) ?_
    refine jv_bipush hx hb dX0_areSteps_7 (by decide) ?_
    refine jv_icmp_gt (tgt := 28) hx hb dX0_areSteps_9 (by decide) ⟨by omega, by omega⟩ ⟨by omega, by omega⟩ (fun c_9 => ?_) (fun c_9 => ?_)
    · refine jv_iconst hx hb dX0_areSteps_28 ?_
      refine lv_istore (lv' := [(4, .int (jI 0)), (0, .int (jI a2)), (1, .int (jI b2)), (2, .int (jI c2)), (3, .int (jI d2))]) hx hb dX0_areSteps_29 hl (by decide) rfl (fun ls hl => ?_)
      refine lv_iload hx hb dX0_areSteps_31 (lv_at hl 0 rfl) ?_
      refine jv_if_eq (tgt := 64) hx hb dX0_areSteps_33 (by decide) ⟨by omega, by omega⟩ (fun c_33 => ?_) (fun c_33 => ?_)
      · refine jv_iconst hx hb dX0_areSteps_64 ?_
        refine lv_istore (lv' := [(4, .int (jI 0)), (0, .int (jI a2)), (1, .int (jI b2)), (2, .int (jI c2)), (3, .int (jI d2))]) hx hb dX0_areSteps_65 hl (by decide) rfl (fun ls hl => ?_)
        refine lv_iload hx hb dX0_areSteps_67 (lv_at hl 0 rfl) ?_
        refine jv_if_eq (tgt := 86) hx hb dX0_areSteps_69 (by decide) ⟨by omega, by omega⟩ (fun c_69 => ?_) (fun c_69 => ?_)
        · refine jv_iconst hx hb dX0_areSteps_86 ?_
          exact ms_retz hx hb hr hlk (by rw [okB_no (fun q => by unfold ok_ at q; omega)]; rfl) ⟨false, rfl⟩ dX0_areSteps_87
        · exact absurd c_69 (by decide)
      · exact absurd c_33 (by decide)
    · refine lv_iload_n hx hb dX0_areSteps_12 rfl (lv_at hl 1 rfl) ?_
      refine jv_bipush hx hb dX0_areSteps_13 (by decide) ?_
      refine jv_icmp_lt (tgt := 28) hx hb dX0_areSteps_15 (by decide) ⟨by omega, by omega⟩ ⟨by omega, by omega⟩ (fun c_15 => ?_) (fun c_15 => ?_)
      · refine jv_iconst hx hb dX0_areSteps_28 ?_
        refine lv_istore (lv' := [(4, .int (jI 0)), (0, .int (jI a2)), (1, .int (jI b2)), (2, .int (jI c2)), (3, .int (jI d2))]) hx hb dX0_areSteps_29 hl (by decide) rfl (fun ls hl => ?_)
        refine lv_iload hx hb dX0_areSteps_31 (lv_at hl 0 rfl) ?_
        refine jv_if_eq (tgt := 64) hx hb dX0_areSteps_33 (by decide) ⟨by omega, by omega⟩ (fun c_33 => ?_) (fun c_33 => ?_)
        · refine jv_iconst hx hb dX0_areSteps_64 ?_
          refine lv_istore (lv' := [(4, .int (jI 0)), (0, .int (jI a2)), (1, .int (jI b2)), (2, .int (jI c2)), (3, .int (jI d2))]) hx hb dX0_areSteps_65 hl (by decide) rfl (fun ls hl => ?_)
          refine lv_iload hx hb dX0_areSteps_67 (lv_at hl 0 rfl) ?_
          refine jv_if_eq (tgt := 86) hx hb dX0_areSteps_69 (by decide) ⟨by omega, by omega⟩ (fun c_69 => ?_) (fun c_69 => ?_)
          · refine jv_iconst hx hb dX0_areSteps_86 ?_
            exact ms_retz hx hb hr hlk (by rw [okB_no (fun q => by unfold ok_ at q; omega)]; rfl) ⟨false, rfl⟩ dX0_areSteps_87
          · exact absurd c_69 (by decide)
        · exact absurd c_33 (by decide)
      · refine lv_iload_n hx hb dX0_areSteps_18 rfl (lv_at hl 1 rfl) ?_
        refine jv_bipush hx hb dX0_areSteps_19 (by decide) ?_
        refine jv_icmp_gt (tgt := 28) hx hb dX0_areSteps_21 (by decide) ⟨by omega, by omega⟩ ⟨by omega, by omega⟩ (fun c_21 => ?_) (fun c_21 => ?_)
        · refine jv_iconst hx hb dX0_areSteps_28 ?_
          refine lv_istore (lv' := [(4, .int (jI 0)), (0, .int (jI a2)), (1, .int (jI b2)), (2, .int (jI c2)), (3, .int (jI d2))]) hx hb dX0_areSteps_29 hl (by decide) rfl (fun ls hl => ?_)
          refine lv_iload hx hb dX0_areSteps_31 (lv_at hl 0 rfl) ?_
          refine jv_if_eq (tgt := 64) hx hb dX0_areSteps_33 (by decide) ⟨by omega, by omega⟩ (fun c_33 => ?_) (fun c_33 => ?_)
          · refine jv_iconst hx hb dX0_areSteps_64 ?_
            refine lv_istore (lv' := [(4, .int (jI 0)), (0, .int (jI a2)), (1, .int (jI b2)), (2, .int (jI c2)), (3, .int (jI d2))]) hx hb dX0_areSteps_65 hl (by decide) rfl (fun ls hl => ?_)
            refine lv_iload hx hb dX0_areSteps_67 (lv_at hl 0 rfl) ?_
            refine jv_if_eq (tgt := 86) hx hb dX0_areSteps_69 (by decide) ⟨by omega, by omega⟩ (fun c_69 => ?_) (fun c_69 => ?_)
            · refine jv_iconst hx hb dX0_areSteps_86 ?_
              exact ms_retz hx hb hr hlk (by rw [okB_no (fun q => by unfold ok_ at q; omega)]; rfl) ⟨false, rfl⟩ dX0_areSteps_87
            · exact absurd c_69 (by decide)
          · exact absurd c_33 (by decide)
        · refine jv_iconst hx hb dX0_areSteps_24 ?_
          refine lv_goto (tgt := 29) hx hb dX0_areSteps_25 (by decide) ?_
          refine lv_istore (lv' := [(4, .int (jI 1)), (0, .int (jI a2)), (1, .int (jI b2)), (2, .int (jI c2)), (3, .int (jI d2))]) hx hb dX0_areSteps_29 hl (by decide) rfl (fun ls hl => ?_)
          refine lv_iload hx hb dX0_areSteps_31 (lv_at hl 0 rfl) ?_
          refine jv_if_eq (tgt := 64) hx hb dX0_areSteps_33 (by decide) ⟨by omega, by omega⟩ (fun c_33 => ?_) (fun c_33 => ?_)
          · exact absurd c_33 (by decide)
          · refine lv_iload_n hx hb dX0_areSteps_36 rfl (lv_at hl 3 rfl) ?_
            refine jv_bipush hx hb dX0_areSteps_37 (by decide) ?_
            refine jv_icmp_lt (tgt := 64) hx hb dX0_areSteps_39 (by decide) ⟨by omega, by omega⟩ ⟨by omega, by omega⟩ (fun c_39 => ?_) (fun c_39 => ?_)
            · refine jv_iconst hx hb dX0_areSteps_64 ?_
              refine lv_istore (lv' := [(4, .int (jI 0)), (0, .int (jI a2)), (1, .int (jI b2)), (2, .int (jI c2)), (3, .int (jI d2))]) hx hb dX0_areSteps_65 hl (by decide) rfl (fun ls hl => ?_)
              refine lv_iload hx hb dX0_areSteps_67 (lv_at hl 0 rfl) ?_
              refine jv_if_eq (tgt := 86) hx hb dX0_areSteps_69 (by decide) ⟨by omega, by omega⟩ (fun c_69 => ?_) (fun c_69 => ?_)
              · refine jv_iconst hx hb dX0_areSteps_86 ?_
                exact ms_retz hx hb hr hlk (by rw [okB_no (fun q => by unfold ok_ at q; omega)]; rfl) ⟨false, rfl⟩ dX0_areSteps_87
              · exact absurd c_69 (by decide)
            · refine lv_iload_n hx hb dX0_areSteps_42 rfl (lv_at hl 3 rfl) ?_
              refine jv_bipush hx hb dX0_areSteps_43 (by decide) ?_
              refine jv_icmp_gt (tgt := 64) hx hb dX0_areSteps_45 (by decide) ⟨by omega, by omega⟩ ⟨by omega, by omega⟩ (fun c_45 => ?_) (fun c_45 => ?_)
              · refine jv_iconst hx hb dX0_areSteps_64 ?_
                refine lv_istore (lv' := [(4, .int (jI 0)), (0, .int (jI a2)), (1, .int (jI b2)), (2, .int (jI c2)), (3, .int (jI d2))]) hx hb dX0_areSteps_65 hl (by decide) rfl (fun ls hl => ?_)
                refine lv_iload hx hb dX0_areSteps_67 (lv_at hl 0 rfl) ?_
                refine jv_if_eq (tgt := 86) hx hb dX0_areSteps_69 (by decide) ⟨by omega, by omega⟩ (fun c_69 => ?_) (fun c_69 => ?_)
                · refine jv_iconst hx hb dX0_areSteps_86 ?_
                  exact ms_retz hx hb hr hlk (by rw [okB_no (fun q => by unfold ok_ at q; omega)]; rfl) ⟨false, rfl⟩ dX0_areSteps_87
                · exact absurd c_69 (by decide)
              · refine lv_iload_n hx hb dX0_areSteps_48 rfl (lv_at hl 4 rfl) ?_
                refine jv_bipush hx hb dX0_areSteps_49 (by decide) ?_
                refine jv_icmp_lt (tgt := 64) hx hb dX0_areSteps_51 (by decide) ⟨by omega, by omega⟩ ⟨by omega, by omega⟩ (fun c_51 => ?_) (fun c_51 => ?_)
                · refine jv_iconst hx hb dX0_areSteps_64 ?_
                  refine lv_istore (lv' := [(4, .int (jI 0)), (0, .int (jI a2)), (1, .int (jI b2)), (2, .int (jI c2)), (3, .int (jI d2))]) hx hb dX0_areSteps_65 hl (by decide) rfl (fun ls hl => ?_)
                  refine lv_iload hx hb dX0_areSteps_67 (lv_at hl 0 rfl) ?_
                  refine jv_if_eq (tgt := 86) hx hb dX0_areSteps_69 (by decide) ⟨by omega, by omega⟩ (fun c_69 => ?_) (fun c_69 => ?_)
                  · refine jv_iconst hx hb dX0_areSteps_86 ?_
                    exact ms_retz hx hb hr hlk (by rw [okB_no (fun q => by unfold ok_ at q; omega)]; rfl) ⟨false, rfl⟩ dX0_areSteps_87
                  · exact absurd c_69 (by decide)
                · refine lv_iload_n hx hb dX0_areSteps_54 rfl (lv_at hl 4 rfl) ?_
                  refine jv_bipush hx hb dX0_areSteps_55 (by decide) ?_
                  refine jv_icmp_gt (tgt := 64) hx hb dX0_areSteps_57 (by decide) ⟨by omega, by omega⟩ ⟨by omega, by omega⟩ (fun c_57 => ?_) (fun c_57 => ?_)
                  · refine jv_iconst hx hb dX0_areSteps_64 ?_
                    refine lv_istore (lv' := [(4, .int (jI 0)), (0, .int (jI a2)), (1, .int (jI b2)), (2, .int (jI c2)), (3, .int (jI d2))]) hx hb dX0_areSteps_65 hl (by decide) rfl (fun ls hl => ?_)
                    refine lv_iload hx hb dX0_areSteps_67 (lv_at hl 0 rfl) ?_
                    refine jv_if_eq (tgt := 86) hx hb dX0_areSteps_69 (by decide) ⟨by omega, by omega⟩ (fun c_69 => ?_) (fun c_69 => ?_)
                    · refine jv_iconst hx hb dX0_areSteps_86 ?_
                      exact ms_retz hx hb hr hlk (by rw [okB_no (fun q => by unfold ok_ at q; omega)]; rfl) ⟨false, rfl⟩ dX0_areSteps_87
                    · exact absurd c_69 (by decide)
                  · refine jv_iconst hx hb dX0_areSteps_60 ?_
                    refine lv_goto (tgt := 65) hx hb dX0_areSteps_61 (by decide) ?_
                    refine lv_istore (lv' := [(4, .int (jI 1)), (0, .int (jI a2)), (1, .int (jI b2)), (2, .int (jI c2)), (3, .int (jI d2))]) hx hb dX0_areSteps_65 hl (by decide) rfl (fun ls hl => ?_)
                    refine lv_iload hx hb dX0_areSteps_67 (lv_at hl 0 rfl) ?_
                    refine jv_if_eq (tgt := 86) hx hb dX0_areSteps_69 (by decide) ⟨by omega, by omega⟩ (fun c_69 => ?_) (fun c_69 => ?_)
                    · exact absurd c_69 (by decide)
                    · refine lv_iload_n hx hb dX0_areSteps_72 rfl (lv_at hl 1 rfl) ?_
                      refine lv_iload_n hx hb dX0_areSteps_73 rfl (lv_at hl 4 rfl) ?_
                      refine jv_imul hx hb dX0_areSteps_74 ?_
                      refine lv_iload_n hx hb dX0_areSteps_75 rfl (lv_at hl 2 rfl) ?_
                      refine lv_iload_n hx hb dX0_areSteps_76 rfl (lv_at hl 3 rfl) ?_
                      refine jv_imul hx hb dX0_areSteps_77 ?_
                      refine jv_isub hx hb dX0_areSteps_78 ?_
                      have w1 := pr_bd (x := a2) (y := d2) (M := 30) (N := 30) (by omega) (by omega) (by omega) (by omega)
                      have w2 := pr_bd (x := b2) (y := c2) (M := 30) (N := 30) (by omega) (by omega) (by omega) (by omega)
                      refine jv_if_eq (tgt := 86) hx hb dX0_areSteps_79 (by decide) ⟨by omega, by omega⟩ (fun c_79 => ?_) (fun c_79 => ?_)
                      · refine jv_iconst hx hb dX0_areSteps_86 ?_
                        exact ms_retz hx hb hr hlk (by rw [okB_no (fun q => by unfold ok_ at q; omega)]; rfl) ⟨false, rfl⟩ dX0_areSteps_87
                      · refine jv_iconst hx hb dX0_areSteps_82 ?_
                        refine lv_goto (tgt := 87) hx hb dX0_areSteps_83 (by decide) ?_
                        exact ms_retz hx hb hr hlk (by rw [okB_iff.mpr (show ok_ a2 b2 c2 d2 by unfold ok_; omega)]; rfl) ⟨true, rfl⟩ dX0_areSteps_87
abbrev rm_X1_bad : Room := { frames := 0, cells := 0, slots := 0, locals := 0 }
theorem dn_X1_bad : yX1_bad.cls ≠ "java/lang/invoke/MethodHandle" ∧ yX1_bad.cls ≠ "java/lang/invoke/VarHandle" ∧ (parseMethodDescriptor yX1_bad.desc).map (fun d => d.parameters.length) = some 1 := by decide +kernel
set_option maxHeartbeats 4000000 in
set_option maxRecDepth 100000 in
/-- bad -/
theorem met_X1_bad (l : Launch) (n : Int) (h1 : rI n) : ms_ l yX1_bad cX1_bad 1 (some .boolean) rm_X1_bad [.int (jI n)] (b2_ (baB_ n)) := by
  refine ms_of (by decide) (Nat.le_of_ble_eq_true rfl) ?_
  intro p e s m args below meth c hx hb hown hts hr hlk ls hl
  have hown : s.vm.findClass RX1 = some m.cls := hown
  have hl : lv_has ls 1 [(0, .int (jI n))] := hl
  refine lv_iload_n hx hb dX1_bad_0 rfl (lv_at hl 0 rfl) ?_
  refine jv_bipush hx hb dX1_bad_1 (by decide) ?_
  refine jv_icmp_lt (tgt := 12) hx hb dX1_bad_3 (by decide) ⟨by omega, by omega⟩ ⟨by omega, by omega⟩ (fun c_3 => ?_) (fun c_3 => ?_)
  · refine jv_iconst hx hb dX1_bad_12 ?_
    refine lv_goto (tgt := 17) hx hb dX1_bad_13 (by decide) ?_
    exact ms_retz hx hb hr hlk (by rw [baB_t (by omega)]; rfl) ⟨true, rfl⟩ dX1_bad_17
  · refine lv_iload_n hx hb dX1_bad_6 rfl (lv_at hl 0 rfl) ?_
    refine jv_bipush hx hb dX1_bad_7 (by decide) ?_
    refine jv_icmp_le (tgt := 16) hx hb dX1_bad_9 (by decide) ⟨by omega, by omega⟩ ⟨by omega, by omega⟩ (fun c_9 => ?_) (fun c_9 => ?_)
    · refine jv_iconst hx hb dX1_bad_16 ?_
      exact ms_retz hx hb hr hlk (by rw [baB_f (by omega)]; rfl) ⟨false, rfl⟩ dX1_bad_17
    · refine jv_iconst hx hb dX1_bad_12 ?_
      refine lv_goto (tgt := 17) hx hb dX1_bad_13 (by decide) ?_
      exact ms_retz hx hb hr hlk (by rw [baB_t (by omega)]; rfl) ⟨true, rfl⟩ dX1_bad_17
abbrev rm_X1_in : Room := { frames := 0, cells := 0, slots := 0, locals := 0 }
theorem dn_X1_in : yX1_in.cls ≠ "java/lang/invoke/MethodHandle" ∧ yX1_in.cls ≠ "java/lang/invoke/VarHandle" ∧ (parseMethodDescriptor yX1_in.desc).map (fun d => d.parameters.length) = some 6 := by decide +kernel
set_option maxHeartbeats 4000000 in
set_option maxRecDepth 100000 in
/-- in -/
theorem met_X1_in (l : Launch) (x y a2 b2 c2 d2 : Int) (hk : ok_ a2 b2 c2 d2) (hX : -100000 ≤ x ∧ x ≤ 100000) (hY : -100000 ≤ y ∧ y ≤ 100000) : ms_ l yX1_in cX1_in 7 (some .boolean) rm_X1_in [.int (jI x), .int (jI y), .int (jI a2), .int (jI b2), .int (jI c2), .int (jI d2)] (b2_ (inB_ a2 b2 c2 d2 x y)) := by
  refine ms_of (by decide) (Nat.le_of_ble_eq_true rfl) ?_
  intro p e s m args below meth c hx hb hown hts hr hlk ls hl
  have hown : s.vm.findClass RX1 = some m.cls := hown
  have hl : lv_has ls 7 [(0, .int (jI x)), (1, .int (jI y)), (2, .int (jI a2)), (3, .int (jI b2)), (4, .int (jI c2)), (5, .int (jI d2))] := hl
  obtain ⟨k1, k2, k3, k4, k5, k6, k7, k8, k9⟩ := id hk
  have w1 := pr_bd (x := a2) (y := d2) (M := 30) (N := 30) (by omega) (by omega) (by omega) (by omega)
  have w2 := pr_bd (x := b2) (y := c2) (M := 30) (N := 30) (by omega) (by omega) (by omega) (by omega)
  have w3 := pr_bd (x := x) (y := d2) (M := 100000) (N := 30) (by omega) (by omega) (by omega) (by omega)
  have w4 := pr_bd (x := y) (y := c2) (M := 100000) (N := 30) (by omega) (by omega) (by omega) (by omega)
  have w5 := pr_bd (x := y) (y := a2) (M := 100000) (N := 30) (by omega) (by omega) (by omega) (by omega)
  have w6 := pr_bd (x := x) (y := b2) (M := 100000) (N := 30) (by omega) (by omega) (by omega) (by omega)
  refine lv_iload_n hx hb dX1_in_0 rfl (lv_at hl 2 rfl) ?_
  refine lv_iload hx hb dX1_in_1 (lv_at hl 5 rfl) ?_
  refine jv_imul hx hb dX1_in_3 ?_
  refine lv_iload_n hx hb dX1_in_4 rfl (lv_at hl 3 rfl) ?_
  refine lv_iload hx hb dX1_in_5 (lv_at hl 4 rfl) ?_
  refine jv_imul hx hb dX1_in_7 ?_
  refine jv_isub hx hb dX1_in_8 ?_
  refine lv_istore (lv' := [(6, .int (jI ((a2 * d2) - (b2 * c2)))), (0, .int (jI x)), (1, .int (jI y)), (2, .int (jI a2)), (3, .int (jI b2)), (4, .int (jI c2)), (5, .int (jI d2))]) hx hb dX1_in_9 hl (by decide) rfl (fun ls hl => ?_)
  refine lv_iload hx hb dX1_in_11 (lv_at hl 0 rfl) ?_
  refine jv_if_ne (tgt := 18) hx hb dX1_in_13 (by decide) ⟨by omega, by omega⟩ (fun c_13 => ?_) (fun c_13 => ?_)
  · refine lv_iload_n hx hb dX1_in_18 rfl (lv_at hl 1 rfl) ?_
    refine lv_iload hx hb dX1_in_19 (lv_at hl 6 rfl) ?_
    refine jv_imul hx hb dX1_in_21 ?_
    refine lv_iload_n hx hb dX1_in_22 rfl (lv_at hl 2 rfl) ?_
    refine lv_iload hx hb dX1_in_23 (lv_at hl 5 rfl) ?_
    refine jv_imul hx hb dX1_in_25 ?_
    refine jv_isub hx hb dX1_in_26 ?_
    refine lv_iload hx hb dX1_in_27 (lv_at hl 0 rfl) ?_
    refine jv_irem hx hb dX1_in_29 ⟨by omega, by omega⟩ ⟨by omega, by omega⟩ c_13 ?_
    refine jv_if_ne (tgt := 50) hx hb dX1_in_30 (by decide) (tm_rng _ ⟨by omega, by omega⟩) (fun c_30 => ?_) (fun c_30 => ?_)
    · refine jv_iconst hx hb dX1_in_50 ?_
      exact ms_retz hx hb hr hlk (by first | exact in_no1 c_30 | exact in_no2m c_43) ⟨false, rfl⟩ dX1_in_51
    · refine lv_iload_n hx hb dX1_in_33 rfl (lv_at hl 2 rfl) ?_
      refine lv_iload_n hx hb dX1_in_34 rfl (lv_at hl 3 rfl) ?_
      refine jv_imul hx hb dX1_in_35 ?_
      refine lv_iload_n hx hb dX1_in_36 rfl (lv_at hl 1 rfl) ?_
      refine lv_iload_n hx hb dX1_in_37 rfl (lv_at hl 4 rfl) ?_
      refine jv_imul hx hb dX1_in_38 ?_
      refine jv_isub hx hb dX1_in_39 ?_
      refine lv_iload hx hb dX1_in_40 (lv_at hl 0 rfl) ?_
      refine jv_irem hx hb dX1_in_42 ⟨by omega, by omega⟩ ⟨by omega, by omega⟩ c_13 ?_
      refine jv_if_ne (tgt := 50) hx hb dX1_in_43 (by decide) (tm_rng _ ⟨by omega, by omega⟩) (fun c_43 => ?_) (fun c_43 => ?_)
      · refine jv_iconst hx hb dX1_in_50 ?_
        exact ms_retz hx hb hr hlk (by first | exact in_no1 c_30 | exact in_no2m c_43) ⟨false, rfl⟩ dX1_in_51
      · refine jv_iconst hx hb dX1_in_46 ?_
        refine lv_goto (tgt := 51) hx hb dX1_in_47 (by decide) ?_
        exact ms_retz hx hb hr hlk (in_yesm c_30 c_43) ⟨true, rfl⟩ dX1_in_51
  · exact absurd c_13 k9
abbrev rm_X0_rootOf : Room := { frames := 0, cells := 0, slots := 0, locals := 0 }
theorem dn_X0_rootOf : yX0_rootOf.cls ≠ "java/lang/invoke/MethodHandle" ∧ yX0_rootOf.cls ≠ "java/lang/invoke/VarHandle" ∧ (parseMethodDescriptor yX0_rootOf.desc).map (fun d => d.parameters.length) = some 1 := by decide +kernel
set_option maxHeartbeats 4000000 in
set_option maxRecDepth 100000 in
theorem lp_X0_rootOf {p : Program} {l : Launch} {e : Env} {s : State} {m : MethodId} {args : Array Value} {below : List Frame} {meth : Method} {c : Code} (hx : p.tables.exec = Jvm.exec) (hb : c.code = cX0_rootOf) (hr : meth.sig.returnType = some .int) (hlk : meth.locks = false) (x : Int) (h0 : 0 ≤ x) (h1 : rI x) : ∀ (n : Nat) (r v : Int) (ls : Array Slot), n ≤ 16 → 0 ≤ r → r + 2 * bt_ n ≤ 70000 → rt_ x n r = v → lv_has ls 5 [(0, .int (jI x)), (1, .int (jI r)), (2, .int (jI (bt_ n)))] → W p l e rm_X0_rootOf s m args below meth c s.heap [] 0 0 (MQ below (qs_ v s.heap.size) args s 0 0 (va_A [] s.heap.size)) (F0 m 5 ls []) := by
  intro n
  induction n with
  | zero =>
    intro r v ls hn hr0 hr1 hv hl
    have hb0 : bt_ 0 = 0 := rfl
    refine lv_iload_n hx hb dX0_rootOf_5 rfl (lv_at hl 2 rfl) ?_
    refine jv_if_le (tgt := 38) hx hb dX0_rootOf_6 (by decide) ⟨by omega, by omega⟩ (fun c_6 => ?_) (fun c_6 => ?_)
    · refine lv_iload_n hx hb dX0_rootOf_38 rfl (lv_at hl 1 rfl) ?_
      exact ms_reti hx hb hr hlk hv dX0_rootOf_39
    · exfalso; omega
  | succ n ih =>
    intro r v ls hn hr0 hr1 hv hl
    have hb1 := bt_pos n
    have hb2 := bt_rng (n + 1) hn
    have hb3 : 2 * bt_ n ≤ bt_ (n + 1) := bt_dbl n
    have hb4 := bt_rng n (by omega)
    refine lv_iload_n hx hb dX0_rootOf_5 rfl (lv_at hl 2 rfl) ?_
    refine jv_if_le (tgt := 38) hx hb dX0_rootOf_6 (by decide) ⟨by omega, by omega⟩ (fun c_6 => ?_) (fun c_6 => ?_)
    · exfalso; omega
    · refine lv_iload_n hx hb dX0_rootOf_9 rfl (lv_at hl 1 rfl) ?_
      refine lv_iload_n hx hb dX0_rootOf_10 rfl (lv_at hl 2 rfl) ?_
      refine jv_iadd hx hb dX0_rootOf_11 ?_
      refine jv_i2l hx hb dX0_rootOf_12 ⟨by omega, by omega⟩ ?_
      refine lv_lstore_n (lv' := [(3, .long (kL (r + (bt_ (n + 1))))), (0, .int (jI x)), (1, .int (jI r)), (2, .int (jI (bt_ (n + 1))))]) hx hb dX0_rootOf_13 rfl hl (by decide) rfl (fun ls hl => ?_)
      refine lv_lload_n hx hb dX0_rootOf_14 rfl (lv_at hl 0 rfl) ?_
      refine lv_lload_n hx hb dX0_rootOf_15 rfl (lv_at hl 0 rfl) ?_
      refine jv_lmul hx hb dX0_rootOf_16 ?_
      refine lv_iload_n hx hb dX0_rootOf_17 rfl (lv_at hl 1 rfl) ?_
      refine jv_i2l hx hb dX0_rootOf_18 h1 ?_
      have s1 := sq_le (x := r + bt_ (n + 1)) (M := 70000) (by omega) (by omega)
      have s2 := sqn_ (r + bt_ (n + 1))
      refine jv_lcmp_gt (tgt := 29) hx hb dX0_rootOf_19 dX0_rootOf_20 (by decide) ⟨by omega, by omega⟩ ⟨by omega, by omega⟩ (fun c_19 => ?_) (fun c_19 => ?_)
      · have c_20' : ¬ (r + bt_ (n + 1)) * (r + bt_ (n + 1)) ≤ x := by omega
        refine lv_iload_n hx hb dX0_rootOf_29 rfl (lv_at hl 2 rfl) ?_
        refine lv_istore_n (lv' := [(1, .int (jI r)), (3, .long (kL (r + (bt_ (n + 1))))), (0, .int (jI x)), (2, .int (jI (bt_ (n + 1))))]) hx hb dX0_rootOf_30 rfl hl (by decide) rfl (fun ls hl => ?_)
        refine lv_iload_n hx hb dX0_rootOf_31 rfl (lv_at hl 3 rfl) ?_
        refine jv_iconst hx hb dX0_rootOf_32 ?_
        refine jv_idiv hx hb dX0_rootOf_33 ⟨by omega, by omega⟩ ⟨by omega, by omega⟩ (by omega) ?_
        refine jv_as (bt_div n) ?_
        refine lv_istore_n (lv' := [(2, .int (jI (bt_ n))), (1, .int (jI r)), (3, .long (kL (r + (bt_ (n + 1))))), (0, .int (jI x))]) hx hb dX0_rootOf_34 rfl hl (by decide) rfl (fun ls hl => ?_)
        refine lv_goto (tgt := 5) hx hb dX0_rootOf_35 (by decide) ?_
        exact ih r v ls (by omega) (by omega) (by omega) ((congrArg (rt_ x n) (if_neg c_20').symm).trans hv) (lv_sub hl [3, 1, 0] rfl)
      · have c_20' : (r + bt_ (n + 1)) * (r + bt_ (n + 1)) ≤ x := by omega
        refine lv_iload_n hx hb dX0_rootOf_23 rfl (lv_at hl 2 rfl) ?_
        refine lv_iload_n hx hb dX0_rootOf_24 rfl (lv_at hl 3 rfl) ?_
        refine jv_iadd hx hb dX0_rootOf_25 ?_
        refine lv_goto (tgt := 30) hx hb dX0_rootOf_26 (by decide) ?_
        refine lv_istore_n (lv' := [(1, .int (jI (r + (bt_ (n + 1))))), (3, .long (kL (r + (bt_ (n + 1))))), (0, .int (jI x)), (2, .int (jI (bt_ (n + 1))))]) hx hb dX0_rootOf_30 rfl hl (by decide) rfl (fun ls hl => ?_)
        refine lv_iload_n hx hb dX0_rootOf_31 rfl (lv_at hl 3 rfl) ?_
        refine jv_iconst hx hb dX0_rootOf_32 ?_
        refine jv_idiv hx hb dX0_rootOf_33 ⟨by omega, by omega⟩ ⟨by omega, by omega⟩ (by omega) ?_
        refine jv_as (bt_div n) ?_
        refine lv_istore_n (lv' := [(2, .int (jI (bt_ n))), (1, .int (jI (r + (bt_ (n + 1))))), (3, .long (kL (r + (bt_ (n + 1))))), (0, .int (jI x))]) hx hb dX0_rootOf_34 rfl hl (by decide) rfl (fun ls hl => ?_)
        refine lv_goto (tgt := 5) hx hb dX0_rootOf_35 (by decide) ?_
        exact ih (r + (bt_ (n + 1))) v ls (by omega) (by omega) (by omega) ((congrArg (rt_ x n) (if_pos c_20').symm).trans hv) (lv_sub hl [3, 1, 0] rfl)
set_option maxHeartbeats 4000000 in
set_option maxRecDepth 100000 in
/-- rootOf -/
theorem met_X0_rootOf (l : Launch) (x : Int) (h0 : 0 ≤ x) (h1 : rI x) : ms_ l yX0_rootOf cX0_rootOf 5 (some .int) rm_X0_rootOf [.int (jI x)] (rt_ x 16 0) := by
  refine ms_of (by decide) (Nat.le_of_ble_eq_true rfl) ?_
  intro p e s m args below meth c hx hb hown hts hr hlk ls hl
  have hown : s.vm.findClass RX0 = some m.cls := hown
  have hl : lv_has ls 5 [(0, .int (jI x))] := hl
  refine jv_iconst hx hb dX0_rootOf_0 ?_
  refine lv_istore_n (lv' := [(1, .int (jI 0)), (0, .int (jI x))]) hx hb dX0_rootOf_1 rfl hl (by decide) rfl (fun ls hl => ?_)
  refine jv_ldc (n := 32768) hx hb hown (hts _ q126) (by decide) dX0_rootOf_2 ?_
  refine lv_istore_n (lv' := [(2, .int (jI 32768)), (1, .int (jI 0)), (0, .int (jI x))]) hx hb dX0_rootOf_4 rfl hl (by decide) rfl (fun ls hl => ?_)
  exact lp_X0_rootOf hx hb hr hlk x h0 h1 16 0 _ ls (by decide) (by decide) (by decide) rfl (lv_sub hl [2, 1, 0] rfl)
/-! ===== walks: the class's plain methods ===== -/
abbrev rm_X0_shortest : Room := { frames := 0, cells := 0, slots := 0, locals := 0 }
theorem dn_X0_shortest : yX0_shortest.cls = RX0 ∧ yX0_shortest.cls ≠ "java/lang/invoke/MethodHandle" ∧ yX0_shortest.cls ≠ "java/lang/invoke/VarHandle" ∧ (parseMethodDescriptor yX0_shortest.desc).map (fun d => d.parameters.length) = some 0 := by decide +kernel
set_option maxHeartbeats 4000000 in
set_option maxRecDepth 100000 in
/-- shortest -/
theorem met_X0_shortest (l : Launch) (h0 : Nat) (fa fb fc fd px py qx qy bs bu bv : Int) : mi_ l yX0_shortest cX0_shortest 1 (some .int) rm_X0_shortest h0 0 [] [.int (jI fa), .int (jI fb), .int (jI fc), .int (jI fd), .int (jI px), .int (jI py), .int (jI qx), .int (jI qy), .int (jI bs), .int (jI bu), .int (jI bv)] [.int (jI fa), .int (jI fb), .int (jI fc), .int (jI fd), .int (jI px), .int (jI py), .int (jI qx), .int (jI qy), .int (jI bs), .int (jI bu), .int (jI bv)] (nm_ px py) := by
  refine mi_of (by decide) (Nat.le_of_ble_eq_true rfl) ?_
  intro p e s m args below meth c D A C hW ls hl
  have C : cx_ p s m args meth c cX0_shortest 1 RX0 (some .int) D A := C
  have hx := C.1
  have hb := C.2.1
  have hown := C.2.2.2.1
  have hts := C.2.2.2.2.1
  have hl : lv_has ls 1 [(0, .ref h0)] := hl
  refine lv_aload_n hx hb dX0_shortest_0 rfl (lv_at hl 0 rfl) ?_
  refine g0_px C hW dX0_shortest_1 ?_
  refine lv_aload_n hx hb dX0_shortest_4 rfl (lv_at hl 0 rfl) ?_
  refine g0_px C hW dX0_shortest_5 ?_
  refine jv_imul hx hb dX0_shortest_8 ?_
  refine lv_aload_n hx hb dX0_shortest_9 rfl (lv_at hl 0 rfl) ?_
  refine g0_py C hW dX0_shortest_10 ?_
  refine lv_aload_n hx hb dX0_shortest_13 rfl (lv_at hl 0 rfl) ?_
  refine g0_py C hW dX0_shortest_14 ?_
  refine jv_imul hx hb dX0_shortest_17 ?_
  refine jv_iadd hx hb dX0_shortest_18 ?_
  exact mi_reti C hW rfl rfl dX0_shortest_19
abbrev rm_X0_second : Room := { frames := 0, cells := 0, slots := 0, locals := 0 }
theorem dn_X0_second : yX0_second.cls = RX0 ∧ yX0_second.cls ≠ "java/lang/invoke/MethodHandle" ∧ yX0_second.cls ≠ "java/lang/invoke/VarHandle" ∧ (parseMethodDescriptor yX0_second.desc).map (fun d => d.parameters.length) = some 0 := by decide +kernel
set_option maxHeartbeats 4000000 in
set_option maxRecDepth 100000 in
/-- second -/
theorem met_X0_second (l : Launch) (h0 : Nat) (fa fb fc fd px py qx qy bs bu bv : Int) : mi_ l yX0_second cX0_second 1 (some .int) rm_X0_second h0 0 [] [.int (jI fa), .int (jI fb), .int (jI fc), .int (jI fd), .int (jI px), .int (jI py), .int (jI qx), .int (jI qy), .int (jI bs), .int (jI bu), .int (jI bv)] [.int (jI fa), .int (jI fb), .int (jI fc), .int (jI fd), .int (jI px), .int (jI py), .int (jI qx), .int (jI qy), .int (jI bs), .int (jI bu), .int (jI bv)] (nm_ qx qy) := by
  refine mi_of (by decide) (Nat.le_of_ble_eq_true rfl) ?_
  intro p e s m args below meth c D A C hW ls hl
  have C : cx_ p s m args meth c cX0_second 1 RX0 (some .int) D A := C
  have hx := C.1
  have hb := C.2.1
  have hown := C.2.2.2.1
  have hts := C.2.2.2.2.1
  have hl : lv_has ls 1 [(0, .ref h0)] := hl
  refine lv_aload_n hx hb dX0_second_0 rfl (lv_at hl 0 rfl) ?_
  refine g0_qx C hW dX0_second_1 ?_
  refine lv_aload_n hx hb dX0_second_4 rfl (lv_at hl 0 rfl) ?_
  refine g0_qx C hW dX0_second_5 ?_
  refine jv_imul hx hb dX0_second_8 ?_
  refine lv_aload_n hx hb dX0_second_9 rfl (lv_at hl 0 rfl) ?_
  refine g0_qy C hW dX0_second_10 ?_
  refine lv_aload_n hx hb dX0_second_13 rfl (lv_at hl 0 rfl) ?_
  refine g0_qy C hW dX0_second_14 ?_
  refine jv_imul hx hb dX0_second_17 ?_
  refine jv_iadd hx hb dX0_second_18 ?_
  exact mi_reti C hW rfl rfl dX0_second_19
abbrev rm_X0_area : Room := { frames := 0, cells := 0, slots := 0, locals := 0 }
theorem dn_X0_area : yX0_area.cls = RX0 ∧ yX0_area.cls ≠ "java/lang/invoke/MethodHandle" ∧ yX0_area.cls ≠ "java/lang/invoke/VarHandle" ∧ (parseMethodDescriptor yX0_area.desc).map (fun d => d.parameters.length) = some 0 := by decide +kernel
set_option maxHeartbeats 4000000 in
set_option maxRecDepth 100000 in
/-- area -/
theorem met_X0_area (l : Launch) (h0 : Nat) (fa fb fc fd px py qx qy bs bu bv : Int) : mi_ l yX0_area cX0_area 1 (some .int) rm_X0_area h0 0 [] [.int (jI fa), .int (jI fb), .int (jI fc), .int (jI fd), .int (jI px), .int (jI py), .int (jI qx), .int (jI qy), .int (jI bs), .int (jI bu), .int (jI bv)] [.int (jI fa), .int (jI fb), .int (jI fc), .int (jI fd), .int (jI px), .int (jI py), .int (jI qx), .int (jI qy), .int (jI bs), .int (jI bu), .int (jI bv)] (px * qy - py * qx) := by
  refine mi_of (by decide) (Nat.le_of_ble_eq_true rfl) ?_
  intro p e s m args below meth c D A C hW ls hl
  have C : cx_ p s m args meth c cX0_area 1 RX0 (some .int) D A := C
  have hx := C.1
  have hb := C.2.1
  have hown := C.2.2.2.1
  have hts := C.2.2.2.2.1
  have hl : lv_has ls 1 [(0, .ref h0)] := hl
  refine lv_aload_n hx hb dX0_area_0 rfl (lv_at hl 0 rfl) ?_
  refine g0_px C hW dX0_area_1 ?_
  refine lv_aload_n hx hb dX0_area_4 rfl (lv_at hl 0 rfl) ?_
  refine g0_qy C hW dX0_area_5 ?_
  refine jv_imul hx hb dX0_area_8 ?_
  refine lv_aload_n hx hb dX0_area_9 rfl (lv_at hl 0 rfl) ?_
  refine g0_py C hW dX0_area_10 ?_
  refine lv_aload_n hx hb dX0_area_13 rfl (lv_at hl 0 rfl) ?_
  refine g0_qx C hW dX0_area_14 ?_
  refine jv_imul hx hb dX0_area_17 ?_
  refine jv_isub hx hb dX0_area_18 ?_
  exact mi_reti C hW rfl rfl dX0_area_19
abbrev rm_X0_exchange : Room := { frames := 0, cells := 0, slots := 0, locals := 0 }
theorem dn_X0_exchange : yX0_exchange.cls = RX0 ∧ yX0_exchange.cls ≠ "java/lang/invoke/MethodHandle" ∧ yX0_exchange.cls ≠ "java/lang/invoke/VarHandle" ∧ (parseMethodDescriptor yX0_exchange.desc).map (fun d => d.parameters.length) = some 0 := by decide +kernel
set_option maxHeartbeats 4000000 in
set_option maxRecDepth 100000 in
/-- exchange -/
theorem met_X0_exchange (l : Launch) (h0 : Nat) (fa fb fc fd px py qx qy bs bu bv : Int) : mv_ l yX0_exchange cX0_exchange 3 none rm_X0_exchange h0 0 [] [.int (jI fa), .int (jI fb), .int (jI fc), .int (jI fd), .int (jI px), .int (jI py), .int (jI qx), .int (jI qy), .int (jI bs), .int (jI bu), .int (jI bv)] [.int (jI fa), .int (jI fb), .int (jI fc), .int (jI fd), .int (jI qx), .int (jI qy), .int (jI px), .int (jI py), .int (jI bs), .int (jI bu), .int (jI bv)] := by
  refine mv_of (by decide) (Nat.le_of_ble_eq_true rfl) ?_
  intro p e s m args below meth c D A C hW ls hl
  have C : cx_ p s m args meth c cX0_exchange 3 RX0 none D A := C
  have hx := C.1
  have hb := C.2.1
  have hown := C.2.2.2.1
  have hts := C.2.2.2.2.1
  have hl : lv_has ls 3 [(0, .ref h0)] := hl
  refine lv_aload_n hx hb dX0_exchange_0 rfl (lv_at hl 0 rfl) ?_
  refine g0_px C hW dX0_exchange_1 ?_
  refine lv_istore_n (lv' := [(1, .int (jI px)), (0, .ref h0)]) hx hb dX0_exchange_4 rfl hl (by decide) rfl (fun ls hl => ?_)
  refine lv_aload_n hx hb dX0_exchange_5 rfl (lv_at hl 1 rfl) ?_
  refine g0_py C hW dX0_exchange_6 ?_
  refine lv_istore_n (lv' := [(2, .int (jI py)), (1, .int (jI px)), (0, .ref h0)]) hx hb dX0_exchange_9 rfl hl (by decide) rfl (fun ls hl => ?_)
  refine lv_aload_n hx hb dX0_exchange_10 rfl (lv_at hl 2 rfl) ?_
  refine lv_aload_n hx hb dX0_exchange_11 rfl (lv_at hl 2 rfl) ?_
  refine g0_qx C hW dX0_exchange_12 ?_
  refine p0_px C hW dX0_exchange_15 (fun H locs hW => ?_)
  refine lv_aload_n hx hb dX0_exchange_18 rfl (lv_at hl 2 rfl) ?_
  refine lv_aload_n hx hb dX0_exchange_19 rfl (lv_at hl 2 rfl) ?_
  refine g0_qy C hW dX0_exchange_20 ?_
  refine p0_py C hW dX0_exchange_23 (fun H locs hW => ?_)
  refine lv_aload_n hx hb dX0_exchange_26 rfl (lv_at hl 2 rfl) ?_
  refine lv_iload_n hx hb dX0_exchange_27 rfl (lv_at hl 1 rfl) ?_
  refine p0_qx C hW dX0_exchange_28 (fun H locs hW => ?_)
  refine lv_aload_n hx hb dX0_exchange_31 rfl (lv_at hl 2 rfl) ?_
  refine lv_iload_n hx hb dX0_exchange_32 rfl (lv_at hl 0 rfl) ?_
  refine p0_qy C hW dX0_exchange_33 (fun H locs hW => ?_)
  exact mv_ret C hW rfl dX0_exchange_36
abbrev rm_X0_isPoint : Room := { frames := 0, cells := 0, slots := 0, locals := 0 }
theorem dn_X0_isPoint : yX0_isPoint.cls = RX0 ∧ yX0_isPoint.cls ≠ "java/lang/invoke/MethodHandle" ∧ yX0_isPoint.cls ≠ "java/lang/invoke/VarHandle" ∧ (parseMethodDescriptor yX0_isPoint.desc).map (fun d => d.parameters.length) = some 2 := by decide +kernel
set_option maxHeartbeats 4000000 in
set_option maxRecDepth 100000 in
/-- isPoint -/
theorem met_X0_isPoint (l : Launch) (h0 : Nat) (fa fb fc fd px py qx qy bs bu bv x y : Int) (hk : ok_ fa fb fc fd) (hX : -100000 ≤ x ∧ x ≤ 100000) (hY : -100000 ≤ y ∧ y ≤ 100000) : mi_ l yX0_isPoint cX0_isPoint 4 (some .boolean) rm_X0_isPoint h0 0 [.int (jI x), .int (jI y)] [.int (jI fa), .int (jI fb), .int (jI fc), .int (jI fd), .int (jI px), .int (jI py), .int (jI qx), .int (jI qy), .int (jI bs), .int (jI bu), .int (jI bv)] [.int (jI fa), .int (jI fb), .int (jI fc), .int (jI fd), .int (jI px), .int (jI py), .int (jI qx), .int (jI qy), .int (jI bs), .int (jI bu), .int (jI bv)] (b2_ (inB_ fa fb fc fd x y)) := by
  refine mi_of (by decide) (Nat.le_of_ble_eq_true rfl) ?_
  intro p e s m args below meth c D A C hW ls hl
  have C : cx_ p s m args meth c cX0_isPoint 4 RX0 (some .boolean) D A := C
  have hx := C.1
  have hb := C.2.1
  have hown := C.2.2.2.1
  have hts := C.2.2.2.2.1
  have hl : lv_has ls 4 [(0, .ref h0), (1, .int (jI x)), (2, .int (jI y))] := hl
  obtain ⟨k1, k2, k3, k4, k5, k6, k7, k8, k9⟩ := id hk
  have w1 := pr_bd (x := fa) (y := fd) (M := 30) (N := 30) (by omega) (by omega) (by omega) (by omega)
  have w2 := pr_bd (x := fb) (y := fc) (M := 30) (N := 30) (by omega) (by omega) (by omega) (by omega)
  have w3 := pr_bd (x := x) (y := fd) (M := 100000) (N := 30) (by omega) (by omega) (by omega) (by omega)
  have w4 := pr_bd (x := y) (y := fc) (M := 100000) (N := 30) (by omega) (by omega) (by omega) (by omega)
  have w5 := pr_bd (x := fa) (y := y) (M := 30) (N := 100000) (by omega) (by omega) (by omega) (by omega)
  have w6 := pr_bd (x := fb) (y := x) (M := 30) (N := 100000) (by omega) (by omega) (by omega) (by omega)
  refine lv_aload_n hx hb dX0_isPoint_0 rfl (lv_at hl 0 rfl) ?_
  refine g0_fa C hW dX0_isPoint_1 ?_
  refine lv_aload_n hx hb dX0_isPoint_4 rfl (lv_at hl 0 rfl) ?_
  refine g0_fd C hW dX0_isPoint_5 ?_
  refine jv_imul hx hb dX0_isPoint_8 ?_
  refine lv_aload_n hx hb dX0_isPoint_9 rfl (lv_at hl 0 rfl) ?_
  refine g0_fb C hW dX0_isPoint_10 ?_
  refine lv_aload_n hx hb dX0_isPoint_13 rfl (lv_at hl 0 rfl) ?_
  refine g0_fc C hW dX0_isPoint_14 ?_
  refine jv_imul hx hb dX0_isPoint_17 ?_
  refine jv_isub hx hb dX0_isPoint_18 ?_
  refine lv_istore_n (lv' := [(3, .int (jI ((fa * fd) - (fb * fc)))), (0, .ref h0), (1, .int (jI x)), (2, .int (jI y))]) hx hb dX0_isPoint_19 rfl hl (by decide) rfl (fun ls hl => ?_)
  refine lv_iload_n hx hb dX0_isPoint_20 rfl (lv_at hl 0 rfl) ?_
  refine jv_if_eq (tgt := 64) hx hb dX0_isPoint_21 (by decide) ⟨by omega, by omega⟩ (fun c_21 => ?_) (fun c_21 => ?_)
  · exact absurd c_21 k9
  · refine lv_iload_n hx hb dX0_isPoint_24 rfl (lv_at hl 2 rfl) ?_
    refine lv_aload_n hx hb dX0_isPoint_25 rfl (lv_at hl 1 rfl) ?_
    refine g0_fd C hW dX0_isPoint_26 ?_
    refine jv_imul hx hb dX0_isPoint_29 ?_
    refine lv_iload_n hx hb dX0_isPoint_30 rfl (lv_at hl 3 rfl) ?_
    refine lv_aload_n hx hb dX0_isPoint_31 rfl (lv_at hl 1 rfl) ?_
    refine g0_fc C hW dX0_isPoint_32 ?_
    refine jv_imul hx hb dX0_isPoint_35 ?_
    refine jv_isub hx hb dX0_isPoint_36 ?_
    refine lv_iload_n hx hb dX0_isPoint_37 rfl (lv_at hl 0 rfl) ?_
    refine jv_irem hx hb dX0_isPoint_38 ⟨by omega, by omega⟩ ⟨by omega, by omega⟩ c_21 ?_
    refine jv_if_ne (tgt := 64) hx hb dX0_isPoint_39 (by decide) (tm_rng _ ⟨by omega, by omega⟩) (fun c_39 => ?_) (fun c_39 => ?_)
    · refine jv_iconst hx hb dX0_isPoint_64 ?_
      exact mi_retz C hW (by first | exact in_no1 c_39 | exact in_no2 c_57) ⟨false, rfl⟩ rfl dX0_isPoint_65
    · refine lv_aload_n hx hb dX0_isPoint_42 rfl (lv_at hl 1 rfl) ?_
      refine g0_fa C hW dX0_isPoint_43 ?_
      refine lv_iload_n hx hb dX0_isPoint_46 rfl (lv_at hl 3 rfl) ?_
      refine jv_imul hx hb dX0_isPoint_47 ?_
      refine lv_aload_n hx hb dX0_isPoint_48 rfl (lv_at hl 1 rfl) ?_
      refine g0_fb C hW dX0_isPoint_49 ?_
      refine lv_iload_n hx hb dX0_isPoint_52 rfl (lv_at hl 2 rfl) ?_
      refine jv_imul hx hb dX0_isPoint_53 ?_
      refine jv_isub hx hb dX0_isPoint_54 ?_
      refine lv_iload_n hx hb dX0_isPoint_55 rfl (lv_at hl 0 rfl) ?_
      refine jv_irem hx hb dX0_isPoint_56 ⟨by omega, by omega⟩ ⟨by omega, by omega⟩ c_21 ?_
      refine jv_if_ne (tgt := 64) hx hb dX0_isPoint_57 (by decide) (tm_rng _ ⟨by omega, by omega⟩) (fun c_57 => ?_) (fun c_57 => ?_)
      · refine jv_iconst hx hb dX0_isPoint_64 ?_
        exact mi_retz C hW (by first | exact in_no1 c_39 | exact in_no2 c_57) ⟨false, rfl⟩ rfl dX0_isPoint_65
      · refine jv_iconst hx hb dX0_isPoint_60 ?_
        refine lv_goto (tgt := 65) hx hb dX0_isPoint_61 (by decide) ?_
        exact mi_retz C hW (in_yes c_39 c_57) ⟨true, rfl⟩ rfl dX0_isPoint_65
abbrev rm_X1_isPoint : Room := { frames := 1, cells := 0, slots := 0, locals := 26 }
theorem dn_X1_isPoint : yX1_isPoint.cls = RX1 ∧ yX1_isPoint.cls ≠ "java/lang/invoke/MethodHandle" ∧ yX1_isPoint.cls ≠ "java/lang/invoke/VarHandle" ∧ (parseMethodDescriptor yX1_isPoint.desc).map (fun d => d.parameters.length) = some 2 := by decide +kernel
set_option maxHeartbeats 4000000 in
set_option maxRecDepth 100000 in
/-- isPoint of the model -/
theorem met_X1_isPoint (l : Launch) (h0 : Nat) (fa fb fc fd nu nv aw x y : Int) (hk : ok_ fa fb fc fd) (hX : -100000 ≤ x ∧ x ≤ 100000) (hY : -100000 ≤ y ∧ y ≤ 100000) : mi_ l yX1_isPoint cX1_isPoint 3 (some .boolean) rm_X1_isPoint h0 1 [.int (jI x), .int (jI y)] [.int (jI fa), .int (jI fb), .int (jI fc), .int (jI fd), .int (jI nu), .int (jI nv), .int (jI aw)] [.int (jI fa), .int (jI fb), .int (jI fc), .int (jI fd), .int (jI nu), .int (jI nv), .int (jI aw)] (b2_ (inB_ fa fb fc fd x y)) := by
  refine mi_of (by decide) (Nat.le_of_ble_eq_true rfl) ?_
  intro p e s m args below meth c D A C hW ls hl
  have C : cx_ p s m args meth c cX1_isPoint 3 RX1 (some .boolean) D A := C
  have hx := C.1
  have hb := C.2.1
  have hown := C.2.2.2.1
  have hts := C.2.2.2.2.1
  have hl : lv_has ls 3 [(0, .ref h0), (1, .int (jI x)), (2, .int (jI y))] := hl
  refine lv_iload_n hx hb dX1_isPoint_0 rfl (lv_at hl 1 rfl) ?_
  refine lv_iload_n hx hb dX1_isPoint_1 rfl (lv_at hl 2 rfl) ?_
  refine lv_aload_n hx hb dX1_isPoint_2 rfl (lv_at hl 0 rfl) ?_
  refine g1_fa C hW dX1_isPoint_3 ?_
  refine lv_aload_n hx hb dX1_isPoint_6 rfl (lv_at hl 0 rfl) ?_
  refine g1_fb C hW dX1_isPoint_7 ?_
  refine lv_aload_n hx hb dX1_isPoint_10 rfl (lv_at hl 0 rfl) ?_
  refine g1_fc C hW dX1_isPoint_11 ?_
  refine lv_aload_n hx hb dX1_isPoint_14 rfl (lv_at hl 0 rfl) ?_
  refine g1_fd C hW dX1_isPoint_15 ?_
  refine cs_ C hW (met_X1_in l x y fa fb fc fd hk hX hY) (lw_S q177 q178 q10 q179) ⟨rfl, rfl⟩ dn_X1_in ⟨Nat.le_of_ble_eq_true rfl, Nat.le_of_ble_eq_true rfl⟩ rfl hl.1 rfl (Nat.le_of_ble_eq_true rfl) ⟨Nat.zero_le _, Nat.zero_le _⟩ dX1_isPoint_18 (fun H locs hW => ?_)
  exact mi_retz C hW rfl ⟨(inB_ fa fb fc fd x y), rfl⟩ rfl dX1_isPoint_21
end
section
/-! ===== walks: reduce ===== -/
abbrev rm_X0_reduce : Room := { frames := 1, cells := 0, slots := 0, locals := 22 }
theorem dn_X0_reduce : yX0_reduce.cls = RX0 ∧ yX0_reduce.cls ≠ "java/lang/invoke/MethodHandle" ∧ yX0_reduce.cls ≠ "java/lang/invoke/VarHandle" ∧ (parseMethodDescriptor yX0_reduce.desc).map (fun d => d.parameters.length) = some 0 := by decide +kernel
theorem end_eq {h0 : Nat} {fa fb fc fd bs bu bv p1 p2 p3 p4 r1 r2 r3 r4 : Int} (h : (p1, p2, p3, p4) = (r1, r2, r3, r4)) : ob_ h0 0 [.int (jI fa), .int (jI fb), .int (jI fc), .int (jI fd), .int (jI p1), .int (jI p2), .int (jI p3), .int (jI p4), .int (jI bs), .int (jI bu), .int (jI bv)] = ob_ h0 0 [.int (jI fa), .int (jI fb), .int (jI fc), .int (jI fd), .int (jI r1), .int (jI r2), .int (jI r3), .int (jI r4), .int (jI bs), .int (jI bu), .int (jI bv)] := by
  simp only [Prod.mk.injEq] at h
  obtain ⟨rfl, rfl, rfl, rfl⟩ := h
  rfl
set_option maxHeartbeats 4000000 in
set_option maxRecDepth 100000 in
theorem lp_X0_reduce {p : Program} {l : Launch} {e : Env} {s : State} {m : MethodId} {args : Array Value} {below : List Frame} {meth : Method} {c : Code} {D : va_G} {A : Nat → Prop} {h0 : Nat} {fa fb fc fd bs bu bv r1 r2 r3 r4 : Int} (C : cx_ p s m args meth c cX0_reduce 7 RX0 none D A) : ∀ (n : Nat) (k0 px py qx qy : Int) (H : Heap) (locs : List Loc) (ls : Array Slot), k0 + n = 1900 → 0 ≤ k0 → bd_ px py qx qy → rd_ n px py qx qy = (r1, r2, r3, r4) → wd_ D A s H locs (ob_ h0 0 [.int (jI fa), .int (jI fb), .int (jI fc), .int (jI fd), .int (jI px), .int (jI py), .int (jI qx), .int (jI qy), .int (jI bs), .int (jI bu), .int (jI bv)]) → lv_has ls 7 [(0, .ref h0), (1, .int (jI 1)), (2, .int (jI k0))] → W p l e rm_X0_reduce s m args below meth c H locs 0 0 (MQ below (qv_ D (ob_ h0 0 [.int (jI fa), .int (jI fb), .int (jI fc), .int (jI fd), .int (jI r1), .int (jI r2), .int (jI r3), .int (jI r4), .int (jI bs), .int (jI bu), .int (jI bv)]) A) args s 0 0 A) (F0 m 36 ls []) := by
  have hx := C.1
  have hb := C.2.1
  have hown := C.2.2.2.1
  have hts := C.2.2.2.2.1
  intro n
  induction n with
  | zero =>
    intro k0 px py qx qy H locs ls hn hk0 hbd he hW hl
    refine lv_iload_n hx hb dX0_reduce_36 rfl (lv_at hl 2 rfl) ?_
    refine jv_sipush hx hb dX0_reduce_37 (by decide) ?_
    refine jv_icmp_ge (tgt := 196) hx hb dX0_reduce_40 (by decide) ⟨by omega, by omega⟩ ⟨by omega, by omega⟩ (fun c_40 => ?_) (fun c_40 => ?_)
    · exact mv_ret C hW (end_eq he) dX0_reduce_196
    · exfalso; omega
  | succ n ih =>
    intro k0 px py qx qy H locs ls hn hk0 hbd he hW hl
    obtain ⟨b1, b2, b3, b4⟩ := nm_bd hbd.2.1
    obtain ⟨b5, b6, b7, b8⟩ := nm_bd hbd.2.2
    have v1 : px * px + py * py ≤ 1800 := hbd.2.1
    have v2 : qx * qx + qy * qy ≤ 1800 := hbd.2.2
    have v3 := sqn_ px
    have v4 := sqn_ py
    have v5 := sqn_ qx
    have v6 := sqn_ qy
    refine lv_iload_n hx hb dX0_reduce_36 rfl (lv_at hl 2 rfl) ?_
    refine jv_sipush hx hb dX0_reduce_37 (by decide) ?_
    refine jv_icmp_ge (tgt := 196) hx hb dX0_reduce_40 (by decide) ⟨by omega, by omega⟩ ⟨by omega, by omega⟩ (fun c_40 => ?_) (fun c_40 => ?_)
    · exfalso; omega
    · refine lv_iload_n hx hb dX0_reduce_43 rfl (lv_at hl 1 rfl) ?_
      refine jv_if_eq (tgt := 196) hx hb dX0_reduce_44 (by decide) ⟨by omega, by omega⟩ (fun c_44 => ?_) (fun c_44 => ?_)
      · exact absurd c_44 (by decide)
      · refine lv_aload_n hx hb dX0_reduce_47 rfl (lv_at hl 0 rfl) ?_
        refine g0_px C hW dX0_reduce_48 ?_
        refine lv_aload_n hx hb dX0_reduce_51 rfl (lv_at hl 0 rfl) ?_
        refine g0_py C hW dX0_reduce_52 ?_
        refine cs_ C hW (met_X0_size l px py) (lw_S q23 q24 q9 q25) ⟨rfl, rfl⟩ dn_X0_size ⟨Nat.le_of_ble_eq_true rfl, Nat.le_of_ble_eq_true rfl⟩ rfl hl.1 rfl (Nat.le_of_ble_eq_true rfl) ⟨Nat.zero_le _, Nat.zero_le _⟩ dX0_reduce_55 (fun H locs hW => ?_)
        refine lv_aload_n hx hb dX0_reduce_58 rfl (lv_at hl 0 rfl) ?_
        refine g0_qx C hW dX0_reduce_59 ?_
        refine lv_aload_n hx hb dX0_reduce_62 rfl (lv_at hl 0 rfl) ?_
        refine g0_qy C hW dX0_reduce_63 ?_
        refine cs_ C hW (met_X0_size l qx qy) (lw_S q23 q24 q9 q25) ⟨rfl, rfl⟩ dn_X0_size ⟨Nat.le_of_ble_eq_true rfl, Nat.le_of_ble_eq_true rfl⟩ rfl hl.1 rfl (Nat.le_of_ble_eq_true rfl) ⟨Nat.zero_le _, Nat.zero_le _⟩ dX0_reduce_66 (fun H locs hW => ?_)
        refine jv_icmp_le (tgt := 76) hx hb dX0_reduce_69 (by decide) (show rI (px * px + py * py) from ⟨by omega, by omega⟩) (show rI (qx * qx + qy * qy) from ⟨by omega, by omega⟩) (fun c_69 => ?_) (fun c_69 => ?_)
        · have hb2 : bd_ px py qx qy := hbd
          have he2 : r1_ (rd_ n) px py qx qy = (r1, r2, r3, r4) := by rw [← he]; exact (if_pos c_69).symm
          have w1 := pr_bd (x := px) (y := qx) (M := 42) (N := 42) (by omega) (by omega) (by omega) (by omega)
          have w2 := pr_bd (x := py) (y := qy) (M := 42) (N := 42) (by omega) (by omega) (by omega) (by omega)
          have w3 : 0 < px * px + py * py := bd_p hb2
          have w4 : px * px + py * py ≤ 1800 := hb2.2.1
          have w5 : 0 < qx * qx + qy * qy := bd_q hb2
          have w6 : qx * qx + qy * qy ≤ 1800 := hb2.2.2
          have w7 : nm_ (qx - kk_ px py qx qy * px) (qy - kk_ px py qx qy * py) ≤ qx * qx + qy * qy := kk_nm (bd_p hb2)
          have w8 := sqn_ (qx - kk_ px py qx qy * px)
          have w9 := sqn_ (qy - kk_ px py qx qy * py)
          refine lv_aload_n hx hb dX0_reduce_76 rfl (lv_at hl 0 rfl) ?_
          refine g0_px C hW dX0_reduce_77 ?_
          refine lv_aload_n hx hb dX0_reduce_80 rfl (lv_at hl 0 rfl) ?_
          refine g0_py C hW dX0_reduce_81 ?_
          refine cs_ C hW (met_X0_size l px py) (lw_S q23 q24 q9 q25) ⟨rfl, rfl⟩ dn_X0_size ⟨Nat.le_of_ble_eq_true rfl, Nat.le_of_ble_eq_true rfl⟩ rfl hl.1 rfl (Nat.le_of_ble_eq_true rfl) ⟨Nat.zero_le _, Nat.zero_le _⟩ dX0_reduce_84 (fun H locs hW => ?_)
          refine lv_istore_n (lv' := [(3, .int (jI (nm_ px py))), (0, .ref h0), (1, .int (jI 1)), (2, .int (jI k0))]) hx hb dX0_reduce_87 rfl hl (by decide) rfl (fun ls hl => ?_)
          refine jv_iconst hx hb dX0_reduce_88 ?_
          refine lv_aload_n hx hb dX0_reduce_89 rfl (lv_at hl 1 rfl) ?_
          refine g0_px C hW dX0_reduce_90 ?_
          refine lv_aload_n hx hb dX0_reduce_93 rfl (lv_at hl 1 rfl) ?_
          refine g0_qx C hW dX0_reduce_94 ?_
          refine jv_imul hx hb dX0_reduce_97 ?_
          refine lv_aload_n hx hb dX0_reduce_98 rfl (lv_at hl 1 rfl) ?_
          refine g0_py C hW dX0_reduce_99 ?_
          refine lv_aload_n hx hb dX0_reduce_102 rfl (lv_at hl 1 rfl) ?_
          refine g0_qy C hW dX0_reduce_103 ?_
          refine jv_imul hx hb dX0_reduce_106 ?_
          refine jv_iadd hx hb dX0_reduce_107 ?_
          refine jv_imul hx hb dX0_reduce_108 ?_
          refine lv_iload_n hx hb dX0_reduce_109 rfl (lv_at hl 0 rfl) ?_
          refine jv_iadd hx hb dX0_reduce_110 ?_
          refine jv_iconst hx hb dX0_reduce_111 ?_
          refine lv_iload_n hx hb dX0_reduce_112 rfl (lv_at hl 0 rfl) ?_
          refine jv_imul hx hb dX0_reduce_113 ?_
          refine cs_ C hW (met_X0_floorDivide l ((2 * ((px * qx) + (py * qy))) + (nm_ px py)) (2 * (nm_ px py)) (show rI (2 * (px * qx + py * qy) + (px * px + py * py)) from ⟨by omega, by omega⟩) (show 0 < 2 * (px * px + py * py) by omega) (show rI (2 * (px * px + py * py)) from ⟨by omega, by omega⟩)) (lw_S q30 q31 q9 q32) ⟨rfl, rfl⟩ dn_X0_floorDivide ⟨Nat.le_of_ble_eq_true rfl, Nat.le_of_ble_eq_true rfl⟩ rfl hl.1 rfl (Nat.le_of_ble_eq_true rfl) ⟨Nat.zero_le _, Nat.zero_le _⟩ dX0_reduce_114 (fun H locs hW => ?_)
          refine jv_as (y := kk_ px py qx qy) rfl ?_
          refine lv_istore (lv' := [(4, .int (jI (kk_ px py qx qy))), (3, .int (jI (nm_ px py))), (0, .ref h0), (1, .int (jI 1)), (2, .int (jI k0))]) hx hb dX0_reduce_117 hl (by decide) rfl (fun ls hl => ?_)
          refine lv_aload_n hx hb dX0_reduce_119 rfl (lv_at hl 2 rfl) ?_
          refine g0_qx C hW dX0_reduce_120 ?_
          refine lv_iload hx hb dX0_reduce_123 (lv_at hl 0 rfl) ?_
          refine lv_aload_n hx hb dX0_reduce_125 rfl (lv_at hl 2 rfl) ?_
          refine g0_px C hW dX0_reduce_126 ?_
          refine jv_imul hx hb dX0_reduce_129 ?_
          refine jv_isub hx hb dX0_reduce_130 ?_
          refine lv_istore (lv' := [(5, .int (jI (qx - ((kk_ px py qx qy) * px)))), (4, .int (jI (kk_ px py qx qy))), (3, .int (jI (nm_ px py))), (0, .ref h0), (1, .int (jI 1)), (2, .int (jI k0))]) hx hb dX0_reduce_131 hl (by decide) rfl (fun ls hl => ?_)
          refine lv_aload_n hx hb dX0_reduce_133 rfl (lv_at hl 3 rfl) ?_
          refine g0_qy C hW dX0_reduce_134 ?_
          refine lv_iload hx hb dX0_reduce_137 (lv_at hl 1 rfl) ?_
          refine lv_aload_n hx hb dX0_reduce_139 rfl (lv_at hl 3 rfl) ?_
          refine g0_py C hW dX0_reduce_140 ?_
          refine jv_imul hx hb dX0_reduce_143 ?_
          refine jv_isub hx hb dX0_reduce_144 ?_
          refine lv_istore (lv' := [(6, .int (jI (qy - ((kk_ px py qx qy) * py)))), (5, .int (jI (qx - ((kk_ px py qx qy) * px)))), (4, .int (jI (kk_ px py qx qy))), (3, .int (jI (nm_ px py))), (0, .ref h0), (1, .int (jI 1)), (2, .int (jI k0))]) hx hb dX0_reduce_145 hl (by decide) rfl (fun ls hl => ?_)
          refine lv_iload hx hb dX0_reduce_147 (lv_at hl 1 rfl) ?_
          refine lv_iload hx hb dX0_reduce_149 (lv_at hl 0 rfl) ?_
          refine cs_ C hW (met_X0_size l (qx - ((kk_ px py qx qy) * px)) (qy - ((kk_ px py qx qy) * py))) (lw_S q23 q24 q9 q25) ⟨rfl, rfl⟩ dn_X0_size ⟨Nat.le_of_ble_eq_true rfl, Nat.le_of_ble_eq_true rfl⟩ rfl hl.1 rfl (Nat.le_of_ble_eq_true rfl) ⟨Nat.zero_le _, Nat.zero_le _⟩ dX0_reduce_151 (fun H locs hW => ?_)
          refine lv_aload_n hx hb dX0_reduce_154 rfl (lv_at hl 4 rfl) ?_
          refine g0_qx C hW dX0_reduce_155 ?_
          refine lv_aload_n hx hb dX0_reduce_158 rfl (lv_at hl 4 rfl) ?_
          refine g0_qy C hW dX0_reduce_159 ?_
          refine cs_ C hW (met_X0_size l qx qy) (lw_S q23 q24 q9 q25) ⟨rfl, rfl⟩ dn_X0_size ⟨Nat.le_of_ble_eq_true rfl, Nat.le_of_ble_eq_true rfl⟩ rfl hl.1 rfl (Nat.le_of_ble_eq_true rfl) ⟨Nat.zero_le _, Nat.zero_le _⟩ dX0_reduce_162 (fun H locs hW => ?_)
          have g1 : rI (nm_ (qx - kk_ px py qx qy * px) (qy - kk_ px py qx qy * py)) := ⟨by show -2147483648 ≤ (qx - kk_ px py qx qy * px) * (qx - kk_ px py qx qy * px) + (qy - kk_ px py qx qy * py) * (qy - kk_ px py qx qy * py); omega, by omega⟩
          have g2 : rI (nm_ qx qy) := (show rI (qx * qx + qy * qy) from ⟨by omega, by omega⟩)
          refine jv_icmp_ge (tgt := 172) hx hb dX0_reduce_165 (by decide) g1 g2 (fun c_165 => ?_) (fun c_165 => ?_)
          · have hch : ¬ nm_ (qx - kk_ px py qx qy * px) (qy - kk_ px py qx qy * py) < nm_ qx qy := by omega
            refine jv_iconst hx hb dX0_reduce_172 ?_
            refine lv_istore_n (lv' := [(1, .int (jI 0)), (6, .int (jI (qy - ((kk_ px py qx qy) * py)))), (5, .int (jI (qx - ((kk_ px py qx qy) * px)))), (4, .int (jI (kk_ px py qx qy))), (3, .int (jI (nm_ px py))), (0, .ref h0), (2, .int (jI k0))]) hx hb dX0_reduce_173 rfl hl (by decide) rfl (fun ls hl => ?_)
            refine lv_iload_n hx hb dX0_reduce_174 rfl (lv_at hl 0 rfl) ?_
            refine jv_if_eq (tgt := 190) hx hb dX0_reduce_175 (by decide) ⟨by omega, by omega⟩ (fun c_175 => ?_) (fun c_175 => ?_)
            · refine jv_iinc (lv' := [(2, .int (jI (k0 + 1))), (1, .int (jI 0)), (6, .int (jI (qy - ((kk_ px py qx qy) * py)))), (5, .int (jI (qx - ((kk_ px py qx qy) * px)))), (4, .int (jI (kk_ px py qx qy))), (3, .int (jI (nm_ px py))), (0, .ref h0)]) hx hb dX0_reduce_190 hl (k := 6) rfl (by decide) rfl (fun ls hl => ?_)
              refine lv_goto (tgt := 36) hx hb dX0_reduce_193 (by decide) ?_
              refine lv_iload_n hx hb dX0_reduce_36 rfl (lv_at hl 0 rfl) ?_
              refine jv_sipush hx hb dX0_reduce_37 (by decide) ?_
              refine jv_icmp_ge (tgt := 196) hx hb dX0_reduce_40 (by decide) ⟨by omega, by omega⟩ ⟨by omega, by omega⟩ (fun c_40 => ?_) (fun c_40 => ?_)
              · exact mv_ret C hW (end_eq (by rw [← he2]; exact (if_neg hch).symm)) dX0_reduce_196
              · refine lv_iload_n hx hb dX0_reduce_43 rfl (lv_at hl 1 rfl) ?_
                refine jv_if_eq (tgt := 196) hx hb dX0_reduce_44 (by decide) ⟨by omega, by omega⟩ (fun c_44 => ?_) (fun c_44 => ?_)
                · exact mv_ret C hW (end_eq (by rw [← he2]; exact (if_neg hch).symm)) dX0_reduce_196
                · exact absurd c_44 (by decide)
            · exact absurd c_175 (by decide)
          · have hch : nm_ (qx - kk_ px py qx qy * px) (qy - kk_ px py qx qy * py) < nm_ qx qy := by omega
            refine jv_iconst hx hb dX0_reduce_168 ?_
            refine lv_goto (tgt := 173) hx hb dX0_reduce_169 (by decide) ?_
            refine lv_istore_n (lv' := [(1, .int (jI 1)), (6, .int (jI (qy - ((kk_ px py qx qy) * py)))), (5, .int (jI (qx - ((kk_ px py qx qy) * px)))), (4, .int (jI (kk_ px py qx qy))), (3, .int (jI (nm_ px py))), (0, .ref h0), (2, .int (jI k0))]) hx hb dX0_reduce_173 rfl hl (by decide) rfl (fun ls hl => ?_)
            refine lv_iload_n hx hb dX0_reduce_174 rfl (lv_at hl 0 rfl) ?_
            refine jv_if_eq (tgt := 190) hx hb dX0_reduce_175 (by decide) ⟨by omega, by omega⟩ (fun c_175 => ?_) (fun c_175 => ?_)
            · exact absurd c_175 (by decide)
            · refine lv_aload_n hx hb dX0_reduce_178 rfl (lv_at hl 5 rfl) ?_
              refine lv_iload hx hb dX0_reduce_179 (lv_at hl 2 rfl) ?_
              refine p0_qx C hW dX0_reduce_181 (fun H locs hW => ?_)
              refine lv_aload_n hx hb dX0_reduce_184 rfl (lv_at hl 5 rfl) ?_
              refine lv_iload hx hb dX0_reduce_185 (lv_at hl 1 rfl) ?_
              refine p0_qy C hW dX0_reduce_187 (fun H locs hW => ?_)
              refine jv_iinc (lv' := [(2, .int (jI (k0 + 1))), (1, .int (jI 1)), (6, .int (jI (qy - ((kk_ px py qx qy) * py)))), (5, .int (jI (qx - ((kk_ px py qx qy) * px)))), (4, .int (jI (kk_ px py qx qy))), (3, .int (jI (nm_ px py))), (0, .ref h0)]) hx hb dX0_reduce_190 hl (k := 6) rfl (by decide) rfl (fun ls hl => ?_)
              refine lv_goto (tgt := 36) hx hb dX0_reduce_193 (by decide) ?_
              exact ih (k0 + 1) px py (qx - ((kk_ px py qx qy) * px)) (qy - ((kk_ px py qx qy) * py)) _ _ ls (by omega) (by omega) (bd_st hb2) (by rw [← he2]; exact (if_pos hch).symm) hW (lv_sub hl [6, 1, 0] rfl)
        · refine lv_aload_n hx hb dX0_reduce_72 rfl (lv_at hl 0 rfl) ?_
          refine cv_ (q := (RX0, TX0, 11)) C hW (met_X0_exchange l h0 fa fb fc fd px py qx qy bs bu bv) rfl (lw_V q26 q28 qs1 q9 q29) ⟨rfl, rfl⟩ dn_X0_exchange ⟨Nat.le_of_ble_eq_true rfl, Nat.le_of_ble_eq_true rfl⟩ rfl hl.1 rfl (Nat.le_of_ble_eq_true rfl) ⟨Nat.zero_le _, Nat.zero_le _⟩ dX0_reduce_73 (fun H locs hW => ?_)
          have hb2 : bd_ qx qy px py := bd_sw hbd
          have he2 : r1_ (rd_ n) qx qy px py = (r1, r2, r3, r4) := by rw [← he]; exact (if_neg c_69).symm
          have w1 := pr_bd (x := qx) (y := px) (M := 42) (N := 42) (by omega) (by omega) (by omega) (by omega)
          have w2 := pr_bd (x := qy) (y := py) (M := 42) (N := 42) (by omega) (by omega) (by omega) (by omega)
          have w3 : 0 < qx * qx + qy * qy := bd_p hb2
          have w4 : qx * qx + qy * qy ≤ 1800 := hb2.2.1
          have w5 : 0 < px * px + py * py := bd_q hb2
          have w6 : px * px + py * py ≤ 1800 := hb2.2.2
          have w7 : nm_ (px - kk_ qx qy px py * qx) (py - kk_ qx qy px py * qy) ≤ px * px + py * py := kk_nm (bd_p hb2)
          have w8 := sqn_ (px - kk_ qx qy px py * qx)
          have w9 := sqn_ (py - kk_ qx qy px py * qy)
          refine lv_aload_n hx hb dX0_reduce_76 rfl (lv_at hl 0 rfl) ?_
          refine g0_px C hW dX0_reduce_77 ?_
          refine lv_aload_n hx hb dX0_reduce_80 rfl (lv_at hl 0 rfl) ?_
          refine g0_py C hW dX0_reduce_81 ?_
          refine cs_ C hW (met_X0_size l qx qy) (lw_S q23 q24 q9 q25) ⟨rfl, rfl⟩ dn_X0_size ⟨Nat.le_of_ble_eq_true rfl, Nat.le_of_ble_eq_true rfl⟩ rfl hl.1 rfl (Nat.le_of_ble_eq_true rfl) ⟨Nat.zero_le _, Nat.zero_le _⟩ dX0_reduce_84 (fun H locs hW => ?_)
          refine lv_istore_n (lv' := [(3, .int (jI (nm_ qx qy))), (0, .ref h0), (1, .int (jI 1)), (2, .int (jI k0))]) hx hb dX0_reduce_87 rfl hl (by decide) rfl (fun ls hl => ?_)
          refine jv_iconst hx hb dX0_reduce_88 ?_
          refine lv_aload_n hx hb dX0_reduce_89 rfl (lv_at hl 1 rfl) ?_
          refine g0_px C hW dX0_reduce_90 ?_
          refine lv_aload_n hx hb dX0_reduce_93 rfl (lv_at hl 1 rfl) ?_
          refine g0_qx C hW dX0_reduce_94 ?_
          refine jv_imul hx hb dX0_reduce_97 ?_
          refine lv_aload_n hx hb dX0_reduce_98 rfl (lv_at hl 1 rfl) ?_
          refine g0_py C hW dX0_reduce_99 ?_
          refine lv_aload_n hx hb dX0_reduce_102 rfl (lv_at hl 1 rfl) ?_
          refine g0_qy C hW dX0_reduce_103 ?_
          refine jv_imul hx hb dX0_reduce_106 ?_
          refine jv_iadd hx hb dX0_reduce_107 ?_
          refine jv_imul hx hb dX0_reduce_108 ?_
          refine lv_iload_n hx hb dX0_reduce_109 rfl (lv_at hl 0 rfl) ?_
          refine jv_iadd hx hb dX0_reduce_110 ?_
          refine jv_iconst hx hb dX0_reduce_111 ?_
          refine lv_iload_n hx hb dX0_reduce_112 rfl (lv_at hl 0 rfl) ?_
          refine jv_imul hx hb dX0_reduce_113 ?_
          refine cs_ C hW (met_X0_floorDivide l ((2 * ((qx * px) + (qy * py))) + (nm_ qx qy)) (2 * (nm_ qx qy)) (show rI (2 * (qx * px + qy * py) + (qx * qx + qy * qy)) from ⟨by omega, by omega⟩) (show 0 < 2 * (qx * qx + qy * qy) by omega) (show rI (2 * (qx * qx + qy * qy)) from ⟨by omega, by omega⟩)) (lw_S q30 q31 q9 q32) ⟨rfl, rfl⟩ dn_X0_floorDivide ⟨Nat.le_of_ble_eq_true rfl, Nat.le_of_ble_eq_true rfl⟩ rfl hl.1 rfl (Nat.le_of_ble_eq_true rfl) ⟨Nat.zero_le _, Nat.zero_le _⟩ dX0_reduce_114 (fun H locs hW => ?_)
          refine jv_as (y := kk_ qx qy px py) rfl ?_
          refine lv_istore (lv' := [(4, .int (jI (kk_ qx qy px py))), (3, .int (jI (nm_ qx qy))), (0, .ref h0), (1, .int (jI 1)), (2, .int (jI k0))]) hx hb dX0_reduce_117 hl (by decide) rfl (fun ls hl => ?_)
          refine lv_aload_n hx hb dX0_reduce_119 rfl (lv_at hl 2 rfl) ?_
          refine g0_qx C hW dX0_reduce_120 ?_
          refine lv_iload hx hb dX0_reduce_123 (lv_at hl 0 rfl) ?_
          refine lv_aload_n hx hb dX0_reduce_125 rfl (lv_at hl 2 rfl) ?_
          refine g0_px C hW dX0_reduce_126 ?_
          refine jv_imul hx hb dX0_reduce_129 ?_
          refine jv_isub hx hb dX0_reduce_130 ?_
          refine lv_istore (lv' := [(5, .int (jI (px - ((kk_ qx qy px py) * qx)))), (4, .int (jI (kk_ qx qy px py))), (3, .int (jI (nm_ qx qy))), (0, .ref h0), (1, .int (jI 1)), (2, .int (jI k0))]) hx hb dX0_reduce_131 hl (by decide) rfl (fun ls hl => ?_)
          refine lv_aload_n hx hb dX0_reduce_133 rfl (lv_at hl 3 rfl) ?_
          refine g0_qy C hW dX0_reduce_134 ?_
          refine lv_iload hx hb dX0_reduce_137 (lv_at hl 1 rfl) ?_
          refine lv_aload_n hx hb dX0_reduce_139 rfl (lv_at hl 3 rfl) ?_
          refine g0_py C hW dX0_reduce_140 ?_
          refine jv_imul hx hb dX0_reduce_143 ?_
          refine jv_isub hx hb dX0_reduce_144 ?_
          refine lv_istore (lv' := [(6, .int (jI (py - ((kk_ qx qy px py) * qy)))), (5, .int (jI (px - ((kk_ qx qy px py) * qx)))), (4, .int (jI (kk_ qx qy px py))), (3, .int (jI (nm_ qx qy))), (0, .ref h0), (1, .int (jI 1)), (2, .int (jI k0))]) hx hb dX0_reduce_145 hl (by decide) rfl (fun ls hl => ?_)
          refine lv_iload hx hb dX0_reduce_147 (lv_at hl 1 rfl) ?_
          refine lv_iload hx hb dX0_reduce_149 (lv_at hl 0 rfl) ?_
          refine cs_ C hW (met_X0_size l (px - ((kk_ qx qy px py) * qx)) (py - ((kk_ qx qy px py) * qy))) (lw_S q23 q24 q9 q25) ⟨rfl, rfl⟩ dn_X0_size ⟨Nat.le_of_ble_eq_true rfl, Nat.le_of_ble_eq_true rfl⟩ rfl hl.1 rfl (Nat.le_of_ble_eq_true rfl) ⟨Nat.zero_le _, Nat.zero_le _⟩ dX0_reduce_151 (fun H locs hW => ?_)
          refine lv_aload_n hx hb dX0_reduce_154 rfl (lv_at hl 4 rfl) ?_
          refine g0_qx C hW dX0_reduce_155 ?_
          refine lv_aload_n hx hb dX0_reduce_158 rfl (lv_at hl 4 rfl) ?_
          refine g0_qy C hW dX0_reduce_159 ?_
          refine cs_ C hW (met_X0_size l px py) (lw_S q23 q24 q9 q25) ⟨rfl, rfl⟩ dn_X0_size ⟨Nat.le_of_ble_eq_true rfl, Nat.le_of_ble_eq_true rfl⟩ rfl hl.1 rfl (Nat.le_of_ble_eq_true rfl) ⟨Nat.zero_le _, Nat.zero_le _⟩ dX0_reduce_162 (fun H locs hW => ?_)
          have g1 : rI (nm_ (px - kk_ qx qy px py * qx) (py - kk_ qx qy px py * qy)) := ⟨by show -2147483648 ≤ (px - kk_ qx qy px py * qx) * (px - kk_ qx qy px py * qx) + (py - kk_ qx qy px py * qy) * (py - kk_ qx qy px py * qy); omega, by omega⟩
          have g2 : rI (nm_ px py) := (show rI (px * px + py * py) from ⟨by omega, by omega⟩)
          refine jv_icmp_ge (tgt := 172) hx hb dX0_reduce_165 (by decide) g1 g2 (fun c_165 => ?_) (fun c_165 => ?_)
          · have hch : ¬ nm_ (px - kk_ qx qy px py * qx) (py - kk_ qx qy px py * qy) < nm_ px py := by omega
            refine jv_iconst hx hb dX0_reduce_172 ?_
            refine lv_istore_n (lv' := [(1, .int (jI 0)), (6, .int (jI (py - ((kk_ qx qy px py) * qy)))), (5, .int (jI (px - ((kk_ qx qy px py) * qx)))), (4, .int (jI (kk_ qx qy px py))), (3, .int (jI (nm_ qx qy))), (0, .ref h0), (2, .int (jI k0))]) hx hb dX0_reduce_173 rfl hl (by decide) rfl (fun ls hl => ?_)
            refine lv_iload_n hx hb dX0_reduce_174 rfl (lv_at hl 0 rfl) ?_
            refine jv_if_eq (tgt := 190) hx hb dX0_reduce_175 (by decide) ⟨by omega, by omega⟩ (fun c_175 => ?_) (fun c_175 => ?_)
            · refine jv_iinc (lv' := [(2, .int (jI (k0 + 1))), (1, .int (jI 0)), (6, .int (jI (py - ((kk_ qx qy px py) * qy)))), (5, .int (jI (px - ((kk_ qx qy px py) * qx)))), (4, .int (jI (kk_ qx qy px py))), (3, .int (jI (nm_ qx qy))), (0, .ref h0)]) hx hb dX0_reduce_190 hl (k := 6) rfl (by decide) rfl (fun ls hl => ?_)
              refine lv_goto (tgt := 36) hx hb dX0_reduce_193 (by decide) ?_
              refine lv_iload_n hx hb dX0_reduce_36 rfl (lv_at hl 0 rfl) ?_
              refine jv_sipush hx hb dX0_reduce_37 (by decide) ?_
              refine jv_icmp_ge (tgt := 196) hx hb dX0_reduce_40 (by decide) ⟨by omega, by omega⟩ ⟨by omega, by omega⟩ (fun c_40 => ?_) (fun c_40 => ?_)
              · exact mv_ret C hW (end_eq (by rw [← he2]; exact (if_neg hch).symm)) dX0_reduce_196
              · refine lv_iload_n hx hb dX0_reduce_43 rfl (lv_at hl 1 rfl) ?_
                refine jv_if_eq (tgt := 196) hx hb dX0_reduce_44 (by decide) ⟨by omega, by omega⟩ (fun c_44 => ?_) (fun c_44 => ?_)
                · exact mv_ret C hW (end_eq (by rw [← he2]; exact (if_neg hch).symm)) dX0_reduce_196
                · exact absurd c_44 (by decide)
            · exact absurd c_175 (by decide)
          · have hch : nm_ (px - kk_ qx qy px py * qx) (py - kk_ qx qy px py * qy) < nm_ px py := by omega
            refine jv_iconst hx hb dX0_reduce_168 ?_
            refine lv_goto (tgt := 173) hx hb dX0_reduce_169 (by decide) ?_
            refine lv_istore_n (lv' := [(1, .int (jI 1)), (6, .int (jI (py - ((kk_ qx qy px py) * qy)))), (5, .int (jI (px - ((kk_ qx qy px py) * qx)))), (4, .int (jI (kk_ qx qy px py))), (3, .int (jI (nm_ qx qy))), (0, .ref h0), (2, .int (jI k0))]) hx hb dX0_reduce_173 rfl hl (by decide) rfl (fun ls hl => ?_)
            refine lv_iload_n hx hb dX0_reduce_174 rfl (lv_at hl 0 rfl) ?_
            refine jv_if_eq (tgt := 190) hx hb dX0_reduce_175 (by decide) ⟨by omega, by omega⟩ (fun c_175 => ?_) (fun c_175 => ?_)
            · exact absurd c_175 (by decide)
            · refine lv_aload_n hx hb dX0_reduce_178 rfl (lv_at hl 5 rfl) ?_
              refine lv_iload hx hb dX0_reduce_179 (lv_at hl 2 rfl) ?_
              refine p0_qx C hW dX0_reduce_181 (fun H locs hW => ?_)
              refine lv_aload_n hx hb dX0_reduce_184 rfl (lv_at hl 5 rfl) ?_
              refine lv_iload hx hb dX0_reduce_185 (lv_at hl 1 rfl) ?_
              refine p0_qy C hW dX0_reduce_187 (fun H locs hW => ?_)
              refine jv_iinc (lv' := [(2, .int (jI (k0 + 1))), (1, .int (jI 1)), (6, .int (jI (py - ((kk_ qx qy px py) * qy)))), (5, .int (jI (px - ((kk_ qx qy px py) * qx)))), (4, .int (jI (kk_ qx qy px py))), (3, .int (jI (nm_ qx qy))), (0, .ref h0)]) hx hb dX0_reduce_190 hl (k := 6) rfl (by decide) rfl (fun ls hl => ?_)
              refine lv_goto (tgt := 36) hx hb dX0_reduce_193 (by decide) ?_
              exact ih (k0 + 1) qx qy (px - ((kk_ qx qy px py) * qx)) (py - ((kk_ qx qy px py) * qy)) _ _ ls (by omega) (by omega) (bd_st hb2) (by rw [← he2]; exact (if_pos hch).symm) hW (lv_sub hl [6, 1, 0] rfl)
set_option maxHeartbeats 4000000 in
set_option maxRecDepth 100000 in
/-- reduce -/
theorem met_X0_reduce (l : Launch) (h0 : Nat) (fa fb fc fd px py qx qy bs bu bv r1 r2 r3 r4 : Int) (hk : ok_ fa fb fc fd) (he : rd_ 1900 fa fb fc fd = (r1, r2, r3, r4)) : mv_ l yX0_reduce cX0_reduce 7 none rm_X0_reduce h0 0 [] [.int (jI fa), .int (jI fb), .int (jI fc), .int (jI fd), .int (jI px), .int (jI py), .int (jI qx), .int (jI qy), .int (jI bs), .int (jI bu), .int (jI bv)] [.int (jI fa), .int (jI fb), .int (jI fc), .int (jI fd), .int (jI r1), .int (jI r2), .int (jI r3), .int (jI r4), .int (jI bs), .int (jI bu), .int (jI bv)] := by
  refine mv_of (by decide) (Nat.le_of_ble_eq_true rfl) ?_
  intro p e s m args below meth c D A C hW ls hl
  have C : cx_ p s m args meth c cX0_reduce 7 RX0 none D A := C
  have hx := C.1
  have hb := C.2.1
  have hown := C.2.2.2.1
  have hts := C.2.2.2.2.1
  have hl : lv_has ls 7 [(0, .ref h0)] := hl
  refine lv_aload_n hx hb dX0_reduce_0 rfl (lv_at hl 0 rfl) ?_
  refine lv_aload_n hx hb dX0_reduce_1 rfl (lv_at hl 0 rfl) ?_
  refine g0_fa C hW dX0_reduce_2 ?_
  refine p0_px C hW dX0_reduce_5 (fun H locs hW => ?_)
  refine lv_aload_n hx hb dX0_reduce_8 rfl (lv_at hl 0 rfl) ?_
  refine lv_aload_n hx hb dX0_reduce_9 rfl (lv_at hl 0 rfl) ?_
  refine g0_fb C hW dX0_reduce_10 ?_
  refine p0_py C hW dX0_reduce_13 (fun H locs hW => ?_)
  refine lv_aload_n hx hb dX0_reduce_16 rfl (lv_at hl 0 rfl) ?_
  refine lv_aload_n hx hb dX0_reduce_17 rfl (lv_at hl 0 rfl) ?_
  refine g0_fc C hW dX0_reduce_18 ?_
  refine p0_qx C hW dX0_reduce_21 (fun H locs hW => ?_)
  refine lv_aload_n hx hb dX0_reduce_24 rfl (lv_at hl 0 rfl) ?_
  refine lv_aload_n hx hb dX0_reduce_25 rfl (lv_at hl 0 rfl) ?_
  refine g0_fd C hW dX0_reduce_26 ?_
  refine p0_qy C hW dX0_reduce_29 (fun H locs hW => ?_)
  refine jv_iconst hx hb dX0_reduce_32 ?_
  refine lv_istore_n (lv' := [(1, .int (jI 1)), (0, .ref h0)]) hx hb dX0_reduce_33 rfl hl (by decide) rfl (fun ls hl => ?_)
  refine jv_iconst hx hb dX0_reduce_34 ?_
  refine lv_istore_n (lv' := [(2, .int (jI 0)), (1, .int (jI 1)), (0, .ref h0)]) hx hb dX0_reduce_35 rfl hl (by decide) rfl (fun ls hl => ?_)
  exact lp_X0_reduce C 1900 0 fa fb fc fd _ _ ls (by decide) (by decide) (bd_0 hk) he hW (lv_sub hl [2, 1, 0] rfl)
end
section
/-! ===== small facts ===== -/
theorem ff_ {b : Bool} (h1 : b = false) (h2 : b = true) : False := by rw [h1] at h2; exact absurd h2 (by decide)
theorem of_yes {x y u v bs bu bv : Int} (h : nm_ (x - u) (y - v) < bs ∨ (nm_ (x - u) (y - v) = bs ∧ (u < bu ∨ (u = bu ∧ v < bv)))) : of_ x y u v (bs, bu, bv) = (nm_ (x - u) (y - v), u, v) := if_pos h
theorem of_no {x y u v bs bu bv : Int} (h : ¬ (nm_ (x - u) (y - v) < bs ∨ (nm_ (x - u) (y - v) = bs ∧ (u < bu ∨ (u = bu ∧ v < bv))))) : of_ x y u v (bs, bu, bv) = (bs, bu, bv) := if_neg h
theorem of_eq {h0 : Nat} {fa fb fc fd px py qx qy q1 q2 q3 : Int} {t : Int × Int × Int} (h : t = (q1, q2, q3)) : ob_ h0 0 [.int (jI fa), .int (jI fb), .int (jI fc), .int (jI fd), .int (jI px), .int (jI py), .int (jI qx), .int (jI qy), .int (jI q1), .int (jI q2), .int (jI q3)] = ob_ h0 0 [.int (jI fa), .int (jI fb), .int (jI fc), .int (jI fd), .int (jI px), .int (jI py), .int (jI qx), .int (jI qy), .int (jI t.1), .int (jI t.2.1), .int (jI t.2.2)] := by rw [h]
def rt3_ (t : Int × Int × Int) : Prop := rI t.1 ∧ rI t.2.1 ∧ rI t.2.2
theorem of_rt {x y u v : Int} {t : Int × Int × Int} (h1 : rI (nm_ (x - u) (y - v))) (h2 : rI u) (h3 : rI v) (h : rt3_ t) : rt3_ (of_ x y u v t) := by
  unfold of_
  split
  · exact ⟨h1, h2, h3⟩
  · exact h
theorem tu_mul (D z : Int) : tu_ D * z = z ∨ tu_ D * z = -z := by
  unfold tu_
  split
  · exact Or.inl (by omega)
  · exact Or.inr (by omega)
theorem ed_rng {w A M : Int} (hA : 0 < A) (hM : 0 ≤ M) (h1 : -M ≤ w) (h2 : w ≤ M) : -M ≤ w / A ∧ w / A ≤ M := by
  constructor
  · refine (Int.le_ediv_iff_mul_le hA).mpr ?_
    have := Int.mul_nonneg hM (show 0 ≤ A - 1 by omega)
    grind
  · have h3 : w / A < M + 1 := by
      refine (Int.ediv_lt_iff_lt_mul hA).mpr ?_
      have := Int.mul_nonneg (show 0 ≤ M + 1 by omega) (show 0 ≤ A - 1 by omega)
      grind
    omega
theorem wc_a {A B D most j : Int} (h : A * most - j * D * (j * D) < 0) : wc_ A B D most j = 0 := if_pos h
theorem wc_b {A B D most j : Int} (h : ¬ A * most - j * D * (j * D) < 0) (h2 : wo_ A B (rt_ (A * most - j * D * (j * D)) 16 0) j < wf_ A B (rt_ (A * most - j * D * (j * D)) 16 0) j) : wc_ A B D most j = 0 := (if_neg h).trans (if_pos h2)
theorem wc_c {A B D most j : Int} (h : ¬ A * most - j * D * (j * D) < 0) (h2 : ¬ wo_ A B (rt_ (A * most - j * D * (j * D)) 16 0) j < wf_ A B (rt_ (A * most - j * D * (j * D)) 16 0) j) : wc_ A B D most j = wo_ A B (rt_ (A * most - j * D * (j * D)) 16 0) j - wf_ A B (rt_ (A * most - j * D * (j * D)) 16 0) j + 1 := (if_neg h).trans (if_neg h2)
section SM
variable {a b c d a2 b2 c2 d2 : Int}
theorem sm_no (h : okB_ a2 b2 c2 d2 = false) : (-1 : Int) = sm_ a b c d a2 b2 c2 d2 := by unfold sm_; rw [h]; rfl
theorem sm_1 (h : okB_ a2 b2 c2 d2 = true) (h1 : inB_ a b c d a2 b2 = false) : (0 : Int) = sm_ a b c d a2 b2 c2 d2 := by unfold sm_; rw [h, h1]; rfl
theorem sm_2 (h : okB_ a2 b2 c2 d2 = true) (h1 : inB_ a b c d a2 b2 = true) (h2 : inB_ a b c d c2 d2 = false) : (0 : Int) = sm_ a b c d a2 b2 c2 d2 := by unfold sm_; rw [h, h1, h2]; rfl
theorem sm_3 (h : okB_ a2 b2 c2 d2 = true) (h1 : inB_ a b c d a2 b2 = true) (h2 : inB_ a b c d c2 d2 = true) (h3 : a * d - b * c = a2 * d2 - b2 * c2 ∨ a * d - b * c = -(a2 * d2 - b2 * c2)) : (1 : Int) = sm_ a b c d a2 b2 c2 d2 := by
  unfold sm_
  rw [h, h1, h2]
  rcases h3 with q | q
  · rw [decide_eq_true q]; rfl
  · rw [decide_eq_true (p := a * d - b * c = -(a2 * d2 - b2 * c2)) q, Bool.or_true]; rfl
theorem sm_4 (h : okB_ a2 b2 c2 d2 = true) (h1 : inB_ a b c d a2 b2 = true) (h2 : inB_ a b c d c2 d2 = true) (h3 : ¬ a * d - b * c = a2 * d2 - b2 * c2) (h4 : ¬ a * d - b * c = -(a2 * d2 - b2 * c2)) : (0 : Int) = sm_ a b c d a2 b2 c2 d2 := by
  unfold sm_
  rw [h, h1, h2, decide_eq_false h3, decide_eq_false h4]
  rfl
end SM
theorem fi_rng {px py qx qy x y : Int} (hb : bd_ px py qx qy) (hX : -1000 ≤ x ∧ x ≤ 1000) (hY : -1000 ≤ y ∧ y ≤ 1000) : (-84000 ≤ fi_ px py qx qy x y ∧ fi_ px py qx qy x y ≤ 84000) ∧ (-84000 ≤ fj_ px py qx qy x y ∧ fj_ px py qx qy x y ≤ 84000) := by
  obtain ⟨b1, b2, b3, b4⟩ := nm_bd hb.2.1
  obtain ⟨b5, b6, b7, b8⟩ := nm_bd hb.2.2
  have w1 := pr_bd hX.1 hX.2 b7 b8
  have w2 := pr_bd hY.1 hY.2 b5 b6
  have w3 := pr_bd b1 b2 hY.1 hY.2
  have w4 := pr_bd b3 b4 hX.1 hX.2
  have t1 := tu_mul (px * qy - py * qx) (x * qy - y * qx)
  have t2 := tu_mul (px * qy - py * qx) (px * y - py * x)
  unfold fi_ fj_
  exact ⟨ed_rng (tu_pos hb.1) (by decide) (by omega) (by omega), ed_rng (tu_pos hb.1) (by decide) (by omega) (by omega)⟩
/-! ===== walks: steps, has, many, same ===== -/
abbrev rm_X0_steps : Room := { frames := 2, cells := 0, slots := 0, locals := 48 }
theorem dn_X0_steps : yX0_steps.cls = RX0 ∧ yX0_steps.cls ≠ "java/lang/invoke/MethodHandle" ∧ yX0_steps.cls ≠ "java/lang/invoke/VarHandle" ∧ (parseMethodDescriptor yX0_steps.desc).map (fun d => d.parameters.length) = some 4 := by decide +kernel
set_option maxHeartbeats 4000000 in
set_option maxRecDepth 100000 in
/-- steps, taken -/
theorem met_X0_steps_ok (l : Launch) (h0 : Nat) (fa fb fc fd px py qx qy bs bu bv a2 b2 c2 d2 : Int) (r1 r2 r3 r4 : Int) (hk : ok_ a2 b2 c2 d2) (he : rd_ 1900 a2 b2 c2 d2 = (r1, r2, r3, r4)) : mi_ l yX0_steps cX0_steps 5 (some .int) rm_X0_steps h0 0 [.int (jI a2), .int (jI b2), .int (jI c2), .int (jI d2)] [.int (jI fa), .int (jI fb), .int (jI fc), .int (jI fd), .int (jI px), .int (jI py), .int (jI qx), .int (jI qy), .int (jI bs), .int (jI bu), .int (jI bv)] [.int (jI a2), .int (jI b2), .int (jI c2), .int (jI d2), .int (jI r1), .int (jI r2), .int (jI r3), .int (jI r4), .int (jI bs), .int (jI bu), .int (jI bv)] (0) := by
  refine mi_of (by decide) (Nat.le_of_ble_eq_true rfl) ?_
  intro p e s m args below meth c D A C hW ls hl
  have C : cx_ p s m args meth c cX0_steps 5 RX0 (some .int) D A := C
  have hx := C.1
  have hb := C.2.1
  have hown := C.2.2.2.1
  have hts := C.2.2.2.2.1
  have hl : lv_has ls 5 [(0, .ref h0), (1, .int (jI a2)), (2, .int (jI b2)), (3, .int (jI c2)), (4, .int (jI d2))] := hl
  obtain ⟨k1, k2, k3, k4, k5, k6, k7, k8, k9⟩ := id hk
  refine lv_iload_n hx hb dX0_steps_0 rfl (lv_at hl 1 rfl) ?_
  refine lv_iload_n hx hb dX0_steps_1 rfl (lv_at hl 2 rfl) ?_
  refine lv_iload_n hx hb dX0_steps_2 rfl (lv_at hl 3 rfl) ?_
  refine lv_iload hx hb dX0_steps_3 (lv_at hl 4 rfl) ?_
  refine cs_ C hW (met_X0_areSteps l a2 b2 c2 d2 ⟨by omega, by omega⟩ ⟨by omega, by omega⟩ ⟨by omega, by omega⟩ ⟨by omega, by omega⟩) (lw_S q71 q72 q9 q73) ⟨rfl, rfl⟩ dn_X0_areSteps ⟨Nat.le_of_ble_eq_true rfl, Nat.le_of_ble_eq_true rfl⟩ rfl hl.1 rfl (Nat.le_of_ble_eq_true rfl) ⟨Nat.zero_le _, Nat.zero_le _⟩ dX0_steps_5 (fun H locs hW => ?_)
  refine jv_if_yes (tgt := 13) hx hb dX0_steps_8 (by decide) (fun c_8 => ?_) (fun c_8 => ?_)
  · refine lv_aload_n hx hb dX0_steps_13 rfl (lv_at hl 0 rfl) ?_
    refine lv_iload_n hx hb dX0_steps_14 rfl (lv_at hl 1 rfl) ?_
    refine p0_fa C hW dX0_steps_15 (fun H locs hW => ?_)
    refine lv_aload_n hx hb dX0_steps_18 rfl (lv_at hl 0 rfl) ?_
    refine lv_iload_n hx hb dX0_steps_19 rfl (lv_at hl 2 rfl) ?_
    refine p0_fb C hW dX0_steps_20 (fun H locs hW => ?_)
    refine lv_aload_n hx hb dX0_steps_23 rfl (lv_at hl 0 rfl) ?_
    refine lv_iload_n hx hb dX0_steps_24 rfl (lv_at hl 3 rfl) ?_
    refine p0_fc C hW dX0_steps_25 (fun H locs hW => ?_)
    refine lv_aload_n hx hb dX0_steps_28 rfl (lv_at hl 0 rfl) ?_
    refine lv_iload hx hb dX0_steps_29 (lv_at hl 4 rfl) ?_
    refine p0_fd C hW dX0_steps_31 (fun H locs hW => ?_)
    refine lv_aload_n hx hb dX0_steps_34 rfl (lv_at hl 0 rfl) ?_
    refine cv_ (q := (RX0, TX0, 11)) C hW (met_X0_reduce l h0 a2 b2 c2 d2 px py qx qy bs bu bv _ _ _ _ hk he) rfl (lw_V q19 q21 qs0 q9 q22) ⟨rfl, rfl⟩ dn_X0_reduce ⟨Nat.le_of_ble_eq_true rfl, Nat.le_of_ble_eq_true rfl⟩ rfl hl.1 rfl (Nat.le_of_ble_eq_true rfl) ⟨Nat.zero_le _, Nat.zero_le _⟩ dX0_steps_35 (fun H locs hW => ?_)
    refine jv_iconst hx hb dX0_steps_38 ?_
    exact mi_reti C hW rfl rfl dX0_steps_39
  · exact (ff_ c_8 (okB_iff.mpr hk)).elim
set_option maxHeartbeats 4000000 in
set_option maxRecDepth 100000 in
/-- steps, not taken -/
theorem met_X0_steps_no (l : Launch) (h0 : Nat) (fa fb fc fd px py qx qy bs bu bv a2 b2 c2 d2 : Int) (h1 : rI a2) (h2 : rI b2) (h3 : rI c2) (h4 : rI d2) (hno : okB_ a2 b2 c2 d2 = false) : mi_ l yX0_steps cX0_steps 5 (some .int) rm_X0_steps h0 0 [.int (jI a2), .int (jI b2), .int (jI c2), .int (jI d2)] [.int (jI fa), .int (jI fb), .int (jI fc), .int (jI fd), .int (jI px), .int (jI py), .int (jI qx), .int (jI qy), .int (jI bs), .int (jI bu), .int (jI bv)] [.int (jI fa), .int (jI fb), .int (jI fc), .int (jI fd), .int (jI px), .int (jI py), .int (jI qx), .int (jI qy), .int (jI bs), .int (jI bu), .int (jI bv)] (-1) := by
  refine mi_of (by decide) (Nat.le_of_ble_eq_true rfl) ?_
  intro p e s m args below meth c D A C hW ls hl
  have C : cx_ p s m args meth c cX0_steps 5 RX0 (some .int) D A := C
  have hx := C.1
  have hb := C.2.1
  have hown := C.2.2.2.1
  have hts := C.2.2.2.2.1
  have hl : lv_has ls 5 [(0, .ref h0), (1, .int (jI a2)), (2, .int (jI b2)), (3, .int (jI c2)), (4, .int (jI d2))] := hl
  refine lv_iload_n hx hb dX0_steps_0 rfl (lv_at hl 1 rfl) ?_
  refine lv_iload_n hx hb dX0_steps_1 rfl (lv_at hl 2 rfl) ?_
  refine lv_iload_n hx hb dX0_steps_2 rfl (lv_at hl 3 rfl) ?_
  refine lv_iload hx hb dX0_steps_3 (lv_at hl 4 rfl) ?_
  refine cs_ C hW (met_X0_areSteps l a2 b2 c2 d2 h1 h2 h3 h4) (lw_S q71 q72 q9 q73) ⟨rfl, rfl⟩ dn_X0_areSteps ⟨Nat.le_of_ble_eq_true rfl, Nat.le_of_ble_eq_true rfl⟩ rfl hl.1 rfl (Nat.le_of_ble_eq_true rfl) ⟨Nat.zero_le _, Nat.zero_le _⟩ dX0_steps_5 (fun H locs hW => ?_)
  refine jv_if_yes (tgt := 13) hx hb dX0_steps_8 (by decide) (fun c_8 => ?_) (fun c_8 => ?_)
  · exact (ff_ hno c_8).elim
  · refine jv_iconst hx hb dX0_steps_11 ?_
    exact mi_reti C hW rfl rfl dX0_steps_12
abbrev rm_X0_has : Room := { frames := 1, cells := 0, slots := 0, locals := 23 }
theorem dn_X0_has : yX0_has.cls = RX0 ∧ yX0_has.cls ≠ "java/lang/invoke/MethodHandle" ∧ yX0_has.cls ≠ "java/lang/invoke/VarHandle" ∧ (parseMethodDescriptor yX0_has.desc).map (fun d => d.parameters.length) = some 2 := by decide +kernel
set_option maxHeartbeats 4000000 in
set_option maxRecDepth 100000 in
/-- has -/
theorem met_X0_has (l : Launch) (h0 : Nat) (fa fb fc fd px py qx qy bs bu bv x y : Int) (hk : ok_ fa fb fc fd) (h1 : rI x) (h2 : rI y) : mi_ l yX0_has cX0_has 3 (some .int) rm_X0_has h0 0 [.int (jI x), .int (jI y)] [.int (jI fa), .int (jI fb), .int (jI fc), .int (jI fd), .int (jI px), .int (jI py), .int (jI qx), .int (jI qy), .int (jI bs), .int (jI bu), .int (jI bv)] [.int (jI fa), .int (jI fb), .int (jI fc), .int (jI fd), .int (jI px), .int (jI py), .int (jI qx), .int (jI qy), .int (jI bs), .int (jI bu), .int (jI bv)] (if rgB_ x y then b2_ (inB_ fa fb fc fd x y) else -1) := by
  refine mi_of (by decide) (Nat.le_of_ble_eq_true rfl) ?_
  intro p e s m args below meth c D A C hW ls hl
  have C : cx_ p s m args meth c cX0_has 3 RX0 (some .int) D A := C
  have hx := C.1
  have hb := C.2.1
  have hown := C.2.2.2.1
  have hts := C.2.2.2.2.1
  have hl : lv_has ls 3 [(0, .ref h0), (1, .int (jI x)), (2, .int (jI y))] := hl
  refine lv_iload_n hx hb dX0_has_0 rfl (lv_at hl 1 rfl) ?_
  refine lv_iload_n hx hb dX0_has_1 rfl (lv_at hl 2 rfl) ?_
  refine cs_ C hW (met_X0_inRange l x y h1 h2) (lw_S q78 q79 q9 q80) ⟨rfl, rfl⟩ dn_X0_inRange ⟨Nat.le_of_ble_eq_true rfl, Nat.le_of_ble_eq_true rfl⟩ rfl hl.1 rfl (Nat.le_of_ble_eq_true rfl) ⟨Nat.zero_le _, Nat.zero_le _⟩ dX0_has_2 (fun H locs hW => ?_)
  refine jv_if_yes (tgt := 10) hx hb dX0_has_5 (by decide) (fun c_5 => ?_) (fun c_5 => ?_)
  · refine lv_aload_n hx hb dX0_has_10 rfl (lv_at hl 0 rfl) ?_
    refine lv_iload_n hx hb dX0_has_11 rfl (lv_at hl 1 rfl) ?_
    refine lv_iload_n hx hb dX0_has_12 rfl (lv_at hl 2 rfl) ?_
    have g := rgB_of c_5
    refine ci_ (q := (RX0, TX0, 11)) C hW (met_X0_isPoint l h0 fa fb fc fd px py qx qy bs bu bv x y hk ⟨by omega, by omega⟩ ⟨by omega, by omega⟩) rfl (lw_V q81 q83 qs2 q9 q84) ⟨rfl, rfl⟩ dn_X0_isPoint ⟨Nat.le_of_ble_eq_true rfl, Nat.le_of_ble_eq_true rfl⟩ rfl hl.1 rfl (Nat.le_of_ble_eq_true rfl) ⟨Nat.zero_le _, Nat.zero_le _⟩ dX0_has_13 (fun H locs hW => ?_)
    refine jv_if_no (tgt := 23) hx hb dX0_has_16 (by decide) (fun c_16 => ?_) (fun c_16 => ?_)
    · refine jv_iconst hx hb dX0_has_23 ?_
      exact mi_reti C hW (by rw [c_5, c_16]; rfl) rfl dX0_has_24
    · refine jv_iconst hx hb dX0_has_19 ?_
      refine lv_goto (tgt := 24) hx hb dX0_has_20 (by decide) ?_
      exact mi_reti C hW (by rw [c_5, c_16]; rfl) rfl dX0_has_24
  · refine jv_iconst hx hb dX0_has_8 ?_
    exact mi_reti C hW (by rw [c_5]; rfl) rfl dX0_has_9
abbrev rm_X0_many : Room := { frames := 1, cells := 0, slots := 0, locals := 21 }
theorem dn_X0_many : yX0_many.cls = RX0 ∧ yX0_many.cls ≠ "java/lang/invoke/MethodHandle" ∧ yX0_many.cls ≠ "java/lang/invoke/VarHandle" ∧ (parseMethodDescriptor yX0_many.desc).map (fun d => d.parameters.length) = some 0 := by decide +kernel
set_option maxHeartbeats 4000000 in
set_option maxRecDepth 100000 in
/-- many -/
theorem met_X0_many (l : Launch) (h0 : Nat) (fa fb fc fd px py qx qy bs bu bv : Int) (hbd : bd_ px py qx qy) : mi_ l yX0_many cX0_many 3 (some .int) rm_X0_many h0 0 [] [.int (jI fa), .int (jI fb), .int (jI fc), .int (jI fd), .int (jI px), .int (jI py), .int (jI qx), .int (jI qy), .int (jI bs), .int (jI bu), .int (jI bv)] [.int (jI fa), .int (jI fb), .int (jI fc), .int (jI fd), .int (jI px), .int (jI py), .int (jI qx), .int (jI qy), .int (jI bs), .int (jI bu), .int (jI bv)] (mc_ px py qx qy) := by
  refine mi_of (by decide) (Nat.le_of_ble_eq_true rfl) ?_
  intro p e s m args below meth c D A C hW ls hl
  have C : cx_ p s m args meth c cX0_many 3 RX0 (some .int) D A := C
  have hx := C.1
  have hb := C.2.1
  have hown := C.2.2.2.1
  have hts := C.2.2.2.2.1
  have hl : lv_has ls 3 [(0, .ref h0)] := hl
  obtain ⟨b1, b2, b3, b4⟩ := nm_bd hbd.2.1
  obtain ⟨b5, b6, b7, b8⟩ := nm_bd hbd.2.2
  have g0 : rI (nm_ px py) := ⟨by have := bd_p hbd; omega, by have := hbd.2.1; omega⟩
  have g1 : rI (nm_ qx qy) := ⟨by have := bd_q hbd; omega, by have := hbd.2.2; omega⟩
  have g2 : rI (nm_ (px + qx) (py + qy)) := by
    have s1 := sq_le (x := px + qx) (M := 84) (by omega) (by omega)
    have s2 := sq_le (x := py + qy) (M := 84) (by omega) (by omega)
    have s3 := sqn_ (px + qx)
    have s4 := sqn_ (py + qy)
    exact (show rI ((px + qx) * (px + qx) + (py + qy) * (py + qy)) from ⟨by omega, by omega⟩)
  have g3 : rI (nm_ (px - qx) (py - qy)) := by
    have s1 := sq_le (x := px - qx) (M := 84) (by omega) (by omega)
    have s2 := sq_le (x := py - qy) (M := 84) (by omega) (by omega)
    have s3 := sqn_ (px - qx)
    have s4 := sqn_ (py - qy)
    exact (show rI ((px - qx) * (px - qx) + (py - qy) * (py - qy)) from ⟨by omega, by omega⟩)
  refine lv_aload_n hx hb dX0_many_0 rfl (lv_at hl 0 rfl) ?_
  refine ci_ (q := (RX0, TX0, 11)) C hW (met_X0_shortest l h0 fa fb fc fd px py qx qy bs bu bv) rfl (lw_V q93 q86 q87 q9 q88) ⟨rfl, rfl⟩ dn_X0_shortest ⟨Nat.le_of_ble_eq_true rfl, Nat.le_of_ble_eq_true rfl⟩ rfl hl.1 rfl (Nat.le_of_ble_eq_true rfl) ⟨Nat.zero_le _, Nat.zero_le _⟩ dX0_many_1 (fun H locs hW => ?_)
  refine lv_istore_n (lv' := [(1, .int (jI (nm_ px py))), (0, .ref h0)]) hx hb dX0_many_4 rfl hl (by decide) rfl (fun ls hl => ?_)
  refine jv_iconst hx hb dX0_many_5 ?_
  refine lv_istore_n (lv' := [(2, .int (jI 2)), (1, .int (jI (nm_ px py))), (0, .ref h0)]) hx hb dX0_many_6 rfl hl (by decide) rfl (fun ls hl => ?_)
  refine lv_iload_n hx hb dX0_many_7 rfl (lv_at hl 0 rfl) ?_
  refine lv_aload_n hx hb dX0_many_8 rfl (lv_at hl 2 rfl) ?_
  refine g0_qx C hW dX0_many_9 ?_
  refine lv_aload_n hx hb dX0_many_12 rfl (lv_at hl 2 rfl) ?_
  refine g0_qx C hW dX0_many_13 ?_
  refine jv_imul hx hb dX0_many_16 ?_
  refine lv_aload_n hx hb dX0_many_17 rfl (lv_at hl 2 rfl) ?_
  refine g0_qy C hW dX0_many_18 ?_
  refine lv_aload_n hx hb dX0_many_21 rfl (lv_at hl 2 rfl) ?_
  refine g0_qy C hW dX0_many_22 ?_
  refine jv_imul hx hb dX0_many_25 ?_
  refine jv_iadd hx hb dX0_many_26 ?_
  refine lv_iload_n hx hb dX0_many_27 rfl (lv_at hl 1 rfl) ?_
  refine jv_icmp_ne (tgt := 35) hx hb dX0_many_28 (by decide) g1 g0 (fun c_28 => ?_) (fun c_28 => ?_)
  · refine jv_iconst hx hb dX0_many_35 ?_
    refine jv_iadd hx hb dX0_many_36 ?_
    refine lv_istore_n (lv' := [(2, .int (jI (2 + 0))), (1, .int (jI (nm_ px py))), (0, .ref h0)]) hx hb dX0_many_37 rfl hl (by decide) rfl (fun ls hl => ?_)
    refine lv_iload_n hx hb dX0_many_38 rfl (lv_at hl 0 rfl) ?_
    refine lv_aload_n hx hb dX0_many_39 rfl (lv_at hl 2 rfl) ?_
    refine g0_px C hW dX0_many_40 ?_
    refine lv_aload_n hx hb dX0_many_43 rfl (lv_at hl 2 rfl) ?_
    refine g0_qx C hW dX0_many_44 ?_
    refine jv_iadd hx hb dX0_many_47 ?_
    refine lv_aload_n hx hb dX0_many_48 rfl (lv_at hl 2 rfl) ?_
    refine g0_py C hW dX0_many_49 ?_
    refine lv_aload_n hx hb dX0_many_52 rfl (lv_at hl 2 rfl) ?_
    refine g0_qy C hW dX0_many_53 ?_
    refine jv_iadd hx hb dX0_many_56 ?_
    refine cs_ C hW (met_X0_size l (px + qx) (py + qy)) (lw_S q23 q24 q9 q25) ⟨rfl, rfl⟩ dn_X0_size ⟨Nat.le_of_ble_eq_true rfl, Nat.le_of_ble_eq_true rfl⟩ rfl hl.1 rfl (Nat.le_of_ble_eq_true rfl) ⟨Nat.zero_le _, Nat.zero_le _⟩ dX0_many_57 (fun H locs hW => ?_)
    refine lv_iload_n hx hb dX0_many_60 rfl (lv_at hl 1 rfl) ?_
    refine jv_icmp_ne (tgt := 68) hx hb dX0_many_61 (by decide) g2 g0 (fun c_61 => ?_) (fun c_61 => ?_)
    · refine jv_iconst hx hb dX0_many_68 ?_
      refine jv_iadd hx hb dX0_many_69 ?_
      refine lv_istore_n (lv' := [(2, .int (jI ((2 + 0) + 0))), (1, .int (jI (nm_ px py))), (0, .ref h0)]) hx hb dX0_many_70 rfl hl (by decide) rfl (fun ls hl => ?_)
      refine lv_iload_n hx hb dX0_many_71 rfl (lv_at hl 0 rfl) ?_
      refine lv_aload_n hx hb dX0_many_72 rfl (lv_at hl 2 rfl) ?_
      refine g0_px C hW dX0_many_73 ?_
      refine lv_aload_n hx hb dX0_many_76 rfl (lv_at hl 2 rfl) ?_
      refine g0_qx C hW dX0_many_77 ?_
      refine jv_isub hx hb dX0_many_80 ?_
      refine lv_aload_n hx hb dX0_many_81 rfl (lv_at hl 2 rfl) ?_
      refine g0_py C hW dX0_many_82 ?_
      refine lv_aload_n hx hb dX0_many_85 rfl (lv_at hl 2 rfl) ?_
      refine g0_qy C hW dX0_many_86 ?_
      refine jv_isub hx hb dX0_many_89 ?_
      refine cs_ C hW (met_X0_size l (px - qx) (py - qy)) (lw_S q23 q24 q9 q25) ⟨rfl, rfl⟩ dn_X0_size ⟨Nat.le_of_ble_eq_true rfl, Nat.le_of_ble_eq_true rfl⟩ rfl hl.1 rfl (Nat.le_of_ble_eq_true rfl) ⟨Nat.zero_le _, Nat.zero_le _⟩ dX0_many_90 (fun H locs hW => ?_)
      refine lv_iload_n hx hb dX0_many_93 rfl (lv_at hl 1 rfl) ?_
      refine jv_icmp_ne (tgt := 101) hx hb dX0_many_94 (by decide) g3 g0 (fun c_94 => ?_) (fun c_94 => ?_)
      · refine jv_iconst hx hb dX0_many_101 ?_
        refine jv_iadd hx hb dX0_many_102 ?_
        refine lv_istore_n (lv' := [(2, .int (jI (((2 + 0) + 0) + 0))), (1, .int (jI (nm_ px py))), (0, .ref h0)]) hx hb dX0_many_103 rfl hl (by decide) rfl (fun ls hl => ?_)
        refine lv_iload_n hx hb dX0_many_104 rfl (lv_at hl 0 rfl) ?_
        exact mi_reti C hW (by unfold mc_; rw [if_neg c_28, if_neg c_61, if_neg c_94]) rfl dX0_many_105
      · refine jv_iconst hx hb dX0_many_97 ?_
        refine lv_goto (tgt := 102) hx hb dX0_many_98 (by decide) ?_
        refine jv_iadd hx hb dX0_many_102 ?_
        refine lv_istore_n (lv' := [(2, .int (jI (((2 + 0) + 0) + 2))), (1, .int (jI (nm_ px py))), (0, .ref h0)]) hx hb dX0_many_103 rfl hl (by decide) rfl (fun ls hl => ?_)
        refine lv_iload_n hx hb dX0_many_104 rfl (lv_at hl 0 rfl) ?_
        exact mi_reti C hW (by unfold mc_; rw [if_neg c_28, if_neg c_61, if_pos c_94]) rfl dX0_many_105
    · refine jv_iconst hx hb dX0_many_64 ?_
      refine lv_goto (tgt := 69) hx hb dX0_many_65 (by decide) ?_
      refine jv_iadd hx hb dX0_many_69 ?_
      refine lv_istore_n (lv' := [(2, .int (jI ((2 + 0) + 2))), (1, .int (jI (nm_ px py))), (0, .ref h0)]) hx hb dX0_many_70 rfl hl (by decide) rfl (fun ls hl => ?_)
      refine lv_iload_n hx hb dX0_many_71 rfl (lv_at hl 0 rfl) ?_
      refine lv_aload_n hx hb dX0_many_72 rfl (lv_at hl 2 rfl) ?_
      refine g0_px C hW dX0_many_73 ?_
      refine lv_aload_n hx hb dX0_many_76 rfl (lv_at hl 2 rfl) ?_
      refine g0_qx C hW dX0_many_77 ?_
      refine jv_isub hx hb dX0_many_80 ?_
      refine lv_aload_n hx hb dX0_many_81 rfl (lv_at hl 2 rfl) ?_
      refine g0_py C hW dX0_many_82 ?_
      refine lv_aload_n hx hb dX0_many_85 rfl (lv_at hl 2 rfl) ?_
      refine g0_qy C hW dX0_many_86 ?_
      refine jv_isub hx hb dX0_many_89 ?_
      refine cs_ C hW (met_X0_size l (px - qx) (py - qy)) (lw_S q23 q24 q9 q25) ⟨rfl, rfl⟩ dn_X0_size ⟨Nat.le_of_ble_eq_true rfl, Nat.le_of_ble_eq_true rfl⟩ rfl hl.1 rfl (Nat.le_of_ble_eq_true rfl) ⟨Nat.zero_le _, Nat.zero_le _⟩ dX0_many_90 (fun H locs hW => ?_)
      refine lv_iload_n hx hb dX0_many_93 rfl (lv_at hl 1 rfl) ?_
      refine jv_icmp_ne (tgt := 101) hx hb dX0_many_94 (by decide) g3 g0 (fun c_94 => ?_) (fun c_94 => ?_)
      · refine jv_iconst hx hb dX0_many_101 ?_
        refine jv_iadd hx hb dX0_many_102 ?_
        refine lv_istore_n (lv' := [(2, .int (jI (((2 + 0) + 2) + 0))), (1, .int (jI (nm_ px py))), (0, .ref h0)]) hx hb dX0_many_103 rfl hl (by decide) rfl (fun ls hl => ?_)
        refine lv_iload_n hx hb dX0_many_104 rfl (lv_at hl 0 rfl) ?_
        exact mi_reti C hW (by unfold mc_; rw [if_neg c_28, if_pos c_61, if_neg c_94]) rfl dX0_many_105
      · refine jv_iconst hx hb dX0_many_97 ?_
        refine lv_goto (tgt := 102) hx hb dX0_many_98 (by decide) ?_
        refine jv_iadd hx hb dX0_many_102 ?_
        refine lv_istore_n (lv' := [(2, .int (jI (((2 + 0) + 2) + 2))), (1, .int (jI (nm_ px py))), (0, .ref h0)]) hx hb dX0_many_103 rfl hl (by decide) rfl (fun ls hl => ?_)
        refine lv_iload_n hx hb dX0_many_104 rfl (lv_at hl 0 rfl) ?_
        exact mi_reti C hW (by unfold mc_; rw [if_neg c_28, if_pos c_61, if_pos c_94]) rfl dX0_many_105
  · refine jv_iconst hx hb dX0_many_31 ?_
    refine lv_goto (tgt := 36) hx hb dX0_many_32 (by decide) ?_
    refine jv_iadd hx hb dX0_many_36 ?_
    refine lv_istore_n (lv' := [(2, .int (jI (2 + 2))), (1, .int (jI (nm_ px py))), (0, .ref h0)]) hx hb dX0_many_37 rfl hl (by decide) rfl (fun ls hl => ?_)
    refine lv_iload_n hx hb dX0_many_38 rfl (lv_at hl 0 rfl) ?_
    refine lv_aload_n hx hb dX0_many_39 rfl (lv_at hl 2 rfl) ?_
    refine g0_px C hW dX0_many_40 ?_
    refine lv_aload_n hx hb dX0_many_43 rfl (lv_at hl 2 rfl) ?_
    refine g0_qx C hW dX0_many_44 ?_
    refine jv_iadd hx hb dX0_many_47 ?_
    refine lv_aload_n hx hb dX0_many_48 rfl (lv_at hl 2 rfl) ?_
    refine g0_py C hW dX0_many_49 ?_
    refine lv_aload_n hx hb dX0_many_52 rfl (lv_at hl 2 rfl) ?_
    refine g0_qy C hW dX0_many_53 ?_
    refine jv_iadd hx hb dX0_many_56 ?_
    refine cs_ C hW (met_X0_size l (px + qx) (py + qy)) (lw_S q23 q24 q9 q25) ⟨rfl, rfl⟩ dn_X0_size ⟨Nat.le_of_ble_eq_true rfl, Nat.le_of_ble_eq_true rfl⟩ rfl hl.1 rfl (Nat.le_of_ble_eq_true rfl) ⟨Nat.zero_le _, Nat.zero_le _⟩ dX0_many_57 (fun H locs hW => ?_)
    refine lv_iload_n hx hb dX0_many_60 rfl (lv_at hl 1 rfl) ?_
    refine jv_icmp_ne (tgt := 68) hx hb dX0_many_61 (by decide) g2 g0 (fun c_61 => ?_) (fun c_61 => ?_)
    · refine jv_iconst hx hb dX0_many_68 ?_
      refine jv_iadd hx hb dX0_many_69 ?_
      refine lv_istore_n (lv' := [(2, .int (jI ((2 + 2) + 0))), (1, .int (jI (nm_ px py))), (0, .ref h0)]) hx hb dX0_many_70 rfl hl (by decide) rfl (fun ls hl => ?_)
      refine lv_iload_n hx hb dX0_many_71 rfl (lv_at hl 0 rfl) ?_
      refine lv_aload_n hx hb dX0_many_72 rfl (lv_at hl 2 rfl) ?_
      refine g0_px C hW dX0_many_73 ?_
      refine lv_aload_n hx hb dX0_many_76 rfl (lv_at hl 2 rfl) ?_
      refine g0_qx C hW dX0_many_77 ?_
      refine jv_isub hx hb dX0_many_80 ?_
      refine lv_aload_n hx hb dX0_many_81 rfl (lv_at hl 2 rfl) ?_
      refine g0_py C hW dX0_many_82 ?_
      refine lv_aload_n hx hb dX0_many_85 rfl (lv_at hl 2 rfl) ?_
      refine g0_qy C hW dX0_many_86 ?_
      refine jv_isub hx hb dX0_many_89 ?_
      refine cs_ C hW (met_X0_size l (px - qx) (py - qy)) (lw_S q23 q24 q9 q25) ⟨rfl, rfl⟩ dn_X0_size ⟨Nat.le_of_ble_eq_true rfl, Nat.le_of_ble_eq_true rfl⟩ rfl hl.1 rfl (Nat.le_of_ble_eq_true rfl) ⟨Nat.zero_le _, Nat.zero_le _⟩ dX0_many_90 (fun H locs hW => ?_)
      refine lv_iload_n hx hb dX0_many_93 rfl (lv_at hl 1 rfl) ?_
      refine jv_icmp_ne (tgt := 101) hx hb dX0_many_94 (by decide) g3 g0 (fun c_94 => ?_) (fun c_94 => ?_)
      · refine jv_iconst hx hb dX0_many_101 ?_
        refine jv_iadd hx hb dX0_many_102 ?_
        refine lv_istore_n (lv' := [(2, .int (jI (((2 + 2) + 0) + 0))), (1, .int (jI (nm_ px py))), (0, .ref h0)]) hx hb dX0_many_103 rfl hl (by decide) rfl (fun ls hl => ?_)
        refine lv_iload_n hx hb dX0_many_104 rfl (lv_at hl 0 rfl) ?_
        exact mi_reti C hW (by unfold mc_; rw [if_pos c_28, if_neg c_61, if_neg c_94]) rfl dX0_many_105
      · refine jv_iconst hx hb dX0_many_97 ?_
        refine lv_goto (tgt := 102) hx hb dX0_many_98 (by decide) ?_
        refine jv_iadd hx hb dX0_many_102 ?_
        refine lv_istore_n (lv' := [(2, .int (jI (((2 + 2) + 0) + 2))), (1, .int (jI (nm_ px py))), (0, .ref h0)]) hx hb dX0_many_103 rfl hl (by decide) rfl (fun ls hl => ?_)
        refine lv_iload_n hx hb dX0_many_104 rfl (lv_at hl 0 rfl) ?_
        exact mi_reti C hW (by unfold mc_; rw [if_pos c_28, if_neg c_61, if_pos c_94]) rfl dX0_many_105
    · refine jv_iconst hx hb dX0_many_64 ?_
      refine lv_goto (tgt := 69) hx hb dX0_many_65 (by decide) ?_
      refine jv_iadd hx hb dX0_many_69 ?_
      refine lv_istore_n (lv' := [(2, .int (jI ((2 + 2) + 2))), (1, .int (jI (nm_ px py))), (0, .ref h0)]) hx hb dX0_many_70 rfl hl (by decide) rfl (fun ls hl => ?_)
      refine lv_iload_n hx hb dX0_many_71 rfl (lv_at hl 0 rfl) ?_
      refine lv_aload_n hx hb dX0_many_72 rfl (lv_at hl 2 rfl) ?_
      refine g0_px C hW dX0_many_73 ?_
      refine lv_aload_n hx hb dX0_many_76 rfl (lv_at hl 2 rfl) ?_
      refine g0_qx C hW dX0_many_77 ?_
      refine jv_isub hx hb dX0_many_80 ?_
      refine lv_aload_n hx hb dX0_many_81 rfl (lv_at hl 2 rfl) ?_
      refine g0_py C hW dX0_many_82 ?_
      refine lv_aload_n hx hb dX0_many_85 rfl (lv_at hl 2 rfl) ?_
      refine g0_qy C hW dX0_many_86 ?_
      refine jv_isub hx hb dX0_many_89 ?_
      refine cs_ C hW (met_X0_size l (px - qx) (py - qy)) (lw_S q23 q24 q9 q25) ⟨rfl, rfl⟩ dn_X0_size ⟨Nat.le_of_ble_eq_true rfl, Nat.le_of_ble_eq_true rfl⟩ rfl hl.1 rfl (Nat.le_of_ble_eq_true rfl) ⟨Nat.zero_le _, Nat.zero_le _⟩ dX0_many_90 (fun H locs hW => ?_)
      refine lv_iload_n hx hb dX0_many_93 rfl (lv_at hl 1 rfl) ?_
      refine jv_icmp_ne (tgt := 101) hx hb dX0_many_94 (by decide) g3 g0 (fun c_94 => ?_) (fun c_94 => ?_)
      · refine jv_iconst hx hb dX0_many_101 ?_
        refine jv_iadd hx hb dX0_many_102 ?_
        refine lv_istore_n (lv' := [(2, .int (jI (((2 + 2) + 2) + 0))), (1, .int (jI (nm_ px py))), (0, .ref h0)]) hx hb dX0_many_103 rfl hl (by decide) rfl (fun ls hl => ?_)
        refine lv_iload_n hx hb dX0_many_104 rfl (lv_at hl 0 rfl) ?_
        exact mi_reti C hW (by unfold mc_; rw [if_pos c_28, if_pos c_61, if_neg c_94]) rfl dX0_many_105
      · refine jv_iconst hx hb dX0_many_97 ?_
        refine lv_goto (tgt := 102) hx hb dX0_many_98 (by decide) ?_
        refine jv_iadd hx hb dX0_many_102 ?_
        refine lv_istore_n (lv' := [(2, .int (jI (((2 + 2) + 2) + 2))), (1, .int (jI (nm_ px py))), (0, .ref h0)]) hx hb dX0_many_103 rfl hl (by decide) rfl (fun ls hl => ?_)
        refine lv_iload_n hx hb dX0_many_104 rfl (lv_at hl 0 rfl) ?_
        exact mi_reti C hW (by unfold mc_; rw [if_pos c_28, if_pos c_61, if_pos c_94]) rfl dX0_many_105
abbrev rm_X0_same : Room := { frames := 1, cells := 0, slots := 0, locals := 24 }
theorem dn_X0_same : yX0_same.cls = RX0 ∧ yX0_same.cls ≠ "java/lang/invoke/MethodHandle" ∧ yX0_same.cls ≠ "java/lang/invoke/VarHandle" ∧ (parseMethodDescriptor yX0_same.desc).map (fun d => d.parameters.length) = some 4 := by decide +kernel
set_option maxHeartbeats 4000000 in
set_option maxRecDepth 100000 in
/-- same -/
theorem met_X0_same (l : Launch) (h0 : Nat) (fa fb fc fd px py qx qy bs bu bv a2 b2 c2 d2 : Int) (hk : ok_ fa fb fc fd) (h1 : rI a2) (h2 : rI b2) (h3 : rI c2) (h4 : rI d2) : mi_ l yX0_same cX0_same 8 (some .int) rm_X0_same h0 0 [.int (jI a2), .int (jI b2), .int (jI c2), .int (jI d2)] [.int (jI fa), .int (jI fb), .int (jI fc), .int (jI fd), .int (jI px), .int (jI py), .int (jI qx), .int (jI qy), .int (jI bs), .int (jI bu), .int (jI bv)] [.int (jI fa), .int (jI fb), .int (jI fc), .int (jI fd), .int (jI px), .int (jI py), .int (jI qx), .int (jI qy), .int (jI bs), .int (jI bu), .int (jI bv)] (sm_ fa fb fc fd a2 b2 c2 d2) := by
  refine mi_of (by decide) (Nat.le_of_ble_eq_true rfl) ?_
  intro p e s m args below meth c D A C hW ls hl
  have C : cx_ p s m args meth c cX0_same 8 RX0 (some .int) D A := C
  have hx := C.1
  have hb := C.2.1
  have hown := C.2.2.2.1
  have hts := C.2.2.2.2.1
  have hl : lv_has ls 8 [(0, .ref h0), (1, .int (jI a2)), (2, .int (jI b2)), (3, .int (jI c2)), (4, .int (jI d2))] := hl
  obtain ⟨k1, k2, k3, k4, k5, k6, k7, k8, k9⟩ := id hk
  have w1 := pr_bd (x := fa) (y := fd) (M := 30) (N := 30) (by omega) (by omega) (by omega) (by omega)
  have w2 := pr_bd (x := fb) (y := fc) (M := 30) (N := 30) (by omega) (by omega) (by omega) (by omega)
  refine lv_iload_n hx hb dX0_same_0 rfl (lv_at hl 1 rfl) ?_
  refine lv_iload_n hx hb dX0_same_1 rfl (lv_at hl 2 rfl) ?_
  refine lv_iload_n hx hb dX0_same_2 rfl (lv_at hl 3 rfl) ?_
  refine lv_iload hx hb dX0_same_3 (lv_at hl 4 rfl) ?_
  refine cs_ C hW (met_X0_areSteps l a2 b2 c2 d2 h1 h2 h3 h4) (lw_S q71 q72 q9 q73) ⟨rfl, rfl⟩ dn_X0_areSteps ⟨Nat.le_of_ble_eq_true rfl, Nat.le_of_ble_eq_true rfl⟩ rfl hl.1 rfl (Nat.le_of_ble_eq_true rfl) ⟨Nat.zero_le _, Nat.zero_le _⟩ dX0_same_5 (fun H locs hW => ?_)
  refine jv_if_yes (tgt := 13) hx hb dX0_same_8 (by decide) (fun c_8 => ?_) (fun c_8 => ?_)
  · obtain ⟨j1, j2, j3, j4, j5, j6, j7, j8, j9⟩ := okB_iff.mp c_8
    have w3 := pr_bd (x := a2) (y := d2) (M := 30) (N := 30) (by omega) (by omega) (by omega) (by omega)
    have w4 := pr_bd (x := b2) (y := c2) (M := 30) (N := 30) (by omega) (by omega) (by omega) (by omega)
    refine lv_aload_n hx hb dX0_same_13 rfl (lv_at hl 0 rfl) ?_
    refine g0_fa C hW dX0_same_14 ?_
    refine lv_aload_n hx hb dX0_same_17 rfl (lv_at hl 0 rfl) ?_
    refine g0_fd C hW dX0_same_18 ?_
    refine jv_imul hx hb dX0_same_21 ?_
    refine lv_aload_n hx hb dX0_same_22 rfl (lv_at hl 0 rfl) ?_
    refine g0_fb C hW dX0_same_23 ?_
    refine lv_aload_n hx hb dX0_same_26 rfl (lv_at hl 0 rfl) ?_
    refine g0_fc C hW dX0_same_27 ?_
    refine jv_imul hx hb dX0_same_30 ?_
    refine jv_isub hx hb dX0_same_31 ?_
    refine lv_istore (lv' := [(5, .int (jI ((fa * fd) - (fb * fc)))), (0, .ref h0), (1, .int (jI a2)), (2, .int (jI b2)), (3, .int (jI c2)), (4, .int (jI d2))]) hx hb dX0_same_32 hl (by decide) rfl (fun ls hl => ?_)
    refine lv_iload_n hx hb dX0_same_34 rfl (lv_at hl 2 rfl) ?_
    refine lv_iload hx hb dX0_same_35 (lv_at hl 5 rfl) ?_
    refine jv_imul hx hb dX0_same_37 ?_
    refine lv_iload_n hx hb dX0_same_38 rfl (lv_at hl 3 rfl) ?_
    refine lv_iload_n hx hb dX0_same_39 rfl (lv_at hl 4 rfl) ?_
    refine jv_imul hx hb dX0_same_40 ?_
    refine jv_isub hx hb dX0_same_41 ?_
    refine lv_istore (lv' := [(6, .int (jI ((a2 * d2) - (b2 * c2)))), (5, .int (jI ((fa * fd) - (fb * fc)))), (0, .ref h0), (1, .int (jI a2)), (2, .int (jI b2)), (3, .int (jI c2)), (4, .int (jI d2))]) hx hb dX0_same_42 hl (by decide) rfl (fun ls hl => ?_)
    refine lv_aload_n hx hb dX0_same_44 rfl (lv_at hl 2 rfl) ?_
    refine lv_iload_n hx hb dX0_same_45 rfl (lv_at hl 3 rfl) ?_
    refine lv_iload_n hx hb dX0_same_46 rfl (lv_at hl 4 rfl) ?_
    refine ci_ (q := (RX0, TX0, 11)) C hW (met_X0_isPoint l h0 fa fb fc fd px py qx qy bs bu bv a2 b2 hk ⟨by omega, by omega⟩ ⟨by omega, by omega⟩) rfl (lw_V q81 q83 qs2 q9 q84) ⟨rfl, rfl⟩ dn_X0_isPoint ⟨Nat.le_of_ble_eq_true rfl, Nat.le_of_ble_eq_true rfl⟩ rfl hl.1 rfl (Nat.le_of_ble_eq_true rfl) ⟨Nat.zero_le _, Nat.zero_le _⟩ dX0_same_47 (fun H locs hW => ?_)
    refine jv_if_no (tgt := 67) hx hb dX0_same_50 (by decide) (fun c_50 => ?_) (fun c_50 => ?_)
    · refine jv_iconst hx hb dX0_same_67 ?_
      refine lv_istore (lv' := [(7, .int (jI 0)), (6, .int (jI ((a2 * d2) - (b2 * c2)))), (5, .int (jI ((fa * fd) - (fb * fc)))), (0, .ref h0), (1, .int (jI a2)), (2, .int (jI b2)), (3, .int (jI c2)), (4, .int (jI d2))]) hx hb dX0_same_68 hl (by decide) rfl (fun ls hl => ?_)
      refine lv_iload hx hb dX0_same_70 (lv_at hl 0 rfl) ?_
      refine jv_if_eq (tgt := 94) hx hb dX0_same_72 (by decide) ⟨by omega, by omega⟩ (fun c_72 => ?_) (fun c_72 => ?_)
      · refine jv_iconst hx hb dX0_same_94 ?_
        exact mi_reti C hW (by first | exact sm_1 c_8 c_50 | exact sm_2 c_8 c_50 c_60 | exact sm_4 c_8 c_50 c_60 c_79 c_87) rfl dX0_same_95
      · exact absurd c_72 (by decide)
    · refine lv_aload_n hx hb dX0_same_53 rfl (lv_at hl 2 rfl) ?_
      refine lv_iload_n hx hb dX0_same_54 rfl (lv_at hl 5 rfl) ?_
      refine lv_iload hx hb dX0_same_55 (lv_at hl 6 rfl) ?_
      refine ci_ (q := (RX0, TX0, 11)) C hW (met_X0_isPoint l h0 fa fb fc fd px py qx qy bs bu bv c2 d2 hk ⟨by omega, by omega⟩ ⟨by omega, by omega⟩) rfl (lw_V q81 q83 qs2 q9 q84) ⟨rfl, rfl⟩ dn_X0_isPoint ⟨Nat.le_of_ble_eq_true rfl, Nat.le_of_ble_eq_true rfl⟩ rfl hl.1 rfl (Nat.le_of_ble_eq_true rfl) ⟨Nat.zero_le _, Nat.zero_le _⟩ dX0_same_57 (fun H locs hW => ?_)
      refine jv_if_no (tgt := 67) hx hb dX0_same_60 (by decide) (fun c_60 => ?_) (fun c_60 => ?_)
      · refine jv_iconst hx hb dX0_same_67 ?_
        refine lv_istore (lv' := [(7, .int (jI 0)), (6, .int (jI ((a2 * d2) - (b2 * c2)))), (5, .int (jI ((fa * fd) - (fb * fc)))), (0, .ref h0), (1, .int (jI a2)), (2, .int (jI b2)), (3, .int (jI c2)), (4, .int (jI d2))]) hx hb dX0_same_68 hl (by decide) rfl (fun ls hl => ?_)
        refine lv_iload hx hb dX0_same_70 (lv_at hl 0 rfl) ?_
        refine jv_if_eq (tgt := 94) hx hb dX0_same_72 (by decide) ⟨by omega, by omega⟩ (fun c_72 => ?_) (fun c_72 => ?_)
        · refine jv_iconst hx hb dX0_same_94 ?_
          exact mi_reti C hW (by first | exact sm_1 c_8 c_50 | exact sm_2 c_8 c_50 c_60 | exact sm_4 c_8 c_50 c_60 c_79 c_87) rfl dX0_same_95
        · exact absurd c_72 (by decide)
      · refine jv_iconst hx hb dX0_same_63 ?_
        refine lv_goto (tgt := 68) hx hb dX0_same_64 (by decide) ?_
        refine lv_istore (lv' := [(7, .int (jI 1)), (6, .int (jI ((a2 * d2) - (b2 * c2)))), (5, .int (jI ((fa * fd) - (fb * fc)))), (0, .ref h0), (1, .int (jI a2)), (2, .int (jI b2)), (3, .int (jI c2)), (4, .int (jI d2))]) hx hb dX0_same_68 hl (by decide) rfl (fun ls hl => ?_)
        refine lv_iload hx hb dX0_same_70 (lv_at hl 0 rfl) ?_
        refine jv_if_eq (tgt := 94) hx hb dX0_same_72 (by decide) ⟨by omega, by omega⟩ (fun c_72 => ?_) (fun c_72 => ?_)
        · exact absurd c_72 (by decide)
        · refine lv_iload hx hb dX0_same_75 (lv_at hl 2 rfl) ?_
          refine lv_iload hx hb dX0_same_77 (lv_at hl 1 rfl) ?_
          refine jv_icmp_eq (tgt := 90) hx hb dX0_same_79 (by decide) ⟨by omega, by omega⟩ ⟨by omega, by omega⟩ (fun c_79 => ?_) (fun c_79 => ?_)
          · refine jv_iconst hx hb dX0_same_90 ?_
            refine lv_goto (tgt := 95) hx hb dX0_same_91 (by decide) ?_
            exact mi_reti C hW (by first | exact sm_3 c_8 c_50 c_60 (Or.inl c_79) | exact sm_3 c_8 c_50 c_60 (Or.inr c_87)) rfl dX0_same_95
          · refine lv_iload hx hb dX0_same_82 (lv_at hl 2 rfl) ?_
            refine lv_iload hx hb dX0_same_84 (lv_at hl 1 rfl) ?_
            refine jv_ineg hx hb dX0_same_86 ?_
            refine jv_icmp_ne (tgt := 94) hx hb dX0_same_87 (by decide) ⟨by omega, by omega⟩ ⟨by omega, by omega⟩ (fun c_87 => ?_) (fun c_87 => ?_)
            · refine jv_iconst hx hb dX0_same_94 ?_
              exact mi_reti C hW (by first | exact sm_1 c_8 c_50 | exact sm_2 c_8 c_50 c_60 | exact sm_4 c_8 c_50 c_60 c_79 c_87) rfl dX0_same_95
            · refine jv_iconst hx hb dX0_same_90 ?_
              refine lv_goto (tgt := 95) hx hb dX0_same_91 (by decide) ?_
              exact mi_reti C hW (by first | exact sm_3 c_8 c_50 c_60 (Or.inl c_79) | exact sm_3 c_8 c_50 c_60 (Or.inr c_87)) rfl dX0_same_95
  · refine jv_iconst hx hb dX0_same_11 ?_
    exact mi_reti C hW (sm_no c_8) rfl dX0_same_12
/-! ===== walks: offer, findNearest, distance, nearest ===== -/
abbrev rm_X0_offer : Room := { frames := 1, cells := 0, slots := 0, locals := 21 }
theorem dn_X0_offer : yX0_offer.cls = RX0 ∧ yX0_offer.cls ≠ "java/lang/invoke/MethodHandle" ∧ yX0_offer.cls ≠ "java/lang/invoke/VarHandle" ∧ (parseMethodDescriptor yX0_offer.desc).map (fun d => d.parameters.length) = some 4 := by decide +kernel
set_option maxHeartbeats 4000000 in
set_option maxRecDepth 100000 in
/-- offer -/
theorem met_X0_offer (l : Launch) (h0 : Nat) (fa fb fc fd px py qx qy bs bu bv x y u v : Int) (h1 : rI (nm_ (x - u) (y - v))) (h2 : rI bs) (h3 : rI u) (h4 : rI bu) (h5 : rI v) (h6 : rI bv) : mv_ l yX0_offer cX0_offer 7 none rm_X0_offer h0 0 [.int (jI x), .int (jI y), .int (jI u), .int (jI v)] [.int (jI fa), .int (jI fb), .int (jI fc), .int (jI fd), .int (jI px), .int (jI py), .int (jI qx), .int (jI qy), .int (jI bs), .int (jI bu), .int (jI bv)] [.int (jI fa), .int (jI fb), .int (jI fc), .int (jI fd), .int (jI px), .int (jI py), .int (jI qx), .int (jI qy), .int (jI ((of_ x y u v (bs, bu, bv)).1)), .int (jI ((of_ x y u v (bs, bu, bv)).2.1)), .int (jI ((of_ x y u v (bs, bu, bv)).2.2))] := by
  refine mv_of (by decide) (Nat.le_of_ble_eq_true rfl) ?_
  intro p e s m args below meth c D A C hW ls hl
  have C : cx_ p s m args meth c cX0_offer 7 RX0 none D A := C
  have hx := C.1
  have hb := C.2.1
  have hown := C.2.2.2.1
  have hts := C.2.2.2.2.1
  have hl : lv_has ls 7 [(0, .ref h0), (1, .int (jI x)), (2, .int (jI y)), (3, .int (jI u)), (4, .int (jI v))] := hl
  refine lv_iload_n hx hb dX0_offer_0 rfl (lv_at hl 1 rfl) ?_
  refine lv_iload_n hx hb dX0_offer_1 rfl (lv_at hl 3 rfl) ?_
  refine jv_isub hx hb dX0_offer_2 ?_
  refine lv_iload_n hx hb dX0_offer_3 rfl (lv_at hl 2 rfl) ?_
  refine lv_iload hx hb dX0_offer_4 (lv_at hl 4 rfl) ?_
  refine jv_isub hx hb dX0_offer_6 ?_
  refine cs_ C hW (met_X0_size l (x - u) (y - v)) (lw_S q23 q24 q9 q25) ⟨rfl, rfl⟩ dn_X0_size ⟨Nat.le_of_ble_eq_true rfl, Nat.le_of_ble_eq_true rfl⟩ rfl hl.1 rfl (Nat.le_of_ble_eq_true rfl) ⟨Nat.zero_le _, Nat.zero_le _⟩ dX0_offer_7 (fun H locs hW => ?_)
  refine lv_istore (lv' := [(5, .int (jI (nm_ (x - u) (y - v)))), (0, .ref h0), (1, .int (jI x)), (2, .int (jI y)), (3, .int (jI u)), (4, .int (jI v))]) hx hb dX0_offer_10 hl (by decide) rfl (fun ls hl => ?_)
  refine lv_iload hx hb dX0_offer_12 (lv_at hl 0 rfl) ?_
  refine lv_aload_n hx hb dX0_offer_14 rfl (lv_at hl 1 rfl) ?_
  refine g0_bs C hW dX0_offer_15 ?_
  refine jv_icmp_lt (tgt := 55) hx hb dX0_offer_18 (by decide) h1 h2 (fun c_18 => ?_) (fun c_18 => ?_)
  · refine jv_iconst hx hb dX0_offer_55 ?_
    refine lv_goto (tgt := 60) hx hb dX0_offer_56 (by decide) ?_
    refine lv_istore (lv' := [(6, .int (jI 1)), (5, .int (jI (nm_ (x - u) (y - v)))), (0, .ref h0), (1, .int (jI x)), (2, .int (jI y)), (3, .int (jI u)), (4, .int (jI v))]) hx hb dX0_offer_60 hl (by decide) rfl (fun ls hl => ?_)
    refine lv_iload hx hb dX0_offer_62 (lv_at hl 0 rfl) ?_
    refine jv_if_eq (tgt := 84) hx hb dX0_offer_64 (by decide) ⟨by omega, by omega⟩ (fun c_64 => ?_) (fun c_64 => ?_)
    · exact absurd c_64 (by decide)
    · refine lv_aload_n hx hb dX0_offer_67 rfl (lv_at hl 2 rfl) ?_
      refine lv_iload hx hb dX0_offer_68 (lv_at hl 1 rfl) ?_
      refine p0_bs C hW dX0_offer_70 (fun H locs hW => ?_)
      refine lv_aload_n hx hb dX0_offer_73 rfl (lv_at hl 2 rfl) ?_
      refine lv_iload_n hx hb dX0_offer_74 rfl (lv_at hl 5 rfl) ?_
      refine p0_bu C hW dX0_offer_75 (fun H locs hW => ?_)
      refine lv_aload_n hx hb dX0_offer_78 rfl (lv_at hl 2 rfl) ?_
      refine lv_iload hx hb dX0_offer_79 (lv_at hl 6 rfl) ?_
      refine p0_bv C hW dX0_offer_81 (fun H locs hW => ?_)
      exact mv_ret C hW (of_eq (of_yes (by omega))) dX0_offer_84
  · refine lv_iload hx hb dX0_offer_21 (lv_at hl 0 rfl) ?_
    refine lv_aload_n hx hb dX0_offer_23 rfl (lv_at hl 1 rfl) ?_
    refine g0_bs C hW dX0_offer_24 ?_
    refine jv_icmp_ne (tgt := 59) hx hb dX0_offer_27 (by decide) h1 h2 (fun c_27 => ?_) (fun c_27 => ?_)
    · refine jv_iconst hx hb dX0_offer_59 ?_
      refine lv_istore (lv' := [(6, .int (jI 0)), (5, .int (jI (nm_ (x - u) (y - v)))), (0, .ref h0), (1, .int (jI x)), (2, .int (jI y)), (3, .int (jI u)), (4, .int (jI v))]) hx hb dX0_offer_60 hl (by decide) rfl (fun ls hl => ?_)
      refine lv_iload hx hb dX0_offer_62 (lv_at hl 0 rfl) ?_
      refine jv_if_eq (tgt := 84) hx hb dX0_offer_64 (by decide) ⟨by omega, by omega⟩ (fun c_64 => ?_) (fun c_64 => ?_)
      · exact mv_ret C hW (of_eq (of_no (by omega))) dX0_offer_84
      · exact absurd c_64 (by decide)
    · refine lv_iload_n hx hb dX0_offer_30 rfl (lv_at hl 4 rfl) ?_
      refine lv_aload_n hx hb dX0_offer_31 rfl (lv_at hl 1 rfl) ?_
      refine g0_bu C hW dX0_offer_32 ?_
      refine jv_icmp_lt (tgt := 55) hx hb dX0_offer_35 (by decide) h3 h4 (fun c_35 => ?_) (fun c_35 => ?_)
      · refine jv_iconst hx hb dX0_offer_55 ?_
        refine lv_goto (tgt := 60) hx hb dX0_offer_56 (by decide) ?_
        refine lv_istore (lv' := [(6, .int (jI 1)), (5, .int (jI (nm_ (x - u) (y - v)))), (0, .ref h0), (1, .int (jI x)), (2, .int (jI y)), (3, .int (jI u)), (4, .int (jI v))]) hx hb dX0_offer_60 hl (by decide) rfl (fun ls hl => ?_)
        refine lv_iload hx hb dX0_offer_62 (lv_at hl 0 rfl) ?_
        refine jv_if_eq (tgt := 84) hx hb dX0_offer_64 (by decide) ⟨by omega, by omega⟩ (fun c_64 => ?_) (fun c_64 => ?_)
        · exact absurd c_64 (by decide)
        · refine lv_aload_n hx hb dX0_offer_67 rfl (lv_at hl 2 rfl) ?_
          refine lv_iload hx hb dX0_offer_68 (lv_at hl 1 rfl) ?_
          refine p0_bs C hW dX0_offer_70 (fun H locs hW => ?_)
          refine lv_aload_n hx hb dX0_offer_73 rfl (lv_at hl 2 rfl) ?_
          refine lv_iload_n hx hb dX0_offer_74 rfl (lv_at hl 5 rfl) ?_
          refine p0_bu C hW dX0_offer_75 (fun H locs hW => ?_)
          refine lv_aload_n hx hb dX0_offer_78 rfl (lv_at hl 2 rfl) ?_
          refine lv_iload hx hb dX0_offer_79 (lv_at hl 6 rfl) ?_
          refine p0_bv C hW dX0_offer_81 (fun H locs hW => ?_)
          exact mv_ret C hW (of_eq (of_yes (by omega))) dX0_offer_84
      · refine lv_iload_n hx hb dX0_offer_38 rfl (lv_at hl 4 rfl) ?_
        refine lv_aload_n hx hb dX0_offer_39 rfl (lv_at hl 1 rfl) ?_
        refine g0_bu C hW dX0_offer_40 ?_
        refine jv_icmp_ne (tgt := 59) hx hb dX0_offer_43 (by decide) h3 h4 (fun c_43 => ?_) (fun c_43 => ?_)
        · refine jv_iconst hx hb dX0_offer_59 ?_
          refine lv_istore (lv' := [(6, .int (jI 0)), (5, .int (jI (nm_ (x - u) (y - v)))), (0, .ref h0), (1, .int (jI x)), (2, .int (jI y)), (3, .int (jI u)), (4, .int (jI v))]) hx hb dX0_offer_60 hl (by decide) rfl (fun ls hl => ?_)
          refine lv_iload hx hb dX0_offer_62 (lv_at hl 0 rfl) ?_
          refine jv_if_eq (tgt := 84) hx hb dX0_offer_64 (by decide) ⟨by omega, by omega⟩ (fun c_64 => ?_) (fun c_64 => ?_)
          · exact mv_ret C hW (of_eq (of_no (by omega))) dX0_offer_84
          · exact absurd c_64 (by decide)
        · refine lv_iload hx hb dX0_offer_46 (lv_at hl 5 rfl) ?_
          refine lv_aload_n hx hb dX0_offer_48 rfl (lv_at hl 1 rfl) ?_
          refine g0_bv C hW dX0_offer_49 ?_
          refine jv_icmp_ge (tgt := 59) hx hb dX0_offer_52 (by decide) h5 h6 (fun c_52 => ?_) (fun c_52 => ?_)
          · refine jv_iconst hx hb dX0_offer_59 ?_
            refine lv_istore (lv' := [(6, .int (jI 0)), (5, .int (jI (nm_ (x - u) (y - v)))), (0, .ref h0), (1, .int (jI x)), (2, .int (jI y)), (3, .int (jI u)), (4, .int (jI v))]) hx hb dX0_offer_60 hl (by decide) rfl (fun ls hl => ?_)
            refine lv_iload hx hb dX0_offer_62 (lv_at hl 0 rfl) ?_
            refine jv_if_eq (tgt := 84) hx hb dX0_offer_64 (by decide) ⟨by omega, by omega⟩ (fun c_64 => ?_) (fun c_64 => ?_)
            · exact mv_ret C hW (of_eq (of_no (by omega))) dX0_offer_84
            · exact absurd c_64 (by decide)
          · refine jv_iconst hx hb dX0_offer_55 ?_
            refine lv_goto (tgt := 60) hx hb dX0_offer_56 (by decide) ?_
            refine lv_istore (lv' := [(6, .int (jI 1)), (5, .int (jI (nm_ (x - u) (y - v)))), (0, .ref h0), (1, .int (jI x)), (2, .int (jI y)), (3, .int (jI u)), (4, .int (jI v))]) hx hb dX0_offer_60 hl (by decide) rfl (fun ls hl => ?_)
            refine lv_iload hx hb dX0_offer_62 (lv_at hl 0 rfl) ?_
            refine jv_if_eq (tgt := 84) hx hb dX0_offer_64 (by decide) ⟨by omega, by omega⟩ (fun c_64 => ?_) (fun c_64 => ?_)
            · exact absurd c_64 (by decide)
            · refine lv_aload_n hx hb dX0_offer_67 rfl (lv_at hl 2 rfl) ?_
              refine lv_iload hx hb dX0_offer_68 (lv_at hl 1 rfl) ?_
              refine p0_bs C hW dX0_offer_70 (fun H locs hW => ?_)
              refine lv_aload_n hx hb dX0_offer_73 rfl (lv_at hl 2 rfl) ?_
              refine lv_iload_n hx hb dX0_offer_74 rfl (lv_at hl 5 rfl) ?_
              refine p0_bu C hW dX0_offer_75 (fun H locs hW => ?_)
              refine lv_aload_n hx hb dX0_offer_78 rfl (lv_at hl 2 rfl) ?_
              refine lv_iload hx hb dX0_offer_79 (lv_at hl 6 rfl) ?_
              refine p0_bv C hW dX0_offer_81 (fun H locs hW => ?_)
              exact mv_ret C hW (of_eq (of_yes (by omega))) dX0_offer_84
abbrev rm_X0_findNearest : Room := { frames := 2, cells := 0, slots := 0, locals := 47 }
theorem dn_X0_findNearest : yX0_findNearest.cls = RX0 ∧ yX0_findNearest.cls ≠ "java/lang/invoke/MethodHandle" ∧ yX0_findNearest.cls ≠ "java/lang/invoke/VarHandle" ∧ (parseMethodDescriptor yX0_findNearest.desc).map (fun d => d.parameters.length) = some 2 := by decide +kernel
set_option maxHeartbeats 4000000 in
set_option maxRecDepth 100000 in
theorem lp_X0_fn_i {p : Program} {l : Launch} {e : Env} {s : State} {m : MethodId} {args : Array Value} {below : List Frame} {meth : Method} {c : Code} {D : va_G} {A : Nat → Prop} {h0 : Nat} {fa fb fc fd px py qx qy x y I J : Int} {Q : State → Prop} (C : cx_ p s m args meth c cX0_findNearest 9 RX0 none D A) (hI : -84000 ≤ I ∧ I ≤ 84000) (hJ : -84000 ≤ J ∧ J ≤ 84000) (hX : -1000 ≤ x ∧ x ≤ 1000) (hY : -1000 ≤ y ∧ y ≤ 1000) (hs : ∀ k lv : Int, I - 1 ≤ k → k ≤ I + 2 → J - 1 ≤ lv → lv ≤ J + 2 → (-168 ≤ x - (k * px + lv * qx) ∧ x - (k * px + lv * qx) ≤ 168) ∧ (-168 ≤ y - (k * py + lv * qy) ∧ y - (k * py + lv * qy) ≤ 168)) (k : Int) (hk1 : I - 1 ≤ k) (hk2 : k ≤ I + 2) : ∀ (n : Nat) (lv : Int) (t : Int × Int × Int) (H : Heap) (locs : List Loc) (ls : Array Slot), lv + n = J + 3 → J - 1 ≤ lv → rt3_ t → wd_ D A s H locs (ob_ h0 0 [.int (jI fa), .int (jI fb), .int (jI fc), .int (jI fd), .int (jI px), .int (jI py), .int (jI qx), .int (jI qy), .int (jI t.1), .int (jI t.2.1), .int (jI t.2.2)]) → lv_has ls 9 [(0, .ref h0), (1, .int (jI x)), (2, .int (jI y)), (5, .int (jI I)), (6, .int (jI J)), (7, .int (jI k)), (8, .int (jI lv))] → (∀ (t2 : Int × Int × Int) (H : Heap) (locs : List Loc) (ls : Array Slot), t2 = up_ (fun lv t => of_ x y (k * px + lv * qx) (k * py + lv * qy) t) n lv t → rt3_ t2 → wd_ D A s H locs (ob_ h0 0 [.int (jI fa), .int (jI fb), .int (jI fc), .int (jI fd), .int (jI px), .int (jI py), .int (jI qx), .int (jI qy), .int (jI t2.1), .int (jI t2.2.1), .int (jI t2.2.2)]) → lv_has ls 9 [(0, .ref h0), (1, .int (jI x)), (2, .int (jI y)), (5, .int (jI I)), (6, .int (jI J)), (7, .int (jI k))] → W p l e rm_X0_findNearest s m args below meth c H locs 0 0 Q (F0 m 144 ls [])) → W p l e rm_X0_findNearest s m args below meth c H locs 0 0 Q (F0 m 93 ls []) := by
  have hx := C.1
  have hb := C.2.1
  have hown := C.2.2.2.1
  have hts := C.2.2.2.2.1
  intro n
  induction n with
  | zero =>
    intro lv t H locs ls hn hlv ht hW hl K
    refine lv_iload hx hb dX0_findNearest_93 (lv_at hl 6 rfl) ?_
    refine lv_iload hx hb dX0_findNearest_95 (lv_at hl 4 rfl) ?_
    refine jv_iconst hx hb dX0_findNearest_97 ?_
    refine jv_iadd hx hb dX0_findNearest_98 ?_
    refine jv_icmp_gt (tgt := 144) hx hb dX0_findNearest_99 (by decide) ⟨by omega, by omega⟩ ⟨by omega, by omega⟩ (fun c_99 => ?_) (fun c_99 => ?_)
    · exact K t _ _ ls rfl ht hW (lv_sub hl [0, 1, 2, 3, 4, 5] rfl)
    · exfalso; omega
  | succ n ih =>
    intro lv t H locs ls hn hlv ht hW hl K
    obtain ⟨⟨a1, a2⟩, a3, a4⟩ := hs k lv hk1 hk2 hlv (by omega)
    have g1 : rI (nm_ (x - (k * px + lv * qx)) (y - (k * py + lv * qy))) := by
      have s1 := sq_le a1 a2
      have s2 := sq_le a3 a4
      have s3 := sqn_ (x - (k * px + lv * qx))
      have s4 := sqn_ (y - (k * py + lv * qy))
      exact (show rI ((x - (k * px + lv * qx)) * (x - (k * px + lv * qx)) + (y - (k * py + lv * qy)) * (y - (k * py + lv * qy))) from ⟨by omega, by omega⟩)
    have g2 : rI (k * px + lv * qx) := ⟨by omega, by omega⟩
    have g3 : rI (k * py + lv * qy) := ⟨by omega, by omega⟩
    refine lv_iload hx hb dX0_findNearest_93 (lv_at hl 6 rfl) ?_
    refine lv_iload hx hb dX0_findNearest_95 (lv_at hl 4 rfl) ?_
    refine jv_iconst hx hb dX0_findNearest_97 ?_
    refine jv_iadd hx hb dX0_findNearest_98 ?_
    refine jv_icmp_gt (tgt := 144) hx hb dX0_findNearest_99 (by decide) ⟨by omega, by omega⟩ ⟨by omega, by omega⟩ (fun c_99 => ?_) (fun c_99 => ?_)
    · exfalso; omega
    · refine lv_aload_n hx hb dX0_findNearest_102 rfl (lv_at hl 0 rfl) ?_
      refine lv_iload_n hx hb dX0_findNearest_103 rfl (lv_at hl 1 rfl) ?_
      refine lv_iload_n hx hb dX0_findNearest_104 rfl (lv_at hl 2 rfl) ?_
      refine lv_iload hx hb dX0_findNearest_105 (lv_at hl 5 rfl) ?_
      refine lv_aload_n hx hb dX0_findNearest_107 rfl (lv_at hl 0 rfl) ?_
      refine g0_px C hW dX0_findNearest_108 ?_
      refine jv_imul hx hb dX0_findNearest_111 ?_
      refine lv_iload hx hb dX0_findNearest_112 (lv_at hl 6 rfl) ?_
      refine lv_aload_n hx hb dX0_findNearest_114 rfl (lv_at hl 0 rfl) ?_
      refine g0_qx C hW dX0_findNearest_115 ?_
      refine jv_imul hx hb dX0_findNearest_118 ?_
      refine jv_iadd hx hb dX0_findNearest_119 ?_
      refine lv_iload hx hb dX0_findNearest_120 (lv_at hl 5 rfl) ?_
      refine lv_aload_n hx hb dX0_findNearest_122 rfl (lv_at hl 0 rfl) ?_
      refine g0_py C hW dX0_findNearest_123 ?_
      refine jv_imul hx hb dX0_findNearest_126 ?_
      refine lv_iload hx hb dX0_findNearest_127 (lv_at hl 6 rfl) ?_
      refine lv_aload_n hx hb dX0_findNearest_129 rfl (lv_at hl 0 rfl) ?_
      refine g0_qy C hW dX0_findNearest_130 ?_
      refine jv_imul hx hb dX0_findNearest_133 ?_
      refine jv_iadd hx hb dX0_findNearest_134 ?_
      refine cv_ (q := (RX0, TX0, 11)) C hW (met_X0_offer l h0 fa fb fc fd px py qx qy t.1 t.2.1 t.2.2 x y ((k * px) + (lv * qx)) ((k * py) + (lv * qy)) g1 ht.1 g2 ht.2.1 g3 ht.2.2) rfl (lw_V q111 q113 qs5 q9 q114) ⟨rfl, rfl⟩ dn_X0_offer ⟨Nat.le_of_ble_eq_true rfl, Nat.le_of_ble_eq_true rfl⟩ rfl hl.1 rfl (Nat.le_of_ble_eq_true rfl) ⟨Nat.zero_le _, Nat.zero_le _⟩ dX0_findNearest_135 (fun H locs hW => ?_)
      refine jv_iinc (lv' := [(8, .int (jI (lv + 1))), (0, .ref h0), (1, .int (jI x)), (2, .int (jI y)), (5, .int (jI I)), (6, .int (jI J)), (7, .int (jI k))]) hx hb dX0_findNearest_138 hl (k := 6) rfl (by decide) rfl (fun ls hl => ?_)
      refine lv_goto (tgt := 93) hx hb dX0_findNearest_141 (by decide) ?_
      exact ih (lv + 1) (of_ x y (k * px + lv * qx) (k * py + lv * qy) t) _ _ ls (by omega) (by omega) (of_rt g1 g2 g3 ht) hW (lv_sub hl [1, 2, 3, 4, 5, 6, 0] rfl) (fun t2 H locs ls e1 h1 => K t2 H locs ls (up_step e1 rfl) h1)
set_option maxHeartbeats 4000000 in
set_option maxRecDepth 100000 in
theorem lp_X0_fn_o {p : Program} {l : Launch} {e : Env} {s : State} {m : MethodId} {args : Array Value} {below : List Frame} {meth : Method} {c : Code} {D : va_G} {A : Nat → Prop} {h0 : Nat} {fa fb fc fd px py qx qy x y I J : Int} {Q : State → Prop} (C : cx_ p s m args meth c cX0_findNearest 9 RX0 none D A) (hI : -84000 ≤ I ∧ I ≤ 84000) (hJ : -84000 ≤ J ∧ J ≤ 84000) (hX : -1000 ≤ x ∧ x ≤ 1000) (hY : -1000 ≤ y ∧ y ≤ 1000) (hs : ∀ k lv : Int, I - 1 ≤ k → k ≤ I + 2 → J - 1 ≤ lv → lv ≤ J + 2 → (-168 ≤ x - (k * px + lv * qx) ∧ x - (k * px + lv * qx) ≤ 168) ∧ (-168 ≤ y - (k * py + lv * qy) ∧ y - (k * py + lv * qy) ≤ 168)) : ∀ (n : Nat) (k : Int) (t : Int × Int × Int) (H : Heap) (locs : List Loc) (ls : Array Slot), k + n = I + 3 → I - 1 ≤ k → rt3_ t → wd_ D A s H locs (ob_ h0 0 [.int (jI fa), .int (jI fb), .int (jI fc), .int (jI fd), .int (jI px), .int (jI py), .int (jI qx), .int (jI qy), .int (jI t.1), .int (jI t.2.1), .int (jI t.2.2)]) → lv_has ls 9 [(0, .ref h0), (1, .int (jI x)), (2, .int (jI y)), (5, .int (jI I)), (6, .int (jI J)), (7, .int (jI k))] → (∀ (t2 : Int × Int × Int) (H : Heap) (locs : List Loc) (ls : Array Slot), t2 = up_ (fun k t => up_ (fun lv t => of_ x y (k * px + lv * qx) (k * py + lv * qy) t) 4 (J - 1) t) n k t → rt3_ t2 → wd_ D A s H locs (ob_ h0 0 [.int (jI fa), .int (jI fb), .int (jI fc), .int (jI fd), .int (jI px), .int (jI py), .int (jI qx), .int (jI qy), .int (jI t2.1), .int (jI t2.2.1), .int (jI t2.2.2)]) → lv_has ls 9 [(0, .ref h0)] → W p l e rm_X0_findNearest s m args below meth c H locs 0 0 Q (F0 m 150 ls [])) → W p l e rm_X0_findNearest s m args below meth c H locs 0 0 Q (F0 m 78 ls []) := by
  have hx := C.1
  have hb := C.2.1
  have hown := C.2.2.2.1
  have hts := C.2.2.2.2.1
  intro n
  induction n with
  | zero =>
    intro k t H locs ls hn hk1 ht hW hl K
    refine lv_iload hx hb dX0_findNearest_78 (lv_at hl 5 rfl) ?_
    refine lv_iload hx hb dX0_findNearest_80 (lv_at hl 3 rfl) ?_
    refine jv_iconst hx hb dX0_findNearest_82 ?_
    refine jv_iadd hx hb dX0_findNearest_83 ?_
    refine jv_icmp_gt (tgt := 150) hx hb dX0_findNearest_84 (by decide) ⟨by omega, by omega⟩ ⟨by omega, by omega⟩ (fun c_84 => ?_) (fun c_84 => ?_)
    · exact K t _ _ ls rfl ht hW (lv_sub hl [0] rfl)
    · exfalso; omega
  | succ n ih =>
    intro k t H locs ls hn hk1 ht hW hl K
    refine lv_iload hx hb dX0_findNearest_78 (lv_at hl 5 rfl) ?_
    refine lv_iload hx hb dX0_findNearest_80 (lv_at hl 3 rfl) ?_
    refine jv_iconst hx hb dX0_findNearest_82 ?_
    refine jv_iadd hx hb dX0_findNearest_83 ?_
    refine jv_icmp_gt (tgt := 150) hx hb dX0_findNearest_84 (by decide) ⟨by omega, by omega⟩ ⟨by omega, by omega⟩ (fun c_84 => ?_) (fun c_84 => ?_)
    · exfalso; omega
    · refine lv_iload hx hb dX0_findNearest_87 (lv_at hl 4 rfl) ?_
      refine jv_iconst hx hb dX0_findNearest_89 ?_
      refine jv_isub hx hb dX0_findNearest_90 ?_
      refine lv_istore (lv' := [(8, .int (jI (J - 1))), (0, .ref h0), (1, .int (jI x)), (2, .int (jI y)), (5, .int (jI I)), (6, .int (jI J)), (7, .int (jI k))]) hx hb dX0_findNearest_91 hl (by decide) rfl (fun ls hl => ?_)
      refine lp_X0_fn_i C hI hJ hX hY hs k hk1 (by omega) 4 (J - 1) t _ _ ls (by omega) (by omega) ht hW (lv_sub hl [1, 2, 3, 4, 5, 6, 0] rfl) (fun t2 H locs ls e1 ht hW hl => ?_)
      refine jv_iinc (lv' := [(7, .int (jI (k + 1))), (0, .ref h0), (1, .int (jI x)), (2, .int (jI y)), (5, .int (jI I)), (6, .int (jI J))]) hx hb dX0_findNearest_144 hl (k := 5) rfl (by decide) rfl (fun ls hl => ?_)
      refine lv_goto (tgt := 78) hx hb dX0_findNearest_147 (by decide) ?_
      exact ih (k + 1) t2 _ _ ls (by omega) (by omega) ht hW (lv_sub hl [1, 2, 3, 4, 5, 0] rfl) (fun t3 H locs ls e2 h1 => K t3 H locs ls (up_step e2 e1.symm) h1)
set_option maxHeartbeats 4000000 in
set_option maxRecDepth 100000 in
/-- findNearest -/
theorem met_X0_findNearest (l : Launch) (h0 : Nat) (fa fb fc fd px py qx qy bs bu bv x y : Int) (hbd : bd_ px py qx qy) (hX : -1000 ≤ x ∧ x ≤ 1000) (hY : -1000 ≤ y ∧ y ≤ 1000) (h1 : rI bu) (h2 : rI bv) : mv_ l yX0_findNearest cX0_findNearest 9 none rm_X0_findNearest h0 0 [.int (jI x), .int (jI y)] [.int (jI fa), .int (jI fb), .int (jI fc), .int (jI fd), .int (jI px), .int (jI py), .int (jI qx), .int (jI qy), .int (jI bs), .int (jI bu), .int (jI bv)] [.int (jI fa), .int (jI fb), .int (jI fc), .int (jI fd), .int (jI px), .int (jI py), .int (jI qx), .int (jI qy), .int (jI ((fn_ px py qx qy x y bu bv).1)), .int (jI ((fn_ px py qx qy x y bu bv).2.1)), .int (jI ((fn_ px py qx qy x y bu bv).2.2))] := by
  refine mv_of (by decide) (Nat.le_of_ble_eq_true rfl) ?_
  intro p e s m args below meth c D A C hW ls hl
  have C : cx_ p s m args meth c cX0_findNearest 9 RX0 none D A := C
  have hx := C.1
  have hb := C.2.1
  have hown := C.2.2.2.1
  have hts := C.2.2.2.2.1
  have hl : lv_has ls 9 [(0, .ref h0), (1, .int (jI x)), (2, .int (jI y))] := hl
  obtain ⟨b1, b2, b3, b4⟩ := nm_bd hbd.2.1
  obtain ⟨b5, b6, b7, b8⟩ := nm_bd hbd.2.2
  have w1 := pr_bd (x := px) (y := qy) (M := 42) (N := 42) (by omega) (by omega) (by omega) (by omega)
  have w2 := pr_bd (x := py) (y := qx) (M := 42) (N := 42) (by omega) (by omega) (by omega) (by omega)
  have w3 := pr_bd (x := x) (y := qy) (M := 1000) (N := 42) (by omega) (by omega) (by omega) (by omega)
  have w4 := pr_bd (x := y) (y := qx) (M := 1000) (N := 42) (by omega) (by omega) (by omega) (by omega)
  have w5 := pr_bd (x := px) (y := y) (M := 42) (N := 1000) (by omega) (by omega) (by omega) (by omega)
  have w6 := pr_bd (x := py) (y := x) (M := 42) (N := 1000) (by omega) (by omega) (by omega) (by omega)
  have t1 := tu_mul (px * qy - py * qx) (x * qy - y * qx)
  have t2 := tu_mul (px * qy - py * qx) (px * y - py * x)
  have t3 := tu_mul (px * qy - py * qx) (px * qy - py * qx)
  have t4 := tu_pos hbd.1
  have fr := fi_rng hbd hX hY
  refine lv_aload_n hx hb dX0_findNearest_0 rfl (lv_at hl 0 rfl) ?_
  refine ci_ (q := (RX0, TX0, 11)) C hW (met_X0_area l h0 fa fb fc fd px py qx qy bs bu bv) rfl (lw_V q106 q108 qs4 q9 q109) ⟨rfl, rfl⟩ dn_X0_area ⟨Nat.le_of_ble_eq_true rfl, Nat.le_of_ble_eq_true rfl⟩ rfl hl.1 rfl (Nat.le_of_ble_eq_true rfl) ⟨Nat.zero_le _, Nat.zero_le _⟩ dX0_findNearest_1 (fun H locs hW => ?_)
  refine lv_istore_n (lv' := [(3, .int (jI (px * qy - py * qx))), (0, .ref h0), (1, .int (jI x)), (2, .int (jI y))]) hx hb dX0_findNearest_4 rfl hl (by decide) rfl (fun ls hl => ?_)
  refine lv_iload_n hx hb dX0_findNearest_5 rfl (lv_at hl 0 rfl) ?_
  refine jv_if_ge (tgt := 13) hx hb dX0_findNearest_6 (by decide) ⟨by omega, by omega⟩ (fun c_6 => ?_) (fun c_6 => ?_)
  · refine jv_iconst hx hb dX0_findNearest_13 ?_
    refine jv_as (y := tu_ (px * qy - py * qx)) (by unfold tu_; rw [if_pos c_6]) ?_
    refine lv_istore (lv' := [(4, .int (jI (tu_ (px * qy - py * qx)))), (3, .int (jI (px * qy - py * qx))), (0, .ref h0), (1, .int (jI x)), (2, .int (jI y))]) hx hb dX0_findNearest_14 hl (by decide) rfl (fun ls hl => ?_)
    refine lv_iload hx hb dX0_findNearest_16 (lv_at hl 0 rfl) ?_
    refine lv_iload_n hx hb dX0_findNearest_18 rfl (lv_at hl 3 rfl) ?_
    refine lv_aload_n hx hb dX0_findNearest_19 rfl (lv_at hl 2 rfl) ?_
    refine g0_qy C hW dX0_findNearest_20 ?_
    refine jv_imul hx hb dX0_findNearest_23 ?_
    refine lv_iload_n hx hb dX0_findNearest_24 rfl (lv_at hl 4 rfl) ?_
    refine lv_aload_n hx hb dX0_findNearest_25 rfl (lv_at hl 2 rfl) ?_
    refine g0_qx C hW dX0_findNearest_26 ?_
    refine jv_imul hx hb dX0_findNearest_29 ?_
    refine jv_isub hx hb dX0_findNearest_30 ?_
    refine jv_imul hx hb dX0_findNearest_31 ?_
    refine lv_iload hx hb dX0_findNearest_32 (lv_at hl 0 rfl) ?_
    refine lv_iload_n hx hb dX0_findNearest_34 rfl (lv_at hl 1 rfl) ?_
    refine jv_imul hx hb dX0_findNearest_35 ?_
    refine cs_ C hW (met_X0_floorDivide l ((tu_ (px * qy - py * qx)) * ((x * qy) - (y * qx))) ((tu_ (px * qy - py * qx)) * (px * qy - py * qx)) ⟨by omega, by omega⟩ t4 ⟨by omega, by omega⟩) (lw_S q30 q31 q9 q32) ⟨rfl, rfl⟩ dn_X0_floorDivide ⟨Nat.le_of_ble_eq_true rfl, Nat.le_of_ble_eq_true rfl⟩ rfl hl.1 rfl (Nat.le_of_ble_eq_true rfl) ⟨Nat.zero_le _, Nat.zero_le _⟩ dX0_findNearest_36 (fun H locs hW => ?_)
    refine jv_as (y := (fi_ px py qx qy x y)) rfl ?_
    refine lv_istore (lv' := [(5, .int (jI (fi_ px py qx qy x y))), (4, .int (jI (tu_ (px * qy - py * qx)))), (3, .int (jI (px * qy - py * qx))), (0, .ref h0), (1, .int (jI x)), (2, .int (jI y))]) hx hb dX0_findNearest_39 hl (by decide) rfl (fun ls hl => ?_)
    refine lv_iload hx hb dX0_findNearest_41 (lv_at hl 1 rfl) ?_
    refine lv_aload_n hx hb dX0_findNearest_43 rfl (lv_at hl 3 rfl) ?_
    refine g0_px C hW dX0_findNearest_44 ?_
    refine lv_iload_n hx hb dX0_findNearest_47 rfl (lv_at hl 5 rfl) ?_
    refine jv_imul hx hb dX0_findNearest_48 ?_
    refine lv_aload_n hx hb dX0_findNearest_49 rfl (lv_at hl 3 rfl) ?_
    refine g0_py C hW dX0_findNearest_50 ?_
    refine lv_iload_n hx hb dX0_findNearest_53 rfl (lv_at hl 4 rfl) ?_
    refine jv_imul hx hb dX0_findNearest_54 ?_
    refine jv_isub hx hb dX0_findNearest_55 ?_
    refine jv_imul hx hb dX0_findNearest_56 ?_
    refine lv_iload hx hb dX0_findNearest_57 (lv_at hl 1 rfl) ?_
    refine lv_iload_n hx hb dX0_findNearest_59 rfl (lv_at hl 2 rfl) ?_
    refine jv_imul hx hb dX0_findNearest_60 ?_
    refine cs_ C hW (met_X0_floorDivide l ((tu_ (px * qy - py * qx)) * ((px * y) - (py * x))) ((tu_ (px * qy - py * qx)) * (px * qy - py * qx)) ⟨by omega, by omega⟩ t4 ⟨by omega, by omega⟩) (lw_S q30 q31 q9 q32) ⟨rfl, rfl⟩ dn_X0_floorDivide ⟨Nat.le_of_ble_eq_true rfl, Nat.le_of_ble_eq_true rfl⟩ rfl hl.1 rfl (Nat.le_of_ble_eq_true rfl) ⟨Nat.zero_le _, Nat.zero_le _⟩ dX0_findNearest_61 (fun H locs hW => ?_)
    refine jv_as (y := (fj_ px py qx qy x y)) rfl ?_
    refine lv_istore (lv' := [(6, .int (jI (fj_ px py qx qy x y))), (5, .int (jI (fi_ px py qx qy x y))), (4, .int (jI (tu_ (px * qy - py * qx)))), (3, .int (jI (px * qy - py * qx))), (0, .ref h0), (1, .int (jI x)), (2, .int (jI y))]) hx hb dX0_findNearest_64 hl (by decide) rfl (fun ls hl => ?_)
    refine lv_aload_n hx hb dX0_findNearest_66 rfl (lv_at hl 4 rfl) ?_
    refine jv_ldc (n := 2147483647) hx hb hown (hts _ q110) (by decide) dX0_findNearest_67 ?_
    refine p0_bs C hW dX0_findNearest_69 (fun H locs hW => ?_)
    refine lv_iload hx hb dX0_findNearest_72 (lv_at hl 1 rfl) ?_
    refine jv_iconst hx hb dX0_findNearest_74 ?_
    refine jv_isub hx hb dX0_findNearest_75 ?_
    refine lv_istore (lv' := [(7, .int (jI ((fi_ px py qx qy x y) - 1))), (6, .int (jI (fj_ px py qx qy x y))), (5, .int (jI (fi_ px py qx qy x y))), (4, .int (jI (tu_ (px * qy - py * qx)))), (3, .int (jI (px * qy - py * qx))), (0, .ref h0), (1, .int (jI x)), (2, .int (jI y))]) hx hb dX0_findNearest_76 hl (by decide) rfl (fun ls hl => ?_)
    refine lp_X0_fn_o C (fi_rng hbd hX hY).1 (fi_rng hbd hX hY).2 hX hY (fun k lv h1 h2 h3 h4 => near_sz hbd h1 h2 h3 h4) 4 (fi_ px py qx qy x y - 1) (2147483647, bu, bv) _ _ ls (by omega) (by omega) ⟨(by decide : rI 2147483647), h1, h2⟩ hW (lv_sub hl [5, 6, 7, 2, 1, 0] rfl) (fun t2 H locs ls e1 ht hW hl => ?_)
    exact mv_ret C hW (by rw [e1]; rfl) dX0_findNearest_150
  · refine jv_iconst hx hb dX0_findNearest_9 ?_
    refine lv_goto (tgt := 14) hx hb dX0_findNearest_10 (by decide) ?_
    refine jv_as (y := tu_ (px * qy - py * qx)) (by unfold tu_; rw [if_neg c_6]) ?_
    refine lv_istore (lv' := [(4, .int (jI (tu_ (px * qy - py * qx)))), (3, .int (jI (px * qy - py * qx))), (0, .ref h0), (1, .int (jI x)), (2, .int (jI y))]) hx hb dX0_findNearest_14 hl (by decide) rfl (fun ls hl => ?_)
    refine lv_iload hx hb dX0_findNearest_16 (lv_at hl 0 rfl) ?_
    refine lv_iload_n hx hb dX0_findNearest_18 rfl (lv_at hl 3 rfl) ?_
    refine lv_aload_n hx hb dX0_findNearest_19 rfl (lv_at hl 2 rfl) ?_
    refine g0_qy C hW dX0_findNearest_20 ?_
    refine jv_imul hx hb dX0_findNearest_23 ?_
    refine lv_iload_n hx hb dX0_findNearest_24 rfl (lv_at hl 4 rfl) ?_
    refine lv_aload_n hx hb dX0_findNearest_25 rfl (lv_at hl 2 rfl) ?_
    refine g0_qx C hW dX0_findNearest_26 ?_
    refine jv_imul hx hb dX0_findNearest_29 ?_
    refine jv_isub hx hb dX0_findNearest_30 ?_
    refine jv_imul hx hb dX0_findNearest_31 ?_
    refine lv_iload hx hb dX0_findNearest_32 (lv_at hl 0 rfl) ?_
    refine lv_iload_n hx hb dX0_findNearest_34 rfl (lv_at hl 1 rfl) ?_
    refine jv_imul hx hb dX0_findNearest_35 ?_
    refine cs_ C hW (met_X0_floorDivide l ((tu_ (px * qy - py * qx)) * ((x * qy) - (y * qx))) ((tu_ (px * qy - py * qx)) * (px * qy - py * qx)) ⟨by omega, by omega⟩ t4 ⟨by omega, by omega⟩) (lw_S q30 q31 q9 q32) ⟨rfl, rfl⟩ dn_X0_floorDivide ⟨Nat.le_of_ble_eq_true rfl, Nat.le_of_ble_eq_true rfl⟩ rfl hl.1 rfl (Nat.le_of_ble_eq_true rfl) ⟨Nat.zero_le _, Nat.zero_le _⟩ dX0_findNearest_36 (fun H locs hW => ?_)
    refine jv_as (y := (fi_ px py qx qy x y)) rfl ?_
    refine lv_istore (lv' := [(5, .int (jI (fi_ px py qx qy x y))), (4, .int (jI (tu_ (px * qy - py * qx)))), (3, .int (jI (px * qy - py * qx))), (0, .ref h0), (1, .int (jI x)), (2, .int (jI y))]) hx hb dX0_findNearest_39 hl (by decide) rfl (fun ls hl => ?_)
    refine lv_iload hx hb dX0_findNearest_41 (lv_at hl 1 rfl) ?_
    refine lv_aload_n hx hb dX0_findNearest_43 rfl (lv_at hl 3 rfl) ?_
    refine g0_px C hW dX0_findNearest_44 ?_
    refine lv_iload_n hx hb dX0_findNearest_47 rfl (lv_at hl 5 rfl) ?_
    refine jv_imul hx hb dX0_findNearest_48 ?_
    refine lv_aload_n hx hb dX0_findNearest_49 rfl (lv_at hl 3 rfl) ?_
    refine g0_py C hW dX0_findNearest_50 ?_
    refine lv_iload_n hx hb dX0_findNearest_53 rfl (lv_at hl 4 rfl) ?_
    refine jv_imul hx hb dX0_findNearest_54 ?_
    refine jv_isub hx hb dX0_findNearest_55 ?_
    refine jv_imul hx hb dX0_findNearest_56 ?_
    refine lv_iload hx hb dX0_findNearest_57 (lv_at hl 1 rfl) ?_
    refine lv_iload_n hx hb dX0_findNearest_59 rfl (lv_at hl 2 rfl) ?_
    refine jv_imul hx hb dX0_findNearest_60 ?_
    refine cs_ C hW (met_X0_floorDivide l ((tu_ (px * qy - py * qx)) * ((px * y) - (py * x))) ((tu_ (px * qy - py * qx)) * (px * qy - py * qx)) ⟨by omega, by omega⟩ t4 ⟨by omega, by omega⟩) (lw_S q30 q31 q9 q32) ⟨rfl, rfl⟩ dn_X0_floorDivide ⟨Nat.le_of_ble_eq_true rfl, Nat.le_of_ble_eq_true rfl⟩ rfl hl.1 rfl (Nat.le_of_ble_eq_true rfl) ⟨Nat.zero_le _, Nat.zero_le _⟩ dX0_findNearest_61 (fun H locs hW => ?_)
    refine jv_as (y := (fj_ px py qx qy x y)) rfl ?_
    refine lv_istore (lv' := [(6, .int (jI (fj_ px py qx qy x y))), (5, .int (jI (fi_ px py qx qy x y))), (4, .int (jI (tu_ (px * qy - py * qx)))), (3, .int (jI (px * qy - py * qx))), (0, .ref h0), (1, .int (jI x)), (2, .int (jI y))]) hx hb dX0_findNearest_64 hl (by decide) rfl (fun ls hl => ?_)
    refine lv_aload_n hx hb dX0_findNearest_66 rfl (lv_at hl 4 rfl) ?_
    refine jv_ldc (n := 2147483647) hx hb hown (hts _ q110) (by decide) dX0_findNearest_67 ?_
    refine p0_bs C hW dX0_findNearest_69 (fun H locs hW => ?_)
    refine lv_iload hx hb dX0_findNearest_72 (lv_at hl 1 rfl) ?_
    refine jv_iconst hx hb dX0_findNearest_74 ?_
    refine jv_isub hx hb dX0_findNearest_75 ?_
    refine lv_istore (lv' := [(7, .int (jI ((fi_ px py qx qy x y) - 1))), (6, .int (jI (fj_ px py qx qy x y))), (5, .int (jI (fi_ px py qx qy x y))), (4, .int (jI (tu_ (px * qy - py * qx)))), (3, .int (jI (px * qy - py * qx))), (0, .ref h0), (1, .int (jI x)), (2, .int (jI y))]) hx hb dX0_findNearest_76 hl (by decide) rfl (fun ls hl => ?_)
    refine lp_X0_fn_o C (fi_rng hbd hX hY).1 (fi_rng hbd hX hY).2 hX hY (fun k lv h1 h2 h3 h4 => near_sz hbd h1 h2 h3 h4) 4 (fi_ px py qx qy x y - 1) (2147483647, bu, bv) _ _ ls (by omega) (by omega) ⟨(by decide : rI 2147483647), h1, h2⟩ hW (lv_sub hl [5, 6, 7, 2, 1, 0] rfl) (fun t2 H locs ls e1 ht hW hl => ?_)
    exact mv_ret C hW (by rw [e1]; rfl) dX0_findNearest_150
abbrev rm_X0_distance : Room := { frames := 3, cells := 0, slots := 0, locals := 75 }
theorem dn_X0_distance : yX0_distance.cls = RX0 ∧ yX0_distance.cls ≠ "java/lang/invoke/MethodHandle" ∧ yX0_distance.cls ≠ "java/lang/invoke/VarHandle" ∧ (parseMethodDescriptor yX0_distance.desc).map (fun d => d.parameters.length) = some 2 := by decide +kernel
set_option maxHeartbeats 4000000 in
set_option maxRecDepth 100000 in
/-- distance, in range -/
theorem met_X0_distance_in (l : Launch) (h0 : Nat) (fa fb fc fd px py qx qy bs bu bv x y : Int) (hbd : bd_ px py qx qy) (h1 : rI bu) (h2 : rI bv) (hin : rgB_ x y = true) : mi_ l yX0_distance cX0_distance 3 (some .int) rm_X0_distance h0 0 [.int (jI x), .int (jI y)] [.int (jI fa), .int (jI fb), .int (jI fc), .int (jI fd), .int (jI px), .int (jI py), .int (jI qx), .int (jI qy), .int (jI bs), .int (jI bu), .int (jI bv)] [.int (jI fa), .int (jI fb), .int (jI fc), .int (jI fd), .int (jI px), .int (jI py), .int (jI qx), .int (jI qy), .int (jI ((fn_ px py qx qy x y bu bv).1)), .int (jI ((fn_ px py qx qy x y bu bv).2.1)), .int (jI ((fn_ px py qx qy x y bu bv).2.2))] ((fn_ px py qx qy x y bu bv).1) := by
  refine mi_of (by decide) (Nat.le_of_ble_eq_true rfl) ?_
  intro p e s m args below meth c D A C hW ls hl
  have C : cx_ p s m args meth c cX0_distance 3 RX0 (some .int) D A := C
  have hx := C.1
  have hb := C.2.1
  have hown := C.2.2.2.1
  have hts := C.2.2.2.2.1
  have hl : lv_has ls 3 [(0, .ref h0), (1, .int (jI x)), (2, .int (jI y))] := hl
  obtain ⟨g1, g2, g3, g4⟩ := rgB_of hin
  refine lv_iload_n hx hb dX0_distance_0 rfl (lv_at hl 1 rfl) ?_
  refine lv_iload_n hx hb dX0_distance_1 rfl (lv_at hl 2 rfl) ?_
  refine cs_ C hW (met_X0_inRange l x y ⟨by omega, by omega⟩ ⟨by omega, by omega⟩) (lw_S q78 q79 q9 q80) ⟨rfl, rfl⟩ dn_X0_inRange ⟨Nat.le_of_ble_eq_true rfl, Nat.le_of_ble_eq_true rfl⟩ rfl hl.1 rfl (Nat.le_of_ble_eq_true rfl) ⟨Nat.zero_le _, Nat.zero_le _⟩ dX0_distance_2 (fun H locs hW => ?_)
  refine jv_if_yes (tgt := 10) hx hb dX0_distance_5 (by decide) (fun c_5 => ?_) (fun c_5 => ?_)
  · refine lv_aload_n hx hb dX0_distance_10 rfl (lv_at hl 0 rfl) ?_
    refine lv_iload_n hx hb dX0_distance_11 rfl (lv_at hl 1 rfl) ?_
    refine lv_iload_n hx hb dX0_distance_12 rfl (lv_at hl 2 rfl) ?_
    refine cv_ (q := (RX0, TX0, 11)) C hW (met_X0_findNearest l h0 fa fb fc fd px py qx qy bs bu bv x y hbd ⟨g1, g2⟩ ⟨g3, g4⟩ h1 h2) rfl (lw_V q102 q104 qs3 q9 q105) ⟨rfl, rfl⟩ dn_X0_findNearest ⟨Nat.le_of_ble_eq_true rfl, Nat.le_of_ble_eq_true rfl⟩ rfl hl.1 rfl (Nat.le_of_ble_eq_true rfl) ⟨Nat.zero_le _, Nat.zero_le _⟩ dX0_distance_13 (fun H locs hW => ?_)
    refine lv_aload_n hx hb dX0_distance_16 rfl (lv_at hl 0 rfl) ?_
    refine g0_bs C hW dX0_distance_17 ?_
    exact mi_reti C hW rfl rfl dX0_distance_20
  · exact (ff_ c_5 hin).elim
set_option maxHeartbeats 4000000 in
set_option maxRecDepth 100000 in
/-- distance, out of range -/
theorem met_X0_distance_no (l : Launch) (h0 : Nat) (fa fb fc fd px py qx qy bs bu bv x y : Int) (h1 : rI x) (h2 : rI y) (hno : rgB_ x y = false) : mi_ l yX0_distance cX0_distance 3 (some .int) rm_X0_distance h0 0 [.int (jI x), .int (jI y)] [.int (jI fa), .int (jI fb), .int (jI fc), .int (jI fd), .int (jI px), .int (jI py), .int (jI qx), .int (jI qy), .int (jI bs), .int (jI bu), .int (jI bv)] [.int (jI fa), .int (jI fb), .int (jI fc), .int (jI fd), .int (jI px), .int (jI py), .int (jI qx), .int (jI qy), .int (jI bs), .int (jI bu), .int (jI bv)] (-1) := by
  refine mi_of (by decide) (Nat.le_of_ble_eq_true rfl) ?_
  intro p e s m args below meth c D A C hW ls hl
  have C : cx_ p s m args meth c cX0_distance 3 RX0 (some .int) D A := C
  have hx := C.1
  have hb := C.2.1
  have hown := C.2.2.2.1
  have hts := C.2.2.2.2.1
  have hl : lv_has ls 3 [(0, .ref h0), (1, .int (jI x)), (2, .int (jI y))] := hl
  refine lv_iload_n hx hb dX0_distance_0 rfl (lv_at hl 1 rfl) ?_
  refine lv_iload_n hx hb dX0_distance_1 rfl (lv_at hl 2 rfl) ?_
  refine cs_ C hW (met_X0_inRange l x y h1 h2) (lw_S q78 q79 q9 q80) ⟨rfl, rfl⟩ dn_X0_inRange ⟨Nat.le_of_ble_eq_true rfl, Nat.le_of_ble_eq_true rfl⟩ rfl hl.1 rfl (Nat.le_of_ble_eq_true rfl) ⟨Nat.zero_le _, Nat.zero_le _⟩ dX0_distance_2 (fun H locs hW => ?_)
  refine jv_if_yes (tgt := 10) hx hb dX0_distance_5 (by decide) (fun c_5 => ?_) (fun c_5 => ?_)
  · exact (ff_ hno c_5).elim
  · refine jv_iconst hx hb dX0_distance_8 ?_
    exact mi_reti C hW rfl rfl dX0_distance_9
abbrev rm_X0_nearest : Room := { frames := 3, cells := 0, slots := 0, locals := 75 }
theorem dn_X0_nearest : yX0_nearest.cls = RX0 ∧ yX0_nearest.cls ≠ "java/lang/invoke/MethodHandle" ∧ yX0_nearest.cls ≠ "java/lang/invoke/VarHandle" ∧ (parseMethodDescriptor yX0_nearest.desc).map (fun d => d.parameters.length) = some 2 := by decide +kernel
set_option maxHeartbeats 4000000 in
set_option maxRecDepth 100000 in
/-- nearest, in range -/
theorem met_X0_nearest_in (l : Launch) (h0 : Nat) (fa fb fc fd px py qx qy bs bu bv x y : Int) (hbd : bd_ px py qx qy) (h1 : rI bu) (h2 : rI bv) (hin : rgB_ x y = true) : mi_ l yX0_nearest cX0_nearest 3 (some .int) rm_X0_nearest h0 0 [.int (jI x), .int (jI y)] [.int (jI fa), .int (jI fb), .int (jI fc), .int (jI fd), .int (jI px), .int (jI py), .int (jI qx), .int (jI qy), .int (jI bs), .int (jI bu), .int (jI bv)] [.int (jI fa), .int (jI fb), .int (jI fc), .int (jI fd), .int (jI px), .int (jI py), .int (jI qx), .int (jI qy), .int (jI ((fn_ px py qx qy x y bu bv).1)), .int (jI ((fn_ px py qx qy x y bu bv).2.1)), .int (jI ((fn_ px py qx qy x y bu bv).2.2))] (10000 * (fn_ px py qx qy x y bu bv).2.1 + (fn_ px py qx qy x y bu bv).2.2) := by
  refine mi_of (by decide) (Nat.le_of_ble_eq_true rfl) ?_
  intro p e s m args below meth c D A C hW ls hl
  have C : cx_ p s m args meth c cX0_nearest 3 RX0 (some .int) D A := C
  have hx := C.1
  have hb := C.2.1
  have hown := C.2.2.2.1
  have hts := C.2.2.2.2.1
  have hl : lv_has ls 3 [(0, .ref h0), (1, .int (jI x)), (2, .int (jI y))] := hl
  obtain ⟨g1, g2, g3, g4⟩ := rgB_of hin
  refine lv_iload_n hx hb dX0_nearest_0 rfl (lv_at hl 1 rfl) ?_
  refine lv_iload_n hx hb dX0_nearest_1 rfl (lv_at hl 2 rfl) ?_
  refine cs_ C hW (met_X0_inRange l x y ⟨by omega, by omega⟩ ⟨by omega, by omega⟩) (lw_S q78 q79 q9 q80) ⟨rfl, rfl⟩ dn_X0_inRange ⟨Nat.le_of_ble_eq_true rfl, Nat.le_of_ble_eq_true rfl⟩ rfl hl.1 rfl (Nat.le_of_ble_eq_true rfl) ⟨Nat.zero_le _, Nat.zero_le _⟩ dX0_nearest_2 (fun H locs hW => ?_)
  refine jv_if_yes (tgt := 10) hx hb dX0_nearest_5 (by decide) (fun c_5 => ?_) (fun c_5 => ?_)
  · refine lv_aload_n hx hb dX0_nearest_10 rfl (lv_at hl 0 rfl) ?_
    refine lv_iload_n hx hb dX0_nearest_11 rfl (lv_at hl 1 rfl) ?_
    refine lv_iload_n hx hb dX0_nearest_12 rfl (lv_at hl 2 rfl) ?_
    refine cv_ (q := (RX0, TX0, 11)) C hW (met_X0_findNearest l h0 fa fb fc fd px py qx qy bs bu bv x y hbd ⟨g1, g2⟩ ⟨g3, g4⟩ h1 h2) rfl (lw_V q102 q104 qs3 q9 q105) ⟨rfl, rfl⟩ dn_X0_findNearest ⟨Nat.le_of_ble_eq_true rfl, Nat.le_of_ble_eq_true rfl⟩ rfl hl.1 rfl (Nat.le_of_ble_eq_true rfl) ⟨Nat.zero_le _, Nat.zero_le _⟩ dX0_nearest_13 (fun H locs hW => ?_)
    refine jv_sipush hx hb dX0_nearest_16 (by decide) ?_
    refine lv_aload_n hx hb dX0_nearest_19 rfl (lv_at hl 0 rfl) ?_
    refine g0_bu C hW dX0_nearest_20 ?_
    refine jv_imul hx hb dX0_nearest_23 ?_
    refine lv_aload_n hx hb dX0_nearest_24 rfl (lv_at hl 0 rfl) ?_
    refine g0_bv C hW dX0_nearest_25 ?_
    refine jv_iadd hx hb dX0_nearest_28 ?_
    exact mi_reti C hW rfl rfl dX0_nearest_29
  · exact (ff_ c_5 hin).elim
set_option maxHeartbeats 4000000 in
set_option maxRecDepth 100000 in
/-- nearest, out of range -/
theorem met_X0_nearest_no (l : Launch) (h0 : Nat) (fa fb fc fd px py qx qy bs bu bv x y : Int) (h1 : rI x) (h2 : rI y) (hno : rgB_ x y = false) : mi_ l yX0_nearest cX0_nearest 3 (some .int) rm_X0_nearest h0 0 [.int (jI x), .int (jI y)] [.int (jI fa), .int (jI fb), .int (jI fc), .int (jI fd), .int (jI px), .int (jI py), .int (jI qx), .int (jI qy), .int (jI bs), .int (jI bu), .int (jI bv)] [.int (jI fa), .int (jI fb), .int (jI fc), .int (jI fd), .int (jI px), .int (jI py), .int (jI qx), .int (jI qy), .int (jI bs), .int (jI bu), .int (jI bv)] (0) := by
  refine mi_of (by decide) (Nat.le_of_ble_eq_true rfl) ?_
  intro p e s m args below meth c D A C hW ls hl
  have C : cx_ p s m args meth c cX0_nearest 3 RX0 (some .int) D A := C
  have hx := C.1
  have hb := C.2.1
  have hown := C.2.2.2.1
  have hts := C.2.2.2.2.1
  have hl : lv_has ls 3 [(0, .ref h0), (1, .int (jI x)), (2, .int (jI y))] := hl
  refine lv_iload_n hx hb dX0_nearest_0 rfl (lv_at hl 1 rfl) ?_
  refine lv_iload_n hx hb dX0_nearest_1 rfl (lv_at hl 2 rfl) ?_
  refine cs_ C hW (met_X0_inRange l x y h1 h2) (lw_S q78 q79 q9 q80) ⟨rfl, rfl⟩ dn_X0_inRange ⟨Nat.le_of_ble_eq_true rfl, Nat.le_of_ble_eq_true rfl⟩ rfl hl.1 rfl (Nat.le_of_ble_eq_true rfl) ⟨Nat.zero_le _, Nat.zero_le _⟩ dX0_nearest_2 (fun H locs hW => ?_)
  refine jv_if_yes (tgt := 10) hx hb dX0_nearest_5 (by decide) (fun c_5 => ?_) (fun c_5 => ?_)
  · exact (ff_ hno c_5).elim
  · refine jv_iconst hx hb dX0_nearest_8 ?_
    exact mi_reti C hW rfl rfl dX0_nearest_9
/-! ===== walks: within ===== -/
abbrev rm_X0_within : Room := { frames := 1, cells := 0, slots := 0, locals := 24 }
theorem dn_X0_within : yX0_within.cls = RX0 ∧ yX0_within.cls ≠ "java/lang/invoke/MethodHandle" ∧ yX0_within.cls ≠ "java/lang/invoke/VarHandle" ∧ (parseMethodDescriptor yX0_within.desc).map (fun d => d.parameters.length) = some 1 := by decide +kernel
set_option maxHeartbeats 4000000 in
set_option maxRecDepth 100000 in
theorem lp_X0_within {p : Program} {l : Launch} {e : Env} {s : State} {m : MethodId} {args : Array Value} {below : List Frame} {meth : Method} {c : Code} {D : va_G} {A : Nat → Prop} {h0 : Nat} {fa fb fc fd px py qx qy bs bu bv most : Int} {Q : State → Prop} (C : cx_ p s m args meth c cX0_within 14 RX0 (some .int) D A) (hbd : bd_ px py qx qy) (hm1 : 0 ≤ most) (hm2 : most ≤ 900) : ∀ (n : Nat) (j t : Int) (H : Heap) (locs : List Loc) (ls : Array Slot), j + n = 41 → -40 ≤ j → wd_ D A s H locs (ob_ h0 0 [.int (jI fa), .int (jI fb), .int (jI fc), .int (jI fd), .int (jI px), .int (jI py), .int (jI qx), .int (jI qy), .int (jI bs), .int (jI bu), .int (jI bv)]) → lv_has ls 14 [(0, .ref h0), (2, .int (jI most)), (3, .int (jI (nm_ px py))), (4, .int (jI (px * qx + py * qy))), (5, .int (jI t)), (6, .int (jI j))] → (∀ (t2 : Int) (H : Heap) (locs : List Loc) (ls : Array Slot), t2 = up_ (fun j n => n + wc_ (nm_ px py) (px * qx + py * qy) (px * qy - py * qx) most j) n j t → wd_ D A s H locs (ob_ h0 0 [.int (jI fa), .int (jI fb), .int (jI fc), .int (jI fd), .int (jI px), .int (jI py), .int (jI qx), .int (jI qy), .int (jI bs), .int (jI bu), .int (jI bv)]) → lv_has ls 14 [(0, .ref h0), (5, .int (jI t2))] → W p l e rm_X0_within s m args below meth c H locs 0 0 Q (F0 m 177 ls [])) → W p l e rm_X0_within s m args below meth c H locs 0 0 Q (F0 m 69 ls []) := by
  have hx := C.1
  have hb := C.2.1
  have hown := C.2.2.2.1
  have hts := C.2.2.2.2.1
  intro n
  induction n with
  | zero =>
    intro j t H locs ls hn hj hW hl K
    refine lv_iload hx hb dX0_within_69 (lv_at hl 5 rfl) ?_
    refine jv_bipush hx hb dX0_within_71 (by decide) ?_
    refine jv_icmp_gt (tgt := 177) hx hb dX0_within_73 (by decide) ⟨by omega, by omega⟩ ⟨by omega, by omega⟩ (fun c_73 => ?_) (fun c_73 => ?_)
    · exact K t _ _ ls rfl hW (lv_sub hl [0, 4] rfl)
    · exfalso; omega
  | succ n ih =>
    intro j t H locs ls hn hj hW hl K
    obtain ⟨b1, b2, b3, b4⟩ := nm_bd hbd.2.1
    obtain ⟨b5, b6, b7, b8⟩ := nm_bd hbd.2.2
    have gA : 0 < nm_ px py := bd_p hbd
    have gA2 : nm_ px py ≤ 1800 := hbd.2.1
    have w1 := pr_bd (x := px) (y := qy) (M := 42) (N := 42) (by omega) (by omega) (by omega) (by omega)
    have w2 := pr_bd (x := py) (y := qx) (M := 42) (N := 42) (by omega) (by omega) (by omega) (by omega)
    have w3 := pr_bd (x := px) (y := qx) (M := 42) (N := 42) (by omega) (by omega) (by omega) (by omega)
    have w4 := pr_bd (x := py) (y := qy) (M := 42) (N := 42) (by omega) (by omega) (by omega) (by omega)
    have w5 := pr_bd (x := nm_ px py) (y := most) (M := 1800) (N := 900) (by omega) (by omega) (by omega) (by omega)
    have w6 := pr_bd (x := j) (y := (px * qy - py * qx)) (M := 40) (N := 3528) (by omega) (by omega) (by omega) (by omega)
    have w7 := sq_le (x := j * (px * qy - py * qx)) (M := 141120) (by omega) (by omega)
    have w8 := sqn_ (j * (px * qy - py * qx))
    have w9 := pr_bd (x := -j) (y := (px * qx + py * qy)) (M := 40) (N := 3528) (by omega) (by omega) (by omega) (by omega)
    refine lv_iload hx hb dX0_within_69 (lv_at hl 5 rfl) ?_
    refine jv_bipush hx hb dX0_within_71 (by decide) ?_
    refine jv_icmp_gt (tgt := 177) hx hb dX0_within_73 (by decide) ⟨by omega, by omega⟩ ⟨by omega, by omega⟩ (fun c_73 => ?_) (fun c_73 => ?_)
    · exfalso; omega
    · refine lv_iload hx hb dX0_within_76 (lv_at hl 5 rfl) ?_
      refine jv_i2l hx hb dX0_within_78 ⟨by omega, by omega⟩ ?_
      refine lv_aload_n hx hb dX0_within_79 rfl (lv_at hl 0 rfl) ?_
      refine ci_ (q := (RX0, TX0, 11)) C hW (met_X0_area l h0 fa fb fc fd px py qx qy bs bu bv) rfl (lw_V q106 q108 qs4 q9 q109) ⟨rfl, rfl⟩ dn_X0_area ⟨Nat.le_of_ble_eq_true rfl, Nat.le_of_ble_eq_true rfl⟩ rfl hl.1 rfl (Nat.le_of_ble_eq_true rfl) ⟨Nat.zero_le _, Nat.zero_le _⟩ dX0_within_80 (fun H locs hW => ?_)
      refine jv_i2l hx hb dX0_within_83 ⟨by omega, by omega⟩ ?_
      refine jv_lmul hx hb dX0_within_84 ?_
      refine lv_lstore (lv' := [(7, .long (kL (j * (px * qy - py * qx)))), (0, .ref h0), (2, .int (jI most)), (3, .int (jI (nm_ px py))), (4, .int (jI (px * qx + py * qy))), (5, .int (jI t)), (6, .int (jI j))]) hx hb dX0_within_85 hl (by decide) rfl (fun ls hl => ?_)
      refine lv_iload_n hx hb dX0_within_87 rfl (lv_at hl 3 rfl) ?_
      refine lv_iload_n hx hb dX0_within_88 rfl (lv_at hl 2 rfl) ?_
      refine jv_imul hx hb dX0_within_89 ?_
      refine jv_i2l hx hb dX0_within_90 ⟨by omega, by omega⟩ ?_
      refine lv_lload hx hb dX0_within_91 (lv_at hl 0 rfl) ?_
      refine lv_lload hx hb dX0_within_93 (lv_at hl 0 rfl) ?_
      refine jv_lmul hx hb dX0_within_95 ?_
      refine jv_lsub hx hb dX0_within_96 ?_
      refine lv_lstore (lv' := [(9, .long (kL (((nm_ px py) * most) - ((j * (px * qy - py * qx)) * (j * (px * qy - py * qx)))))), (7, .long (kL (j * (px * qy - py * qx)))), (0, .ref h0), (2, .int (jI most)), (3, .int (jI (nm_ px py))), (4, .int (jI (px * qx + py * qy))), (5, .int (jI t)), (6, .int (jI j))]) hx hb dX0_within_97 hl (by decide) rfl (fun ls hl => ?_)
      refine lv_lload hx hb dX0_within_99 (lv_at hl 0 rfl) ?_
      refine jv_lconst0 hx hb dX0_within_101 ?_
      refine jv_lcmp_lt (tgt := 171) hx hb dX0_within_102 dX0_within_103 (by decide) ⟨by omega, by omega⟩ ⟨by omega, by omega⟩ (fun c_102 => ?_) (fun c_102 => ?_)
      · refine jv_iinc (lv' := [(6, .int (jI (j + 1))), (9, .long (kL (((nm_ px py) * most) - ((j * (px * qy - py * qx)) * (j * (px * qy - py * qx)))))), (7, .long (kL (j * (px * qy - py * qx)))), (0, .ref h0), (2, .int (jI most)), (3, .int (jI (nm_ px py))), (4, .int (jI (px * qx + py * qy))), (5, .int (jI t))]) hx hb dX0_within_171 hl (k := 7) rfl (by decide) rfl (fun ls hl => ?_)
        refine lv_goto (tgt := 69) hx hb dX0_within_174 (by decide) ?_
        exact ih (j + 1) t _ _ ls (by omega) (by omega) hW (lv_sub hl [3, 4, 5, 6, 7, 0] rfl) (fun t2 H locs ls e1 => K t2 H locs ls (up_step e1 (by show t + wc_ _ _ _ _ _ = t; rw [wc_a c_102]; omega)))
      · have c_102 : ¬ nm_ px py * most - j * (px * qy - py * qx) * (j * (px * qy - py * qx)) < 0 := c_102
        obtain ⟨q1, q2, q3⟩ := isq_ (x := nm_ px py * most - j * (px * qy - py * qx) * (j * (px * qy - py * qx))) (by omega) (by omega)
        have q4 := (sq_bd (x := rt_ (nm_ px py * most - j * (px * qy - py * qx) * (j * (px * qy - py * qx))) 16 0) (M := 2000) (by decide) (by omega)).2
        refine lv_lload hx hb dX0_within_106 (lv_at hl 0 rfl) ?_
        refine jv_l2i hx hb dX0_within_108 ?_
        refine cs_ C hW (met_X0_rootOf l (((nm_ px py) * most) - ((j * (px * qy - py * qx)) * (j * (px * qy - py * qx)))) (by omega) ⟨by omega, by omega⟩) (lw_S q123 q124 q9 q125) ⟨rfl, rfl⟩ dn_X0_rootOf ⟨Nat.le_of_ble_eq_true rfl, Nat.le_of_ble_eq_true rfl⟩ rfl hl.1 rfl (Nat.le_of_ble_eq_true rfl) ⟨Nat.zero_le _, Nat.zero_le _⟩ dX0_within_109 (fun H locs hW => ?_)
        refine lv_istore (lv' := [(11, .int (jI (rt_ (((nm_ px py) * most) - ((j * (px * qy - py * qx)) * (j * (px * qy - py * qx)))) 16 0))), (9, .long (kL (((nm_ px py) * most) - ((j * (px * qy - py * qx)) * (j * (px * qy - py * qx)))))), (7, .long (kL (j * (px * qy - py * qx)))), (0, .ref h0), (2, .int (jI most)), (3, .int (jI (nm_ px py))), (4, .int (jI (px * qx + py * qy))), (5, .int (jI t)), (6, .int (jI j))]) hx hb dX0_within_112 hl (by decide) rfl (fun ls hl => ?_)
        refine lv_iload hx hb dX0_within_114 (lv_at hl 8 rfl) ?_
        refine jv_ineg hx hb dX0_within_116 ?_
        refine lv_iload hx hb dX0_within_117 (lv_at hl 6 rfl) ?_
        refine jv_imul hx hb dX0_within_119 ?_
        refine lv_iload hx hb dX0_within_120 (lv_at hl 0 rfl) ?_
        refine jv_isub hx hb dX0_within_122 ?_
        refine lv_iload_n hx hb dX0_within_123 rfl (lv_at hl 5 rfl) ?_
        refine jv_iadd hx hb dX0_within_124 ?_
        refine jv_iconst hx hb dX0_within_125 ?_
        refine jv_isub hx hb dX0_within_126 ?_
        refine lv_iload_n hx hb dX0_within_127 rfl (lv_at hl 5 rfl) ?_
        refine cs_ C hW (met_X0_floorDivide l (((((-j) * (px * qx + py * qy)) - (rt_ (((nm_ px py) * most) - ((j * (px * qy - py * qx)) * (j * (px * qy - py * qx)))) 16 0)) + (nm_ px py)) - 1) (nm_ px py) ⟨by omega, by omega⟩ gA ⟨by omega, by omega⟩) (lw_S q30 q31 q9 q32) ⟨rfl, rfl⟩ dn_X0_floorDivide ⟨Nat.le_of_ble_eq_true rfl, Nat.le_of_ble_eq_true rfl⟩ rfl hl.1 rfl (Nat.le_of_ble_eq_true rfl) ⟨Nat.zero_le _, Nat.zero_le _⟩ dX0_within_128 (fun H locs hW => ?_)
        refine jv_as (y := (wf_ (nm_ px py) (px * qx + py * qy) (rt_ ((nm_ px py * most) - ((j * (px * qy - py * qx)) * (j * (px * qy - py * qx)))) 16 0) j)) rfl ?_
        refine lv_istore (lv' := [(12, .int (jI (wf_ (nm_ px py) (px * qx + py * qy) (rt_ ((nm_ px py * most) - ((j * (px * qy - py * qx)) * (j * (px * qy - py * qx)))) 16 0) j))), (11, .int (jI (rt_ (((nm_ px py) * most) - ((j * (px * qy - py * qx)) * (j * (px * qy - py * qx)))) 16 0))), (9, .long (kL (((nm_ px py) * most) - ((j * (px * qy - py * qx)) * (j * (px * qy - py * qx)))))), (7, .long (kL (j * (px * qy - py * qx)))), (0, .ref h0), (2, .int (jI most)), (3, .int (jI (nm_ px py))), (4, .int (jI (px * qx + py * qy))), (5, .int (jI t)), (6, .int (jI j))]) hx hb dX0_within_131 hl (by decide) rfl (fun ls hl => ?_)
        refine lv_iload hx hb dX0_within_133 (lv_at hl 9 rfl) ?_
        refine jv_ineg hx hb dX0_within_135 ?_
        refine lv_iload hx hb dX0_within_136 (lv_at hl 7 rfl) ?_
        refine jv_imul hx hb dX0_within_138 ?_
        refine lv_iload hx hb dX0_within_139 (lv_at hl 1 rfl) ?_
        refine jv_iadd hx hb dX0_within_141 ?_
        refine lv_iload_n hx hb dX0_within_142 rfl (lv_at hl 6 rfl) ?_
        refine cs_ C hW (met_X0_floorDivide l (((-j) * (px * qx + py * qy)) + (rt_ (((nm_ px py) * most) - ((j * (px * qy - py * qx)) * (j * (px * qy - py * qx)))) 16 0)) (nm_ px py) ⟨by omega, by omega⟩ gA ⟨by omega, by omega⟩) (lw_S q30 q31 q9 q32) ⟨rfl, rfl⟩ dn_X0_floorDivide ⟨Nat.le_of_ble_eq_true rfl, Nat.le_of_ble_eq_true rfl⟩ rfl hl.1 rfl (Nat.le_of_ble_eq_true rfl) ⟨Nat.zero_le _, Nat.zero_le _⟩ dX0_within_143 (fun H locs hW => ?_)
        refine jv_as (y := (wo_ (nm_ px py) (px * qx + py * qy) (rt_ ((nm_ px py * most) - ((j * (px * qy - py * qx)) * (j * (px * qy - py * qx)))) 16 0) j)) rfl ?_
        refine lv_istore (lv' := [(13, .int (jI (wo_ (nm_ px py) (px * qx + py * qy) (rt_ ((nm_ px py * most) - ((j * (px * qy - py * qx)) * (j * (px * qy - py * qx)))) 16 0) j))), (12, .int (jI (wf_ (nm_ px py) (px * qx + py * qy) (rt_ ((nm_ px py * most) - ((j * (px * qy - py * qx)) * (j * (px * qy - py * qx)))) 16 0) j))), (11, .int (jI (rt_ (((nm_ px py) * most) - ((j * (px * qy - py * qx)) * (j * (px * qy - py * qx)))) 16 0))), (9, .long (kL (((nm_ px py) * most) - ((j * (px * qy - py * qx)) * (j * (px * qy - py * qx)))))), (7, .long (kL (j * (px * qy - py * qx)))), (0, .ref h0), (2, .int (jI most)), (3, .int (jI (nm_ px py))), (4, .int (jI (px * qx + py * qy))), (5, .int (jI t)), (6, .int (jI j))]) hx hb dX0_within_146 hl (by decide) rfl (fun ls hl => ?_)
        refine lv_iload hx hb dX0_within_148 (lv_at hl 9 rfl) ?_
        refine lv_iload hx hb dX0_within_150 (lv_at hl 0 rfl) ?_
        refine lv_iload hx hb dX0_within_152 (lv_at hl 1 rfl) ?_
        have y1 : -200000 ≤ wo_ (nm_ px py) (px * qx + py * qy) (rt_ ((nm_ px py * most) - ((j * (px * qy - py * qx)) * (j * (px * qy - py * qx)))) 16 0) j ∧ wo_ (nm_ px py) (px * qx + py * qy) (rt_ ((nm_ px py * most) - ((j * (px * qy - py * qx)) * (j * (px * qy - py * qx)))) 16 0) j ≤ 200000 := ed_rng gA (by decide) (by omega) (by omega)
        have y2 : -200000 ≤ wf_ (nm_ px py) (px * qx + py * qy) (rt_ ((nm_ px py * most) - ((j * (px * qy - py * qx)) * (j * (px * qy - py * qx)))) 16 0) j ∧ wf_ (nm_ px py) (px * qx + py * qy) (rt_ ((nm_ px py * most) - ((j * (px * qy - py * qx)) * (j * (px * qy - py * qx)))) 16 0) j ≤ 200000 := ed_rng gA (by decide) (by omega) (by omega)
        refine jv_icmp_lt (tgt := 167) hx hb dX0_within_154 (by decide) ⟨by omega, by omega⟩ ⟨by omega, by omega⟩ (fun c_154 => ?_) (fun c_154 => ?_)
        · refine jv_iconst hx hb dX0_within_167 ?_
          refine jv_iadd hx hb dX0_within_168 ?_
          refine lv_istore (lv' := [(5, .int (jI (t + 0))), (13, .int (jI (wo_ (nm_ px py) (px * qx + py * qy) (rt_ ((nm_ px py * most) - ((j * (px * qy - py * qx)) * (j * (px * qy - py * qx)))) 16 0) j))), (12, .int (jI (wf_ (nm_ px py) (px * qx + py * qy) (rt_ ((nm_ px py * most) - ((j * (px * qy - py * qx)) * (j * (px * qy - py * qx)))) 16 0) j))), (11, .int (jI (rt_ (((nm_ px py) * most) - ((j * (px * qy - py * qx)) * (j * (px * qy - py * qx)))) 16 0))), (9, .long (kL (((nm_ px py) * most) - ((j * (px * qy - py * qx)) * (j * (px * qy - py * qx)))))), (7, .long (kL (j * (px * qy - py * qx)))), (0, .ref h0), (2, .int (jI most)), (3, .int (jI (nm_ px py))), (4, .int (jI (px * qx + py * qy))), (6, .int (jI j))]) hx hb dX0_within_169 hl (by decide) rfl (fun ls hl => ?_)
          refine jv_iinc (lv' := [(6, .int (jI (j + 1))), (5, .int (jI (t + 0))), (13, .int (jI (wo_ (nm_ px py) (px * qx + py * qy) (rt_ ((nm_ px py * most) - ((j * (px * qy - py * qx)) * (j * (px * qy - py * qx)))) 16 0) j))), (12, .int (jI (wf_ (nm_ px py) (px * qx + py * qy) (rt_ ((nm_ px py * most) - ((j * (px * qy - py * qx)) * (j * (px * qy - py * qx)))) 16 0) j))), (11, .int (jI (rt_ (((nm_ px py) * most) - ((j * (px * qy - py * qx)) * (j * (px * qy - py * qx)))) 16 0))), (9, .long (kL (((nm_ px py) * most) - ((j * (px * qy - py * qx)) * (j * (px * qy - py * qx)))))), (7, .long (kL (j * (px * qy - py * qx)))), (0, .ref h0), (2, .int (jI most)), (3, .int (jI (nm_ px py))), (4, .int (jI (px * qx + py * qy)))]) hx hb dX0_within_171 hl (k := 10) rfl (by decide) rfl (fun ls hl => ?_)
          refine lv_goto (tgt := 69) hx hb dX0_within_174 (by decide) ?_
          exact ih (j + 1) (t + 0) _ _ ls (by omega) (by omega) hW (lv_sub hl [7, 8, 9, 10, 1, 0] rfl) (fun t2 H locs ls e1 => K t2 H locs ls (up_step e1 (by show t + wc_ _ _ _ _ _ = t + 0; rw [wc_b c_102 c_154])))
        · refine lv_iload hx hb dX0_within_157 (lv_at hl 0 rfl) ?_
          refine lv_iload hx hb dX0_within_159 (lv_at hl 1 rfl) ?_
          refine jv_isub hx hb dX0_within_161 ?_
          refine jv_iconst hx hb dX0_within_162 ?_
          refine jv_iadd hx hb dX0_within_163 ?_
          refine lv_goto (tgt := 168) hx hb dX0_within_164 (by decide) ?_
          refine jv_iadd hx hb dX0_within_168 ?_
          refine lv_istore (lv' := [(5, .int (jI (t + (((wo_ (nm_ px py) (px * qx + py * qy) (rt_ ((nm_ px py * most) - ((j * (px * qy - py * qx)) * (j * (px * qy - py * qx)))) 16 0) j) - (wf_ (nm_ px py) (px * qx + py * qy) (rt_ ((nm_ px py * most) - ((j * (px * qy - py * qx)) * (j * (px * qy - py * qx)))) 16 0) j)) + 1)))), (13, .int (jI (wo_ (nm_ px py) (px * qx + py * qy) (rt_ ((nm_ px py * most) - ((j * (px * qy - py * qx)) * (j * (px * qy - py * qx)))) 16 0) j))), (12, .int (jI (wf_ (nm_ px py) (px * qx + py * qy) (rt_ ((nm_ px py * most) - ((j * (px * qy - py * qx)) * (j * (px * qy - py * qx)))) 16 0) j))), (11, .int (jI (rt_ (((nm_ px py) * most) - ((j * (px * qy - py * qx)) * (j * (px * qy - py * qx)))) 16 0))), (9, .long (kL (((nm_ px py) * most) - ((j * (px * qy - py * qx)) * (j * (px * qy - py * qx)))))), (7, .long (kL (j * (px * qy - py * qx)))), (0, .ref h0), (2, .int (jI most)), (3, .int (jI (nm_ px py))), (4, .int (jI (px * qx + py * qy))), (6, .int (jI j))]) hx hb dX0_within_169 hl (by decide) rfl (fun ls hl => ?_)
          refine jv_iinc (lv' := [(6, .int (jI (j + 1))), (5, .int (jI (t + (((wo_ (nm_ px py) (px * qx + py * qy) (rt_ ((nm_ px py * most) - ((j * (px * qy - py * qx)) * (j * (px * qy - py * qx)))) 16 0) j) - (wf_ (nm_ px py) (px * qx + py * qy) (rt_ ((nm_ px py * most) - ((j * (px * qy - py * qx)) * (j * (px * qy - py * qx)))) 16 0) j)) + 1)))), (13, .int (jI (wo_ (nm_ px py) (px * qx + py * qy) (rt_ ((nm_ px py * most) - ((j * (px * qy - py * qx)) * (j * (px * qy - py * qx)))) 16 0) j))), (12, .int (jI (wf_ (nm_ px py) (px * qx + py * qy) (rt_ ((nm_ px py * most) - ((j * (px * qy - py * qx)) * (j * (px * qy - py * qx)))) 16 0) j))), (11, .int (jI (rt_ (((nm_ px py) * most) - ((j * (px * qy - py * qx)) * (j * (px * qy - py * qx)))) 16 0))), (9, .long (kL (((nm_ px py) * most) - ((j * (px * qy - py * qx)) * (j * (px * qy - py * qx)))))), (7, .long (kL (j * (px * qy - py * qx)))), (0, .ref h0), (2, .int (jI most)), (3, .int (jI (nm_ px py))), (4, .int (jI (px * qx + py * qy)))]) hx hb dX0_within_171 hl (k := 10) rfl (by decide) rfl (fun ls hl => ?_)
          refine lv_goto (tgt := 69) hx hb dX0_within_174 (by decide) ?_
          exact ih (j + 1) (t + (((wo_ (nm_ px py) (px * qx + py * qy) (rt_ ((nm_ px py * most) - ((j * (px * qy - py * qx)) * (j * (px * qy - py * qx)))) 16 0) j) - (wf_ (nm_ px py) (px * qx + py * qy) (rt_ ((nm_ px py * most) - ((j * (px * qy - py * qx)) * (j * (px * qy - py * qx)))) 16 0) j)) + 1)) _ _ ls (by omega) (by omega) hW (lv_sub hl [7, 8, 9, 10, 1, 0] rfl) (fun t2 H locs ls e1 => K t2 H locs ls (up_step e1 (by show t + wc_ _ _ _ _ _ = _; rw [wc_c c_102 c_154])))
set_option maxHeartbeats 4000000 in
set_option maxRecDepth 100000 in
/-- within -/
theorem met_X0_within (l : Launch) (h0 : Nat) (fa fb fc fd px py qx qy bs bu bv lim : Int) (hbd : bd_ px py qx qy) (h1 : rI lim) : mi_ l yX0_within cX0_within 14 (some .int) rm_X0_within h0 0 [.int (jI lim)] [.int (jI fa), .int (jI fb), .int (jI fc), .int (jI fd), .int (jI px), .int (jI py), .int (jI qx), .int (jI qy), .int (jI bs), .int (jI bu), .int (jI bv)] [.int (jI fa), .int (jI fb), .int (jI fc), .int (jI fd), .int (jI px), .int (jI py), .int (jI qx), .int (jI qy), .int (jI bs), .int (jI bu), .int (jI bv)] (wt_ px py qx qy lim) := by
  refine mi_of (by decide) (Nat.le_of_ble_eq_true rfl) ?_
  intro p e s m args below meth c D A C hW ls hl
  have C : cx_ p s m args meth c cX0_within 14 RX0 (some .int) D A := C
  have hx := C.1
  have hb := C.2.1
  have hown := C.2.2.2.1
  have hts := C.2.2.2.2.1
  have hl : lv_has ls 14 [(0, .ref h0), (1, .int (jI lim))] := hl
  have hm := mo_rng h1
  refine lv_iload_n hx hb dX0_within_0 rfl (lv_at hl 1 rfl) ?_
  refine jv_if_ge (tgt := 6) hx hb dX0_within_1 (by decide) ⟨by omega, by omega⟩ (fun c_1 => ?_) (fun c_1 => ?_)
  · refine lv_iload_n hx hb dX0_within_6 rfl (lv_at hl 1 rfl) ?_
    refine jv_sipush hx hb dX0_within_7 (by decide) ?_
    refine jv_icmp_le (tgt := 19) hx hb dX0_within_10 (by decide) ⟨by omega, by omega⟩ ⟨by omega, by omega⟩ (fun c_10 => ?_) (fun c_10 => ?_)
    · refine lv_iload_n hx hb dX0_within_19 rfl (lv_at hl 1 rfl) ?_
      refine jv_as (y := mo_ lim) (by unfold mo_; rw [if_neg (by omega)]) ?_
      refine lv_istore_n (lv' := [(2, .int (jI (mo_ lim))), (0, .ref h0), (1, .int (jI lim))]) hx hb dX0_within_20 rfl hl (by decide) rfl (fun ls hl => ?_)
      have hm0 : 0 ≤ mo_ lim := by unfold mo_; split <;> omega
      refine lv_aload_n hx hb dX0_within_21 rfl (lv_at hl 1 rfl) ?_
      refine g0_px C hW dX0_within_22 ?_
      refine lv_aload_n hx hb dX0_within_25 rfl (lv_at hl 1 rfl) ?_
      refine g0_px C hW dX0_within_26 ?_
      refine jv_imul hx hb dX0_within_29 ?_
      refine lv_aload_n hx hb dX0_within_30 rfl (lv_at hl 1 rfl) ?_
      refine g0_py C hW dX0_within_31 ?_
      refine lv_aload_n hx hb dX0_within_34 rfl (lv_at hl 1 rfl) ?_
      refine g0_py C hW dX0_within_35 ?_
      refine jv_imul hx hb dX0_within_38 ?_
      refine jv_iadd hx hb dX0_within_39 ?_
      refine jv_as (y := (nm_ px py)) rfl ?_
      refine lv_istore_n (lv' := [(3, .int (jI (nm_ px py))), (2, .int (jI (mo_ lim))), (0, .ref h0), (1, .int (jI lim))]) hx hb dX0_within_40 rfl hl (by decide) rfl (fun ls hl => ?_)
      refine lv_aload_n hx hb dX0_within_41 rfl (lv_at hl 2 rfl) ?_
      refine g0_px C hW dX0_within_42 ?_
      refine lv_aload_n hx hb dX0_within_45 rfl (lv_at hl 2 rfl) ?_
      refine g0_qx C hW dX0_within_46 ?_
      refine jv_imul hx hb dX0_within_49 ?_
      refine lv_aload_n hx hb dX0_within_50 rfl (lv_at hl 2 rfl) ?_
      refine g0_py C hW dX0_within_51 ?_
      refine lv_aload_n hx hb dX0_within_54 rfl (lv_at hl 2 rfl) ?_
      refine g0_qy C hW dX0_within_55 ?_
      refine jv_imul hx hb dX0_within_58 ?_
      refine jv_iadd hx hb dX0_within_59 ?_
      refine jv_as (y := (px * qx + py * qy)) rfl ?_
      refine lv_istore (lv' := [(4, .int (jI (px * qx + py * qy))), (3, .int (jI (nm_ px py))), (2, .int (jI (mo_ lim))), (0, .ref h0), (1, .int (jI lim))]) hx hb dX0_within_60 hl (by decide) rfl (fun ls hl => ?_)
      refine jv_iconst hx hb dX0_within_62 ?_
      refine lv_istore (lv' := [(5, .int (jI 0)), (4, .int (jI (px * qx + py * qy))), (3, .int (jI (nm_ px py))), (2, .int (jI (mo_ lim))), (0, .ref h0), (1, .int (jI lim))]) hx hb dX0_within_63 hl (by decide) rfl (fun ls hl => ?_)
      refine jv_bipush hx hb dX0_within_65 (by decide) ?_
      refine lv_istore (lv' := [(6, .int (jI (-40))), (5, .int (jI 0)), (4, .int (jI (px * qx + py * qy))), (3, .int (jI (nm_ px py))), (2, .int (jI (mo_ lim))), (0, .ref h0), (1, .int (jI lim))]) hx hb dX0_within_67 hl (by decide) rfl (fun ls hl => ?_)
      refine lp_X0_within C hbd (by omega) hm.2 81 (-40) 0 _ _ ls (by omega) (by omega) hW (lv_sub hl [5, 4, 3, 2, 1, 0] rfl) (fun t2 H locs ls e1 hW hl => ?_)
      refine lv_iload hx hb dX0_within_177 (lv_at hl 1 rfl) ?_
      exact mi_reti C hW (by rw [e1]; unfold wt_; rw [if_pos c_1]) rfl dX0_within_179
    · refine jv_sipush hx hb dX0_within_13 (by decide) ?_
      refine lv_goto (tgt := 20) hx hb dX0_within_16 (by decide) ?_
      refine jv_as (y := mo_ lim) (by unfold mo_; rw [if_pos (by omega)]) ?_
      refine lv_istore_n (lv' := [(2, .int (jI (mo_ lim))), (0, .ref h0), (1, .int (jI lim))]) hx hb dX0_within_20 rfl hl (by decide) rfl (fun ls hl => ?_)
      have hm0 : 0 ≤ mo_ lim := by unfold mo_; split <;> omega
      refine lv_aload_n hx hb dX0_within_21 rfl (lv_at hl 1 rfl) ?_
      refine g0_px C hW dX0_within_22 ?_
      refine lv_aload_n hx hb dX0_within_25 rfl (lv_at hl 1 rfl) ?_
      refine g0_px C hW dX0_within_26 ?_
      refine jv_imul hx hb dX0_within_29 ?_
      refine lv_aload_n hx hb dX0_within_30 rfl (lv_at hl 1 rfl) ?_
      refine g0_py C hW dX0_within_31 ?_
      refine lv_aload_n hx hb dX0_within_34 rfl (lv_at hl 1 rfl) ?_
      refine g0_py C hW dX0_within_35 ?_
      refine jv_imul hx hb dX0_within_38 ?_
      refine jv_iadd hx hb dX0_within_39 ?_
      refine jv_as (y := (nm_ px py)) rfl ?_
      refine lv_istore_n (lv' := [(3, .int (jI (nm_ px py))), (2, .int (jI (mo_ lim))), (0, .ref h0), (1, .int (jI lim))]) hx hb dX0_within_40 rfl hl (by decide) rfl (fun ls hl => ?_)
      refine lv_aload_n hx hb dX0_within_41 rfl (lv_at hl 2 rfl) ?_
      refine g0_px C hW dX0_within_42 ?_
      refine lv_aload_n hx hb dX0_within_45 rfl (lv_at hl 2 rfl) ?_
      refine g0_qx C hW dX0_within_46 ?_
      refine jv_imul hx hb dX0_within_49 ?_
      refine lv_aload_n hx hb dX0_within_50 rfl (lv_at hl 2 rfl) ?_
      refine g0_py C hW dX0_within_51 ?_
      refine lv_aload_n hx hb dX0_within_54 rfl (lv_at hl 2 rfl) ?_
      refine g0_qy C hW dX0_within_55 ?_
      refine jv_imul hx hb dX0_within_58 ?_
      refine jv_iadd hx hb dX0_within_59 ?_
      refine jv_as (y := (px * qx + py * qy)) rfl ?_
      refine lv_istore (lv' := [(4, .int (jI (px * qx + py * qy))), (3, .int (jI (nm_ px py))), (2, .int (jI (mo_ lim))), (0, .ref h0), (1, .int (jI lim))]) hx hb dX0_within_60 hl (by decide) rfl (fun ls hl => ?_)
      refine jv_iconst hx hb dX0_within_62 ?_
      refine lv_istore (lv' := [(5, .int (jI 0)), (4, .int (jI (px * qx + py * qy))), (3, .int (jI (nm_ px py))), (2, .int (jI (mo_ lim))), (0, .ref h0), (1, .int (jI lim))]) hx hb dX0_within_63 hl (by decide) rfl (fun ls hl => ?_)
      refine jv_bipush hx hb dX0_within_65 (by decide) ?_
      refine lv_istore (lv' := [(6, .int (jI (-40))), (5, .int (jI 0)), (4, .int (jI (px * qx + py * qy))), (3, .int (jI (nm_ px py))), (2, .int (jI (mo_ lim))), (0, .ref h0), (1, .int (jI lim))]) hx hb dX0_within_67 hl (by decide) rfl (fun ls hl => ?_)
      refine lp_X0_within C hbd (by omega) hm.2 81 (-40) 0 _ _ ls (by omega) (by omega) hW (lv_sub hl [5, 4, 3, 2, 1, 0] rfl) (fun t2 H locs ls e1 hW hl => ?_)
      refine lv_iload hx hb dX0_within_177 (lv_at hl 1 rfl) ?_
      exact mi_reti C hW (by rw [e1]; unfold wt_; rw [if_pos c_1]) rfl dX0_within_179
  · refine jv_iconst hx hb dX0_within_4 ?_
    exact mi_reti C hW (by unfold wt_; rw [if_neg c_1]) rfl dX0_within_5
/-! ===== walks: the constructor ===== -/
abbrev rm_X0_init : Room := { frames := 2, cells := 0, slots := 0, locals := 48 }
theorem dn_X0_init : yX0_init.cls = RX0 ∧ yX0_init.cls ≠ "java/lang/invoke/MethodHandle" ∧ yX0_init.cls ≠ "java/lang/invoke/VarHandle" ∧ (parseMethodDescriptor yX0_init.desc).map (fun d => d.parameters.length) = some 0 := by decide +kernel
set_option maxHeartbeats 4000000 in
set_option maxRecDepth 100000 in
/-- the constructor -/
theorem met_X0_init (l : Launch) (h0 : Nat)  (r1 r2 r3 r4 : Int) (he : rd_ 1900 1 0 0 1 = (r1, r2, r3, r4)) : mv_ l yX0_init cX0_init 1 none rm_X0_init h0 0 [] [.int (jI 0), .int (jI 0), .int (jI 0), .int (jI 0), .int (jI 0), .int (jI 0), .int (jI 0), .int (jI 0), .int (jI 0), .int (jI 0), .int (jI 0)] [.int (jI 1), .int (jI 0), .int (jI 0), .int (jI 1), .int (jI r1), .int (jI r2), .int (jI r3), .int (jI r4), .int (jI 0), .int (jI 0), .int (jI 0)] := by
  refine mv_of (by decide) (Nat.le_of_ble_eq_true rfl) ?_
  intro p e s m args below meth c D A C hW ls hl
  have C : cx_ p s m args meth c cX0_init 1 RX0 none D A := C
  have hx := C.1
  have hb := C.2.1
  have hown := C.2.2.2.1
  have hts := C.2.2.2.2.1
  have hl : lv_has ls 1 [(0, .ref h0)] := hl
  refine lv_aload_n hx hb dX0_init_0 rfl (lv_at hl 0 rfl) ?_
  refine W.objInit hx hb hown (hts _ q16) (hts _ q17) (hts _ q18) rfl (by rw [C.2.2.1]; exact hl.1) rfl dX0_init_1 (Nat.le_of_ble_eq_true rfl) (Nat.le_of_ble_eq_true rfl) ?_
  refine W.eq (g2 := F0 m 4 ls []) rfl ?_
  refine lv_aload_n hx hb dX0_init_4 rfl (lv_at hl 0 rfl) ?_
  refine jv_iconst hx hb dX0_init_5 ?_
  refine p0_fa C hW dX0_init_6 (fun H locs hW => ?_)
  refine lv_aload_n hx hb dX0_init_9 rfl (lv_at hl 0 rfl) ?_
  refine jv_iconst hx hb dX0_init_10 ?_
  refine p0_fd C hW dX0_init_11 (fun H locs hW => ?_)
  refine lv_aload_n hx hb dX0_init_14 rfl (lv_at hl 0 rfl) ?_
  refine cv_ (q := (RX0, TX0, 11)) C hW (met_X0_reduce l h0 1 0 0 1 0 0 0 0 0 0 0 _ _ _ _ (by unfold ok_; decide) he) rfl (lw_V q19 q21 qs0 q9 q22) ⟨rfl, rfl⟩ dn_X0_reduce ⟨Nat.le_of_ble_eq_true rfl, Nat.le_of_ble_eq_true rfl⟩ rfl hl.1 rfl (Nat.le_of_ble_eq_true rfl) ⟨Nat.zero_le _, Nat.zero_le _⟩ dX0_init_15 (fun H locs hW => ?_)
  exact mv_ret C hW rfl dX0_init_18
end
section
/-! ===== walks: the model's steps, has, same, the constructor ===== -/
abbrev rm_X1_steps : Room := { frames := 1, cells := 0, slots := 0, locals := 20 }
theorem dn_X1_steps : yX1_steps.cls = RX1 ∧ yX1_steps.cls ≠ "java/lang/invoke/MethodHandle" ∧ yX1_steps.cls ≠ "java/lang/invoke/VarHandle" ∧ (parseMethodDescriptor yX1_steps.desc).map (fun d => d.parameters.length) = some 4 := by decide +kernel
set_option maxHeartbeats 4000000 in
set_option maxRecDepth 100000 in
/-- the model's steps, taken -/
theorem met_X1_steps_ok (l : Launch) (h0 : Nat) (fa fb fc fd nu nv aw a2 b2 c2 d2 : Int) (hk : ok_ a2 b2 c2 d2) : mi_ l yX1_steps cX1_steps 5 (some .int) rm_X1_steps h0 1 [.int (jI a2), .int (jI b2), .int (jI c2), .int (jI d2)] [.int (jI fa), .int (jI fb), .int (jI fc), .int (jI fd), .int (jI nu), .int (jI nv), .int (jI aw)] [.int (jI a2), .int (jI b2), .int (jI c2), .int (jI d2), .int (jI nu), .int (jI nv), .int (jI aw)] (0) := by
  refine mi_of (by decide) (Nat.le_of_ble_eq_true rfl) ?_
  intro p e s m args below meth c D A C hW ls hl
  have C : cx_ p s m args meth c cX1_steps 5 RX1 (some .int) D A := C
  have hx := C.1
  have hb := C.2.1
  have hown := C.2.2.2.1
  have hts := C.2.2.2.2.1
  have hl : lv_has ls 5 [(0, .ref h0), (1, .int (jI a2)), (2, .int (jI b2)), (3, .int (jI c2)), (4, .int (jI d2))] := hl
  obtain ⟨k1, k2, k3, k4, k5, k6, k7, k8, k9⟩ := id hk
  refine lv_iload_n hx hb dX1_steps_0 rfl (lv_at hl 1 rfl) ?_
  refine cs_ C hW (met_X1_bad l a2 ⟨by omega, by omega⟩) (lw_S q163 q164 q10 q165) ⟨rfl, rfl⟩ dn_X1_bad ⟨Nat.le_of_ble_eq_true rfl, Nat.le_of_ble_eq_true rfl⟩ rfl hl.1 rfl (Nat.le_of_ble_eq_true rfl) ⟨Nat.zero_le _, Nat.zero_le _⟩ dX1_steps_1 (fun H locs hW => ?_)
  refine jv_if_yes (tgt := 40) hx hb dX1_steps_4 (by decide) (fun c_4 => ?_) (fun c_4 => ?_)
  · exact absurd (baB_yes c_4) (by omega)
  · refine lv_iload_n hx hb dX1_steps_7 rfl (lv_at hl 2 rfl) ?_
    refine cs_ C hW (met_X1_bad l b2 ⟨by omega, by omega⟩) (lw_S q163 q164 q10 q165) ⟨rfl, rfl⟩ dn_X1_bad ⟨Nat.le_of_ble_eq_true rfl, Nat.le_of_ble_eq_true rfl⟩ rfl hl.1 rfl (Nat.le_of_ble_eq_true rfl) ⟨Nat.zero_le _, Nat.zero_le _⟩ dX1_steps_8 (fun H locs hW => ?_)
    refine jv_if_yes (tgt := 40) hx hb dX1_steps_11 (by decide) (fun c_11 => ?_) (fun c_11 => ?_)
    · exact absurd (baB_yes c_11) (by omega)
    · refine lv_iload_n hx hb dX1_steps_14 rfl (lv_at hl 3 rfl) ?_
      refine cs_ C hW (met_X1_bad l c2 ⟨by omega, by omega⟩) (lw_S q163 q164 q10 q165) ⟨rfl, rfl⟩ dn_X1_bad ⟨Nat.le_of_ble_eq_true rfl, Nat.le_of_ble_eq_true rfl⟩ rfl hl.1 rfl (Nat.le_of_ble_eq_true rfl) ⟨Nat.zero_le _, Nat.zero_le _⟩ dX1_steps_15 (fun H locs hW => ?_)
      refine jv_if_yes (tgt := 40) hx hb dX1_steps_18 (by decide) (fun c_18 => ?_) (fun c_18 => ?_)
      · exact absurd (baB_yes c_18) (by omega)
      · refine lv_iload hx hb dX1_steps_21 (lv_at hl 4 rfl) ?_
        refine cs_ C hW (met_X1_bad l d2 ⟨by omega, by omega⟩) (lw_S q163 q164 q10 q165) ⟨rfl, rfl⟩ dn_X1_bad ⟨Nat.le_of_ble_eq_true rfl, Nat.le_of_ble_eq_true rfl⟩ rfl hl.1 rfl (Nat.le_of_ble_eq_true rfl) ⟨Nat.zero_le _, Nat.zero_le _⟩ dX1_steps_23 (fun H locs hW => ?_)
        refine jv_if_yes (tgt := 40) hx hb dX1_steps_26 (by decide) (fun c_26 => ?_) (fun c_26 => ?_)
        · exact absurd (baB_yes c_26) (by omega)
        · refine lv_iload_n hx hb dX1_steps_29 rfl (lv_at hl 1 rfl) ?_
          refine lv_iload hx hb dX1_steps_30 (lv_at hl 4 rfl) ?_
          refine jv_imul hx hb dX1_steps_32 ?_
          refine lv_iload_n hx hb dX1_steps_33 rfl (lv_at hl 2 rfl) ?_
          refine lv_iload_n hx hb dX1_steps_34 rfl (lv_at hl 3 rfl) ?_
          refine jv_imul hx hb dX1_steps_35 ?_
          refine jv_isub hx hb dX1_steps_36 ?_
          have w1 := pr_bd (x := a2) (y := d2) (M := 30) (N := 30) (by omega) (by omega) (by omega) (by omega)
          have w2 := pr_bd (x := b2) (y := c2) (M := 30) (N := 30) (by omega) (by omega) (by omega) (by omega)
          refine jv_if_ne (tgt := 42) hx hb dX1_steps_37 (by decide) ⟨by omega, by omega⟩ (fun c_37 => ?_) (fun c_37 => ?_)
          · refine lv_aload_n hx hb dX1_steps_42 rfl (lv_at hl 0 rfl) ?_
            refine lv_iload_n hx hb dX1_steps_43 rfl (lv_at hl 1 rfl) ?_
            refine p1_fa C hW dX1_steps_44 (fun H locs hW => ?_)
            refine lv_aload_n hx hb dX1_steps_47 rfl (lv_at hl 0 rfl) ?_
            refine lv_iload_n hx hb dX1_steps_48 rfl (lv_at hl 2 rfl) ?_
            refine p1_fb C hW dX1_steps_49 (fun H locs hW => ?_)
            refine lv_aload_n hx hb dX1_steps_52 rfl (lv_at hl 0 rfl) ?_
            refine lv_iload_n hx hb dX1_steps_53 rfl (lv_at hl 3 rfl) ?_
            refine p1_fc C hW dX1_steps_54 (fun H locs hW => ?_)
            refine lv_aload_n hx hb dX1_steps_57 rfl (lv_at hl 0 rfl) ?_
            refine lv_iload hx hb dX1_steps_58 (lv_at hl 4 rfl) ?_
            refine p1_fd C hW dX1_steps_60 (fun H locs hW => ?_)
            refine jv_iconst hx hb dX1_steps_63 ?_
            exact mi_reti C hW rfl rfl dX1_steps_64
          · exact absurd c_37 k9
set_option maxHeartbeats 4000000 in
set_option maxRecDepth 100000 in
/-- the model's steps, not taken -/
theorem met_X1_steps_no (l : Launch) (h0 : Nat) (fa fb fc fd nu nv aw a2 b2 c2 d2 : Int) (h1 : rI a2) (h2 : rI b2) (h3 : rI c2) (h4 : rI d2) (hno : okB_ a2 b2 c2 d2 = false) : mi_ l yX1_steps cX1_steps 5 (some .int) rm_X1_steps h0 1 [.int (jI a2), .int (jI b2), .int (jI c2), .int (jI d2)] [.int (jI fa), .int (jI fb), .int (jI fc), .int (jI fd), .int (jI nu), .int (jI nv), .int (jI aw)] [.int (jI fa), .int (jI fb), .int (jI fc), .int (jI fd), .int (jI nu), .int (jI nv), .int (jI aw)] (-1) := by
  refine mi_of (by decide) (Nat.le_of_ble_eq_true rfl) ?_
  intro p e s m args below meth c D A C hW ls hl
  have C : cx_ p s m args meth c cX1_steps 5 RX1 (some .int) D A := C
  have hx := C.1
  have hb := C.2.1
  have hown := C.2.2.2.1
  have hts := C.2.2.2.2.1
  have hl : lv_has ls 5 [(0, .ref h0), (1, .int (jI a2)), (2, .int (jI b2)), (3, .int (jI c2)), (4, .int (jI d2))] := hl
  refine lv_iload_n hx hb dX1_steps_0 rfl (lv_at hl 1 rfl) ?_
  refine cs_ C hW (met_X1_bad l a2 h1) (lw_S q163 q164 q10 q165) ⟨rfl, rfl⟩ dn_X1_bad ⟨Nat.le_of_ble_eq_true rfl, Nat.le_of_ble_eq_true rfl⟩ rfl hl.1 rfl (Nat.le_of_ble_eq_true rfl) ⟨Nat.zero_le _, Nat.zero_le _⟩ dX1_steps_1 (fun H locs hW => ?_)
  refine jv_if_yes (tgt := 40) hx hb dX1_steps_4 (by decide) (fun c_4 => ?_) (fun c_4 => ?_)
  · refine jv_iconst hx hb dX1_steps_40 ?_
    exact mi_reti C hW rfl rfl dX1_steps_41
  · refine lv_iload_n hx hb dX1_steps_7 rfl (lv_at hl 2 rfl) ?_
    refine cs_ C hW (met_X1_bad l b2 h2) (lw_S q163 q164 q10 q165) ⟨rfl, rfl⟩ dn_X1_bad ⟨Nat.le_of_ble_eq_true rfl, Nat.le_of_ble_eq_true rfl⟩ rfl hl.1 rfl (Nat.le_of_ble_eq_true rfl) ⟨Nat.zero_le _, Nat.zero_le _⟩ dX1_steps_8 (fun H locs hW => ?_)
    refine jv_if_yes (tgt := 40) hx hb dX1_steps_11 (by decide) (fun c_11 => ?_) (fun c_11 => ?_)
    · refine jv_iconst hx hb dX1_steps_40 ?_
      exact mi_reti C hW rfl rfl dX1_steps_41
    · refine lv_iload_n hx hb dX1_steps_14 rfl (lv_at hl 3 rfl) ?_
      refine cs_ C hW (met_X1_bad l c2 h3) (lw_S q163 q164 q10 q165) ⟨rfl, rfl⟩ dn_X1_bad ⟨Nat.le_of_ble_eq_true rfl, Nat.le_of_ble_eq_true rfl⟩ rfl hl.1 rfl (Nat.le_of_ble_eq_true rfl) ⟨Nat.zero_le _, Nat.zero_le _⟩ dX1_steps_15 (fun H locs hW => ?_)
      refine jv_if_yes (tgt := 40) hx hb dX1_steps_18 (by decide) (fun c_18 => ?_) (fun c_18 => ?_)
      · refine jv_iconst hx hb dX1_steps_40 ?_
        exact mi_reti C hW rfl rfl dX1_steps_41
      · refine lv_iload hx hb dX1_steps_21 (lv_at hl 4 rfl) ?_
        refine cs_ C hW (met_X1_bad l d2 h4) (lw_S q163 q164 q10 q165) ⟨rfl, rfl⟩ dn_X1_bad ⟨Nat.le_of_ble_eq_true rfl, Nat.le_of_ble_eq_true rfl⟩ rfl hl.1 rfl (Nat.le_of_ble_eq_true rfl) ⟨Nat.zero_le _, Nat.zero_le _⟩ dX1_steps_23 (fun H locs hW => ?_)
        refine jv_if_yes (tgt := 40) hx hb dX1_steps_26 (by decide) (fun c_26 => ?_) (fun c_26 => ?_)
        · refine jv_iconst hx hb dX1_steps_40 ?_
          exact mi_reti C hW rfl rfl dX1_steps_41
        · have z1 := baB_no c_4
          have z2 := baB_no c_11
          have z3 := baB_no c_18
          have z4 := baB_no c_26
          have w1 := pr_bd (x := a2) (y := d2) (M := 30) (N := 30) (by omega) (by omega) (by omega) (by omega)
          have w2 := pr_bd (x := b2) (y := c2) (M := 30) (N := 30) (by omega) (by omega) (by omega) (by omega)
          refine lv_iload_n hx hb dX1_steps_29 rfl (lv_at hl 1 rfl) ?_
          refine lv_iload hx hb dX1_steps_30 (lv_at hl 4 rfl) ?_
          refine jv_imul hx hb dX1_steps_32 ?_
          refine lv_iload_n hx hb dX1_steps_33 rfl (lv_at hl 2 rfl) ?_
          refine lv_iload_n hx hb dX1_steps_34 rfl (lv_at hl 3 rfl) ?_
          refine jv_imul hx hb dX1_steps_35 ?_
          refine jv_isub hx hb dX1_steps_36 ?_
          refine jv_if_ne (tgt := 42) hx hb dX1_steps_37 (by decide) ⟨by omega, by omega⟩ (fun c_37 => ?_) (fun c_37 => ?_)
          · exact (ff_ hno (okB_iff.mpr ⟨z1.1, z1.2, z2.1, z2.2, z3.1, z3.2, z4.1, z4.2, c_37⟩)).elim
          · refine jv_iconst hx hb dX1_steps_40 ?_
            exact mi_reti C hW rfl rfl dX1_steps_41
abbrev rm_X1_has : Room := { frames := 2, cells := 0, slots := 0, locals := 48 }
theorem dn_X1_has : yX1_has.cls = RX1 ∧ yX1_has.cls ≠ "java/lang/invoke/MethodHandle" ∧ yX1_has.cls ≠ "java/lang/invoke/VarHandle" ∧ (parseMethodDescriptor yX1_has.desc).map (fun d => d.parameters.length) = some 2 := by decide +kernel
set_option maxHeartbeats 4000000 in
set_option maxRecDepth 100000 in
/-- the model's has -/
theorem met_X1_has (l : Launch) (h0 : Nat) (fa fb fc fd nu nv aw x y : Int) (hk : ok_ fa fb fc fd) (h1 : rI x) (h2 : rI y) : mi_ l yX1_has cX1_has 3 (some .int) rm_X1_has h0 1 [.int (jI x), .int (jI y)] [.int (jI fa), .int (jI fb), .int (jI fc), .int (jI fd), .int (jI nu), .int (jI nv), .int (jI aw)] [.int (jI fa), .int (jI fb), .int (jI fc), .int (jI fd), .int (jI nu), .int (jI nv), .int (jI aw)] (if rgB_ x y then b2_ (inB_ fa fb fc fd x y) else -1) := by
  refine mi_of (by decide) (Nat.le_of_ble_eq_true rfl) ?_
  intro p e s m args below meth c D A C hW ls hl
  have C : cx_ p s m args meth c cX1_has 3 RX1 (some .int) D A := C
  have hx := C.1
  have hb := C.2.1
  have hown := C.2.2.2.1
  have hts := C.2.2.2.2.1
  have hl : lv_has ls 3 [(0, .ref h0), (1, .int (jI x)), (2, .int (jI y))] := hl
  refine lv_iload_n hx hb dX1_has_0 rfl (lv_at hl 1 rfl) ?_
  refine lv_iload_n hx hb dX1_has_1 rfl (lv_at hl 2 rfl) ?_
  refine cs_ C hW (met_X1_far l x y h1 h2) (lw_S q170 q171 q10 q172) ⟨rfl, rfl⟩ dn_X1_far ⟨Nat.le_of_ble_eq_true rfl, Nat.le_of_ble_eq_true rfl⟩ rfl hl.1 rfl (Nat.le_of_ble_eq_true rfl) ⟨Nat.zero_le _, Nat.zero_le _⟩ dX1_has_2 (fun H locs hW => ?_)
  refine jv_if_no (tgt := 10) hx hb dX1_has_5 (by decide) (fun c_5 => ?_) (fun c_5 => ?_)
  · have d_5 : rgB_ x y = true := by simpa using c_5
    have g := rgB_of d_5
    refine lv_aload_n hx hb dX1_has_10 rfl (lv_at hl 0 rfl) ?_
    refine lv_iload_n hx hb dX1_has_11 rfl (lv_at hl 1 rfl) ?_
    refine lv_iload_n hx hb dX1_has_12 rfl (lv_at hl 2 rfl) ?_
    refine ci_ (q := (RX1, TX1, 7)) C hW (met_X1_isPoint l h0 fa fb fc fd nu nv aw x y hk ⟨by omega, by omega⟩ ⟨by omega, by omega⟩) rfl (lw_V q173 q175 qs6 q10 q176) ⟨rfl, rfl⟩ dn_X1_isPoint ⟨Nat.le_of_ble_eq_true rfl, Nat.le_of_ble_eq_true rfl⟩ rfl hl.1 rfl (Nat.le_of_ble_eq_true rfl) ⟨Nat.zero_le _, Nat.zero_le _⟩ dX1_has_13 (fun H locs hW => ?_)
    refine jv_if_no (tgt := 23) hx hb dX1_has_16 (by decide) (fun c_16 => ?_) (fun c_16 => ?_)
    · refine jv_iconst hx hb dX1_has_23 ?_
      exact mi_reti C hW (by rw [d_5, c_16]; rfl) rfl dX1_has_24
    · refine jv_iconst hx hb dX1_has_19 ?_
      refine lv_goto (tgt := 24) hx hb dX1_has_20 (by decide) ?_
      exact mi_reti C hW (by rw [d_5, c_16]; rfl) rfl dX1_has_24
  · have d_5 : rgB_ x y = false := by simpa using c_5
    refine jv_iconst hx hb dX1_has_8 ?_
    exact mi_reti C hW (by rw [d_5]; rfl) rfl dX1_has_9
section SMM
variable {a b c d a2 b2 c2 d2 : Int}
theorem smm_no (h : okB_ a2 b2 c2 d2 = false) : (-1 : Int) = sm_m a b c d a2 b2 c2 d2 := by unfold sm_m; rw [h]; rfl
theorem smm_ok {k1 k2 k3 k4 : Bool} (h : okB_ a2 b2 c2 d2 = true) (h1 : inB_ a b c d a2 b2 = k1) (h2 : inB_ a b c d c2 d2 = k2) (h3 : inB_ a2 b2 c2 d2 a b = k3) (h4 : inB_ a2 b2 c2 d2 c d = k4) : sm_m a b c d a2 b2 c2 d2 = b2_ ((k1 && k2) && (k3 && k4)) := by unfold sm_m; rw [h, h1, h2, h3, h4]; rfl
theorem smm_1 (h : okB_ a2 b2 c2 d2 = true) (h1 : inB_ a b c d a2 b2 = false) : (0 : Int) = sm_m a b c d a2 b2 c2 d2 := by rw [smm_ok h h1 rfl rfl rfl]; rfl
theorem smm_2 (h : okB_ a2 b2 c2 d2 = true) (h1 : inB_ a b c d c2 d2 = false) : (0 : Int) = sm_m a b c d a2 b2 c2 d2 := by rw [smm_ok h rfl h1 rfl rfl, Bool.and_false]; rfl
theorem smm_3 (h : okB_ a2 b2 c2 d2 = true) (h1 : inB_ a2 b2 c2 d2 a b = false) : (0 : Int) = sm_m a b c d a2 b2 c2 d2 := by rw [smm_ok h rfl rfl h1 rfl, Bool.false_and, Bool.and_false]; rfl
theorem smm_4 (h : okB_ a2 b2 c2 d2 = true) (h1 : inB_ a2 b2 c2 d2 c d = false) : (0 : Int) = sm_m a b c d a2 b2 c2 d2 := by rw [smm_ok h rfl rfl rfl h1, Bool.and_false, Bool.and_false]; rfl
theorem smm_5 (h : okB_ a2 b2 c2 d2 = true) (h1 : inB_ a b c d a2 b2 = true) (h2 : inB_ a b c d c2 d2 = true) (h3 : inB_ a2 b2 c2 d2 a b = true) (h4 : inB_ a2 b2 c2 d2 c d = true) : (1 : Int) = sm_m a b c d a2 b2 c2 d2 := by rw [smm_ok h h1 h2 h3 h4]; rfl
end SMM
abbrev rm_X1_same : Room := { frames := 2, cells := 0, slots := 0, locals := 48 }
theorem dn_X1_same : yX1_same.cls = RX1 ∧ yX1_same.cls ≠ "java/lang/invoke/MethodHandle" ∧ yX1_same.cls ≠ "java/lang/invoke/VarHandle" ∧ (parseMethodDescriptor yX1_same.desc).map (fun d => d.parameters.length) = some 4 := by decide +kernel
set_option maxHeartbeats 4000000 in
set_option maxRecDepth 100000 in
/-- the model's same -/
theorem met_X1_same (l : Launch) (h0 : Nat) (fa fb fc fd nu nv aw a2 b2 c2 d2 : Int) (hk : ok_ fa fb fc fd) (h1 : rI a2) (h2 : rI b2) (h3 : rI c2) (h4 : rI d2) : mi_ l yX1_same cX1_same 7 (some .int) rm_X1_same h0 1 [.int (jI a2), .int (jI b2), .int (jI c2), .int (jI d2)] [.int (jI fa), .int (jI fb), .int (jI fc), .int (jI fd), .int (jI nu), .int (jI nv), .int (jI aw)] [.int (jI fa), .int (jI fb), .int (jI fc), .int (jI fd), .int (jI nu), .int (jI nv), .int (jI aw)] (sm_m fa fb fc fd a2 b2 c2 d2) := by
  refine mi_of (by decide) (Nat.le_of_ble_eq_true rfl) ?_
  intro p e s m args below meth c D A C hW ls hl
  have C : cx_ p s m args meth c cX1_same 7 RX1 (some .int) D A := C
  have hx := C.1
  have hb := C.2.1
  have hown := C.2.2.2.1
  have hts := C.2.2.2.2.1
  have hl : lv_has ls 7 [(0, .ref h0), (1, .int (jI a2)), (2, .int (jI b2)), (3, .int (jI c2)), (4, .int (jI d2))] := hl
  obtain ⟨k1, k2, k3, k4, k5, k6, k7, k8, k9⟩ := id hk
  refine lv_iload_n hx hb dX1_same_0 rfl (lv_at hl 1 rfl) ?_
  refine cs_ C hW (met_X1_bad l a2 h1) (lw_S q163 q164 q10 q165) ⟨rfl, rfl⟩ dn_X1_bad ⟨Nat.le_of_ble_eq_true rfl, Nat.le_of_ble_eq_true rfl⟩ rfl hl.1 rfl (Nat.le_of_ble_eq_true rfl) ⟨Nat.zero_le _, Nat.zero_le _⟩ dX1_same_1 (fun H locs hW => ?_)
  refine jv_if_yes (tgt := 40) hx hb dX1_same_4 (by decide) (fun c_4 => ?_) (fun c_4 => ?_)
  · refine jv_iconst hx hb dX1_same_40 ?_
    exact mi_reti C hW (smm_no (okB_no (fun q => by obtain ⟨k1, k2, k3, k4, k5, k6, k7, k8, k9⟩ := q; first | exact absurd (baB_yes c_4) (by omega) | exact absurd (baB_yes c_11) (by omega) | exact absurd (baB_yes c_18) (by omega) | exact absurd (baB_yes c_26) (by omega) | exact k9 c_37))) rfl dX1_same_41
  · refine lv_iload_n hx hb dX1_same_7 rfl (lv_at hl 2 rfl) ?_
    refine cs_ C hW (met_X1_bad l b2 h2) (lw_S q163 q164 q10 q165) ⟨rfl, rfl⟩ dn_X1_bad ⟨Nat.le_of_ble_eq_true rfl, Nat.le_of_ble_eq_true rfl⟩ rfl hl.1 rfl (Nat.le_of_ble_eq_true rfl) ⟨Nat.zero_le _, Nat.zero_le _⟩ dX1_same_8 (fun H locs hW => ?_)
    refine jv_if_yes (tgt := 40) hx hb dX1_same_11 (by decide) (fun c_11 => ?_) (fun c_11 => ?_)
    · refine jv_iconst hx hb dX1_same_40 ?_
      exact mi_reti C hW (smm_no (okB_no (fun q => by obtain ⟨k1, k2, k3, k4, k5, k6, k7, k8, k9⟩ := q; first | exact absurd (baB_yes c_4) (by omega) | exact absurd (baB_yes c_11) (by omega) | exact absurd (baB_yes c_18) (by omega) | exact absurd (baB_yes c_26) (by omega) | exact k9 c_37))) rfl dX1_same_41
    · refine lv_iload_n hx hb dX1_same_14 rfl (lv_at hl 3 rfl) ?_
      refine cs_ C hW (met_X1_bad l c2 h3) (lw_S q163 q164 q10 q165) ⟨rfl, rfl⟩ dn_X1_bad ⟨Nat.le_of_ble_eq_true rfl, Nat.le_of_ble_eq_true rfl⟩ rfl hl.1 rfl (Nat.le_of_ble_eq_true rfl) ⟨Nat.zero_le _, Nat.zero_le _⟩ dX1_same_15 (fun H locs hW => ?_)
      refine jv_if_yes (tgt := 40) hx hb dX1_same_18 (by decide) (fun c_18 => ?_) (fun c_18 => ?_)
      · refine jv_iconst hx hb dX1_same_40 ?_
        exact mi_reti C hW (smm_no (okB_no (fun q => by obtain ⟨k1, k2, k3, k4, k5, k6, k7, k8, k9⟩ := q; first | exact absurd (baB_yes c_4) (by omega) | exact absurd (baB_yes c_11) (by omega) | exact absurd (baB_yes c_18) (by omega) | exact absurd (baB_yes c_26) (by omega) | exact k9 c_37))) rfl dX1_same_41
      · refine lv_iload hx hb dX1_same_21 (lv_at hl 4 rfl) ?_
        refine cs_ C hW (met_X1_bad l d2 h4) (lw_S q163 q164 q10 q165) ⟨rfl, rfl⟩ dn_X1_bad ⟨Nat.le_of_ble_eq_true rfl, Nat.le_of_ble_eq_true rfl⟩ rfl hl.1 rfl (Nat.le_of_ble_eq_true rfl) ⟨Nat.zero_le _, Nat.zero_le _⟩ dX1_same_23 (fun H locs hW => ?_)
        refine jv_if_yes (tgt := 40) hx hb dX1_same_26 (by decide) (fun c_26 => ?_) (fun c_26 => ?_)
        · refine jv_iconst hx hb dX1_same_40 ?_
          exact mi_reti C hW (smm_no (okB_no (fun q => by obtain ⟨k1, k2, k3, k4, k5, k6, k7, k8, k9⟩ := q; first | exact absurd (baB_yes c_4) (by omega) | exact absurd (baB_yes c_11) (by omega) | exact absurd (baB_yes c_18) (by omega) | exact absurd (baB_yes c_26) (by omega) | exact k9 c_37))) rfl dX1_same_41
        · have z1 := baB_no c_4
          have z2 := baB_no c_11
          have z3 := baB_no c_18
          have z4 := baB_no c_26
          have w1 := pr_bd (x := a2) (y := d2) (M := 30) (N := 30) (by omega) (by omega) (by omega) (by omega)
          have w2 := pr_bd (x := b2) (y := c2) (M := 30) (N := 30) (by omega) (by omega) (by omega) (by omega)
          refine lv_iload_n hx hb dX1_same_29 rfl (lv_at hl 1 rfl) ?_
          refine lv_iload hx hb dX1_same_30 (lv_at hl 4 rfl) ?_
          refine jv_imul hx hb dX1_same_32 ?_
          refine lv_iload_n hx hb dX1_same_33 rfl (lv_at hl 2 rfl) ?_
          refine lv_iload_n hx hb dX1_same_34 rfl (lv_at hl 3 rfl) ?_
          refine jv_imul hx hb dX1_same_35 ?_
          refine jv_isub hx hb dX1_same_36 ?_
          refine jv_if_ne (tgt := 42) hx hb dX1_same_37 (by decide) ⟨by omega, by omega⟩ (fun c_37 => ?_) (fun c_37 => ?_)
          · have hq : ok_ a2 b2 c2 d2 := ⟨z1.1, z1.2, z2.1, z2.2, z3.1, z3.2, z4.1, z4.2, c_37⟩
            have hqB := okB_iff.mpr hq
            refine lv_aload_n hx hb dX1_same_42 rfl (lv_at hl 0 rfl) ?_
            refine lv_iload_n hx hb dX1_same_43 rfl (lv_at hl 1 rfl) ?_
            refine lv_iload_n hx hb dX1_same_44 rfl (lv_at hl 2 rfl) ?_
            refine ci_ (q := (RX1, TX1, 7)) C hW (met_X1_isPoint l h0 fa fb fc fd nu nv aw a2 b2 hk ⟨by omega, by omega⟩ ⟨by omega, by omega⟩) rfl (lw_V q173 q175 qs6 q10 q176) ⟨rfl, rfl⟩ dn_X1_isPoint ⟨Nat.le_of_ble_eq_true rfl, Nat.le_of_ble_eq_true rfl⟩ rfl hl.1 rfl (Nat.le_of_ble_eq_true rfl) ⟨Nat.zero_le _, Nat.zero_le _⟩ dX1_same_45 (fun H locs hW => ?_)
            refine jv_if_no (tgt := 65) hx hb dX1_same_48 (by decide) (fun c_48 => ?_) (fun c_48 => ?_)
            · refine jv_iconst hx hb dX1_same_65 ?_
              refine lv_istore (lv' := [(5, .int (jI 0)), (0, .ref h0), (1, .int (jI a2)), (2, .int (jI b2)), (3, .int (jI c2)), (4, .int (jI d2))]) hx hb dX1_same_66 hl (by decide) rfl (fun ls hl => ?_)
              refine lv_aload_n hx hb dX1_same_68 rfl (lv_at hl 1 rfl) ?_
              refine g1_fa C hW dX1_same_69 ?_
              refine lv_aload_n hx hb dX1_same_72 rfl (lv_at hl 1 rfl) ?_
              refine g1_fb C hW dX1_same_73 ?_
              refine lv_iload_n hx hb dX1_same_76 rfl (lv_at hl 2 rfl) ?_
              refine lv_iload_n hx hb dX1_same_77 rfl (lv_at hl 3 rfl) ?_
              refine lv_iload_n hx hb dX1_same_78 rfl (lv_at hl 4 rfl) ?_
              refine lv_iload hx hb dX1_same_79 (lv_at hl 5 rfl) ?_
              refine cs_ C hW (met_X1_in l fa fb a2 b2 c2 d2 hq ⟨by omega, by omega⟩ ⟨by omega, by omega⟩) (lw_S q177 q178 q10 q179) ⟨rfl, rfl⟩ dn_X1_in ⟨Nat.le_of_ble_eq_true rfl, Nat.le_of_ble_eq_true rfl⟩ rfl hl.1 rfl (Nat.le_of_ble_eq_true rfl) ⟨Nat.zero_le _, Nat.zero_le _⟩ dX1_same_81 (fun H locs hW => ?_)
              refine jv_if_no (tgt := 110) hx hb dX1_same_84 (by decide) (fun c_84 => ?_) (fun c_84 => ?_)
              · refine jv_iconst hx hb dX1_same_110 ?_
                refine lv_istore (lv' := [(6, .int (jI 0)), (5, .int (jI 0)), (0, .ref h0), (1, .int (jI a2)), (2, .int (jI b2)), (3, .int (jI c2)), (4, .int (jI d2))]) hx hb dX1_same_111 hl (by decide) rfl (fun ls hl => ?_)
                refine lv_iload hx hb dX1_same_113 (lv_at hl 1 rfl) ?_
                refine jv_if_eq (tgt := 127) hx hb dX1_same_115 (by decide) ⟨by omega, by omega⟩ (fun c_115 => ?_) (fun c_115 => ?_)
                · refine jv_iconst hx hb dX1_same_127 ?_
                  exact mi_reti C hW (by first | exact smm_1 hqB c_48 | exact smm_2 hqB c_58 | exact smm_3 hqB c_84 | exact smm_4 hqB c_103) rfl dX1_same_128
                · exact absurd c_115 (by decide)
              · refine lv_aload_n hx hb dX1_same_87 rfl (lv_at hl 1 rfl) ?_
                refine g1_fc C hW dX1_same_88 ?_
                refine lv_aload_n hx hb dX1_same_91 rfl (lv_at hl 1 rfl) ?_
                refine g1_fd C hW dX1_same_92 ?_
                refine lv_iload_n hx hb dX1_same_95 rfl (lv_at hl 2 rfl) ?_
                refine lv_iload_n hx hb dX1_same_96 rfl (lv_at hl 3 rfl) ?_
                refine lv_iload_n hx hb dX1_same_97 rfl (lv_at hl 4 rfl) ?_
                refine lv_iload hx hb dX1_same_98 (lv_at hl 5 rfl) ?_
                refine cs_ C hW (met_X1_in l fc fd a2 b2 c2 d2 hq ⟨by omega, by omega⟩ ⟨by omega, by omega⟩) (lw_S q177 q178 q10 q179) ⟨rfl, rfl⟩ dn_X1_in ⟨Nat.le_of_ble_eq_true rfl, Nat.le_of_ble_eq_true rfl⟩ rfl hl.1 rfl (Nat.le_of_ble_eq_true rfl) ⟨Nat.zero_le _, Nat.zero_le _⟩ dX1_same_100 (fun H locs hW => ?_)
                refine jv_if_no (tgt := 110) hx hb dX1_same_103 (by decide) (fun c_103 => ?_) (fun c_103 => ?_)
                · refine jv_iconst hx hb dX1_same_110 ?_
                  refine lv_istore (lv' := [(6, .int (jI 0)), (5, .int (jI 0)), (0, .ref h0), (1, .int (jI a2)), (2, .int (jI b2)), (3, .int (jI c2)), (4, .int (jI d2))]) hx hb dX1_same_111 hl (by decide) rfl (fun ls hl => ?_)
                  refine lv_iload hx hb dX1_same_113 (lv_at hl 1 rfl) ?_
                  refine jv_if_eq (tgt := 127) hx hb dX1_same_115 (by decide) ⟨by omega, by omega⟩ (fun c_115 => ?_) (fun c_115 => ?_)
                  · refine jv_iconst hx hb dX1_same_127 ?_
                    exact mi_reti C hW (by first | exact smm_1 hqB c_48 | exact smm_2 hqB c_58 | exact smm_3 hqB c_84 | exact smm_4 hqB c_103) rfl dX1_same_128
                  · exact absurd c_115 (by decide)
                · refine jv_iconst hx hb dX1_same_106 ?_
                  refine lv_goto (tgt := 111) hx hb dX1_same_107 (by decide) ?_
                  refine lv_istore (lv' := [(6, .int (jI 1)), (5, .int (jI 0)), (0, .ref h0), (1, .int (jI a2)), (2, .int (jI b2)), (3, .int (jI c2)), (4, .int (jI d2))]) hx hb dX1_same_111 hl (by decide) rfl (fun ls hl => ?_)
                  refine lv_iload hx hb dX1_same_113 (lv_at hl 1 rfl) ?_
                  refine jv_if_eq (tgt := 127) hx hb dX1_same_115 (by decide) ⟨by omega, by omega⟩ (fun c_115 => ?_) (fun c_115 => ?_)
                  · refine jv_iconst hx hb dX1_same_127 ?_
                    exact mi_reti C hW (by first | exact smm_1 hqB c_48 | exact smm_2 hqB c_58 | exact smm_3 hqB c_84 | exact smm_4 hqB c_103) rfl dX1_same_128
                  · exact absurd c_115 (by decide)
            · refine lv_aload_n hx hb dX1_same_51 rfl (lv_at hl 0 rfl) ?_
              refine lv_iload_n hx hb dX1_same_52 rfl (lv_at hl 3 rfl) ?_
              refine lv_iload hx hb dX1_same_53 (lv_at hl 4 rfl) ?_
              refine ci_ (q := (RX1, TX1, 7)) C hW (met_X1_isPoint l h0 fa fb fc fd nu nv aw c2 d2 hk ⟨by omega, by omega⟩ ⟨by omega, by omega⟩) rfl (lw_V q173 q175 qs6 q10 q176) ⟨rfl, rfl⟩ dn_X1_isPoint ⟨Nat.le_of_ble_eq_true rfl, Nat.le_of_ble_eq_true rfl⟩ rfl hl.1 rfl (Nat.le_of_ble_eq_true rfl) ⟨Nat.zero_le _, Nat.zero_le _⟩ dX1_same_55 (fun H locs hW => ?_)
              refine jv_if_no (tgt := 65) hx hb dX1_same_58 (by decide) (fun c_58 => ?_) (fun c_58 => ?_)
              · refine jv_iconst hx hb dX1_same_65 ?_
                refine lv_istore (lv' := [(5, .int (jI 0)), (0, .ref h0), (1, .int (jI a2)), (2, .int (jI b2)), (3, .int (jI c2)), (4, .int (jI d2))]) hx hb dX1_same_66 hl (by decide) rfl (fun ls hl => ?_)
                refine lv_aload_n hx hb dX1_same_68 rfl (lv_at hl 1 rfl) ?_
                refine g1_fa C hW dX1_same_69 ?_
                refine lv_aload_n hx hb dX1_same_72 rfl (lv_at hl 1 rfl) ?_
                refine g1_fb C hW dX1_same_73 ?_
                refine lv_iload_n hx hb dX1_same_76 rfl (lv_at hl 2 rfl) ?_
                refine lv_iload_n hx hb dX1_same_77 rfl (lv_at hl 3 rfl) ?_
                refine lv_iload_n hx hb dX1_same_78 rfl (lv_at hl 4 rfl) ?_
                refine lv_iload hx hb dX1_same_79 (lv_at hl 5 rfl) ?_
                refine cs_ C hW (met_X1_in l fa fb a2 b2 c2 d2 hq ⟨by omega, by omega⟩ ⟨by omega, by omega⟩) (lw_S q177 q178 q10 q179) ⟨rfl, rfl⟩ dn_X1_in ⟨Nat.le_of_ble_eq_true rfl, Nat.le_of_ble_eq_true rfl⟩ rfl hl.1 rfl (Nat.le_of_ble_eq_true rfl) ⟨Nat.zero_le _, Nat.zero_le _⟩ dX1_same_81 (fun H locs hW => ?_)
                refine jv_if_no (tgt := 110) hx hb dX1_same_84 (by decide) (fun c_84 => ?_) (fun c_84 => ?_)
                · refine jv_iconst hx hb dX1_same_110 ?_
                  refine lv_istore (lv' := [(6, .int (jI 0)), (5, .int (jI 0)), (0, .ref h0), (1, .int (jI a2)), (2, .int (jI b2)), (3, .int (jI c2)), (4, .int (jI d2))]) hx hb dX1_same_111 hl (by decide) rfl (fun ls hl => ?_)
                  refine lv_iload hx hb dX1_same_113 (lv_at hl 1 rfl) ?_
                  refine jv_if_eq (tgt := 127) hx hb dX1_same_115 (by decide) ⟨by omega, by omega⟩ (fun c_115 => ?_) (fun c_115 => ?_)
                  · refine jv_iconst hx hb dX1_same_127 ?_
                    exact mi_reti C hW (by first | exact smm_1 hqB c_48 | exact smm_2 hqB c_58 | exact smm_3 hqB c_84 | exact smm_4 hqB c_103) rfl dX1_same_128
                  · exact absurd c_115 (by decide)
                · refine lv_aload_n hx hb dX1_same_87 rfl (lv_at hl 1 rfl) ?_
                  refine g1_fc C hW dX1_same_88 ?_
                  refine lv_aload_n hx hb dX1_same_91 rfl (lv_at hl 1 rfl) ?_
                  refine g1_fd C hW dX1_same_92 ?_
                  refine lv_iload_n hx hb dX1_same_95 rfl (lv_at hl 2 rfl) ?_
                  refine lv_iload_n hx hb dX1_same_96 rfl (lv_at hl 3 rfl) ?_
                  refine lv_iload_n hx hb dX1_same_97 rfl (lv_at hl 4 rfl) ?_
                  refine lv_iload hx hb dX1_same_98 (lv_at hl 5 rfl) ?_
                  refine cs_ C hW (met_X1_in l fc fd a2 b2 c2 d2 hq ⟨by omega, by omega⟩ ⟨by omega, by omega⟩) (lw_S q177 q178 q10 q179) ⟨rfl, rfl⟩ dn_X1_in ⟨Nat.le_of_ble_eq_true rfl, Nat.le_of_ble_eq_true rfl⟩ rfl hl.1 rfl (Nat.le_of_ble_eq_true rfl) ⟨Nat.zero_le _, Nat.zero_le _⟩ dX1_same_100 (fun H locs hW => ?_)
                  refine jv_if_no (tgt := 110) hx hb dX1_same_103 (by decide) (fun c_103 => ?_) (fun c_103 => ?_)
                  · refine jv_iconst hx hb dX1_same_110 ?_
                    refine lv_istore (lv' := [(6, .int (jI 0)), (5, .int (jI 0)), (0, .ref h0), (1, .int (jI a2)), (2, .int (jI b2)), (3, .int (jI c2)), (4, .int (jI d2))]) hx hb dX1_same_111 hl (by decide) rfl (fun ls hl => ?_)
                    refine lv_iload hx hb dX1_same_113 (lv_at hl 1 rfl) ?_
                    refine jv_if_eq (tgt := 127) hx hb dX1_same_115 (by decide) ⟨by omega, by omega⟩ (fun c_115 => ?_) (fun c_115 => ?_)
                    · refine jv_iconst hx hb dX1_same_127 ?_
                      exact mi_reti C hW (by first | exact smm_1 hqB c_48 | exact smm_2 hqB c_58 | exact smm_3 hqB c_84 | exact smm_4 hqB c_103) rfl dX1_same_128
                    · exact absurd c_115 (by decide)
                  · refine jv_iconst hx hb dX1_same_106 ?_
                    refine lv_goto (tgt := 111) hx hb dX1_same_107 (by decide) ?_
                    refine lv_istore (lv' := [(6, .int (jI 1)), (5, .int (jI 0)), (0, .ref h0), (1, .int (jI a2)), (2, .int (jI b2)), (3, .int (jI c2)), (4, .int (jI d2))]) hx hb dX1_same_111 hl (by decide) rfl (fun ls hl => ?_)
                    refine lv_iload hx hb dX1_same_113 (lv_at hl 1 rfl) ?_
                    refine jv_if_eq (tgt := 127) hx hb dX1_same_115 (by decide) ⟨by omega, by omega⟩ (fun c_115 => ?_) (fun c_115 => ?_)
                    · refine jv_iconst hx hb dX1_same_127 ?_
                      exact mi_reti C hW (by first | exact smm_1 hqB c_48 | exact smm_2 hqB c_58 | exact smm_3 hqB c_84 | exact smm_4 hqB c_103) rfl dX1_same_128
                    · exact absurd c_115 (by decide)
              · refine jv_iconst hx hb dX1_same_61 ?_
                refine lv_goto (tgt := 66) hx hb dX1_same_62 (by decide) ?_
                refine lv_istore (lv' := [(5, .int (jI 1)), (0, .ref h0), (1, .int (jI a2)), (2, .int (jI b2)), (3, .int (jI c2)), (4, .int (jI d2))]) hx hb dX1_same_66 hl (by decide) rfl (fun ls hl => ?_)
                refine lv_aload_n hx hb dX1_same_68 rfl (lv_at hl 1 rfl) ?_
                refine g1_fa C hW dX1_same_69 ?_
                refine lv_aload_n hx hb dX1_same_72 rfl (lv_at hl 1 rfl) ?_
                refine g1_fb C hW dX1_same_73 ?_
                refine lv_iload_n hx hb dX1_same_76 rfl (lv_at hl 2 rfl) ?_
                refine lv_iload_n hx hb dX1_same_77 rfl (lv_at hl 3 rfl) ?_
                refine lv_iload_n hx hb dX1_same_78 rfl (lv_at hl 4 rfl) ?_
                refine lv_iload hx hb dX1_same_79 (lv_at hl 5 rfl) ?_
                refine cs_ C hW (met_X1_in l fa fb a2 b2 c2 d2 hq ⟨by omega, by omega⟩ ⟨by omega, by omega⟩) (lw_S q177 q178 q10 q179) ⟨rfl, rfl⟩ dn_X1_in ⟨Nat.le_of_ble_eq_true rfl, Nat.le_of_ble_eq_true rfl⟩ rfl hl.1 rfl (Nat.le_of_ble_eq_true rfl) ⟨Nat.zero_le _, Nat.zero_le _⟩ dX1_same_81 (fun H locs hW => ?_)
                refine jv_if_no (tgt := 110) hx hb dX1_same_84 (by decide) (fun c_84 => ?_) (fun c_84 => ?_)
                · refine jv_iconst hx hb dX1_same_110 ?_
                  refine lv_istore (lv' := [(6, .int (jI 0)), (5, .int (jI 1)), (0, .ref h0), (1, .int (jI a2)), (2, .int (jI b2)), (3, .int (jI c2)), (4, .int (jI d2))]) hx hb dX1_same_111 hl (by decide) rfl (fun ls hl => ?_)
                  refine lv_iload hx hb dX1_same_113 (lv_at hl 1 rfl) ?_
                  refine jv_if_eq (tgt := 127) hx hb dX1_same_115 (by decide) ⟨by omega, by omega⟩ (fun c_115 => ?_) (fun c_115 => ?_)
                  · exact absurd c_115 (by decide)
                  · refine lv_iload hx hb dX1_same_118 (lv_at hl 0 rfl) ?_
                    refine jv_if_eq (tgt := 127) hx hb dX1_same_120 (by decide) ⟨by omega, by omega⟩ (fun c_120 => ?_) (fun c_120 => ?_)
                    · refine jv_iconst hx hb dX1_same_127 ?_
                      exact mi_reti C hW (by first | exact smm_1 hqB c_48 | exact smm_2 hqB c_58 | exact smm_3 hqB c_84 | exact smm_4 hqB c_103) rfl dX1_same_128
                    · exact absurd c_120 (by decide)
                · refine lv_aload_n hx hb dX1_same_87 rfl (lv_at hl 1 rfl) ?_
                  refine g1_fc C hW dX1_same_88 ?_
                  refine lv_aload_n hx hb dX1_same_91 rfl (lv_at hl 1 rfl) ?_
                  refine g1_fd C hW dX1_same_92 ?_
                  refine lv_iload_n hx hb dX1_same_95 rfl (lv_at hl 2 rfl) ?_
                  refine lv_iload_n hx hb dX1_same_96 rfl (lv_at hl 3 rfl) ?_
                  refine lv_iload_n hx hb dX1_same_97 rfl (lv_at hl 4 rfl) ?_
                  refine lv_iload hx hb dX1_same_98 (lv_at hl 5 rfl) ?_
                  refine cs_ C hW (met_X1_in l fc fd a2 b2 c2 d2 hq ⟨by omega, by omega⟩ ⟨by omega, by omega⟩) (lw_S q177 q178 q10 q179) ⟨rfl, rfl⟩ dn_X1_in ⟨Nat.le_of_ble_eq_true rfl, Nat.le_of_ble_eq_true rfl⟩ rfl hl.1 rfl (Nat.le_of_ble_eq_true rfl) ⟨Nat.zero_le _, Nat.zero_le _⟩ dX1_same_100 (fun H locs hW => ?_)
                  refine jv_if_no (tgt := 110) hx hb dX1_same_103 (by decide) (fun c_103 => ?_) (fun c_103 => ?_)
                  · refine jv_iconst hx hb dX1_same_110 ?_
                    refine lv_istore (lv' := [(6, .int (jI 0)), (5, .int (jI 1)), (0, .ref h0), (1, .int (jI a2)), (2, .int (jI b2)), (3, .int (jI c2)), (4, .int (jI d2))]) hx hb dX1_same_111 hl (by decide) rfl (fun ls hl => ?_)
                    refine lv_iload hx hb dX1_same_113 (lv_at hl 1 rfl) ?_
                    refine jv_if_eq (tgt := 127) hx hb dX1_same_115 (by decide) ⟨by omega, by omega⟩ (fun c_115 => ?_) (fun c_115 => ?_)
                    · exact absurd c_115 (by decide)
                    · refine lv_iload hx hb dX1_same_118 (lv_at hl 0 rfl) ?_
                      refine jv_if_eq (tgt := 127) hx hb dX1_same_120 (by decide) ⟨by omega, by omega⟩ (fun c_120 => ?_) (fun c_120 => ?_)
                      · refine jv_iconst hx hb dX1_same_127 ?_
                        exact mi_reti C hW (by first | exact smm_1 hqB c_48 | exact smm_2 hqB c_58 | exact smm_3 hqB c_84 | exact smm_4 hqB c_103) rfl dX1_same_128
                      · exact absurd c_120 (by decide)
                  · refine jv_iconst hx hb dX1_same_106 ?_
                    refine lv_goto (tgt := 111) hx hb dX1_same_107 (by decide) ?_
                    refine lv_istore (lv' := [(6, .int (jI 1)), (5, .int (jI 1)), (0, .ref h0), (1, .int (jI a2)), (2, .int (jI b2)), (3, .int (jI c2)), (4, .int (jI d2))]) hx hb dX1_same_111 hl (by decide) rfl (fun ls hl => ?_)
                    refine lv_iload hx hb dX1_same_113 (lv_at hl 1 rfl) ?_
                    refine jv_if_eq (tgt := 127) hx hb dX1_same_115 (by decide) ⟨by omega, by omega⟩ (fun c_115 => ?_) (fun c_115 => ?_)
                    · exact absurd c_115 (by decide)
                    · refine lv_iload hx hb dX1_same_118 (lv_at hl 0 rfl) ?_
                      refine jv_if_eq (tgt := 127) hx hb dX1_same_120 (by decide) ⟨by omega, by omega⟩ (fun c_120 => ?_) (fun c_120 => ?_)
                      · exact absurd c_120 (by decide)
                      · refine jv_iconst hx hb dX1_same_123 ?_
                        refine lv_goto (tgt := 128) hx hb dX1_same_124 (by decide) ?_
                        exact mi_reti C hW (smm_5 hqB c_48 c_58 c_84 c_103) rfl dX1_same_128
          · refine jv_iconst hx hb dX1_same_40 ?_
            exact mi_reti C hW (smm_no (okB_no (fun q => by obtain ⟨k1, k2, k3, k4, k5, k6, k7, k8, k9⟩ := q; first | exact absurd (baB_yes c_4) (by omega) | exact absurd (baB_yes c_11) (by omega) | exact absurd (baB_yes c_18) (by omega) | exact absurd (baB_yes c_26) (by omega) | exact k9 c_37))) rfl dX1_same_41
abbrev rm_X1_init : Room := { frames := 1, cells := 0, slots := 0, locals := 12 }
theorem dn_X1_init : yX1_init.cls = RX1 ∧ yX1_init.cls ≠ "java/lang/invoke/MethodHandle" ∧ yX1_init.cls ≠ "java/lang/invoke/VarHandle" ∧ (parseMethodDescriptor yX1_init.desc).map (fun d => d.parameters.length) = some 0 := by decide +kernel
set_option maxHeartbeats 4000000 in
set_option maxRecDepth 100000 in
/-- the model's constructor -/
theorem met_X1_init (l : Launch) (h0 : Nat)  : mv_ l yX1_init cX1_init 1 none rm_X1_init h0 1 [] [.int (jI 0), .int (jI 0), .int (jI 0), .int (jI 0), .int (jI 0), .int (jI 0), .int (jI 0)] [.int (jI 1), .int (jI 0), .int (jI 0), .int (jI 1), .int (jI 0), .int (jI 0), .int (jI 0)] := by
  refine mv_of (by decide) (Nat.le_of_ble_eq_true rfl) ?_
  intro p e s m args below meth c D A C hW ls hl
  have C : cx_ p s m args meth c cX1_init 1 RX1 none D A := C
  have hx := C.1
  have hb := C.2.1
  have hown := C.2.2.2.1
  have hts := C.2.2.2.2.1
  have hl : lv_has ls 1 [(0, .ref h0)] := hl
  refine lv_aload_n hx hb dX1_init_0 rfl (lv_at hl 0 rfl) ?_
  refine W.objInit hx hb hown (hts _ q136) (hts _ q17) (hts _ q18) rfl (by rw [C.2.2.1]; exact hl.1) rfl dX1_init_1 (Nat.le_of_ble_eq_true rfl) (Nat.le_of_ble_eq_true rfl) ?_
  refine W.eq (g2 := F0 m 4 ls []) rfl ?_
  refine lv_aload_n hx hb dX1_init_4 rfl (lv_at hl 0 rfl) ?_
  refine jv_iconst hx hb dX1_init_5 ?_
  refine p1_fa C hW dX1_init_6 (fun H locs hW => ?_)
  refine lv_aload_n hx hb dX1_init_9 rfl (lv_at hl 0 rfl) ?_
  refine jv_iconst hx hb dX1_init_10 ?_
  refine p1_fd C hW dX1_init_11 (fun H locs hW => ?_)
  exact mv_ret C hW rfl dX1_init_14
/-! ===== walks: the model's loops ===== -/
abbrev rm_X1_shortest : Room := { frames := 2, cells := 0, slots := 0, locals := 48 }
theorem dn_X1_shortest : yX1_shortest.cls = RX1 ∧ yX1_shortest.cls ≠ "java/lang/invoke/MethodHandle" ∧ yX1_shortest.cls ≠ "java/lang/invoke/VarHandle" ∧ (parseMethodDescriptor yX1_shortest.desc).map (fun d => d.parameters.length) = some 0 := by decide +kernel
set_option maxHeartbeats 4000000 in
set_option maxRecDepth 100000 in
theorem lp_X1_shortest_i {p : Program} {l : Launch} {e : Env} {s : State} {m : MethodId} {args : Array Value} {below : List Frame} {meth : Method} {c : Code} {D : va_G} {A : Nat → Prop} {h0 : Nat} {fa fb fc fd nu nv aw : Int} {Q : State → Prop} (C : cx_ p s m args meth c cX1_shortest 5 RX1 (some .int) D A) (hk : ok_ fa fb fc fd) (x : Int) (hx1 : -43 ≤ x) (hx2 : x < 44) : ∀ (n : Nat) (y : Int) (t : Int) (H : Heap) (locs : List Loc) (ls : Array Slot), y + n = 44 → -43 ≤ y → 0 ≤ t → t ≤ 10000 → wd_ D A s H locs (ob_ h0 1 [.int (jI fa), .int (jI fb), .int (jI fc), .int (jI fd), .int (jI nu), .int (jI nv), .int (jI aw)]) → lv_has ls 5 [(0, .ref h0), (1, .int (jI t)), (2, .int (jI x)), (3, .int (jI y))] → (∀ (t2 : Int) (H : Heap) (locs : List Loc) (ls : Array Slot), t2 = up_ (fun y t => sh_f fa fb fc fd x y t) n y t → 0 ≤ t2 → t2 ≤ 10000 → wd_ D A s H locs (ob_ h0 1 [.int (jI fa), .int (jI fb), .int (jI fc), .int (jI fd), .int (jI nu), .int (jI nv), .int (jI aw)]) → lv_has ls 5 [(0, .ref h0), (1, .int (jI t2)), (2, .int (jI x))] → W p l e rm_X1_shortest s m args below meth c H locs 0 0 Q (F0 m 60 ls [])) → W p l e rm_X1_shortest s m args below meth c H locs 0 0 Q (F0 m 16 ls []) := by
  have hx := C.1
  have hb := C.2.1
  have hown := C.2.2.2.1
  have hts := C.2.2.2.2.1
  intro n
  induction n with
  | zero =>
    intro y t H locs ls hn hy ht1 ht2 hW hl K
    refine lv_iload_n hx hb dX1_shortest_16 rfl (lv_at hl 3 rfl) ?_
    refine jv_bipush hx hb dX1_shortest_17 (by decide) ?_
    refine jv_icmp_gt (tgt := 60) hx hb dX1_shortest_19 (by decide) ⟨by omega, by omega⟩ ⟨by omega, by omega⟩ (fun c_19 => ?_) (fun c_19 => ?_)
    · exact K t _ _ ls rfl ht1 ht2 hW (lv_sub hl [0, 1, 2] rfl)
    · exfalso; omega
  | succ n ih =>
    intro y t H locs ls hn hy ht1 ht2 hW hl K
    have s1 := sq_le (x := x) (M := 43) (by omega) (by omega)
    have s2 := sq_le (x := y) (M := 43) (by omega) (by omega)
    have s3 := sqn_ x
    have s4 := sqn_ y
    refine lv_iload_n hx hb dX1_shortest_16 rfl (lv_at hl 3 rfl) ?_
    refine jv_bipush hx hb dX1_shortest_17 (by decide) ?_
    refine jv_icmp_gt (tgt := 60) hx hb dX1_shortest_19 (by decide) ⟨by omega, by omega⟩ ⟨by omega, by omega⟩ (fun c_19 => ?_) (fun c_19 => ?_)
    · exfalso; omega
    · refine lv_iload_n hx hb dX1_shortest_22 rfl (lv_at hl 2 rfl) ?_
      refine lv_iload_n hx hb dX1_shortest_23 rfl (lv_at hl 2 rfl) ?_
      refine jv_imul hx hb dX1_shortest_24 ?_
      refine lv_iload_n hx hb dX1_shortest_25 rfl (lv_at hl 3 rfl) ?_
      refine lv_iload_n hx hb dX1_shortest_26 rfl (lv_at hl 3 rfl) ?_
      refine jv_imul hx hb dX1_shortest_27 ?_
      refine jv_iadd hx hb dX1_shortest_28 ?_
      refine lv_istore (lv' := [(4, .int (jI ((x * x) + (y * y)))), (0, .ref h0), (1, .int (jI t)), (2, .int (jI x)), (3, .int (jI y))]) hx hb dX1_shortest_29 hl (by decide) rfl (fun ls hl => ?_)
      refine lv_iload hx hb dX1_shortest_31 (lv_at hl 0 rfl) ?_
      refine jv_if_le (tgt := 54) hx hb dX1_shortest_33 (by decide) ⟨by omega, by omega⟩ (fun c_33 => ?_) (fun c_33 => ?_)
      · refine jv_iinc (lv' := [(3, .int (jI (y + 1))), (4, .int (jI ((x * x) + (y * y)))), (0, .ref h0), (1, .int (jI t)), (2, .int (jI x))]) hx hb dX1_shortest_54 hl (k := 4) rfl (by decide) rfl (fun ls hl => ?_)
        refine lv_goto (tgt := 16) hx hb dX1_shortest_57 (by decide) ?_
        exact ih (y + 1) t _ _ ls (by omega) (by omega) ht1 ht2 hW (lv_sub hl [2, 3, 4, 0] rfl) (fun t2 H locs ls e1 => K t2 H locs ls (up_step e1 (if_neg (fun q => by have q1 : 0 < x * x + y * y := q.1; have q2 : x * x + y * y < t := q.2.1; first | omega | exact ff_ c_48 q.2.2))))
      · refine lv_iload hx hb dX1_shortest_36 (lv_at hl 0 rfl) ?_
        refine lv_iload_n hx hb dX1_shortest_38 rfl (lv_at hl 2 rfl) ?_
        refine jv_icmp_ge (tgt := 54) hx hb dX1_shortest_39 (by decide) ⟨by omega, by omega⟩ ⟨by omega, by omega⟩ (fun c_39 => ?_) (fun c_39 => ?_)
        · refine jv_iinc (lv' := [(3, .int (jI (y + 1))), (4, .int (jI ((x * x) + (y * y)))), (0, .ref h0), (1, .int (jI t)), (2, .int (jI x))]) hx hb dX1_shortest_54 hl (k := 4) rfl (by decide) rfl (fun ls hl => ?_)
          refine lv_goto (tgt := 16) hx hb dX1_shortest_57 (by decide) ?_
          exact ih (y + 1) t _ _ ls (by omega) (by omega) ht1 ht2 hW (lv_sub hl [2, 3, 4, 0] rfl) (fun t2 H locs ls e1 => K t2 H locs ls (up_step e1 (if_neg (fun q => by have q1 : 0 < x * x + y * y := q.1; have q2 : x * x + y * y < t := q.2.1; first | omega | exact ff_ c_48 q.2.2))))
        · refine lv_aload_n hx hb dX1_shortest_42 rfl (lv_at hl 1 rfl) ?_
          refine lv_iload_n hx hb dX1_shortest_43 rfl (lv_at hl 3 rfl) ?_
          refine lv_iload_n hx hb dX1_shortest_44 rfl (lv_at hl 4 rfl) ?_
          refine ci_ (q := (RX1, TX1, 7)) C hW (met_X1_isPoint l h0 fa fb fc fd nu nv aw x y hk ⟨by omega, by omega⟩ ⟨by omega, by omega⟩) rfl (lw_V q173 q175 qs6 q10 q176) ⟨rfl, rfl⟩ dn_X1_isPoint ⟨Nat.le_of_ble_eq_true rfl, Nat.le_of_ble_eq_true rfl⟩ rfl hl.1 rfl (Nat.le_of_ble_eq_true rfl) ⟨Nat.zero_le _, Nat.zero_le _⟩ dX1_shortest_45 (fun H locs hW => ?_)
          refine jv_if_no (tgt := 54) hx hb dX1_shortest_48 (by decide) (fun c_48 => ?_) (fun c_48 => ?_)
          · refine jv_iinc (lv' := [(3, .int (jI (y + 1))), (4, .int (jI ((x * x) + (y * y)))), (0, .ref h0), (1, .int (jI t)), (2, .int (jI x))]) hx hb dX1_shortest_54 hl (k := 4) rfl (by decide) rfl (fun ls hl => ?_)
            refine lv_goto (tgt := 16) hx hb dX1_shortest_57 (by decide) ?_
            exact ih (y + 1) t _ _ ls (by omega) (by omega) ht1 ht2 hW (lv_sub hl [2, 3, 4, 0] rfl) (fun t2 H locs ls e1 => K t2 H locs ls (up_step e1 (if_neg (fun q => by have q1 : 0 < x * x + y * y := q.1; have q2 : x * x + y * y < t := q.2.1; first | omega | exact ff_ c_48 q.2.2))))
          · refine lv_iload hx hb dX1_shortest_51 (lv_at hl 0 rfl) ?_
            refine lv_istore_n (lv' := [(1, .int (jI ((x * x) + (y * y)))), (4, .int (jI ((x * x) + (y * y)))), (0, .ref h0), (2, .int (jI x)), (3, .int (jI y))]) hx hb dX1_shortest_53 rfl hl (by decide) rfl (fun ls hl => ?_)
            refine jv_iinc (lv' := [(3, .int (jI (y + 1))), (1, .int (jI ((x * x) + (y * y)))), (4, .int (jI ((x * x) + (y * y)))), (0, .ref h0), (2, .int (jI x))]) hx hb dX1_shortest_54 hl (k := 4) rfl (by decide) rfl (fun ls hl => ?_)
            refine lv_goto (tgt := 16) hx hb dX1_shortest_57 (by decide) ?_
            exact ih (y + 1) ((x * x) + (y * y)) _ _ ls (by omega) (by omega) (by omega) (by omega) hW (lv_sub hl [3, 1, 4, 0] rfl) (fun t2 H locs ls e1 => K t2 H locs ls (up_step e1 (if_pos ⟨(show 0 < x * x + y * y by omega), (show x * x + y * y < t by omega), c_48⟩)))
set_option maxHeartbeats 4000000 in
set_option maxRecDepth 100000 in
theorem lp_X1_shortest_o {p : Program} {l : Launch} {e : Env} {s : State} {m : MethodId} {args : Array Value} {below : List Frame} {meth : Method} {c : Code} {D : va_G} {A : Nat → Prop} {h0 : Nat} {fa fb fc fd nu nv aw : Int} {Q : State → Prop} (C : cx_ p s m args meth c cX1_shortest 5 RX1 (some .int) D A) (hk : ok_ fa fb fc fd) : ∀ (n : Nat) (x : Int) (t : Int) (H : Heap) (locs : List Loc) (ls : Array Slot), x + n = 44 → -43 ≤ x → 0 ≤ t → t ≤ 10000 → wd_ D A s H locs (ob_ h0 1 [.int (jI fa), .int (jI fb), .int (jI fc), .int (jI fd), .int (jI nu), .int (jI nv), .int (jI aw)]) → lv_has ls 5 [(0, .ref h0), (1, .int (jI t)), (2, .int (jI x))] → (∀ (t2 : Int) (H : Heap) (locs : List Loc) (ls : Array Slot), t2 = up_ (fun x t => up_ (fun y t => sh_f fa fb fc fd x y t) 87 (-43) t) n x t → 0 ≤ t2 → t2 ≤ 10000 → wd_ D A s H locs (ob_ h0 1 [.int (jI fa), .int (jI fb), .int (jI fc), .int (jI fd), .int (jI nu), .int (jI nv), .int (jI aw)]) → lv_has ls 5 [(0, .ref h0), (1, .int (jI t2))] → W p l e rm_X1_shortest s m args below meth c H locs 0 0 Q (F0 m 66 ls [])) → W p l e rm_X1_shortest s m args below meth c H locs 0 0 Q (F0 m 7 ls []) := by
  have hx := C.1
  have hb := C.2.1
  have hown := C.2.2.2.1
  have hts := C.2.2.2.2.1
  intro n
  induction n with
  | zero =>
    intro x t H locs ls hn hy ht1 ht2 hW hl K
    refine lv_iload_n hx hb dX1_shortest_7 rfl (lv_at hl 2 rfl) ?_
    refine jv_bipush hx hb dX1_shortest_8 (by decide) ?_
    refine jv_icmp_gt (tgt := 66) hx hb dX1_shortest_10 (by decide) ⟨by omega, by omega⟩ ⟨by omega, by omega⟩ (fun c_10 => ?_) (fun c_10 => ?_)
    · exact K t _ _ ls rfl ht1 ht2 hW (lv_sub hl [0, 1] rfl)
    · exfalso; omega
  | succ n ih =>
    intro x t H locs ls hn hy ht1 ht2 hW hl K
    refine lv_iload_n hx hb dX1_shortest_7 rfl (lv_at hl 2 rfl) ?_
    refine jv_bipush hx hb dX1_shortest_8 (by decide) ?_
    refine jv_icmp_gt (tgt := 66) hx hb dX1_shortest_10 (by decide) ⟨by omega, by omega⟩ ⟨by omega, by omega⟩ (fun c_10 => ?_) (fun c_10 => ?_)
    · exfalso; omega
    · refine jv_bipush hx hb dX1_shortest_13 (by decide) ?_
      refine lv_istore_n (lv' := [(3, .int (jI (-43))), (0, .ref h0), (1, .int (jI t)), (2, .int (jI x))]) hx hb dX1_shortest_15 rfl hl (by decide) rfl (fun ls hl => ?_)
      refine lp_X1_shortest_i C hk x hy (by omega) 87 (-43) t _ _ ls (by omega) (by omega) ht1 ht2 hW (lv_sub hl [1, 2, 3, 0] rfl) (fun t2 H locs ls e1 ht1 ht2 hW hl => ?_)
      refine jv_iinc (lv' := [(2, .int (jI (x + 1))), (0, .ref h0), (1, .int (jI t2))]) hx hb dX1_shortest_60 hl (k := 2) rfl (by decide) rfl (fun ls hl => ?_)
      refine lv_goto (tgt := 7) hx hb dX1_shortest_63 (by decide) ?_
      exact ih (x + 1) t2 _ _ ls (by omega) (by omega) ht1 ht2 hW (lv_sub hl [1, 2, 0] rfl) (fun t3 H locs ls e2 => K t3 H locs ls (up_step e2 e1.symm))
set_option maxHeartbeats 4000000 in
set_option maxRecDepth 100000 in
/-- the model's shortest -/
theorem met_X1_shortest (l : Launch) (h0 : Nat) (fa fb fc fd nu nv aw : Int) (hk : ok_ fa fb fc fd) : mi_ l yX1_shortest cX1_shortest 5 (some .int) rm_X1_shortest h0 1 [] [.int (jI fa), .int (jI fb), .int (jI fc), .int (jI fd), .int (jI nu), .int (jI nv), .int (jI aw)] [.int (jI fa), .int (jI fb), .int (jI fc), .int (jI fd), .int (jI nu), .int (jI nv), .int (jI aw)] (sh_m fa fb fc fd) := by
  refine mi_of (by decide) (Nat.le_of_ble_eq_true rfl) ?_
  intro p e s m args below meth c D A C hW ls hl
  have C : cx_ p s m args meth c cX1_shortest 5 RX1 (some .int) D A := C
  have hx := C.1
  have hb := C.2.1
  have hown := C.2.2.2.1
  have hts := C.2.2.2.2.1
  have hl : lv_has ls 5 [(0, .ref h0)] := hl
  refine jv_sipush hx hb dX1_shortest_0 (by decide) ?_
  refine lv_istore_n (lv' := [(1, .int (jI 10000)), (0, .ref h0)]) hx hb dX1_shortest_3 rfl hl (by decide) rfl (fun ls hl => ?_)
  refine jv_bipush hx hb dX1_shortest_4 (by decide) ?_
  refine lv_istore_n (lv' := [(2, .int (jI (-43))), (1, .int (jI 10000)), (0, .ref h0)]) hx hb dX1_shortest_6 rfl hl (by decide) rfl (fun ls hl => ?_)
  refine lp_X1_shortest_o C hk 87 (-43) 10000 _ _ ls (by omega) (by omega) (by decide) (by decide) hW (lv_sub hl [2, 1, 0] rfl) (fun t2 H locs ls e1 ht1 ht2 hW hl => ?_)
  refine lv_iload_n hx hb dX1_shortest_66 rfl (lv_at hl 1 rfl) ?_
  exact mi_reti C hW e1 rfl dX1_shortest_67
end
section
abbrev rm_X1_many : Room := { frames := 3, cells := 0, slots := 0, locals := 72 }
theorem dn_X1_many : yX1_many.cls = RX1 ∧ yX1_many.cls ≠ "java/lang/invoke/MethodHandle" ∧ yX1_many.cls ≠ "java/lang/invoke/VarHandle" ∧ (parseMethodDescriptor yX1_many.desc).map (fun d => d.parameters.length) = some 0 := by decide +kernel
set_option maxHeartbeats 4000000 in
set_option maxRecDepth 100000 in
theorem lp_X1_many_i {p : Program} {l : Launch} {e : Env} {s : State} {m : MethodId} {args : Array Value} {below : List Frame} {meth : Method} {c : Code} {D : va_G} {A : Nat → Prop} {h0 : Nat} {fa fb fc fd nu nv aw lst : Int} {Q : State → Prop} (C : cx_ p s m args meth c cX1_many 5 RX1 (some .int) D A) (hk : ok_ fa fb fc fd) (hl1 : 0 ≤ lst) (hl2 : lst ≤ 10000) (x : Int) (hx1 : -43 ≤ x) (hx2 : x < 44) : ∀ (n : Nat) (y : Int) (t : Int) (H : Heap) (locs : List Loc) (ls : Array Slot), y + n = 44 → -43 ≤ y → wd_ D A s H locs (ob_ h0 1 [.int (jI fa), .int (jI fb), .int (jI fc), .int (jI fd), .int (jI nu), .int (jI nv), .int (jI aw)]) → lv_has ls 5 [(0, .ref h0), (1, .int (jI lst)), (2, .int (jI t)), (3, .int (jI x)), (4, .int (jI y))] → (∀ (t2 : Int) (H : Heap) (locs : List Loc) (ls : Array Slot), t2 = up_ (fun y t => mn_f fa fb fc fd lst x y t) n y t → wd_ D A s H locs (ob_ h0 1 [.int (jI fa), .int (jI fb), .int (jI fc), .int (jI fd), .int (jI nu), .int (jI nv), .int (jI aw)]) → lv_has ls 5 [(0, .ref h0), (1, .int (jI lst)), (2, .int (jI t2)), (3, .int (jI x))] → W p l e rm_X1_many s m args below meth c H locs 0 0 Q (F0 m 59 ls [])) → W p l e rm_X1_many s m args below meth c H locs 0 0 Q (F0 m 20 ls []) := by
  have hx := C.1
  have hb := C.2.1
  have hown := C.2.2.2.1
  have hts := C.2.2.2.2.1
  intro n
  induction n with
  | zero =>
    intro y t H locs ls hn hy hW hl K
    refine lv_iload hx hb dX1_many_20 (lv_at hl 4 rfl) ?_
    refine jv_bipush hx hb dX1_many_22 (by decide) ?_
    refine jv_icmp_gt (tgt := 59) hx hb dX1_many_24 (by decide) ⟨by omega, by omega⟩ ⟨by omega, by omega⟩ (fun c_24 => ?_) (fun c_24 => ?_)
    · exact K t _ _ ls rfl hW (lv_sub hl [0, 1, 2, 3] rfl)
    · exfalso; omega
  | succ n ih =>
    intro y t H locs ls hn hy hW hl K
    have s1 := sq_le (x := x) (M := 43) (by omega) (by omega)
    have s2 := sq_le (x := y) (M := 43) (by omega) (by omega)
    have s3 := sqn_ x
    have s4 := sqn_ y
    refine lv_iload hx hb dX1_many_20 (lv_at hl 4 rfl) ?_
    refine jv_bipush hx hb dX1_many_22 (by decide) ?_
    refine jv_icmp_gt (tgt := 59) hx hb dX1_many_24 (by decide) ⟨by omega, by omega⟩ ⟨by omega, by omega⟩ (fun c_24 => ?_) (fun c_24 => ?_)
    · exfalso; omega
    · refine lv_iload_n hx hb dX1_many_27 rfl (lv_at hl 3 rfl) ?_
      refine lv_iload_n hx hb dX1_many_28 rfl (lv_at hl 3 rfl) ?_
      refine jv_imul hx hb dX1_many_29 ?_
      refine lv_iload hx hb dX1_many_30 (lv_at hl 4 rfl) ?_
      refine lv_iload hx hb dX1_many_32 (lv_at hl 4 rfl) ?_
      refine jv_imul hx hb dX1_many_34 ?_
      refine jv_iadd hx hb dX1_many_35 ?_
      refine lv_iload_n hx hb dX1_many_36 rfl (lv_at hl 1 rfl) ?_
      refine jv_icmp_ne (tgt := 53) hx hb dX1_many_37 (by decide) ⟨by omega, by omega⟩ ⟨by omega, by omega⟩ (fun c_37 => ?_) (fun c_37 => ?_)
      · refine jv_iinc (lv' := [(4, .int (jI (y + 1))), (0, .ref h0), (1, .int (jI lst)), (2, .int (jI t)), (3, .int (jI x))]) hx hb dX1_many_53 hl (k := 4) rfl (by decide) rfl (fun ls hl => ?_)
        refine lv_goto (tgt := 20) hx hb dX1_many_56 (by decide) ?_
        exact ih (y + 1) t _ _ ls (by omega) (by omega) hW (lv_sub hl [1, 2, 3, 4, 0] rfl) (fun t2 H locs ls e1 => K t2 H locs ls (up_step e1 (if_neg (fun q => by have q1 : x * x + y * y = lst := q.1; first | omega | exact ff_ c_47 q.2))))
      · refine lv_aload_n hx hb dX1_many_40 rfl (lv_at hl 0 rfl) ?_
        refine lv_iload_n hx hb dX1_many_41 rfl (lv_at hl 3 rfl) ?_
        refine lv_iload hx hb dX1_many_42 (lv_at hl 4 rfl) ?_
        refine ci_ (q := (RX1, TX1, 7)) C hW (met_X1_isPoint l h0 fa fb fc fd nu nv aw x y hk ⟨by omega, by omega⟩ ⟨by omega, by omega⟩) rfl (lw_V q173 q175 qs6 q10 q176) ⟨rfl, rfl⟩ dn_X1_isPoint ⟨Nat.le_of_ble_eq_true rfl, Nat.le_of_ble_eq_true rfl⟩ rfl hl.1 rfl (Nat.le_of_ble_eq_true rfl) ⟨Nat.zero_le _, Nat.zero_le _⟩ dX1_many_44 (fun H locs hW => ?_)
        refine jv_if_no (tgt := 53) hx hb dX1_many_47 (by decide) (fun c_47 => ?_) (fun c_47 => ?_)
        · refine jv_iinc (lv' := [(4, .int (jI (y + 1))), (0, .ref h0), (1, .int (jI lst)), (2, .int (jI t)), (3, .int (jI x))]) hx hb dX1_many_53 hl (k := 4) rfl (by decide) rfl (fun ls hl => ?_)
          refine lv_goto (tgt := 20) hx hb dX1_many_56 (by decide) ?_
          exact ih (y + 1) t _ _ ls (by omega) (by omega) hW (lv_sub hl [1, 2, 3, 4, 0] rfl) (fun t2 H locs ls e1 => K t2 H locs ls (up_step e1 (if_neg (fun q => by have q1 : x * x + y * y = lst := q.1; first | omega | exact ff_ c_47 q.2))))
        · refine jv_iinc (lv' := [(2, .int (jI (t + 1))), (0, .ref h0), (1, .int (jI lst)), (3, .int (jI x)), (4, .int (jI y))]) hx hb dX1_many_50 hl (k := 2) rfl (by decide) rfl (fun ls hl => ?_)
          refine jv_iinc (lv' := [(4, .int (jI (y + 1))), (2, .int (jI (t + 1))), (0, .ref h0), (1, .int (jI lst)), (3, .int (jI x))]) hx hb dX1_many_53 hl (k := 4) rfl (by decide) rfl (fun ls hl => ?_)
          refine lv_goto (tgt := 20) hx hb dX1_many_56 (by decide) ?_
          exact ih (y + 1) (t + 1) _ _ ls (by omega) (by omega) hW (lv_sub hl [2, 3, 1, 4, 0] rfl) (fun t2 H locs ls e1 => K t2 H locs ls (up_step e1 (if_pos ⟨c_37, c_47⟩)))
set_option maxHeartbeats 4000000 in
set_option maxRecDepth 100000 in
theorem lp_X1_many_o {p : Program} {l : Launch} {e : Env} {s : State} {m : MethodId} {args : Array Value} {below : List Frame} {meth : Method} {c : Code} {D : va_G} {A : Nat → Prop} {h0 : Nat} {fa fb fc fd nu nv aw lst : Int} {Q : State → Prop} (C : cx_ p s m args meth c cX1_many 5 RX1 (some .int) D A) (hk : ok_ fa fb fc fd) (hl1 : 0 ≤ lst) (hl2 : lst ≤ 10000) : ∀ (n : Nat) (x : Int) (t : Int) (H : Heap) (locs : List Loc) (ls : Array Slot), x + n = 44 → -43 ≤ x → wd_ D A s H locs (ob_ h0 1 [.int (jI fa), .int (jI fb), .int (jI fc), .int (jI fd), .int (jI nu), .int (jI nv), .int (jI aw)]) → lv_has ls 5 [(0, .ref h0), (1, .int (jI lst)), (2, .int (jI t)), (3, .int (jI x))] → (∀ (t2 : Int) (H : Heap) (locs : List Loc) (ls : Array Slot), t2 = up_ (fun x t => up_ (fun y t => mn_f fa fb fc fd lst x y t) 87 (-43) t) n x t → wd_ D A s H locs (ob_ h0 1 [.int (jI fa), .int (jI fb), .int (jI fc), .int (jI fd), .int (jI nu), .int (jI nv), .int (jI aw)]) → lv_has ls 5 [(0, .ref h0), (1, .int (jI lst)), (2, .int (jI t2))] → W p l e rm_X1_many s m args below meth c H locs 0 0 Q (F0 m 65 ls [])) → W p l e rm_X1_many s m args below meth c H locs 0 0 Q (F0 m 10 ls []) := by
  have hx := C.1
  have hb := C.2.1
  have hown := C.2.2.2.1
  have hts := C.2.2.2.2.1
  intro n
  induction n with
  | zero =>
    intro x t H locs ls hn hy hW hl K
    refine lv_iload_n hx hb dX1_many_10 rfl (lv_at hl 3 rfl) ?_
    refine jv_bipush hx hb dX1_many_11 (by decide) ?_
    refine jv_icmp_gt (tgt := 65) hx hb dX1_many_13 (by decide) ⟨by omega, by omega⟩ ⟨by omega, by omega⟩ (fun c_13 => ?_) (fun c_13 => ?_)
    · exact K t _ _ ls rfl hW (lv_sub hl [0, 1, 2] rfl)
    · exfalso; omega
  | succ n ih =>
    intro x t H locs ls hn hy hW hl K
    refine lv_iload_n hx hb dX1_many_10 rfl (lv_at hl 3 rfl) ?_
    refine jv_bipush hx hb dX1_many_11 (by decide) ?_
    refine jv_icmp_gt (tgt := 65) hx hb dX1_many_13 (by decide) ⟨by omega, by omega⟩ ⟨by omega, by omega⟩ (fun c_13 => ?_) (fun c_13 => ?_)
    · exfalso; omega
    · refine jv_bipush hx hb dX1_many_16 (by decide) ?_
      refine lv_istore (lv' := [(4, .int (jI (-43))), (0, .ref h0), (1, .int (jI lst)), (2, .int (jI t)), (3, .int (jI x))]) hx hb dX1_many_18 hl (by decide) rfl (fun ls hl => ?_)
      refine lp_X1_many_i C hk hl1 hl2 x hy (by omega) 87 (-43) t _ _ ls (by omega) (by omega) hW (lv_sub hl [1, 2, 3, 4, 0] rfl) (fun t2 H locs ls e1 hW hl => ?_)
      refine jv_iinc (lv' := [(3, .int (jI (x + 1))), (0, .ref h0), (1, .int (jI lst)), (2, .int (jI t2))]) hx hb dX1_many_59 hl (k := 3) rfl (by decide) rfl (fun ls hl => ?_)
      refine lv_goto (tgt := 10) hx hb dX1_many_62 (by decide) ?_
      exact ih (x + 1) t2 _ _ ls (by omega) (by omega) hW (lv_sub hl [1, 2, 3, 0] rfl) (fun t3 H locs ls e2 => K t3 H locs ls (up_step e2 e1.symm))
set_option maxHeartbeats 4000000 in
set_option maxRecDepth 100000 in
/-- the model's many -/
theorem met_X1_many (l : Launch) (h0 : Nat) (fa fb fc fd nu nv aw : Int) (hk : ok_ fa fb fc fd) : mi_ l yX1_many cX1_many 5 (some .int) rm_X1_many h0 1 [] [.int (jI fa), .int (jI fb), .int (jI fc), .int (jI fd), .int (jI nu), .int (jI nv), .int (jI aw)] [.int (jI fa), .int (jI fb), .int (jI fc), .int (jI fd), .int (jI nu), .int (jI nv), .int (jI aw)] (mn_m fa fb fc fd) := by
  refine mi_of (by decide) (Nat.le_of_ble_eq_true rfl) ?_
  intro p e s m args below meth c D A C hW ls hl
  have C : cx_ p s m args meth c cX1_many 5 RX1 (some .int) D A := C
  have hx := C.1
  have hb := C.2.1
  have hown := C.2.2.2.1
  have hts := C.2.2.2.2.1
  have hl : lv_has ls 5 [(0, .ref h0)] := hl
  refine lv_aload_n hx hb dX1_many_0 rfl (lv_at hl 0 rfl) ?_
  refine ci_ (q := (RX1, TX1, 7)) C hW (met_X1_shortest l h0 fa fb fc fd nu nv aw hk) rfl (lw_V q188 q181 q182 q10 q183) ⟨rfl, rfl⟩ dn_X1_shortest ⟨Nat.le_of_ble_eq_true rfl, Nat.le_of_ble_eq_true rfl⟩ rfl hl.1 rfl (Nat.le_of_ble_eq_true rfl) ⟨Nat.zero_le _, Nat.zero_le _⟩ dX1_many_1 (fun H locs hW => ?_)
  refine lv_istore_n (lv' := [(1, .int (jI (sh_m fa fb fc fd))), (0, .ref h0)]) hx hb dX1_many_4 rfl hl (by decide) rfl (fun ls hl => ?_)
  refine jv_iconst hx hb dX1_many_5 ?_
  refine lv_istore_n (lv' := [(2, .int (jI 0)), (1, .int (jI (sh_m fa fb fc fd))), (0, .ref h0)]) hx hb dX1_many_6 rfl hl (by decide) rfl (fun ls hl => ?_)
  refine jv_bipush hx hb dX1_many_7 (by decide) ?_
  refine lv_istore_n (lv' := [(3, .int (jI (-43))), (2, .int (jI 0)), (1, .int (jI (sh_m fa fb fc fd))), (0, .ref h0)]) hx hb dX1_many_9 rfl hl (by decide) rfl (fun ls hl => ?_)
  refine lp_X1_many_o (lst := sh_m fa fb fc fd) C hk (sh_rng fa fb fc fd).1 (sh_rng fa fb fc fd).2 87 (-43) 0 _ _ ls (by omega) (by omega) hW (lv_sub hl [3, 2, 1, 0] rfl) (fun t2 H locs ls e1 hW hl => ?_)
  refine lv_iload_n hx hb dX1_many_65 rfl (lv_at hl 2 rfl) ?_
  exact mi_reti C hW e1 rfl dX1_many_66
abbrev rm_X1_second : Room := { frames := 3, cells := 0, slots := 0, locals := 72 }
theorem dn_X1_second : yX1_second.cls = RX1 ∧ yX1_second.cls ≠ "java/lang/invoke/MethodHandle" ∧ yX1_second.cls ≠ "java/lang/invoke/VarHandle" ∧ (parseMethodDescriptor yX1_second.desc).map (fun d => d.parameters.length) = some 0 := by decide +kernel
set_option maxHeartbeats 4000000 in
set_option maxRecDepth 100000 in
theorem lp_X1_second1_i {p : Program} {l : Launch} {e : Env} {s : State} {m : MethodId} {args : Array Value} {below : List Frame} {meth : Method} {c : Code} {D : va_G} {A : Nat → Prop} {h0 : Nat} {fa fb fc fd nu nv aw lst : Int} {Q : State → Prop} (C : cx_ p s m args meth c cX1_second 8 RX1 (some .int) D A) (hk : ok_ fa fb fc fd) (hl1 : 0 ≤ lst) (hl2 : lst ≤ 10000) (x : Int) (hx1 : -43 ≤ x) (hx2 : x < 44) : ∀ (n : Nat) (y : Int) (t : Int × Int) (H : Heap) (locs : List Loc) (ls : Array Slot), y + n = 44 → -43 ≤ y → -43 ≤ t.1 ∧ t.1 ≤ 43 → -43 ≤ t.2 ∧ t.2 ≤ 43 → wd_ D A s H locs (ob_ h0 1 [.int (jI fa), .int (jI fb), .int (jI fc), .int (jI fd), .int (jI nu), .int (jI nv), .int (jI aw)]) → lv_has ls 8 [(0, .ref h0), (1, .int (jI lst)), (2, .int (jI t.1)), (3, .int (jI t.2)), (4, .int (jI x)), (5, .int (jI y))] → (∀ (t2 : Int × Int) (H : Heap) (locs : List Loc) (ls : Array Slot), t2 = up_ (fun y t => sp_f fa fb fc fd lst x y t) n y t → -43 ≤ t2.1 ∧ t2.1 ≤ 43 → -43 ≤ t2.2 ∧ t2.2 ≤ 43 → wd_ D A s H locs (ob_ h0 1 [.int (jI fa), .int (jI fb), .int (jI fc), .int (jI fd), .int (jI nu), .int (jI nv), .int (jI aw)]) → lv_has ls 8 [(0, .ref h0), (1, .int (jI lst)), (2, .int (jI t2.1)), (3, .int (jI t2.2)), (4, .int (jI x))] → W p l e rm_X1_second s m args below meth c H locs 0 0 Q (F0 m 69 ls [])) → W p l e rm_X1_second s m args below meth c H locs 0 0 Q (F0 m 24 ls []) := by
  have hx := C.1
  have hb := C.2.1
  have hown := C.2.2.2.1
  have hts := C.2.2.2.2.1
  intro n
  induction n with
  | zero =>
    intro y t H locs ls hn hy ht1 ht2 hW hl K
    refine lv_iload hx hb dX1_second_24 (lv_at hl 5 rfl) ?_
    refine jv_bipush hx hb dX1_second_26 (by decide) ?_
    refine jv_icmp_gt (tgt := 69) hx hb dX1_second_28 (by decide) ⟨by omega, by omega⟩ ⟨by omega, by omega⟩ (fun c_28 => ?_) (fun c_28 => ?_)
    · exact K t _ _ ls rfl ht1 ht2 hW (lv_sub hl [0, 1, 2, 3, 4] rfl)
    · exfalso; omega
  | succ n ih =>
    intro y t H locs ls hn hy ht1 ht2 hW hl K
    have s1 := sq_le (x := x) (M := 43) (by omega) (by omega)
    have s2 := sq_le (x := y) (M := 43) (by omega) (by omega)
    have s3 := sqn_ x
    have s4 := sqn_ y
    refine lv_iload hx hb dX1_second_24 (lv_at hl 5 rfl) ?_
    refine jv_bipush hx hb dX1_second_26 (by decide) ?_
    refine jv_icmp_gt (tgt := 69) hx hb dX1_second_28 (by decide) ⟨by omega, by omega⟩ ⟨by omega, by omega⟩ (fun c_28 => ?_) (fun c_28 => ?_)
    · exfalso; omega
    · refine lv_iload hx hb dX1_second_31 (lv_at hl 4 rfl) ?_
      refine lv_iload hx hb dX1_second_33 (lv_at hl 4 rfl) ?_
      refine jv_imul hx hb dX1_second_35 ?_
      refine lv_iload hx hb dX1_second_36 (lv_at hl 5 rfl) ?_
      refine lv_iload hx hb dX1_second_38 (lv_at hl 5 rfl) ?_
      refine jv_imul hx hb dX1_second_40 ?_
      refine jv_iadd hx hb dX1_second_41 ?_
      refine lv_iload_n hx hb dX1_second_42 rfl (lv_at hl 1 rfl) ?_
      refine jv_icmp_ne (tgt := 63) hx hb dX1_second_43 (by decide) ⟨by omega, by omega⟩ ⟨by omega, by omega⟩ (fun c_43 => ?_) (fun c_43 => ?_)
      · refine jv_iinc (lv' := [(5, .int (jI (y + 1))), (0, .ref h0), (1, .int (jI lst)), (2, .int (jI t.1)), (3, .int (jI t.2)), (4, .int (jI x))]) hx hb dX1_second_63 hl (k := 5) rfl (by decide) rfl (fun ls hl => ?_)
        refine lv_goto (tgt := 24) hx hb dX1_second_66 (by decide) ?_
        exact ih (y + 1) t _ _ ls (by omega) (by omega) ht1 ht2 hW (lv_sub hl [1, 2, 3, 4, 5, 0] rfl) (fun t2 H locs ls e1 => K t2 H locs ls (up_step e1 (if_neg (fun q => by have q1 : x * x + y * y = lst := q.1; first | omega | exact ff_ c_54 q.2))))
      · refine lv_aload_n hx hb dX1_second_46 rfl (lv_at hl 0 rfl) ?_
        refine lv_iload hx hb dX1_second_47 (lv_at hl 4 rfl) ?_
        refine lv_iload hx hb dX1_second_49 (lv_at hl 5 rfl) ?_
        refine ci_ (q := (RX1, TX1, 7)) C hW (met_X1_isPoint l h0 fa fb fc fd nu nv aw x y hk ⟨by omega, by omega⟩ ⟨by omega, by omega⟩) rfl (lw_V q173 q175 qs6 q10 q176) ⟨rfl, rfl⟩ dn_X1_isPoint ⟨Nat.le_of_ble_eq_true rfl, Nat.le_of_ble_eq_true rfl⟩ rfl hl.1 rfl (Nat.le_of_ble_eq_true rfl) ⟨Nat.zero_le _, Nat.zero_le _⟩ dX1_second_51 (fun H locs hW => ?_)
        refine jv_if_no (tgt := 63) hx hb dX1_second_54 (by decide) (fun c_54 => ?_) (fun c_54 => ?_)
        · refine jv_iinc (lv' := [(5, .int (jI (y + 1))), (0, .ref h0), (1, .int (jI lst)), (2, .int (jI t.1)), (3, .int (jI t.2)), (4, .int (jI x))]) hx hb dX1_second_63 hl (k := 5) rfl (by decide) rfl (fun ls hl => ?_)
          refine lv_goto (tgt := 24) hx hb dX1_second_66 (by decide) ?_
          exact ih (y + 1) t _ _ ls (by omega) (by omega) ht1 ht2 hW (lv_sub hl [1, 2, 3, 4, 5, 0] rfl) (fun t2 H locs ls e1 => K t2 H locs ls (up_step e1 (if_neg (fun q => by have q1 : x * x + y * y = lst := q.1; first | omega | exact ff_ c_54 q.2))))
        · refine lv_iload hx hb dX1_second_57 (lv_at hl 4 rfl) ?_
          refine lv_istore_n (lv' := [(2, .int (jI x)), (0, .ref h0), (1, .int (jI lst)), (3, .int (jI t.2)), (4, .int (jI x)), (5, .int (jI y))]) hx hb dX1_second_59 rfl hl (by decide) rfl (fun ls hl => ?_)
          refine lv_iload hx hb dX1_second_60 (lv_at hl 5 rfl) ?_
          refine lv_istore_n (lv' := [(3, .int (jI y)), (2, .int (jI x)), (0, .ref h0), (1, .int (jI lst)), (4, .int (jI x)), (5, .int (jI y))]) hx hb dX1_second_62 rfl hl (by decide) rfl (fun ls hl => ?_)
          refine jv_iinc (lv' := [(5, .int (jI (y + 1))), (3, .int (jI y)), (2, .int (jI x)), (0, .ref h0), (1, .int (jI lst)), (4, .int (jI x))]) hx hb dX1_second_63 hl (k := 5) rfl (by decide) rfl (fun ls hl => ?_)
          refine lv_goto (tgt := 24) hx hb dX1_second_66 (by decide) ?_
          exact ih (y + 1) (x, y) _ _ ls (by omega) (by omega) (show -43 ≤ x ∧ x ≤ 43 from ⟨by omega, by omega⟩) (show -43 ≤ y ∧ y ≤ 43 from ⟨by omega, by omega⟩) hW (lv_sub hl [3, 4, 2, 1, 5, 0] rfl) (fun t2 H locs ls e1 => K t2 H locs ls (up_step e1 (if_pos ⟨c_43, c_54⟩)))
set_option maxHeartbeats 4000000 in
set_option maxRecDepth 100000 in
theorem lp_X1_second1_o {p : Program} {l : Launch} {e : Env} {s : State} {m : MethodId} {args : Array Value} {below : List Frame} {meth : Method} {c : Code} {D : va_G} {A : Nat → Prop} {h0 : Nat} {fa fb fc fd nu nv aw lst : Int} {Q : State → Prop} (C : cx_ p s m args meth c cX1_second 8 RX1 (some .int) D A) (hk : ok_ fa fb fc fd) (hl1 : 0 ≤ lst) (hl2 : lst ≤ 10000) : ∀ (n : Nat) (x : Int) (t : Int × Int) (H : Heap) (locs : List Loc) (ls : Array Slot), x + n = 44 → -43 ≤ x → -43 ≤ t.1 ∧ t.1 ≤ 43 → -43 ≤ t.2 ∧ t.2 ≤ 43 → wd_ D A s H locs (ob_ h0 1 [.int (jI fa), .int (jI fb), .int (jI fc), .int (jI fd), .int (jI nu), .int (jI nv), .int (jI aw)]) → lv_has ls 8 [(0, .ref h0), (1, .int (jI lst)), (2, .int (jI t.1)), (3, .int (jI t.2)), (4, .int (jI x))] → (∀ (t2 : Int × Int) (H : Heap) (locs : List Loc) (ls : Array Slot), t2 = up_ (fun x t => up_ (fun y t => sp_f fa fb fc fd lst x y t) 87 (-43) t) n x t → -43 ≤ t2.1 ∧ t2.1 ≤ 43 → -43 ≤ t2.2 ∧ t2.2 ≤ 43 → wd_ D A s H locs (ob_ h0 1 [.int (jI fa), .int (jI fb), .int (jI fc), .int (jI fd), .int (jI nu), .int (jI nv), .int (jI aw)]) → lv_has ls 8 [(0, .ref h0), (1, .int (jI lst)), (2, .int (jI t2.1)), (3, .int (jI t2.2))] → W p l e rm_X1_second s m args below meth c H locs 0 0 Q (F0 m 75 ls [])) → W p l e rm_X1_second s m args below meth c H locs 0 0 Q (F0 m 13 ls []) := by
  have hx := C.1
  have hb := C.2.1
  have hown := C.2.2.2.1
  have hts := C.2.2.2.2.1
  intro n
  induction n with
  | zero =>
    intro x t H locs ls hn hy ht1 ht2 hW hl K
    refine lv_iload hx hb dX1_second_13 (lv_at hl 4 rfl) ?_
    refine jv_bipush hx hb dX1_second_15 (by decide) ?_
    refine jv_icmp_gt (tgt := 75) hx hb dX1_second_17 (by decide) ⟨by omega, by omega⟩ ⟨by omega, by omega⟩ (fun c_17 => ?_) (fun c_17 => ?_)
    · exact K t _ _ ls rfl ht1 ht2 hW (lv_sub hl [0, 1, 2, 3] rfl)
    · exfalso; omega
  | succ n ih =>
    intro x t H locs ls hn hy ht1 ht2 hW hl K
    refine lv_iload hx hb dX1_second_13 (lv_at hl 4 rfl) ?_
    refine jv_bipush hx hb dX1_second_15 (by decide) ?_
    refine jv_icmp_gt (tgt := 75) hx hb dX1_second_17 (by decide) ⟨by omega, by omega⟩ ⟨by omega, by omega⟩ (fun c_17 => ?_) (fun c_17 => ?_)
    · exfalso; omega
    · refine jv_bipush hx hb dX1_second_20 (by decide) ?_
      refine lv_istore (lv' := [(5, .int (jI (-43))), (0, .ref h0), (1, .int (jI lst)), (2, .int (jI t.1)), (3, .int (jI t.2)), (4, .int (jI x))]) hx hb dX1_second_22 hl (by decide) rfl (fun ls hl => ?_)
      refine lp_X1_second1_i C hk hl1 hl2 x hy (by omega) 87 (-43) t _ _ ls (by omega) (by omega) ht1 ht2 hW (lv_sub hl [1, 2, 3, 4, 5, 0] rfl) (fun t2 H locs ls e1 ht1 ht2 hW hl => ?_)
      refine jv_iinc (lv' := [(4, .int (jI (x + 1))), (0, .ref h0), (1, .int (jI lst)), (2, .int (jI t2.1)), (3, .int (jI t2.2))]) hx hb dX1_second_69 hl (k := 4) rfl (by decide) rfl (fun ls hl => ?_)
      refine lv_goto (tgt := 13) hx hb dX1_second_72 (by decide) ?_
      exact ih (x + 1) t2 _ _ ls (by omega) (by omega) ht1 ht2 hW (lv_sub hl [1, 2, 3, 4, 0] rfl) (fun t3 H locs ls e2 => K t3 H locs ls (up_step e2 e1.symm))
set_option maxHeartbeats 4000000 in
set_option maxRecDepth 100000 in
theorem lp_X1_second2_i {p : Program} {l : Launch} {e : Env} {s : State} {m : MethodId} {args : Array Value} {below : List Frame} {meth : Method} {c : Code} {D : va_G} {A : Nat → Prop} {h0 : Nat} {fa fb fc fd nu nv aw x1 y1 : Int} {Q : State → Prop} (C : cx_ p s m args meth c cX1_second 8 RX1 (some .int) D A) (hk : ok_ fa fb fc fd) (hp1 : -43 ≤ x1 ∧ x1 ≤ 43) (hp2 : -43 ≤ y1 ∧ y1 ≤ 43) (x : Int) (hx1 : -43 ≤ x) (hx2 : x < 44) : ∀ (n : Nat) (y : Int) (t : Int) (H : Heap) (locs : List Loc) (ls : Array Slot), y + n = 44 → -43 ≤ y → 0 ≤ t → t ≤ 10000 → wd_ D A s H locs (ob_ h0 1 [.int (jI fa), .int (jI fb), .int (jI fc), .int (jI fd), .int (jI nu), .int (jI nv), .int (jI aw)]) → lv_has ls 8 [(0, .ref h0), (2, .int (jI x1)), (3, .int (jI y1)), (4, .int (jI t)), (5, .int (jI x)), (6, .int (jI y))] → (∀ (t2 : Int) (H : Heap) (locs : List Loc) (ls : Array Slot), t2 = up_ (fun y t => sc_f fa fb fc fd x1 y1 x y t) n y t → 0 ≤ t2 → t2 ≤ 10000 → wd_ D A s H locs (ob_ h0 1 [.int (jI fa), .int (jI fb), .int (jI fc), .int (jI fd), .int (jI nu), .int (jI nv), .int (jI aw)]) → lv_has ls 8 [(0, .ref h0), (2, .int (jI x1)), (3, .int (jI y1)), (4, .int (jI t2)), (5, .int (jI x))] → W p l e rm_X1_second s m args below meth c H locs 0 0 Q (F0 m 154 ls [])) → W p l e rm_X1_second s m args below meth c H locs 0 0 Q (F0 m 95 ls []) := by
  have hx := C.1
  have hb := C.2.1
  have hown := C.2.2.2.1
  have hts := C.2.2.2.2.1
  intro n
  induction n with
  | zero =>
    intro y t H locs ls hn hy ht1 ht2 hW hl K
    refine lv_iload hx hb dX1_second_95 (lv_at hl 5 rfl) ?_
    refine jv_bipush hx hb dX1_second_97 (by decide) ?_
    refine jv_icmp_gt (tgt := 154) hx hb dX1_second_99 (by decide) ⟨by omega, by omega⟩ ⟨by omega, by omega⟩ (fun c_99 => ?_) (fun c_99 => ?_)
    · exact K t _ _ ls rfl ht1 ht2 hW (lv_sub hl [0, 1, 2, 3, 4] rfl)
    · exfalso; omega
  | succ n ih =>
    intro y t H locs ls hn hy ht1 ht2 hW hl K
    have s1 := sq_le (x := x) (M := 43) (by omega) (by omega)
    have s2 := sq_le (x := y) (M := 43) (by omega) (by omega)
    have s3 := sqn_ x
    have s4 := sqn_ y
    have w1 := pr_bd (x := x) (y := y1) (M := 43) (N := 43) (by omega) (by omega) (by omega) (by omega)
    have w2 := pr_bd (x := y) (y := x1) (M := 43) (N := 43) (by omega) (by omega) (by omega) (by omega)
    refine lv_iload hx hb dX1_second_95 (lv_at hl 5 rfl) ?_
    refine jv_bipush hx hb dX1_second_97 (by decide) ?_
    refine jv_icmp_gt (tgt := 154) hx hb dX1_second_99 (by decide) ⟨by omega, by omega⟩ ⟨by omega, by omega⟩ (fun c_99 => ?_) (fun c_99 => ?_)
    · exfalso; omega
    · refine lv_iload hx hb dX1_second_102 (lv_at hl 4 rfl) ?_
      refine lv_iload hx hb dX1_second_104 (lv_at hl 4 rfl) ?_
      refine jv_imul hx hb dX1_second_106 ?_
      refine lv_iload hx hb dX1_second_107 (lv_at hl 5 rfl) ?_
      refine lv_iload hx hb dX1_second_109 (lv_at hl 5 rfl) ?_
      refine jv_imul hx hb dX1_second_111 ?_
      refine jv_iadd hx hb dX1_second_112 ?_
      refine lv_istore (lv' := [(7, .int (jI ((x * x) + (y * y)))), (0, .ref h0), (2, .int (jI x1)), (3, .int (jI y1)), (4, .int (jI t)), (5, .int (jI x)), (6, .int (jI y))]) hx hb dX1_second_113 hl (by decide) rfl (fun ls hl => ?_)
      refine lv_iload hx hb dX1_second_115 (lv_at hl 5 rfl) ?_
      refine lv_iload_n hx hb dX1_second_117 rfl (lv_at hl 3 rfl) ?_
      refine jv_imul hx hb dX1_second_118 ?_
      refine lv_iload hx hb dX1_second_119 (lv_at hl 6 rfl) ?_
      refine lv_iload_n hx hb dX1_second_121 rfl (lv_at hl 2 rfl) ?_
      refine jv_imul hx hb dX1_second_122 ?_
      refine jv_icmp_eq (tgt := 148) hx hb dX1_second_123 (by decide) ⟨by omega, by omega⟩ ⟨by omega, by omega⟩ (fun c_123 => ?_) (fun c_123 => ?_)
      · refine jv_iinc (lv' := [(6, .int (jI (y + 1))), (7, .int (jI ((x * x) + (y * y)))), (0, .ref h0), (2, .int (jI x1)), (3, .int (jI y1)), (4, .int (jI t)), (5, .int (jI x))]) hx hb dX1_second_148 hl (k := 6) rfl (by decide) rfl (fun ls hl => ?_)
        refine lv_goto (tgt := 95) hx hb dX1_second_151 (by decide) ?_
        exact ih (y + 1) t _ _ ls (by omega) (by omega) ht1 ht2 hW (lv_sub hl [2, 3, 4, 5, 6, 0] rfl) (fun t2 H locs ls e1 => K t2 H locs ls (up_step e1 (if_neg (fun q => by have q1 := q.1; have q2 : x * x + y * y < t := q.2.1; first | omega | exact ff_ c_141 q.2.2))))
      · refine lv_iload hx hb dX1_second_126 (lv_at hl 0 rfl) ?_
        refine lv_iload hx hb dX1_second_128 (lv_at hl 4 rfl) ?_
        refine jv_icmp_ge (tgt := 148) hx hb dX1_second_130 (by decide) ⟨by omega, by omega⟩ ⟨by omega, by omega⟩ (fun c_130 => ?_) (fun c_130 => ?_)
        · refine jv_iinc (lv' := [(6, .int (jI (y + 1))), (7, .int (jI ((x * x) + (y * y)))), (0, .ref h0), (2, .int (jI x1)), (3, .int (jI y1)), (4, .int (jI t)), (5, .int (jI x))]) hx hb dX1_second_148 hl (k := 6) rfl (by decide) rfl (fun ls hl => ?_)
          refine lv_goto (tgt := 95) hx hb dX1_second_151 (by decide) ?_
          exact ih (y + 1) t _ _ ls (by omega) (by omega) ht1 ht2 hW (lv_sub hl [2, 3, 4, 5, 6, 0] rfl) (fun t2 H locs ls e1 => K t2 H locs ls (up_step e1 (if_neg (fun q => by have q1 := q.1; have q2 : x * x + y * y < t := q.2.1; first | omega | exact ff_ c_141 q.2.2))))
        · refine lv_aload_n hx hb dX1_second_133 rfl (lv_at hl 1 rfl) ?_
          refine lv_iload hx hb dX1_second_134 (lv_at hl 5 rfl) ?_
          refine lv_iload hx hb dX1_second_136 (lv_at hl 6 rfl) ?_
          refine ci_ (q := (RX1, TX1, 7)) C hW (met_X1_isPoint l h0 fa fb fc fd nu nv aw x y hk ⟨by omega, by omega⟩ ⟨by omega, by omega⟩) rfl (lw_V q173 q175 qs6 q10 q176) ⟨rfl, rfl⟩ dn_X1_isPoint ⟨Nat.le_of_ble_eq_true rfl, Nat.le_of_ble_eq_true rfl⟩ rfl hl.1 rfl (Nat.le_of_ble_eq_true rfl) ⟨Nat.zero_le _, Nat.zero_le _⟩ dX1_second_138 (fun H locs hW => ?_)
          refine jv_if_no (tgt := 148) hx hb dX1_second_141 (by decide) (fun c_141 => ?_) (fun c_141 => ?_)
          · refine jv_iinc (lv' := [(6, .int (jI (y + 1))), (7, .int (jI ((x * x) + (y * y)))), (0, .ref h0), (2, .int (jI x1)), (3, .int (jI y1)), (4, .int (jI t)), (5, .int (jI x))]) hx hb dX1_second_148 hl (k := 6) rfl (by decide) rfl (fun ls hl => ?_)
            refine lv_goto (tgt := 95) hx hb dX1_second_151 (by decide) ?_
            exact ih (y + 1) t _ _ ls (by omega) (by omega) ht1 ht2 hW (lv_sub hl [2, 3, 4, 5, 6, 0] rfl) (fun t2 H locs ls e1 => K t2 H locs ls (up_step e1 (if_neg (fun q => by have q1 := q.1; have q2 : x * x + y * y < t := q.2.1; first | omega | exact ff_ c_141 q.2.2))))
          · refine lv_iload hx hb dX1_second_144 (lv_at hl 0 rfl) ?_
            refine lv_istore (lv' := [(4, .int (jI ((x * x) + (y * y)))), (7, .int (jI ((x * x) + (y * y)))), (0, .ref h0), (2, .int (jI x1)), (3, .int (jI y1)), (5, .int (jI x)), (6, .int (jI y))]) hx hb dX1_second_146 hl (by decide) rfl (fun ls hl => ?_)
            refine jv_iinc (lv' := [(6, .int (jI (y + 1))), (4, .int (jI ((x * x) + (y * y)))), (7, .int (jI ((x * x) + (y * y)))), (0, .ref h0), (2, .int (jI x1)), (3, .int (jI y1)), (5, .int (jI x))]) hx hb dX1_second_148 hl (k := 6) rfl (by decide) rfl (fun ls hl => ?_)
            refine lv_goto (tgt := 95) hx hb dX1_second_151 (by decide) ?_
            exact ih (y + 1) ((x * x) + (y * y)) _ _ ls (by omega) (by omega) (by omega) (by omega) hW (lv_sub hl [3, 4, 5, 1, 6, 0] rfl) (fun t2 H locs ls e1 => K t2 H locs ls (up_step e1 (if_pos ⟨c_123, (show x * x + y * y < t by omega), c_141⟩)))
set_option maxHeartbeats 4000000 in
set_option maxRecDepth 100000 in
theorem lp_X1_second2_o {p : Program} {l : Launch} {e : Env} {s : State} {m : MethodId} {args : Array Value} {below : List Frame} {meth : Method} {c : Code} {D : va_G} {A : Nat → Prop} {h0 : Nat} {fa fb fc fd nu nv aw x1 y1 : Int} {Q : State → Prop} (C : cx_ p s m args meth c cX1_second 8 RX1 (some .int) D A) (hk : ok_ fa fb fc fd) (hp1 : -43 ≤ x1 ∧ x1 ≤ 43) (hp2 : -43 ≤ y1 ∧ y1 ≤ 43) : ∀ (n : Nat) (x : Int) (t : Int) (H : Heap) (locs : List Loc) (ls : Array Slot), x + n = 44 → -43 ≤ x → 0 ≤ t → t ≤ 10000 → wd_ D A s H locs (ob_ h0 1 [.int (jI fa), .int (jI fb), .int (jI fc), .int (jI fd), .int (jI nu), .int (jI nv), .int (jI aw)]) → lv_has ls 8 [(0, .ref h0), (2, .int (jI x1)), (3, .int (jI y1)), (4, .int (jI t)), (5, .int (jI x))] → (∀ (t2 : Int) (H : Heap) (locs : List Loc) (ls : Array Slot), t2 = up_ (fun x t => up_ (fun y t => sc_f fa fb fc fd x1 y1 x y t) 87 (-43) t) n x t → 0 ≤ t2 → t2 ≤ 10000 → wd_ D A s H locs (ob_ h0 1 [.int (jI fa), .int (jI fb), .int (jI fc), .int (jI fd), .int (jI nu), .int (jI nv), .int (jI aw)]) → lv_has ls 8 [(0, .ref h0), (2, .int (jI x1)), (3, .int (jI y1)), (4, .int (jI t2))] → W p l e rm_X1_second s m args below meth c H locs 0 0 Q (F0 m 160 ls [])) → W p l e rm_X1_second s m args below meth c H locs 0 0 Q (F0 m 84 ls []) := by
  have hx := C.1
  have hb := C.2.1
  have hown := C.2.2.2.1
  have hts := C.2.2.2.2.1
  intro n
  induction n with
  | zero =>
    intro x t H locs ls hn hy ht1 ht2 hW hl K
    refine lv_iload hx hb dX1_second_84 (lv_at hl 4 rfl) ?_
    refine jv_bipush hx hb dX1_second_86 (by decide) ?_
    refine jv_icmp_gt (tgt := 160) hx hb dX1_second_88 (by decide) ⟨by omega, by omega⟩ ⟨by omega, by omega⟩ (fun c_88 => ?_) (fun c_88 => ?_)
    · exact K t _ _ ls rfl ht1 ht2 hW (lv_sub hl [0, 1, 2, 3] rfl)
    · exfalso; omega
  | succ n ih =>
    intro x t H locs ls hn hy ht1 ht2 hW hl K
    refine lv_iload hx hb dX1_second_84 (lv_at hl 4 rfl) ?_
    refine jv_bipush hx hb dX1_second_86 (by decide) ?_
    refine jv_icmp_gt (tgt := 160) hx hb dX1_second_88 (by decide) ⟨by omega, by omega⟩ ⟨by omega, by omega⟩ (fun c_88 => ?_) (fun c_88 => ?_)
    · exfalso; omega
    · refine jv_bipush hx hb dX1_second_91 (by decide) ?_
      refine lv_istore (lv' := [(6, .int (jI (-43))), (0, .ref h0), (2, .int (jI x1)), (3, .int (jI y1)), (4, .int (jI t)), (5, .int (jI x))]) hx hb dX1_second_93 hl (by decide) rfl (fun ls hl => ?_)
      refine lp_X1_second2_i C hk hp1 hp2 x hy (by omega) 87 (-43) t _ _ ls (by omega) (by omega) ht1 ht2 hW (lv_sub hl [1, 2, 3, 4, 5, 0] rfl) (fun t2 H locs ls e1 ht1 ht2 hW hl => ?_)
      refine jv_iinc (lv' := [(5, .int (jI (x + 1))), (0, .ref h0), (2, .int (jI x1)), (3, .int (jI y1)), (4, .int (jI t2))]) hx hb dX1_second_154 hl (k := 4) rfl (by decide) rfl (fun ls hl => ?_)
      refine lv_goto (tgt := 84) hx hb dX1_second_157 (by decide) ?_
      exact ih (x + 1) t2 _ _ ls (by omega) (by omega) ht1 ht2 hW (lv_sub hl [1, 2, 3, 4, 0] rfl) (fun t3 H locs ls e2 => K t3 H locs ls (up_step e2 e1.symm))
theorem sc_of {a b c d t3 : Int} {t2 : Int × Int} (e1 : t2 = sp_m a b c d) (e3 : t3 = up_ (fun x t => up_ (fun y t => sc_f a b c d t2.1 t2.2 x y t) 87 (-43) t) 87 (-43) 10000) : t3 = sc_m a b c d := by
  unfold sc_m
  rw [← e1]
  exact e3
set_option maxHeartbeats 4000000 in
set_option maxRecDepth 100000 in
/-- the model's second -/
theorem met_X1_second (l : Launch) (h0 : Nat) (fa fb fc fd nu nv aw : Int) (hk : ok_ fa fb fc fd) : mi_ l yX1_second cX1_second 8 (some .int) rm_X1_second h0 1 [] [.int (jI fa), .int (jI fb), .int (jI fc), .int (jI fd), .int (jI nu), .int (jI nv), .int (jI aw)] [.int (jI fa), .int (jI fb), .int (jI fc), .int (jI fd), .int (jI nu), .int (jI nv), .int (jI aw)] (sc_m fa fb fc fd) := by
  refine mi_of (by decide) (Nat.le_of_ble_eq_true rfl) ?_
  intro p e s m args below meth c D A C hW ls hl
  have C : cx_ p s m args meth c cX1_second 8 RX1 (some .int) D A := C
  have hx := C.1
  have hb := C.2.1
  have hown := C.2.2.2.1
  have hts := C.2.2.2.2.1
  have hl : lv_has ls 8 [(0, .ref h0)] := hl
  refine lv_aload_n hx hb dX1_second_0 rfl (lv_at hl 0 rfl) ?_
  refine ci_ (q := (RX1, TX1, 7)) C hW (met_X1_shortest l h0 fa fb fc fd nu nv aw hk) rfl (lw_V q188 q181 q182 q10 q183) ⟨rfl, rfl⟩ dn_X1_shortest ⟨Nat.le_of_ble_eq_true rfl, Nat.le_of_ble_eq_true rfl⟩ rfl hl.1 rfl (Nat.le_of_ble_eq_true rfl) ⟨Nat.zero_le _, Nat.zero_le _⟩ dX1_second_1 (fun H locs hW => ?_)
  refine lv_istore_n (lv' := [(1, .int (jI (sh_m fa fb fc fd))), (0, .ref h0)]) hx hb dX1_second_4 rfl hl (by decide) rfl (fun ls hl => ?_)
  refine jv_iconst hx hb dX1_second_5 ?_
  refine lv_istore_n (lv' := [(2, .int (jI 0)), (1, .int (jI (sh_m fa fb fc fd))), (0, .ref h0)]) hx hb dX1_second_6 rfl hl (by decide) rfl (fun ls hl => ?_)
  refine jv_iconst hx hb dX1_second_7 ?_
  refine lv_istore_n (lv' := [(3, .int (jI 0)), (2, .int (jI 0)), (1, .int (jI (sh_m fa fb fc fd))), (0, .ref h0)]) hx hb dX1_second_8 rfl hl (by decide) rfl (fun ls hl => ?_)
  refine jv_bipush hx hb dX1_second_9 (by decide) ?_
  refine lv_istore (lv' := [(4, .int (jI (-43))), (3, .int (jI 0)), (2, .int (jI 0)), (1, .int (jI (sh_m fa fb fc fd))), (0, .ref h0)]) hx hb dX1_second_11 hl (by decide) rfl (fun ls hl => ?_)
  refine lp_X1_second1_o (lst := sh_m fa fb fc fd) C hk (sh_rng fa fb fc fd).1 (sh_rng fa fb fc fd).2 87 (-43) (0, 0) _ _ ls (by omega) (by omega) (by decide) (by decide) hW (lv_sub hl [4, 3, 2, 1, 0] rfl) (fun t2 H locs ls e1 ht1 ht2 hW hl => ?_)
  have e1 : t2 = sp_m fa fb fc fd := e1
  refine jv_sipush hx hb dX1_second_75 (by decide) ?_
  refine lv_istore (lv' := [(4, .int (jI 10000)), (0, .ref h0), (1, .int (jI (sh_m fa fb fc fd))), (2, .int (jI t2.1)), (3, .int (jI t2.2))]) hx hb dX1_second_78 hl (by decide) rfl (fun ls hl => ?_)
  refine jv_bipush hx hb dX1_second_80 (by decide) ?_
  refine lv_istore (lv' := [(5, .int (jI (-43))), (4, .int (jI 10000)), (0, .ref h0), (1, .int (jI (sh_m fa fb fc fd))), (2, .int (jI t2.1)), (3, .int (jI t2.2))]) hx hb dX1_second_82 hl (by decide) rfl (fun ls hl => ?_)
  refine lp_X1_second2_o C hk ht1 ht2 87 (-43) 10000 _ _ ls (by omega) (by omega) (by decide) (by decide) hW (lv_sub hl [2, 4, 5, 1, 0] rfl) (fun t3 H locs ls e3 hu1 hu2 hW hl => ?_)
  refine lv_iload hx hb dX1_second_160 (lv_at hl 3 rfl) ?_
  exact mi_reti C hW (sc_of e1 e3) rfl dX1_second_162
end
section
abbrev rm_X1_search : Room := { frames := 2, cells := 0, slots := 0, locals := 48 }
theorem dn_X1_search : yX1_search.cls = RX1 ∧ yX1_search.cls ≠ "java/lang/invoke/MethodHandle" ∧ yX1_search.cls ≠ "java/lang/invoke/VarHandle" ∧ (parseMethodDescriptor yX1_search.desc).map (fun d => d.parameters.length) = some 2 := by decide +kernel
set_option maxHeartbeats 4000000 in
set_option maxRecDepth 100000 in
theorem lp_X1_search_i {p : Program} {l : Launch} {e : Env} {s : State} {m : MethodId} {args : Array Value} {below : List Frame} {meth : Method} {c : Code} {D : va_G} {A : Nat → Prop} {h0 : Nat} {fa fb fc fd x y : Int} {Q : State → Prop} (C : cx_ p s m args meth c cX1_search 6 RX1 none D A) (hk : ok_ fa fb fc fd) (hX : -1000 ≤ x ∧ x ≤ 1000) (hY : -1000 ≤ y ∧ y ≤ 1000) (u : Int) (hx1 : x - 43 ≤ u) (hx2 : u < x + 44) : ∀ (n : Nat) (v : Int) (t : Int × Int × Int) (H : Heap) (locs : List Loc) (ls : Array Slot), v + n = y + 44 → y - 43 ≤ v → 0 ≤ t.1 → t.1 ≤ 100000 → wd_ D A s H locs (ob_ h0 1 [.int (jI fa), .int (jI fb), .int (jI fc), .int (jI fd), .int (jI t.2.1), .int (jI t.2.2), .int (jI t.1)]) → lv_has ls 6 [(0, .ref h0), (1, .int (jI x)), (2, .int (jI y)), (3, .int (jI u)), (4, .int (jI v))] → (∀ (t2 : Int × Int × Int) (H : Heap) (locs : List Loc) (ls : Array Slot), t2 = up_ (fun v t => se_f fa fb fc fd x y u v t) n v t → 0 ≤ t2.1 → t2.1 ≤ 100000 → wd_ D A s H locs (ob_ h0 1 [.int (jI fa), .int (jI fb), .int (jI fc), .int (jI fd), .int (jI t2.2.1), .int (jI t2.2.2), .int (jI t2.1)]) → lv_has ls 6 [(0, .ref h0), (1, .int (jI x)), (2, .int (jI y)), (3, .int (jI u))] → W p l e rm_X1_search s m args below meth c H locs 0 0 Q (F0 m 95 ls [])) → W p l e rm_X1_search s m args below meth c H locs 0 0 Q (F0 m 25 ls []) := by
  have hx := C.1
  have hb := C.2.1
  have hown := C.2.2.2.1
  have hts := C.2.2.2.2.1
  intro n
  induction n with
  | zero =>
    intro v t H locs ls hn hy ht1 ht2 hW hl K
    refine lv_iload hx hb dX1_search_25 (lv_at hl 4 rfl) ?_
    refine lv_iload_n hx hb dX1_search_27 rfl (lv_at hl 2 rfl) ?_
    refine jv_bipush hx hb dX1_search_28 (by decide) ?_
    refine jv_iadd hx hb dX1_search_30 ?_
    refine jv_icmp_gt (tgt := 95) hx hb dX1_search_31 (by decide) ⟨by omega, by omega⟩ ⟨by omega, by omega⟩ (fun c_31 => ?_) (fun c_31 => ?_)
    · exact K t _ _ ls rfl ht1 ht2 hW (lv_sub hl [0, 1, 2, 3] rfl)
    · exfalso; omega
  | succ n ih =>
    intro v t H locs ls hn hy ht1 ht2 hW hl K
    have s1 := sq_le (x := x - u) (M := 43) (by omega) (by omega)
    have s2 := sq_le (x := y - v) (M := 43) (by omega) (by omega)
    have s3 := sqn_ (x - u)
    have s4 := sqn_ (y - v)
    refine lv_iload hx hb dX1_search_25 (lv_at hl 4 rfl) ?_
    refine lv_iload_n hx hb dX1_search_27 rfl (lv_at hl 2 rfl) ?_
    refine jv_bipush hx hb dX1_search_28 (by decide) ?_
    refine jv_iadd hx hb dX1_search_30 ?_
    refine jv_icmp_gt (tgt := 95) hx hb dX1_search_31 (by decide) ⟨by omega, by omega⟩ ⟨by omega, by omega⟩ (fun c_31 => ?_) (fun c_31 => ?_)
    · exfalso; omega
    · refine lv_iload_n hx hb dX1_search_34 rfl (lv_at hl 1 rfl) ?_
      refine lv_iload_n hx hb dX1_search_35 rfl (lv_at hl 3 rfl) ?_
      refine jv_isub hx hb dX1_search_36 ?_
      refine lv_iload_n hx hb dX1_search_37 rfl (lv_at hl 1 rfl) ?_
      refine lv_iload_n hx hb dX1_search_38 rfl (lv_at hl 3 rfl) ?_
      refine jv_isub hx hb dX1_search_39 ?_
      refine jv_imul hx hb dX1_search_40 ?_
      refine lv_iload_n hx hb dX1_search_41 rfl (lv_at hl 2 rfl) ?_
      refine lv_iload hx hb dX1_search_42 (lv_at hl 4 rfl) ?_
      refine jv_isub hx hb dX1_search_44 ?_
      refine lv_iload_n hx hb dX1_search_45 rfl (lv_at hl 2 rfl) ?_
      refine lv_iload hx hb dX1_search_46 (lv_at hl 4 rfl) ?_
      refine jv_isub hx hb dX1_search_48 ?_
      refine jv_imul hx hb dX1_search_49 ?_
      refine jv_iadd hx hb dX1_search_50 ?_
      refine lv_istore (lv' := [(5, .int (jI (((x - u) * (x - u)) + ((y - v) * (y - v))))), (0, .ref h0), (1, .int (jI x)), (2, .int (jI y)), (3, .int (jI u)), (4, .int (jI v))]) hx hb dX1_search_51 hl (by decide) rfl (fun ls hl => ?_)
      refine lv_iload hx hb dX1_search_53 (lv_at hl 0 rfl) ?_
      refine lv_aload_n hx hb dX1_search_55 rfl (lv_at hl 1 rfl) ?_
      refine g1_aw C hW dX1_search_56 ?_
      refine jv_icmp_ge (tgt := 89) hx hb dX1_search_59 (by decide) ⟨by omega, by omega⟩ ⟨by omega, by omega⟩ (fun c_59 => ?_) (fun c_59 => ?_)
      · refine jv_iinc (lv' := [(4, .int (jI (v + 1))), (5, .int (jI (((x - u) * (x - u)) + ((y - v) * (y - v))))), (0, .ref h0), (1, .int (jI x)), (2, .int (jI y)), (3, .int (jI u))]) hx hb dX1_search_89 hl (k := 5) rfl (by decide) rfl (fun ls hl => ?_)
        refine lv_goto (tgt := 25) hx hb dX1_search_92 (by decide) ?_
        exact ih (v + 1) t _ _ ls (by omega) (by omega) ht1 ht2 hW (lv_sub hl [2, 3, 4, 5, 0] rfl) (fun t2 H locs ls e1 => K t2 H locs ls (up_step e1 (if_neg (fun q => by have q1 : (x - u) * (x - u) + (y - v) * (y - v) < t.1 := q.1; first | omega | exact ff_ c_69 q.2))))
      · refine lv_aload_n hx hb dX1_search_62 rfl (lv_at hl 1 rfl) ?_
        refine lv_iload_n hx hb dX1_search_63 rfl (lv_at hl 4 rfl) ?_
        refine lv_iload hx hb dX1_search_64 (lv_at hl 5 rfl) ?_
        refine ci_ (q := (RX1, TX1, 7)) C hW (met_X1_isPoint l h0 fa fb fc fd t.2.1 t.2.2 t.1 u v hk ⟨by omega, by omega⟩ ⟨by omega, by omega⟩) rfl (lw_V q173 q175 qs6 q10 q176) ⟨rfl, rfl⟩ dn_X1_isPoint ⟨Nat.le_of_ble_eq_true rfl, Nat.le_of_ble_eq_true rfl⟩ rfl hl.1 rfl (Nat.le_of_ble_eq_true rfl) ⟨Nat.zero_le _, Nat.zero_le _⟩ dX1_search_66 (fun H locs hW => ?_)
        refine jv_if_no (tgt := 89) hx hb dX1_search_69 (by decide) (fun c_69 => ?_) (fun c_69 => ?_)
        · refine jv_iinc (lv' := [(4, .int (jI (v + 1))), (5, .int (jI (((x - u) * (x - u)) + ((y - v) * (y - v))))), (0, .ref h0), (1, .int (jI x)), (2, .int (jI y)), (3, .int (jI u))]) hx hb dX1_search_89 hl (k := 5) rfl (by decide) rfl (fun ls hl => ?_)
          refine lv_goto (tgt := 25) hx hb dX1_search_92 (by decide) ?_
          exact ih (v + 1) t _ _ ls (by omega) (by omega) ht1 ht2 hW (lv_sub hl [2, 3, 4, 5, 0] rfl) (fun t2 H locs ls e1 => K t2 H locs ls (up_step e1 (if_neg (fun q => by have q1 : (x - u) * (x - u) + (y - v) * (y - v) < t.1 := q.1; first | omega | exact ff_ c_69 q.2))))
        · refine lv_aload_n hx hb dX1_search_72 rfl (lv_at hl 1 rfl) ?_
          refine lv_iload hx hb dX1_search_73 (lv_at hl 0 rfl) ?_
          refine p1_aw C hW dX1_search_75 (fun H locs hW => ?_)
          refine lv_aload_n hx hb dX1_search_78 rfl (lv_at hl 1 rfl) ?_
          refine lv_iload_n hx hb dX1_search_79 rfl (lv_at hl 4 rfl) ?_
          refine p1_nu C hW dX1_search_80 (fun H locs hW => ?_)
          refine lv_aload_n hx hb dX1_search_83 rfl (lv_at hl 1 rfl) ?_
          refine lv_iload hx hb dX1_search_84 (lv_at hl 5 rfl) ?_
          refine p1_nv C hW dX1_search_86 (fun H locs hW => ?_)
          refine jv_iinc (lv' := [(4, .int (jI (v + 1))), (5, .int (jI (((x - u) * (x - u)) + ((y - v) * (y - v))))), (0, .ref h0), (1, .int (jI x)), (2, .int (jI y)), (3, .int (jI u))]) hx hb dX1_search_89 hl (k := 5) rfl (by decide) rfl (fun ls hl => ?_)
          refine lv_goto (tgt := 25) hx hb dX1_search_92 (by decide) ?_
          exact ih (v + 1) ((x - u) * (x - u) + (y - v) * (y - v), u, v) _ _ ls (by omega) (by omega) (show 0 ≤ (x - u) * (x - u) + (y - v) * (y - v) by omega) (show (x - u) * (x - u) + (y - v) * (y - v) ≤ 100000 by omega) hW (lv_sub hl [2, 3, 4, 5, 0] rfl) (fun t2 H locs ls e1 => K t2 H locs ls (up_step e1 (if_pos ⟨(show (x - u) * (x - u) + (y - v) * (y - v) < t.1 by omega), c_69⟩)))
set_option maxHeartbeats 4000000 in
set_option maxRecDepth 100000 in
theorem lp_X1_search_o {p : Program} {l : Launch} {e : Env} {s : State} {m : MethodId} {args : Array Value} {below : List Frame} {meth : Method} {c : Code} {D : va_G} {A : Nat → Prop} {h0 : Nat} {fa fb fc fd x y : Int} {Q : State → Prop} (C : cx_ p s m args meth c cX1_search 6 RX1 none D A) (hk : ok_ fa fb fc fd) (hX : -1000 ≤ x ∧ x ≤ 1000) (hY : -1000 ≤ y ∧ y ≤ 1000) : ∀ (n : Nat) (u : Int) (t : Int × Int × Int) (H : Heap) (locs : List Loc) (ls : Array Slot), u + n = x + 44 → x - 43 ≤ u → 0 ≤ t.1 → t.1 ≤ 100000 → wd_ D A s H locs (ob_ h0 1 [.int (jI fa), .int (jI fb), .int (jI fc), .int (jI fd), .int (jI t.2.1), .int (jI t.2.2), .int (jI t.1)]) → lv_has ls 6 [(0, .ref h0), (1, .int (jI x)), (2, .int (jI y)), (3, .int (jI u))] → (∀ (t2 : Int × Int × Int) (H : Heap) (locs : List Loc) (ls : Array Slot), t2 = up_ (fun u t => up_ (fun v t => se_f fa fb fc fd x y u v t) 87 (y - 43) t) n u t → 0 ≤ t2.1 → t2.1 ≤ 100000 → wd_ D A s H locs (ob_ h0 1 [.int (jI fa), .int (jI fb), .int (jI fc), .int (jI fd), .int (jI t2.2.1), .int (jI t2.2.2), .int (jI t2.1)]) → lv_has ls 6 [(0, .ref h0), (1, .int (jI x)), (2, .int (jI y))] → W p l e rm_X1_search s m args below meth c H locs 0 0 Q (F0 m 101 ls [])) → W p l e rm_X1_search s m args below meth c H locs 0 0 Q (F0 m 11 ls []) := by
  have hx := C.1
  have hb := C.2.1
  have hown := C.2.2.2.1
  have hts := C.2.2.2.2.1
  intro n
  induction n with
  | zero =>
    intro u t H locs ls hn hy ht1 ht2 hW hl K
    refine lv_iload_n hx hb dX1_search_11 rfl (lv_at hl 3 rfl) ?_
    refine lv_iload_n hx hb dX1_search_12 rfl (lv_at hl 1 rfl) ?_
    refine jv_bipush hx hb dX1_search_13 (by decide) ?_
    refine jv_iadd hx hb dX1_search_15 ?_
    refine jv_icmp_gt (tgt := 101) hx hb dX1_search_16 (by decide) ⟨by omega, by omega⟩ ⟨by omega, by omega⟩ (fun c_16 => ?_) (fun c_16 => ?_)
    · exact K t _ _ ls rfl ht1 ht2 hW (lv_sub hl [0, 1, 2] rfl)
    · exfalso; omega
  | succ n ih =>
    intro u t H locs ls hn hy ht1 ht2 hW hl K
    refine lv_iload_n hx hb dX1_search_11 rfl (lv_at hl 3 rfl) ?_
    refine lv_iload_n hx hb dX1_search_12 rfl (lv_at hl 1 rfl) ?_
    refine jv_bipush hx hb dX1_search_13 (by decide) ?_
    refine jv_iadd hx hb dX1_search_15 ?_
    refine jv_icmp_gt (tgt := 101) hx hb dX1_search_16 (by decide) ⟨by omega, by omega⟩ ⟨by omega, by omega⟩ (fun c_16 => ?_) (fun c_16 => ?_)
    · exfalso; omega
    · refine lv_iload_n hx hb dX1_search_19 rfl (lv_at hl 2 rfl) ?_
      refine jv_bipush hx hb dX1_search_20 (by decide) ?_
      refine jv_isub hx hb dX1_search_22 ?_
      refine lv_istore (lv' := [(4, .int (jI (y - 43))), (0, .ref h0), (1, .int (jI x)), (2, .int (jI y)), (3, .int (jI u))]) hx hb dX1_search_23 hl (by decide) rfl (fun ls hl => ?_)
      refine lp_X1_search_i C hk hX hY u hy (by omega) 87 (y - 43) t _ _ ls (by omega) (by omega) ht1 ht2 hW (lv_sub hl [1, 2, 3, 4, 0] rfl) (fun t2 H locs ls e1 ht1 ht2 hW hl => ?_)
      refine jv_iinc (lv' := [(3, .int (jI (u + 1))), (0, .ref h0), (1, .int (jI x)), (2, .int (jI y))]) hx hb dX1_search_95 hl (k := 3) rfl (by decide) rfl (fun ls hl => ?_)
      refine lv_goto (tgt := 11) hx hb dX1_search_98 (by decide) ?_
      exact ih (u + 1) t2 _ _ ls (by omega) (by omega) ht1 ht2 hW (lv_sub hl [1, 2, 3, 0] rfl) (fun t3 H locs ls e2 => K t3 H locs ls (up_step e2 e1.symm))
set_option maxHeartbeats 4000000 in
set_option maxRecDepth 100000 in
/-- the model's search -/
theorem met_X1_search (l : Launch) (h0 : Nat) (fa fb fc fd nu nv aw x y : Int) (hk : ok_ fa fb fc fd) (hX : -1000 ≤ x ∧ x ≤ 1000) (hY : -1000 ≤ y ∧ y ≤ 1000) : mv_ l yX1_search cX1_search 6 none rm_X1_search h0 1 [.int (jI x), .int (jI y)] [.int (jI fa), .int (jI fb), .int (jI fc), .int (jI fd), .int (jI nu), .int (jI nv), .int (jI aw)] [.int (jI fa), .int (jI fb), .int (jI fc), .int (jI fd), .int (jI ((se_m fa fb fc fd x y nu nv).2.1)), .int (jI ((se_m fa fb fc fd x y nu nv).2.2)), .int (jI ((se_m fa fb fc fd x y nu nv).1))] := by
  refine mv_of (by decide) (Nat.le_of_ble_eq_true rfl) ?_
  intro p e s m args below meth c D A C hW ls hl
  have C : cx_ p s m args meth c cX1_search 6 RX1 none D A := C
  have hx := C.1
  have hb := C.2.1
  have hown := C.2.2.2.1
  have hts := C.2.2.2.2.1
  have hl : lv_has ls 6 [(0, .ref h0), (1, .int (jI x)), (2, .int (jI y))] := hl
  refine lv_aload_n hx hb dX1_search_0 rfl (lv_at hl 0 rfl) ?_
  refine jv_ldc (n := 100000) hx hb hown (hts _ q201) (by decide) dX1_search_1 ?_
  refine p1_aw C hW dX1_search_3 (fun H locs hW => ?_)
  refine lv_iload_n hx hb dX1_search_6 rfl (lv_at hl 1 rfl) ?_
  refine jv_bipush hx hb dX1_search_7 (by decide) ?_
  refine jv_isub hx hb dX1_search_9 ?_
  refine lv_istore_n (lv' := [(3, .int (jI (x - 43))), (0, .ref h0), (1, .int (jI x)), (2, .int (jI y))]) hx hb dX1_search_10 rfl hl (by decide) rfl (fun ls hl => ?_)
  refine lp_X1_search_o C hk hX hY 87 (x - 43) (100000, nu, nv) _ _ ls (by omega) (by omega) (show (0 : Int) ≤ 100000 by decide) (show (100000 : Int) ≤ 100000 by decide) hW (lv_sub hl [1, 2, 3, 0] rfl) (fun t2 H locs ls e1 ht1 ht2 hW hl => ?_)
  have e1 : t2 = se_m fa fb fc fd x y nu nv := e1
  exact mv_ret C hW (by rw [e1]) dX1_search_101
abbrev rm_X1_distance : Room := { frames := 3, cells := 0, slots := 0, locals := 73 }
theorem dn_X1_distance : yX1_distance.cls = RX1 ∧ yX1_distance.cls ≠ "java/lang/invoke/MethodHandle" ∧ yX1_distance.cls ≠ "java/lang/invoke/VarHandle" ∧ (parseMethodDescriptor yX1_distance.desc).map (fun d => d.parameters.length) = some 2 := by decide +kernel
set_option maxHeartbeats 4000000 in
set_option maxRecDepth 100000 in
/-- the model's distance, in range -/
theorem met_X1_distance_in (l : Launch) (h0 : Nat) (fa fb fc fd nu nv aw x y : Int) (hk : ok_ fa fb fc fd) (hin : rgB_ x y = true) : mi_ l yX1_distance cX1_distance 3 (some .int) rm_X1_distance h0 1 [.int (jI x), .int (jI y)] [.int (jI fa), .int (jI fb), .int (jI fc), .int (jI fd), .int (jI nu), .int (jI nv), .int (jI aw)] [.int (jI fa), .int (jI fb), .int (jI fc), .int (jI fd), .int (jI ((se_m fa fb fc fd x y nu nv).2.1)), .int (jI ((se_m fa fb fc fd x y nu nv).2.2)), .int (jI ((se_m fa fb fc fd x y nu nv).1))] ((se_m fa fb fc fd x y nu nv).1) := by
  refine mi_of (by decide) (Nat.le_of_ble_eq_true rfl) ?_
  intro p e s m args below meth c D A C hW ls hl
  have C : cx_ p s m args meth c cX1_distance 3 RX1 (some .int) D A := C
  have hx := C.1
  have hb := C.2.1
  have hown := C.2.2.2.1
  have hts := C.2.2.2.2.1
  have hl : lv_has ls 3 [(0, .ref h0), (1, .int (jI x)), (2, .int (jI y))] := hl
  obtain ⟨g1, g2, g3, g4⟩ := rgB_of hin
  refine lv_iload_n hx hb dX1_distance_0 rfl (lv_at hl 1 rfl) ?_
  refine lv_iload_n hx hb dX1_distance_1 rfl (lv_at hl 2 rfl) ?_
  refine cs_ C hW (met_X1_far l x y ⟨by omega, by omega⟩ ⟨by omega, by omega⟩) (lw_S q170 q171 q10 q172) ⟨rfl, rfl⟩ dn_X1_far ⟨Nat.le_of_ble_eq_true rfl, Nat.le_of_ble_eq_true rfl⟩ rfl hl.1 rfl (Nat.le_of_ble_eq_true rfl) ⟨Nat.zero_le _, Nat.zero_le _⟩ dX1_distance_2 (fun H locs hW => ?_)
  refine jv_if_no (tgt := 10) hx hb dX1_distance_5 (by decide) (fun c_5 => ?_) (fun c_5 => ?_)
  · refine lv_aload_n hx hb dX1_distance_10 rfl (lv_at hl 0 rfl) ?_
    refine lv_iload_n hx hb dX1_distance_11 rfl (lv_at hl 1 rfl) ?_
    refine lv_iload_n hx hb dX1_distance_12 rfl (lv_at hl 2 rfl) ?_
    refine cv_ (q := (RX1, TX1, 7)) C hW (met_X1_search l h0 fa fb fc fd nu nv aw x y hk ⟨g1, g2⟩ ⟨g3, g4⟩) rfl (lw_V q197 q199 qs7 q10 q200) ⟨rfl, rfl⟩ dn_X1_search ⟨Nat.le_of_ble_eq_true rfl, Nat.le_of_ble_eq_true rfl⟩ rfl hl.1 rfl (Nat.le_of_ble_eq_true rfl) ⟨Nat.zero_le _, Nat.zero_le _⟩ dX1_distance_13 (fun H locs hW => ?_)
    refine lv_aload_n hx hb dX1_distance_16 rfl (lv_at hl 0 rfl) ?_
    refine g1_aw C hW dX1_distance_17 ?_
    exact mi_reti C hW rfl rfl dX1_distance_20
  · exact (ff_ (by simpa using c_5) hin).elim
set_option maxHeartbeats 4000000 in
set_option maxRecDepth 100000 in
/-- the model's distance, out of range -/
theorem met_X1_distance_no (l : Launch) (h0 : Nat) (fa fb fc fd nu nv aw x y : Int) (h1 : rI x) (h2 : rI y) (hno : rgB_ x y = false) : mi_ l yX1_distance cX1_distance 3 (some .int) rm_X1_distance h0 1 [.int (jI x), .int (jI y)] [.int (jI fa), .int (jI fb), .int (jI fc), .int (jI fd), .int (jI nu), .int (jI nv), .int (jI aw)] [.int (jI fa), .int (jI fb), .int (jI fc), .int (jI fd), .int (jI nu), .int (jI nv), .int (jI aw)] (-1) := by
  refine mi_of (by decide) (Nat.le_of_ble_eq_true rfl) ?_
  intro p e s m args below meth c D A C hW ls hl
  have C : cx_ p s m args meth c cX1_distance 3 RX1 (some .int) D A := C
  have hx := C.1
  have hb := C.2.1
  have hown := C.2.2.2.1
  have hts := C.2.2.2.2.1
  have hl : lv_has ls 3 [(0, .ref h0), (1, .int (jI x)), (2, .int (jI y))] := hl
  refine lv_iload_n hx hb dX1_distance_0 rfl (lv_at hl 1 rfl) ?_
  refine lv_iload_n hx hb dX1_distance_1 rfl (lv_at hl 2 rfl) ?_
  refine cs_ C hW (met_X1_far l x y h1 h2) (lw_S q170 q171 q10 q172) ⟨rfl, rfl⟩ dn_X1_far ⟨Nat.le_of_ble_eq_true rfl, Nat.le_of_ble_eq_true rfl⟩ rfl hl.1 rfl (Nat.le_of_ble_eq_true rfl) ⟨Nat.zero_le _, Nat.zero_le _⟩ dX1_distance_2 (fun H locs hW => ?_)
  refine jv_if_no (tgt := 10) hx hb dX1_distance_5 (by decide) (fun c_5 => ?_) (fun c_5 => ?_)
  · exact (ff_ hno (by simpa using c_5)).elim
  · refine jv_iconst hx hb dX1_distance_8 ?_
    exact mi_reti C hW rfl rfl dX1_distance_9
abbrev rm_X1_nearest : Room := { frames := 3, cells := 0, slots := 0, locals := 73 }
theorem dn_X1_nearest : yX1_nearest.cls = RX1 ∧ yX1_nearest.cls ≠ "java/lang/invoke/MethodHandle" ∧ yX1_nearest.cls ≠ "java/lang/invoke/VarHandle" ∧ (parseMethodDescriptor yX1_nearest.desc).map (fun d => d.parameters.length) = some 2 := by decide +kernel
set_option maxHeartbeats 4000000 in
set_option maxRecDepth 100000 in
/-- the model's nearest, in range -/
theorem met_X1_nearest_in (l : Launch) (h0 : Nat) (fa fb fc fd nu nv aw x y : Int) (hk : ok_ fa fb fc fd) (hin : rgB_ x y = true) : mi_ l yX1_nearest cX1_nearest 3 (some .int) rm_X1_nearest h0 1 [.int (jI x), .int (jI y)] [.int (jI fa), .int (jI fb), .int (jI fc), .int (jI fd), .int (jI nu), .int (jI nv), .int (jI aw)] [.int (jI fa), .int (jI fb), .int (jI fc), .int (jI fd), .int (jI ((se_m fa fb fc fd x y nu nv).2.1)), .int (jI ((se_m fa fb fc fd x y nu nv).2.2)), .int (jI ((se_m fa fb fc fd x y nu nv).1))] (10000 * (se_m fa fb fc fd x y nu nv).2.1 + (se_m fa fb fc fd x y nu nv).2.2) := by
  refine mi_of (by decide) (Nat.le_of_ble_eq_true rfl) ?_
  intro p e s m args below meth c D A C hW ls hl
  have C : cx_ p s m args meth c cX1_nearest 3 RX1 (some .int) D A := C
  have hx := C.1
  have hb := C.2.1
  have hown := C.2.2.2.1
  have hts := C.2.2.2.2.1
  have hl : lv_has ls 3 [(0, .ref h0), (1, .int (jI x)), (2, .int (jI y))] := hl
  obtain ⟨g1, g2, g3, g4⟩ := rgB_of hin
  refine lv_iload_n hx hb dX1_nearest_0 rfl (lv_at hl 1 rfl) ?_
  refine lv_iload_n hx hb dX1_nearest_1 rfl (lv_at hl 2 rfl) ?_
  refine cs_ C hW (met_X1_far l x y ⟨by omega, by omega⟩ ⟨by omega, by omega⟩) (lw_S q170 q171 q10 q172) ⟨rfl, rfl⟩ dn_X1_far ⟨Nat.le_of_ble_eq_true rfl, Nat.le_of_ble_eq_true rfl⟩ rfl hl.1 rfl (Nat.le_of_ble_eq_true rfl) ⟨Nat.zero_le _, Nat.zero_le _⟩ dX1_nearest_2 (fun H locs hW => ?_)
  refine jv_if_no (tgt := 10) hx hb dX1_nearest_5 (by decide) (fun c_5 => ?_) (fun c_5 => ?_)
  · refine lv_aload_n hx hb dX1_nearest_10 rfl (lv_at hl 0 rfl) ?_
    refine lv_iload_n hx hb dX1_nearest_11 rfl (lv_at hl 1 rfl) ?_
    refine lv_iload_n hx hb dX1_nearest_12 rfl (lv_at hl 2 rfl) ?_
    refine cv_ (q := (RX1, TX1, 7)) C hW (met_X1_search l h0 fa fb fc fd nu nv aw x y hk ⟨g1, g2⟩ ⟨g3, g4⟩) rfl (lw_V q197 q199 qs7 q10 q200) ⟨rfl, rfl⟩ dn_X1_search ⟨Nat.le_of_ble_eq_true rfl, Nat.le_of_ble_eq_true rfl⟩ rfl hl.1 rfl (Nat.le_of_ble_eq_true rfl) ⟨Nat.zero_le _, Nat.zero_le _⟩ dX1_nearest_13 (fun H locs hW => ?_)
    refine jv_sipush hx hb dX1_nearest_16 (by decide) ?_
    refine lv_aload_n hx hb dX1_nearest_19 rfl (lv_at hl 0 rfl) ?_
    refine g1_nu C hW dX1_nearest_20 ?_
    refine jv_imul hx hb dX1_nearest_23 ?_
    refine lv_aload_n hx hb dX1_nearest_24 rfl (lv_at hl 0 rfl) ?_
    refine g1_nv C hW dX1_nearest_25 ?_
    refine jv_iadd hx hb dX1_nearest_28 ?_
    exact mi_reti C hW rfl rfl dX1_nearest_29
  · exact (ff_ (by simpa using c_5) hin).elim
set_option maxHeartbeats 4000000 in
set_option maxRecDepth 100000 in
/-- the model's nearest, out of range -/
theorem met_X1_nearest_no (l : Launch) (h0 : Nat) (fa fb fc fd nu nv aw x y : Int) (h1 : rI x) (h2 : rI y) (hno : rgB_ x y = false) : mi_ l yX1_nearest cX1_nearest 3 (some .int) rm_X1_nearest h0 1 [.int (jI x), .int (jI y)] [.int (jI fa), .int (jI fb), .int (jI fc), .int (jI fd), .int (jI nu), .int (jI nv), .int (jI aw)] [.int (jI fa), .int (jI fb), .int (jI fc), .int (jI fd), .int (jI nu), .int (jI nv), .int (jI aw)] (0) := by
  refine mi_of (by decide) (Nat.le_of_ble_eq_true rfl) ?_
  intro p e s m args below meth c D A C hW ls hl
  have C : cx_ p s m args meth c cX1_nearest 3 RX1 (some .int) D A := C
  have hx := C.1
  have hb := C.2.1
  have hown := C.2.2.2.1
  have hts := C.2.2.2.2.1
  have hl : lv_has ls 3 [(0, .ref h0), (1, .int (jI x)), (2, .int (jI y))] := hl
  refine lv_iload_n hx hb dX1_nearest_0 rfl (lv_at hl 1 rfl) ?_
  refine lv_iload_n hx hb dX1_nearest_1 rfl (lv_at hl 2 rfl) ?_
  refine cs_ C hW (met_X1_far l x y h1 h2) (lw_S q170 q171 q10 q172) ⟨rfl, rfl⟩ dn_X1_far ⟨Nat.le_of_ble_eq_true rfl, Nat.le_of_ble_eq_true rfl⟩ rfl hl.1 rfl (Nat.le_of_ble_eq_true rfl) ⟨Nat.zero_le _, Nat.zero_le _⟩ dX1_nearest_2 (fun H locs hW => ?_)
  refine jv_if_no (tgt := 10) hx hb dX1_nearest_5 (by decide) (fun c_5 => ?_) (fun c_5 => ?_)
  · exact (ff_ hno (by simpa using c_5)).elim
  · refine jv_iconst hx hb dX1_nearest_8 ?_
    exact mi_reti C hW rfl rfl dX1_nearest_9
abbrev rm_X1_within : Room := { frames := 2, cells := 0, slots := 0, locals := 48 }
theorem dn_X1_within : yX1_within.cls = RX1 ∧ yX1_within.cls ≠ "java/lang/invoke/MethodHandle" ∧ yX1_within.cls ≠ "java/lang/invoke/VarHandle" ∧ (parseMethodDescriptor yX1_within.desc).map (fun d => d.parameters.length) = some 1 := by decide +kernel
set_option maxHeartbeats 4000000 in
set_option maxRecDepth 100000 in
theorem lp_X1_within_i {p : Program} {l : Launch} {e : Env} {s : State} {m : MethodId} {args : Array Value} {below : List Frame} {meth : Method} {c : Code} {D : va_G} {A : Nat → Prop} {h0 : Nat} {fa fb fc fd nu nv aw most : Int} {Q : State → Prop} (C : cx_ p s m args meth c cX1_within 6 RX1 (some .int) D A) (hk : ok_ fa fb fc fd) (hm : rI most) (x : Int) (hx1 : -30 ≤ x) (hx2 : x < 31) : ∀ (n : Nat) (y : Int) (t : Int) (H : Heap) (locs : List Loc) (ls : Array Slot), y + n = 31 → -30 ≤ y → wd_ D A s H locs (ob_ h0 1 [.int (jI fa), .int (jI fb), .int (jI fc), .int (jI fd), .int (jI nu), .int (jI nv), .int (jI aw)]) → lv_has ls 6 [(0, .ref h0), (2, .int (jI most)), (3, .int (jI t)), (4, .int (jI x)), (5, .int (jI y))] → (∀ (t2 : Int) (H : Heap) (locs : List Loc) (ls : Array Slot), t2 = up_ (fun y t => wi_f fa fb fc fd most x y t) n y t → wd_ D A s H locs (ob_ h0 1 [.int (jI fa), .int (jI fb), .int (jI fc), .int (jI fd), .int (jI nu), .int (jI nv), .int (jI aw)]) → lv_has ls 6 [(0, .ref h0), (2, .int (jI most)), (3, .int (jI t2)), (4, .int (jI x))] → W p l e rm_X1_within s m args below meth c H locs 0 0 Q (F0 m 74 ls [])) → W p l e rm_X1_within s m args below meth c H locs 0 0 Q (F0 m 32 ls []) := by
  have hx := C.1
  have hb := C.2.1
  have hown := C.2.2.2.1
  have hts := C.2.2.2.2.1
  intro n
  induction n with
  | zero =>
    intro y t H locs ls hn hy hW hl K
    refine lv_iload hx hb dX1_within_32 (lv_at hl 4 rfl) ?_
    refine jv_bipush hx hb dX1_within_34 (by decide) ?_
    refine jv_icmp_gt (tgt := 74) hx hb dX1_within_36 (by decide) ⟨by omega, by omega⟩ ⟨by omega, by omega⟩ (fun c_36 => ?_) (fun c_36 => ?_)
    · exact K t _ _ ls rfl hW (lv_sub hl [0, 1, 2, 3] rfl)
    · exfalso; omega
  | succ n ih =>
    intro y t H locs ls hn hy hW hl K
    have s1 := sq_le (x := x) (M := 43) (by omega) (by omega)
    have s2 := sq_le (x := y) (M := 43) (by omega) (by omega)
    have s3 := sqn_ x
    have s4 := sqn_ y
    refine lv_iload hx hb dX1_within_32 (lv_at hl 4 rfl) ?_
    refine jv_bipush hx hb dX1_within_34 (by decide) ?_
    refine jv_icmp_gt (tgt := 74) hx hb dX1_within_36 (by decide) ⟨by omega, by omega⟩ ⟨by omega, by omega⟩ (fun c_36 => ?_) (fun c_36 => ?_)
    · exfalso; omega
    · refine lv_iload hx hb dX1_within_39 (lv_at hl 3 rfl) ?_
      refine lv_iload hx hb dX1_within_41 (lv_at hl 3 rfl) ?_
      refine jv_imul hx hb dX1_within_43 ?_
      refine lv_iload hx hb dX1_within_44 (lv_at hl 4 rfl) ?_
      refine lv_iload hx hb dX1_within_46 (lv_at hl 4 rfl) ?_
      refine jv_imul hx hb dX1_within_48 ?_
      refine jv_iadd hx hb dX1_within_49 ?_
      refine lv_iload_n hx hb dX1_within_50 rfl (lv_at hl 1 rfl) ?_
      refine jv_icmp_gt (tgt := 68) hx hb dX1_within_51 (by decide) ⟨by omega, by omega⟩ ⟨by omega, by omega⟩ (fun c_51 => ?_) (fun c_51 => ?_)
      · refine jv_iinc (lv' := [(5, .int (jI (y + 1))), (0, .ref h0), (2, .int (jI most)), (3, .int (jI t)), (4, .int (jI x))]) hx hb dX1_within_68 hl (k := 4) rfl (by decide) rfl (fun ls hl => ?_)
        refine lv_goto (tgt := 32) hx hb dX1_within_71 (by decide) ?_
        exact ih (y + 1) t _ _ ls (by omega) (by omega) hW (lv_sub hl [1, 2, 3, 4, 0] rfl) (fun t2 H locs ls e1 => K t2 H locs ls (up_step e1 (if_neg (fun q => by have q1 : x * x + y * y ≤ most := q.1; first | omega | exact ff_ c_62 q.2))))
      · refine lv_aload_n hx hb dX1_within_54 rfl (lv_at hl 0 rfl) ?_
        refine lv_iload hx hb dX1_within_55 (lv_at hl 3 rfl) ?_
        refine lv_iload hx hb dX1_within_57 (lv_at hl 4 rfl) ?_
        refine ci_ (q := (RX1, TX1, 7)) C hW (met_X1_isPoint l h0 fa fb fc fd nu nv aw x y hk ⟨by omega, by omega⟩ ⟨by omega, by omega⟩) rfl (lw_V q173 q175 qs6 q10 q176) ⟨rfl, rfl⟩ dn_X1_isPoint ⟨Nat.le_of_ble_eq_true rfl, Nat.le_of_ble_eq_true rfl⟩ rfl hl.1 rfl (Nat.le_of_ble_eq_true rfl) ⟨Nat.zero_le _, Nat.zero_le _⟩ dX1_within_59 (fun H locs hW => ?_)
        refine jv_if_no (tgt := 68) hx hb dX1_within_62 (by decide) (fun c_62 => ?_) (fun c_62 => ?_)
        · refine jv_iinc (lv' := [(5, .int (jI (y + 1))), (0, .ref h0), (2, .int (jI most)), (3, .int (jI t)), (4, .int (jI x))]) hx hb dX1_within_68 hl (k := 4) rfl (by decide) rfl (fun ls hl => ?_)
          refine lv_goto (tgt := 32) hx hb dX1_within_71 (by decide) ?_
          exact ih (y + 1) t _ _ ls (by omega) (by omega) hW (lv_sub hl [1, 2, 3, 4, 0] rfl) (fun t2 H locs ls e1 => K t2 H locs ls (up_step e1 (if_neg (fun q => by have q1 : x * x + y * y ≤ most := q.1; first | omega | exact ff_ c_62 q.2))))
        · refine jv_iinc (lv' := [(3, .int (jI (t + 1))), (0, .ref h0), (2, .int (jI most)), (4, .int (jI x)), (5, .int (jI y))]) hx hb dX1_within_65 hl (k := 2) rfl (by decide) rfl (fun ls hl => ?_)
          refine jv_iinc (lv' := [(5, .int (jI (y + 1))), (3, .int (jI (t + 1))), (0, .ref h0), (2, .int (jI most)), (4, .int (jI x))]) hx hb dX1_within_68 hl (k := 4) rfl (by decide) rfl (fun ls hl => ?_)
          refine lv_goto (tgt := 32) hx hb dX1_within_71 (by decide) ?_
          exact ih (y + 1) (t + 1) _ _ ls (by omega) (by omega) hW (lv_sub hl [2, 3, 1, 4, 0] rfl) (fun t2 H locs ls e1 => K t2 H locs ls (up_step e1 (if_pos ⟨(show x * x + y * y ≤ most by omega), c_62⟩)))
set_option maxHeartbeats 4000000 in
set_option maxRecDepth 100000 in
theorem lp_X1_within_o {p : Program} {l : Launch} {e : Env} {s : State} {m : MethodId} {args : Array Value} {below : List Frame} {meth : Method} {c : Code} {D : va_G} {A : Nat → Prop} {h0 : Nat} {fa fb fc fd nu nv aw most : Int} {Q : State → Prop} (C : cx_ p s m args meth c cX1_within 6 RX1 (some .int) D A) (hk : ok_ fa fb fc fd) (hm : rI most) : ∀ (n : Nat) (x : Int) (t : Int) (H : Heap) (locs : List Loc) (ls : Array Slot), x + n = 31 → -30 ≤ x → wd_ D A s H locs (ob_ h0 1 [.int (jI fa), .int (jI fb), .int (jI fc), .int (jI fd), .int (jI nu), .int (jI nv), .int (jI aw)]) → lv_has ls 6 [(0, .ref h0), (2, .int (jI most)), (3, .int (jI t)), (4, .int (jI x))] → (∀ (t2 : Int) (H : Heap) (locs : List Loc) (ls : Array Slot), t2 = up_ (fun x t => up_ (fun y t => wi_f fa fb fc fd most x y t) 61 (-30) t) n x t → wd_ D A s H locs (ob_ h0 1 [.int (jI fa), .int (jI fb), .int (jI fc), .int (jI fd), .int (jI nu), .int (jI nv), .int (jI aw)]) → lv_has ls 6 [(0, .ref h0), (2, .int (jI most)), (3, .int (jI t2))] → W p l e rm_X1_within s m args below meth c H locs 0 0 Q (F0 m 80 ls [])) → W p l e rm_X1_within s m args below meth c H locs 0 0 Q (F0 m 21 ls []) := by
  have hx := C.1
  have hb := C.2.1
  have hown := C.2.2.2.1
  have hts := C.2.2.2.2.1
  intro n
  induction n with
  | zero =>
    intro x t H locs ls hn hy hW hl K
    refine lv_iload hx hb dX1_within_21 (lv_at hl 3 rfl) ?_
    refine jv_bipush hx hb dX1_within_23 (by decide) ?_
    refine jv_icmp_gt (tgt := 80) hx hb dX1_within_25 (by decide) ⟨by omega, by omega⟩ ⟨by omega, by omega⟩ (fun c_25 => ?_) (fun c_25 => ?_)
    · exact K t _ _ ls rfl hW (lv_sub hl [0, 1, 2] rfl)
    · exfalso; omega
  | succ n ih =>
    intro x t H locs ls hn hy hW hl K
    refine lv_iload hx hb dX1_within_21 (lv_at hl 3 rfl) ?_
    refine jv_bipush hx hb dX1_within_23 (by decide) ?_
    refine jv_icmp_gt (tgt := 80) hx hb dX1_within_25 (by decide) ⟨by omega, by omega⟩ ⟨by omega, by omega⟩ (fun c_25 => ?_) (fun c_25 => ?_)
    · exfalso; omega
    · refine jv_bipush hx hb dX1_within_28 (by decide) ?_
      refine lv_istore (lv' := [(5, .int (jI (-30))), (0, .ref h0), (2, .int (jI most)), (3, .int (jI t)), (4, .int (jI x))]) hx hb dX1_within_30 hl (by decide) rfl (fun ls hl => ?_)
      refine lp_X1_within_i C hk hm x hy (by omega) 61 (-30) t _ _ ls (by omega) (by omega) hW (lv_sub hl [1, 2, 3, 4, 0] rfl) (fun t2 H locs ls e1 hW hl => ?_)
      refine jv_iinc (lv' := [(4, .int (jI (x + 1))), (0, .ref h0), (2, .int (jI most)), (3, .int (jI t2))]) hx hb dX1_within_74 hl (k := 3) rfl (by decide) rfl (fun ls hl => ?_)
      refine lv_goto (tgt := 21) hx hb dX1_within_77 (by decide) ?_
      exact ih (x + 1) t2 _ _ ls (by omega) (by omega) hW (lv_sub hl [1, 2, 3, 0] rfl) (fun t3 H locs ls e2 => K t3 H locs ls (up_step e2 e1.symm))
set_option maxHeartbeats 4000000 in
set_option maxRecDepth 100000 in
/-- the model's within -/
theorem met_X1_within (l : Launch) (h0 : Nat) (fa fb fc fd nu nv aw lim : Int) (hk : ok_ fa fb fc fd) (h1 : rI lim) : mi_ l yX1_within cX1_within 6 (some .int) rm_X1_within h0 1 [.int (jI lim)] [.int (jI fa), .int (jI fb), .int (jI fc), .int (jI fd), .int (jI nu), .int (jI nv), .int (jI aw)] [.int (jI fa), .int (jI fb), .int (jI fc), .int (jI fd), .int (jI nu), .int (jI nv), .int (jI aw)] (wi_m fa fb fc fd lim) := by
  refine mi_of (by decide) (Nat.le_of_ble_eq_true rfl) ?_
  intro p e s m args below meth c D A C hW ls hl
  have C : cx_ p s m args meth c cX1_within 6 RX1 (some .int) D A := C
  have hx := C.1
  have hb := C.2.1
  have hown := C.2.2.2.1
  have hts := C.2.2.2.2.1
  have hl : lv_has ls 6 [(0, .ref h0), (1, .int (jI lim))] := hl
  have hm := (mo_rng h1).1
  refine lv_iload_n hx hb dX1_within_0 rfl (lv_at hl 1 rfl) ?_
  refine jv_sipush hx hb dX1_within_1 (by decide) ?_
  refine jv_icmp_le (tgt := 13) hx hb dX1_within_4 (by decide) ⟨by omega, by omega⟩ ⟨by omega, by omega⟩ (fun c_4 => ?_) (fun c_4 => ?_)
  · refine lv_iload_n hx hb dX1_within_13 rfl (lv_at hl 1 rfl) ?_
    refine jv_as (y := mo_ lim) (by unfold mo_; rw [if_neg (by omega)]) ?_
    refine lv_istore_n (lv' := [(2, .int (jI (mo_ lim))), (0, .ref h0), (1, .int (jI lim))]) hx hb dX1_within_14 rfl hl (by decide) rfl (fun ls hl => ?_)
    refine jv_iconst hx hb dX1_within_15 ?_
    refine lv_istore_n (lv' := [(3, .int (jI 0)), (2, .int (jI (mo_ lim))), (0, .ref h0), (1, .int (jI lim))]) hx hb dX1_within_16 rfl hl (by decide) rfl (fun ls hl => ?_)
    refine jv_bipush hx hb dX1_within_17 (by decide) ?_
    refine lv_istore (lv' := [(4, .int (jI (-30))), (3, .int (jI 0)), (2, .int (jI (mo_ lim))), (0, .ref h0), (1, .int (jI lim))]) hx hb dX1_within_19 hl (by decide) rfl (fun ls hl => ?_)
    refine lp_X1_within_o C hk hm 61 (-30) 0 _ _ ls (by omega) (by omega) hW (lv_sub hl [3, 2, 1, 0] rfl) (fun t2 H locs ls e1 hW hl => ?_)
    refine lv_iload_n hx hb dX1_within_80 rfl (lv_at hl 2 rfl) ?_
    exact mi_reti C hW e1 rfl dX1_within_81
  · refine jv_sipush hx hb dX1_within_7 (by decide) ?_
    refine lv_goto (tgt := 14) hx hb dX1_within_10 (by decide) ?_
    refine jv_as (y := mo_ lim) (by unfold mo_; rw [if_pos (by omega)]) ?_
    refine lv_istore_n (lv' := [(2, .int (jI (mo_ lim))), (0, .ref h0), (1, .int (jI lim))]) hx hb dX1_within_14 rfl hl (by decide) rfl (fun ls hl => ?_)
    refine jv_iconst hx hb dX1_within_15 ?_
    refine lv_istore_n (lv' := [(3, .int (jI 0)), (2, .int (jI (mo_ lim))), (0, .ref h0), (1, .int (jI lim))]) hx hb dX1_within_16 rfl hl (by decide) rfl (fun ls hl => ?_)
    refine jv_bipush hx hb dX1_within_17 (by decide) ?_
    refine lv_istore (lv' := [(4, .int (jI (-30))), (3, .int (jI 0)), (2, .int (jI (mo_ lim))), (0, .ref h0), (1, .int (jI lim))]) hx hb dX1_within_19 hl (by decide) rfl (fun ls hl => ?_)
    refine lp_X1_within_o C hk hm 61 (-30) 0 _ _ ls (by omega) (by omega) hW (lv_sub hl [3, 2, 1, 0] rfl) (fun t2 H locs ls e1 hW hl => ?_)
    refine lv_iload_n hx hb dX1_within_80 rfl (lv_at hl 2 rfl) ?_
    exact mi_reti C hW e1 rfl dX1_within_81
end
section
/-! THE CLAIM OUT OF ONE WALK OF THE LAW'S BODY. Your part is whole_start (and what it stands on); all else here is the same for every law, but numbers. -/
def R_law : String := "ShortVectorsLaw"
def lw_P (b : Addr) (xs : List Int32) (args : Array Value) (s : State) : Prop := args = #[.ref b] ∧ s.IntsAt b xs ∧ xs.length ≤ 320 ∧ (Jvm.Cond.and given_1 narrow_1).before args s = true
def lw_Q (_ : Array Value) (s : State) (o : Outcome) (t : State) : Prop := o = .returned (some (.int 1)) ∧ Framed s o t [] 600000 7290000
def lw_Z (below : List Frame) (a : Array Value) (s : State) : State → Prop := fun t => ∃ o, t.status = .running ∧ Ended t below o ∧ lw_Q a s o t
/-- the law's own end, with 1 on the stack, nothing written that was there before, its room as the claim has it -/
theorem lw_ret {p : Program} {l : Launch} {e : Env} {s : State} {m : MethodId} {below : List Frame} {meth : Method} {c : Code} {b : Nat} (hx : p.tables.exec = Jvm.exec) (hb : c.code = code) (hr : meth.sig.returnType = ret) (hlocks : meth.locks = false) {pc : Nat} {H : Heap} {ls : Array Slot} (hdg : decode code pc = .ok (.ireturn, 1)) : W p l e room_1 s m #[Value.ref b] below meth c H [] 600000 7290000 (lw_Z below #[Value.ref b] s) (F0 m pc ls [.int 1]) := by
  intro T hT X
  obtain ⟨fs, hret, hrun, hended, hW, hframe⟩ := X.leave (v := some (.int 1)) (hlocks := hlocks) (fun h => by rw [hr] at h; cases h)
  have hmeth' : T.vm.method? m = some meth := X.method'
  refine ⟨T.setFrames fs, ?_, .returned (some (.int 1)), hrun, hended, rfl, ⟨_, rfl⟩, hW, hframe⟩
  jvm_step X.here [X.here.top, hx, hb, hdg, hmeth', hr, ret, narrow_b1]
  (try refine ⟨rfl, ?_⟩); (try refine ⟨rfl, ?_⟩)
  first | (intro acts; rw [hret _ acts rfl rfl rfl]) | rw [hret _ _ rfl rfl rfl]
  exact Steps.refl _
/-- what holds at the law's entry: the machine, the code, the tables' words (any of lw_tbl by 'hts w (by decide +kernel)'), the script of L ints xs at the cell b, what the Statement gives of the start (any of its parts by flat_of_before) -/
def lw_At (p : Program) (s : State) (m : MethodId) (meth : Method) (c : Code) (b L : Nat) (xs : Nat → Int32) : Prop :=
  p.tables.exec = Jvm.exec ∧ c.code = code ∧ meth.sig.returnType = ret ∧ c.maxLocals = 4 ∧ s.vm.findClass R_law = some m.cls ∧ (∀ w ∈ lw_tbl, w.before #[Value.ref b] s = true) ∧ va_X b L xs s s.heap ∧ b < s.heap.size ∧ meth.locks = false ∧ (Jvm.Cond.and given_1 narrow_1).before #[Value.ref b] s = true
/-! ===== calls over the law's two objects ===== -/
abbrev w2_ (q0 q1 : Nat) (f0 f1 : List Value) : va_W := [(q0, .inr (0, f0)), (q1, .inr (1, f1))]
section LC
variable {p : Program} {l : Launch} {e : Env} {R : Room} {s : State} {m : MethodId} {args : Array Value} {below : List Frame} {meth : Method} {c : Code} {H : Heap} {locs : List Loc} {cells slots : Nat} {Q : State → Prop}
variable {cc : ByteArray} {pc : Nat} {ls : Array Slot} {rest : List Value}
variable {D : va_G} {A : Nat → Prop} {nL : Nat} {own : String} {rt : Option FieldType} {st0 : List Value} {q0 q1 : Nat} {f0 f1 f2 : List Value}
theorem ca_ {y : MethodName} {b2 : ByteArray} {nL2 n idx : Nat} {rt2 : Option FieldType} {rm2 : Room} {As : List Value} {r : Int} (C : cx_ p s m args meth c cc nL own rt D A) (hW : wd_ D A s H locs (w2_ q0 q1 f0 f1)) (hM : mi_ l y b2 nL2 rt2 rm2 q0 0 As f0 f2 r) (hg : GoodIn lw_all (wsV own idx RX0 y (ws_ y b2 nL2 rt2))) (hz : rm2.cells = 0 ∧ rm2.slots = 0)
    (hdn : y.cls = RX0 ∧ y.cls ≠ "java/lang/invoke/MethodHandle" ∧ y.cls ≠ "java/lang/invoke/VarHandle" ∧ (parseMethodDescriptor y.desc).map (fun d => d.parameters.length) = some n) (hR : rm2.frames + 1 ≤ R.frames ∧ 8 + (nL2 + 11) + rm2.locals ≤ R.locals) (hn : As.length = n) (hls : ls.size = nL) (hst : st0 = As.reverse ++ .ref q0 :: rest) (hrm : (rest.map fun v => v.category).sum ≤ 8) (hf : cells ≤ R.cells ∧ slots ≤ R.slots) (hd : decode cc pc = .ok (.invokevirtual idx, 3))
    (kk : ∀ (H : Heap) (locs : List Loc), wd_ D A s H locs (w2_ q0 q1 f2 f1) → W p l e R s m args below meth c H locs cells slots Q (F0 m (pc + 3) ls (.int (jI r) :: rest))) : W p l e R s m args below meth c H locs cells slots Q (F0 m pc ls st0) := by
  obtain ⟨hx, hb, hml, hown, hts, hr, hlk, hK, hA⟩ := C
  obtain ⟨hP, hD, hS⟩ := hW
  have hPc := hP.sub (ws' := ob_ q0 0 f0) [0] rfl
  have hDc := hD.sub (ws' := ob_ q0 0 f0) [0] (by decide) rfl
  have hFc := va_free (wc := ob_ q0 0 f0) hD hS hA [0] rfl
  refine va_calli (va_runV (As := As) (rest := rest) ⟨hx, hb, hml, hown, hts⟩ (hM D H.size) (cwV n hts hg rfl hz.1 hz.2 hdn hR) ⟨fun a U g mk q => by obtain ⟨q0, q1, qP, qK, qD⟩ := q; exact ⟨q0, q1, qP, va_K.moved (u := U) (U := U.calling g mk a) (Vm.Alike.refl U.vm) qK, qD⟩, va_recv hK hPc (ci := 0) (q0 := 0) (q := (RX0, TX0, 11)) rfl rfl, fun U hU hW => ⟨rfl, by rw [hU], by rw [hU]; exact hPc, va_K.moved hW.alike hK, hDc.weaken (fun _ _ _ _ => trivial)⟩⟩ rfl hn hls hst (lv_room hrm) hd hf) hS (fun q _ h => hFc q h) hFc (fun x u t H1 locs1 ht hvm hp hB hz1 hk1 hS1 => ?_)
  rw [show x = jI r from hp]
  obtain ⟨hP1, hK1, hD1⟩ := hB
  rw [ht] at hP1
  obtain ⟨hP, hD⟩ := va_join (wr := [(q1, .inr (1, f1))]) (w1 := ob_ q0 0 f2) hP hD [0] [1] rfl rfl (by decide) (by decide) hk1 hFc hP1 hD1
  exact kk H1 locs1 ⟨hP.sub (ws' := w2_ q0 q1 f2 f1) [1, 0] rfl, hD.sub (ws' := w2_ q0 q1 f2 f1) [1, 0] (by decide) rfl, hS1⟩
theorem cb_ {y : MethodName} {b2 : ByteArray} {nL2 n idx : Nat} {rt2 : Option FieldType} {rm2 : Room} {As : List Value} {r : Int} (C : cx_ p s m args meth c cc nL own rt D A) (hW : wd_ D A s H locs (w2_ q0 q1 f0 f1)) (hM : mi_ l y b2 nL2 rt2 rm2 q1 1 As f1 f2 r) (hg : GoodIn lw_all (wsV own idx RX1 y (ws_ y b2 nL2 rt2))) (hz : rm2.cells = 0 ∧ rm2.slots = 0)
    (hdn : y.cls = RX1 ∧ y.cls ≠ "java/lang/invoke/MethodHandle" ∧ y.cls ≠ "java/lang/invoke/VarHandle" ∧ (parseMethodDescriptor y.desc).map (fun d => d.parameters.length) = some n) (hR : rm2.frames + 1 ≤ R.frames ∧ 8 + (nL2 + 11) + rm2.locals ≤ R.locals) (hn : As.length = n) (hls : ls.size = nL) (hst : st0 = As.reverse ++ .ref q1 :: rest) (hrm : (rest.map fun v => v.category).sum ≤ 8) (hf : cells ≤ R.cells ∧ slots ≤ R.slots) (hd : decode cc pc = .ok (.invokevirtual idx, 3))
    (kk : ∀ (H : Heap) (locs : List Loc), wd_ D A s H locs (w2_ q0 q1 f0 f2) → W p l e R s m args below meth c H locs cells slots Q (F0 m (pc + 3) ls (.int (jI r) :: rest))) : W p l e R s m args below meth c H locs cells slots Q (F0 m pc ls st0) := by
  obtain ⟨hx, hb, hml, hown, hts, hr, hlk, hK, hA⟩ := C
  obtain ⟨hP, hD, hS⟩ := hW
  have hPc := hP.sub (ws' := ob_ q1 1 f1) [1] rfl
  have hDc := hD.sub (ws' := ob_ q1 1 f1) [1] (by decide) rfl
  have hFc := va_free (wc := ob_ q1 1 f1) hD hS hA [1] rfl
  refine va_calli (va_runV (As := As) (rest := rest) ⟨hx, hb, hml, hown, hts⟩ (hM D H.size) (cwV n hts hg rfl hz.1 hz.2 hdn hR) ⟨fun a U g mk q => by obtain ⟨q0, q1, qP, qK, qD⟩ := q; exact ⟨q0, q1, qP, va_K.moved (u := U) (U := U.calling g mk a) (Vm.Alike.refl U.vm) qK, qD⟩, va_recv hK hPc (ci := 1) (q0 := 0) (q := (RX1, TX1, 7)) rfl rfl, fun U hU hW => ⟨rfl, by rw [hU], by rw [hU]; exact hPc, va_K.moved hW.alike hK, hDc.weaken (fun _ _ _ _ => trivial)⟩⟩ rfl hn hls hst (lv_room hrm) hd hf) hS (fun q _ h => hFc q h) hFc (fun x u t H1 locs1 ht hvm hp hB hz1 hk1 hS1 => ?_)
  rw [show x = jI r from hp]
  obtain ⟨hP1, hK1, hD1⟩ := hB
  rw [ht] at hP1
  obtain ⟨hP, hD⟩ := va_join (wr := [(q0, .inr (0, f0))]) (w1 := ob_ q1 1 f2) hP hD [1] [0] rfl rfl (by decide) (by decide) hk1 hFc hP1 hD1
  exact kk H1 locs1 ⟨hP.sub (ws' := w2_ q0 q1 f0 f2) [0, 1] rfl, hD.sub (ws' := w2_ q0 q1 f0 f2) [0, 1] (by decide) rfl, hS1⟩
theorem cna_ {y : MethodName} {b2 : ByteArray} {nL2 idx : Nat} {rm2 : Room} (C : cx_ p s m args meth c cc nL own rt D A) (hW : wd_ D A s H locs (ob_ q0 0 f0)) (hM : mv_ l y b2 nL2 none rm2 q0 0 [] f0 f2) (hg : GoodIn lw_all (ws_ y b2 nL2 none)) (hz : rm2.cells = 0 ∧ rm2.slots = 0) (hini : Cond.initialized y.cls ∈ lw_all) (hlink : Cond.methodLink own idx y ∈ lw_all) (hin : Cond.instanceMethod y ∈ lw_all) (hy1 : y.name = "<init>")
    (hdn : y.cls ≠ "java/lang/invoke/MethodHandle" ∧ y.cls ≠ "java/lang/invoke/VarHandle" ∧ (parseMethodDescriptor y.desc).map (fun d => d.parameters.length) = some 0) (hR : rm2.frames + 1 ≤ R.frames ∧ 8 + (nL2 + 11) + rm2.locals ≤ R.locals) (hls : ls.size = nL) (hrm : (rest.map fun v => v.category).sum ≤ 8) (hf : cells ≤ R.cells ∧ slots ≤ R.slots) (hd : decode cc pc = .ok (.invokespecial idx, 3))
    (kk : ∀ (H : Heap) (locs : List Loc), wd_ D A s H locs (ob_ q0 0 f2) → W p l e R s m args below meth c H locs cells slots Q (F0 m (pc + 3) ls rest)) : W p l e R s m args below meth c H locs cells slots Q (F0 m pc ls (.ref q0 :: rest)) := by
  obtain ⟨hx, hb, hml, hown, hts, hr, hlk, hK, hA⟩ := C
  obtain ⟨hP, hD, hS⟩ := hW
  have hPc := hP.sub (ws' := ob_ q0 0 f0) [0] rfl
  have hDc := hD.sub (ws' := ob_ q0 0 f0) [0] (by decide) rfl
  have hFc := va_free (wc := ob_ q0 0 f0) hD hS hA [0] rfl
  refine va_callv (va_runI (As := []) (rest := rest) ⟨hx, hb, hml, hown, hts⟩ (hM D H.size) (cwI 0 hts hg rfl hz.1 hz.2 (hts _ hini) (hts _ hlink) (hts _ hin) hy1 hdn hR) ⟨fun a U g mk q => by obtain ⟨q0, q1, qP, qK, qD⟩ := q; exact ⟨q0, q1, qP, va_K.moved (u := U) (U := U.calling g mk a) (Vm.Alike.refl U.vm) qK, qD⟩, fun U hU hW => ⟨rfl, by rw [hU], by rw [hU]; exact hPc, va_K.moved hW.alike hK, hDc.weaken (fun _ _ _ _ => trivial)⟩⟩ rfl rfl hls rfl (lv_room hrm) hd hf) hS (fun q _ h => hFc q h) hFc (fun u t H1 locs1 ht hvm hp hB hz1 hk1 hS1 => ?_)
  obtain ⟨hP1, hK1, hD1⟩ := hB
  rw [ht] at hP1
  obtain ⟨hP, hD⟩ := va_join (wr := []) (w1 := ob_ q0 0 f2) hP hD [0] [] rfl rfl (by decide) (by decide) hk1 hFc hP1 hD1
  exact kk H1 locs1 ⟨hP.sub (ws' := ob_ q0 0 f2) [0] rfl, hD.sub (ws' := ob_ q0 0 f2) [0] (by decide) rfl, hS1⟩
theorem cnb_ {y : MethodName} {b2 : ByteArray} {nL2 idx : Nat} {rm2 : Room} (C : cx_ p s m args meth c cc nL own rt D A) (hW : wd_ D A s H locs (w2_ q0 q1 f0 f1)) (hM : mv_ l y b2 nL2 none rm2 q1 1 [] f1 f2) (hg : GoodIn lw_all (ws_ y b2 nL2 none)) (hz : rm2.cells = 0 ∧ rm2.slots = 0) (hini : Cond.initialized y.cls ∈ lw_all) (hlink : Cond.methodLink own idx y ∈ lw_all) (hin : Cond.instanceMethod y ∈ lw_all) (hy1 : y.name = "<init>")
    (hdn : y.cls ≠ "java/lang/invoke/MethodHandle" ∧ y.cls ≠ "java/lang/invoke/VarHandle" ∧ (parseMethodDescriptor y.desc).map (fun d => d.parameters.length) = some 0) (hR : rm2.frames + 1 ≤ R.frames ∧ 8 + (nL2 + 11) + rm2.locals ≤ R.locals) (hls : ls.size = nL) (hrm : (rest.map fun v => v.category).sum ≤ 8) (hf : cells ≤ R.cells ∧ slots ≤ R.slots) (hd : decode cc pc = .ok (.invokespecial idx, 3))
    (kk : ∀ (H : Heap) (locs : List Loc), wd_ D A s H locs (w2_ q0 q1 f0 f2) → W p l e R s m args below meth c H locs cells slots Q (F0 m (pc + 3) ls rest)) : W p l e R s m args below meth c H locs cells slots Q (F0 m pc ls (.ref q1 :: rest)) := by
  obtain ⟨hx, hb, hml, hown, hts, hr, hlk, hK, hA⟩ := C
  obtain ⟨hP, hD, hS⟩ := hW
  have hPc := hP.sub (ws' := ob_ q1 1 f1) [1] rfl
  have hDc := hD.sub (ws' := ob_ q1 1 f1) [1] (by decide) rfl
  have hFc := va_free (wc := ob_ q1 1 f1) hD hS hA [1] rfl
  refine va_callv (va_runI (As := []) (rest := rest) ⟨hx, hb, hml, hown, hts⟩ (hM D H.size) (cwI 0 hts hg rfl hz.1 hz.2 (hts _ hini) (hts _ hlink) (hts _ hin) hy1 hdn hR) ⟨fun a U g mk q => by obtain ⟨q0, q1, qP, qK, qD⟩ := q; exact ⟨q0, q1, qP, va_K.moved (u := U) (U := U.calling g mk a) (Vm.Alike.refl U.vm) qK, qD⟩, fun U hU hW => ⟨rfl, by rw [hU], by rw [hU]; exact hPc, va_K.moved hW.alike hK, hDc.weaken (fun _ _ _ _ => trivial)⟩⟩ rfl rfl hls rfl (lv_room hrm) hd hf) hS (fun q _ h => hFc q h) hFc (fun u t H1 locs1 ht hvm hp hB hz1 hk1 hS1 => ?_)
  obtain ⟨hP1, hK1, hD1⟩ := hB
  rw [ht] at hP1
  obtain ⟨hP, hD⟩ := va_join (wr := [(q0, .inr (0, f0))]) (w1 := ob_ q1 1 f2) hP hD [1] [0] rfl rfl (by decide) (by decide) hk1 hFc hP1 hD1
  exact kk H1 locs1 ⟨hP.sub (ws' := w2_ q0 q1 f0 f2) [0, 1] rfl, hD.sub (ws' := w2_ q0 q1 f0 f2) [0, 1] (by decide) rfl, hS1⟩
/-- a word of the script, as a whole number -/
def sv_ (xs : Nat → Int32) (z : Int) : Int := (xs z.toNat).toInt
theorem sv_rng (xs : Nat → Int32) (z : Int) : rI (sv_ xs z) := jI_rng _
theorem jv_sld (hx : p.tables.exec = Jvm.exec) (hb : c.code = cc) {b L : Nat} {xs : Nat → Int32} {H0 : Heap} (hX : va_X b L xs s H0) (hbl : b < H0.size) (hbA : ¬ A b) (hS : va_S A H0 H locs) {z : Int} (h1 : 0 ≤ z) (h2 : z < L) (hL : L ≤ 320) (hd : decode cc pc = .ok (.iaload, 1)) (k : W p l e R s m args below meth c H locs cells slots Q (F0 m (pc + 1) ls (.int (jI (sv_ xs z)) :: rest))) : W p l e R s m args below meth c H locs cells slots Q (F0 m pc ls (.int (jI z) :: .ref b :: rest)) := by
  have hz : rI z := ⟨by omega, by omega⟩
  refine va_sld hx hb hX hbl hbA hS (vp_in_iff.mpr ⟨by rw [toInt_jI hz]; exact h1, by rw [toInt_jI hz]; exact h2⟩) hd ?_
  have e1 : (jI z).toNatClampNeg = z.toNat := Int32.toNatClampNeg_ofInt_of_le (by omega) (by omega)
  rw [e1, ← jI_to (xs z.toNat)]
  exact k
theorem jv_slen (hx : p.tables.exec = Jvm.exec) (hb : c.code = cc) {b L : Nat} {xs : Nat → Int32} {H0 : Heap} (hX : va_X b L xs s H0) (hbl : b < H0.size) (hbA : ¬ A b) (hS : va_S A H0 H locs) (hd : decode cc pc = .ok (.arraylength, 1)) (k : W p l e R s m args below meth c H locs cells slots Q (F0 m (pc + 1) ls (.int (jI (L : Int)) :: rest))) : W p l e R s m args below meth c H locs cells slots Q (F0 m pc ls (.ref b :: rest)) := by
  refine va_slen hx hb hX hbl hbA hS hd ?_
  rw [← Int32.ofInt_eq_ofNat]
  exact k
theorem jv_same (hx : p.tables.exec = Jvm.exec) (hb : c.code = cc) {x y : Int} {off : Int} {tgt : Nat} (hd : decode cc pc = .ok (.if_icmp .eq off, 3)) (ht : (pc : Int) + off = (tgt : Int)) (h : x = y) (k : W p l e R s m args below meth c H locs cells slots Q (F0 m tgt ls rest)) : W p l e R s m args below meth c H locs cells slots Q (F0 m pc ls (.int (jI y) :: .int (jI x) :: rest)) := lv_icmp_eq hx hb hd ht (fun _ => k) (fun q => absurd (congrArg jI h) q)
end LC
theorem fn_rt {px py qx qy x y bu bv : Int} (hb : bd_ px py qx qy) (hX : -1000 ≤ x ∧ x ≤ 1000) (hY : -1000 ≤ y ∧ y ≤ 1000) (h1 : rI bu) (h2 : rI bv) : rt3_ (fn_ px py qx qy x y bu bv) := by
  unfold fn_
  refine up_keep rt3_ (fi_ px py qx qy x y - 1) (fi_ px py qx qy x y + 3) (fun k t a1 a2 h => ?_) 4 _ _ (Int.le_refl _) (by omega) ⟨(by decide : rI 2147483647), h1, h2⟩
  refine up_keep rt3_ (fj_ px py qx qy x y - 1) (fj_ px py qx qy x y + 3) (fun lv t a3 a4 h => ?_) 4 _ _ (Int.le_refl _) (by omega) h
  obtain ⟨⟨w1, w2⟩, w3, w4⟩ := near_sz (X := x) (Y := y) (k := k) (l := lv) hb a1 (by omega) a3 (by omega)
  have s1 := sq_le w1 w2
  have s2 := sq_le w3 w4
  have s3 := sqn_ (x - (k * px + lv * qx))
  have s4 := sqn_ (y - (k * py + lv * qy))
  exact of_rt (show rI ((x - (k * px + lv * qx)) * (x - (k * px + lv * qx)) + (y - (k * py + lv * qy)) * (y - (k * py + lv * qy))) from ⟨by omega, by omega⟩) ⟨by omega, by omega⟩ ⟨by omega, by omega⟩ h
end
section
set_option maxHeartbeats 4000000 in
set_option maxRecDepth 100000 in
theorem law_loop {p : Program} {l : Launch} {e : Env} {s : State} {m : MethodId} {below : List Frame} {meth : Method} {c : Code} {D : va_G} {b L q0 q1 : Nat} {xs : Nat → Int32} (hL : L ≤ 320) (hX : va_X b L xs s s.heap) (hbl : b < s.heap.size) (C : cx_ p s m #[Value.ref b] meth c code 4 R_law ret D (fun q : Nat => s.heap.size ≤ q)) :
    ∀ (n : Nat) (i fa fb fc fd px py qx qy bs bu bv nu nv aw : Int) (H : Heap) (locs : List Loc) (ls : Array Slot), 0 ≤ i → i ≤ 400 → (L : Int) - i < n → st_ fa fb fc fd px py qx qy → rI bu → rI bv → wd_ D (fun q : Nat => s.heap.size ≤ q) s H locs (w2_ q0 q1 [.int (jI fa), .int (jI fb), .int (jI fc), .int (jI fd), .int (jI px), .int (jI py), .int (jI qx), .int (jI qy), .int (jI bs), .int (jI bu), .int (jI bv)] [.int (jI fa), .int (jI fb), .int (jI fc), .int (jI fd), .int (jI nu), .int (jI nv), .int (jI aw)]) → lv_has ls 4 [(0, .ref b), (1, .ref q0), (2, .ref q1), (3, .int (jI i))] → W p l e room_1 s m #[Value.ref b] below meth c H locs 2 18 (lw_Z below #[Value.ref b] s) (F0 m 18 ls []) := by
  have hx := C.1
  have hb := C.2.1
  have hbA : ¬ (fun q : Nat => s.heap.size ≤ q) b := Nat.not_le.mpr hbl
  intro n
  induction n with
  | zero =>
    intro i fa fb fc fd px py qx qy bs bu bv nu nv aw H locs ls hi hi2 hn hst hu hv hW hl
    refine lv_iload_n hx hb dL_law_18 rfl (lv_at hl 3 rfl) ?_
    refine lv_aload_n hx hb dL_law_19 rfl (lv_at hl 0 rfl) ?_
    refine jv_slen hx hb hX hbl hbA hW.2.2 dL_law_20 ?_
    refine jv_iconst hx hb dL_law_21 ?_
    refine jv_isub hx hb dL_law_22 ?_
    refine jv_icmp_gt (tgt := 357) hx hb dL_law_23 (by decide) ⟨by omega, by omega⟩ ⟨by omega, by omega⟩ (fun c_23 => ?_) (fun c_23 => ?_)
    · refine lv_iconst (v := 1) hx hb dL_law_357 (by decide) ?_
      refine va_forget (fun q hq => hW.2.2.2.2 q hq) ?_
      refine W.widen (k := 600000) (n := 7290000) (by decide) (by decide) ?_
      exact lw_ret hx hb C.2.2.2.2.2.1 C.2.2.2.2.2.2.1 dL_law_358
    · exfalso; omega
  | succ n ih =>
    intro i fa fb fc fd px py qx qy bs bu bv nu nv aw H locs ls hi hi2 hn hst hu hv hW hl
    have hk := hst.1
    have hbd := (st_red hst).2.1
    refine lv_iload_n hx hb dL_law_18 rfl (lv_at hl 3 rfl) ?_
    refine lv_aload_n hx hb dL_law_19 rfl (lv_at hl 0 rfl) ?_
    refine jv_slen hx hb hX hbl hbA hW.2.2 dL_law_20 ?_
    refine jv_iconst hx hb dL_law_21 ?_
    refine jv_isub hx hb dL_law_22 ?_
    refine jv_icmp_gt (tgt := 357) hx hb dL_law_23 (by decide) ⟨by omega, by omega⟩ ⟨by omega, by omega⟩ (fun c_23 => ?_) (fun c_23 => ?_)
    · refine lv_iconst (v := 1) hx hb dL_law_357 (by decide) ?_
      refine va_forget (fun q hq => hW.2.2.2.2 q hq) ?_
      refine W.widen (k := 600000) (n := 7290000) (by decide) (by decide) ?_
      exact lw_ret hx hb C.2.2.2.2.2.1 C.2.2.2.2.2.2.1 dL_law_358
    · refine lv_aload_n hx hb dL_law_26 rfl (lv_at hl 0 rfl) ?_
      refine lv_iload_n hx hb dL_law_27 rfl (lv_at hl 3 rfl) ?_
      refine jv_sld hx hb hX hbl hbA hW.2.2 (by omega) (by omega) hL dL_law_28 ?_
      refine lv_bipush (v := 15) hx hb dL_law_29 (by decide) ?_
      refine lv_iand hx hb dL_law_31 ?_
      obtain ⟨j, hj, ej⟩ := pk_andE (jI (sv_ xs i)) (m := 15) 4 (by decide)
      rw [ej]
      rcases (show j = 0 ∨ j = 1 ∨ j = 2 ∨ j = 3 ∨ j = 4 ∨ j = 5 ∨ j = 6 ∨ j = 7 ∨ j = 8 ∨ 9 ≤ j by omega) with rfl | rfl | rfl | rfl | rfl | rfl | rfl | rfl | rfl | hj9
      · refine lv_tableIn (tgt := 84) (off := 52) hx hb dL_law_32 (by decide) (by decide) (by decide) (by decide) ?_
        cases hq : okB_ (sv_ xs (i + 1)) (sv_ xs (i + 2)) (sv_ xs (i + 3)) (sv_ xs (i + 4)) with
        | false =>
          refine lv_aload_n hx hb dL_law_84 rfl (lv_at hl 1 rfl) ?_
          refine lv_aload_n hx hb dL_law_85 rfl (lv_at hl 0 rfl) ?_
          refine lv_iload_n hx hb dL_law_86 rfl (lv_at hl 3 rfl) ?_
          refine jv_iconst hx hb dL_law_87 ?_
          refine jv_iadd hx hb dL_law_88 ?_
          refine jv_sld hx hb hX hbl hbA hW.2.2 (by omega) (by omega) hL dL_law_89 ?_
          refine lv_aload_n hx hb dL_law_90 rfl (lv_at hl 0 rfl) ?_
          refine lv_iload_n hx hb dL_law_91 rfl (lv_at hl 3 rfl) ?_
          refine jv_iconst hx hb dL_law_92 ?_
          refine jv_iadd hx hb dL_law_93 ?_
          refine jv_sld hx hb hX hbl hbA hW.2.2 (by omega) (by omega) hL dL_law_94 ?_
          refine lv_aload_n hx hb dL_law_95 rfl (lv_at hl 0 rfl) ?_
          refine lv_iload_n hx hb dL_law_96 rfl (lv_at hl 3 rfl) ?_
          refine jv_iconst hx hb dL_law_97 ?_
          refine jv_iadd hx hb dL_law_98 ?_
          refine jv_sld hx hb hX hbl hbA hW.2.2 (by omega) (by omega) hL dL_law_99 ?_
          refine lv_aload_n hx hb dL_law_100 rfl (lv_at hl 0 rfl) ?_
          refine lv_iload_n hx hb dL_law_101 rfl (lv_at hl 3 rfl) ?_
          refine jv_iconst hx hb dL_law_102 ?_
          refine jv_iadd hx hb dL_law_103 ?_
          refine jv_sld hx hb hX hbl hbA hW.2.2 (by omega) (by omega) hL dL_law_104 ?_
          refine ca_ C hW (met_X0_steps_no l q0 fa fb fc fd px py qx qy bs bu bv (sv_ xs (i + 1)) (sv_ xs (i + 2)) (sv_ xs (i + 3)) (sv_ xs (i + 4)) (sv_rng xs _) (sv_rng xs _) (sv_rng xs _) (sv_rng xs _) hq) (lw_V q67 q68 q69 q9 q70) ⟨rfl, rfl⟩ dn_X0_steps ⟨Nat.le_of_ble_eq_true rfl, Nat.le_of_ble_eq_true rfl⟩ rfl hl.1 rfl (Nat.le_of_ble_eq_true rfl) ⟨Nat.le_of_ble_eq_true rfl, Nat.le_of_ble_eq_true rfl⟩ dL_law_105 (fun H locs hW => ?_)
          refine lv_aload_n hx hb dL_law_108 rfl (lv_at hl 2 rfl) ?_
          refine lv_aload_n hx hb dL_law_109 rfl (lv_at hl 0 rfl) ?_
          refine lv_iload_n hx hb dL_law_110 rfl (lv_at hl 3 rfl) ?_
          refine jv_iconst hx hb dL_law_111 ?_
          refine jv_iadd hx hb dL_law_112 ?_
          refine jv_sld hx hb hX hbl hbA hW.2.2 (by omega) (by omega) hL dL_law_113 ?_
          refine lv_aload_n hx hb dL_law_114 rfl (lv_at hl 0 rfl) ?_
          refine lv_iload_n hx hb dL_law_115 rfl (lv_at hl 3 rfl) ?_
          refine jv_iconst hx hb dL_law_116 ?_
          refine jv_iadd hx hb dL_law_117 ?_
          refine jv_sld hx hb hX hbl hbA hW.2.2 (by omega) (by omega) hL dL_law_118 ?_
          refine lv_aload_n hx hb dL_law_119 rfl (lv_at hl 0 rfl) ?_
          refine lv_iload_n hx hb dL_law_120 rfl (lv_at hl 3 rfl) ?_
          refine jv_iconst hx hb dL_law_121 ?_
          refine jv_iadd hx hb dL_law_122 ?_
          refine jv_sld hx hb hX hbl hbA hW.2.2 (by omega) (by omega) hL dL_law_123 ?_
          refine lv_aload_n hx hb dL_law_124 rfl (lv_at hl 0 rfl) ?_
          refine lv_iload_n hx hb dL_law_125 rfl (lv_at hl 3 rfl) ?_
          refine jv_iconst hx hb dL_law_126 ?_
          refine jv_iadd hx hb dL_law_127 ?_
          refine jv_sld hx hb hX hbl hbA hW.2.2 (by omega) (by omega) hL dL_law_128 ?_
          refine cb_ C hW (met_X1_steps_no l q1 fa fb fc fd nu nv aw (sv_ xs (i + 1)) (sv_ xs (i + 2)) (sv_ xs (i + 3)) (sv_ xs (i + 4)) (sv_rng xs _) (sv_rng xs _) (sv_rng xs _) (sv_rng xs _) hq) (lw_V q159 q160 q161 q10 q162) ⟨rfl, rfl⟩ dn_X1_steps ⟨Nat.le_of_ble_eq_true rfl, Nat.le_of_ble_eq_true rfl⟩ rfl hl.1 rfl (Nat.le_of_ble_eq_true rfl) ⟨Nat.le_of_ble_eq_true rfl, Nat.le_of_ble_eq_true rfl⟩ dL_law_129 (fun H locs hW => ?_)
          refine jv_same (tgt := 351) hx hb dL_law_132 (by decide) rfl ?_
          refine jv_iinc (lv' := [(3, .int (jI (i + 5))), (0, .ref b), (1, .ref q0), (2, .ref q1)]) hx hb dL_law_351 hl (k := 3) rfl (by decide) rfl (fun ls hl => ?_)
          refine lv_goto (tgt := 18) hx hb dL_law_354 (by decide) ?_
          exact ih (i + 5) fa fb fc fd px py qx qy bs bu bv nu nv aw _ _ ls (by omega) (by omega) (by omega) hst hu hv hW (lv_sub hl [1, 2, 3, 0] rfl)
        | true =>
          have hk2 := okB_iff.mp hq
          obtain ⟨r1, r2, r3, r4, he, -, -⟩ := rd_ok hk2
          refine lv_aload_n hx hb dL_law_84 rfl (lv_at hl 1 rfl) ?_
          refine lv_aload_n hx hb dL_law_85 rfl (lv_at hl 0 rfl) ?_
          refine lv_iload_n hx hb dL_law_86 rfl (lv_at hl 3 rfl) ?_
          refine jv_iconst hx hb dL_law_87 ?_
          refine jv_iadd hx hb dL_law_88 ?_
          refine jv_sld hx hb hX hbl hbA hW.2.2 (by omega) (by omega) hL dL_law_89 ?_
          refine lv_aload_n hx hb dL_law_90 rfl (lv_at hl 0 rfl) ?_
          refine lv_iload_n hx hb dL_law_91 rfl (lv_at hl 3 rfl) ?_
          refine jv_iconst hx hb dL_law_92 ?_
          refine jv_iadd hx hb dL_law_93 ?_
          refine jv_sld hx hb hX hbl hbA hW.2.2 (by omega) (by omega) hL dL_law_94 ?_
          refine lv_aload_n hx hb dL_law_95 rfl (lv_at hl 0 rfl) ?_
          refine lv_iload_n hx hb dL_law_96 rfl (lv_at hl 3 rfl) ?_
          refine jv_iconst hx hb dL_law_97 ?_
          refine jv_iadd hx hb dL_law_98 ?_
          refine jv_sld hx hb hX hbl hbA hW.2.2 (by omega) (by omega) hL dL_law_99 ?_
          refine lv_aload_n hx hb dL_law_100 rfl (lv_at hl 0 rfl) ?_
          refine lv_iload_n hx hb dL_law_101 rfl (lv_at hl 3 rfl) ?_
          refine jv_iconst hx hb dL_law_102 ?_
          refine jv_iadd hx hb dL_law_103 ?_
          refine jv_sld hx hb hX hbl hbA hW.2.2 (by omega) (by omega) hL dL_law_104 ?_
          refine ca_ C hW (met_X0_steps_ok l q0 fa fb fc fd px py qx qy bs bu bv (sv_ xs (i + 1)) (sv_ xs (i + 2)) (sv_ xs (i + 3)) (sv_ xs (i + 4)) r1 r2 r3 r4 hk2 he) (lw_V q67 q68 q69 q9 q70) ⟨rfl, rfl⟩ dn_X0_steps ⟨Nat.le_of_ble_eq_true rfl, Nat.le_of_ble_eq_true rfl⟩ rfl hl.1 rfl (Nat.le_of_ble_eq_true rfl) ⟨Nat.le_of_ble_eq_true rfl, Nat.le_of_ble_eq_true rfl⟩ dL_law_105 (fun H locs hW => ?_)
          refine lv_aload_n hx hb dL_law_108 rfl (lv_at hl 2 rfl) ?_
          refine lv_aload_n hx hb dL_law_109 rfl (lv_at hl 0 rfl) ?_
          refine lv_iload_n hx hb dL_law_110 rfl (lv_at hl 3 rfl) ?_
          refine jv_iconst hx hb dL_law_111 ?_
          refine jv_iadd hx hb dL_law_112 ?_
          refine jv_sld hx hb hX hbl hbA hW.2.2 (by omega) (by omega) hL dL_law_113 ?_
          refine lv_aload_n hx hb dL_law_114 rfl (lv_at hl 0 rfl) ?_
          refine lv_iload_n hx hb dL_law_115 rfl (lv_at hl 3 rfl) ?_
          refine jv_iconst hx hb dL_law_116 ?_
          refine jv_iadd hx hb dL_law_117 ?_
          refine jv_sld hx hb hX hbl hbA hW.2.2 (by omega) (by omega) hL dL_law_118 ?_
          refine lv_aload_n hx hb dL_law_119 rfl (lv_at hl 0 rfl) ?_
          refine lv_iload_n hx hb dL_law_120 rfl (lv_at hl 3 rfl) ?_
          refine jv_iconst hx hb dL_law_121 ?_
          refine jv_iadd hx hb dL_law_122 ?_
          refine jv_sld hx hb hX hbl hbA hW.2.2 (by omega) (by omega) hL dL_law_123 ?_
          refine lv_aload_n hx hb dL_law_124 rfl (lv_at hl 0 rfl) ?_
          refine lv_iload_n hx hb dL_law_125 rfl (lv_at hl 3 rfl) ?_
          refine jv_iconst hx hb dL_law_126 ?_
          refine jv_iadd hx hb dL_law_127 ?_
          refine jv_sld hx hb hX hbl hbA hW.2.2 (by omega) (by omega) hL dL_law_128 ?_
          refine cb_ C hW (met_X1_steps_ok l q1 fa fb fc fd nu nv aw (sv_ xs (i + 1)) (sv_ xs (i + 2)) (sv_ xs (i + 3)) (sv_ xs (i + 4)) hk2) (lw_V q159 q160 q161 q10 q162) ⟨rfl, rfl⟩ dn_X1_steps ⟨Nat.le_of_ble_eq_true rfl, Nat.le_of_ble_eq_true rfl⟩ rfl hl.1 rfl (Nat.le_of_ble_eq_true rfl) ⟨Nat.le_of_ble_eq_true rfl, Nat.le_of_ble_eq_true rfl⟩ dL_law_129 (fun H locs hW => ?_)
          refine jv_same (tgt := 351) hx hb dL_law_132 (by decide) rfl ?_
          refine jv_iinc (lv' := [(3, .int (jI (i + 5))), (0, .ref b), (1, .ref q0), (2, .ref q1)]) hx hb dL_law_351 hl (k := 3) rfl (by decide) rfl (fun ls hl => ?_)
          refine lv_goto (tgt := 18) hx hb dL_law_354 (by decide) ?_
          exact ih (i + 5) (sv_ xs (i + 1)) (sv_ xs (i + 2)) (sv_ xs (i + 3)) (sv_ xs (i + 4)) r1 r2 r3 r4 bs bu bv nu nv aw _ _ ls (by omega) (by omega) (by omega) ⟨hk2, he⟩ hu hv hW (lv_sub hl [1, 2, 3, 0] rfl)
      · refine lv_tableIn (tgt := 137) (off := 105) hx hb dL_law_32 (by decide) (by decide) (by decide) (by decide) ?_
        refine lv_aload_n hx hb dL_law_137 rfl (lv_at hl 1 rfl) ?_
        refine lv_aload_n hx hb dL_law_138 rfl (lv_at hl 0 rfl) ?_
        refine lv_iload_n hx hb dL_law_139 rfl (lv_at hl 3 rfl) ?_
        refine jv_iconst hx hb dL_law_140 ?_
        refine jv_iadd hx hb dL_law_141 ?_
        refine jv_sld hx hb hX hbl hbA hW.2.2 (by omega) (by omega) hL dL_law_142 ?_
        refine lv_aload_n hx hb dL_law_143 rfl (lv_at hl 0 rfl) ?_
        refine lv_iload_n hx hb dL_law_144 rfl (lv_at hl 3 rfl) ?_
        refine jv_iconst hx hb dL_law_145 ?_
        refine jv_iadd hx hb dL_law_146 ?_
        refine jv_sld hx hb hX hbl hbA hW.2.2 (by omega) (by omega) hL dL_law_147 ?_
        refine ca_ C hW (met_X0_has l q0 fa fb fc fd px py qx qy bs bu bv (sv_ xs (i + 1)) (sv_ xs (i + 2)) hk (sv_rng xs _) (sv_rng xs _)) (lw_V q74 q75 q76 q9 q77) ⟨rfl, rfl⟩ dn_X0_has ⟨Nat.le_of_ble_eq_true rfl, Nat.le_of_ble_eq_true rfl⟩ rfl hl.1 rfl (Nat.le_of_ble_eq_true rfl) ⟨Nat.le_of_ble_eq_true rfl, Nat.le_of_ble_eq_true rfl⟩ dL_law_148 (fun H locs hW => ?_)
        refine lv_aload_n hx hb dL_law_151 rfl (lv_at hl 2 rfl) ?_
        refine lv_aload_n hx hb dL_law_152 rfl (lv_at hl 0 rfl) ?_
        refine lv_iload_n hx hb dL_law_153 rfl (lv_at hl 3 rfl) ?_
        refine jv_iconst hx hb dL_law_154 ?_
        refine jv_iadd hx hb dL_law_155 ?_
        refine jv_sld hx hb hX hbl hbA hW.2.2 (by omega) (by omega) hL dL_law_156 ?_
        refine lv_aload_n hx hb dL_law_157 rfl (lv_at hl 0 rfl) ?_
        refine lv_iload_n hx hb dL_law_158 rfl (lv_at hl 3 rfl) ?_
        refine jv_iconst hx hb dL_law_159 ?_
        refine jv_iadd hx hb dL_law_160 ?_
        refine jv_sld hx hb hX hbl hbA hW.2.2 (by omega) (by omega) hL dL_law_161 ?_
        refine cb_ C hW (met_X1_has l q1 fa fb fc fd nu nv aw (sv_ xs (i + 1)) (sv_ xs (i + 2)) hk (sv_rng xs _) (sv_rng xs _)) (lw_V q166 q167 q168 q10 q169) ⟨rfl, rfl⟩ dn_X1_has ⟨Nat.le_of_ble_eq_true rfl, Nat.le_of_ble_eq_true rfl⟩ rfl hl.1 rfl (Nat.le_of_ble_eq_true rfl) ⟨Nat.le_of_ble_eq_true rfl, Nat.le_of_ble_eq_true rfl⟩ dL_law_162 (fun H locs hW => ?_)
        refine jv_same (tgt := 351) hx hb dL_law_165 (by decide) rfl ?_
        refine jv_iinc (lv' := [(3, .int (jI (i + 5))), (0, .ref b), (1, .ref q0), (2, .ref q1)]) hx hb dL_law_351 hl (k := 3) rfl (by decide) rfl (fun ls hl => ?_)
        refine lv_goto (tgt := 18) hx hb dL_law_354 (by decide) ?_
        exact ih (i + 5) fa fb fc fd px py qx qy bs bu bv nu nv aw _ _ ls (by omega) (by omega) (by omega) hst hu hv hW (lv_sub hl [1, 2, 3, 0] rfl)
      · refine lv_tableIn (tgt := 170) (off := 138) hx hb dL_law_32 (by decide) (by decide) (by decide) (by decide) ?_
        refine lv_aload_n hx hb dL_law_170 rfl (lv_at hl 1 rfl) ?_
        refine ca_ C hW (met_X0_shortest l q0 fa fb fc fd px py qx qy bs bu bv ) (lw_V q85 q86 q87 q9 q88) ⟨rfl, rfl⟩ dn_X0_shortest ⟨Nat.le_of_ble_eq_true rfl, Nat.le_of_ble_eq_true rfl⟩ rfl hl.1 rfl (Nat.le_of_ble_eq_true rfl) ⟨Nat.le_of_ble_eq_true rfl, Nat.le_of_ble_eq_true rfl⟩ dL_law_171 (fun H locs hW => ?_)
        refine lv_aload_n hx hb dL_law_174 rfl (lv_at hl 2 rfl) ?_
        refine cb_ C hW (met_X1_shortest l q1 fa fb fc fd nu nv aw hk) (lw_V q180 q181 q182 q10 q183) ⟨rfl, rfl⟩ dn_X1_shortest ⟨Nat.le_of_ble_eq_true rfl, Nat.le_of_ble_eq_true rfl⟩ rfl hl.1 rfl (Nat.le_of_ble_eq_true rfl) ⟨Nat.le_of_ble_eq_true rfl, Nat.le_of_ble_eq_true rfl⟩ dL_law_175 (fun H locs hW => ?_)
        refine jv_same (tgt := 351) hx hb dL_law_178 (by decide) (t_short hst).symm ?_
        refine jv_iinc (lv' := [(3, .int (jI (i + 5))), (0, .ref b), (1, .ref q0), (2, .ref q1)]) hx hb dL_law_351 hl (k := 3) rfl (by decide) rfl (fun ls hl => ?_)
        refine lv_goto (tgt := 18) hx hb dL_law_354 (by decide) ?_
        exact ih (i + 5) fa fb fc fd px py qx qy bs bu bv nu nv aw _ _ ls (by omega) (by omega) (by omega) hst hu hv hW (lv_sub hl [1, 2, 3, 0] rfl)
      · refine lv_tableIn (tgt := 183) (off := 151) hx hb dL_law_32 (by decide) (by decide) (by decide) (by decide) ?_
        refine lv_aload_n hx hb dL_law_183 rfl (lv_at hl 1 rfl) ?_
        refine ca_ C hW (met_X0_many l q0 fa fb fc fd px py qx qy bs bu bv hbd) (lw_V q89 q90 q91 q9 q92) ⟨rfl, rfl⟩ dn_X0_many ⟨Nat.le_of_ble_eq_true rfl, Nat.le_of_ble_eq_true rfl⟩ rfl hl.1 rfl (Nat.le_of_ble_eq_true rfl) ⟨Nat.le_of_ble_eq_true rfl, Nat.le_of_ble_eq_true rfl⟩ dL_law_184 (fun H locs hW => ?_)
        refine lv_aload_n hx hb dL_law_187 rfl (lv_at hl 2 rfl) ?_
        refine cb_ C hW (met_X1_many l q1 fa fb fc fd nu nv aw hk) (lw_V q184 q185 q186 q10 q187) ⟨rfl, rfl⟩ dn_X1_many ⟨Nat.le_of_ble_eq_true rfl, Nat.le_of_ble_eq_true rfl⟩ rfl hl.1 rfl (Nat.le_of_ble_eq_true rfl) ⟨Nat.le_of_ble_eq_true rfl, Nat.le_of_ble_eq_true rfl⟩ dL_law_188 (fun H locs hW => ?_)
        refine jv_same (tgt := 351) hx hb dL_law_191 (by decide) (t_many hst).symm ?_
        refine jv_iinc (lv' := [(3, .int (jI (i + 5))), (0, .ref b), (1, .ref q0), (2, .ref q1)]) hx hb dL_law_351 hl (k := 3) rfl (by decide) rfl (fun ls hl => ?_)
        refine lv_goto (tgt := 18) hx hb dL_law_354 (by decide) ?_
        exact ih (i + 5) fa fb fc fd px py qx qy bs bu bv nu nv aw _ _ ls (by omega) (by omega) (by omega) hst hu hv hW (lv_sub hl [1, 2, 3, 0] rfl)
      · refine lv_tableIn (tgt := 196) (off := 164) hx hb dL_law_32 (by decide) (by decide) (by decide) (by decide) ?_
        refine lv_aload_n hx hb dL_law_196 rfl (lv_at hl 1 rfl) ?_
        refine ca_ C hW (met_X0_second l q0 fa fb fc fd px py qx qy bs bu bv ) (lw_V q94 q95 q96 q9 q97) ⟨rfl, rfl⟩ dn_X0_second ⟨Nat.le_of_ble_eq_true rfl, Nat.le_of_ble_eq_true rfl⟩ rfl hl.1 rfl (Nat.le_of_ble_eq_true rfl) ⟨Nat.le_of_ble_eq_true rfl, Nat.le_of_ble_eq_true rfl⟩ dL_law_197 (fun H locs hW => ?_)
        refine lv_aload_n hx hb dL_law_200 rfl (lv_at hl 2 rfl) ?_
        refine cb_ C hW (met_X1_second l q1 fa fb fc fd nu nv aw hk) (lw_V q189 q190 q191 q10 q192) ⟨rfl, rfl⟩ dn_X1_second ⟨Nat.le_of_ble_eq_true rfl, Nat.le_of_ble_eq_true rfl⟩ rfl hl.1 rfl (Nat.le_of_ble_eq_true rfl) ⟨Nat.le_of_ble_eq_true rfl, Nat.le_of_ble_eq_true rfl⟩ dL_law_201 (fun H locs hW => ?_)
        refine jv_same (tgt := 351) hx hb dL_law_204 (by decide) (t_second hst).symm ?_
        refine jv_iinc (lv' := [(3, .int (jI (i + 5))), (0, .ref b), (1, .ref q0), (2, .ref q1)]) hx hb dL_law_351 hl (k := 3) rfl (by decide) rfl (fun ls hl => ?_)
        refine lv_goto (tgt := 18) hx hb dL_law_354 (by decide) ?_
        exact ih (i + 5) fa fb fc fd px py qx qy bs bu bv nu nv aw _ _ ls (by omega) (by omega) (by omega) hst hu hv hW (lv_sub hl [1, 2, 3, 0] rfl)
      · refine lv_tableIn (tgt := 209) (off := 177) hx hb dL_law_32 (by decide) (by decide) (by decide) (by decide) ?_
        cases hq : rgB_ (sv_ xs (i + 1)) (sv_ xs (i + 2)) with
        | false =>
          refine lv_aload_n hx hb dL_law_209 rfl (lv_at hl 1 rfl) ?_
          refine lv_aload_n hx hb dL_law_210 rfl (lv_at hl 0 rfl) ?_
          refine lv_iload_n hx hb dL_law_211 rfl (lv_at hl 3 rfl) ?_
          refine jv_iconst hx hb dL_law_212 ?_
          refine jv_iadd hx hb dL_law_213 ?_
          refine jv_sld hx hb hX hbl hbA hW.2.2 (by omega) (by omega) hL dL_law_214 ?_
          refine lv_aload_n hx hb dL_law_215 rfl (lv_at hl 0 rfl) ?_
          refine lv_iload_n hx hb dL_law_216 rfl (lv_at hl 3 rfl) ?_
          refine jv_iconst hx hb dL_law_217 ?_
          refine jv_iadd hx hb dL_law_218 ?_
          refine jv_sld hx hb hX hbl hbA hW.2.2 (by omega) (by omega) hL dL_law_219 ?_
          refine ca_ C hW (met_X0_distance_no l q0 fa fb fc fd px py qx qy bs bu bv (sv_ xs (i + 1)) (sv_ xs (i + 2)) (sv_rng xs _) (sv_rng xs _) hq) (lw_V q98 q99 q100 q9 q101) ⟨rfl, rfl⟩ dn_X0_distance ⟨Nat.le_of_ble_eq_true rfl, Nat.le_of_ble_eq_true rfl⟩ rfl hl.1 rfl (Nat.le_of_ble_eq_true rfl) ⟨Nat.le_of_ble_eq_true rfl, Nat.le_of_ble_eq_true rfl⟩ dL_law_220 (fun H locs hW => ?_)
          refine lv_aload_n hx hb dL_law_223 rfl (lv_at hl 2 rfl) ?_
          refine lv_aload_n hx hb dL_law_224 rfl (lv_at hl 0 rfl) ?_
          refine lv_iload_n hx hb dL_law_225 rfl (lv_at hl 3 rfl) ?_
          refine jv_iconst hx hb dL_law_226 ?_
          refine jv_iadd hx hb dL_law_227 ?_
          refine jv_sld hx hb hX hbl hbA hW.2.2 (by omega) (by omega) hL dL_law_228 ?_
          refine lv_aload_n hx hb dL_law_229 rfl (lv_at hl 0 rfl) ?_
          refine lv_iload_n hx hb dL_law_230 rfl (lv_at hl 3 rfl) ?_
          refine jv_iconst hx hb dL_law_231 ?_
          refine jv_iadd hx hb dL_law_232 ?_
          refine jv_sld hx hb hX hbl hbA hW.2.2 (by omega) (by omega) hL dL_law_233 ?_
          refine cb_ C hW (met_X1_distance_no l q1 fa fb fc fd nu nv aw (sv_ xs (i + 1)) (sv_ xs (i + 2)) (sv_rng xs _) (sv_rng xs _) hq) (lw_V q193 q194 q195 q10 q196) ⟨rfl, rfl⟩ dn_X1_distance ⟨Nat.le_of_ble_eq_true rfl, Nat.le_of_ble_eq_true rfl⟩ rfl hl.1 rfl (Nat.le_of_ble_eq_true rfl) ⟨Nat.le_of_ble_eq_true rfl, Nat.le_of_ble_eq_true rfl⟩ dL_law_234 (fun H locs hW => ?_)
          refine jv_same (tgt := 351) hx hb dL_law_237 (by decide) rfl ?_
          refine jv_iinc (lv' := [(3, .int (jI (i + 5))), (0, .ref b), (1, .ref q0), (2, .ref q1)]) hx hb dL_law_351 hl (k := 3) rfl (by decide) rfl (fun ls hl => ?_)
          refine lv_goto (tgt := 18) hx hb dL_law_354 (by decide) ?_
          exact ih (i + 5) fa fb fc fd px py qx qy bs bu bv nu nv aw _ _ ls (by omega) (by omega) (by omega) hst hu hv hW (lv_sub hl [1, 2, 3, 0] rfl)
        | true =>
          obtain ⟨g1, g2, g3, g4⟩ := rgB_of hq
          have hrt := fn_rt hbd ⟨g1, g2⟩ ⟨g3, g4⟩ hu hv
          refine lv_aload_n hx hb dL_law_209 rfl (lv_at hl 1 rfl) ?_
          refine lv_aload_n hx hb dL_law_210 rfl (lv_at hl 0 rfl) ?_
          refine lv_iload_n hx hb dL_law_211 rfl (lv_at hl 3 rfl) ?_
          refine jv_iconst hx hb dL_law_212 ?_
          refine jv_iadd hx hb dL_law_213 ?_
          refine jv_sld hx hb hX hbl hbA hW.2.2 (by omega) (by omega) hL dL_law_214 ?_
          refine lv_aload_n hx hb dL_law_215 rfl (lv_at hl 0 rfl) ?_
          refine lv_iload_n hx hb dL_law_216 rfl (lv_at hl 3 rfl) ?_
          refine jv_iconst hx hb dL_law_217 ?_
          refine jv_iadd hx hb dL_law_218 ?_
          refine jv_sld hx hb hX hbl hbA hW.2.2 (by omega) (by omega) hL dL_law_219 ?_
          refine ca_ C hW (met_X0_distance_in l q0 fa fb fc fd px py qx qy bs bu bv (sv_ xs (i + 1)) (sv_ xs (i + 2)) hbd hu hv hq) (lw_V q98 q99 q100 q9 q101) ⟨rfl, rfl⟩ dn_X0_distance ⟨Nat.le_of_ble_eq_true rfl, Nat.le_of_ble_eq_true rfl⟩ rfl hl.1 rfl (Nat.le_of_ble_eq_true rfl) ⟨Nat.le_of_ble_eq_true rfl, Nat.le_of_ble_eq_true rfl⟩ dL_law_220 (fun H locs hW => ?_)
          refine lv_aload_n hx hb dL_law_223 rfl (lv_at hl 2 rfl) ?_
          refine lv_aload_n hx hb dL_law_224 rfl (lv_at hl 0 rfl) ?_
          refine lv_iload_n hx hb dL_law_225 rfl (lv_at hl 3 rfl) ?_
          refine jv_iconst hx hb dL_law_226 ?_
          refine jv_iadd hx hb dL_law_227 ?_
          refine jv_sld hx hb hX hbl hbA hW.2.2 (by omega) (by omega) hL dL_law_228 ?_
          refine lv_aload_n hx hb dL_law_229 rfl (lv_at hl 0 rfl) ?_
          refine lv_iload_n hx hb dL_law_230 rfl (lv_at hl 3 rfl) ?_
          refine jv_iconst hx hb dL_law_231 ?_
          refine jv_iadd hx hb dL_law_232 ?_
          refine jv_sld hx hb hX hbl hbA hW.2.2 (by omega) (by omega) hL dL_law_233 ?_
          refine cb_ C hW (met_X1_distance_in l q1 fa fb fc fd nu nv aw (sv_ xs (i + 1)) (sv_ xs (i + 2)) hk hq) (lw_V q193 q194 q195 q10 q196) ⟨rfl, rfl⟩ dn_X1_distance ⟨Nat.le_of_ble_eq_true rfl, Nat.le_of_ble_eq_true rfl⟩ rfl hl.1 rfl (Nat.le_of_ble_eq_true rfl) ⟨Nat.le_of_ble_eq_true rfl, Nat.le_of_ble_eq_true rfl⟩ dL_law_234 (fun H locs hW => ?_)
          refine jv_same (tgt := 351) hx hb dL_law_237 (by decide) (by rw [t_near hst _ _ bu bv nu nv]) ?_
          refine jv_iinc (lv' := [(3, .int (jI (i + 5))), (0, .ref b), (1, .ref q0), (2, .ref q1)]) hx hb dL_law_351 hl (k := 3) rfl (by decide) rfl (fun ls hl => ?_)
          refine lv_goto (tgt := 18) hx hb dL_law_354 (by decide) ?_
          exact ih (i + 5) fa fb fc fd px py qx qy ((fn_ px py qx qy (sv_ xs (i + 1)) (sv_ xs (i + 2)) bu bv).1) ((fn_ px py qx qy (sv_ xs (i + 1)) (sv_ xs (i + 2)) bu bv).2.1) ((fn_ px py qx qy (sv_ xs (i + 1)) (sv_ xs (i + 2)) bu bv).2.2) ((se_m fa fb fc fd (sv_ xs (i + 1)) (sv_ xs (i + 2)) nu nv).2.1) ((se_m fa fb fc fd (sv_ xs (i + 1)) (sv_ xs (i + 2)) nu nv).2.2) ((se_m fa fb fc fd (sv_ xs (i + 1)) (sv_ xs (i + 2)) nu nv).1) _ _ ls (by omega) (by omega) (by omega) hst hrt.2.1 hrt.2.2 hW (lv_sub hl [1, 2, 3, 0] rfl)
      · refine lv_tableIn (tgt := 242) (off := 210) hx hb dL_law_32 (by decide) (by decide) (by decide) (by decide) ?_
        cases hq : rgB_ (sv_ xs (i + 1)) (sv_ xs (i + 2)) with
        | false =>
          refine lv_aload_n hx hb dL_law_242 rfl (lv_at hl 1 rfl) ?_
          refine lv_aload_n hx hb dL_law_243 rfl (lv_at hl 0 rfl) ?_
          refine lv_iload_n hx hb dL_law_244 rfl (lv_at hl 3 rfl) ?_
          refine jv_iconst hx hb dL_law_245 ?_
          refine jv_iadd hx hb dL_law_246 ?_
          refine jv_sld hx hb hX hbl hbA hW.2.2 (by omega) (by omega) hL dL_law_247 ?_
          refine lv_aload_n hx hb dL_law_248 rfl (lv_at hl 0 rfl) ?_
          refine lv_iload_n hx hb dL_law_249 rfl (lv_at hl 3 rfl) ?_
          refine jv_iconst hx hb dL_law_250 ?_
          refine jv_iadd hx hb dL_law_251 ?_
          refine jv_sld hx hb hX hbl hbA hW.2.2 (by omega) (by omega) hL dL_law_252 ?_
          refine ca_ C hW (met_X0_nearest_no l q0 fa fb fc fd px py qx qy bs bu bv (sv_ xs (i + 1)) (sv_ xs (i + 2)) (sv_rng xs _) (sv_rng xs _) hq) (lw_V q115 q116 q117 q9 q118) ⟨rfl, rfl⟩ dn_X0_nearest ⟨Nat.le_of_ble_eq_true rfl, Nat.le_of_ble_eq_true rfl⟩ rfl hl.1 rfl (Nat.le_of_ble_eq_true rfl) ⟨Nat.le_of_ble_eq_true rfl, Nat.le_of_ble_eq_true rfl⟩ dL_law_253 (fun H locs hW => ?_)
          refine lv_aload_n hx hb dL_law_256 rfl (lv_at hl 2 rfl) ?_
          refine lv_aload_n hx hb dL_law_257 rfl (lv_at hl 0 rfl) ?_
          refine lv_iload_n hx hb dL_law_258 rfl (lv_at hl 3 rfl) ?_
          refine jv_iconst hx hb dL_law_259 ?_
          refine jv_iadd hx hb dL_law_260 ?_
          refine jv_sld hx hb hX hbl hbA hW.2.2 (by omega) (by omega) hL dL_law_261 ?_
          refine lv_aload_n hx hb dL_law_262 rfl (lv_at hl 0 rfl) ?_
          refine lv_iload_n hx hb dL_law_263 rfl (lv_at hl 3 rfl) ?_
          refine jv_iconst hx hb dL_law_264 ?_
          refine jv_iadd hx hb dL_law_265 ?_
          refine jv_sld hx hb hX hbl hbA hW.2.2 (by omega) (by omega) hL dL_law_266 ?_
          refine cb_ C hW (met_X1_nearest_no l q1 fa fb fc fd nu nv aw (sv_ xs (i + 1)) (sv_ xs (i + 2)) (sv_rng xs _) (sv_rng xs _) hq) (lw_V q202 q203 q204 q10 q205) ⟨rfl, rfl⟩ dn_X1_nearest ⟨Nat.le_of_ble_eq_true rfl, Nat.le_of_ble_eq_true rfl⟩ rfl hl.1 rfl (Nat.le_of_ble_eq_true rfl) ⟨Nat.le_of_ble_eq_true rfl, Nat.le_of_ble_eq_true rfl⟩ dL_law_267 (fun H locs hW => ?_)
          refine jv_same (tgt := 351) hx hb dL_law_270 (by decide) rfl ?_
          refine jv_iinc (lv' := [(3, .int (jI (i + 5))), (0, .ref b), (1, .ref q0), (2, .ref q1)]) hx hb dL_law_351 hl (k := 3) rfl (by decide) rfl (fun ls hl => ?_)
          refine lv_goto (tgt := 18) hx hb dL_law_354 (by decide) ?_
          exact ih (i + 5) fa fb fc fd px py qx qy bs bu bv nu nv aw _ _ ls (by omega) (by omega) (by omega) hst hu hv hW (lv_sub hl [1, 2, 3, 0] rfl)
        | true =>
          obtain ⟨g1, g2, g3, g4⟩ := rgB_of hq
          have hrt := fn_rt hbd ⟨g1, g2⟩ ⟨g3, g4⟩ hu hv
          refine lv_aload_n hx hb dL_law_242 rfl (lv_at hl 1 rfl) ?_
          refine lv_aload_n hx hb dL_law_243 rfl (lv_at hl 0 rfl) ?_
          refine lv_iload_n hx hb dL_law_244 rfl (lv_at hl 3 rfl) ?_
          refine jv_iconst hx hb dL_law_245 ?_
          refine jv_iadd hx hb dL_law_246 ?_
          refine jv_sld hx hb hX hbl hbA hW.2.2 (by omega) (by omega) hL dL_law_247 ?_
          refine lv_aload_n hx hb dL_law_248 rfl (lv_at hl 0 rfl) ?_
          refine lv_iload_n hx hb dL_law_249 rfl (lv_at hl 3 rfl) ?_
          refine jv_iconst hx hb dL_law_250 ?_
          refine jv_iadd hx hb dL_law_251 ?_
          refine jv_sld hx hb hX hbl hbA hW.2.2 (by omega) (by omega) hL dL_law_252 ?_
          refine ca_ C hW (met_X0_nearest_in l q0 fa fb fc fd px py qx qy bs bu bv (sv_ xs (i + 1)) (sv_ xs (i + 2)) hbd hu hv hq) (lw_V q115 q116 q117 q9 q118) ⟨rfl, rfl⟩ dn_X0_nearest ⟨Nat.le_of_ble_eq_true rfl, Nat.le_of_ble_eq_true rfl⟩ rfl hl.1 rfl (Nat.le_of_ble_eq_true rfl) ⟨Nat.le_of_ble_eq_true rfl, Nat.le_of_ble_eq_true rfl⟩ dL_law_253 (fun H locs hW => ?_)
          refine lv_aload_n hx hb dL_law_256 rfl (lv_at hl 2 rfl) ?_
          refine lv_aload_n hx hb dL_law_257 rfl (lv_at hl 0 rfl) ?_
          refine lv_iload_n hx hb dL_law_258 rfl (lv_at hl 3 rfl) ?_
          refine jv_iconst hx hb dL_law_259 ?_
          refine jv_iadd hx hb dL_law_260 ?_
          refine jv_sld hx hb hX hbl hbA hW.2.2 (by omega) (by omega) hL dL_law_261 ?_
          refine lv_aload_n hx hb dL_law_262 rfl (lv_at hl 0 rfl) ?_
          refine lv_iload_n hx hb dL_law_263 rfl (lv_at hl 3 rfl) ?_
          refine jv_iconst hx hb dL_law_264 ?_
          refine jv_iadd hx hb dL_law_265 ?_
          refine jv_sld hx hb hX hbl hbA hW.2.2 (by omega) (by omega) hL dL_law_266 ?_
          refine cb_ C hW (met_X1_nearest_in l q1 fa fb fc fd nu nv aw (sv_ xs (i + 1)) (sv_ xs (i + 2)) hk hq) (lw_V q202 q203 q204 q10 q205) ⟨rfl, rfl⟩ dn_X1_nearest ⟨Nat.le_of_ble_eq_true rfl, Nat.le_of_ble_eq_true rfl⟩ rfl hl.1 rfl (Nat.le_of_ble_eq_true rfl) ⟨Nat.le_of_ble_eq_true rfl, Nat.le_of_ble_eq_true rfl⟩ dL_law_267 (fun H locs hW => ?_)
          refine jv_same (tgt := 351) hx hb dL_law_270 (by decide) (by rw [t_near hst _ _ bu bv nu nv]) ?_
          refine jv_iinc (lv' := [(3, .int (jI (i + 5))), (0, .ref b), (1, .ref q0), (2, .ref q1)]) hx hb dL_law_351 hl (k := 3) rfl (by decide) rfl (fun ls hl => ?_)
          refine lv_goto (tgt := 18) hx hb dL_law_354 (by decide) ?_
          exact ih (i + 5) fa fb fc fd px py qx qy ((fn_ px py qx qy (sv_ xs (i + 1)) (sv_ xs (i + 2)) bu bv).1) ((fn_ px py qx qy (sv_ xs (i + 1)) (sv_ xs (i + 2)) bu bv).2.1) ((fn_ px py qx qy (sv_ xs (i + 1)) (sv_ xs (i + 2)) bu bv).2.2) ((se_m fa fb fc fd (sv_ xs (i + 1)) (sv_ xs (i + 2)) nu nv).2.1) ((se_m fa fb fc fd (sv_ xs (i + 1)) (sv_ xs (i + 2)) nu nv).2.2) ((se_m fa fb fc fd (sv_ xs (i + 1)) (sv_ xs (i + 2)) nu nv).1) _ _ ls (by omega) (by omega) (by omega) hst hrt.2.1 hrt.2.2 hW (lv_sub hl [1, 2, 3, 0] rfl)
      · refine lv_tableIn (tgt := 275) (off := 243) hx hb dL_law_32 (by decide) (by decide) (by decide) (by decide) ?_
        refine lv_aload_n hx hb dL_law_275 rfl (lv_at hl 1 rfl) ?_
        refine lv_aload_n hx hb dL_law_276 rfl (lv_at hl 0 rfl) ?_
        refine lv_iload_n hx hb dL_law_277 rfl (lv_at hl 3 rfl) ?_
        refine jv_iconst hx hb dL_law_278 ?_
        refine jv_iadd hx hb dL_law_279 ?_
        refine jv_sld hx hb hX hbl hbA hW.2.2 (by omega) (by omega) hL dL_law_280 ?_
        refine ca_ C hW (met_X0_within l q0 fa fb fc fd px py qx qy bs bu bv (sv_ xs (i + 1)) hbd (sv_rng xs _)) (lw_V q119 q120 q121 q9 q122) ⟨rfl, rfl⟩ dn_X0_within ⟨Nat.le_of_ble_eq_true rfl, Nat.le_of_ble_eq_true rfl⟩ rfl hl.1 rfl (Nat.le_of_ble_eq_true rfl) ⟨Nat.le_of_ble_eq_true rfl, Nat.le_of_ble_eq_true rfl⟩ dL_law_281 (fun H locs hW => ?_)
        refine lv_aload_n hx hb dL_law_284 rfl (lv_at hl 2 rfl) ?_
        refine lv_aload_n hx hb dL_law_285 rfl (lv_at hl 0 rfl) ?_
        refine lv_iload_n hx hb dL_law_286 rfl (lv_at hl 3 rfl) ?_
        refine jv_iconst hx hb dL_law_287 ?_
        refine jv_iadd hx hb dL_law_288 ?_
        refine jv_sld hx hb hX hbl hbA hW.2.2 (by omega) (by omega) hL dL_law_289 ?_
        refine cb_ C hW (met_X1_within l q1 fa fb fc fd nu nv aw (sv_ xs (i + 1)) hk (sv_rng xs _)) (lw_V q206 q207 q208 q10 q209) ⟨rfl, rfl⟩ dn_X1_within ⟨Nat.le_of_ble_eq_true rfl, Nat.le_of_ble_eq_true rfl⟩ rfl hl.1 rfl (Nat.le_of_ble_eq_true rfl) ⟨Nat.le_of_ble_eq_true rfl, Nat.le_of_ble_eq_true rfl⟩ dL_law_290 (fun H locs hW => ?_)
        refine jv_same (tgt := 351) hx hb dL_law_293 (by decide) (t_within hst _) ?_
        refine jv_iinc (lv' := [(3, .int (jI (i + 5))), (0, .ref b), (1, .ref q0), (2, .ref q1)]) hx hb dL_law_351 hl (k := 3) rfl (by decide) rfl (fun ls hl => ?_)
        refine lv_goto (tgt := 18) hx hb dL_law_354 (by decide) ?_
        exact ih (i + 5) fa fb fc fd px py qx qy bs bu bv nu nv aw _ _ ls (by omega) (by omega) (by omega) hst hu hv hW (lv_sub hl [1, 2, 3, 0] rfl)
      · refine lv_tableIn (tgt := 298) (off := 266) hx hb dL_law_32 (by decide) (by decide) (by decide) (by decide) ?_
        refine lv_aload_n hx hb dL_law_298 rfl (lv_at hl 1 rfl) ?_
        refine lv_aload_n hx hb dL_law_299 rfl (lv_at hl 0 rfl) ?_
        refine lv_iload_n hx hb dL_law_300 rfl (lv_at hl 3 rfl) ?_
        refine jv_iconst hx hb dL_law_301 ?_
        refine jv_iadd hx hb dL_law_302 ?_
        refine jv_sld hx hb hX hbl hbA hW.2.2 (by omega) (by omega) hL dL_law_303 ?_
        refine lv_aload_n hx hb dL_law_304 rfl (lv_at hl 0 rfl) ?_
        refine lv_iload_n hx hb dL_law_305 rfl (lv_at hl 3 rfl) ?_
        refine jv_iconst hx hb dL_law_306 ?_
        refine jv_iadd hx hb dL_law_307 ?_
        refine jv_sld hx hb hX hbl hbA hW.2.2 (by omega) (by omega) hL dL_law_308 ?_
        refine lv_aload_n hx hb dL_law_309 rfl (lv_at hl 0 rfl) ?_
        refine lv_iload_n hx hb dL_law_310 rfl (lv_at hl 3 rfl) ?_
        refine jv_iconst hx hb dL_law_311 ?_
        refine jv_iadd hx hb dL_law_312 ?_
        refine jv_sld hx hb hX hbl hbA hW.2.2 (by omega) (by omega) hL dL_law_313 ?_
        refine lv_aload_n hx hb dL_law_314 rfl (lv_at hl 0 rfl) ?_
        refine lv_iload_n hx hb dL_law_315 rfl (lv_at hl 3 rfl) ?_
        refine jv_iconst hx hb dL_law_316 ?_
        refine jv_iadd hx hb dL_law_317 ?_
        refine jv_sld hx hb hX hbl hbA hW.2.2 (by omega) (by omega) hL dL_law_318 ?_
        refine ca_ C hW (met_X0_same l q0 fa fb fc fd px py qx qy bs bu bv (sv_ xs (i + 1)) (sv_ xs (i + 2)) (sv_ xs (i + 3)) (sv_ xs (i + 4)) hk (sv_rng xs _) (sv_rng xs _) (sv_rng xs _) (sv_rng xs _)) (lw_V q127 q128 q129 q9 q130) ⟨rfl, rfl⟩ dn_X0_same ⟨Nat.le_of_ble_eq_true rfl, Nat.le_of_ble_eq_true rfl⟩ rfl hl.1 rfl (Nat.le_of_ble_eq_true rfl) ⟨Nat.le_of_ble_eq_true rfl, Nat.le_of_ble_eq_true rfl⟩ dL_law_319 (fun H locs hW => ?_)
        refine lv_aload_n hx hb dL_law_322 rfl (lv_at hl 2 rfl) ?_
        refine lv_aload_n hx hb dL_law_323 rfl (lv_at hl 0 rfl) ?_
        refine lv_iload_n hx hb dL_law_324 rfl (lv_at hl 3 rfl) ?_
        refine jv_iconst hx hb dL_law_325 ?_
        refine jv_iadd hx hb dL_law_326 ?_
        refine jv_sld hx hb hX hbl hbA hW.2.2 (by omega) (by omega) hL dL_law_327 ?_
        refine lv_aload_n hx hb dL_law_328 rfl (lv_at hl 0 rfl) ?_
        refine lv_iload_n hx hb dL_law_329 rfl (lv_at hl 3 rfl) ?_
        refine jv_iconst hx hb dL_law_330 ?_
        refine jv_iadd hx hb dL_law_331 ?_
        refine jv_sld hx hb hX hbl hbA hW.2.2 (by omega) (by omega) hL dL_law_332 ?_
        refine lv_aload_n hx hb dL_law_333 rfl (lv_at hl 0 rfl) ?_
        refine lv_iload_n hx hb dL_law_334 rfl (lv_at hl 3 rfl) ?_
        refine jv_iconst hx hb dL_law_335 ?_
        refine jv_iadd hx hb dL_law_336 ?_
        refine jv_sld hx hb hX hbl hbA hW.2.2 (by omega) (by omega) hL dL_law_337 ?_
        refine lv_aload_n hx hb dL_law_338 rfl (lv_at hl 0 rfl) ?_
        refine lv_iload_n hx hb dL_law_339 rfl (lv_at hl 3 rfl) ?_
        refine jv_iconst hx hb dL_law_340 ?_
        refine jv_iadd hx hb dL_law_341 ?_
        refine jv_sld hx hb hX hbl hbA hW.2.2 (by omega) (by omega) hL dL_law_342 ?_
        refine cb_ C hW (met_X1_same l q1 fa fb fc fd nu nv aw (sv_ xs (i + 1)) (sv_ xs (i + 2)) (sv_ xs (i + 3)) (sv_ xs (i + 4)) hk (sv_rng xs _) (sv_rng xs _) (sv_rng xs _) (sv_rng xs _)) (lw_V q210 q211 q212 q10 q213) ⟨rfl, rfl⟩ dn_X1_same ⟨Nat.le_of_ble_eq_true rfl, Nat.le_of_ble_eq_true rfl⟩ rfl hl.1 rfl (Nat.le_of_ble_eq_true rfl) ⟨Nat.le_of_ble_eq_true rfl, Nat.le_of_ble_eq_true rfl⟩ dL_law_343 (fun H locs hW => ?_)
        refine jv_same (tgt := 351) hx hb dL_law_346 (by decide) (t_same hk _ _ _ _) ?_
        refine jv_iinc (lv' := [(3, .int (jI (i + 5))), (0, .ref b), (1, .ref q0), (2, .ref q1)]) hx hb dL_law_351 hl (k := 3) rfl (by decide) rfl (fun ls hl => ?_)
        refine lv_goto (tgt := 18) hx hb dL_law_354 (by decide) ?_
        exact ih (i + 5) fa fb fc fd px py qx qy bs bu bv nu nv aw _ _ ls (by omega) (by omega) (by omega) hst hu hv hW (lv_sub hl [1, 2, 3, 0] rfl)
      · refine lv_tableOut (tgt := 351) hx hb dL_law_32 (Or.inr (by rw [nI_toInt (by omega)]; omega)) (by decide) ?_
        refine jv_iinc (lv' := [(3, .int (jI (i + 5))), (0, .ref b), (1, .ref q0), (2, .ref q1)]) hx hb dL_law_351 hl (k := 3) rfl (by decide) rfl (fun ls hl => ?_)
        refine lv_goto (tgt := 18) hx hb dL_law_354 (by decide) ?_
        exact ih (i + 5) fa fb fc fd px py qx qy bs bu bv nu nv aw _ _ ls (by omega) (by omega) (by omega) hst hu hv hW (lv_sub hl [1, 2, 3, 0] rfl)
end
section
set_option maxHeartbeats 4000000 in
set_option maxRecDepth 100000 in
/-- the law, from its entry -/
theorem whole_start {p : Program} {e : Env} {s : State} {m : MethodId} {below : List Frame} {meth : Method} {c : Code} (l : Launch) {b L : Nat} {xs : Nat → Int32} (hL : L ≤ 320) (C0 : lw_At p s m meth c b L xs) : W p l e room_1 s m #[Value.ref b] below meth c s.heap [] 0 0 (lw_Z below #[Value.ref b] s) (entryFrame m ([Value.ref b] : List Value).toArray 4) := by
  obtain ⟨hx, hb, hr, hml, hown, hts0, hX, hbl, hlk, hgv⟩ := C0
  have hts : ∀ w ∈ lw_all, w.before #[Value.ref b] s = true := fun w h => hts0 w (lw_all_tbl h)
  have hA : ∀ q : Nat, s.heap.size ≤ q → (fun q : Nat => s.heap.size ≤ q) q := fun _ h => h
  obtain ⟨c0_, iS0, hKn0⟩ := u_known (C := RX0) (T := TX0) (N := 11) (n := 11) hts in_X0 (hts _ q12)
  obtain ⟨c1_, iS1, hKn1⟩ := u_known (C := RX1) (T := TX1) (N := 7) (n := 7) hts in_X1 (hts _ q132)
  obtain ⟨D, hKc⟩ : ∃ D : va_G, ∀ (k : Nat) (q : vw_C), vwCl[k]? = some q → u_Kn s q.1 q.2.1 q.2.2 (D.1 k) (D.2 k) := by
    refine ⟨(fun k => if k = 0 then c0_ else c1_, fun k => if k = 0 then iS0 else iS1), ?_⟩
    intro k q hq
    match k, hq with
    | 0, hq => cases hq; exact hKn0
    | 1, hq => cases hq; exact hKn1
    | k + 2, hq => simp [vwCl] at hq
  have hK : va_K D vwCl [] s := ⟨hKc, fun k q h => by simp at h⟩
  have hS : va_S (fun q : Nat => s.heap.size ≤ q) s.heap s.heap [] := va_S.rf
  have hP : va_P D vwCl [] s.heap := fun k q h => by simp at h
  have hD : va_D (fun q : Nat => s.heap.size ≤ q) [] := ⟨fun i j p q h => by simp at h, fun k q h => by simp at h⟩
  have C : cx_ p s m #[Value.ref b] meth c code 4 R_law ret D (fun q : Nat => s.heap.size ≤ q) := ⟨hx, hb, hml, hown, hts, hr, hlk, hK, hA⟩
  have hl := lv_entry ([.ref b]) (n := 4) (Nat.le_of_ble_eq_true rfl)
  rw [lg_entry_eq]
  generalize (lg_sl ([.ref b]) ++ List.replicate (4 - (lg_sl ([.ref b])).length) Slot.unset).toArray = ls at hl ⊢
  have hl : lv_has ls 4 [(0, .ref b)] := hl
  have hk : ok_ 1 0 0 1 := by unfold ok_; decide
  obtain ⟨r1, r2, r3, r4, he, -, -⟩ := rd_ok hk
  refine va_new (D := D) (ci := 0) (fs := [.int (jI 0), .int (jI 0), .int (jI 0), .int (jI 0), .int (jI 0), .int (jI 0), .int (jI 0), .int (jI 0), .int (jI 0), .int (jI 0), .int (jI 0)]) (C := RX0) (T := TX0) (N := 11) hx hb hts in_X0 tyX0 tyX0_ok hown (hts _ q11) (hts _ q12) (hts _ q9) hK hP hD hS hA rfl (fun j hj => by rcases (show j = 0 ∨ j = 1 ∨ j = 2 ∨ j = 3 ∨ j = 4 ∨ j = 5 ∨ j = 6 ∨ j = 7 ∨ j = 8 ∨ j = 9 ∨ j = 10 by omega) with rfl | rfl | rfl | rfl | rfl | rfl | rfl | rfl | rfl | rfl | rfl <;> rfl) (Nat.le_of_ble_eq_true rfl) (Nat.le_of_ble_eq_true rfl) dL_law_0 (fun q0 H hP hD hS => ?_)
  refine W.widen (k := 1) (n := 11) (Nat.le_of_ble_eq_true rfl) (Nat.le_of_ble_eq_true rfl) ?_
  have hW : wd_ D (fun q : Nat => s.heap.size ≤ q) s H [] (ob_ q0 0 [.int (jI 0), .int (jI 0), .int (jI 0), .int (jI 0), .int (jI 0), .int (jI 0), .int (jI 0), .int (jI 0), .int (jI 0), .int (jI 0), .int (jI 0)]) := ⟨hP, hD, hS⟩
  refine lv_dup hx hb dL_law_3 rfl ?_
  refine cna_ C hW (met_X0_init l q0 r1 r2 r3 r4 he) (lw_meth q15) ⟨rfl, rfl⟩ q9 q13 q14 rfl dn_X0_init.2 ⟨Nat.le_of_ble_eq_true rfl, Nat.le_of_ble_eq_true rfl⟩ hl.1 (Nat.le_of_ble_eq_true rfl) ⟨Nat.le_of_ble_eq_true rfl, Nat.le_of_ble_eq_true rfl⟩ dL_law_4 (fun H locs hW => ?_)
  refine lv_astore_n (lv' := [(1, .ref q0), (0, .ref b)]) hx hb dL_law_7 rfl hl (by decide) rfl (fun ls hl => ?_)
  obtain ⟨hP, hD, hS⟩ := hW
  refine va_new (D := D) (ci := 1) (fs := [.int (jI 0), .int (jI 0), .int (jI 0), .int (jI 0), .int (jI 0), .int (jI 0), .int (jI 0)]) (C := RX1) (T := TX1) (N := 7) hx hb hts in_X1 tyX1 tyX1_ok hown (hts _ q131) (hts _ q132) (hts _ q10) hK hP hD hS hA rfl (fun j hj => by rcases (show j = 0 ∨ j = 1 ∨ j = 2 ∨ j = 3 ∨ j = 4 ∨ j = 5 ∨ j = 6 by omega) with rfl | rfl | rfl | rfl | rfl | rfl | rfl <;> rfl) (Nat.le_of_ble_eq_true rfl) (Nat.le_of_ble_eq_true rfl) dL_law_8 (fun q1 H hP hD hS => ?_)
  refine W.widen (k := 2) (n := 18) (Nat.le_of_ble_eq_true rfl) (Nat.le_of_ble_eq_true rfl) ?_
  have hW : wd_ D (fun q : Nat => s.heap.size ≤ q) s H locs (w2_ q0 q1 [.int (jI 1), .int (jI 0), .int (jI 0), .int (jI 1), .int (jI r1), .int (jI r2), .int (jI r3), .int (jI r4), .int (jI 0), .int (jI 0), .int (jI 0)] [.int (jI 0), .int (jI 0), .int (jI 0), .int (jI 0), .int (jI 0), .int (jI 0), .int (jI 0)]) := ⟨hP, hD, hS⟩
  refine lv_dup hx hb dL_law_11 rfl ?_
  refine cnb_ C hW (met_X1_init l q1) (lw_meth q135) ⟨rfl, rfl⟩ q10 q133 q134 rfl dn_X1_init.2 ⟨Nat.le_of_ble_eq_true rfl, Nat.le_of_ble_eq_true rfl⟩ hl.1 (Nat.le_of_ble_eq_true rfl) ⟨Nat.le_of_ble_eq_true rfl, Nat.le_of_ble_eq_true rfl⟩ dL_law_12 (fun H locs hW => ?_)
  refine lv_astore_n (lv' := [(2, .ref q1), (1, .ref q0), (0, .ref b)]) hx hb dL_law_15 rfl hl (by decide) rfl (fun ls hl => ?_)
  refine jv_iconst hx hb dL_law_16 ?_
  refine lv_istore_n (lv' := [(3, .int (jI 0)), (2, .ref q1), (1, .ref q0), (0, .ref b)]) hx hb dL_law_17 rfl hl (by decide) rfl (fun ls hl => ?_)
  exact law_loop hL hX hbl C (L + 1) 0 1 0 0 1 r1 r2 r3 r4 0 0 0 0 0 0 _ _ ls (by decide) (by decide) (by omega) ⟨hk, he⟩ (by decide) (by decide) hW (lv_sub hl [3, 2, 1, 0] rfl)
end
section
set_option maxHeartbeats 4000000 in
theorem lw_walk (l : Launch) (b : Addr) (xs : List Int32) : MetFree l x (headSpec (Jvm.Cond.code x code maxLocals ret :: tables_1) room_1) (lw_P b xs) (fun _ _ _ _ _ => True) lw_Q := by
  refine MetFree.of_bodyS (code := code) (maxLocals := maxLocals) (ret := ret) (by decide) ?_ ?_
  · intro args s m h hn
    obtain ⟨meth, c, h1, h2, h3, h4, h5, h6, -, -⟩ := Cond.code_spec hn (atoms_spec (ws := Jvm.Cond.code x code maxLocals ret :: tables_1) h _ List.mem_cons_self)
    exact ⟨meth, c, h1, h2, h3, h4, h5, h6⟩
  · intro p e s m args below meth c s₁ B hml0 hP _
    obtain ⟨rfl, hx, hbd, hgv⟩ := hP
    obtain ⟨scr, harrAt, hlist, hof, hsmall⟩ := hx
    obtain ⟨hcb, hkn, -, -⟩ := State.arrayAt?_spec harrAt
    have hown : s.vm.findClass R_law = some m.cls := findClass_of_methodNamed B.named
    have hts0 : ∀ c ∈ (Jvm.Cond.code x code maxLocals ret :: tables_1), c.before #[Value.ref b] s = true := atoms_spec (ws := Jvm.Cond.code x code maxLocals ret :: tables_1) B.pre
    have hts : ∀ w ∈ lw_tbl, w.before #[Value.ref b] s = true := k2_hts_sels lw_privs (fun w hw => hts0 w (List.mem_cons_of_mem _ hw)) lw_privs_ok
    have hml : c.maxLocals = 4 := B.maxLocals_eq (hts0 _ List.mem_cons_self)
    have X₀ : Stand p l e room_1 s m #[Value.ref b] below meth c s₁ [] 0 0 := Stand.of_body B
    have hh0 : s₁.heap = s.heap := by rw [B.state]; rfl
    have hsz : scr.slots.size = xs.length := by rw [← Array.length_toList, hlist, List.length_map]
    have hval : ∀ j : Nat, j < xs.length → scr.slots[j]? = some (.int (xs.getD j 0)) := fun j hj => by
      rw [← Array.getElem?_toList, hlist]
      simp [hj]
    have hbl : b < s.heap.size := (Array.getElem?_eq_some_iff.mp hcb).1
    have hX : va_X b xs.length (fun j => xs.getD j 0) s s.heap := ⟨scr, hcb, hof, hkn, hsz, hval⟩
    have K : W p l e room_1 s m #[Value.ref b] below meth c s₁.heap [] 0 0 (lw_Z below #[Value.ref b] s) (entryFrame m ([Value.ref b] : List Value).toArray 4) := by
      rw [hh0]
      exact whole_start l hbd ⟨B.exec, B.bytes, B.returns, hml, hown, hts, hX, hbl, B.notSynchronized, hgv⟩
    obtain ⟨t, a1, o, b1, b2, b3⟩ := K s₁ rfl X₀
    exact ⟨t, o, a1, b1, b2, b3⟩
theorem lw_pre_spec {args : Array Value} {s : State} (h : (Jvm.Cond.and given_1 narrow_1).before args s = true) (hr : rest_1_c.before args s = true) : ∃ (b : Addr) (xs : List Int32), lw_P b xs args s := by
  have hs := flat_of_before _ h
  have hq := flat_of_before _ hr
  have hc : (Cond.count 1).before args s = true := hs _ (by decide +kernel)
  have harr : (Cond.arrayOf (.arg 0) .int).before args s = true := hs _ (by decide +kernel)
  have hle : (Cond.le (.length (.arg 0)) (.int 320)).before args s = true := hs _ (by decide +kernel)
  have hlen : (Cond.isInt (.length (.arg 0))).before args s = true := hq _ (by decide +kernel)
  have hall : (Cond.all (.arg 0) (.isInt (.elem (.arg 0) (.index 0)))).before args s = true := hq _ (by decide +kernel)
  obtain ⟨b, xs, hb, hx⟩ := State.ints_of_pre rfl harr hlen hall
  have hsm : xs.length < 2 ^ 31 := hx.choose_spec.2.2.2
  have hev : (Term.length (.arg 0)).eval args s none [] s = some (.int xs.length.toInt32) := hx.length_eval hb
  have hv := Cond.le_ints hev (show (Term.int 320).eval args s none [] s = some (.int 320) from rfl)
  have hd : xs.length.toInt32 ≤ 320 := by
    simpa [Cond.before, Cond.holds, hv] using hle
  have hN : xs.length ≤ 320 := (Int32.ofNat_le_ofNat hsm (by decide)).mp (show Int32.ofNat xs.length ≤ Int32.ofNat 320 from hd)
  exact ⟨b, xs, Cond.one_arg hc (show args[0]? = some (.ref b) from hb), hx, hN, h⟩
theorem lw_comes (l : Launch) : Comes l x (Jvm.Cond.code x code maxLocals ret :: tables_1) room_1 (fun tb e args s => Calls_1 tb e args s ∧ rest_1 tb e args s ∧ Pre_1 tb e args s)
    (fun _ _ args s o t => lw_Q args s o t) := by
  intro p e ha hc hk s m args below hf hfit hheap happ hpre
  obtain ⟨b, xs, hP⟩ := lw_pre_spec hpre.2.2 hpre.2.1
  obtain ⟨k, o, h1, h2, h3, hQ⟩ := lw_walk l b xs p e ha hc hk s m args below hf ((Spec.applies_iff_loose hf).mp happ).1 hP trivial
  exact ⟨k, o, h1, h2, h3, hQ⟩
theorem lw_frame {s t : State} {o : Outcome} {args : Array Value} (h : Framed s o t [] 600000 7290000) :
    Framed s o t (fieldLocs frame_1_writes args s ++ arrayLocs frame_1_arrays args s ++ staticLocs frame_1_statics s) 600000 7290000 := h
theorem lw_limb (L : Cond) (hL : ∀ (args : Array Value) (s t : State), L.after args s (.returned (some (.int 1))) t = true) :
    ArmFor flags0 classFile x code maxLocals ret World_1 tables_1 room_1 Calls_1 rest_1 Pre_1
      (fun tb e a s o t => postC L tb e a s o t ∧ Framed s o t (fieldLocs frame_1_writes a s ++ arrayLocs frame_1_arrays a s ++ staticLocs frame_1_statics s) 600000 7290000) := by
  intro l _ _ _ p e ha hc hk s m args below hf hfit hheap happ hpre
  obtain ⟨k, o, h1, h2, h3, rfl, hF⟩ := lw_comes l p e ha hc hk s m args below hf hfit hheap happ hpre
  exact ⟨k, _, h1, h2, h3, hL args s _, lw_frame hF⟩
theorem i_vc : Claimed_1_1 ∧ Claimed_1_2 := ⟨lw_limb limb_1_1 (fun args s t => by simp [limb_1_1, Cond.after, Cond.holds, Cond.value]), lw_limb limb_1_2 (fun args s t => Cond.after_iff.mpr (by
  first | (rw [show limb_1_2 = Cond.eq .result (.int 1) from rfl, Cond.eq_ints (x := 1) (y := 1) rfl rfl]; simp; done) | (simp [limb_1_2, Cond.value, Term.eval]; done)))⟩
end
