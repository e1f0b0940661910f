section
-- ===== PART A: goes FIRST, ahead of the names: the tables' words, and 'selects' of the private methods out of them =====
/-- a private method of a class that the tables say can be made, by its rows of tables_1 -/
def lw_okq (q : MethodName × Nat) : Prop := (q.1.cls ≠ "java/lang/invoke/MethodHandle" ∧ q.1.cls ≠ "java/lang/invoke/VarHandle") ∧ Cond.instantiable q.1.cls q.2 ∈ tables_1 ∧ Cond.privateMethod q.1 ∈ tables_1 ∧ Cond.instanceMethod q.1 ∈ tables_1
set_option maxRecDepth 100000
theorem lw_p0 : lw_okq (⟨"SquareDesk", "findRow", "()V"⟩, 5) := ⟨⟨by decide +kernel, by decide +kernel⟩, List.mem_of_getElem? (i := 4) rfl, List.mem_of_getElem? (i := 12) rfl, List.mem_of_getElem? (i := 13) rfl⟩
theorem lw_p1 : lw_okq (⟨"SquareDesk", "termAt", "(I)I"⟩, 5) := ⟨⟨by decide +kernel, by decide +kernel⟩, List.mem_of_getElem? (i := 4) rfl, List.mem_of_getElem? (i := 45) rfl, List.mem_of_getElem? (i := 46) rfl⟩
theorem lw_p2 : lw_okq (⟨"SquareDesk", "isAsked", "(I)Z"⟩, 5) := ⟨⟨by decide +kernel, by decide +kernel⟩, List.mem_of_getElem? (i := 4) rfl, List.mem_of_getElem? (i := 57) rfl, List.mem_of_getElem? (i := 58) rfl⟩
theorem lw_p3 : lw_okq (⟨"SquareDesk", "listSolutions", "(I)V"⟩, 5) := ⟨⟨by decide +kernel, by decide +kernel⟩, List.mem_of_getElem? (i := 4) rfl, List.mem_of_getElem? (i := 61) rfl, List.mem_of_getElem? (i := 62) rfl⟩
theorem lw_p4 : lw_okq (⟨"SquareDesk", "addFractions", "(II)V"⟩, 5) := ⟨⟨by decide +kernel, by decide +kernel⟩, List.mem_of_getElem? (i := 4) rfl, List.mem_of_getElem? (i := 65) rfl, List.mem_of_getElem? (i := 66) rfl⟩
theorem lw_p5 : lw_okq (⟨"SquareDesk", "addY", "(I)V"⟩, 5) := ⟨⟨by decide +kernel, by decide +kernel⟩, List.mem_of_getElem? (i := 4) rfl, List.mem_of_getElem? (i := 70) rfl, List.mem_of_getElem? (i := 71) rfl⟩
theorem lw_p6 : lw_okq (⟨"SquareDeskModel", "write", "()V"⟩, 2) := ⟨⟨by decide +kernel, by decide +kernel⟩, List.mem_of_getElem? (i := 86) rfl, List.mem_of_getElem? (i := 114) rfl, List.mem_of_getElem? (i := 115) rfl⟩
theorem lw_p7 : lw_okq (⟨"SquareDeskModel", "repeats", "(I)Z"⟩, 2) := ⟨⟨by decide +kernel, by decide +kernel⟩, List.mem_of_getElem? (i := 86) rfl, List.mem_of_getElem? (i := 122) rfl, List.mem_of_getElem? (i := 123) rfl⟩
theorem lw_p8 : lw_okq (⟨"SquareDeskModel", "refused", "(II)Z"⟩, 2) := ⟨⟨by decide +kernel, by decide +kernel⟩, List.mem_of_getElem? (i := 86) rfl, List.mem_of_getElem? (i := 130) rfl, List.mem_of_getElem? (i := 131) rfl⟩
theorem lw_p9 : lw_okq (⟨"SquareDeskModel", "find", "(II)I"⟩, 2) := ⟨⟨by decide +kernel, by decide +kernel⟩, List.mem_of_getElem? (i := 86) rfl, List.mem_of_getElem? (i := 134) rfl, List.mem_of_getElem? (i := 135) rfl⟩
def lw_privs_1 : List (MethodName × Nat) := [(⟨"SquareDesk", "findRow", "()V"⟩, 5), (⟨"SquareDesk", "termAt", "(I)I"⟩, 5), (⟨"SquareDesk", "isAsked", "(I)Z"⟩, 5), (⟨"SquareDesk", "listSolutions", "(I)V"⟩, 5), (⟨"SquareDesk", "addFractions", "(II)V"⟩, 5), (⟨"SquareDesk", "addY", "(I)V"⟩, 5), (⟨"SquareDeskModel", "write", "()V"⟩, 2), (⟨"SquareDeskModel", "repeats", "(I)Z"⟩, 2), (⟨"SquareDeskModel", "refused", "(II)Z"⟩, 2), (⟨"SquareDeskModel", "find", "(II)I"⟩, 2)]
theorem lw_r1 : ∀ q ∈ lw_privs_1, lw_okq q := List.forall_mem_cons.mpr ⟨lw_p0, List.forall_mem_cons.mpr ⟨lw_p1, List.forall_mem_cons.mpr ⟨lw_p2, List.forall_mem_cons.mpr ⟨lw_p3, List.forall_mem_cons.mpr ⟨lw_p4, List.forall_mem_cons.mpr ⟨lw_p5, List.forall_mem_cons.mpr ⟨lw_p6, List.forall_mem_cons.mpr ⟨lw_p7, List.forall_mem_cons.mpr ⟨lw_p8, List.forall_mem_cons.mpr ⟨lw_p9, fun _ h => absurd h List.not_mem_nil⟩⟩⟩⟩⟩⟩⟩⟩⟩⟩
def lw_privs : List (MethodName × Nat) := lw_privs_1
def lw_tbl : List Cond := k2_sels lw_privs ++ tables_1
theorem lw_privs_ok : ∀ q ∈ lw_privs, lw_okq q := lw_r1
-- ===== ONE list of words for every method: the tables' words that hold all through a run =====
def lw_all : List Cond := lw_tbl.filter goodWord
/-- a word of the tables by its place: claim/WORDS.tsv -/
theorem lw_w {w : Cond} (i : Nat) (h : lw_tbl[i]? = some w) (g : goodWord w = true) : w ∈ lw_all := List.mem_filter.mpr ⟨List.mem_of_getElem? h, g⟩
theorem lw_all_tbl {w : Cond} (h : w ∈ lw_all) : w ∈ lw_tbl := (List.mem_filter.mp h).1
theorem lw_self : GoodIn lw_all lw_all := fun w h => ⟨h, good_of_word (List.mem_filter.mp h).2⟩
/-- a class's field words, by their places -/
theorem lw_in (ws : List Cond) (ps : List Nat) (hp : ws = ps.filterMap (fun i => lw_tbl[i]?)) (hg : ws.all goodWord = true) : ∀ w ∈ ws, w ∈ lw_all := by
  intro w h
  have h1 := List.all_eq_true.mp hg w h
  rw [hp] at h
  obtain ⟨i, -, hi⟩ := List.mem_filterMap.mp h
  exact lw_w i hi h1
/-- the words of a contract for the method y with code b, L locals, answer r -/
abbrev ws_ (y : MethodName) (b : ByteArray) (L : Nat) (r : Option FieldType) : List Cond := Cond.code y b L r :: lw_all
theorem lw_meth {y : MethodName} {b : ByteArray} {L : Nat} {r : Option FieldType} (h : Cond.code y b L r ∈ lw_all) : GoodIn lw_all (ws_ y b L r) := by
  intro w hw
  rcases List.mem_cons.mp hw with e | e
  · rw [e]
    exact lw_self _ h
  · exact lw_self _ e
theorem lw_app {a c : List Cond} (ha : ∀ w ∈ a, w ∈ lw_all) (hc : GoodIn lw_all c) : GoodIn lw_all (a ++ c) := by
  intro w hw
  rcases List.mem_append.mp hw with e | e
  · exact lw_self w (ha w e)
  · exact hc w e
/-- what a call through an object asks: cwV n hts (lw_V ..) -/
theorem lw_V {own : String} {idx : Nat} {C : String} {y : MethodName} {b : ByteArray} {L : Nat} {r : Option FieldType} (h1 : Cond.methodLink own idx y ∈ lw_all) (h2 : Cond.instanceMethod y ∈ lw_all) (h3 : Cond.selects C y y ∈ lw_all) (h4 : Cond.initialized C ∈ lw_all) (h5 : Cond.code y b L r ∈ lw_all) : GoodIn lw_all (wsV own idx C y (ws_ y b L r)) := by
  refine lw_app ?_ (lw_meth h5)
  intro w hw
  simp only [List.mem_cons, List.not_mem_nil, or_false] at hw
  rcases hw with e | e | e | e
  · rw [e]; exact h1
  · rw [e]; exact h2
  · rw [e]; exact h3
  · rw [e]; exact h4
/-- what a static call asks: va_cwS n hts (lw_S ..) -/
theorem lw_S {own : String} {idx : Nat} {y : MethodName} {b : ByteArray} {L : Nat} {r : Option FieldType} (h1 : Cond.methodLink own idx y ∈ lw_all) (h2 : Cond.static y ∈ lw_all) (h3 : Cond.initialized y.cls ∈ lw_all) (h4 : Cond.code y b L r ∈ lw_all) : GoodIn lw_all (va_wsS own idx y (ws_ y b L r)) := by
  refine lw_app ?_ (lw_meth h4)
  intro w hw
  simp only [List.mem_cons, List.not_mem_nil, or_false] at hw
  rcases hw with e | e | e
  · rw [e]; exact h1
  · rw [e]; exact h2
  · rw [e]; exact h3
/-- the words of a contract for a method WITH HANDLERS (hh: its table) -/
abbrev wsW_ (y : MethodName) (b : ByteArray) (L : Nat) (r : Option FieldType) (hh : List (Nat × Nat × Nat × Nat)) : List Cond := Cond.codeWith y b L r hh :: lw_all
theorem lw_methW {y : MethodName} {b : ByteArray} {L : Nat} {r : Option FieldType} {hh : List (Nat × Nat × Nat × Nat)} (h : Cond.codeWith y b L r hh ∈ lw_all) : GoodIn lw_all (wsW_ y b L r hh) := by
  intro w hw
  rcases List.mem_cons.mp hw with e | e
  · rw [e]
    exact lw_self _ h
  · exact lw_self _ e
/-- any list of words by their places (lw_in), good -/
theorem lw_good {ws : List Cond} (h : ∀ w ∈ ws, w ∈ lw_all) : GoodIn lw_all ws := fun w hw => lw_self w (h w hw)
/-- what a call of a method with handlers asks: vx_cwVW n hts (lw_VW ..), vx_cwSW n hts (lw_SW ..) -/
theorem lw_VW {own : String} {idx : Nat} {C : String} {y : MethodName} {b : ByteArray} {L : Nat} {r : Option FieldType} {hh : List (Nat × Nat × Nat × Nat)} (h1 : Cond.methodLink own idx y ∈ lw_all) (h2 : Cond.instanceMethod y ∈ lw_all) (h3 : Cond.selects C y y ∈ lw_all) (h4 : Cond.initialized C ∈ lw_all) (h5 : Cond.codeWith y b L r hh ∈ lw_all) : GoodIn lw_all (wsV own idx C y (wsW_ y b L r hh)) := by
  refine lw_app ?_ (lw_methW h5)
  intro w hw
  simp only [List.mem_cons, List.not_mem_nil, or_false] at hw
  rcases hw with e | e | e | e
  · rw [e]; exact h1
  · rw [e]; exact h2
  · rw [e]; exact h3
  · rw [e]; exact h4
theorem lw_SW {own : String} {idx : Nat} {y : MethodName} {b : ByteArray} {L : Nat} {r : Option FieldType} {hh : List (Nat × Nat × Nat × Nat)} (h1 : Cond.methodLink own idx y ∈ lw_all) (h2 : Cond.static y ∈ lw_all) (h3 : Cond.initialized y.cls ∈ lw_all) (h4 : Cond.codeWith y b L r hh ∈ lw_all) : GoodIn lw_all (va_wsS own idx y (wsW_ y b L r hh)) := by
  refine lw_app ?_ (lw_methW h4)
  intro w hw
  simp only [List.mem_cons, List.not_mem_nil, or_false] at hw
  rcases hw with e | e | e
  · rw [e]; exact h1
  · rw [e]; exact h2
  · rw [e]; exact h3
/-- a word by its place in its run of the tables -/
theorem lw_at {r : List Cond} (hr : ∀ w ∈ r, w ∈ lw_tbl) {w : Cond} (i : Nat) (h : r[i]? = some w) : w ∈ lw_tbl := hr w (List.mem_of_getElem? h)
theorem lw_g {w : Cond} (h : w ∈ lw_tbl) (g : goodWord w = true) : w ∈ lw_all := List.mem_filter.mpr ⟨h, g⟩
theorem lw_ms : ∀ w ∈ k2_sels lw_privs, w ∈ lw_tbl := fun w h => show w ∈ k2_sels lw_privs ++ tables_1 from List.mem_append_left _ h
theorem lw_m0 : ∀ w ∈ tables_1, w ∈ lw_tbl := fun w h => show w ∈ k2_sels lw_privs ++ tables_1 from List.mem_append_right (k2_sels lw_privs) h
theorem qs0 : (Cond.selects "SquareDesk" ⟨"SquareDesk", "findRow", "()V"⟩ ⟨"SquareDesk", "findRow", "()V"⟩) ∈ lw_all := lw_g (lw_at lw_ms 0 rfl) rfl
theorem qs1 : (Cond.selects "SquareDesk" ⟨"SquareDesk", "termAt", "(I)I"⟩ ⟨"SquareDesk", "termAt", "(I)I"⟩) ∈ lw_all := lw_g (lw_at lw_ms 1 rfl) rfl
theorem qs2 : (Cond.selects "SquareDesk" ⟨"SquareDesk", "isAsked", "(I)Z"⟩ ⟨"SquareDesk", "isAsked", "(I)Z"⟩) ∈ lw_all := lw_g (lw_at lw_ms 2 rfl) rfl
theorem qs3 : (Cond.selects "SquareDesk" ⟨"SquareDesk", "listSolutions", "(I)V"⟩ ⟨"SquareDesk", "listSolutions", "(I)V"⟩) ∈ lw_all := lw_g (lw_at lw_ms 3 rfl) rfl
theorem qs4 : (Cond.selects "SquareDesk" ⟨"SquareDesk", "addFractions", "(II)V"⟩ ⟨"SquareDesk", "addFractions", "(II)V"⟩) ∈ lw_all := lw_g (lw_at lw_ms 4 rfl) rfl
theorem qs5 : (Cond.selects "SquareDesk" ⟨"SquareDesk", "addY", "(I)V"⟩ ⟨"SquareDesk", "addY", "(I)V"⟩) ∈ lw_all := lw_g (lw_at lw_ms 5 rfl) rfl
theorem qs6 : (Cond.selects "SquareDeskModel" ⟨"SquareDeskModel", "write", "()V"⟩ ⟨"SquareDeskModel", "write", "()V"⟩) ∈ lw_all := lw_g (lw_at lw_ms 6 rfl) rfl
theorem qs7 : (Cond.selects "SquareDeskModel" ⟨"SquareDeskModel", "repeats", "(I)Z"⟩ ⟨"SquareDeskModel", "repeats", "(I)Z"⟩) ∈ lw_all := lw_g (lw_at lw_ms 7 rfl) rfl
theorem qs8 : (Cond.selects "SquareDeskModel" ⟨"SquareDeskModel", "refused", "(II)Z"⟩ ⟨"SquareDeskModel", "refused", "(II)Z"⟩) ∈ lw_all := lw_g (lw_at lw_ms 8 rfl) rfl
theorem qs9 : (Cond.selects "SquareDeskModel" ⟨"SquareDeskModel", "find", "(II)I"⟩ ⟨"SquareDeskModel", "find", "(II)I"⟩) ∈ lw_all := lw_g (lw_at lw_ms 9 rfl) rfl
end
section
/-! SquareDesk -/
set_option maxRecDepth 100000
def RX0 : String := "SquareDesk"
def TX0 : u_T := fun k => match k with
  | 0 => ("SquareDesk", "n", "I", false)
  | 1 => ("SquareDesk", "period", "I", false)
  | 2 => ("SquareDesk", "terms", "[I", true)
  | 3 => ("SquareDesk", "found", "I", false)
  | _ => ("SquareDesk", "ys", "[I", true)
def tyX0 : Nat → FieldType := fun k => match k with
  | 0 => .int
  | 1 => .int
  | 2 => .array .int
  | 3 => .int
  | _ => .array .int
abbrev wsX00 : List Cond := u_ws RX0 TX0 5
theorem nmX0 : ∀ a, a < 5 → ∀ b, b < 5 → a ≠ b → (TX0 a).2.1 ≠ (TX0 b).2.1 := by decide +kernel
theorem tyX0_ok : ∀ k, k < 5 → parseFieldDescriptor (TX0 k).2.2.1 = some (tyX0 k) := by decide +kernel
abbrev cX0_init : ByteArray := prog_1_method_1_code
def yX0_init : MethodName := ⟨RX0, "<init>", "()V"⟩
theorem dX0_init_0 : decode cX0_init 0 = .ok (.aload_n 0, 1) := by decide +kernel
theorem dX0_init_1 : decode cX0_init 1 = .ok (.invokespecial 1, 3) := by decide +kernel
theorem dX0_init_4 : decode cX0_init 4 = .ok (.aload_n 0, 1) := by decide +kernel
theorem dX0_init_5 : decode cX0_init 5 = .ok (.bipush 64, 2) := by decide +kernel
theorem dX0_init_7 : decode cX0_init 7 = .ok (.newarray .int, 2) := by decide +kernel
theorem dX0_init_9 : decode cX0_init 9 = .ok (.putfield 7, 3) := by decide +kernel
theorem dX0_init_12 : decode cX0_init 12 = .ok (.aload_n 0, 1) := by decide +kernel
theorem dX0_init_13 : decode cX0_init 13 = .ok (.bipush 64, 2) := by decide +kernel
theorem dX0_init_15 : decode cX0_init 15 = .ok (.newarray .int, 2) := by decide +kernel
theorem dX0_init_17 : decode cX0_init 17 = .ok (.putfield 13, 3) := by decide +kernel
theorem dX0_init_20 : decode cX0_init 20 = .ok (.aload_n 0, 1) := by decide +kernel
theorem dX0_init_21 : decode cX0_init 21 = .ok (.iconst 2, 1) := by decide +kernel
theorem dX0_init_22 : decode cX0_init 22 = .ok (.putfield 16, 3) := by decide +kernel
theorem dX0_init_25 : decode cX0_init 25 = .ok (.aload_n 0, 1) := by decide +kernel
theorem dX0_init_26 : decode cX0_init 26 = .ok (.invokevirtual 20, 3) := by decide +kernel
theorem dX0_init_29 : decode cX0_init 29 = .ok (.return_, 1) := by decide +kernel
abbrev cX0_findRow : ByteArray := prog_1_method_11_code
def yX0_findRow : MethodName := ⟨RX0, "findRow", "()V"⟩
theorem dX0_findRow_0 : decode cX0_findRow 0 = .ok (.aload_n 0, 1) := by decide +kernel
theorem dX0_findRow_1 : decode cX0_findRow 1 = .ok (.getfield 16, 3) := by decide +kernel
theorem dX0_findRow_4 : decode cX0_findRow 4 = .ok (.invokestatic 23, 3) := by decide +kernel
theorem dX0_findRow_7 : decode cX0_findRow 7 = .ok (.istore_n 1, 1) := by decide +kernel
theorem dX0_findRow_8 : decode cX0_findRow 8 = .ok (.iconst 0, 1) := by decide +kernel
theorem dX0_findRow_9 : decode cX0_findRow 9 = .ok (.istore_n 2, 1) := by decide +kernel
theorem dX0_findRow_10 : decode cX0_findRow 10 = .ok (.iconst 1, 1) := by decide +kernel
theorem dX0_findRow_11 : decode cX0_findRow 11 = .ok (.istore_n 3, 1) := by decide +kernel
theorem dX0_findRow_12 : decode cX0_findRow 12 = .ok (.aload_n 0, 1) := by decide +kernel
theorem dX0_findRow_13 : decode cX0_findRow 13 = .ok (.iconst 0, 1) := by decide +kernel
theorem dX0_findRow_14 : decode cX0_findRow 14 = .ok (.putfield 30, 3) := by decide +kernel
theorem dX0_findRow_17 : decode cX0_findRow 17 = .ok (.iconst 0, 1) := by decide +kernel
theorem dX0_findRow_18 : decode cX0_findRow 18 = .ok (.istore 4, 2) := by decide +kernel
theorem dX0_findRow_20 : decode cX0_findRow 20 = .ok (.iload 4, 2) := by decide +kernel
theorem dX0_findRow_22 : decode cX0_findRow 22 = .ok (.bipush 64, 2) := by decide +kernel
theorem dX0_findRow_24 : decode cX0_findRow 24 = .ok (.if_icmp .ge 75, 3) := by decide +kernel
theorem dX0_findRow_27 : decode cX0_findRow 27 = .ok (.aload_n 0, 1) := by decide +kernel
theorem dX0_findRow_28 : decode cX0_findRow 28 = .ok (.getfield 30, 3) := by decide +kernel
theorem dX0_findRow_31 : decode cX0_findRow 31 = .ok (.ifCond .ne 68, 3) := by decide +kernel
theorem dX0_findRow_34 : decode cX0_findRow 34 = .ok (.iload_n 1, 1) := by decide +kernel
theorem dX0_findRow_35 : decode cX0_findRow 35 = .ok (.iload_n 2, 1) := by decide +kernel
theorem dX0_findRow_36 : decode cX0_findRow 36 = .ok (.iadd, 1) := by decide +kernel
theorem dX0_findRow_37 : decode cX0_findRow 37 = .ok (.iload_n 3, 1) := by decide +kernel
theorem dX0_findRow_38 : decode cX0_findRow 38 = .ok (.idiv, 1) := by decide +kernel
theorem dX0_findRow_39 : decode cX0_findRow 39 = .ok (.istore 5, 2) := by decide +kernel
theorem dX0_findRow_41 : decode cX0_findRow 41 = .ok (.aload_n 0, 1) := by decide +kernel
theorem dX0_findRow_42 : decode cX0_findRow 42 = .ok (.getfield 7, 3) := by decide +kernel
theorem dX0_findRow_45 : decode cX0_findRow 45 = .ok (.iload 4, 2) := by decide +kernel
theorem dX0_findRow_47 : decode cX0_findRow 47 = .ok (.iload 5, 2) := by decide +kernel
theorem dX0_findRow_49 : decode cX0_findRow 49 = .ok (.iastore, 1) := by decide +kernel
theorem dX0_findRow_50 : decode cX0_findRow 50 = .ok (.iload 5, 2) := by decide +kernel
theorem dX0_findRow_52 : decode cX0_findRow 52 = .ok (.iload_n 3, 1) := by decide +kernel
theorem dX0_findRow_53 : decode cX0_findRow 53 = .ok (.imul, 1) := by decide +kernel
theorem dX0_findRow_54 : decode cX0_findRow 54 = .ok (.iload_n 2, 1) := by decide +kernel
theorem dX0_findRow_55 : decode cX0_findRow 55 = .ok (.isub, 1) := by decide +kernel
theorem dX0_findRow_56 : decode cX0_findRow 56 = .ok (.istore_n 2, 1) := by decide +kernel
theorem dX0_findRow_57 : decode cX0_findRow 57 = .ok (.aload_n 0, 1) := by decide +kernel
theorem dX0_findRow_58 : decode cX0_findRow 58 = .ok (.getfield 16, 3) := by decide +kernel
theorem dX0_findRow_61 : decode cX0_findRow 61 = .ok (.iload_n 2, 1) := by decide +kernel
theorem dX0_findRow_62 : decode cX0_findRow 62 = .ok (.iload_n 2, 1) := by decide +kernel
theorem dX0_findRow_63 : decode cX0_findRow 63 = .ok (.imul, 1) := by decide +kernel
theorem dX0_findRow_64 : decode cX0_findRow 64 = .ok (.isub, 1) := by decide +kernel
theorem dX0_findRow_65 : decode cX0_findRow 65 = .ok (.iload_n 3, 1) := by decide +kernel
theorem dX0_findRow_66 : decode cX0_findRow 66 = .ok (.idiv, 1) := by decide +kernel
theorem dX0_findRow_67 : decode cX0_findRow 67 = .ok (.istore_n 3, 1) := by decide +kernel
theorem dX0_findRow_68 : decode cX0_findRow 68 = .ok (.iload_n 3, 1) := by decide +kernel
theorem dX0_findRow_69 : decode cX0_findRow 69 = .ok (.iconst 1, 1) := by decide +kernel
theorem dX0_findRow_70 : decode cX0_findRow 70 = .ok (.if_icmp .ne 23, 3) := by decide +kernel
theorem dX0_findRow_73 : decode cX0_findRow 73 = .ok (.aload_n 0, 1) := by decide +kernel
theorem dX0_findRow_74 : decode cX0_findRow 74 = .ok (.iload 4, 2) := by decide +kernel
theorem dX0_findRow_76 : decode cX0_findRow 76 = .ok (.iconst 1, 1) := by decide +kernel
theorem dX0_findRow_77 : decode cX0_findRow 77 = .ok (.iadd, 1) := by decide +kernel
theorem dX0_findRow_78 : decode cX0_findRow 78 = .ok (.putfield 30, 3) := by decide +kernel
theorem dX0_findRow_81 : decode cX0_findRow 81 = .ok (.aload_n 0, 1) := by decide +kernel
theorem dX0_findRow_82 : decode cX0_findRow 82 = .ok (.getfield 7, 3) := by decide +kernel
theorem dX0_findRow_85 : decode cX0_findRow 85 = .ok (.iload 4, 2) := by decide +kernel
theorem dX0_findRow_87 : decode cX0_findRow 87 = .ok (.iconst 1, 1) := by decide +kernel
theorem dX0_findRow_88 : decode cX0_findRow 88 = .ok (.iadd, 1) := by decide +kernel
theorem dX0_findRow_89 : decode cX0_findRow 89 = .ok (.iload_n 1, 1) := by decide +kernel
theorem dX0_findRow_90 : decode cX0_findRow 90 = .ok (.iload_n 2, 1) := by decide +kernel
theorem dX0_findRow_91 : decode cX0_findRow 91 = .ok (.iadd, 1) := by decide +kernel
theorem dX0_findRow_92 : decode cX0_findRow 92 = .ok (.iastore, 1) := by decide +kernel
theorem dX0_findRow_93 : decode cX0_findRow 93 = .ok (.iinc 4 1, 3) := by decide +kernel
theorem dX0_findRow_96 : decode cX0_findRow 96 = .ok (.goto (-76), 3) := by decide +kernel
theorem dX0_findRow_99 : decode cX0_findRow 99 = .ok (.return_, 1) := by decide +kernel
abbrev cX0_rootOf : ByteArray := prog_1_method_10_code
def yX0_rootOf : MethodName := ⟨RX0, "rootOf", "(I)I"⟩
theorem dX0_rootOf_0 : decode cX0_rootOf 0 = .ok (.iconst 0, 1) := by decide +kernel
theorem dX0_rootOf_1 : decode cX0_rootOf 1 = .ok (.istore_n 1, 1) := by decide +kernel
theorem dX0_rootOf_2 : decode cX0_rootOf 2 = .ok (.ldc 44, 2) := by decide +kernel
theorem dX0_rootOf_4 : decode cX0_rootOf 4 = .ok (.istore_n 2, 1) := by decide +kernel
theorem dX0_rootOf_5 : decode cX0_rootOf 5 = .ok (.iload_n 2, 1) := by decide +kernel
theorem dX0_rootOf_6 : decode cX0_rootOf 6 = .ok (.ifCond .le 32, 3) := by decide +kernel
theorem dX0_rootOf_9 : decode cX0_rootOf 9 = .ok (.iload_n 1, 1) := by decide +kernel
theorem dX0_rootOf_10 : decode cX0_rootOf 10 = .ok (.iload_n 2, 1) := by decide +kernel
theorem dX0_rootOf_11 : decode cX0_rootOf 11 = .ok (.iadd, 1) := by decide +kernel
theorem dX0_rootOf_12 : decode cX0_rootOf 12 = .ok (.i2l, 1) := by decide +kernel
theorem dX0_rootOf_13 : decode cX0_rootOf 13 = .ok (.lstore_n 3, 1) := by decide +kernel
theorem dX0_rootOf_14 : decode cX0_rootOf 14 = .ok (.lload_n 3, 1) := by decide +kernel
theorem dX0_rootOf_15 : decode cX0_rootOf 15 = .ok (.lload_n 3, 1) := by decide +kernel
theorem dX0_rootOf_16 : decode cX0_rootOf 16 = .ok (.lmul, 1) := by decide +kernel
theorem dX0_rootOf_17 : decode cX0_rootOf 17 = .ok (.iload_n 0, 1) := by decide +kernel
theorem dX0_rootOf_18 : decode cX0_rootOf 18 = .ok (.i2l, 1) := by decide +kernel
theorem dX0_rootOf_19 : decode cX0_rootOf 19 = .ok (.lcmp, 1) := by decide +kernel
theorem dX0_rootOf_20 : decode cX0_rootOf 20 = .ok (.ifCond .gt 9, 3) := by decide +kernel
theorem dX0_rootOf_23 : decode cX0_rootOf 23 = .ok (.iload_n 1, 1) := by decide +kernel
theorem dX0_rootOf_24 : decode cX0_rootOf 24 = .ok (.iload_n 2, 1) := by decide +kernel
theorem dX0_rootOf_25 : decode cX0_rootOf 25 = .ok (.iadd, 1) := by decide +kernel
theorem dX0_rootOf_26 : decode cX0_rootOf 26 = .ok (.goto 4, 3) := by decide +kernel
theorem dX0_rootOf_29 : decode cX0_rootOf 29 = .ok (.iload_n 1, 1) := by decide +kernel
theorem dX0_rootOf_30 : decode cX0_rootOf 30 = .ok (.istore_n 1, 1) := by decide +kernel
theorem dX0_rootOf_31 : decode cX0_rootOf 31 = .ok (.iload_n 2, 1) := by decide +kernel
theorem dX0_rootOf_32 : decode cX0_rootOf 32 = .ok (.iconst 2, 1) := by decide +kernel
theorem dX0_rootOf_33 : decode cX0_rootOf 33 = .ok (.idiv, 1) := by decide +kernel
theorem dX0_rootOf_34 : decode cX0_rootOf 34 = .ok (.istore_n 2, 1) := by decide +kernel
theorem dX0_rootOf_35 : decode cX0_rootOf 35 = .ok (.goto (-30), 3) := by decide +kernel
theorem dX0_rootOf_38 : decode cX0_rootOf 38 = .ok (.iload_n 1, 1) := by decide +kernel
theorem dX0_rootOf_39 : decode cX0_rootOf 39 = .ok (.ireturn, 1) := by decide +kernel
abbrev cX0_set : ByteArray := prog_1_method_2_code
def yX0_set : MethodName := ⟨RX0, "set", "(I)I"⟩
theorem dX0_set_0 : decode cX0_set 0 = .ok (.iload_n 1, 1) := by decide +kernel
theorem dX0_set_1 : decode cX0_set 1 = .ok (.iconst 2, 1) := by decide +kernel
theorem dX0_set_2 : decode cX0_set 2 = .ok (.if_icmp .lt 9, 3) := by decide +kernel
theorem dX0_set_5 : decode cX0_set 5 = .ok (.iload_n 1, 1) := by decide +kernel
theorem dX0_set_6 : decode cX0_set 6 = .ok (.bipush 120, 2) := by decide +kernel
theorem dX0_set_8 : decode cX0_set 8 = .ok (.if_icmp .le 5, 3) := by decide +kernel
theorem dX0_set_11 : decode cX0_set 11 = .ok (.iconst (-1), 1) := by decide +kernel
theorem dX0_set_12 : decode cX0_set 12 = .ok (.ireturn, 1) := by decide +kernel
theorem dX0_set_13 : decode cX0_set 13 = .ok (.iload_n 1, 1) := by decide +kernel
theorem dX0_set_14 : decode cX0_set 14 = .ok (.invokestatic 23, 3) := by decide +kernel
theorem dX0_set_17 : decode cX0_set 17 = .ok (.istore_n 2, 1) := by decide +kernel
theorem dX0_set_18 : decode cX0_set 18 = .ok (.iload_n 2, 1) := by decide +kernel
theorem dX0_set_19 : decode cX0_set 19 = .ok (.iload_n 2, 1) := by decide +kernel
theorem dX0_set_20 : decode cX0_set 20 = .ok (.imul, 1) := by decide +kernel
theorem dX0_set_21 : decode cX0_set 21 = .ok (.iload_n 1, 1) := by decide +kernel
theorem dX0_set_22 : decode cX0_set 22 = .ok (.if_icmp .ne 5, 3) := by decide +kernel
theorem dX0_set_25 : decode cX0_set 25 = .ok (.iconst (-1), 1) := by decide +kernel
theorem dX0_set_26 : decode cX0_set 26 = .ok (.ireturn, 1) := by decide +kernel
theorem dX0_set_27 : decode cX0_set 27 = .ok (.aload_n 0, 1) := by decide +kernel
theorem dX0_set_28 : decode cX0_set 28 = .ok (.iload_n 1, 1) := by decide +kernel
theorem dX0_set_29 : decode cX0_set 29 = .ok (.putfield 16, 3) := by decide +kernel
theorem dX0_set_32 : decode cX0_set 32 = .ok (.aload_n 0, 1) := by decide +kernel
theorem dX0_set_33 : decode cX0_set 33 = .ok (.invokevirtual 20, 3) := by decide +kernel
theorem dX0_set_36 : decode cX0_set 36 = .ok (.iconst 0, 1) := by decide +kernel
theorem dX0_set_37 : decode cX0_set 37 = .ok (.ireturn, 1) := by decide +kernel
abbrev cX0_term : ByteArray := prog_1_method_3_code
def yX0_term : MethodName := ⟨RX0, "term", "(I)I"⟩
theorem dX0_term_0 : decode cX0_term 0 = .ok (.iload_n 1, 1) := by decide +kernel
theorem dX0_term_1 : decode cX0_term 1 = .ok (.ifCond .lt 9, 3) := by decide +kernel
theorem dX0_term_4 : decode cX0_term 4 = .ok (.iload_n 1, 1) := by decide +kernel
theorem dX0_term_5 : decode cX0_term 5 = .ok (.bipush 100, 2) := by decide +kernel
theorem dX0_term_7 : decode cX0_term 7 = .ok (.if_icmp .le 7, 3) := by decide +kernel
theorem dX0_term_10 : decode cX0_term 10 = .ok (.iconst (-1), 1) := by decide +kernel
theorem dX0_term_11 : decode cX0_term 11 = .ok (.goto 8, 3) := by decide +kernel
theorem dX0_term_14 : decode cX0_term 14 = .ok (.aload_n 0, 1) := by decide +kernel
theorem dX0_term_15 : decode cX0_term 15 = .ok (.iload_n 1, 1) := by decide +kernel
theorem dX0_term_16 : decode cX0_term 16 = .ok (.invokevirtual 27, 3) := by decide +kernel
theorem dX0_term_19 : decode cX0_term 19 = .ok (.ireturn, 1) := by decide +kernel
abbrev cX0_termAt : ByteArray := prog_1_method_12_code
def yX0_termAt : MethodName := ⟨RX0, "termAt", "(I)I"⟩
theorem dX0_termAt_0 : decode cX0_termAt 0 = .ok (.iload_n 1, 1) := by decide +kernel
theorem dX0_termAt_1 : decode cX0_termAt 1 = .ok (.ifCond .ne 12, 3) := by decide +kernel
theorem dX0_termAt_4 : decode cX0_termAt 4 = .ok (.aload_n 0, 1) := by decide +kernel
theorem dX0_termAt_5 : decode cX0_termAt 5 = .ok (.getfield 7, 3) := by decide +kernel
theorem dX0_termAt_8 : decode cX0_termAt 8 = .ok (.iconst 0, 1) := by decide +kernel
theorem dX0_termAt_9 : decode cX0_termAt 9 = .ok (.iaload, 1) := by decide +kernel
theorem dX0_termAt_10 : decode cX0_termAt 10 = .ok (.goto 18, 3) := by decide +kernel
theorem dX0_termAt_13 : decode cX0_termAt 13 = .ok (.aload_n 0, 1) := by decide +kernel
theorem dX0_termAt_14 : decode cX0_termAt 14 = .ok (.getfield 7, 3) := by decide +kernel
theorem dX0_termAt_17 : decode cX0_termAt 17 = .ok (.iconst 1, 1) := by decide +kernel
theorem dX0_termAt_18 : decode cX0_termAt 18 = .ok (.iload_n 1, 1) := by decide +kernel
theorem dX0_termAt_19 : decode cX0_termAt 19 = .ok (.iconst 1, 1) := by decide +kernel
theorem dX0_termAt_20 : decode cX0_termAt 20 = .ok (.isub, 1) := by decide +kernel
theorem dX0_termAt_21 : decode cX0_termAt 21 = .ok (.aload_n 0, 1) := by decide +kernel
theorem dX0_termAt_22 : decode cX0_termAt 22 = .ok (.getfield 30, 3) := by decide +kernel
theorem dX0_termAt_25 : decode cX0_termAt 25 = .ok (.irem, 1) := by decide +kernel
theorem dX0_termAt_26 : decode cX0_termAt 26 = .ok (.iadd, 1) := by decide +kernel
theorem dX0_termAt_27 : decode cX0_termAt 27 = .ok (.iaload, 1) := by decide +kernel
theorem dX0_termAt_28 : decode cX0_termAt 28 = .ok (.ireturn, 1) := by decide +kernel
abbrev cX0_period : ByteArray := prog_1_method_4_code
def yX0_period : MethodName := ⟨RX0, "period", "()I"⟩
theorem dX0_period_0 : decode cX0_period 0 = .ok (.aload_n 0, 1) := by decide +kernel
theorem dX0_period_1 : decode cX0_period 1 = .ok (.getfield 30, 3) := by decide +kernel
theorem dX0_period_4 : decode cX0_period 4 = .ok (.ireturn, 1) := by decide +kernel
abbrev cX0_solutions : ByteArray := prog_1_method_5_code
def yX0_solutions : MethodName := ⟨RX0, "solutions", "(II)I"⟩
theorem dX0_solutions_0 : decode cX0_solutions 0 = .ok (.aload_n 0, 1) := by decide +kernel
theorem dX0_solutions_1 : decode cX0_solutions 1 = .ok (.iload_n 1, 1) := by decide +kernel
theorem dX0_solutions_2 : decode cX0_solutions 2 = .ok (.invokevirtual 33, 3) := by decide +kernel
theorem dX0_solutions_5 : decode cX0_solutions 5 = .ok (.ifCond .eq 14, 3) := by decide +kernel
theorem dX0_solutions_8 : decode cX0_solutions 8 = .ok (.iload_n 2, 1) := by decide +kernel
theorem dX0_solutions_9 : decode cX0_solutions 9 = .ok (.ifCond .lt 10, 3) := by decide +kernel
theorem dX0_solutions_12 : decode cX0_solutions 12 = .ok (.iload_n 2, 1) := by decide +kernel
theorem dX0_solutions_13 : decode cX0_solutions 13 = .ok (.sipush 3000, 3) := by decide +kernel
theorem dX0_solutions_16 : decode cX0_solutions 16 = .ok (.if_icmp .le 5, 3) := by decide +kernel
theorem dX0_solutions_19 : decode cX0_solutions 19 = .ok (.iconst (-1), 1) := by decide +kernel
theorem dX0_solutions_20 : decode cX0_solutions 20 = .ok (.ireturn, 1) := by decide +kernel
theorem dX0_solutions_21 : decode cX0_solutions 21 = .ok (.aload_n 0, 1) := by decide +kernel
theorem dX0_solutions_22 : decode cX0_solutions 22 = .ok (.iload_n 1, 1) := by decide +kernel
theorem dX0_solutions_23 : decode cX0_solutions 23 = .ok (.invokevirtual 37, 3) := by decide +kernel
theorem dX0_solutions_26 : decode cX0_solutions 26 = .ok (.iconst 0, 1) := by decide +kernel
theorem dX0_solutions_27 : decode cX0_solutions 27 = .ok (.istore_n 3, 1) := by decide +kernel
theorem dX0_solutions_28 : decode cX0_solutions 28 = .ok (.iconst 0, 1) := by decide +kernel
theorem dX0_solutions_29 : decode cX0_solutions 29 = .ok (.istore 4, 2) := by decide +kernel
theorem dX0_solutions_31 : decode cX0_solutions 31 = .ok (.iload 4, 2) := by decide +kernel
theorem dX0_solutions_33 : decode cX0_solutions 33 = .ok (.aload_n 0, 1) := by decide +kernel
theorem dX0_solutions_34 : decode cX0_solutions 34 = .ok (.getfield 41, 3) := by decide +kernel
theorem dX0_solutions_37 : decode cX0_solutions 37 = .ok (.if_icmp .ge 28, 3) := by decide +kernel
theorem dX0_solutions_40 : decode cX0_solutions 40 = .ok (.iload_n 3, 1) := by decide +kernel
theorem dX0_solutions_41 : decode cX0_solutions 41 = .ok (.aload_n 0, 1) := by decide +kernel
theorem dX0_solutions_42 : decode cX0_solutions 42 = .ok (.getfield 13, 3) := by decide +kernel
theorem dX0_solutions_45 : decode cX0_solutions 45 = .ok (.iload 4, 2) := by decide +kernel
theorem dX0_solutions_47 : decode cX0_solutions 47 = .ok (.iaload, 1) := by decide +kernel
theorem dX0_solutions_48 : decode cX0_solutions 48 = .ok (.iload_n 2, 1) := by decide +kernel
theorem dX0_solutions_49 : decode cX0_solutions 49 = .ok (.if_icmp .gt 7, 3) := by decide +kernel
theorem dX0_solutions_52 : decode cX0_solutions 52 = .ok (.iconst 1, 1) := by decide +kernel
theorem dX0_solutions_53 : decode cX0_solutions 53 = .ok (.goto 4, 3) := by decide +kernel
theorem dX0_solutions_56 : decode cX0_solutions 56 = .ok (.iconst 0, 1) := by decide +kernel
theorem dX0_solutions_57 : decode cX0_solutions 57 = .ok (.iadd, 1) := by decide +kernel
theorem dX0_solutions_58 : decode cX0_solutions 58 = .ok (.istore_n 3, 1) := by decide +kernel
theorem dX0_solutions_59 : decode cX0_solutions 59 = .ok (.iinc 4 1, 3) := by decide +kernel
theorem dX0_solutions_62 : decode cX0_solutions 62 = .ok (.goto (-31), 3) := by decide +kernel
theorem dX0_solutions_65 : decode cX0_solutions 65 = .ok (.iload_n 3, 1) := by decide +kernel
theorem dX0_solutions_66 : decode cX0_solutions 66 = .ok (.ireturn, 1) := by decide +kernel
abbrev cX0_isAsked : ByteArray := prog_1_method_9_code
def yX0_isAsked : MethodName := ⟨RX0, "isAsked", "(I)Z"⟩
theorem dX0_isAsked_0 : decode cX0_isAsked 0 = .ok (.iload_n 1, 1) := by decide +kernel
theorem dX0_isAsked_1 : decode cX0_isAsked 1 = .ok (.bipush (-9), 2) := by decide +kernel
theorem dX0_isAsked_3 : decode cX0_isAsked 3 = .ok (.if_icmp .lt 27, 3) := by decide +kernel
theorem dX0_isAsked_6 : decode cX0_isAsked 6 = .ok (.iload_n 1, 1) := by decide +kernel
theorem dX0_isAsked_7 : decode cX0_isAsked 7 = .ok (.bipush 9, 2) := by decide +kernel
theorem dX0_isAsked_9 : decode cX0_isAsked 9 = .ok (.if_icmp .gt 21, 3) := by decide +kernel
theorem dX0_isAsked_12 : decode cX0_isAsked 12 = .ok (.iload_n 1, 1) := by decide +kernel
theorem dX0_isAsked_13 : decode cX0_isAsked 13 = .ok (.ifCond .eq 17, 3) := by decide +kernel
theorem dX0_isAsked_16 : decode cX0_isAsked 16 = .ok (.iload_n 1, 1) := by decide +kernel
theorem dX0_isAsked_17 : decode cX0_isAsked 17 = .ok (.iload_n 1, 1) := by decide +kernel
theorem dX0_isAsked_18 : decode cX0_isAsked 18 = .ok (.imul, 1) := by decide +kernel
theorem dX0_isAsked_19 : decode cX0_isAsked 19 = .ok (.aload_n 0, 1) := by decide +kernel
theorem dX0_isAsked_20 : decode cX0_isAsked 20 = .ok (.getfield 16, 3) := by decide +kernel
theorem dX0_isAsked_23 : decode cX0_isAsked 23 = .ok (.if_icmp .ge 7, 3) := by decide +kernel
theorem dX0_isAsked_26 : decode cX0_isAsked 26 = .ok (.iconst 1, 1) := by decide +kernel
theorem dX0_isAsked_27 : decode cX0_isAsked 27 = .ok (.goto 4, 3) := by decide +kernel
theorem dX0_isAsked_30 : decode cX0_isAsked 30 = .ok (.iconst 0, 1) := by decide +kernel
theorem dX0_isAsked_31 : decode cX0_isAsked 31 = .ok (.ireturn, 1) := by decide +kernel
abbrev cX0_listSolutions : ByteArray := prog_1_method_13_code
def yX0_listSolutions : MethodName := ⟨RX0, "listSolutions", "(I)V"⟩
theorem dX0_listSolutions_0 : decode cX0_listSolutions 0 = .ok (.aload_n 0, 1) := by decide +kernel
theorem dX0_listSolutions_1 : decode cX0_listSolutions 1 = .ok (.iconst 0, 1) := by decide +kernel
theorem dX0_listSolutions_2 : decode cX0_listSolutions 2 = .ok (.putfield 41, 3) := by decide +kernel
theorem dX0_listSolutions_5 : decode cX0_listSolutions 5 = .ok (.iconst 1, 1) := by decide +kernel
theorem dX0_listSolutions_6 : decode cX0_listSolutions 6 = .ok (.istore_n 2, 1) := by decide +kernel
theorem dX0_listSolutions_7 : decode cX0_listSolutions 7 = .ok (.iload_n 2, 1) := by decide +kernel
theorem dX0_listSolutions_8 : decode cX0_listSolutions 8 = .ok (.iconst 3, 1) := by decide +kernel
theorem dX0_listSolutions_9 : decode cX0_listSolutions 9 = .ok (.if_icmp .gt 27, 3) := by decide +kernel
theorem dX0_listSolutions_12 : decode cX0_listSolutions 12 = .ok (.iload_n 1, 1) := by decide +kernel
theorem dX0_listSolutions_13 : decode cX0_listSolutions 13 = .ok (.iload_n 2, 1) := by decide +kernel
theorem dX0_listSolutions_14 : decode cX0_listSolutions 14 = .ok (.iload_n 2, 1) := by decide +kernel
theorem dX0_listSolutions_15 : decode cX0_listSolutions 15 = .ok (.imul, 1) := by decide +kernel
theorem dX0_listSolutions_16 : decode cX0_listSolutions 16 = .ok (.irem, 1) := by decide +kernel
theorem dX0_listSolutions_17 : decode cX0_listSolutions 17 = .ok (.ifCond .ne 13, 3) := by decide +kernel
theorem dX0_listSolutions_20 : decode cX0_listSolutions 20 = .ok (.aload_n 0, 1) := by decide +kernel
theorem dX0_listSolutions_21 : decode cX0_listSolutions 21 = .ok (.iload_n 1, 1) := by decide +kernel
theorem dX0_listSolutions_22 : decode cX0_listSolutions 22 = .ok (.iload_n 2, 1) := by decide +kernel
theorem dX0_listSolutions_23 : decode cX0_listSolutions 23 = .ok (.iload_n 2, 1) := by decide +kernel
theorem dX0_listSolutions_24 : decode cX0_listSolutions 24 = .ok (.imul, 1) := by decide +kernel
theorem dX0_listSolutions_25 : decode cX0_listSolutions 25 = .ok (.idiv, 1) := by decide +kernel
theorem dX0_listSolutions_26 : decode cX0_listSolutions 26 = .ok (.iload_n 2, 1) := by decide +kernel
theorem dX0_listSolutions_27 : decode cX0_listSolutions 27 = .ok (.invokevirtual 45, 3) := by decide +kernel
theorem dX0_listSolutions_30 : decode cX0_listSolutions 30 = .ok (.iinc 2 1, 3) := by decide +kernel
theorem dX0_listSolutions_33 : decode cX0_listSolutions 33 = .ok (.goto (-26), 3) := by decide +kernel
theorem dX0_listSolutions_36 : decode cX0_listSolutions 36 = .ok (.return_, 1) := by decide +kernel
end
section
set_option maxRecDepth 100000
abbrev cX0_addFractions : ByteArray := prog_1_method_14_code
def yX0_addFractions : MethodName := ⟨RX0, "addFractions", "(II)V"⟩
theorem dX0_addFractions_0 : decode cX0_addFractions 0 = .ok (.lconst 1, 1) := by decide +kernel
theorem dX0_addFractions_1 : decode cX0_addFractions 1 = .ok (.lstore_n 3, 1) := by decide +kernel
theorem dX0_addFractions_2 : decode cX0_addFractions 2 = .ok (.lconst 0, 1) := by decide +kernel
theorem dX0_addFractions_3 : decode cX0_addFractions 3 = .ok (.lstore 5, 2) := by decide +kernel
theorem dX0_addFractions_5 : decode cX0_addFractions 5 = .ok (.lconst 0, 1) := by decide +kernel
theorem dX0_addFractions_6 : decode cX0_addFractions 6 = .ok (.lstore 7, 2) := by decide +kernel
theorem dX0_addFractions_8 : decode cX0_addFractions 8 = .ok (.lconst 1, 1) := by decide +kernel
theorem dX0_addFractions_9 : decode cX0_addFractions 9 = .ok (.lstore 9, 2) := by decide +kernel
theorem dX0_addFractions_11 : decode cX0_addFractions 11 = .ok (.iconst 0, 1) := by decide +kernel
theorem dX0_addFractions_12 : decode cX0_addFractions 12 = .ok (.istore 11, 2) := by decide +kernel
theorem dX0_addFractions_14 : decode cX0_addFractions 14 = .ok (.iload 11, 2) := by decide +kernel
theorem dX0_addFractions_16 : decode cX0_addFractions 16 = .ok (.bipush 40, 2) := by decide +kernel
theorem dX0_addFractions_18 : decode cX0_addFractions 18 = .ok (.if_icmp .ge 94, 3) := by decide +kernel
theorem dX0_addFractions_21 : decode cX0_addFractions 21 = .ok (.lload 5, 2) := by decide +kernel
theorem dX0_addFractions_23 : decode cX0_addFractions 23 = .ok (.iload_n 2, 1) := by decide +kernel
theorem dX0_addFractions_24 : decode cX0_addFractions 24 = .ok (.i2l, 1) := by decide +kernel
theorem dX0_addFractions_25 : decode cX0_addFractions 25 = .ok (.lmul, 1) := by decide +kernel
theorem dX0_addFractions_26 : decode cX0_addFractions 26 = .ok (.ldc2_w 49, 3) := by decide +kernel
theorem dX0_addFractions_29 : decode cX0_addFractions 29 = .ok (.lcmp, 1) := by decide +kernel
theorem dX0_addFractions_30 : decode cX0_addFractions 30 = .ok (.ifCond .gt 82, 3) := by decide +kernel
theorem dX0_addFractions_33 : decode cX0_addFractions 33 = .ok (.lload_n 3, 1) := by decide +kernel
theorem dX0_addFractions_34 : decode cX0_addFractions 34 = .ok (.lload_n 3, 1) := by decide +kernel
theorem dX0_addFractions_35 : decode cX0_addFractions 35 = .ok (.lmul, 1) := by decide +kernel
theorem dX0_addFractions_36 : decode cX0_addFractions 36 = .ok (.aload_n 0, 1) := by decide +kernel
theorem dX0_addFractions_37 : decode cX0_addFractions 37 = .ok (.getfield 16, 3) := by decide +kernel
theorem dX0_addFractions_40 : decode cX0_addFractions 40 = .ok (.i2l, 1) := by decide +kernel
theorem dX0_addFractions_41 : decode cX0_addFractions 41 = .ok (.lload 5, 2) := by decide +kernel
theorem dX0_addFractions_43 : decode cX0_addFractions 43 = .ok (.lmul, 1) := by decide +kernel
theorem dX0_addFractions_44 : decode cX0_addFractions 44 = .ok (.lload 5, 2) := by decide +kernel
theorem dX0_addFractions_46 : decode cX0_addFractions 46 = .ok (.lmul, 1) := by decide +kernel
theorem dX0_addFractions_47 : decode cX0_addFractions 47 = .ok (.lsub, 1) := by decide +kernel
theorem dX0_addFractions_48 : decode cX0_addFractions 48 = .ok (.iload_n 1, 1) := by decide +kernel
theorem dX0_addFractions_49 : decode cX0_addFractions 49 = .ok (.i2l, 1) := by decide +kernel
theorem dX0_addFractions_50 : decode cX0_addFractions 50 = .ok (.lcmp, 1) := by decide +kernel
theorem dX0_addFractions_51 : decode cX0_addFractions 51 = .ok (.ifCond .ne 12, 3) := by decide +kernel
theorem dX0_addFractions_54 : decode cX0_addFractions 54 = .ok (.aload_n 0, 1) := by decide +kernel
theorem dX0_addFractions_55 : decode cX0_addFractions 55 = .ok (.lload 5, 2) := by decide +kernel
theorem dX0_addFractions_57 : decode cX0_addFractions 57 = .ok (.l2i, 1) := by decide +kernel
theorem dX0_addFractions_58 : decode cX0_addFractions 58 = .ok (.iload_n 2, 1) := by decide +kernel
theorem dX0_addFractions_59 : decode cX0_addFractions 59 = .ok (.imul, 1) := by decide +kernel
theorem dX0_addFractions_60 : decode cX0_addFractions 60 = .ok (.invokevirtual 51, 3) := by decide +kernel
theorem dX0_addFractions_63 : decode cX0_addFractions 63 = .ok (.aload_n 0, 1) := by decide +kernel
theorem dX0_addFractions_64 : decode cX0_addFractions 64 = .ok (.iload 11, 2) := by decide +kernel
theorem dX0_addFractions_66 : decode cX0_addFractions 66 = .ok (.invokevirtual 27, 3) := by decide +kernel
theorem dX0_addFractions_69 : decode cX0_addFractions 69 = .ok (.istore 12, 2) := by decide +kernel
theorem dX0_addFractions_71 : decode cX0_addFractions 71 = .ok (.iload 12, 2) := by decide +kernel
theorem dX0_addFractions_73 : decode cX0_addFractions 73 = .ok (.i2l, 1) := by decide +kernel
theorem dX0_addFractions_74 : decode cX0_addFractions 74 = .ok (.lload_n 3, 1) := by decide +kernel
theorem dX0_addFractions_75 : decode cX0_addFractions 75 = .ok (.lmul, 1) := by decide +kernel
theorem dX0_addFractions_76 : decode cX0_addFractions 76 = .ok (.lload 7, 2) := by decide +kernel
theorem dX0_addFractions_78 : decode cX0_addFractions 78 = .ok (.ladd, 1) := by decide +kernel
theorem dX0_addFractions_79 : decode cX0_addFractions 79 = .ok (.lstore 13, 2) := by decide +kernel
theorem dX0_addFractions_81 : decode cX0_addFractions 81 = .ok (.iload 12, 2) := by decide +kernel
theorem dX0_addFractions_83 : decode cX0_addFractions 83 = .ok (.i2l, 1) := by decide +kernel
theorem dX0_addFractions_84 : decode cX0_addFractions 84 = .ok (.lload 5, 2) := by decide +kernel
theorem dX0_addFractions_86 : decode cX0_addFractions 86 = .ok (.lmul, 1) := by decide +kernel
theorem dX0_addFractions_87 : decode cX0_addFractions 87 = .ok (.lload 9, 2) := by decide +kernel
theorem dX0_addFractions_89 : decode cX0_addFractions 89 = .ok (.ladd, 1) := by decide +kernel
theorem dX0_addFractions_90 : decode cX0_addFractions 90 = .ok (.lstore 15, 2) := by decide +kernel
theorem dX0_addFractions_92 : decode cX0_addFractions 92 = .ok (.lload_n 3, 1) := by decide +kernel
theorem dX0_addFractions_93 : decode cX0_addFractions 93 = .ok (.lstore 7, 2) := by decide +kernel
theorem dX0_addFractions_95 : decode cX0_addFractions 95 = .ok (.lload 5, 2) := by decide +kernel
theorem dX0_addFractions_97 : decode cX0_addFractions 97 = .ok (.lstore 9, 2) := by decide +kernel
theorem dX0_addFractions_99 : decode cX0_addFractions 99 = .ok (.lload 13, 2) := by decide +kernel
theorem dX0_addFractions_101 : decode cX0_addFractions 101 = .ok (.lstore_n 3, 1) := by decide +kernel
theorem dX0_addFractions_102 : decode cX0_addFractions 102 = .ok (.lload 15, 2) := by decide +kernel
theorem dX0_addFractions_104 : decode cX0_addFractions 104 = .ok (.lstore 5, 2) := by decide +kernel
theorem dX0_addFractions_106 : decode cX0_addFractions 106 = .ok (.iinc 11 1, 3) := by decide +kernel
theorem dX0_addFractions_109 : decode cX0_addFractions 109 = .ok (.goto (-95), 3) := by decide +kernel
theorem dX0_addFractions_112 : decode cX0_addFractions 112 = .ok (.return_, 1) := by decide +kernel
abbrev cX0_addY : ByteArray := prog_1_method_15_code
def yX0_addY : MethodName := ⟨RX0, "addY", "(I)V"⟩
theorem dX0_addY_0 : decode cX0_addY 0 = .ok (.aload_n 0, 1) := by decide +kernel
theorem dX0_addY_1 : decode cX0_addY 1 = .ok (.getfield 41, 3) := by decide +kernel
theorem dX0_addY_4 : decode cX0_addY 4 = .ok (.istore_n 2, 1) := by decide +kernel
theorem dX0_addY_5 : decode cX0_addY 5 = .ok (.aload_n 0, 1) := by decide +kernel
theorem dX0_addY_6 : decode cX0_addY 6 = .ok (.getfield 41, 3) := by decide +kernel
theorem dX0_addY_9 : decode cX0_addY 9 = .ok (.iconst 1, 1) := by decide +kernel
theorem dX0_addY_10 : decode cX0_addY 10 = .ok (.isub, 1) := by decide +kernel
theorem dX0_addY_11 : decode cX0_addY 11 = .ok (.istore_n 3, 1) := by decide +kernel
theorem dX0_addY_12 : decode cX0_addY 12 = .ok (.iload_n 3, 1) := by decide +kernel
theorem dX0_addY_13 : decode cX0_addY 13 = .ok (.ifCond .lt 36, 3) := by decide +kernel
theorem dX0_addY_16 : decode cX0_addY 16 = .ok (.aload_n 0, 1) := by decide +kernel
theorem dX0_addY_17 : decode cX0_addY 17 = .ok (.getfield 13, 3) := by decide +kernel
theorem dX0_addY_20 : decode cX0_addY 20 = .ok (.iload_n 3, 1) := by decide +kernel
theorem dX0_addY_21 : decode cX0_addY 21 = .ok (.iaload, 1) := by decide +kernel
theorem dX0_addY_22 : decode cX0_addY 22 = .ok (.iload_n 1, 1) := by decide +kernel
theorem dX0_addY_23 : decode cX0_addY 23 = .ok (.if_icmp .ne 4, 3) := by decide +kernel
theorem dX0_addY_26 : decode cX0_addY 26 = .ok (.return_, 1) := by decide +kernel
theorem dX0_addY_27 : decode cX0_addY 27 = .ok (.aload_n 0, 1) := by decide +kernel
theorem dX0_addY_28 : decode cX0_addY 28 = .ok (.getfield 13, 3) := by decide +kernel
theorem dX0_addY_31 : decode cX0_addY 31 = .ok (.iload_n 3, 1) := by decide +kernel
theorem dX0_addY_32 : decode cX0_addY 32 = .ok (.iaload, 1) := by decide +kernel
theorem dX0_addY_33 : decode cX0_addY 33 = .ok (.iload_n 1, 1) := by decide +kernel
theorem dX0_addY_34 : decode cX0_addY 34 = .ok (.if_icmp .le 7, 3) := by decide +kernel
theorem dX0_addY_37 : decode cX0_addY 37 = .ok (.iload_n 3, 1) := by decide +kernel
theorem dX0_addY_38 : decode cX0_addY 38 = .ok (.goto 4, 3) := by decide +kernel
theorem dX0_addY_41 : decode cX0_addY 41 = .ok (.iload_n 2, 1) := by decide +kernel
theorem dX0_addY_42 : decode cX0_addY 42 = .ok (.istore_n 2, 1) := by decide +kernel
theorem dX0_addY_43 : decode cX0_addY 43 = .ok (.iinc 3 (-1), 3) := by decide +kernel
theorem dX0_addY_46 : decode cX0_addY 46 = .ok (.goto (-34), 3) := by decide +kernel
theorem dX0_addY_49 : decode cX0_addY 49 = .ok (.aload_n 0, 1) := by decide +kernel
theorem dX0_addY_50 : decode cX0_addY 50 = .ok (.getfield 41, 3) := by decide +kernel
theorem dX0_addY_53 : decode cX0_addY 53 = .ok (.istore_n 3, 1) := by decide +kernel
theorem dX0_addY_54 : decode cX0_addY 54 = .ok (.iload_n 3, 1) := by decide +kernel
theorem dX0_addY_55 : decode cX0_addY 55 = .ok (.iload_n 2, 1) := by decide +kernel
theorem dX0_addY_56 : decode cX0_addY 56 = .ok (.if_icmp .le 23, 3) := by decide +kernel
theorem dX0_addY_59 : decode cX0_addY 59 = .ok (.aload_n 0, 1) := by decide +kernel
theorem dX0_addY_60 : decode cX0_addY 60 = .ok (.getfield 13, 3) := by decide +kernel
theorem dX0_addY_63 : decode cX0_addY 63 = .ok (.iload_n 3, 1) := by decide +kernel
theorem dX0_addY_64 : decode cX0_addY 64 = .ok (.aload_n 0, 1) := by decide +kernel
theorem dX0_addY_65 : decode cX0_addY 65 = .ok (.getfield 13, 3) := by decide +kernel
theorem dX0_addY_68 : decode cX0_addY 68 = .ok (.iload_n 3, 1) := by decide +kernel
theorem dX0_addY_69 : decode cX0_addY 69 = .ok (.iconst 1, 1) := by decide +kernel
theorem dX0_addY_70 : decode cX0_addY 70 = .ok (.isub, 1) := by decide +kernel
theorem dX0_addY_71 : decode cX0_addY 71 = .ok (.iaload, 1) := by decide +kernel
theorem dX0_addY_72 : decode cX0_addY 72 = .ok (.iastore, 1) := by decide +kernel
theorem dX0_addY_73 : decode cX0_addY 73 = .ok (.iinc 3 (-1), 3) := by decide +kernel
theorem dX0_addY_76 : decode cX0_addY 76 = .ok (.goto (-22), 3) := by decide +kernel
theorem dX0_addY_79 : decode cX0_addY 79 = .ok (.aload_n 0, 1) := by decide +kernel
theorem dX0_addY_80 : decode cX0_addY 80 = .ok (.getfield 13, 3) := by decide +kernel
theorem dX0_addY_83 : decode cX0_addY 83 = .ok (.iload_n 2, 1) := by decide +kernel
theorem dX0_addY_84 : decode cX0_addY 84 = .ok (.iload_n 1, 1) := by decide +kernel
theorem dX0_addY_85 : decode cX0_addY 85 = .ok (.iastore, 1) := by decide +kernel
theorem dX0_addY_86 : decode cX0_addY 86 = .ok (.aload_n 0, 1) := by decide +kernel
theorem dX0_addY_87 : decode cX0_addY 87 = .ok (.dup, 1) := by decide +kernel
theorem dX0_addY_88 : decode cX0_addY 88 = .ok (.getfield 41, 3) := by decide +kernel
theorem dX0_addY_91 : decode cX0_addY 91 = .ok (.iconst 1, 1) := by decide +kernel
theorem dX0_addY_92 : decode cX0_addY 92 = .ok (.iadd, 1) := by decide +kernel
theorem dX0_addY_93 : decode cX0_addY 93 = .ok (.putfield 41, 3) := by decide +kernel
theorem dX0_addY_96 : decode cX0_addY 96 = .ok (.return_, 1) := by decide +kernel
abbrev cX0_next : ByteArray := prog_1_method_6_code
def yX0_next : MethodName := ⟨RX0, "next", "(II)I"⟩
theorem dX0_next_0 : decode cX0_next 0 = .ok (.aload_n 0, 1) := by decide +kernel
theorem dX0_next_1 : decode cX0_next 1 = .ok (.iload_n 1, 1) := by decide +kernel
theorem dX0_next_2 : decode cX0_next 2 = .ok (.invokevirtual 33, 3) := by decide +kernel
theorem dX0_next_5 : decode cX0_next 5 = .ok (.ifCond .eq 14, 3) := by decide +kernel
theorem dX0_next_8 : decode cX0_next 8 = .ok (.iload_n 2, 1) := by decide +kernel
theorem dX0_next_9 : decode cX0_next 9 = .ok (.ifCond .lt 10, 3) := by decide +kernel
theorem dX0_next_12 : decode cX0_next 12 = .ok (.iload_n 2, 1) := by decide +kernel
theorem dX0_next_13 : decode cX0_next 13 = .ok (.sipush 3000, 3) := by decide +kernel
theorem dX0_next_16 : decode cX0_next 16 = .ok (.if_icmp .le 5, 3) := by decide +kernel
theorem dX0_next_19 : decode cX0_next 19 = .ok (.iconst (-1), 1) := by decide +kernel
theorem dX0_next_20 : decode cX0_next 20 = .ok (.ireturn, 1) := by decide +kernel
theorem dX0_next_21 : decode cX0_next 21 = .ok (.aload_n 0, 1) := by decide +kernel
theorem dX0_next_22 : decode cX0_next 22 = .ok (.iload_n 1, 1) := by decide +kernel
theorem dX0_next_23 : decode cX0_next 23 = .ok (.invokevirtual 37, 3) := by decide +kernel
theorem dX0_next_26 : decode cX0_next 26 = .ok (.iconst 0, 1) := by decide +kernel
theorem dX0_next_27 : decode cX0_next 27 = .ok (.istore_n 3, 1) := by decide +kernel
theorem dX0_next_28 : decode cX0_next 28 = .ok (.iload_n 3, 1) := by decide +kernel
theorem dX0_next_29 : decode cX0_next 29 = .ok (.aload_n 0, 1) := by decide +kernel
theorem dX0_next_30 : decode cX0_next 30 = .ok (.getfield 41, 3) := by decide +kernel
theorem dX0_next_33 : decode cX0_next 33 = .ok (.if_icmp .ge 26, 3) := by decide +kernel
theorem dX0_next_36 : decode cX0_next 36 = .ok (.aload_n 0, 1) := by decide +kernel
theorem dX0_next_37 : decode cX0_next 37 = .ok (.getfield 13, 3) := by decide +kernel
theorem dX0_next_40 : decode cX0_next 40 = .ok (.iload_n 3, 1) := by decide +kernel
theorem dX0_next_41 : decode cX0_next 41 = .ok (.iaload, 1) := by decide +kernel
theorem dX0_next_42 : decode cX0_next 42 = .ok (.iload_n 2, 1) := by decide +kernel
theorem dX0_next_43 : decode cX0_next 43 = .ok (.if_icmp .lt 10, 3) := by decide +kernel
theorem dX0_next_46 : decode cX0_next 46 = .ok (.aload_n 0, 1) := by decide +kernel
theorem dX0_next_47 : decode cX0_next 47 = .ok (.getfield 13, 3) := by decide +kernel
theorem dX0_next_50 : decode cX0_next 50 = .ok (.iload_n 3, 1) := by decide +kernel
theorem dX0_next_51 : decode cX0_next 51 = .ok (.iaload, 1) := by decide +kernel
theorem dX0_next_52 : decode cX0_next 52 = .ok (.ireturn, 1) := by decide +kernel
theorem dX0_next_53 : decode cX0_next 53 = .ok (.iinc 3 1, 3) := by decide +kernel
theorem dX0_next_56 : decode cX0_next 56 = .ok (.goto (-28), 3) := by decide +kernel
theorem dX0_next_59 : decode cX0_next 59 = .ok (.bipush (-2), 2) := by decide +kernel
theorem dX0_next_61 : decode cX0_next 61 = .ok (.ireturn, 1) := by decide +kernel
abbrev cX0_root : ByteArray := prog_1_method_7_code
def yX0_root : MethodName := ⟨RX0, "root", "(II)I"⟩
theorem dX0_root_0 : decode cX0_root 0 = .ok (.aload_n 0, 1) := by decide +kernel
theorem dX0_root_1 : decode cX0_root 1 = .ok (.iload_n 1, 1) := by decide +kernel
theorem dX0_root_2 : decode cX0_root 2 = .ok (.invokevirtual 33, 3) := by decide +kernel
theorem dX0_root_5 : decode cX0_root 5 = .ok (.ifCond .eq 14, 3) := by decide +kernel
theorem dX0_root_8 : decode cX0_root 8 = .ok (.iload_n 2, 1) := by decide +kernel
theorem dX0_root_9 : decode cX0_root 9 = .ok (.ifCond .lt 10, 3) := by decide +kernel
theorem dX0_root_12 : decode cX0_root 12 = .ok (.iload_n 2, 1) := by decide +kernel
theorem dX0_root_13 : decode cX0_root 13 = .ok (.sipush 3000, 3) := by decide +kernel
theorem dX0_root_16 : decode cX0_root 16 = .ok (.if_icmp .le 5, 3) := by decide +kernel
theorem dX0_root_19 : decode cX0_root 19 = .ok (.iconst (-1), 1) := by decide +kernel
theorem dX0_root_20 : decode cX0_root 20 = .ok (.ireturn, 1) := by decide +kernel
theorem dX0_root_21 : decode cX0_root 21 = .ok (.aload_n 0, 1) := by decide +kernel
theorem dX0_root_22 : decode cX0_root 22 = .ok (.iload_n 1, 1) := by decide +kernel
theorem dX0_root_23 : decode cX0_root 23 = .ok (.invokevirtual 37, 3) := by decide +kernel
theorem dX0_root_26 : decode cX0_root 26 = .ok (.iconst 0, 1) := by decide +kernel
theorem dX0_root_27 : decode cX0_root 27 = .ok (.istore_n 3, 1) := by decide +kernel
theorem dX0_root_28 : decode cX0_root 28 = .ok (.iload_n 3, 1) := by decide +kernel
theorem dX0_root_29 : decode cX0_root 29 = .ok (.aload_n 0, 1) := by decide +kernel
theorem dX0_root_30 : decode cX0_root 30 = .ok (.getfield 41, 3) := by decide +kernel
theorem dX0_root_33 : decode cX0_root 33 = .ok (.if_icmp .ge 33, 3) := by decide +kernel
theorem dX0_root_36 : decode cX0_root 36 = .ok (.aload_n 0, 1) := by decide +kernel
theorem dX0_root_37 : decode cX0_root 37 = .ok (.getfield 13, 3) := by decide +kernel
theorem dX0_root_40 : decode cX0_root 40 = .ok (.iload_n 3, 1) := by decide +kernel
theorem dX0_root_41 : decode cX0_root 41 = .ok (.iaload, 1) := by decide +kernel
theorem dX0_root_42 : decode cX0_root 42 = .ok (.iload_n 2, 1) := by decide +kernel
theorem dX0_root_43 : decode cX0_root 43 = .ok (.if_icmp .ne 17, 3) := by decide +kernel
theorem dX0_root_46 : decode cX0_root 46 = .ok (.iload_n 1, 1) := by decide +kernel
theorem dX0_root_47 : decode cX0_root 47 = .ok (.aload_n 0, 1) := by decide +kernel
theorem dX0_root_48 : decode cX0_root 48 = .ok (.getfield 16, 3) := by decide +kernel
theorem dX0_root_51 : decode cX0_root 51 = .ok (.iload_n 2, 1) := by decide +kernel
theorem dX0_root_52 : decode cX0_root 52 = .ok (.imul, 1) := by decide +kernel
theorem dX0_root_53 : decode cX0_root 53 = .ok (.iload_n 2, 1) := by decide +kernel
theorem dX0_root_54 : decode cX0_root 54 = .ok (.imul, 1) := by decide +kernel
theorem dX0_root_55 : decode cX0_root 55 = .ok (.iadd, 1) := by decide +kernel
theorem dX0_root_56 : decode cX0_root 56 = .ok (.invokestatic 23, 3) := by decide +kernel
theorem dX0_root_59 : decode cX0_root 59 = .ok (.ireturn, 1) := by decide +kernel
theorem dX0_root_60 : decode cX0_root 60 = .ok (.iinc 3 1, 3) := by decide +kernel
theorem dX0_root_63 : decode cX0_root 63 = .ok (.goto (-35), 3) := by decide +kernel
theorem dX0_root_66 : decode cX0_root 66 = .ok (.bipush (-2), 2) := by decide +kernel
theorem dX0_root_68 : decode cX0_root 68 = .ok (.ireturn, 1) := by decide +kernel
abbrev cX0_sum : ByteArray := prog_1_method_8_code
def yX0_sum : MethodName := ⟨RX0, "sum", "(II)I"⟩
theorem dX0_sum_0 : decode cX0_sum 0 = .ok (.aload_n 0, 1) := by decide +kernel
theorem dX0_sum_1 : decode cX0_sum 1 = .ok (.iload_n 1, 1) := by decide +kernel
theorem dX0_sum_2 : decode cX0_sum 2 = .ok (.invokevirtual 33, 3) := by decide +kernel
theorem dX0_sum_5 : decode cX0_sum 5 = .ok (.ifCond .eq 14, 3) := by decide +kernel
theorem dX0_sum_8 : decode cX0_sum 8 = .ok (.iload_n 2, 1) := by decide +kernel
theorem dX0_sum_9 : decode cX0_sum 9 = .ok (.ifCond .lt 10, 3) := by decide +kernel
theorem dX0_sum_12 : decode cX0_sum 12 = .ok (.iload_n 2, 1) := by decide +kernel
theorem dX0_sum_13 : decode cX0_sum 13 = .ok (.sipush 3000, 3) := by decide +kernel
theorem dX0_sum_16 : decode cX0_sum 16 = .ok (.if_icmp .le 5, 3) := by decide +kernel
theorem dX0_sum_19 : decode cX0_sum 19 = .ok (.iconst (-1), 1) := by decide +kernel
theorem dX0_sum_20 : decode cX0_sum 20 = .ok (.ireturn, 1) := by decide +kernel
theorem dX0_sum_21 : decode cX0_sum 21 = .ok (.aload_n 0, 1) := by decide +kernel
theorem dX0_sum_22 : decode cX0_sum 22 = .ok (.iload_n 1, 1) := by decide +kernel
theorem dX0_sum_23 : decode cX0_sum 23 = .ok (.invokevirtual 37, 3) := by decide +kernel
theorem dX0_sum_26 : decode cX0_sum 26 = .ok (.iconst 0, 1) := by decide +kernel
theorem dX0_sum_27 : decode cX0_sum 27 = .ok (.istore_n 3, 1) := by decide +kernel
theorem dX0_sum_28 : decode cX0_sum 28 = .ok (.iconst 0, 1) := by decide +kernel
theorem dX0_sum_29 : decode cX0_sum 29 = .ok (.istore 4, 2) := by decide +kernel
theorem dX0_sum_31 : decode cX0_sum 31 = .ok (.iload 4, 2) := by decide +kernel
theorem dX0_sum_33 : decode cX0_sum 33 = .ok (.aload_n 0, 1) := by decide +kernel
theorem dX0_sum_34 : decode cX0_sum 34 = .ok (.getfield 41, 3) := by decide +kernel
theorem dX0_sum_37 : decode cX0_sum 37 = .ok (.if_icmp .ge 34, 3) := by decide +kernel
theorem dX0_sum_40 : decode cX0_sum 40 = .ok (.iload_n 3, 1) := by decide +kernel
theorem dX0_sum_41 : decode cX0_sum 41 = .ok (.aload_n 0, 1) := by decide +kernel
theorem dX0_sum_42 : decode cX0_sum 42 = .ok (.getfield 13, 3) := by decide +kernel
theorem dX0_sum_45 : decode cX0_sum 45 = .ok (.iload 4, 2) := by decide +kernel
theorem dX0_sum_47 : decode cX0_sum 47 = .ok (.iaload, 1) := by decide +kernel
theorem dX0_sum_48 : decode cX0_sum 48 = .ok (.iload_n 2, 1) := by decide +kernel
theorem dX0_sum_49 : decode cX0_sum 49 = .ok (.if_icmp .gt 13, 3) := by decide +kernel
theorem dX0_sum_52 : decode cX0_sum 52 = .ok (.aload_n 0, 1) := by decide +kernel
theorem dX0_sum_53 : decode cX0_sum 53 = .ok (.getfield 13, 3) := by decide +kernel
theorem dX0_sum_56 : decode cX0_sum 56 = .ok (.iload 4, 2) := by decide +kernel
theorem dX0_sum_58 : decode cX0_sum 58 = .ok (.iaload, 1) := by decide +kernel
theorem dX0_sum_59 : decode cX0_sum 59 = .ok (.goto 4, 3) := by decide +kernel
theorem dX0_sum_62 : decode cX0_sum 62 = .ok (.iconst 0, 1) := by decide +kernel
theorem dX0_sum_63 : decode cX0_sum 63 = .ok (.iadd, 1) := by decide +kernel
theorem dX0_sum_64 : decode cX0_sum 64 = .ok (.istore_n 3, 1) := by decide +kernel
theorem dX0_sum_65 : decode cX0_sum 65 = .ok (.iinc 4 1, 3) := by decide +kernel
theorem dX0_sum_68 : decode cX0_sum 68 = .ok (.goto (-37), 3) := by decide +kernel
theorem dX0_sum_71 : decode cX0_sum 71 = .ok (.iload_n 3, 1) := by decide +kernel
theorem dX0_sum_72 : decode cX0_sum 72 = .ok (.ireturn, 1) := by decide +kernel
theorem q11 : (Jvm.Cond.initialized "SquareDesk") ∈ lw_all := lw_g (lw_at lw_m0 1 rfl) rfl
theorem q14 : (Jvm.Cond.instantiable "SquareDesk" (5 : Nat)) ∈ lw_all := lw_g (lw_at lw_m0 4 rfl) rfl
theorem q16 : (Jvm.Cond.instanceMethod ({ cls := "SquareDesk", name := "<init>", desc := "()V" } : Jvm.MethodName)) ∈ lw_all := lw_g (lw_at lw_m0 6 rfl) rfl
theorem q17 : (Jvm.Cond.code ({ cls := "SquareDesk", name := "<init>", desc := "()V" } : Jvm.MethodName) prog_1_method_1_code (1 : Nat) (Option.none : Option Jvm.ClassFile.FieldType)) ∈ lw_all := lw_g (lw_at lw_m0 7 rfl) rfl
theorem q18 : (Jvm.Cond.methodLink "SquareDesk" (1 : Nat) ({ cls := "java/lang/Object", name := "<init>", desc := "()V" } : Jvm.MethodName)) ∈ lw_all := lw_g (lw_at lw_m0 8 rfl) rfl
theorem q21 : (Jvm.Cond.methodLink "SquareDesk" (20 : Nat) ({ cls := "SquareDesk", name := "findRow", desc := "()V" } : Jvm.MethodName)) ∈ lw_all := lw_g (lw_at lw_m0 11 rfl) rfl
theorem q22 : (Jvm.Cond.privateMethod ({ cls := "SquareDesk", name := "findRow", desc := "()V" } : Jvm.MethodName)) ∈ lw_tbl := lw_at lw_m0 12 rfl
theorem q23 : (Jvm.Cond.instanceMethod ({ cls := "SquareDesk", name := "findRow", desc := "()V" } : Jvm.MethodName)) ∈ lw_all := lw_g (lw_at lw_m0 13 rfl) rfl
theorem q24 : (Jvm.Cond.code ({ cls := "SquareDesk", name := "findRow", desc := "()V" } : Jvm.MethodName) prog_1_method_11_code (6 : Nat) (Option.none : Option Jvm.ClassFile.FieldType)) ∈ lw_all := lw_g (lw_at lw_m0 14 rfl) rfl
theorem q25 : (Jvm.Cond.methodLink "SquareDesk" (23 : Nat) ({ cls := "SquareDesk", name := "rootOf", desc := "(I)I" } : Jvm.MethodName)) ∈ lw_all := lw_g (lw_at lw_m0 15 rfl) rfl
theorem q26 : (Jvm.Cond.static ({ cls := "SquareDesk", name := "rootOf", desc := "(I)I" } : Jvm.MethodName)) ∈ lw_all := lw_g (lw_at lw_m0 16 rfl) rfl
theorem q27 : (Jvm.Cond.code ({ cls := "SquareDesk", name := "rootOf", desc := "(I)I" } : Jvm.MethodName) prog_1_method_10_code (5 : Nat) (Option.some Jvm.ClassFile.FieldType.int)) ∈ lw_all := lw_g (lw_at lw_m0 17 rfl) rfl
theorem q28 : (Jvm.Cond.constant "SquareDesk" (44 : Nat) (32768 : Int32)) ∈ lw_all := lw_g (lw_at lw_m0 18 rfl) rfl
theorem q29 : (Jvm.Cond.fieldLink "SquareDesk" (16 : Nat) "SquareDesk" "n" "I") ∈ lw_all := lw_g (lw_at lw_m0 19 rfl) rfl
theorem q30 : (Jvm.Cond.fieldLink "SquareDesk" (30 : Nat) "SquareDesk" "period" "I") ∈ lw_all := lw_g (lw_at lw_m0 20 rfl) rfl
theorem q31 : (Jvm.Cond.fieldLink "SquareDesk" (7 : Nat) "SquareDesk" "terms" "[I") ∈ lw_all := lw_g (lw_at lw_m0 21 rfl) rfl
theorem q32 : (Jvm.Cond.fieldLink "SquareDesk" (41 : Nat) "SquareDesk" "found" "I") ∈ lw_all := lw_g (lw_at lw_m0 22 rfl) rfl
theorem q33 : (Jvm.Cond.fieldLink "SquareDesk" (13 : Nat) "SquareDesk" "ys" "[I") ∈ lw_all := lw_g (lw_at lw_m0 23 rfl) rfl
theorem q34 : (Jvm.Cond.lays "SquareDesk" "SquareDesk" "n" "I") ∈ lw_all := lw_g (lw_at lw_m0 24 rfl) rfl
theorem q35 : (Jvm.Cond.soleField "SquareDesk" "n") ∈ lw_all := lw_g (lw_at lw_m0 25 rfl) rfl
theorem q36 : (Jvm.Cond.lays "SquareDesk" "SquareDesk" "period" "I") ∈ lw_all := lw_g (lw_at lw_m0 26 rfl) rfl
theorem q37 : (Jvm.Cond.soleField "SquareDesk" "period") ∈ lw_all := lw_g (lw_at lw_m0 27 rfl) rfl
theorem q38 : (Jvm.Cond.laysFinal "SquareDesk" "SquareDesk" "terms" "[I") ∈ lw_all := lw_g (lw_at lw_m0 28 rfl) rfl
theorem q39 : (Jvm.Cond.soleField "SquareDesk" "terms") ∈ lw_all := lw_g (lw_at lw_m0 29 rfl) rfl
theorem q40 : (Jvm.Cond.lays "SquareDesk" "SquareDesk" "found" "I") ∈ lw_all := lw_g (lw_at lw_m0 30 rfl) rfl
theorem q41 : (Jvm.Cond.soleField "SquareDesk" "found") ∈ lw_all := lw_g (lw_at lw_m0 31 rfl) rfl
theorem q42 : (Jvm.Cond.laysFinal "SquareDesk" "SquareDesk" "ys" "[I") ∈ lw_all := lw_g (lw_at lw_m0 32 rfl) rfl
theorem q43 : (Jvm.Cond.soleField "SquareDesk" "ys") ∈ lw_all := lw_g (lw_at lw_m0 33 rfl) rfl
theorem q44 : (Jvm.Cond.superclass "SquareDesk" "java/lang/Object") ∈ lw_all := lw_g (lw_at lw_m0 34 rfl) rfl
theorem q47 : (Jvm.Cond.instanceMethod ({ cls := "SquareDesk", name := "set", desc := "(I)I" } : Jvm.MethodName)) ∈ lw_all := lw_g (lw_at lw_m0 37 rfl) rfl
theorem q48 : (Jvm.Cond.selects "SquareDesk" ({ cls := "SquareDesk", name := "set", desc := "(I)I" } : Jvm.MethodName) ({ cls := "SquareDesk", name := "set", desc := "(I)I" } : Jvm.MethodName)) ∈ lw_all := lw_g (lw_at lw_m0 38 rfl) rfl
theorem q49 : (Jvm.Cond.code ({ cls := "SquareDesk", name := "set", desc := "(I)I" } : Jvm.MethodName) prog_1_method_2_code (3 : Nat) (Option.some Jvm.ClassFile.FieldType.int)) ∈ lw_all := lw_g (lw_at lw_m0 39 rfl) rfl
theorem q51 : (Jvm.Cond.instanceMethod ({ cls := "SquareDesk", name := "term", desc := "(I)I" } : Jvm.MethodName)) ∈ lw_all := lw_g (lw_at lw_m0 41 rfl) rfl
theorem q52 : (Jvm.Cond.selects "SquareDesk" ({ cls := "SquareDesk", name := "term", desc := "(I)I" } : Jvm.MethodName) ({ cls := "SquareDesk", name := "term", desc := "(I)I" } : Jvm.MethodName)) ∈ lw_all := lw_g (lw_at lw_m0 42 rfl) rfl
theorem q53 : (Jvm.Cond.code ({ cls := "SquareDesk", name := "term", desc := "(I)I" } : Jvm.MethodName) prog_1_method_3_code (2 : Nat) (Option.some Jvm.ClassFile.FieldType.int)) ∈ lw_all := lw_g (lw_at lw_m0 43 rfl) rfl
theorem q54 : (Jvm.Cond.methodLink "SquareDesk" (27 : Nat) ({ cls := "SquareDesk", name := "termAt", desc := "(I)I" } : Jvm.MethodName)) ∈ lw_all := lw_g (lw_at lw_m0 44 rfl) rfl
theorem q55 : (Jvm.Cond.privateMethod ({ cls := "SquareDesk", name := "termAt", desc := "(I)I" } : Jvm.MethodName)) ∈ lw_tbl := lw_at lw_m0 45 rfl
theorem q56 : (Jvm.Cond.instanceMethod ({ cls := "SquareDesk", name := "termAt", desc := "(I)I" } : Jvm.MethodName)) ∈ lw_all := lw_g (lw_at lw_m0 46 rfl) rfl
theorem q57 : (Jvm.Cond.code ({ cls := "SquareDesk", name := "termAt", desc := "(I)I" } : Jvm.MethodName) prog_1_method_12_code (2 : Nat) (Option.some Jvm.ClassFile.FieldType.int)) ∈ lw_all := lw_g (lw_at lw_m0 47 rfl) rfl
theorem q59 : (Jvm.Cond.instanceMethod ({ cls := "SquareDesk", name := "period", desc := "()I" } : Jvm.MethodName)) ∈ lw_all := lw_g (lw_at lw_m0 49 rfl) rfl
theorem q60 : (Jvm.Cond.selects "SquareDesk" ({ cls := "SquareDesk", name := "period", desc := "()I" } : Jvm.MethodName) ({ cls := "SquareDesk", name := "period", desc := "()I" } : Jvm.MethodName)) ∈ lw_all := lw_g (lw_at lw_m0 50 rfl) rfl
theorem q61 : (Jvm.Cond.code ({ cls := "SquareDesk", name := "period", desc := "()I" } : Jvm.MethodName) prog_1_method_4_code (1 : Nat) (Option.some Jvm.ClassFile.FieldType.int)) ∈ lw_all := lw_g (lw_at lw_m0 51 rfl) rfl
theorem q63 : (Jvm.Cond.instanceMethod ({ cls := "SquareDesk", name := "solutions", desc := "(II)I" } : Jvm.MethodName)) ∈ lw_all := lw_g (lw_at lw_m0 53 rfl) rfl
theorem q64 : (Jvm.Cond.selects "SquareDesk" ({ cls := "SquareDesk", name := "solutions", desc := "(II)I" } : Jvm.MethodName) ({ cls := "SquareDesk", name := "solutions", desc := "(II)I" } : Jvm.MethodName)) ∈ lw_all := lw_g (lw_at lw_m0 54 rfl) rfl
theorem q65 : (Jvm.Cond.code ({ cls := "SquareDesk", name := "solutions", desc := "(II)I" } : Jvm.MethodName) prog_1_method_5_code (5 : Nat) (Option.some Jvm.ClassFile.FieldType.int)) ∈ lw_all := lw_g (lw_at lw_m0 55 rfl) rfl
theorem q66 : (Jvm.Cond.methodLink "SquareDesk" (33 : Nat) ({ cls := "SquareDesk", name := "isAsked", desc := "(I)Z" } : Jvm.MethodName)) ∈ lw_all := lw_g (lw_at lw_m0 56 rfl) rfl
theorem q67 : (Jvm.Cond.privateMethod ({ cls := "SquareDesk", name := "isAsked", desc := "(I)Z" } : Jvm.MethodName)) ∈ lw_tbl := lw_at lw_m0 57 rfl
theorem q68 : (Jvm.Cond.instanceMethod ({ cls := "SquareDesk", name := "isAsked", desc := "(I)Z" } : Jvm.MethodName)) ∈ lw_all := lw_g (lw_at lw_m0 58 rfl) rfl
theorem q69 : (Jvm.Cond.code ({ cls := "SquareDesk", name := "isAsked", desc := "(I)Z" } : Jvm.MethodName) prog_1_method_9_code (2 : Nat) (Option.some Jvm.ClassFile.FieldType.boolean)) ∈ lw_all := lw_g (lw_at lw_m0 59 rfl) rfl
theorem q70 : (Jvm.Cond.methodLink "SquareDesk" (37 : Nat) ({ cls := "SquareDesk", name := "listSolutions", desc := "(I)V" } : Jvm.MethodName)) ∈ lw_all := lw_g (lw_at lw_m0 60 rfl) rfl
theorem q71 : (Jvm.Cond.privateMethod ({ cls := "SquareDesk", name := "listSolutions", desc := "(I)V" } : Jvm.MethodName)) ∈ lw_tbl := lw_at lw_m0 61 rfl
theorem q72 : (Jvm.Cond.instanceMethod ({ cls := "SquareDesk", name := "listSolutions", desc := "(I)V" } : Jvm.MethodName)) ∈ lw_all := lw_g (lw_at lw_m0 62 rfl) rfl
theorem q73 : (Jvm.Cond.code ({ cls := "SquareDesk", name := "listSolutions", desc := "(I)V" } : Jvm.MethodName) prog_1_method_13_code (3 : Nat) (Option.none : Option Jvm.ClassFile.FieldType)) ∈ lw_all := lw_g (lw_at lw_m0 63 rfl) rfl
theorem q74 : (Jvm.Cond.methodLink "SquareDesk" (45 : Nat) ({ cls := "SquareDesk", name := "addFractions", desc := "(II)V" } : Jvm.MethodName)) ∈ lw_all := lw_g (lw_at lw_m0 64 rfl) rfl
theorem q75 : (Jvm.Cond.privateMethod ({ cls := "SquareDesk", name := "addFractions", desc := "(II)V" } : Jvm.MethodName)) ∈ lw_tbl := lw_at lw_m0 65 rfl
theorem q76 : (Jvm.Cond.instanceMethod ({ cls := "SquareDesk", name := "addFractions", desc := "(II)V" } : Jvm.MethodName)) ∈ lw_all := lw_g (lw_at lw_m0 66 rfl) rfl
theorem q77 : (Jvm.Cond.code ({ cls := "SquareDesk", name := "addFractions", desc := "(II)V" } : Jvm.MethodName) prog_1_method_14_code (17 : Nat) (Option.none : Option Jvm.ClassFile.FieldType)) ∈ lw_all := lw_g (lw_at lw_m0 67 rfl) rfl
theorem q78 : (Jvm.Cond.constantLong "SquareDesk" (49 : Nat) (3000 : Int64)) ∈ lw_all := lw_g (lw_at lw_m0 68 rfl) rfl
theorem q79 : (Jvm.Cond.methodLink "SquareDesk" (51 : Nat) ({ cls := "SquareDesk", name := "addY", desc := "(I)V" } : Jvm.MethodName)) ∈ lw_all := lw_g (lw_at lw_m0 69 rfl) rfl
theorem q80 : (Jvm.Cond.privateMethod ({ cls := "SquareDesk", name := "addY", desc := "(I)V" } : Jvm.MethodName)) ∈ lw_tbl := lw_at lw_m0 70 rfl
theorem q81 : (Jvm.Cond.instanceMethod ({ cls := "SquareDesk", name := "addY", desc := "(I)V" } : Jvm.MethodName)) ∈ lw_all := lw_g (lw_at lw_m0 71 rfl) rfl
theorem q82 : (Jvm.Cond.code ({ cls := "SquareDesk", name := "addY", desc := "(I)V" } : Jvm.MethodName) prog_1_method_15_code (4 : Nat) (Option.none : Option Jvm.ClassFile.FieldType)) ∈ lw_all := lw_g (lw_at lw_m0 72 rfl) rfl
theorem q84 : (Jvm.Cond.instanceMethod ({ cls := "SquareDesk", name := "next", desc := "(II)I" } : Jvm.MethodName)) ∈ lw_all := lw_g (lw_at lw_m0 74 rfl) rfl
theorem q85 : (Jvm.Cond.selects "SquareDesk" ({ cls := "SquareDesk", name := "next", desc := "(II)I" } : Jvm.MethodName) ({ cls := "SquareDesk", name := "next", desc := "(II)I" } : Jvm.MethodName)) ∈ lw_all := lw_g (lw_at lw_m0 75 rfl) rfl
theorem q86 : (Jvm.Cond.code ({ cls := "SquareDesk", name := "next", desc := "(II)I" } : Jvm.MethodName) prog_1_method_6_code (4 : Nat) (Option.some Jvm.ClassFile.FieldType.int)) ∈ lw_all := lw_g (lw_at lw_m0 76 rfl) rfl
theorem q88 : (Jvm.Cond.instanceMethod ({ cls := "SquareDesk", name := "root", desc := "(II)I" } : Jvm.MethodName)) ∈ lw_all := lw_g (lw_at lw_m0 78 rfl) rfl
theorem q89 : (Jvm.Cond.selects "SquareDesk" ({ cls := "SquareDesk", name := "root", desc := "(II)I" } : Jvm.MethodName) ({ cls := "SquareDesk", name := "root", desc := "(II)I" } : Jvm.MethodName)) ∈ lw_all := lw_g (lw_at lw_m0 79 rfl) rfl
theorem q90 : (Jvm.Cond.code ({ cls := "SquareDesk", name := "root", desc := "(II)I" } : Jvm.MethodName) prog_1_method_7_code (4 : Nat) (Option.some Jvm.ClassFile.FieldType.int)) ∈ lw_all := lw_g (lw_at lw_m0 80 rfl) rfl
theorem q92 : (Jvm.Cond.instanceMethod ({ cls := "SquareDesk", name := "sum", desc := "(II)I" } : Jvm.MethodName)) ∈ lw_all := lw_g (lw_at lw_m0 82 rfl) rfl
theorem q93 : (Jvm.Cond.selects "SquareDesk" ({ cls := "SquareDesk", name := "sum", desc := "(II)I" } : Jvm.MethodName) ({ cls := "SquareDesk", name := "sum", desc := "(II)I" } : Jvm.MethodName)) ∈ lw_all := lw_g (lw_at lw_m0 83 rfl) rfl
theorem q94 : (Jvm.Cond.code ({ cls := "SquareDesk", name := "sum", desc := "(II)I" } : Jvm.MethodName) prog_1_method_8_code (5 : Nat) (Option.some Jvm.ClassFile.FieldType.int)) ∈ lw_all := lw_g (lw_at lw_m0 84 rfl) rfl
theorem in_X0 : ∀ w ∈ wsX00, w ∈ lw_all := lw_in wsX00 [34, 36, 38, 40, 42] (by decide +kernel) (by decide +kernel)
end
section
/-! SquareDeskModel -/
set_option maxRecDepth 100000
def RX1 : String := "SquareDeskModel"
def TX1 : u_T := fun k => match k with
  | 0 => ("SquareDeskModel", "n", "I", false)
  | _ => ("SquareDeskModel", "terms", "[I", true)
def tyX1 : Nat → FieldType := fun k => match k with
  | 0 => .int
  | _ => .array .int
abbrev wsX10 : List Cond := u_ws RX1 TX1 2
theorem nmX1 : ∀ a, a < 2 → ∀ b, b < 2 → a ≠ b → (TX1 a).2.1 ≠ (TX1 b).2.1 := by decide +kernel
theorem tyX1_ok : ∀ k, k < 2 → parseFieldDescriptor (TX1 k).2.2.1 = some (tyX1 k) := by decide +kernel
abbrev cX1_init : ByteArray := prog_3_method_1_code
def yX1_init : MethodName := ⟨RX1, "<init>", "()V"⟩
theorem dX1_init_0 : decode cX1_init 0 = .ok (.aload_n 0, 1) := by decide +kernel
theorem dX1_init_1 : decode cX1_init 1 = .ok (.invokespecial 1, 3) := by decide +kernel
theorem dX1_init_4 : decode cX1_init 4 = .ok (.aload_n 0, 1) := by decide +kernel
theorem dX1_init_5 : decode cX1_init 5 = .ok (.iconst 2, 1) := by decide +kernel
theorem dX1_init_6 : decode cX1_init 6 = .ok (.putfield 7, 3) := by decide +kernel
theorem dX1_init_9 : decode cX1_init 9 = .ok (.aload_n 0, 1) := by decide +kernel
theorem dX1_init_10 : decode cX1_init 10 = .ok (.sipush 300, 3) := by decide +kernel
theorem dX1_init_13 : decode cX1_init 13 = .ok (.newarray .int, 2) := by decide +kernel
theorem dX1_init_15 : decode cX1_init 15 = .ok (.putfield 13, 3) := by decide +kernel
theorem dX1_init_18 : decode cX1_init 18 = .ok (.return_, 1) := by decide +kernel
abbrev cX1_set : ByteArray := prog_3_method_4_code
def yX1_set : MethodName := ⟨RX1, "set", "(I)I"⟩
theorem dX1_set_0 : decode cX1_set 0 = .ok (.iload_n 1, 1) := by decide +kernel
theorem dX1_set_1 : decode cX1_set 1 = .ok (.iconst 2, 1) := by decide +kernel
theorem dX1_set_2 : decode cX1_set 2 = .ok (.if_icmp .lt 16, 3) := by decide +kernel
theorem dX1_set_5 : decode cX1_set 5 = .ok (.iload_n 1, 1) := by decide +kernel
theorem dX1_set_6 : decode cX1_set 6 = .ok (.bipush 120, 2) := by decide +kernel
theorem dX1_set_8 : decode cX1_set 8 = .ok (.if_icmp .gt 10, 3) := by decide +kernel
theorem dX1_set_11 : decode cX1_set 11 = .ok (.iload_n 1, 1) := by decide +kernel
theorem dX1_set_12 : decode cX1_set 12 = .ok (.invokestatic 22, 3) := by decide +kernel
theorem dX1_set_15 : decode cX1_set 15 = .ok (.ifCond .eq 5, 3) := by decide +kernel
theorem dX1_set_18 : decode cX1_set 18 = .ok (.iconst (-1), 1) := by decide +kernel
theorem dX1_set_19 : decode cX1_set 19 = .ok (.ireturn, 1) := by decide +kernel
theorem dX1_set_20 : decode cX1_set 20 = .ok (.aload_n 0, 1) := by decide +kernel
theorem dX1_set_21 : decode cX1_set 21 = .ok (.iload_n 1, 1) := by decide +kernel
theorem dX1_set_22 : decode cX1_set 22 = .ok (.putfield 7, 3) := by decide +kernel
theorem dX1_set_25 : decode cX1_set 25 = .ok (.iconst 0, 1) := by decide +kernel
theorem dX1_set_26 : decode cX1_set 26 = .ok (.ireturn, 1) := by decide +kernel
abbrev cX1_isSquare : ByteArray := prog_3_method_3_code
def yX1_isSquare : MethodName := ⟨RX1, "isSquare", "(I)Z"⟩
theorem dX1_isSquare_0 : decode cX1_isSquare 0 = .ok (.iload_n 0, 1) := by decide +kernel
theorem dX1_isSquare_1 : decode cX1_isSquare 1 = .ok (.invokestatic 18, 3) := by decide +kernel
theorem dX1_isSquare_4 : decode cX1_isSquare 4 = .ok (.istore_n 1, 1) := by decide +kernel
theorem dX1_isSquare_5 : decode cX1_isSquare 5 = .ok (.iload_n 1, 1) := by decide +kernel
theorem dX1_isSquare_6 : decode cX1_isSquare 6 = .ok (.iload_n 1, 1) := by decide +kernel
theorem dX1_isSquare_7 : decode cX1_isSquare 7 = .ok (.imul, 1) := by decide +kernel
theorem dX1_isSquare_8 : decode cX1_isSquare 8 = .ok (.iload_n 0, 1) := by decide +kernel
theorem dX1_isSquare_9 : decode cX1_isSquare 9 = .ok (.if_icmp .ne 7, 3) := by decide +kernel
theorem dX1_isSquare_12 : decode cX1_isSquare 12 = .ok (.iconst 1, 1) := by decide +kernel
theorem dX1_isSquare_13 : decode cX1_isSquare 13 = .ok (.goto 4, 3) := by decide +kernel
theorem dX1_isSquare_16 : decode cX1_isSquare 16 = .ok (.iconst 0, 1) := by decide +kernel
theorem dX1_isSquare_17 : decode cX1_isSquare 17 = .ok (.ireturn, 1) := by decide +kernel
abbrev cX1_rootOf : ByteArray := prog_3_method_2_code
def yX1_rootOf : MethodName := ⟨RX1, "rootOf", "(I)I"⟩
theorem dX1_rootOf_0 : decode cX1_rootOf 0 = .ok (.iconst 0, 1) := by decide +kernel
theorem dX1_rootOf_1 : decode cX1_rootOf 1 = .ok (.istore_n 1, 1) := by decide +kernel
theorem dX1_rootOf_2 : decode cX1_rootOf 2 = .ok (.ldc 17, 2) := by decide +kernel
theorem dX1_rootOf_4 : decode cX1_rootOf 4 = .ok (.istore_n 2, 1) := by decide +kernel
theorem dX1_rootOf_5 : decode cX1_rootOf 5 = .ok (.iload_n 1, 1) := by decide +kernel
theorem dX1_rootOf_6 : decode cX1_rootOf 6 = .ok (.iload_n 2, 1) := by decide +kernel
theorem dX1_rootOf_7 : decode cX1_rootOf 7 = .ok (.if_icmp .ge 30, 3) := by decide +kernel
theorem dX1_rootOf_10 : decode cX1_rootOf 10 = .ok (.iload_n 1, 1) := by decide +kernel
theorem dX1_rootOf_11 : decode cX1_rootOf 11 = .ok (.iload_n 2, 1) := by decide +kernel
theorem dX1_rootOf_12 : decode cX1_rootOf 12 = .ok (.iadd, 1) := by decide +kernel
theorem dX1_rootOf_13 : decode cX1_rootOf 13 = .ok (.iconst 1, 1) := by decide +kernel
theorem dX1_rootOf_14 : decode cX1_rootOf 14 = .ok (.iadd, 1) := by decide +kernel
theorem dX1_rootOf_15 : decode cX1_rootOf 15 = .ok (.iconst 2, 1) := by decide +kernel
theorem dX1_rootOf_16 : decode cX1_rootOf 16 = .ok (.idiv, 1) := by decide +kernel
theorem dX1_rootOf_17 : decode cX1_rootOf 17 = .ok (.istore_n 3, 1) := by decide +kernel
theorem dX1_rootOf_18 : decode cX1_rootOf 18 = .ok (.iload_n 3, 1) := by decide +kernel
theorem dX1_rootOf_19 : decode cX1_rootOf 19 = .ok (.iload_n 3, 1) := by decide +kernel
theorem dX1_rootOf_20 : decode cX1_rootOf 20 = .ok (.imul, 1) := by decide +kernel
theorem dX1_rootOf_21 : decode cX1_rootOf 21 = .ok (.iload_n 0, 1) := by decide +kernel
theorem dX1_rootOf_22 : decode cX1_rootOf 22 = .ok (.if_icmp .gt 8, 3) := by decide +kernel
theorem dX1_rootOf_25 : decode cX1_rootOf 25 = .ok (.iload_n 3, 1) := by decide +kernel
theorem dX1_rootOf_26 : decode cX1_rootOf 26 = .ok (.istore_n 1, 1) := by decide +kernel
theorem dX1_rootOf_27 : decode cX1_rootOf 27 = .ok (.goto 7, 3) := by decide +kernel
theorem dX1_rootOf_30 : decode cX1_rootOf 30 = .ok (.iload_n 3, 1) := by decide +kernel
theorem dX1_rootOf_31 : decode cX1_rootOf 31 = .ok (.iconst 1, 1) := by decide +kernel
theorem dX1_rootOf_32 : decode cX1_rootOf 32 = .ok (.isub, 1) := by decide +kernel
theorem dX1_rootOf_33 : decode cX1_rootOf 33 = .ok (.istore_n 2, 1) := by decide +kernel
theorem dX1_rootOf_34 : decode cX1_rootOf 34 = .ok (.goto (-29), 3) := by decide +kernel
theorem dX1_rootOf_37 : decode cX1_rootOf 37 = .ok (.iload_n 1, 1) := by decide +kernel
theorem dX1_rootOf_38 : decode cX1_rootOf 38 = .ok (.ireturn, 1) := by decide +kernel
abbrev cX1_term : ByteArray := prog_3_method_6_code
def yX1_term : MethodName := ⟨RX1, "term", "(I)I"⟩
theorem dX1_term_0 : decode cX1_term 0 = .ok (.iload_n 1, 1) := by decide +kernel
theorem dX1_term_1 : decode cX1_term 1 = .ok (.ifCond .lt 9, 3) := by decide +kernel
theorem dX1_term_4 : decode cX1_term 4 = .ok (.iload_n 1, 1) := by decide +kernel
theorem dX1_term_5 : decode cX1_term 5 = .ok (.bipush 100, 2) := by decide +kernel
theorem dX1_term_7 : decode cX1_term 7 = .ok (.if_icmp .le 5, 3) := by decide +kernel
theorem dX1_term_10 : decode cX1_term 10 = .ok (.iconst (-1), 1) := by decide +kernel
theorem dX1_term_11 : decode cX1_term 11 = .ok (.ireturn, 1) := by decide +kernel
theorem dX1_term_12 : decode cX1_term 12 = .ok (.aload_n 0, 1) := by decide +kernel
theorem dX1_term_13 : decode cX1_term 13 = .ok (.invokevirtual 26, 3) := by decide +kernel
theorem dX1_term_16 : decode cX1_term 16 = .ok (.aload_n 0, 1) := by decide +kernel
theorem dX1_term_17 : decode cX1_term 17 = .ok (.getfield 13, 3) := by decide +kernel
theorem dX1_term_20 : decode cX1_term 20 = .ok (.iload_n 1, 1) := by decide +kernel
theorem dX1_term_21 : decode cX1_term 21 = .ok (.iaload, 1) := by decide +kernel
theorem dX1_term_22 : decode cX1_term 22 = .ok (.ireturn, 1) := by decide +kernel
abbrev cX1_write : ByteArray := prog_3_method_5_code
def yX1_write : MethodName := ⟨RX1, "write", "()V"⟩
theorem dX1_write_0 : decode cX1_write 0 = .ok (.aload_n 0, 1) := by decide +kernel
theorem dX1_write_1 : decode cX1_write 1 = .ok (.getfield 7, 3) := by decide +kernel
theorem dX1_write_4 : decode cX1_write 4 = .ok (.invokestatic 18, 3) := by decide +kernel
theorem dX1_write_7 : decode cX1_write 7 = .ok (.istore_n 1, 1) := by decide +kernel
theorem dX1_write_8 : decode cX1_write 8 = .ok (.iconst 0, 1) := by decide +kernel
theorem dX1_write_9 : decode cX1_write 9 = .ok (.istore_n 2, 1) := by decide +kernel
theorem dX1_write_10 : decode cX1_write 10 = .ok (.iconst 1, 1) := by decide +kernel
theorem dX1_write_11 : decode cX1_write 11 = .ok (.istore_n 3, 1) := by decide +kernel
theorem dX1_write_12 : decode cX1_write 12 = .ok (.iconst 0, 1) := by decide +kernel
theorem dX1_write_13 : decode cX1_write 13 = .ok (.istore 4, 2) := by decide +kernel
theorem dX1_write_15 : decode cX1_write 15 = .ok (.iload 4, 2) := by decide +kernel
theorem dX1_write_17 : decode cX1_write 17 = .ok (.sipush 300, 3) := by decide +kernel
theorem dX1_write_20 : decode cX1_write 20 = .ok (.if_icmp .ge 47, 3) := by decide +kernel
theorem dX1_write_23 : decode cX1_write 23 = .ok (.iload_n 3, 1) := by decide +kernel
theorem dX1_write_24 : decode cX1_write 24 = .ok (.ifCond .eq 43, 3) := by decide +kernel
theorem dX1_write_27 : decode cX1_write 27 = .ok (.iload_n 1, 1) := by decide +kernel
theorem dX1_write_28 : decode cX1_write 28 = .ok (.iload_n 2, 1) := by decide +kernel
theorem dX1_write_29 : decode cX1_write 29 = .ok (.iadd, 1) := by decide +kernel
theorem dX1_write_30 : decode cX1_write 30 = .ok (.iload_n 3, 1) := by decide +kernel
theorem dX1_write_31 : decode cX1_write 31 = .ok (.idiv, 1) := by decide +kernel
theorem dX1_write_32 : decode cX1_write 32 = .ok (.istore 5, 2) := by decide +kernel
theorem dX1_write_34 : decode cX1_write 34 = .ok (.aload_n 0, 1) := by decide +kernel
theorem dX1_write_35 : decode cX1_write 35 = .ok (.getfield 13, 3) := by decide +kernel
theorem dX1_write_38 : decode cX1_write 38 = .ok (.iload 4, 2) := by decide +kernel
theorem dX1_write_40 : decode cX1_write 40 = .ok (.iload 5, 2) := by decide +kernel
theorem dX1_write_42 : decode cX1_write 42 = .ok (.iastore, 1) := by decide +kernel
theorem dX1_write_43 : decode cX1_write 43 = .ok (.iload 5, 2) := by decide +kernel
theorem dX1_write_45 : decode cX1_write 45 = .ok (.iload_n 3, 1) := by decide +kernel
theorem dX1_write_46 : decode cX1_write 46 = .ok (.imul, 1) := by decide +kernel
theorem dX1_write_47 : decode cX1_write 47 = .ok (.iload_n 2, 1) := by decide +kernel
theorem dX1_write_48 : decode cX1_write 48 = .ok (.isub, 1) := by decide +kernel
theorem dX1_write_49 : decode cX1_write 49 = .ok (.istore_n 2, 1) := by decide +kernel
theorem dX1_write_50 : decode cX1_write 50 = .ok (.aload_n 0, 1) := by decide +kernel
theorem dX1_write_51 : decode cX1_write 51 = .ok (.getfield 7, 3) := by decide +kernel
theorem dX1_write_54 : decode cX1_write 54 = .ok (.iload_n 2, 1) := by decide +kernel
theorem dX1_write_55 : decode cX1_write 55 = .ok (.iload_n 2, 1) := by decide +kernel
theorem dX1_write_56 : decode cX1_write 56 = .ok (.imul, 1) := by decide +kernel
theorem dX1_write_57 : decode cX1_write 57 = .ok (.isub, 1) := by decide +kernel
theorem dX1_write_58 : decode cX1_write 58 = .ok (.iload_n 3, 1) := by decide +kernel
theorem dX1_write_59 : decode cX1_write 59 = .ok (.idiv, 1) := by decide +kernel
theorem dX1_write_60 : decode cX1_write 60 = .ok (.istore_n 3, 1) := by decide +kernel
theorem dX1_write_61 : decode cX1_write 61 = .ok (.iinc 4 1, 3) := by decide +kernel
theorem dX1_write_64 : decode cX1_write 64 = .ok (.goto (-49), 3) := by decide +kernel
theorem dX1_write_67 : decode cX1_write 67 = .ok (.return_, 1) := by decide +kernel
abbrev cX1_period : ByteArray := prog_3_method_8_code
def yX1_period : MethodName := ⟨RX1, "period", "()I"⟩
theorem dX1_period_0 : decode cX1_period 0 = .ok (.aload_n 0, 1) := by decide +kernel
theorem dX1_period_1 : decode cX1_period 1 = .ok (.invokevirtual 26, 3) := by decide +kernel
theorem dX1_period_4 : decode cX1_period 4 = .ok (.iconst 1, 1) := by decide +kernel
theorem dX1_period_5 : decode cX1_period 5 = .ok (.istore_n 1, 1) := by decide +kernel
theorem dX1_period_6 : decode cX1_period 6 = .ok (.iload_n 1, 1) := by decide +kernel
theorem dX1_period_7 : decode cX1_period 7 = .ok (.sipush 150, 3) := by decide +kernel
theorem dX1_period_10 : decode cX1_period 10 = .ok (.if_icmp .ge 19, 3) := by decide +kernel
theorem dX1_period_13 : decode cX1_period 13 = .ok (.aload_n 0, 1) := by decide +kernel
theorem dX1_period_14 : decode cX1_period 14 = .ok (.iload_n 1, 1) := by decide +kernel
theorem dX1_period_15 : decode cX1_period 15 = .ok (.invokevirtual 29, 3) := by decide +kernel
theorem dX1_period_18 : decode cX1_period 18 = .ok (.ifCond .eq 5, 3) := by decide +kernel
theorem dX1_period_21 : decode cX1_period 21 = .ok (.iload_n 1, 1) := by decide +kernel
theorem dX1_period_22 : decode cX1_period 22 = .ok (.ireturn, 1) := by decide +kernel
theorem dX1_period_23 : decode cX1_period 23 = .ok (.iinc 1 1, 3) := by decide +kernel
theorem dX1_period_26 : decode cX1_period 26 = .ok (.goto (-20), 3) := by decide +kernel
theorem dX1_period_29 : decode cX1_period 29 = .ok (.iconst (-1), 1) := by decide +kernel
theorem dX1_period_30 : decode cX1_period 30 = .ok (.ireturn, 1) := by decide +kernel
abbrev cX1_repeats : ByteArray := prog_3_method_7_code
def yX1_repeats : MethodName := ⟨RX1, "repeats", "(I)Z"⟩
theorem dX1_repeats_0 : decode cX1_repeats 0 = .ok (.iconst 1, 1) := by decide +kernel
theorem dX1_repeats_1 : decode cX1_repeats 1 = .ok (.istore_n 2, 1) := by decide +kernel
theorem dX1_repeats_2 : decode cX1_repeats 2 = .ok (.iload_n 2, 1) := by decide +kernel
theorem dX1_repeats_3 : decode cX1_repeats 3 = .ok (.iload_n 1, 1) := by decide +kernel
theorem dX1_repeats_4 : decode cX1_repeats 4 = .ok (.iadd, 1) := by decide +kernel
theorem dX1_repeats_5 : decode cX1_repeats 5 = .ok (.sipush 300, 3) := by decide +kernel
theorem dX1_repeats_8 : decode cX1_repeats 8 = .ok (.if_icmp .ge 28, 3) := by decide +kernel
theorem dX1_repeats_11 : decode cX1_repeats 11 = .ok (.aload_n 0, 1) := by decide +kernel
theorem dX1_repeats_12 : decode cX1_repeats 12 = .ok (.getfield 13, 3) := by decide +kernel
theorem dX1_repeats_15 : decode cX1_repeats 15 = .ok (.iload_n 2, 1) := by decide +kernel
theorem dX1_repeats_16 : decode cX1_repeats 16 = .ok (.iaload, 1) := by decide +kernel
theorem dX1_repeats_17 : decode cX1_repeats 17 = .ok (.aload_n 0, 1) := by decide +kernel
theorem dX1_repeats_18 : decode cX1_repeats 18 = .ok (.getfield 13, 3) := by decide +kernel
theorem dX1_repeats_21 : decode cX1_repeats 21 = .ok (.iload_n 2, 1) := by decide +kernel
theorem dX1_repeats_22 : decode cX1_repeats 22 = .ok (.iload_n 1, 1) := by decide +kernel
theorem dX1_repeats_23 : decode cX1_repeats 23 = .ok (.iadd, 1) := by decide +kernel
theorem dX1_repeats_24 : decode cX1_repeats 24 = .ok (.iaload, 1) := by decide +kernel
theorem dX1_repeats_25 : decode cX1_repeats 25 = .ok (.if_icmp .eq 5, 3) := by decide +kernel
theorem dX1_repeats_28 : decode cX1_repeats 28 = .ok (.iconst 0, 1) := by decide +kernel
theorem dX1_repeats_29 : decode cX1_repeats 29 = .ok (.ireturn, 1) := by decide +kernel
theorem dX1_repeats_30 : decode cX1_repeats 30 = .ok (.iinc 2 1, 3) := by decide +kernel
theorem dX1_repeats_33 : decode cX1_repeats 33 = .ok (.goto (-31), 3) := by decide +kernel
theorem dX1_repeats_36 : decode cX1_repeats 36 = .ok (.iconst 1, 1) := by decide +kernel
theorem dX1_repeats_37 : decode cX1_repeats 37 = .ok (.ireturn, 1) := by decide +kernel
abbrev cX1_solutions : ByteArray := prog_3_method_11_code
def yX1_solutions : MethodName := ⟨RX1, "solutions", "(II)I"⟩
theorem dX1_solutions_0 : decode cX1_solutions 0 = .ok (.aload_n 0, 1) := by decide +kernel
theorem dX1_solutions_1 : decode cX1_solutions 1 = .ok (.iload_n 1, 1) := by decide +kernel
theorem dX1_solutions_2 : decode cX1_solutions 2 = .ok (.iload_n 2, 1) := by decide +kernel
theorem dX1_solutions_3 : decode cX1_solutions 3 = .ok (.invokevirtual 32, 3) := by decide +kernel
theorem dX1_solutions_6 : decode cX1_solutions 6 = .ok (.ifCond .eq 5, 3) := by decide +kernel
theorem dX1_solutions_9 : decode cX1_solutions 9 = .ok (.iconst (-1), 1) := by decide +kernel
theorem dX1_solutions_10 : decode cX1_solutions 10 = .ok (.ireturn, 1) := by decide +kernel
theorem dX1_solutions_11 : decode cX1_solutions 11 = .ok (.iconst 0, 1) := by decide +kernel
theorem dX1_solutions_12 : decode cX1_solutions 12 = .ok (.istore_n 3, 1) := by decide +kernel
theorem dX1_solutions_13 : decode cX1_solutions 13 = .ok (.iconst 0, 1) := by decide +kernel
theorem dX1_solutions_14 : decode cX1_solutions 14 = .ok (.istore 4, 2) := by decide +kernel
theorem dX1_solutions_16 : decode cX1_solutions 16 = .ok (.iload 4, 2) := by decide +kernel
theorem dX1_solutions_18 : decode cX1_solutions 18 = .ok (.iload_n 2, 1) := by decide +kernel
theorem dX1_solutions_19 : decode cX1_solutions 19 = .ok (.if_icmp .gt 22, 3) := by decide +kernel
theorem dX1_solutions_22 : decode cX1_solutions 22 = .ok (.aload_n 0, 1) := by decide +kernel
theorem dX1_solutions_23 : decode cX1_solutions 23 = .ok (.iload_n 1, 1) := by decide +kernel
theorem dX1_solutions_24 : decode cX1_solutions 24 = .ok (.iload 4, 2) := by decide +kernel
theorem dX1_solutions_26 : decode cX1_solutions 26 = .ok (.invokevirtual 36, 3) := by decide +kernel
theorem dX1_solutions_29 : decode cX1_solutions 29 = .ok (.ifCond .lt 6, 3) := by decide +kernel
theorem dX1_solutions_32 : decode cX1_solutions 32 = .ok (.iinc 3 1, 3) := by decide +kernel
theorem dX1_solutions_35 : decode cX1_solutions 35 = .ok (.iinc 4 1, 3) := by decide +kernel
theorem dX1_solutions_38 : decode cX1_solutions 38 = .ok (.goto (-22), 3) := by decide +kernel
theorem dX1_solutions_41 : decode cX1_solutions 41 = .ok (.iload_n 3, 1) := by decide +kernel
theorem dX1_solutions_42 : decode cX1_solutions 42 = .ok (.ireturn, 1) := by decide +kernel
abbrev cX1_refused : ByteArray := prog_3_method_9_code
def yX1_refused : MethodName := ⟨RX1, "refused", "(II)Z"⟩
theorem dX1_refused_0 : decode cX1_refused 0 = .ok (.iload_n 1, 1) := by decide +kernel
theorem dX1_refused_1 : decode cX1_refused 1 = .ok (.bipush (-9), 2) := by decide +kernel
theorem dX1_refused_3 : decode cX1_refused 3 = .ok (.if_icmp .lt 34, 3) := by decide +kernel
theorem dX1_refused_6 : decode cX1_refused 6 = .ok (.iload_n 1, 1) := by decide +kernel
theorem dX1_refused_7 : decode cX1_refused 7 = .ok (.bipush 9, 2) := by decide +kernel
theorem dX1_refused_9 : decode cX1_refused 9 = .ok (.if_icmp .gt 28, 3) := by decide +kernel
theorem dX1_refused_12 : decode cX1_refused 12 = .ok (.iload_n 1, 1) := by decide +kernel
theorem dX1_refused_13 : decode cX1_refused 13 = .ok (.ifCond .eq 24, 3) := by decide +kernel
theorem dX1_refused_16 : decode cX1_refused 16 = .ok (.iload_n 1, 1) := by decide +kernel
theorem dX1_refused_17 : decode cX1_refused 17 = .ok (.iload_n 1, 1) := by decide +kernel
theorem dX1_refused_18 : decode cX1_refused 18 = .ok (.imul, 1) := by decide +kernel
theorem dX1_refused_19 : decode cX1_refused 19 = .ok (.aload_n 0, 1) := by decide +kernel
theorem dX1_refused_20 : decode cX1_refused 20 = .ok (.getfield 7, 3) := by decide +kernel
theorem dX1_refused_23 : decode cX1_refused 23 = .ok (.if_icmp .ge 14, 3) := by decide +kernel
theorem dX1_refused_26 : decode cX1_refused 26 = .ok (.iload_n 2, 1) := by decide +kernel
theorem dX1_refused_27 : decode cX1_refused 27 = .ok (.ifCond .lt 10, 3) := by decide +kernel
theorem dX1_refused_30 : decode cX1_refused 30 = .ok (.iload_n 2, 1) := by decide +kernel
theorem dX1_refused_31 : decode cX1_refused 31 = .ok (.sipush 3000, 3) := by decide +kernel
theorem dX1_refused_34 : decode cX1_refused 34 = .ok (.if_icmp .le 7, 3) := by decide +kernel
theorem dX1_refused_37 : decode cX1_refused 37 = .ok (.iconst 1, 1) := by decide +kernel
theorem dX1_refused_38 : decode cX1_refused 38 = .ok (.goto 4, 3) := by decide +kernel
theorem dX1_refused_41 : decode cX1_refused 41 = .ok (.iconst 0, 1) := by decide +kernel
theorem dX1_refused_42 : decode cX1_refused 42 = .ok (.ireturn, 1) := by decide +kernel
abbrev cX1_find : ByteArray := prog_3_method_10_code
def yX1_find : MethodName := ⟨RX1, "find", "(II)I"⟩
theorem dX1_find_0 : decode cX1_find 0 = .ok (.aload_n 0, 1) := by decide +kernel
theorem dX1_find_1 : decode cX1_find 1 = .ok (.getfield 7, 3) := by decide +kernel
theorem dX1_find_4 : decode cX1_find 4 = .ok (.iload_n 2, 1) := by decide +kernel
theorem dX1_find_5 : decode cX1_find 5 = .ok (.imul, 1) := by decide +kernel
theorem dX1_find_6 : decode cX1_find 6 = .ok (.iload_n 2, 1) := by decide +kernel
theorem dX1_find_7 : decode cX1_find 7 = .ok (.imul, 1) := by decide +kernel
theorem dX1_find_8 : decode cX1_find 8 = .ok (.iload_n 1, 1) := by decide +kernel
theorem dX1_find_9 : decode cX1_find 9 = .ok (.iadd, 1) := by decide +kernel
theorem dX1_find_10 : decode cX1_find 10 = .ok (.istore_n 3, 1) := by decide +kernel
theorem dX1_find_11 : decode cX1_find 11 = .ok (.iload_n 3, 1) := by decide +kernel
theorem dX1_find_12 : decode cX1_find 12 = .ok (.ifCond .ge 6, 3) := by decide +kernel
theorem dX1_find_15 : decode cX1_find 15 = .ok (.bipush (-2), 2) := by decide +kernel
theorem dX1_find_17 : decode cX1_find 17 = .ok (.ireturn, 1) := by decide +kernel
theorem dX1_find_18 : decode cX1_find 18 = .ok (.iload_n 3, 1) := by decide +kernel
theorem dX1_find_19 : decode cX1_find 19 = .ok (.invokestatic 18, 3) := by decide +kernel
theorem dX1_find_22 : decode cX1_find 22 = .ok (.istore 4, 2) := by decide +kernel
theorem dX1_find_24 : decode cX1_find 24 = .ok (.iload 4, 2) := by decide +kernel
theorem dX1_find_26 : decode cX1_find 26 = .ok (.iload 4, 2) := by decide +kernel
theorem dX1_find_28 : decode cX1_find 28 = .ok (.imul, 1) := by decide +kernel
theorem dX1_find_29 : decode cX1_find 29 = .ok (.iload_n 3, 1) := by decide +kernel
theorem dX1_find_30 : decode cX1_find 30 = .ok (.if_icmp .ne 8, 3) := by decide +kernel
theorem dX1_find_33 : decode cX1_find 33 = .ok (.iload 4, 2) := by decide +kernel
theorem dX1_find_35 : decode cX1_find 35 = .ok (.goto 5, 3) := by decide +kernel
theorem dX1_find_38 : decode cX1_find 38 = .ok (.bipush (-2), 2) := by decide +kernel
theorem dX1_find_40 : decode cX1_find 40 = .ok (.ireturn, 1) := by decide +kernel
abbrev cX1_next : ByteArray := prog_3_method_12_code
def yX1_next : MethodName := ⟨RX1, "next", "(II)I"⟩
theorem dX1_next_0 : decode cX1_next 0 = .ok (.aload_n 0, 1) := by decide +kernel
theorem dX1_next_1 : decode cX1_next 1 = .ok (.iload_n 1, 1) := by decide +kernel
theorem dX1_next_2 : decode cX1_next 2 = .ok (.iload_n 2, 1) := by decide +kernel
theorem dX1_next_3 : decode cX1_next 3 = .ok (.invokevirtual 32, 3) := by decide +kernel
theorem dX1_next_6 : decode cX1_next 6 = .ok (.ifCond .eq 5, 3) := by decide +kernel
theorem dX1_next_9 : decode cX1_next 9 = .ok (.iconst (-1), 1) := by decide +kernel
theorem dX1_next_10 : decode cX1_next 10 = .ok (.ireturn, 1) := by decide +kernel
theorem dX1_next_11 : decode cX1_next 11 = .ok (.iload_n 2, 1) := by decide +kernel
theorem dX1_next_12 : decode cX1_next 12 = .ok (.istore_n 3, 1) := by decide +kernel
theorem dX1_next_13 : decode cX1_next 13 = .ok (.iload_n 3, 1) := by decide +kernel
theorem dX1_next_14 : decode cX1_next 14 = .ok (.sipush 3000, 3) := by decide +kernel
theorem dX1_next_17 : decode cX1_next 17 = .ok (.if_icmp .gt 20, 3) := by decide +kernel
theorem dX1_next_20 : decode cX1_next 20 = .ok (.aload_n 0, 1) := by decide +kernel
theorem dX1_next_21 : decode cX1_next 21 = .ok (.iload_n 1, 1) := by decide +kernel
theorem dX1_next_22 : decode cX1_next 22 = .ok (.iload_n 3, 1) := by decide +kernel
theorem dX1_next_23 : decode cX1_next 23 = .ok (.invokevirtual 36, 3) := by decide +kernel
theorem dX1_next_26 : decode cX1_next 26 = .ok (.ifCond .lt 5, 3) := by decide +kernel
theorem dX1_next_29 : decode cX1_next 29 = .ok (.iload_n 3, 1) := by decide +kernel
theorem dX1_next_30 : decode cX1_next 30 = .ok (.ireturn, 1) := by decide +kernel
theorem dX1_next_31 : decode cX1_next 31 = .ok (.iinc 3 1, 3) := by decide +kernel
theorem dX1_next_34 : decode cX1_next 34 = .ok (.goto (-21), 3) := by decide +kernel
theorem dX1_next_37 : decode cX1_next 37 = .ok (.bipush (-2), 2) := by decide +kernel
theorem dX1_next_39 : decode cX1_next 39 = .ok (.ireturn, 1) := by decide +kernel
abbrev cX1_root : ByteArray := prog_3_method_13_code
def yX1_root : MethodName := ⟨RX1, "root", "(II)I"⟩
theorem dX1_root_0 : decode cX1_root 0 = .ok (.aload_n 0, 1) := by decide +kernel
theorem dX1_root_1 : decode cX1_root 1 = .ok (.iload_n 1, 1) := by decide +kernel
theorem dX1_root_2 : decode cX1_root 2 = .ok (.iload_n 2, 1) := by decide +kernel
theorem dX1_root_3 : decode cX1_root 3 = .ok (.invokevirtual 32, 3) := by decide +kernel
theorem dX1_root_6 : decode cX1_root 6 = .ok (.ifCond .eq 7, 3) := by decide +kernel
theorem dX1_root_9 : decode cX1_root 9 = .ok (.iconst (-1), 1) := by decide +kernel
theorem dX1_root_10 : decode cX1_root 10 = .ok (.goto 9, 3) := by decide +kernel
theorem dX1_root_13 : decode cX1_root 13 = .ok (.aload_n 0, 1) := by decide +kernel
theorem dX1_root_14 : decode cX1_root 14 = .ok (.iload_n 1, 1) := by decide +kernel
theorem dX1_root_15 : decode cX1_root 15 = .ok (.iload_n 2, 1) := by decide +kernel
theorem dX1_root_16 : decode cX1_root 16 = .ok (.invokevirtual 36, 3) := by decide +kernel
theorem dX1_root_19 : decode cX1_root 19 = .ok (.ireturn, 1) := by decide +kernel
abbrev cX1_sum : ByteArray := prog_3_method_14_code
def yX1_sum : MethodName := ⟨RX1, "sum", "(II)I"⟩
theorem dX1_sum_0 : decode cX1_sum 0 = .ok (.aload_n 0, 1) := by decide +kernel
theorem dX1_sum_1 : decode cX1_sum 1 = .ok (.iload_n 1, 1) := by decide +kernel
theorem dX1_sum_2 : decode cX1_sum 2 = .ok (.iload_n 2, 1) := by decide +kernel
theorem dX1_sum_3 : decode cX1_sum 3 = .ok (.invokevirtual 32, 3) := by decide +kernel
theorem dX1_sum_6 : decode cX1_sum 6 = .ok (.ifCond .eq 5, 3) := by decide +kernel
theorem dX1_sum_9 : decode cX1_sum 9 = .ok (.iconst (-1), 1) := by decide +kernel
theorem dX1_sum_10 : decode cX1_sum 10 = .ok (.ireturn, 1) := by decide +kernel
theorem dX1_sum_11 : decode cX1_sum 11 = .ok (.iconst 0, 1) := by decide +kernel
theorem dX1_sum_12 : decode cX1_sum 12 = .ok (.istore_n 3, 1) := by decide +kernel
theorem dX1_sum_13 : decode cX1_sum 13 = .ok (.iconst 0, 1) := by decide +kernel
theorem dX1_sum_14 : decode cX1_sum 14 = .ok (.istore 4, 2) := by decide +kernel
theorem dX1_sum_16 : decode cX1_sum 16 = .ok (.iload 4, 2) := by decide +kernel
theorem dX1_sum_18 : decode cX1_sum 18 = .ok (.iload_n 2, 1) := by decide +kernel
theorem dX1_sum_19 : decode cX1_sum 19 = .ok (.if_icmp .gt 24, 3) := by decide +kernel
theorem dX1_sum_22 : decode cX1_sum 22 = .ok (.aload_n 0, 1) := by decide +kernel
theorem dX1_sum_23 : decode cX1_sum 23 = .ok (.iload_n 1, 1) := by decide +kernel
theorem dX1_sum_24 : decode cX1_sum 24 = .ok (.iload 4, 2) := by decide +kernel
theorem dX1_sum_26 : decode cX1_sum 26 = .ok (.invokevirtual 36, 3) := by decide +kernel
theorem dX1_sum_29 : decode cX1_sum 29 = .ok (.ifCond .lt 8, 3) := by decide +kernel
theorem dX1_sum_32 : decode cX1_sum 32 = .ok (.iload_n 3, 1) := by decide +kernel
theorem dX1_sum_33 : decode cX1_sum 33 = .ok (.iload 4, 2) := by decide +kernel
theorem dX1_sum_35 : decode cX1_sum 35 = .ok (.iadd, 1) := by decide +kernel
theorem dX1_sum_36 : decode cX1_sum 36 = .ok (.istore_n 3, 1) := by decide +kernel
theorem dX1_sum_37 : decode cX1_sum 37 = .ok (.iinc 4 1, 3) := by decide +kernel
theorem dX1_sum_40 : decode cX1_sum 40 = .ok (.goto (-24), 3) := by decide +kernel
theorem dX1_sum_43 : decode cX1_sum 43 = .ok (.iload_n 3, 1) := by decide +kernel
theorem dX1_sum_44 : decode cX1_sum 44 = .ok (.ireturn, 1) := by decide +kernel
theorem q12 : (Jvm.Cond.initialized "SquareDeskModel") ∈ lw_all := lw_g (lw_at lw_m0 2 rfl) rfl
theorem q96 : (Jvm.Cond.instantiable "SquareDeskModel" (2 : Nat)) ∈ lw_all := lw_g (lw_at lw_m0 86 rfl) rfl
theorem q98 : (Jvm.Cond.instanceMethod ({ cls := "SquareDeskModel", name := "<init>", desc := "()V" } : Jvm.MethodName)) ∈ lw_all := lw_g (lw_at lw_m0 88 rfl) rfl
theorem q99 : (Jvm.Cond.code ({ cls := "SquareDeskModel", name := "<init>", desc := "()V" } : Jvm.MethodName) prog_3_method_1_code (1 : Nat) (Option.none : Option Jvm.ClassFile.FieldType)) ∈ lw_all := lw_g (lw_at lw_m0 89 rfl) rfl
theorem q100 : (Jvm.Cond.methodLink "SquareDeskModel" (1 : Nat) ({ cls := "java/lang/Object", name := "<init>", desc := "()V" } : Jvm.MethodName)) ∈ lw_all := lw_g (lw_at lw_m0 90 rfl) rfl
theorem q101 : (Jvm.Cond.fieldLink "SquareDeskModel" (7 : Nat) "SquareDeskModel" "n" "I") ∈ lw_all := lw_g (lw_at lw_m0 91 rfl) rfl
theorem q102 : (Jvm.Cond.fieldLink "SquareDeskModel" (13 : Nat) "SquareDeskModel" "terms" "[I") ∈ lw_all := lw_g (lw_at lw_m0 92 rfl) rfl
theorem q103 : (Jvm.Cond.lays "SquareDeskModel" "SquareDeskModel" "n" "I") ∈ lw_all := lw_g (lw_at lw_m0 93 rfl) rfl
theorem q104 : (Jvm.Cond.soleField "SquareDeskModel" "n") ∈ lw_all := lw_g (lw_at lw_m0 94 rfl) rfl
theorem q105 : (Jvm.Cond.laysFinal "SquareDeskModel" "SquareDeskModel" "terms" "[I") ∈ lw_all := lw_g (lw_at lw_m0 95 rfl) rfl
theorem q106 : (Jvm.Cond.soleField "SquareDeskModel" "terms") ∈ lw_all := lw_g (lw_at lw_m0 96 rfl) rfl
theorem q107 : (Jvm.Cond.superclass "SquareDeskModel" "java/lang/Object") ∈ lw_all := lw_g (lw_at lw_m0 97 rfl) rfl
theorem q109 : (Jvm.Cond.instanceMethod ({ cls := "SquareDeskModel", name := "set", desc := "(I)I" } : Jvm.MethodName)) ∈ lw_all := lw_g (lw_at lw_m0 99 rfl) rfl
theorem q110 : (Jvm.Cond.selects "SquareDeskModel" ({ cls := "SquareDeskModel", name := "set", desc := "(I)I" } : Jvm.MethodName) ({ cls := "SquareDeskModel", name := "set", desc := "(I)I" } : Jvm.MethodName)) ∈ lw_all := lw_g (lw_at lw_m0 100 rfl) rfl
theorem q111 : (Jvm.Cond.code ({ cls := "SquareDeskModel", name := "set", desc := "(I)I" } : Jvm.MethodName) prog_3_method_4_code (2 : Nat) (Option.some Jvm.ClassFile.FieldType.int)) ∈ lw_all := lw_g (lw_at lw_m0 101 rfl) rfl
theorem q112 : (Jvm.Cond.methodLink "SquareDeskModel" (22 : Nat) ({ cls := "SquareDeskModel", name := "isSquare", desc := "(I)Z" } : Jvm.MethodName)) ∈ lw_all := lw_g (lw_at lw_m0 102 rfl) rfl
theorem q113 : (Jvm.Cond.static ({ cls := "SquareDeskModel", name := "isSquare", desc := "(I)Z" } : Jvm.MethodName)) ∈ lw_all := lw_g (lw_at lw_m0 103 rfl) rfl
theorem q114 : (Jvm.Cond.code ({ cls := "SquareDeskModel", name := "isSquare", desc := "(I)Z" } : Jvm.MethodName) prog_3_method_3_code (2 : Nat) (Option.some Jvm.ClassFile.FieldType.boolean)) ∈ lw_all := lw_g (lw_at lw_m0 104 rfl) rfl
theorem q115 : (Jvm.Cond.methodLink "SquareDeskModel" (18 : Nat) ({ cls := "SquareDeskModel", name := "rootOf", desc := "(I)I" } : Jvm.MethodName)) ∈ lw_all := lw_g (lw_at lw_m0 105 rfl) rfl
theorem q116 : (Jvm.Cond.static ({ cls := "SquareDeskModel", name := "rootOf", desc := "(I)I" } : Jvm.MethodName)) ∈ lw_all := lw_g (lw_at lw_m0 106 rfl) rfl
theorem q117 : (Jvm.Cond.code ({ cls := "SquareDeskModel", name := "rootOf", desc := "(I)I" } : Jvm.MethodName) prog_3_method_2_code (4 : Nat) (Option.some Jvm.ClassFile.FieldType.int)) ∈ lw_all := lw_g (lw_at lw_m0 107 rfl) rfl
theorem q118 : (Jvm.Cond.constant "SquareDeskModel" (17 : Nat) (33200 : Int32)) ∈ lw_all := lw_g (lw_at lw_m0 108 rfl) rfl
theorem q120 : (Jvm.Cond.instanceMethod ({ cls := "SquareDeskModel", name := "term", desc := "(I)I" } : Jvm.MethodName)) ∈ lw_all := lw_g (lw_at lw_m0 110 rfl) rfl
theorem q121 : (Jvm.Cond.selects "SquareDeskModel" ({ cls := "SquareDeskModel", name := "term", desc := "(I)I" } : Jvm.MethodName) ({ cls := "SquareDeskModel", name := "term", desc := "(I)I" } : Jvm.MethodName)) ∈ lw_all := lw_g (lw_at lw_m0 111 rfl) rfl
theorem q122 : (Jvm.Cond.code ({ cls := "SquareDeskModel", name := "term", desc := "(I)I" } : Jvm.MethodName) prog_3_method_6_code (2 : Nat) (Option.some Jvm.ClassFile.FieldType.int)) ∈ lw_all := lw_g (lw_at lw_m0 112 rfl) rfl
theorem q123 : (Jvm.Cond.methodLink "SquareDeskModel" (26 : Nat) ({ cls := "SquareDeskModel", name := "write", desc := "()V" } : Jvm.MethodName)) ∈ lw_all := lw_g (lw_at lw_m0 113 rfl) rfl
theorem q124 : (Jvm.Cond.privateMethod ({ cls := "SquareDeskModel", name := "write", desc := "()V" } : Jvm.MethodName)) ∈ lw_tbl := lw_at lw_m0 114 rfl
theorem q125 : (Jvm.Cond.instanceMethod ({ cls := "SquareDeskModel", name := "write", desc := "()V" } : Jvm.MethodName)) ∈ lw_all := lw_g (lw_at lw_m0 115 rfl) rfl
theorem q126 : (Jvm.Cond.code ({ cls := "SquareDeskModel", name := "write", desc := "()V" } : Jvm.MethodName) prog_3_method_5_code (6 : Nat) (Option.none : Option Jvm.ClassFile.FieldType)) ∈ lw_all := lw_g (lw_at lw_m0 116 rfl) rfl
theorem q128 : (Jvm.Cond.instanceMethod ({ cls := "SquareDeskModel", name := "period", desc := "()I" } : Jvm.MethodName)) ∈ lw_all := lw_g (lw_at lw_m0 118 rfl) rfl
theorem q129 : (Jvm.Cond.selects "SquareDeskModel" ({ cls := "SquareDeskModel", name := "period", desc := "()I" } : Jvm.MethodName) ({ cls := "SquareDeskModel", name := "period", desc := "()I" } : Jvm.MethodName)) ∈ lw_all := lw_g (lw_at lw_m0 119 rfl) rfl
theorem q130 : (Jvm.Cond.code ({ cls := "SquareDeskModel", name := "period", desc := "()I" } : Jvm.MethodName) prog_3_method_8_code (2 : Nat) (Option.some Jvm.ClassFile.FieldType.int)) ∈ lw_all := lw_g (lw_at lw_m0 120 rfl) rfl
theorem q131 : (Jvm.Cond.methodLink "SquareDeskModel" (29 : Nat) ({ cls := "SquareDeskModel", name := "repeats", desc := "(I)Z" } : Jvm.MethodName)) ∈ lw_all := lw_g (lw_at lw_m0 121 rfl) rfl
theorem q132 : (Jvm.Cond.privateMethod ({ cls := "SquareDeskModel", name := "repeats", desc := "(I)Z" } : Jvm.MethodName)) ∈ lw_tbl := lw_at lw_m0 122 rfl
theorem q133 : (Jvm.Cond.instanceMethod ({ cls := "SquareDeskModel", name := "repeats", desc := "(I)Z" } : Jvm.MethodName)) ∈ lw_all := lw_g (lw_at lw_m0 123 rfl) rfl
theorem q134 : (Jvm.Cond.code ({ cls := "SquareDeskModel", name := "repeats", desc := "(I)Z" } : Jvm.MethodName) prog_3_method_7_code (3 : Nat) (Option.some Jvm.ClassFile.FieldType.boolean)) ∈ lw_all := lw_g (lw_at lw_m0 124 rfl) rfl
theorem q136 : (Jvm.Cond.instanceMethod ({ cls := "SquareDeskModel", name := "solutions", desc := "(II)I" } : Jvm.MethodName)) ∈ lw_all := lw_g (lw_at lw_m0 126 rfl) rfl
theorem q137 : (Jvm.Cond.selects "SquareDeskModel" ({ cls := "SquareDeskModel", name := "solutions", desc := "(II)I" } : Jvm.MethodName) ({ cls := "SquareDeskModel", name := "solutions", desc := "(II)I" } : Jvm.MethodName)) ∈ lw_all := lw_g (lw_at lw_m0 127 rfl) rfl
theorem q138 : (Jvm.Cond.code ({ cls := "SquareDeskModel", name := "solutions", desc := "(II)I" } : Jvm.MethodName) prog_3_method_11_code (5 : Nat) (Option.some Jvm.ClassFile.FieldType.int)) ∈ lw_all := lw_g (lw_at lw_m0 128 rfl) rfl
theorem q139 : (Jvm.Cond.methodLink "SquareDeskModel" (32 : Nat) ({ cls := "SquareDeskModel", name := "refused", desc := "(II)Z" } : Jvm.MethodName)) ∈ lw_all := lw_g (lw_at lw_m0 129 rfl) rfl
theorem q140 : (Jvm.Cond.privateMethod ({ cls := "SquareDeskModel", name := "refused", desc := "(II)Z" } : Jvm.MethodName)) ∈ lw_tbl := lw_at lw_m0 130 rfl
theorem q141 : (Jvm.Cond.instanceMethod ({ cls := "SquareDeskModel", name := "refused", desc := "(II)Z" } : Jvm.MethodName)) ∈ lw_all := lw_g (lw_at lw_m0 131 rfl) rfl
theorem q142 : (Jvm.Cond.code ({ cls := "SquareDeskModel", name := "refused", desc := "(II)Z" } : Jvm.MethodName) prog_3_method_9_code (3 : Nat) (Option.some Jvm.ClassFile.FieldType.boolean)) ∈ lw_all := lw_g (lw_at lw_m0 132 rfl) rfl
theorem q143 : (Jvm.Cond.methodLink "SquareDeskModel" (36 : Nat) ({ cls := "SquareDeskModel", name := "find", desc := "(II)I" } : Jvm.MethodName)) ∈ lw_all := lw_g (lw_at lw_m0 133 rfl) rfl
theorem q144 : (Jvm.Cond.privateMethod ({ cls := "SquareDeskModel", name := "find", desc := "(II)I" } : Jvm.MethodName)) ∈ lw_tbl := lw_at lw_m0 134 rfl
theorem q145 : (Jvm.Cond.instanceMethod ({ cls := "SquareDeskModel", name := "find", desc := "(II)I" } : Jvm.MethodName)) ∈ lw_all := lw_g (lw_at lw_m0 135 rfl) rfl
theorem q146 : (Jvm.Cond.code ({ cls := "SquareDeskModel", name := "find", desc := "(II)I" } : Jvm.MethodName) prog_3_method_10_code (5 : Nat) (Option.some Jvm.ClassFile.FieldType.int)) ∈ lw_all := lw_g (lw_at lw_m0 136 rfl) rfl
theorem q148 : (Jvm.Cond.instanceMethod ({ cls := "SquareDeskModel", name := "next", desc := "(II)I" } : Jvm.MethodName)) ∈ lw_all := lw_g (lw_at lw_m0 138 rfl) rfl
theorem q149 : (Jvm.Cond.selects "SquareDeskModel" ({ cls := "SquareDeskModel", name := "next", desc := "(II)I" } : Jvm.MethodName) ({ cls := "SquareDeskModel", name := "next", desc := "(II)I" } : Jvm.MethodName)) ∈ lw_all := lw_g (lw_at lw_m0 139 rfl) rfl
theorem q150 : (Jvm.Cond.code ({ cls := "SquareDeskModel", name := "next", desc := "(II)I" } : Jvm.MethodName) prog_3_method_12_code (4 : Nat) (Option.some Jvm.ClassFile.FieldType.int)) ∈ lw_all := lw_g (lw_at lw_m0 140 rfl) rfl
theorem q152 : (Jvm.Cond.instanceMethod ({ cls := "SquareDeskModel", name := "root", desc := "(II)I" } : Jvm.MethodName)) ∈ lw_all := lw_g (lw_at lw_m0 142 rfl) rfl
theorem q153 : (Jvm.Cond.selects "SquareDeskModel" ({ cls := "SquareDeskModel", name := "root", desc := "(II)I" } : Jvm.MethodName) ({ cls := "SquareDeskModel", name := "root", desc := "(II)I" } : Jvm.MethodName)) ∈ lw_all := lw_g (lw_at lw_m0 143 rfl) rfl
theorem q154 : (Jvm.Cond.code ({ cls := "SquareDeskModel", name := "root", desc := "(II)I" } : Jvm.MethodName) prog_3_method_13_code (3 : Nat) (Option.some Jvm.ClassFile.FieldType.int)) ∈ lw_all := lw_g (lw_at lw_m0 144 rfl) rfl
theorem q156 : (Jvm.Cond.instanceMethod ({ cls := "SquareDeskModel", name := "sum", desc := "(II)I" } : Jvm.MethodName)) ∈ lw_all := lw_g (lw_at lw_m0 146 rfl) rfl
theorem q157 : (Jvm.Cond.selects "SquareDeskModel" ({ cls := "SquareDeskModel", name := "sum", desc := "(II)I" } : Jvm.MethodName) ({ cls := "SquareDeskModel", name := "sum", desc := "(II)I" } : Jvm.MethodName)) ∈ lw_all := lw_g (lw_at lw_m0 147 rfl) rfl
theorem q158 : (Jvm.Cond.code ({ cls := "SquareDeskModel", name := "sum", desc := "(II)I" } : Jvm.MethodName) prog_3_method_14_code (5 : Nat) (Option.some Jvm.ClassFile.FieldType.int)) ∈ lw_all := lw_g (lw_at lw_m0 148 rfl) rfl
theorem in_X1 : ∀ w ∈ wsX10, w ∈ lw_all := lw_in wsX10 [103, 105] (by decide +kernel) (by decide +kernel)
end
section
/-! java/lang/Object -/
set_option maxRecDepth 100000
def RJ0 : String := "java/lang/Object"
abbrev cJ0_init : ByteArray := object_method_1_code
def yJ0_init : MethodName := ⟨RJ0, "<init>", "()V"⟩
theorem dJ0_init_0 : decode cJ0_init 0 = .ok (.return_, 1) := by decide +kernel
theorem q19 : (Jvm.Cond.instanceMethod ({ cls := "java/lang/Object", name := "<init>", desc := "()V" } : Jvm.MethodName)) ∈ lw_all := lw_g (lw_at lw_m0 9 rfl) rfl
theorem q20 : (Jvm.Cond.code ({ cls := "java/lang/Object", name := "<init>", desc := "()V" } : Jvm.MethodName) object_method_1_code (1 : Nat) (Option.none : Option Jvm.ClassFile.FieldType)) ∈ lw_all := lw_g (lw_at lw_m0 10 rfl) rfl
theorem q10 : (Jvm.Cond.initialized "SquareDeskLaw") ∈ lw_all := lw_g (lw_at lw_m0 0 rfl) rfl
set_option maxRecDepth 100000
theorem q13 : (Jvm.Cond.classLink "SquareDeskLaw" (7 : Nat) "SquareDesk") ∈ lw_all := lw_g (lw_at lw_m0 3 rfl) rfl
theorem q15 : (Jvm.Cond.methodLink "SquareDeskLaw" (9 : Nat) ({ cls := "SquareDesk", name := "<init>", desc := "()V" } : Jvm.MethodName)) ∈ lw_all := lw_g (lw_at lw_m0 5 rfl) rfl
theorem q46 : (Jvm.Cond.methodLink "SquareDeskLaw" (13 : Nat) ({ cls := "SquareDesk", name := "set", desc := "(I)I" } : Jvm.MethodName)) ∈ lw_all := lw_g (lw_at lw_m0 36 rfl) rfl
theorem q50 : (Jvm.Cond.methodLink "SquareDeskLaw" (18 : Nat) ({ cls := "SquareDesk", name := "term", desc := "(I)I" } : Jvm.MethodName)) ∈ lw_all := lw_g (lw_at lw_m0 40 rfl) rfl
theorem q58 : (Jvm.Cond.methodLink "SquareDeskLaw" (22 : Nat) ({ cls := "SquareDesk", name := "period", desc := "()I" } : Jvm.MethodName)) ∈ lw_all := lw_g (lw_at lw_m0 48 rfl) rfl
theorem q62 : (Jvm.Cond.methodLink "SquareDeskLaw" (27 : Nat) ({ cls := "SquareDesk", name := "solutions", desc := "(II)I" } : Jvm.MethodName)) ∈ lw_all := lw_g (lw_at lw_m0 52 rfl) rfl
theorem q83 : (Jvm.Cond.methodLink "SquareDeskLaw" (32 : Nat) ({ cls := "SquareDesk", name := "next", desc := "(II)I" } : Jvm.MethodName)) ∈ lw_all := lw_g (lw_at lw_m0 73 rfl) rfl
theorem q87 : (Jvm.Cond.methodLink "SquareDeskLaw" (36 : Nat) ({ cls := "SquareDesk", name := "root", desc := "(II)I" } : Jvm.MethodName)) ∈ lw_all := lw_g (lw_at lw_m0 77 rfl) rfl
theorem q91 : (Jvm.Cond.methodLink "SquareDeskLaw" (40 : Nat) ({ cls := "SquareDesk", name := "sum", desc := "(II)I" } : Jvm.MethodName)) ∈ lw_all := lw_g (lw_at lw_m0 81 rfl) rfl
theorem q95 : (Jvm.Cond.classLink "SquareDeskLaw" (10 : Nat) "SquareDeskModel") ∈ lw_all := lw_g (lw_at lw_m0 85 rfl) rfl
theorem q97 : (Jvm.Cond.methodLink "SquareDeskLaw" (12 : Nat) ({ cls := "SquareDeskModel", name := "<init>", desc := "()V" } : Jvm.MethodName)) ∈ lw_all := lw_g (lw_at lw_m0 87 rfl) rfl
theorem q108 : (Jvm.Cond.methodLink "SquareDeskLaw" (17 : Nat) ({ cls := "SquareDeskModel", name := "set", desc := "(I)I" } : Jvm.MethodName)) ∈ lw_all := lw_g (lw_at lw_m0 98 rfl) rfl
theorem q119 : (Jvm.Cond.methodLink "SquareDeskLaw" (21 : Nat) ({ cls := "SquareDeskModel", name := "term", desc := "(I)I" } : Jvm.MethodName)) ∈ lw_all := lw_g (lw_at lw_m0 109 rfl) rfl
theorem q127 : (Jvm.Cond.methodLink "SquareDeskLaw" (26 : Nat) ({ cls := "SquareDeskModel", name := "period", desc := "()I" } : Jvm.MethodName)) ∈ lw_all := lw_g (lw_at lw_m0 117 rfl) rfl
theorem q135 : (Jvm.Cond.methodLink "SquareDeskLaw" (31 : Nat) ({ cls := "SquareDeskModel", name := "solutions", desc := "(II)I" } : Jvm.MethodName)) ∈ lw_all := lw_g (lw_at lw_m0 125 rfl) rfl
theorem q147 : (Jvm.Cond.methodLink "SquareDeskLaw" (35 : Nat) ({ cls := "SquareDeskModel", name := "next", desc := "(II)I" } : Jvm.MethodName)) ∈ lw_all := lw_g (lw_at lw_m0 137 rfl) rfl
theorem q151 : (Jvm.Cond.methodLink "SquareDeskLaw" (39 : Nat) ({ cls := "SquareDeskModel", name := "root", desc := "(II)I" } : Jvm.MethodName)) ∈ lw_all := lw_g (lw_at lw_m0 141 rfl) rfl
theorem q155 : (Jvm.Cond.methodLink "SquareDeskLaw" (43 : Nat) ({ cls := "SquareDeskModel", name := "sum", desc := "(II)I" } : Jvm.MethodName)) ∈ lw_all := lw_g (lw_at lw_m0 145 rfl) rfl
theorem q45 : (Jvm.Cond.arrayClass Jvm.ClassFile.FieldType.int) ∈ lw_all := lw_g (lw_at lw_m0 35 rfl) rfl
set_option maxRecDepth 100000
/-! the law's own entry -/
set_option maxRecDepth 100000
abbrev cL_law : ByteArray := code
theorem dL_law_0 : decode cL_law 0 = .ok (.new 7, 3) := by decide +kernel
theorem dL_law_3 : decode cL_law 3 = .ok (.dup, 1) := by decide +kernel
theorem dL_law_4 : decode cL_law 4 = .ok (.invokespecial 9, 3) := by decide +kernel
theorem dL_law_7 : decode cL_law 7 = .ok (.astore_n 1, 1) := by decide +kernel
theorem dL_law_8 : decode cL_law 8 = .ok (.new 10, 3) := by decide +kernel
theorem dL_law_11 : decode cL_law 11 = .ok (.dup, 1) := by decide +kernel
theorem dL_law_12 : decode cL_law 12 = .ok (.invokespecial 12, 3) := by decide +kernel
theorem dL_law_15 : decode cL_law 15 = .ok (.astore_n 2, 1) := by decide +kernel
theorem dL_law_16 : decode cL_law 16 = .ok (.iconst 0, 1) := by decide +kernel
theorem dL_law_17 : decode cL_law 17 = .ok (.istore_n 3, 1) := by decide +kernel
theorem dL_law_18 : decode cL_law 18 = .ok (.iload_n 3, 1) := by decide +kernel
theorem dL_law_19 : decode cL_law 19 = .ok (.aload_n 0, 1) := by decide +kernel
theorem dL_law_20 : decode cL_law 20 = .ok (.arraylength, 1) := by decide +kernel
theorem dL_law_21 : decode cL_law 21 = .ok (.iconst 3, 1) := by decide +kernel
theorem dL_law_22 : decode cL_law 22 = .ok (.isub, 1) := by decide +kernel
theorem dL_law_23 : decode cL_law 23 = .ok (.if_icmp .gt 250, 3) := by decide +kernel
theorem dL_law_26 : decode cL_law 26 = .ok (.aload_n 0, 1) := by decide +kernel
theorem dL_law_27 : decode cL_law 27 = .ok (.iload_n 3, 1) := by decide +kernel
theorem dL_law_28 : decode cL_law 28 = .ok (.iaload, 1) := by decide +kernel
theorem dL_law_29 : decode cL_law 29 = .ok (.bipush 7, 2) := by decide +kernel
theorem dL_law_31 : decode cL_law 31 = .ok (.iand, 1) := by decide +kernel
theorem dL_law_32 : decode cL_law 32 = .ok (.tableswitch 235 0 6 #[44, 67, 90, 103, 136, 169, 202], 44) := by decide +kernel
theorem dL_law_76 : decode cL_law 76 = .ok (.aload_n 1, 1) := by decide +kernel
theorem dL_law_77 : decode cL_law 77 = .ok (.aload_n 0, 1) := by decide +kernel
theorem dL_law_78 : decode cL_law 78 = .ok (.iload_n 3, 1) := by decide +kernel
theorem dL_law_79 : decode cL_law 79 = .ok (.iconst 1, 1) := by decide +kernel
theorem dL_law_80 : decode cL_law 80 = .ok (.iadd, 1) := by decide +kernel
theorem dL_law_81 : decode cL_law 81 = .ok (.iaload, 1) := by decide +kernel
theorem dL_law_82 : decode cL_law 82 = .ok (.invokevirtual 13, 3) := by decide +kernel
theorem dL_law_85 : decode cL_law 85 = .ok (.aload_n 2, 1) := by decide +kernel
theorem dL_law_86 : decode cL_law 86 = .ok (.aload_n 0, 1) := by decide +kernel
theorem dL_law_87 : decode cL_law 87 = .ok (.iload_n 3, 1) := by decide +kernel
theorem dL_law_88 : decode cL_law 88 = .ok (.iconst 1, 1) := by decide +kernel
theorem dL_law_89 : decode cL_law 89 = .ok (.iadd, 1) := by decide +kernel
theorem dL_law_90 : decode cL_law 90 = .ok (.iaload, 1) := by decide +kernel
theorem dL_law_91 : decode cL_law 91 = .ok (.invokevirtual 17, 3) := by decide +kernel
theorem dL_law_94 : decode cL_law 94 = .ok (.if_icmp .eq 173, 3) := by decide +kernel
theorem dL_law_97 : decode cL_law 97 = .ok (.iconst 0, 1) := by decide +kernel
theorem dL_law_98 : decode cL_law 98 = .ok (.ireturn, 1) := by decide +kernel
theorem dL_law_99 : decode cL_law 99 = .ok (.aload_n 1, 1) := by decide +kernel
theorem dL_law_100 : decode cL_law 100 = .ok (.aload_n 0, 1) := by decide +kernel
theorem dL_law_101 : decode cL_law 101 = .ok (.iload_n 3, 1) := by decide +kernel
theorem dL_law_102 : decode cL_law 102 = .ok (.iconst 1, 1) := by decide +kernel
theorem dL_law_103 : decode cL_law 103 = .ok (.iadd, 1) := by decide +kernel
theorem dL_law_104 : decode cL_law 104 = .ok (.iaload, 1) := by decide +kernel
theorem dL_law_105 : decode cL_law 105 = .ok (.invokevirtual 18, 3) := by decide +kernel
theorem dL_law_108 : decode cL_law 108 = .ok (.aload_n 2, 1) := by decide +kernel
theorem dL_law_109 : decode cL_law 109 = .ok (.aload_n 0, 1) := by decide +kernel
theorem dL_law_110 : decode cL_law 110 = .ok (.iload_n 3, 1) := by decide +kernel
theorem dL_law_111 : decode cL_law 111 = .ok (.iconst 1, 1) := by decide +kernel
theorem dL_law_112 : decode cL_law 112 = .ok (.iadd, 1) := by decide +kernel
theorem dL_law_113 : decode cL_law 113 = .ok (.iaload, 1) := by decide +kernel
theorem dL_law_114 : decode cL_law 114 = .ok (.invokevirtual 21, 3) := by decide +kernel
theorem dL_law_117 : decode cL_law 117 = .ok (.if_icmp .eq 150, 3) := by decide +kernel
theorem dL_law_120 : decode cL_law 120 = .ok (.iconst 0, 1) := by decide +kernel
theorem dL_law_121 : decode cL_law 121 = .ok (.ireturn, 1) := by decide +kernel
theorem dL_law_122 : decode cL_law 122 = .ok (.aload_n 1, 1) := by decide +kernel
theorem dL_law_123 : decode cL_law 123 = .ok (.invokevirtual 22, 3) := by decide +kernel
theorem dL_law_126 : decode cL_law 126 = .ok (.aload_n 2, 1) := by decide +kernel
theorem dL_law_127 : decode cL_law 127 = .ok (.invokevirtual 26, 3) := by decide +kernel
theorem dL_law_130 : decode cL_law 130 = .ok (.if_icmp .eq 137, 3) := by decide +kernel
theorem dL_law_133 : decode cL_law 133 = .ok (.iconst 0, 1) := by decide +kernel
theorem dL_law_134 : decode cL_law 134 = .ok (.ireturn, 1) := by decide +kernel
theorem dL_law_135 : decode cL_law 135 = .ok (.aload_n 1, 1) := by decide +kernel
theorem dL_law_136 : decode cL_law 136 = .ok (.aload_n 0, 1) := by decide +kernel
theorem dL_law_137 : decode cL_law 137 = .ok (.iload_n 3, 1) := by decide +kernel
theorem dL_law_138 : decode cL_law 138 = .ok (.iconst 1, 1) := by decide +kernel
theorem dL_law_139 : decode cL_law 139 = .ok (.iadd, 1) := by decide +kernel
theorem dL_law_140 : decode cL_law 140 = .ok (.iaload, 1) := by decide +kernel
theorem dL_law_141 : decode cL_law 141 = .ok (.aload_n 0, 1) := by decide +kernel
theorem dL_law_142 : decode cL_law 142 = .ok (.iload_n 3, 1) := by decide +kernel
theorem dL_law_143 : decode cL_law 143 = .ok (.iconst 2, 1) := by decide +kernel
theorem dL_law_144 : decode cL_law 144 = .ok (.iadd, 1) := by decide +kernel
theorem dL_law_145 : decode cL_law 145 = .ok (.iaload, 1) := by decide +kernel
theorem dL_law_146 : decode cL_law 146 = .ok (.invokevirtual 27, 3) := by decide +kernel
theorem dL_law_149 : decode cL_law 149 = .ok (.aload_n 2, 1) := by decide +kernel
theorem dL_law_150 : decode cL_law 150 = .ok (.aload_n 0, 1) := by decide +kernel
theorem dL_law_151 : decode cL_law 151 = .ok (.iload_n 3, 1) := by decide +kernel
theorem dL_law_152 : decode cL_law 152 = .ok (.iconst 1, 1) := by decide +kernel
theorem dL_law_153 : decode cL_law 153 = .ok (.iadd, 1) := by decide +kernel
theorem dL_law_154 : decode cL_law 154 = .ok (.iaload, 1) := by decide +kernel
theorem dL_law_155 : decode cL_law 155 = .ok (.aload_n 0, 1) := by decide +kernel
theorem dL_law_156 : decode cL_law 156 = .ok (.iload_n 3, 1) := by decide +kernel
theorem dL_law_157 : decode cL_law 157 = .ok (.iconst 2, 1) := by decide +kernel
theorem dL_law_158 : decode cL_law 158 = .ok (.iadd, 1) := by decide +kernel
theorem dL_law_159 : decode cL_law 159 = .ok (.iaload, 1) := by decide +kernel
theorem dL_law_160 : decode cL_law 160 = .ok (.invokevirtual 31, 3) := by decide +kernel
theorem dL_law_163 : decode cL_law 163 = .ok (.if_icmp .eq 104, 3) := by decide +kernel
theorem dL_law_166 : decode cL_law 166 = .ok (.iconst 0, 1) := by decide +kernel
theorem dL_law_167 : decode cL_law 167 = .ok (.ireturn, 1) := by decide +kernel
theorem dL_law_168 : decode cL_law 168 = .ok (.aload_n 1, 1) := by decide +kernel
theorem dL_law_169 : decode cL_law 169 = .ok (.aload_n 0, 1) := by decide +kernel
theorem dL_law_170 : decode cL_law 170 = .ok (.iload_n 3, 1) := by decide +kernel
theorem dL_law_171 : decode cL_law 171 = .ok (.iconst 1, 1) := by decide +kernel
theorem dL_law_172 : decode cL_law 172 = .ok (.iadd, 1) := by decide +kernel
theorem dL_law_173 : decode cL_law 173 = .ok (.iaload, 1) := by decide +kernel
theorem dL_law_174 : decode cL_law 174 = .ok (.aload_n 0, 1) := by decide +kernel
theorem dL_law_175 : decode cL_law 175 = .ok (.iload_n 3, 1) := by decide +kernel
theorem dL_law_176 : decode cL_law 176 = .ok (.iconst 2, 1) := by decide +kernel
theorem dL_law_177 : decode cL_law 177 = .ok (.iadd, 1) := by decide +kernel
theorem dL_law_178 : decode cL_law 178 = .ok (.iaload, 1) := by decide +kernel
theorem dL_law_179 : decode cL_law 179 = .ok (.invokevirtual 32, 3) := by decide +kernel
theorem dL_law_182 : decode cL_law 182 = .ok (.aload_n 2, 1) := by decide +kernel
theorem dL_law_183 : decode cL_law 183 = .ok (.aload_n 0, 1) := by decide +kernel
theorem dL_law_184 : decode cL_law 184 = .ok (.iload_n 3, 1) := by decide +kernel
theorem dL_law_185 : decode cL_law 185 = .ok (.iconst 1, 1) := by decide +kernel
theorem dL_law_186 : decode cL_law 186 = .ok (.iadd, 1) := by decide +kernel
theorem dL_law_187 : decode cL_law 187 = .ok (.iaload, 1) := by decide +kernel
theorem dL_law_188 : decode cL_law 188 = .ok (.aload_n 0, 1) := by decide +kernel
theorem dL_law_189 : decode cL_law 189 = .ok (.iload_n 3, 1) := by decide +kernel
theorem dL_law_190 : decode cL_law 190 = .ok (.iconst 2, 1) := by decide +kernel
theorem dL_law_191 : decode cL_law 191 = .ok (.iadd, 1) := by decide +kernel
theorem dL_law_192 : decode cL_law 192 = .ok (.iaload, 1) := by decide +kernel
theorem dL_law_193 : decode cL_law 193 = .ok (.invokevirtual 35, 3) := by decide +kernel
theorem dL_law_196 : decode cL_law 196 = .ok (.if_icmp .eq 71, 3) := by decide +kernel
theorem dL_law_199 : decode cL_law 199 = .ok (.iconst 0, 1) := by decide +kernel
theorem dL_law_200 : decode cL_law 200 = .ok (.ireturn, 1) := by decide +kernel
theorem dL_law_201 : decode cL_law 201 = .ok (.aload_n 1, 1) := by decide +kernel
theorem dL_law_202 : decode cL_law 202 = .ok (.aload_n 0, 1) := by decide +kernel
theorem dL_law_203 : decode cL_law 203 = .ok (.iload_n 3, 1) := by decide +kernel
theorem dL_law_204 : decode cL_law 204 = .ok (.iconst 1, 1) := by decide +kernel
theorem dL_law_205 : decode cL_law 205 = .ok (.iadd, 1) := by decide +kernel
theorem dL_law_206 : decode cL_law 206 = .ok (.iaload, 1) := by decide +kernel
theorem dL_law_207 : decode cL_law 207 = .ok (.aload_n 0, 1) := by decide +kernel
theorem dL_law_208 : decode cL_law 208 = .ok (.iload_n 3, 1) := by decide +kernel
theorem dL_law_209 : decode cL_law 209 = .ok (.iconst 2, 1) := by decide +kernel
theorem dL_law_210 : decode cL_law 210 = .ok (.iadd, 1) := by decide +kernel
theorem dL_law_211 : decode cL_law 211 = .ok (.iaload, 1) := by decide +kernel
theorem dL_law_212 : decode cL_law 212 = .ok (.invokevirtual 36, 3) := by decide +kernel
theorem dL_law_215 : decode cL_law 215 = .ok (.aload_n 2, 1) := by decide +kernel
theorem dL_law_216 : decode cL_law 216 = .ok (.aload_n 0, 1) := by decide +kernel
theorem dL_law_217 : decode cL_law 217 = .ok (.iload_n 3, 1) := by decide +kernel
theorem dL_law_218 : decode cL_law 218 = .ok (.iconst 1, 1) := by decide +kernel
theorem dL_law_219 : decode cL_law 219 = .ok (.iadd, 1) := by decide +kernel
theorem dL_law_220 : decode cL_law 220 = .ok (.iaload, 1) := by decide +kernel
theorem dL_law_221 : decode cL_law 221 = .ok (.aload_n 0, 1) := by decide +kernel
theorem dL_law_222 : decode cL_law 222 = .ok (.iload_n 3, 1) := by decide +kernel
theorem dL_law_223 : decode cL_law 223 = .ok (.iconst 2, 1) := by decide +kernel
theorem dL_law_224 : decode cL_law 224 = .ok (.iadd, 1) := by decide +kernel
theorem dL_law_225 : decode cL_law 225 = .ok (.iaload, 1) := by decide +kernel
theorem dL_law_226 : decode cL_law 226 = .ok (.invokevirtual 39, 3) := by decide +kernel
theorem dL_law_229 : decode cL_law 229 = .ok (.if_icmp .eq 38, 3) := by decide +kernel
theorem dL_law_232 : decode cL_law 232 = .ok (.iconst 0, 1) := by decide +kernel
theorem dL_law_233 : decode cL_law 233 = .ok (.ireturn, 1) := by decide +kernel
theorem dL_law_234 : decode cL_law 234 = .ok (.aload_n 1, 1) := by decide +kernel
theorem dL_law_235 : decode cL_law 235 = .ok (.aload_n 0, 1) := by decide +kernel
theorem dL_law_236 : decode cL_law 236 = .ok (.iload_n 3, 1) := by decide +kernel
theorem dL_law_237 : decode cL_law 237 = .ok (.iconst 1, 1) := by decide +kernel
theorem dL_law_238 : decode cL_law 238 = .ok (.iadd, 1) := by decide +kernel
theorem dL_law_239 : decode cL_law 239 = .ok (.iaload, 1) := by decide +kernel
theorem dL_law_240 : decode cL_law 240 = .ok (.aload_n 0, 1) := by decide +kernel
theorem dL_law_241 : decode cL_law 241 = .ok (.iload_n 3, 1) := by decide +kernel
theorem dL_law_242 : decode cL_law 242 = .ok (.iconst 2, 1) := by decide +kernel
theorem dL_law_243 : decode cL_law 243 = .ok (.iadd, 1) := by decide +kernel
theorem dL_law_244 : decode cL_law 244 = .ok (.iaload, 1) := by decide +kernel
theorem dL_law_245 : decode cL_law 245 = .ok (.invokevirtual 40, 3) := by decide +kernel
theorem dL_law_248 : decode cL_law 248 = .ok (.aload_n 2, 1) := by decide +kernel
theorem dL_law_249 : decode cL_law 249 = .ok (.aload_n 0, 1) := by decide +kernel
theorem dL_law_250 : decode cL_law 250 = .ok (.iload_n 3, 1) := by decide +kernel
theorem dL_law_251 : decode cL_law 251 = .ok (.iconst 1, 1) := by decide +kernel
theorem dL_law_252 : decode cL_law 252 = .ok (.iadd, 1) := by decide +kernel
theorem dL_law_253 : decode cL_law 253 = .ok (.iaload, 1) := by decide +kernel
theorem dL_law_254 : decode cL_law 254 = .ok (.aload_n 0, 1) := by decide +kernel
theorem dL_law_255 : decode cL_law 255 = .ok (.iload_n 3, 1) := by decide +kernel
theorem dL_law_256 : decode cL_law 256 = .ok (.iconst 2, 1) := by decide +kernel
theorem dL_law_257 : decode cL_law 257 = .ok (.iadd, 1) := by decide +kernel
theorem dL_law_258 : decode cL_law 258 = .ok (.iaload, 1) := by decide +kernel
theorem dL_law_259 : decode cL_law 259 = .ok (.invokevirtual 43, 3) := by decide +kernel
theorem dL_law_262 : decode cL_law 262 = .ok (.if_icmp .eq 5, 3) := by decide +kernel
theorem dL_law_265 : decode cL_law 265 = .ok (.iconst 0, 1) := by decide +kernel
theorem dL_law_266 : decode cL_law 266 = .ok (.ireturn, 1) := by decide +kernel
theorem dL_law_267 : decode cL_law 267 = .ok (.iinc 3 3, 3) := by decide +kernel
theorem dL_law_270 : decode cL_law 270 = .ok (.goto (-252), 3) := by decide +kernel
theorem dL_law_273 : decode cL_law 273 = .ok (.iconst 1, 1) := by decide +kernel
theorem dL_law_274 : decode cL_law 274 = .ok (.ireturn, 1) := by decide +kernel
end
section
/-! own helper rows: the top of the stack by another name, numbers, the frame of a call that writes nothing -/
section SXW
variable {p : Program} {l : Launch} {e : Env} {R : Room} {s : State} {m : MethodId} {args : Array Value} {below : List Frame} {meth : Method} {c : Code} {H : Heap} {locs : List Loc} {cells slots : Nat} {Q : State → Prop} {pc : Nat} {ls : Array Slot} {rest : List Value}
theorem sx_i {x y : Int32} (h : x = y) (k : W p l e R s m args below meth c H locs cells slots Q (F0 m pc ls (.int y :: rest))) : W p l e R s m args below meth c H locs cells slots Q (F0 m pc ls (.int x :: rest)) := by
  subst h
  exact k
theorem sx_l {x y : Int64} (h : x = y) (k : W p l e R s m args below meth c H locs cells slots Q (F0 m pc ls (.long y :: rest))) : W p l e R s m args below meth c H locs cells slots Q (F0 m pc ls (.long x :: rest)) := by
  subst h
  exact k
end SXW
theorem sx_fr {A : Nat → Prop} {H0 H : Heap} {locs : List Loc} (hA : ∀ q, H0.size ≤ q → A q) (hS : va_S A H0 H locs) : ∀ q, va_A ([] : va_W) H.size q → A q := by
  intro q h
  rcases h with ⟨k, e, h⟩ | h
  · simp at h
  · exact hA q (Nat.le_trans hS.1 h)
theorem sx_keep {D : va_G} {cl : List vw_C} {ws : va_W} {H H1 : Heap} (hP : va_P D cl ws H) (hk : ∀ q : Nat, q < H.size → ¬ va_A ([] : va_W) H.size q → H1[q]? = H[q]?) : va_P D cl ws H1 := by
  refine hP.kept (fun k q h => ?_)
  have hlt := (hP k q h).lt
  refine hk q.1 hlt (fun z => ?_)
  rcases z with ⟨_, _, h'⟩ | h'
  · simp at h'
  · omega
/-- an int of any sign -/
def iI (z : Int) : Int32 := Int32.ofInt z
theorem iI_nat (n : Nat) : iI (n : Int) = nI n := Int32.ofInt_eq_ofNat
theorem iI_toInt {z : Int} (h1 : -2147483648 ≤ z) (h2 : z < 2147483648) : (iI z).toInt = z := Int32.toInt_ofInt_of_le (by omega) (by omega)
theorem iI_self (x : Int32) : x = iI x.toInt := (Int32.ofInt_toInt x).symm
theorem iI_inj {a b : Int} (h1 : -2147483648 ≤ a) (h2 : a < 2147483648) (h3 : -2147483648 ≤ b) (h4 : b < 2147483648) (h : iI a = iI b) : a = b := by
  have h5 := congrArg Int32.toInt h
  rw [iI_toInt h1 h2, iI_toInt h3 h4] at h5
  exact h5
theorem iI_mul (a b : Int) : iI a * iI b = iI (a * b) := (Int32.ofInt_mul a b).symm
theorem iI_add (a b : Int) : iI a + iI b = iI (a + b) := (Int32.ofInt_add a b).symm
theorem iI_addn (a : Nat) (b : Int) : nI a + iI b = iI ((a : Int) + b) := by rw [← iI_nat, iI_add]
theorem iI_nadd (a : Int) (b : Nat) : iI a + nI b = iI (a + (b : Int)) := by rw [← iI_nat, iI_add]
theorem sx_tI (x : Int32) : -2147483648 ≤ x.toInt ∧ x.toInt < 2147483648 := by
  have h1 := Int32.le_toInt x
  have h2 := Int32.toInt_lt x
  omega
theorem sx_rng {x : Int32} {a b : Nat} (hab : a ≤ b) (hb : b < 2147483648) (h1 : ¬ x < nI a) (h2 : x ≤ nI b) : ∃ j : Nat, a ≤ j ∧ j ≤ b ∧ x = nI j := by
  rw [Int32.lt_iff_toInt_lt, nI_toInt (by omega)] at h1
  rw [Int32.le_iff_toInt_le, nI_toInt (by omega)] at h2
  refine ⟨x.toInt.toNat, by omega, by omega, ?_⟩
  apply Int32.toInt_inj.mp
  rw [nI_toInt (by omega)]
  omega
theorem sx_nlo {x : Int32} {a : Nat} (ha : a < 2147483648) (h : x < nI a) {j : Nat} (hj : a ≤ j) (hj2 : j < 2147483648) : x ≠ nI j := by
  intro e
  rw [e, Int32.lt_iff_toInt_lt, nI_toInt (by omega), nI_toInt (by omega)] at h
  omega
theorem sx_nhi {x : Int32} {b : Nat} (hb : b < 2147483648) (h : ¬ x ≤ nI b) {j : Nat} (hj : j ≤ b) : x ≠ nI j := by
  intro e
  rw [e, Int32.le_iff_toInt_le, nI_toInt (by omega), nI_toInt (by omega)] at h
  omega
theorem sx_neg {x : Int32} (h : x < 0) (j : Nat) (hj : j < 2147483648) : x ≠ nI j := by
  intro e
  rw [e, Int32.lt_iff_toInt_lt, nI_toInt (by omega)] at h
  have : (0 : Int32).toInt = 0 := rfl
  omega
theorem sx_inc (a : Nat) : nI a + Int32.ofInt 1 = nI (a + 1) := nI_1 a
theorem sx_inc3 (a : Nat) : nI a + Int32.ofInt 3 = nI (a + 3) := nI_add a 3
theorem sx_dec (a : Nat) : nI (a + 1) + Int32.ofInt (-1) = nI a := pk_m1 a
theorem sx_dec0 : nI 0 + Int32.ofInt (-1) = -1 := by decide +kernel
theorem sx_ald {f : Nat → Int32} {j : Nat} {v : Int32} (hj : j < 2147483648) (h : f j = v) : f (nI j).toNatClampNeg = v := by
  rw [nI_clamp (by omega), h]
theorem sx_clamp {j : Nat} (hj : j < 2147483648) : (nI j).toNatClampNeg = j := nI_clamp (by omega)
theorem sx_le {a b : Nat} (ha : a < 2147483648) (hb : b < 2147483648) (h : nI a ≤ nI b) : a ≤ b := (nI_leI (by omega) (by omega)).mp h
theorem sx_gt {a b : Nat} (ha : a < 2147483648) (hb : b < 2147483648) (h : ¬ nI a ≤ nI b) : b < a := by
  rcases Nat.lt_or_ge b a with q | q
  · exact q
  · exact absurd ((nI_leI (by omega) (by omega)).mpr q) h
theorem sx_lt {a b : Nat} (ha : a < 2147483648) (hb : b < 2147483648) (h : nI a < nI b) : a < b := (nI_ltI (by omega) (by omega)).mp h
theorem sx_ge {a b : Nat} (ha : a < 2147483648) (hb : b < 2147483648) (h : ¬ nI a < nI b) : b ≤ a := by
  rcases Nat.lt_or_ge a b with q | q
  · exact absurd ((nI_ltI (by omega) (by omega)).mpr q) h
  · exact q
theorem sx_eq {a b : Nat} (ha : a < 2147483648) (hb : b < 2147483648) (h : nI a = nI b) : a = b := (nI_eq (by omega) (by omega)).mp h
theorem sx_ne {a b : Nat} (ha : a < 2147483648) (hb : b < 2147483648) (h : ¬ nI a = nI b) : a ≠ b := fun q => h (by rw [q])
theorem sx_le0 {a : Nat} (ha : a < 2147483648) (h : nI a ≤ 0) : a = 0 := by
  have h2 : a ≤ 0 := sx_le ha (by omega) h
  omega
theorem sx_nle0 {a : Nat} (ha : a < 2147483648) (h : ¬ nI a ≤ 0) : 0 < a := sx_gt ha (by omega) h
theorem sx_eq0 {a : Nat} (ha : a < 2147483648) (h : nI a = 0) : a = 0 := sx_eq ha (by omega) h
theorem sx_ne0 {a : Nat} (ha : 0 < a) (ha2 : a < 2147483648) : ¬ nI a = 0 := fun h => by
  have := sx_eq0 ha2 h
  omega
theorem sx_ngt0 {a : Nat} (ha : a < 2147483648) (h : ¬ (0 : Int32) < nI a) : a = 0 := by
  have h2 : a ≤ 0 := sx_ge (a := 0) (b := a) (by omega) ha h
  omega
/-- a comparison of an int of any sign with one that is known by its number -/
theorem sx_ltI {x y : Int32} (h : x < y) : x.toInt < y.toInt := Int32.lt_iff_toInt_lt.mp h
theorem sx_nltI {x y : Int32} (h : ¬ x < y) : y.toInt ≤ x.toInt := by
  rw [Int32.lt_iff_toInt_lt] at h
  omega
theorem sx_leI {x y : Int32} (h : x ≤ y) : x.toInt ≤ y.toInt := Int32.le_iff_toInt_le.mp h
theorem sx_nleI {x y : Int32} (h : ¬ x ≤ y) : y.toInt < x.toInt := by
  rw [Int32.le_iff_toInt_le] at h
  omega
/-- longs -/
theorem sx_lgt {a b : Nat} (ha : a < 9223372036854775808) (hb : b < 9223372036854775808) (h : 0 < lg_cmp (lN a) (lN b)) : b < a := (pk_lLT (by omega) (by omega)).mp ((lg_cmp_gt _ _).mp h)
theorem sx_lngt {a b : Nat} (ha : a < 9223372036854775808) (hb : b < 9223372036854775808) (h : ¬ 0 < lg_cmp (lN a) (lN b)) : a ≤ b := by
  rcases Nat.lt_or_ge b a with q | q
  · exact absurd ((lg_cmp_gt _ _).mpr ((pk_lLT (by omega) (by omega)).mpr q)) h
  · exact q
theorem sx_ldiff {a b : Nat} {w : Int} (ha : a < 4611686018427387904) (hb : b < 4611686018427387904) (h1 : -2147483648 ≤ w) (h2 : w < 2147483648) : lN a - lN b = (iI w).toInt64 ↔ (a : Int) - (b : Int) = w := by
  rw [← Int64.toInt_inj, Int64.toInt_sub, Int32.toInt_toInt64, iI_toInt h1 h2, pk_lT (by omega), pk_lT (by omega)]
  rw [Int.bmod_eq_of_le (by omega) (by omega)]
theorem sx_sq {a b : Nat} (h1 : a * a ≤ b * b) : a ≤ b := by
  rcases Nat.lt_or_ge b a with q | q
  · have := Nat.mul_lt_mul_of_lt_of_lt q q
    omega
  · exact q
/-- whole roots are unique -/
theorem sx_root {a b v : Nat} (h1 : a * a ≤ v) (h2 : v < (a + 1) * (a + 1)) (h3 : b * b ≤ v) (h4 : v < (b + 1) * (b + 1)) : a = b := by
  have h5 : a < b + 1 := by
    rcases Nat.lt_or_ge a (b + 1) with q | q
    · exact q
    · have := Nat.mul_le_mul q q
      omega
  have h6 : b < a + 1 := by
    rcases Nat.lt_or_ge b (a + 1) with q | q
    · exact q
    · have := Nat.mul_le_mul q q
      omega
  omega
theorem sx_ny {n y : Nat} (hn : n ≤ 120) (hy : y ≤ 3000) : n * y ≤ 360000 ∧ n * y * y ≤ 1080000000 := by
  have h1 : n * y ≤ 120 * 3000 := Nat.mul_le_mul hn hy
  have h2 : n * y * y ≤ 360000 * 3000 := Nat.mul_le_mul h1 hy
  omega
end
section
/-! the pure side: the row of a number's root (m, d), its terms, its fractions; checks that the kernel runs, and what they say -/
def sq_m (r : Nat) (q : Nat × Nat) : Nat := (r + q.1) / q.2 * q.2 - q.1
def sq_st (r n : Nat) (q : Nat × Nat) : Nat × Nat := (sq_m r q, (n - sq_m r q * sq_m r q) / q.2)
def sq_q (r n : Nat) : Nat → Nat × Nat
  | 0 => (0, 1)
  | i + 1 => sq_st r n (sq_q r n i)
def sq_t (r n i : Nat) : Nat := (r + (sq_q r n i).1) / (sq_q r n i).2
def sq_f (r n : Nat) : Nat → (Nat × Nat) × (Nat × Nat)
  | 0 => ((1, 0), (0, 1))
  | i + 1 => ((sq_t r n i * (sq_f r n i).1.1 + (sq_f r n i).2.1, sq_t r n i * (sq_f r n i).1.2 + (sq_f r n i).2.2), (sq_f r n i).1)
def sq_good (r n : Nat) (q : Nat × Nat) : Prop := 0 < q.2 ∧ q.2 ≤ 1000 ∧ q.1 ≤ 1000 ∧ q.1 ≤ (r + q.1) / q.2 * q.2 ∧ sq_m r q * sq_m r q ≤ n
def sq_goodB (r n : Nat) (q : Nat × Nat) : Bool := Nat.blt 0 q.2 && (Nat.ble q.2 1000 && (Nat.ble q.1 1000 && (Nat.ble q.1 ((r + q.1) / q.2 * q.2) && Nat.ble (sq_m r q * sq_m r q) n)))
theorem sq_goodB_ok {r n : Nat} {q : Nat × Nat} (h : sq_goodB r n q = true) : sq_good r n q := by
  unfold sq_goodB at h
  simp only [Bool.and_eq_true, Nat.blt_eq, Nat.ble_eq] at h
  exact ⟨h.1, h.2.1, h.2.2.1, h.2.2.2.1, h.2.2.2.2⟩
/-- basics of a number, its whole root and its period -/
def sq_bas (r n P : Nat) : Prop := 2 ≤ n ∧ n ≤ 120 ∧ r * r < n ∧ n < (r + 1) * (r + 1) ∧ 0 < P ∧ P ≤ 20 ∧ r ≤ 10
def sq_A (r n P : Nat) : Prop := sq_bas r n P ∧ (∀ i, sq_good r n (sq_q r n i)) ∧ (∀ i, 0 < i → i < P → (sq_q r n i).2 ≠ 1) ∧ (sq_q r n P).2 = 1 ∧ (∀ q, 0 < q → q < P → ∃ i, 0 < i ∧ i + q < 300 ∧ sq_t r n i ≠ sq_t r n (i + q))
theorem sq_per {r n P : Nat} (h : (sq_q r n P).2 = 1) : ∀ i, sq_q r n (i + 1 + P) = sq_q r n (i + 1) := by
  intro i
  induction i with
  | zero =>
    rw [show 0 + 1 + P = P + 1 by omega]
    show sq_st r n (sq_q r n P) = sq_st r n (0, 1)
    obtain ⟨⟨a, b⟩, hq⟩ : ∃ q, sq_q r n P = q := ⟨_, rfl⟩
    rw [hq] at h ⊢
    have hb : b = 1 := h
    subst hb
    have h1 : sq_m r (a, 1) = r := by
      show (r + a) / 1 * 1 - a = r
      rw [Nat.div_one]
      omega
    have h2 : sq_m r (0, 1) = r := by
      show (r + 0) / 1 * 1 - 0 = r
      rw [Nat.div_one]
      omega
    show (sq_m r (a, 1), (n - sq_m r (a, 1) * sq_m r (a, 1)) / 1) = (sq_m r (0, 1), (n - sq_m r (0, 1) * sq_m r (0, 1)) / 1)
    rw [h1, h2]
  | succ i ih =>
    rw [show i + 1 + 1 + P = (i + 1 + P) + 1 by omega]
    show sq_st r n (sq_q r n (i + 1 + P)) = sq_st r n (sq_q r n (i + 1))
    rw [ih]
theorem sq_tper {r n P : Nat} (h : (sq_q r n P).2 = 1) (i : Nat) (hi : 0 < i) : sq_t r n (i + P) = sq_t r n i := by
  obtain ⟨j, rfl⟩ : ∃ j, i = j + 1 := ⟨i - 1, by omega⟩
  unfold sq_t
  rw [sq_per h j]
theorem sq_tmod {r n P : Nat} (h : (sq_q r n P).2 = 1) (hP : 0 < P) : ∀ i, sq_t r n (1 + i % P) = sq_t r n (i + 1) := by
  intro i
  induction i using Nat.strongRecOn with
  | ind i ih =>
    rcases Nat.lt_or_ge i P with q | q
    · rw [Nat.mod_eq_of_lt q, Nat.add_comm]
    · have h1 := ih (i - P) (by omega)
      have h2 : i % P = (i - P) % P := by
        rw [Nat.mod_eq_sub_mod q]
      rw [h2, h1]
      have h3 := sq_tper h (i - P + 1) (by omega)
      rw [← h3]
      congr 1
      omega
theorem sq_allgood {r n P : Nat} (h : (sq_q r n P).2 = 1) (hP : 0 < P) (hg : ∀ i, i ≤ P → sq_good r n (sq_q r n i)) : ∀ i, sq_good r n (sq_q r n i) := by
  intro i
  induction i using Nat.strongRecOn with
  | ind i ih =>
    rcases Nat.lt_or_ge P i with q | q
    · obtain ⟨j, rfl⟩ : ∃ j, i = j + 1 + P := ⟨i - P - 1, by omega⟩
      rw [sq_per h j]
      exact ih (j + 1) (by omega)
    · exact hg i q
/-- the row's check -/
def sq_ckA (r n P : Nat) : Bool := (List.range (P + 1)).all (fun i => sq_goodB r n (sq_q r n i)) && ((List.range P).all (fun i => Nat.beq i 0 || !(Nat.beq (sq_q r n i).2 1)) && (Nat.beq (sq_q r n P).2 1 && (List.range P).all (fun q => Nat.beq q 0 || (List.range 60).any (fun i => !(Nat.beq (sq_t r n (i + 1)) (sq_t r n (i + 1 + q)))))))
theorem sq_ckA_ok {r n P : Nat} (hb : sq_bas r n P) (h : sq_ckA r n P = true) : sq_A r n P := by
  unfold sq_ckA at h
  simp only [Bool.and_eq_true, List.all_eq_true, List.mem_range] at h
  obtain ⟨h1, h2, h3, h4⟩ := h
  have h3 : (sq_q r n P).2 = 1 := Nat.eq_of_beq_eq_true h3
  refine ⟨hb, sq_allgood h3 hb.2.2.2.2.1 (fun i hi => sq_goodB_ok (h1 i (by omega))), ?_, h3, ?_⟩
  · intro i hi hi2 he
    have h5 := h2 i hi2
    rw [he] at h5
    have h6 : Nat.beq i 0 = false := by
      cases i with
      | zero => omega
      | succ k => rfl
    rw [h6] at h5
    exact absurd h5 (by decide)
  · intro q hq hq2
    have h5 := h4 q hq2
    have h6 : Nat.beq q 0 = false := by
      cases q with
      | zero => omega
      | succ k => rfl
    rw [h6, Bool.false_or, List.any_eq_true] at h5
    obtain ⟨i, hi, h7⟩ := h5
    rw [List.mem_range] at hi
    refine ⟨i + 1, by omega, ?_, ?_⟩
    · have := hb.2.2.2.2.2.1
      omega
    · intro he
      rw [he] at h7
      have h8 : Nat.beq (sq_t r n (i + 1 + q)) (sq_t r n (i + 1 + q)) = true := Nat.beq_refl _
      rw [h8] at h7
      exact absurd h7 (by decide)
/-- the fractions' facts up to the first y above 3000 -/
def sq_B (r n K : Nat) : Prop := K ≤ 19 ∧ (∀ i, i ≤ K → (sq_f r n i).1.1 ≤ 2000000 ∧ (sq_f r n i).1.2 ≤ 2000000) ∧ (∀ i, i < K → (sq_f r n i).1.2 ≤ (sq_f r n (i + 1)).1.2) ∧ 3000 < (sq_f r n K).1.2
def sq_ckB (r n K : Nat) (fl : List (Nat × Nat)) : Bool := Nat.ble K 19 && ((List.range (K + 1)).all (fun i => Nat.ble (sq_f r n i).1.1 2000000 && Nat.ble (sq_f r n i).1.2 2000000) && ((List.range K).all (fun i => Nat.ble (sq_f r n i).1.2 (sq_f r n (i + 1)).1.2) && (Nat.blt 3000 (sq_f r n K).1.2 && fl.all (fun q => (List.range (K + 1)).any (fun i => Nat.beq (sq_f r n i).1.1 q.1 && Nat.beq (sq_f r n i).1.2 q.2)))))
theorem sq_ckB_ok {r n K : Nat} {fl : List (Nat × Nat)} (h : sq_ckB r n K fl = true) : sq_B r n K ∧ ∀ q ∈ fl, ∃ i, i ≤ K ∧ (sq_f r n i).1.1 = q.1 ∧ (sq_f r n i).1.2 = q.2 := by
  unfold sq_ckB at h
  simp only [Bool.and_eq_true, List.all_eq_true, List.any_eq_true, List.mem_range, Nat.ble_eq, Nat.blt_eq] at h
  obtain ⟨h1, h2, h3, h4, h5⟩ := h
  refine ⟨⟨h1, fun i hi => h2 i (by omega), h3, h4⟩, ?_⟩
  intro q hq
  obtain ⟨i, hi, h6, h7⟩ := h5 q hq
  exact ⟨i, by omega, Nat.eq_of_beq_eq_true h6, Nat.eq_of_beq_eq_true h7⟩
theorem sq_mono {r n K : Nat} (h : sq_B r n K) : ∀ j i, i ≤ j → j ≤ K → (sq_f r n i).1.2 ≤ (sq_f r n j).1.2 := by
  intro j
  induction j with
  | zero =>
    intro i hi hj
    rw [show i = 0 by omega]
    exact Nat.le_refl _
  | succ j ih =>
    intro i hi hj
    rcases Nat.lt_or_ge i (j + 1) with q | q
    · exact Nat.le_trans (ih i (by omega) (by omega)) (h.2.2.1 j (by omega))
    · rw [show i = j + 1 by omega]
      exact Nat.le_refl _
/-- the scan: every y up to a bound, with the whole root X of n*y*y -/
def sq_frc (x : Nat) (f : Nat → Bool) : Bool := Nat.rec (motive := fun _ => Bool) (f 0) (fun k _ => f (Nat.succ k)) x
theorem sq_frc_eq (x : Nat) (f : Nat → Bool) : sq_frc x f = f x := by
  cases x <;> rfl
def sq_memb (g X y : Nat) : List (Nat × Nat) → Bool
  | [] => false
  | q :: t => (Nat.beq (Nat.mul q.1 g) X && Nat.beq (Nat.mul q.2 g) y) || sq_memb g X y t
def sq_hit (X y : Nat) (fl : List (Nat × Nat)) : Bool := sq_memb (Nat.gcd X y) X y fl
def sq_at (c y X v lo hi : Nat) (fl : List (Nat × Nat)) : Bool :=
  Nat.ble lo v && (Nat.ble (Nat.succ v) hi && (Nat.ble c X && (Nat.ble (Nat.succ c) (Nat.sub v (Nat.mul (Nat.sub X 1) (Nat.sub X 1))) && ((Nat.ble (Nat.succ c) (Nat.sub v lo) || sq_hit X y fl) && (Nat.ble (Nat.succ c) (Nat.sub hi v) || sq_hit (Nat.succ X) y fl)))))
def sq_pick (v x : Nat) : Nat := cond (Nat.ble (Nat.mul (Nat.succ x) (Nat.succ x)) v) (Nat.succ x) x
def sq_scan (n r c : Nat) (fl : List (Nat × Nat)) (k : Nat) : Nat → Nat → Bool :=
  Nat.rec (motive := fun _ => Nat → Nat → Bool) (fun _ _ => true)
    (fun _ ih y x => sq_frc (Nat.succ y) (fun y => sq_frc (Nat.mul n (Nat.mul y y)) (fun v => sq_frc (sq_pick v (Nat.add x r)) (fun X => sq_frc (Nat.mul X X) (fun lo => sq_frc (Nat.mul (Nat.succ X) (Nat.succ X)) (fun hi => sq_at c y X v lo hi fl && ih y X)))))) k
theorem sq_scan_succ (n r c : Nat) (fl : List (Nat × Nat)) (k y x : Nat) : sq_scan n r c fl (k + 1) y x = (sq_at c (y + 1) (sq_pick (n * ((y + 1) * (y + 1))) (x + r)) (n * ((y + 1) * (y + 1))) (sq_pick (n * ((y + 1) * (y + 1))) (x + r) * sq_pick (n * ((y + 1) * (y + 1))) (x + r)) ((sq_pick (n * ((y + 1) * (y + 1))) (x + r) + 1) * (sq_pick (n * ((y + 1) * (y + 1))) (x + r) + 1)) fl && sq_scan n r c fl k (y + 1) (sq_pick (n * ((y + 1) * (y + 1))) (x + r))) := by
  show sq_frc (Nat.succ y) (fun y => sq_frc (Nat.mul n (Nat.mul y y)) (fun v => sq_frc (sq_pick v (Nat.add x r)) (fun X => sq_frc (Nat.mul X X) (fun lo => sq_frc (Nat.mul (Nat.succ X) (Nat.succ X)) (fun hi => sq_at c y X v lo hi fl && sq_scan n r c fl k y X))))) = _
  rw [sq_frc_eq, sq_frc_eq, sq_frc_eq, sq_frc_eq, sq_frc_eq]
  rfl
theorem sq_scan_ok {n r c : Nat} {fl : List (Nat × Nat)} : ∀ k y x, sq_scan n r c fl k y x = true → ∀ j, j < k → ∃ X, sq_at c (y + 1 + j) X (n * ((y + 1 + j) * (y + 1 + j))) (X * X) ((X + 1) * (X + 1)) fl = true := by
  intro k
  induction k with
  | zero =>
    intro y x h j hj
    omega
  | succ k ih =>
    intro y x h j hj
    rw [sq_scan_succ, Bool.and_eq_true] at h
    cases j with
    | zero => exact ⟨_, h.1⟩
    | succ j =>
      obtain ⟨X, hX⟩ := ih (y + 1) _ h.2 j (by omega)
      rw [show y + 1 + 1 + j = y + 1 + (j + 1) by omega] at hX
      exact ⟨X, hX⟩
theorem sq_memb_ok {g X y : Nat} : ∀ (fl : List (Nat × Nat)), sq_memb g X y fl = true → ∃ q ∈ fl, q.1 * g = X ∧ q.2 * g = y := by
  intro fl
  induction fl with
  | nil =>
    intro h
    have h : false = true := h
    exact absurd h (by decide)
  | cons q t ih =>
    intro h
    have h : ((Nat.beq (Nat.mul q.1 g) X && Nat.beq (Nat.mul q.2 g) y) || sq_memb g X y t) = true := h
    rw [Bool.or_eq_true, Bool.and_eq_true] at h
    rcases h with h | h
    · exact ⟨q, List.mem_cons_self, Nat.eq_of_beq_eq_true h.1, Nat.eq_of_beq_eq_true h.2⟩
    · obtain ⟨q2, h1, h2⟩ := ih h
      exact ⟨q2, List.mem_cons_of_mem _ h1, h2⟩
/-- a fraction's multiple -/
def sq_in (r n K X y : Nat) : Prop := ∃ g i, i ≤ K ∧ (sq_f r n i).1.1 * g = X ∧ (sq_f r n i).1.2 * g = y
def sq_pt (r n K c y : Nat) : Prop := ∃ X, X * X ≤ n * (y * y) ∧ n * (y * y) < (X + 1) * (X + 1) ∧ c ≤ X ∧ c < n * (y * y) - (X - 1) * (X - 1) ∧ (c < n * (y * y) - X * X ∨ sq_in r n K X y) ∧ (c < (X + 1) * (X + 1) - n * (y * y) ∨ sq_in r n K (X + 1) y)
theorem sq_at_ok {r n K c y X : Nat} {fl : List (Nat × Nat)} (hf : ∀ q ∈ fl, ∃ i, i ≤ K ∧ (sq_f r n i).1.1 = q.1 ∧ (sq_f r n i).1.2 = q.2) (h : sq_at c y X (n * (y * y)) (X * X) ((X + 1) * (X + 1)) fl = true) : sq_pt r n K c y := by
  have key : ∀ Z, sq_hit Z y fl = true → sq_in r n K Z y := by
    intro Z hZ
    obtain ⟨q, h1, h2, h3⟩ := sq_memb_ok fl hZ
    obtain ⟨i, hi, e1, e2⟩ := hf q h1
    exact ⟨Nat.gcd Z y, i, hi, by rw [e1]; exact h2, by rw [e2]; exact h3⟩
  unfold sq_at at h
  simp only [Bool.and_eq_true, Bool.or_eq_true, Nat.ble_eq] at h
  obtain ⟨h1, h2, h3, h4, h5, h6⟩ := h
  refine ⟨X, h1, h2, h3, h4, ?_, ?_⟩
  · rcases h5 with h | h
    · exact Or.inl h
    · exact Or.inr (key _ h)
  · rcases h6 with h | h
    · exact Or.inl h
    · exact Or.inr (key _ h)
def sq_C (r n K c : Nat) : Prop := (r ≤ c ∨ 9 ≤ c) ∧ ∀ y, 0 < y → y ≤ 3000 → sq_pt r n K c y
theorem sq_C_ok {r n K c : Nat} {fl : List (Nat × Nat)} (hc : r ≤ c ∨ 9 ≤ c) (hf : ∀ q ∈ fl, ∃ i, i ≤ K ∧ (sq_f r n i).1.1 = q.1 ∧ (sq_f r n i).1.2 = q.2) (h : sq_scan n r c fl 3000 0 0 = true) : sq_C r n K c := by
  refine ⟨hc, fun y h0 hy => ?_⟩
  obtain ⟨X, hX⟩ := sq_scan_ok 3000 0 0 h (y - 1) (by omega)
  rw [show 0 + 1 + (y - 1) = y by omega] at hX
  exact sq_at_ok hf hX
/-- all that the walk and the laws need of a number -/
def sq_OK (r n P : Nat) : Prop := sq_A r n P ∧ ∃ K c, sq_B r n K ∧ sq_C r n K c
theorem sq_make {r n P K c : Nat} {fl : List (Nat × Nat)} (hb : sq_bas r n P) (hA : sq_ckA r n P = true) (hB : sq_ckB r n K fl = true) (hc : r ≤ c ∨ 9 ≤ c) (hC : sq_scan n r c fl 3000 0 0 = true) : sq_OK r n P :=
  ⟨sq_ckA_ok hb hA, K, c, (sq_ckB_ok hB).1, sq_C_ok hc (sq_ckB_ok hB).2 hC⟩
end
section
theorem sn_2 : sq_OK 1 2 1 := sq_make (K := 11) (c := 1) (fl := [(1, 0), (1, 1), (3, 2), (7, 5), (17, 12), (41, 29), (99, 70), (239, 169), (577, 408), (1393, 985), (3363, 2378), (8119, 5741)]) (by unfold sq_bas; decide) (by decide +kernel) (by decide +kernel) (by decide) (by decide +kernel)
theorem sn_3 : sq_OK 1 3 2 := sq_make (K := 15) (c := 1) (fl := [(1, 0), (1, 1), (2, 1), (5, 3), (7, 4), (19, 11), (26, 15), (71, 41), (97, 56), (265, 153), (362, 209), (989, 571), (1351, 780), (3691, 2131), (5042, 2911), (13775, 7953)]) (by unfold sq_bas; decide) (by decide +kernel) (by decide +kernel) (by decide) (by decide +kernel)
theorem sn_5 : sq_OK 2 5 1 := sq_make (K := 7) (c := 2) (fl := [(1, 0), (2, 1), (9, 4), (38, 17), (161, 72), (682, 305), (2889, 1292), (12238, 5473)]) (by unfold sq_bas; decide) (by decide +kernel) (by decide +kernel) (by decide) (by decide +kernel)
theorem sn_6 : sq_OK 2 6 2 := sq_make (K := 9) (c := 2) (fl := [(1, 0), (2, 1), (5, 2), (22, 9), (49, 20), (218, 89), (485, 198), (2158, 881), (4801, 1960), (21362, 8721)]) (by unfold sq_bas; decide) (by decide +kernel) (by decide +kernel) (by decide) (by decide +kernel)
theorem sn_7 : sq_OK 2 7 4 := sq_make (K := 13) (c := 2) (fl := [(1, 0), (2, 1), (3, 1), (5, 2), (8, 3), (37, 14), (45, 17), (82, 31), (127, 48), (590, 223), (717, 271), (1307, 494), (2024, 765), (9403, 3554)]) (by unfold sq_bas; decide) (by decide +kernel) (by decide +kernel) (by decide) (by decide +kernel)
theorem sn_8 : sq_OK 2 8 2 := sq_make (K := 11) (c := 2) (fl := [(1, 0), (2, 1), (3, 1), (14, 5), (17, 6), (82, 29), (99, 35), (478, 169), (577, 204), (2786, 985), (3363, 1189), (16238, 5741)]) (by unfold sq_bas; decide) (by decide +kernel) (by decide +kernel) (by decide) (by decide +kernel)
theorem sn_10 : sq_OK 3 10 1 := sq_make (K := 6) (c := 3) (fl := [(1, 0), (3, 1), (19, 6), (117, 37), (721, 228), (4443, 1405), (27379, 8658)]) (by unfold sq_bas; decide) (by decide +kernel) (by decide +kernel) (by decide) (by decide +kernel)
theorem sn_11 : sq_OK 3 11 2 := sq_make (K := 7) (c := 3) (fl := [(1, 0), (3, 1), (10, 3), (63, 19), (199, 60), (1257, 379), (3970, 1197), (25077, 7561)]) (by unfold sq_bas; decide) (by decide +kernel) (by decide +kernel) (by decide) (by decide +kernel)
theorem sn_12 : sq_OK 3 12 2 := sq_make (K := 8) (c := 3) (fl := [(1, 0), (3, 1), (7, 2), (45, 13), (97, 28), (627, 181), (1351, 390), (8733, 2521), (18817, 5432)]) (by unfold sq_bas; decide) (by decide +kernel) (by decide +kernel) (by decide) (by decide +kernel)
theorem sn_13 : sq_OK 3 13 5 := sq_make (K := 14) (c := 3) (fl := [(1, 0), (3, 1), (4, 1), (7, 2), (11, 3), (18, 5), (119, 33), (137, 38), (256, 71), (393, 109), (649, 180), (4287, 1189), (4936, 1369), (9223, 2558), (14159, 3927)]) (by unfold sq_bas; decide) (by decide +kernel) (by decide +kernel) (by decide) (by decide +kernel)
theorem sn_14 : sq_OK 3 14 4 := sq_make (K := 12) (c := 3) (fl := [(1, 0), (3, 1), (4, 1), (11, 3), (15, 4), (101, 27), (116, 31), (333, 89), (449, 120), (3027, 809), (3476, 929), (9979, 2667), (13455, 3596)]) (by unfold sq_bas; decide) (by decide +kernel) (by decide +kernel) (by decide) (by decide +kernel)
theorem sn_15 : sq_OK 3 15 2 := sq_make (K := 9) (c := 3) (fl := [(1, 0), (3, 1), (4, 1), (27, 7), (31, 8), (213, 55), (244, 63), (1677, 433), (1921, 496), (13203, 3409)]) (by unfold sq_bas; decide) (by decide +kernel) (by decide +kernel) (by decide) (by decide +kernel)
theorem sn_17 : sq_OK 4 17 1 := sq_make (K := 5) (c := 4) (fl := [(1, 0), (4, 1), (33, 8), (268, 65), (2177, 528), (17684, 4289)]) (by unfold sq_bas; decide) (by decide +kernel) (by decide +kernel) (by decide) (by decide +kernel)
theorem sn_18 : sq_OK 4 18 2 := sq_make (K := 6) (c := 4) (fl := [(1, 0), (4, 1), (17, 4), (140, 33), (577, 136), (4756, 1121), (19601, 4620)]) (by unfold sq_bas; decide) (by decide +kernel) (by decide +kernel) (by decide) (by decide +kernel)
theorem sn_19 : sq_OK 4 19 6 := sq_make (K := 10) (c := 4) (fl := [(1, 0), (4, 1), (9, 2), (13, 3), (48, 11), (61, 14), (170, 39), (1421, 326), (3012, 691), (4433, 1017), (16311, 3742)]) (by unfold sq_bas; decide) (by decide +kernel) (by decide +kernel) (by decide) (by decide +kernel)
theorem sn_20 : sq_OK 4 20 2 := sq_make (K := 7) (c := 4) (fl := [(1, 0), (4, 1), (9, 2), (76, 17), (161, 36), (1364, 305), (2889, 646), (24476, 5473)]) (by unfold sq_bas; decide) (by decide +kernel) (by decide +kernel) (by decide) (by decide +kernel)
theorem sn_21 : sq_OK 4 21 6 := sq_make (K := 13) (c := 4) (fl := [(1, 0), (4, 1), (5, 1), (9, 2), (23, 5), (32, 7), (55, 12), (472, 103), (527, 115), (999, 218), (2525, 551), (3524, 769), (6049, 1320), (51916, 11329)]) (by unfold sq_bas; decide) (by decide +kernel) (by decide +kernel) (by decide) (by decide +kernel)
theorem sn_22 : sq_OK 4 22 6 := sq_make (K := 10) (c := 4) (fl := [(1, 0), (4, 1), (5, 1), (14, 3), (61, 13), (136, 29), (197, 42), (1712, 365), (1909, 407), (5530, 1179), (24029, 5123)]) (by unfold sq_bas; decide) (by decide +kernel) (by decide +kernel) (by decide) (by decide +kernel)
theorem sn_23 : sq_OK 4 23 4 := sq_make (K := 11) (c := 4) (fl := [(1, 0), (4, 1), (5, 1), (19, 4), (24, 5), (211, 44), (235, 49), (916, 191), (1151, 240), (10124, 2111), (11275, 2351), (43949, 9164)]) (by unfold sq_bas; decide) (by decide +kernel) (by decide +kernel) (by decide) (by decide +kernel)
theorem sn_24 : sq_OK 4 24 2 := sq_make (K := 9) (c := 4) (fl := [(1, 0), (4, 1), (5, 1), (44, 9), (49, 10), (436, 89), (485, 99), (4316, 881), (4801, 980), (42724, 8721)]) (by unfold sq_bas; decide) (by decide +kernel) (by decide +kernel) (by decide) (by decide +kernel)
theorem sn_26 : sq_OK 5 26 1 := sq_make (K := 5) (c := 5) (fl := [(1, 0), (5, 1), (51, 10), (515, 101), (5201, 1020), (52525, 10301)]) (by unfold sq_bas; decide) (by decide +kernel) (by decide +kernel) (by decide) (by decide +kernel)
theorem sn_27 : sq_OK 5 27 2 := sq_make (K := 6) (c := 5) (fl := [(1, 0), (5, 1), (26, 5), (265, 51), (1351, 260), (13775, 2651), (70226, 13515)]) (by unfold sq_bas; decide) (by decide +kernel) (by decide +kernel) (by decide) (by decide +kernel)
theorem sn_28 : sq_OK 5 28 4 := sq_make (K := 8) (c := 5) (fl := [(1, 0), (5, 1), (16, 3), (37, 7), (127, 24), (1307, 247), (4048, 765), (9403, 1777), (32257, 6096)]) (by unfold sq_bas; decide) (by decide +kernel) (by decide +kernel) (by decide) (by decide +kernel)
theorem sn_29 : sq_OK 5 29 5 := sq_make (K := 11) (c := 5) (fl := [(1, 0), (5, 1), (11, 2), (16, 3), (27, 5), (70, 13), (727, 135), (1524, 283), (2251, 418), (3775, 701), (9801, 1820), (101785, 18901)]) (by unfold sq_bas; decide) (by decide +kernel) (by decide +kernel) (by decide) (by decide +kernel)
theorem sn_30 : sq_OK 5 30 2 := sq_make (K := 7) (c := 5) (fl := [(1, 0), (5, 1), (11, 2), (115, 21), (241, 44), (2525, 461), (5291, 966), (55435, 10121)]) (by unfold sq_bas; decide) (by decide +kernel) (by decide +kernel) (by decide) (by decide +kernel)
theorem sn_31 : sq_OK 5 31 8 := sq_make (K := 10) (c := 5) (fl := [(1, 0), (5, 1), (6, 1), (11, 2), (39, 7), (206, 37), (657, 118), (863, 155), (1520, 273), (16063, 2885), (17583, 3158)]) (by unfold sq_bas; decide) (by decide +kernel) (by decide +kernel) (by decide) (by decide +kernel)
theorem sn_32 : sq_OK 5 32 4 := sq_make (K := 12) (c := 5) (fl := [(1, 0), (5, 1), (6, 1), (11, 2), (17, 3), (181, 32), (198, 35), (379, 67), (577, 102), (6149, 1087), (6726, 1189), (12875, 2276), (19601, 3465)]) (by unfold sq_bas; decide) (by decide +kernel) (by decide +kernel) (by decide) (by decide +kernel)
theorem sn_33 : sq_OK 5 33 4 := sq_make (K := 11) (c := 5) (fl := [(1, 0), (5, 1), (6, 1), (17, 3), (23, 4), (247, 43), (270, 47), (787, 137), (1057, 184), (11357, 1977), (12414, 2161), (36185, 6299)]) (by unfold sq_bas; decide) (by decide +kernel) (by decide +kernel) (by decide) (by decide +kernel)
theorem sn_34 : sq_OK 5 34 4 := sq_make (K := 9) (c := 5) (fl := [(1, 0), (5, 1), (6, 1), (29, 5), (35, 6), (379, 65), (414, 71), (2035, 349), (2449, 420), (26525, 4549)]) (by unfold sq_bas; decide) (by decide +kernel) (by decide +kernel) (by decide) (by decide +kernel)
theorem sn_35 : sq_OK 5 35 2 := sq_make (K := 9) (c := 5) (fl := [(1, 0), (5, 1), (6, 1), (65, 11), (71, 12), (775, 131), (846, 143), (9235, 1561), (10081, 1704), (110045, 18601)]) (by unfold sq_bas; decide) (by decide +kernel) (by decide +kernel) (by decide) (by decide +kernel)
theorem sn_37 : sq_OK 6 37 1 := sq_make (K := 5) (c := 6) (fl := [(1, 0), (6, 1), (73, 12), (882, 145), (10657, 1752), (128766, 21169)]) (by unfold sq_bas; decide) (by decide +kernel) (by decide +kernel) (by decide) (by decide +kernel)
theorem sn_38 : sq_OK 6 38 2 := sq_make (K := 5) (c := 6) (fl := [(1, 0), (6, 1), (37, 6), (450, 73), (2737, 444), (33294, 5401)]) (by unfold sq_bas; decide) (by decide +kernel) (by decide +kernel) (by decide) (by decide +kernel)
theorem sn_39 : sq_OK 6 39 2 := sq_make (K := 6) (c := 6) (fl := [(1, 0), (6, 1), (25, 4), (306, 49), (1249, 200), (15294, 2449), (62425, 9996)]) (by unfold sq_bas; decide) (by decide +kernel) (by decide +kernel) (by decide) (by decide +kernel)
theorem sn_40 : sq_OK 6 40 2 := sq_make (K := 6) (c := 6) (fl := [(1, 0), (6, 1), (19, 3), (234, 37), (721, 114), (8886, 1405), (27379, 4329)]) (by unfold sq_bas; decide) (by decide +kernel) (by decide +kernel) (by decide) (by decide +kernel)
theorem sn_41 : sq_OK 6 41 3 := sq_make (K := 7) (c := 6) (fl := [(1, 0), (6, 1), (13, 2), (32, 5), (397, 62), (826, 129), (2049, 320), (25414, 3969)]) (by unfold sq_bas; decide) (by decide +kernel) (by decide +kernel) (by decide) (by decide +kernel)
theorem sn_42 : sq_OK 6 42 2 := sq_make (K := 7) (c := 6) (fl := [(1, 0), (6, 1), (13, 2), (162, 25), (337, 52), (4206, 649), (8749, 1350), (109194, 16849)]) (by unfold sq_bas; decide) (by decide +kernel) (by decide +kernel) (by decide) (by decide +kernel)
theorem sn_43 : sq_OK 6 43 10 := sq_make (K := 11) (c := 6) (fl := [(1, 0), (6, 1), (7, 1), (13, 2), (46, 7), (59, 9), (341, 52), (400, 61), (1541, 235), (1941, 296), (3482, 531), (43725, 6668)]) (by unfold sq_bas; decide) (by decide +kernel) (by decide +kernel) (by decide) (by decide +kernel)
theorem sn_44 : sq_OK 6 44 8 := sq_make (K := 13) (c := 6) (fl := [(1, 0), (6, 1), (7, 1), (13, 2), (20, 3), (53, 8), (73, 11), (126, 19), (199, 30), (2514, 379), (2713, 409), (5227, 788), (7940, 1197), (21107, 3182)]) (by unfold sq_bas; decide) (by decide +kernel) (by decide +kernel) (by decide) (by decide +kernel)
theorem sn_45 : sq_OK 6 45 6 := sq_make (K := 11) (c := 6) (fl := [(1, 0), (6, 1), (7, 1), (20, 3), (47, 7), (114, 17), (161, 24), (2046, 305), (2207, 329), (6460, 963), (15127, 2255), (36714, 5473)]) (by unfold sq_bas; decide) (by decide +kernel) (by decide +kernel) (by decide) (by decide +kernel)
theorem sn_46 : sq_OK 6 46 12 := sq_make (K := 12) (c := 6) (fl := [(1, 0), (6, 1), (7, 1), (27, 4), (34, 5), (61, 9), (156, 23), (997, 147), (2150, 317), (3147, 464), (5297, 781), (19038, 2807), (24335, 3588)]) (by unfold sq_bas; decide) (by decide +kernel) (by decide +kernel) (by decide) (by decide +kernel)
theorem sn_47 : sq_OK 6 47 4 := sq_make (K := 9) (c := 6) (fl := [(1, 0), (6, 1), (7, 1), (41, 6), (48, 7), (617, 90), (665, 97), (3942, 575), (4607, 672), (59226, 8639)]) (by unfold sq_bas; decide) (by decide +kernel) (by decide +kernel) (by decide) (by decide +kernel)
theorem sn_48 : sq_OK 6 48 2 := sq_make (K := 9) (c := 6) (fl := [(1, 0), (6, 1), (7, 1), (90, 13), (97, 14), (1254, 181), (1351, 195), (17466, 2521), (18817, 2716), (243270, 35113)]) (by unfold sq_bas; decide) (by decide +kernel) (by decide +kernel) (by decide) (by decide +kernel)
theorem sn_50 : sq_OK 7 50 1 := sq_make (K := 5) (c := 7) (fl := [(1, 0), (7, 1), (99, 14), (1393, 197), (19601, 2772), (275807, 39005)]) (by unfold sq_bas; decide) (by decide +kernel) (by decide +kernel) (by decide) (by decide +kernel)
theorem sn_51 : sq_OK 7 51 2 := sq_make (K := 5) (c := 7) (fl := [(1, 0), (7, 1), (50, 7), (707, 99), (4999, 700), (70693, 9899)]) (by unfold sq_bas; decide) (by decide +kernel) (by decide +kernel) (by decide) (by decide +kernel)
theorem sn_52 : sq_OK 7 52 6 := sq_make (K := 8) (c := 7) (fl := [(1, 0), (7, 1), (29, 4), (36, 5), (101, 14), (137, 19), (649, 90), (9223, 1279), (37541, 5206)]) (by unfold sq_bas; decide) (by decide +kernel) (by decide +kernel) (by decide) (by decide +kernel)
theorem sn_53 : sq_OK 7 53 5 := sq_make (K := 10) (c := 7) (fl := [(1, 0), (7, 1), (22, 3), (29, 4), (51, 7), (182, 25), (2599, 357), (7979, 1096), (10578, 1453), (18557, 2549), (66249, 9100)]) (by unfold sq_bas; decide) (by decide +kernel) (by decide +kernel) (by decide) (by decide +kernel)
theorem sn_54 : sq_OK 7 54 6 := sq_make (K := 10) (c := 7) (fl := [(1, 0), (7, 1), (15, 2), (22, 3), (147, 20), (169, 23), (485, 66), (6959, 947), (14403, 1960), (21362, 2907), (142575, 19402)]) (by unfold sq_bas; decide) (by decide +kernel) (by decide +kernel) (by decide) (by decide +kernel)
theorem sn_55 : sq_OK 7 55 4 := sq_make (K := 9) (c := 7) (fl := [(1, 0), (7, 1), (15, 2), (37, 5), (89, 12), (1283, 173), (2655, 358), (6593, 889), (15841, 2136), (228367, 30793)]) (by unfold sq_bas; decide) (by decide +kernel) (by decide +kernel) (by decide) (by decide +kernel)
theorem sn_56 : sq_OK 7 56 2 := sq_make (K := 7) (c := 7) (fl := [(1, 0), (7, 1), (15, 2), (217, 29), (449, 60), (6503, 869), (13455, 1798), (194873, 26041)]) (by unfold sq_bas; decide) (by decide +kernel) (by decide +kernel) (by decide) (by decide +kernel)
theorem sn_57 : sq_OK 7 57 6 := sq_make (K := 11) (c := 7) (fl := [(1, 0), (7, 1), (8, 1), (15, 2), (68, 9), (83, 11), (151, 20), (2197, 291), (2348, 311), (4545, 602), (20528, 2719), (25073, 3321)]) (by unfold sq_bas; decide) (by decide +kernel) (by decide +kernel) (by decide) (by decide +kernel)
theorem sn_58 : sq_OK 7 58 7 := sq_make (K := 15) (c := 7) (fl := [(1, 0), (7, 1), (8, 1), (15, 2), (23, 3), (38, 5), (61, 8), (99, 13), (1447, 190), (1546, 203), (2993, 393), (4539, 596), (7532, 989), (12071, 1585), (19603, 2574), (286513, 37621)]) (by unfold sq_bas; decide) (by decide +kernel) (by decide +kernel) (by decide) (by decide +kernel)
theorem sn_59 : sq_OK 7 59 6 := sq_make (K := 9) (c := 7) (fl := [(1, 0), (7, 1), (8, 1), (23, 3), (169, 22), (361, 47), (530, 69), (7781, 1013), (8311, 1082), (24403, 3177)]) (by unfold sq_bas; decide) (by decide +kernel) (by decide +kernel) (by decide) (by decide +kernel)
theorem sn_60 : sq_OK 7 60 4 := sq_make (K := 9) (c := 7) (fl := [(1, 0), (7, 1), (8, 1), (23, 3), (31, 4), (457, 59), (488, 63), (1433, 185), (1921, 248), (28327, 3657)]) (by unfold sq_bas; decide) (by decide +kernel) (by decide +kernel) (by decide) (by decide +kernel)
theorem sn_61 : sq_OK 7 61 11 := sq_make (K := 10) (c := 7) (fl := [(1, 0), (7, 1), (8, 1), (39, 5), (125, 16), (164, 21), (453, 58), (1070, 137), (1523, 195), (5639, 722), (24079, 3083)]) (by unfold sq_bas; decide) (by decide +kernel) (by decide +kernel) (by decide) (by decide +kernel)
theorem sn_62 : sq_OK 7 62 4 := sq_make (K := 9) (c := 7) (fl := [(1, 0), (7, 1), (8, 1), (55, 7), (63, 8), (937, 119), (1000, 127), (6937, 881), (7937, 1008), (118055, 14993)]) (by unfold sq_bas; decide) (by decide +kernel) (by decide +kernel) (by decide) (by decide +kernel)
theorem sn_63 : sq_OK 7 63 2 := sq_make (K := 7) (c := 7) (fl := [(1, 0), (7, 1), (8, 1), (119, 15), (127, 16), (1897, 239), (2024, 255), (30233, 3809)]) (by unfold sq_bas; decide) (by decide +kernel) (by decide +kernel) (by decide) (by decide +kernel)
theorem sn_65 : sq_OK 8 65 1 := sq_make (K := 4) (c := 8) (fl := [(1, 0), (8, 1), (129, 16), (2072, 257), (33281, 4128)]) (by unfold sq_bas; decide) (by decide +kernel) (by decide +kernel) (by decide) (by decide +kernel)
theorem sn_66 : sq_OK 8 66 2 := sq_make (K := 5) (c := 8) (fl := [(1, 0), (8, 1), (65, 8), (1048, 129), (8449, 1040), (136232, 16769)]) (by unfold sq_bas; decide) (by decide +kernel) (by decide +kernel) (by decide) (by decide +kernel)
theorem sn_67 : sq_OK 8 67 10 := sq_make (K := 10) (c := 8) (fl := [(1, 0), (8, 1), (41, 5), (90, 11), (131, 16), (221, 27), (1678, 205), (1899, 232), (3577, 437), (9053, 1106), (48842, 5967)]) (by unfold sq_bas; decide) (by decide +kernel) (by decide +kernel) (by decide) (by decide +kernel)
theorem sn_68 : sq_OK 8 68 2 := sq_make (K := 5) (c := 8) (fl := [(1, 0), (8, 1), (33, 4), (536, 65), (2177, 264), (35368, 4289)]) (by unfold sq_bas; decide) (by decide +kernel) (by decide +kernel) (by decide) (by decide +kernel)
theorem sn_69 : sq_OK 8 69 8 := sq_make (K := 9) (c := 8) (fl := [(1, 0), (8, 1), (25, 3), (83, 10), (108, 13), (515, 62), (623, 75), (2384, 287), (7775, 936), (126784, 15263)]) (by unfold sq_bas; decide) (by decide +kernel) (by decide +kernel) (by decide) (by decide +kernel)
theorem sn_70 : sq_OK 8 70 6 := sq_make (K := 10) (c := 8) (fl := [(1, 0), (8, 1), (17, 2), (25, 3), (67, 8), (92, 11), (251, 30), (4108, 491), (8467, 1012), (12575, 1503), (33617, 4018)]) (by unfold sq_bas; decide) (by decide +kernel) (by decide +kernel) (by decide) (by decide +kernel)
theorem sn_71 : sq_OK 8 71 8 := sq_make (K := 9) (c := 8) (fl := [(1, 0), (8, 1), (17, 2), (42, 5), (59, 7), (455, 54), (514, 61), (1483, 176), (3480, 413), (57163, 6784)]) (by unfold sq_bas; decide) (by decide +kernel) (by decide +kernel) (by decide) (by decide +kernel)
theorem sn_72 : sq_OK 8 72 2 := sq_make (K := 7) (c := 8) (fl := [(1, 0), (8, 1), (17, 2), (280, 33), (577, 68), (9512, 1121), (19601, 2310), (323128, 38081)]) (by unfold sq_bas; decide) (by decide +kernel) (by decide +kernel) (by decide) (by decide +kernel)
theorem sn_73 : sq_OK 8 73 7 := sq_make (K := 10) (c := 8) (fl := [(1, 0), (8, 1), (9, 1), (17, 2), (94, 11), (487, 57), (581, 68), (1068, 125), (17669, 2068), (18737, 2193), (36406, 4261)]) (by unfold sq_bas; decide) (by decide +kernel) (by decide +kernel) (by decide) (by decide +kernel)
theorem sn_74 : sq_OK 8 74 5 := sq_make (K := 11) (c := 8) (fl := [(1, 0), (8, 1), (9, 1), (17, 2), (26, 3), (43, 5), (714, 83), (757, 88), (1471, 171), (2228, 259), (3699, 430), (61412, 7139)]) (by unfold sq_bas; decide) (by decide +kernel) (by decide +kernel) (by decide) (by decide +kernel)
theorem sn_75 : sq_OK 8 75 4 := sq_make (K := 11) (c := 8) (fl := [(1, 0), (8, 1), (9, 1), (17, 2), (26, 3), (433, 50), (459, 53), (892, 103), (1351, 156), (22508, 2599), (23859, 2755), (46367, 5354)]) (by unfold sq_bas; decide) (by decide +kernel) (by decide +kernel) (by decide) (by decide +kernel)
theorem sn_76 : sq_OK 8 76 12 := sq_make (K := 11) (c := 8) (fl := [(1, 0), (8, 1), (9, 1), (26, 3), (35, 4), (61, 7), (340, 39), (1421, 163), (7445, 854), (8866, 1017), (16311, 1871), (41488, 4759)]) (by unfold sq_bas; decide) (by decide +kernel) (by decide +kernel) (by decide) (by decide +kernel)
theorem sn_77 : sq_OK 8 77 6 := sq_make (K := 10) (c := 8) (fl := [(1, 0), (8, 1), (9, 1), (35, 4), (79, 9), (272, 31), (351, 40), (5888, 671), (6239, 711), (24605, 2804), (55449, 6319)]) (by unfold sq_bas; decide) (by decide +kernel) (by decide +kernel) (by decide) (by decide +kernel)
theorem sn_78 : sq_OK 8 78 4 := sq_make (K := 9) (c := 8) (fl := [(1, 0), (8, 1), (9, 1), (44, 5), (53, 6), (892, 101), (945, 107), (4672, 529), (5617, 636), (94544, 10705)]) (by unfold sq_bas; decide) (by decide +kernel) (by decide +kernel) (by decide) (by decide +kernel)
theorem sn_79 : sq_OK 8 79 4 := sq_make (K := 9) (c := 8) (fl := [(1, 0), (8, 1), (9, 1), (71, 8), (80, 9), (1351, 152), (1431, 161), (11368, 1279), (12799, 1440), (216152, 24319)]) (by unfold sq_bas; decide) (by decide +kernel) (by decide +kernel) (by decide) (by decide +kernel)
theorem sn_80 : sq_OK 8 80 2 := sq_make (K := 7) (c := 8) (fl := [(1, 0), (8, 1), (9, 1), (152, 17), (161, 18), (2728, 305), (2889, 323), (48952, 5473)]) (by unfold sq_bas; decide) (by decide +kernel) (by decide +kernel) (by decide) (by decide +kernel)
theorem sn_82 : sq_OK 9 82 1 := sq_make (K := 4) (c := 9) (fl := [(1, 0), (9, 1), (163, 18), (2943, 325), (53137, 5868)]) (by unfold sq_bas; decide) (by decide +kernel) (by decide +kernel) (by decide) (by decide +kernel)
theorem sn_83 : sq_OK 9 83 2 := sq_make (K := 5) (c := 9) (fl := [(1, 0), (9, 1), (82, 9), (1485, 163), (13447, 1476), (243531, 26731)]) (by unfold sq_bas; decide) (by decide +kernel) (by decide +kernel) (by decide) (by decide +kernel)
theorem sn_84 : sq_OK 9 84 2 := sq_make (K := 5) (c := 9) (fl := [(1, 0), (9, 1), (55, 6), (999, 109), (6049, 660), (109881, 11989)]) (by unfold sq_bas; decide) (by decide +kernel) (by decide +kernel) (by decide) (by decide +kernel)
theorem sn_85 : sq_OK 9 85 5 := sq_make (K := 7) (c := 9) (fl := [(1, 0), (9, 1), (37, 4), (46, 5), (83, 9), (378, 41), (6887, 747), (27926, 3029)]) (by unfold sq_bas; decide) (by decide +kernel) (by decide +kernel) (by decide) (by decide +kernel)
theorem sn_86 : sq_OK 9 86 10 := sq_make (K := 11) (c := 9) (fl := [(1, 0), (9, 1), (28, 3), (37, 4), (65, 7), (102, 11), (881, 95), (983, 106), (1864, 201), (2847, 307), (10405, 1122), (190137, 20503)]) (by unfold sq_bas; decide) (by decide +kernel) (by decide +kernel) (by decide) (by decide +kernel)
theorem sn_87 : sq_OK 9 87 2 := sq_make (K := 5) (c := 9) (fl := [(1, 0), (9, 1), (28, 3), (513, 55), (1567, 168), (28719, 3079)]) (by unfold sq_bas; decide) (by decide +kernel) (by decide +kernel) (by decide) (by decide +kernel)
theorem sn_88 : sq_OK 9 88 6 := sq_make (K := 11) (c := 9) (fl := [(1, 0), (9, 1), (19, 2), (28, 3), (47, 5), (75, 8), (197, 21), (3621, 386), (7439, 793), (11060, 1179), (18499, 1972), (29559, 3151)]) (by unfold sq_bas; decide) (by decide +kernel) (by decide +kernel) (by decide) (by decide +kernel)
theorem sn_89 : sq_OK 9 89 5 := sq_make (K := 8) (c := 9) (fl := [(1, 0), (9, 1), (19, 2), (66, 7), (217, 23), (500, 53), (9217, 977), (18934, 2007), (66019, 6998)]) (by unfold sq_bas; decide) (by decide +kernel) (by decide +kernel) (by decide) (by decide +kernel)
theorem sn_90 : sq_OK 9 90 2 := sq_make (K := 7) (c := 9) (fl := [(1, 0), (9, 1), (19, 2), (351, 37), (721, 76), (13329, 1405), (27379, 2886), (506151, 53353)]) (by unfold sq_bas; decide) (by decide +kernel) (by decide +kernel) (by decide) (by decide +kernel)
theorem sn_91 : sq_OK 9 91 8 := sq_make (K := 9) (c := 9) (fl := [(1, 0), (9, 1), (10, 1), (19, 2), (105, 11), (124, 13), (725, 76), (849, 89), (1574, 165), (29181, 3059)]) (by unfold sq_bas; decide) (by decide +kernel) (by decide +kernel) (by decide) (by decide +kernel)
theorem sn_92 : sq_OK 9 92 8 := sq_make (K := 11) (c := 9) (fl := [(1, 0), (9, 1), (10, 1), (19, 2), (48, 5), (211, 22), (470, 49), (681, 71), (1151, 120), (21399, 2231), (22550, 2351), (43949, 4582)]) (by unfold sq_bas; decide) (by decide +kernel) (by decide +kernel) (by decide) (by decide +kernel)
theorem sn_93 : sq_OK 9 93 10 := sq_make (K := 11) (c := 9) (fl := [(1, 0), (9, 1), (10, 1), (19, 2), (29, 3), (135, 14), (839, 87), (3491, 362), (4330, 449), (7821, 811), (12151, 1260), (226539, 23491)]) (by unfold sq_bas; decide) (by decide +kernel) (by decide +kernel) (by decide) (by decide +kernel)
theorem sn_94 : sq_OK 9 94 16 := sq_make (K := 11) (c := 9) (fl := [(1, 0), (9, 1), (10, 1), (29, 3), (97, 10), (126, 13), (223, 23), (1241, 128), (1464, 151), (12953, 1336), (14417, 1487), (85038, 8771)]) (by unfold sq_bas; decide) (by decide +kernel) (by decide +kernel) (by decide) (by decide +kernel)
theorem sn_95 : sq_OK 9 95 4 := sq_make (K := 9) (c := 9) (fl := [(1, 0), (9, 1), (10, 1), (29, 3), (39, 4), (731, 75), (770, 79), (2271, 233), (3041, 312), (57009, 5849)]) (by unfold sq_bas; decide) (by decide +kernel) (by decide +kernel) (by decide) (by decide +kernel)
theorem sn_96 : sq_OK 9 96 4 := sq_make (K := 9) (c := 9) (fl := [(1, 0), (9, 1), (10, 1), (39, 4), (49, 5), (921, 94), (970, 99), (3831, 391), (4801, 490), (90249, 9211)]) (by unfold sq_bas; decide) (by decide +kernel) (by decide +kernel) (by decide) (by decide +kernel)
theorem sn_97 : sq_OK 9 97 11 := sq_make (K := 12) (c := 9) (fl := [(1, 0), (9, 1), (10, 1), (59, 6), (69, 7), (128, 13), (197, 20), (325, 33), (522, 53), (847, 86), (4757, 483), (5604, 569), (105629, 10725)]) (by unfold sq_bas; decide) (by decide +kernel) (by decide +kernel) (by decide) (by decide +kernel)
theorem sn_98 : sq_OK 9 98 4 := sq_make (K := 9) (c := 9) (fl := [(1, 0), (9, 1), (10, 1), (89, 9), (99, 10), (1871, 189), (1970, 199), (17631, 1781), (19601, 1980), (370449, 37421)]) (by unfold sq_bas; decide) (by decide +kernel) (by decide +kernel) (by decide) (by decide +kernel)
theorem sn_99 : sq_OK 9 99 2 := sq_make (K := 7) (c := 9) (fl := [(1, 0), (9, 1), (10, 1), (189, 19), (199, 20), (3771, 379), (3970, 399), (75231, 7561)]) (by unfold sq_bas; decide) (by decide +kernel) (by decide +kernel) (by decide) (by decide +kernel)
theorem sn_101 : sq_OK 10 101 1 := sq_make (K := 4) (c := 9) (fl := [(1, 0), (10, 1), (201, 20), (4030, 401), (80801, 8040)]) (by unfold sq_bas; decide) (by decide +kernel) (by decide +kernel) (by decide) (by decide +kernel)
theorem sn_102 : sq_OK 10 102 2 := sq_make (K := 5) (c := 9) (fl := [(1, 0), (10, 1), (101, 10), (2030, 201), (20401, 2020), (410050, 40601)]) (by unfold sq_bas; decide) (by decide +kernel) (by decide +kernel) (by decide) (by decide +kernel)
theorem sn_103 : sq_OK 10 103 12 := sq_make (K := 11) (c := 9) (fl := [(1, 0), (10, 1), (61, 6), (71, 7), (203, 20), (274, 27), (477, 47), (4567, 450), (5044, 497), (9611, 947), (24266, 2391), (33877, 3338)]) (by unfold sq_bas; decide) (by decide +kernel) (by decide +kernel) (by decide) (by decide +kernel)
theorem sn_104 : sq_OK 10 104 2 := sq_make (K := 5) (c := 9) (fl := [(1, 0), (10, 1), (51, 5), (1030, 101), (5201, 510), (105050, 10301)]) (by unfold sq_bas; decide) (by decide +kernel) (by decide +kernel) (by decide) (by decide +kernel)
theorem sn_105 : sq_OK 10 105 2 := sq_make (K := 5) (c := 9) (fl := [(1, 0), (10, 1), (41, 4), (830, 81), (3361, 328), (68050, 6641)]) (by unfold sq_bas; decide) (by decide +kernel) (by decide +kernel) (by decide) (by decide +kernel)
theorem sn_106 : sq_OK 10 106 9 := sq_make (K := 10) (c := 9) (fl := [(1, 0), (10, 1), (31, 3), (72, 7), (103, 10), (175, 17), (278, 27), (453, 44), (1184, 115), (4005, 389), (81284, 7895)]) (by unfold sq_bas; decide) (by decide +kernel) (by decide +kernel) (by decide) (by decide +kernel)
theorem sn_107 : sq_OK 10 107 6 := sq_make (K := 8) (c := 9) (fl := [(1, 0), (10, 1), (21, 2), (31, 3), (300, 29), (331, 32), (962, 93), (19571, 1892), (40104, 3877)]) (by unfold sq_bas; decide) (by decide +kernel) (by decide +kernel) (by decide) (by decide +kernel)
theorem sn_108 : sq_OK 10 108 8 := sq_make (K := 10) (c := 9) (fl := [(1, 0), (10, 1), (21, 2), (31, 3), (52, 5), (239, 23), (291, 28), (530, 51), (1351, 130), (27550, 2651), (56451, 5432)]) (by unfold sq_bas; decide) (by decide +kernel) (by decide +kernel) (by decide) (by decide +kernel)
theorem sn_109 : sq_OK 10 109 15 := sq_make (K := 9) (c := 9) (fl := [(1, 0), (10, 1), (21, 2), (73, 7), (94, 9), (261, 25), (1138, 109), (1399, 134), (9532, 913), (58591, 5612)]) (by unfold sq_bas; decide) (by decide +kernel) (by decide +kernel) (by decide) (by decide +kernel)
theorem sn_110 : sq_OK 10 110 2 := sq_make (K := 6) (c := 9) (fl := [(1, 0), (10, 1), (21, 2), (430, 41), (881, 84), (18050, 1721), (36981, 3526)]) (by unfold sq_bas; decide) (by decide +kernel) (by decide +kernel) (by decide) (by decide +kernel)
theorem sn_111 : sq_OK 10 111 6 := sq_make (K := 10) (c := 9) (fl := [(1, 0), (10, 1), (11, 1), (21, 2), (137, 13), (158, 15), (295, 28), (6058, 575), (6353, 603), (12411, 1178), (80819, 7671)]) (by unfold sq_bas; decide) (by decide +kernel) (by decide +kernel) (by decide) (by decide +kernel)
theorem sn_112 : sq_OK 10 112 6 := sq_make (K := 12) (c := 9) (fl := [(1, 0), (10, 1), (11, 1), (21, 2), (53, 5), (74, 7), (127, 12), (2614, 247), (2741, 259), (5355, 506), (13451, 1271), (18806, 1777), (32257, 3048)]) (by unfold sq_bas; decide) (by decide +kernel) (by decide +kernel) (by decide) (by decide +kernel)
theorem sn_113 : sq_OK 10 113 9 := sq_make (K := 12) (c := 9) (fl := [(1, 0), (10, 1), (11, 1), (21, 2), (32, 3), (85, 8), (202, 19), (287, 27), (489, 46), (776, 73), (16009, 1506), (16785, 1579), (32794, 3085)]) (by unfold sq_bas; decide) (by decide +kernel) (by decide +kernel) (by decide) (by decide +kernel)
theorem sn_114 : sq_OK 10 114 6 := sq_make (K := 9) (c := 9) (fl := [(1, 0), (10, 1), (11, 1), (32, 3), (331, 31), (694, 65), (1025, 96), (21194, 1985), (22219, 2081), (65632, 6147)]) (by unfold sq_bas; decide) (by decide +kernel) (by decide +kernel) (by decide) (by decide +kernel)
theorem sn_115 : sq_OK 10 115 10 := sq_make (K := 13) (c := 9) (fl := [(1, 0), (10, 1), (11, 1), (32, 3), (43, 4), (75, 7), (118, 11), (193, 18), (311, 29), (815, 76), (1126, 105), (23335, 2176), (24461, 2281), (72257, 6738)]) (by unfold sq_bas; decide) (by decide +kernel) (by decide +kernel) (by decide) (by decide +kernel)
theorem sn_116 : sq_OK 10 116 10 := sq_make (K := 11) (c := 9) (fl := [(1, 0), (10, 1), (11, 1), (43, 4), (97, 9), (140, 13), (657, 61), (797, 74), (2251, 209), (7550, 701), (9801, 910), (203570, 18901)]) (by unfold sq_bas; decide) (by decide +kernel) (by decide +kernel) (by decide) (by decide +kernel)
theorem sn_117 : sq_OK 10 117 6 := sq_make (K := 9) (c := 9) (fl := [(1, 0), (10, 1), (11, 1), (54, 5), (119, 11), (530, 49), (649, 60), (13510, 1249), (14159, 1309), (70146, 6485)]) (by unfold sq_bas; decide) (by decide +kernel) (by decide +kernel) (by decide) (by decide +kernel)
theorem sn_118 : sq_OK 10 118 10 := sq_make (K := 8) (c := 9) (fl := [(1, 0), (10, 1), (11, 1), (76, 7), (239, 22), (554, 51), (5779, 532), (12112, 1115), (42115, 3877)]) (by unfold sq_bas; decide) (by decide +kernel) (by decide +kernel) (by decide) (by decide +kernel)
theorem sn_119 : sq_OK 10 119 4 := sq_make (K := 9) (c := 9) (fl := [(1, 0), (10, 1), (11, 1), (109, 10), (120, 11), (2509, 230), (2629, 241), (26170, 2399), (28799, 2640), (602150, 55199)]) (by unfold sq_bas; decide) (by decide +kernel) (by decide +kernel) (by decide) (by decide +kernel)
theorem sn_120 : sq_OK 10 120 2 := sq_make (K := 7) (c := 9) (fl := [(1, 0), (10, 1), (11, 1), (230, 21), (241, 22), (5050, 461), (5291, 483), (110870, 10121)]) (by unfold sq_bas; decide) (by decide +kernel) (by decide +kernel) (by decide) (by decide +kernel)
end
section
def sq_tab : List (Nat × Nat × Nat) := [(2, 1, 1), (3, 1, 2), (5, 2, 1), (6, 2, 2), (7, 2, 4), (8, 2, 2), (10, 3, 1), (11, 3, 2), (12, 3, 2), (13, 3, 5), (14, 3, 4), (15, 3, 2), (17, 4, 1), (18, 4, 2), (19, 4, 6), (20, 4, 2), (21, 4, 6), (22, 4, 6), (23, 4, 4), (24, 4, 2), (26, 5, 1), (27, 5, 2), (28, 5, 4), (29, 5, 5), (30, 5, 2), (31, 5, 8), (32, 5, 4), (33, 5, 4), (34, 5, 4), (35, 5, 2), (37, 6, 1), (38, 6, 2), (39, 6, 2), (40, 6, 2), (41, 6, 3), (42, 6, 2), (43, 6, 10), (44, 6, 8), (45, 6, 6), (46, 6, 12), (47, 6, 4), (48, 6, 2), (50, 7, 1), (51, 7, 2), (52, 7, 6), (53, 7, 5), (54, 7, 6), (55, 7, 4), (56, 7, 2), (57, 7, 6), (58, 7, 7), (59, 7, 6), (60, 7, 4), (61, 7, 11), (62, 7, 4), (63, 7, 2), (65, 8, 1), (66, 8, 2), (67, 8, 10), (68, 8, 2), (69, 8, 8), (70, 8, 6), (71, 8, 8), (72, 8, 2), (73, 8, 7), (74, 8, 5), (75, 8, 4), (76, 8, 12), (77, 8, 6), (78, 8, 4), (79, 8, 4), (80, 8, 2), (82, 9, 1), (83, 9, 2), (84, 9, 2), (85, 9, 5), (86, 9, 10), (87, 9, 2), (88, 9, 6), (89, 9, 5), (90, 9, 2), (91, 9, 8), (92, 9, 8), (93, 9, 10), (94, 9, 16), (95, 9, 4), (96, 9, 4), (97, 9, 11), (98, 9, 4), (99, 9, 2), (101, 10, 1), (102, 10, 2), (103, 10, 12), (104, 10, 2), (105, 10, 2), (106, 10, 9), (107, 10, 6), (108, 10, 8), (109, 10, 15), (110, 10, 2), (111, 10, 6), (112, 10, 6), (113, 10, 9), (114, 10, 6), (115, 10, 10), (116, 10, 10), (117, 10, 6), (118, 10, 10), (119, 10, 4), (120, 10, 2)]
theorem sq_tab_ok : ∀ q ∈ sq_tab, sq_OK q.2.1 q.1 q.2.2 := List.forall_mem_cons.mpr ⟨sn_2, List.forall_mem_cons.mpr ⟨sn_3, List.forall_mem_cons.mpr ⟨sn_5, List.forall_mem_cons.mpr ⟨sn_6, List.forall_mem_cons.mpr ⟨sn_7, List.forall_mem_cons.mpr ⟨sn_8, List.forall_mem_cons.mpr ⟨sn_10, List.forall_mem_cons.mpr ⟨sn_11, List.forall_mem_cons.mpr ⟨sn_12, List.forall_mem_cons.mpr ⟨sn_13, List.forall_mem_cons.mpr ⟨sn_14, List.forall_mem_cons.mpr ⟨sn_15, List.forall_mem_cons.mpr ⟨sn_17, List.forall_mem_cons.mpr ⟨sn_18, List.forall_mem_cons.mpr ⟨sn_19, List.forall_mem_cons.mpr ⟨sn_20, List.forall_mem_cons.mpr ⟨sn_21, List.forall_mem_cons.mpr ⟨sn_22, List.forall_mem_cons.mpr ⟨sn_23, List.forall_mem_cons.mpr ⟨sn_24, List.forall_mem_cons.mpr ⟨sn_26, List.forall_mem_cons.mpr ⟨sn_27, List.forall_mem_cons.mpr ⟨sn_28, List.forall_mem_cons.mpr ⟨sn_29, List.forall_mem_cons.mpr ⟨sn_30, List.forall_mem_cons.mpr ⟨sn_31, List.forall_mem_cons.mpr ⟨sn_32, List.forall_mem_cons.mpr ⟨sn_33, List.forall_mem_cons.mpr ⟨sn_34, List.forall_mem_cons.mpr ⟨sn_35, List.forall_mem_cons.mpr ⟨sn_37, List.forall_mem_cons.mpr ⟨sn_38, List.forall_mem_cons.mpr ⟨sn_39, List.forall_mem_cons.mpr ⟨sn_40, List.forall_mem_cons.mpr ⟨sn_41, List.forall_mem_cons.mpr ⟨sn_42, List.forall_mem_cons.mpr ⟨sn_43, List.forall_mem_cons.mpr ⟨sn_44, List.forall_mem_cons.mpr ⟨sn_45, List.forall_mem_cons.mpr ⟨sn_46, List.forall_mem_cons.mpr ⟨sn_47, List.forall_mem_cons.mpr ⟨sn_48, List.forall_mem_cons.mpr ⟨sn_50, List.forall_mem_cons.mpr ⟨sn_51, List.forall_mem_cons.mpr ⟨sn_52, List.forall_mem_cons.mpr ⟨sn_53, List.forall_mem_cons.mpr ⟨sn_54, List.forall_mem_cons.mpr ⟨sn_55, List.forall_mem_cons.mpr ⟨sn_56, List.forall_mem_cons.mpr ⟨sn_57, List.forall_mem_cons.mpr ⟨sn_58, List.forall_mem_cons.mpr ⟨sn_59, List.forall_mem_cons.mpr ⟨sn_60, List.forall_mem_cons.mpr ⟨sn_61, List.forall_mem_cons.mpr ⟨sn_62, List.forall_mem_cons.mpr ⟨sn_63, List.forall_mem_cons.mpr ⟨sn_65, List.forall_mem_cons.mpr ⟨sn_66, List.forall_mem_cons.mpr ⟨sn_67, List.forall_mem_cons.mpr ⟨sn_68, List.forall_mem_cons.mpr ⟨sn_69, List.forall_mem_cons.mpr ⟨sn_70, List.forall_mem_cons.mpr ⟨sn_71, List.forall_mem_cons.mpr ⟨sn_72, List.forall_mem_cons.mpr ⟨sn_73, List.forall_mem_cons.mpr ⟨sn_74, List.forall_mem_cons.mpr ⟨sn_75, List.forall_mem_cons.mpr ⟨sn_76, List.forall_mem_cons.mpr ⟨sn_77, List.forall_mem_cons.mpr ⟨sn_78, List.forall_mem_cons.mpr ⟨sn_79, List.forall_mem_cons.mpr ⟨sn_80, List.forall_mem_cons.mpr ⟨sn_82, List.forall_mem_cons.mpr ⟨sn_83, List.forall_mem_cons.mpr ⟨sn_84, List.forall_mem_cons.mpr ⟨sn_85, List.forall_mem_cons.mpr ⟨sn_86, List.forall_mem_cons.mpr ⟨sn_87, List.forall_mem_cons.mpr ⟨sn_88, List.forall_mem_cons.mpr ⟨sn_89, List.forall_mem_cons.mpr ⟨sn_90, List.forall_mem_cons.mpr ⟨sn_91, List.forall_mem_cons.mpr ⟨sn_92, List.forall_mem_cons.mpr ⟨sn_93, List.forall_mem_cons.mpr ⟨sn_94, List.forall_mem_cons.mpr ⟨sn_95, List.forall_mem_cons.mpr ⟨sn_96, List.forall_mem_cons.mpr ⟨sn_97, List.forall_mem_cons.mpr ⟨sn_98, List.forall_mem_cons.mpr ⟨sn_99, List.forall_mem_cons.mpr ⟨sn_101, List.forall_mem_cons.mpr ⟨sn_102, List.forall_mem_cons.mpr ⟨sn_103, List.forall_mem_cons.mpr ⟨sn_104, List.forall_mem_cons.mpr ⟨sn_105, List.forall_mem_cons.mpr ⟨sn_106, List.forall_mem_cons.mpr ⟨sn_107, List.forall_mem_cons.mpr ⟨sn_108, List.forall_mem_cons.mpr ⟨sn_109, List.forall_mem_cons.mpr ⟨sn_110, List.forall_mem_cons.mpr ⟨sn_111, List.forall_mem_cons.mpr ⟨sn_112, List.forall_mem_cons.mpr ⟨sn_113, List.forall_mem_cons.mpr ⟨sn_114, List.forall_mem_cons.mpr ⟨sn_115, List.forall_mem_cons.mpr ⟨sn_116, List.forall_mem_cons.mpr ⟨sn_117, List.forall_mem_cons.mpr ⟨sn_118, List.forall_mem_cons.mpr ⟨sn_119, List.forall_mem_cons.mpr ⟨sn_120, fun _ h => absurd h List.not_mem_nil⟩⟩⟩⟩⟩⟩⟩⟩⟩⟩⟩⟩⟩⟩⟩⟩⟩⟩⟩⟩⟩⟩⟩⟩⟩⟩⟩⟩⟩⟩⟩⟩⟩⟩⟩⟩⟩⟩⟩⟩⟩⟩⟩⟩⟩⟩⟩⟩⟩⟩⟩⟩⟩⟩⟩⟩⟩⟩⟩⟩⟩⟩⟩⟩⟩⟩⟩⟩⟩⟩⟩⟩⟩⟩⟩⟩⟩⟩⟩⟩⟩⟩⟩⟩⟩⟩⟩⟩⟩⟩⟩⟩⟩⟩⟩⟩⟩⟩⟩⟩⟩⟩⟩⟩⟩⟩⟩⟩⟩⟩
theorem sq_tab_all : (List.range 121).all (fun n => Nat.blt n 2 || ((List.range 11).any (fun q => Nat.beq (q * q) n) || sq_tab.any (fun e => Nat.beq e.1 n))) = true := by decide +kernel
theorem sq_all (n : Nat) (h1 : 2 ≤ n) (h2 : n ≤ 120) (h3 : ∀ q, q * q ≠ n) : ∃ r P, sq_OK r n P := by
  have h := List.all_eq_true.mp sq_tab_all n (List.mem_range.mpr (by omega))
  simp only [Bool.or_eq_true, List.any_eq_true, Nat.blt_eq] at h
  rcases h with h | ⟨q, -, h⟩ | ⟨e, he, h⟩
  · omega
  · exact absurd (Nat.eq_of_beq_eq_true h) (h3 q)
  · have h4 := sq_tab_ok e he
    rw [Nat.eq_of_beq_eq_true h] at h4
    exact ⟨_, _, h4⟩
end
section
/-! the pure side: solutions, sorted lists, counts; what each public method answers -/
def sp_ask (n : Nat) (z : Int) : Prop := -9 ≤ z ∧ z ≤ 9 ∧ z ≠ 0 ∧ z * z < (n : Int)
def sp_sol (n : Nat) (z : Int) (y : Nat) : Prop := ∃ Z : Nat, ((Z * Z : Nat) : Int) = ((n * y * y : Nat) : Int) + z
/-- the norm of a fraction -/
def sp_w (r n i : Nat) : Int := (((sq_f r n i).1.1 * (sq_f r n i).1.1 : Nat) : Int) - ((n * (sq_f r n i).1.2 * (sq_f r n i).1.2 : Nat) : Int)
theorem sp_abs {r n P c : Nat} {z : Int} (hb : sq_bas r n P) (hc : r ≤ c ∨ 9 ≤ c) (hz : sp_ask n z) : z ≤ (c : Int) ∧ -(c : Int) ≤ z := by
  obtain ⟨h1, h2, -, h3⟩ := hz
  obtain ⟨-, -, -, h4, -⟩ := hb
  obtain ⟨a, ha⟩ : ∃ a : Nat, a = z.natAbs := ⟨_, rfl⟩
  have h5 : a * a < n := by
    have h6 : ((a * a : Nat) : Int) = z * z := by
      rw [ha]
      exact Int.natAbs_mul_self
    omega
  have h7 : a ≤ r := by
    rcases Nat.lt_or_ge r a with q | q
    · have := Nat.mul_le_mul (show r + 1 ≤ a from q) (show r + 1 ≤ a from q)
      omega
    · exact q
  omega
theorem sp_hit {r n P K c : Nat} (hA : sq_A r n P) (hC : sq_C r n K c) {z : Int} (hz : sp_ask n z) {y Z : Nat} (h0 : 0 < y) (hy : y ≤ 3000) (hs : ((Z * Z : Nat) : Int) = ((n * y * y : Nat) : Int) + z) : sq_in r n K Z y := by
  obtain ⟨X, h1, h2, h3, h4, h5, h6⟩ := hC.2 y h0 hy
  obtain ⟨h7, h8⟩ := sp_abs hA.1 hC.1 hz
  have hz0 := hz.2.2.1
  rw [show n * y * y = n * (y * y) from Nat.mul_assoc n y y] at hs
  generalize n * (y * y) = v at hs h1 h2 h4 h5 h6
  rcases Nat.lt_trichotomy Z X with q | q | q
  · exfalso
    have h9 : Z * Z ≤ (X - 1) * (X - 1) := Nat.mul_le_mul (by omega) (by omega)
    generalize Z * Z = a at hs h9
    generalize (X - 1) * (X - 1) = b at h4 h9
    omega
  · subst q
    rcases h5 with h | h
    · exfalso
      generalize Z * Z = a at hs h h1
      omega
    · exact h
  · rcases Nat.lt_or_ge (X + 1) Z with q2 | q2
    · exfalso
      have h9 : (X + 2) * (X + 2) ≤ Z * Z := Nat.mul_le_mul q2 q2
      have h10 : (X + 2) * (X + 2) = (X + 1) * (X + 1) + (2 * X + 3) := by grind
      generalize Z * Z = a at hs h9
      generalize (X + 1) * (X + 1) = b at h2 h10
      generalize (X + 2) * (X + 2) = d at h9 h10
      omega
    · have h11 : Z = X + 1 := by omega
      subst h11
      rcases h6 with h | h
      · exfalso
        generalize (X + 1) * (X + 1) = a at hs h h2
        omega
      · exact h
theorem sp_complete {r n P K c : Nat} (hA : sq_A r n P) (hC : sq_C r n K c) {z : Int} (hz : sp_ask n z) {y : Nat} (hy : y ≤ 3000) (hs : sp_sol n z y) : ∃ f i, 0 < f ∧ f ≤ 3 ∧ i ≤ K ∧ (sq_f r n i).1.2 * f = y ∧ ((f * f : Nat) : Int) * sp_w r n i = z := by
  obtain ⟨Z, hZ⟩ := hs
  have hz0 := hz.2.2.1
  have hin : sq_in r n K Z y := by
    rcases Nat.eq_zero_or_pos y with q | q
    · subst q
      exact ⟨Z, 0, Nat.zero_le _, Nat.one_mul Z, Nat.zero_mul Z⟩
    · exact sp_hit hA hC hz q hy hZ
  obtain ⟨g, i, hi, e1, e2⟩ := hin
  have hw : ((g * g : Nat) : Int) * sp_w r n i = z := by
    unfold sp_w
    rw [← e1, ← e2] at hZ
    generalize (sq_f r n i).1.1 = X at hZ ⊢
    generalize (sq_f r n i).1.2 = Y at hZ ⊢
    push_cast at hZ ⊢
    grind
  have h1 := hz.1
  have h2 := hz.2.1
  refine ⟨g, i, ?_, ?_, hi, e2, hw⟩
  · rcases Nat.eq_zero_or_pos g with q | q
    · subst q
      exfalso
      apply hz0
      rw [← hw]
      simp
    · exact q
  · rcases Nat.lt_or_ge 3 g with q | q
    · exfalso
      have h3 : 4 * 4 ≤ g * g := Nat.mul_le_mul q q
      generalize g * g = G at hw h3
      generalize sp_w r n i = w at hw
      rcases Int.lt_trichotomy w 0 with h | h | h
      · have h4 : (G : Int) * w ≤ (G : Int) * (-1) := Int.mul_le_mul_of_nonneg_left (by omega) (by omega)
        omega
      · subst h
        apply hz0
        rw [← hw, Int.mul_zero]
      · have h4 : (G : Int) * 1 ≤ (G : Int) * w := Int.mul_le_mul_of_nonneg_left (by omega) (by omega)
        omega
    · exact q
/-- what the fractions give for the divisor f and the norm w -/
def sp_F (r n K : Nat) (w : Int) (f y : Nat) : Prop := ∃ i, i ≤ K ∧ (sq_f r n i).1.2 * f ≤ 3000 ∧ sp_w r n i = w ∧ y = (sq_f r n i).1.2 * f
/-- .. for all divisors below f0 -/
def sp_G (r n K : Nat) (z : Int) (f0 y : Nat) : Prop := ∃ f w, 0 < f ∧ f < f0 ∧ ((f * f : Nat) : Int) * w = z ∧ sp_F r n K w f y
theorem sp_G_all {r n P K c : Nat} (hA : sq_A r n P) (hC : sq_C r n K c) {z : Int} (hz : sp_ask n z) (y : Nat) : sp_G r n K z 4 y ↔ (y ≤ 3000 ∧ sp_sol n z y) := by
  constructor
  · rintro ⟨f, w, -, -, hw, i, -, h1, rfl, rfl⟩
    refine ⟨h1, (sq_f r n i).1.1 * f, ?_⟩
    rw [← hw]
    unfold sp_w
    generalize (sq_f r n i).1.1 = X
    generalize (sq_f r n i).1.2 = Y
    push_cast
    grind
  · rintro ⟨h1, h2⟩
    obtain ⟨f, i, h3, h4, h5, h6, h7⟩ := sp_complete hA hC hz h1 h2
    exact ⟨f, sp_w r n i, h3, by omega, h7, i, h5, by omega, rfl, h6.symm⟩
/-- a sorted list of numbers up to 3000 in an array: c of them, just those with S -/
def sp_L (c : Nat) (a : Nat → Int32) (S : Nat → Prop) : Prop := ∃ g : Nat → Nat, (∀ j, j < c → a j = nI (g j) ∧ g j ≤ 3000) ∧ (∀ i j, i < j → j < c → g i < g j) ∧ (∀ z, S z ↔ ∃ j, j < c ∧ g j = z)
theorem sp_L_iff {c : Nat} {a : Nat → Int32} {S S' : Nat → Prop} (h : ∀ z, S z ↔ S' z) (hL : sp_L c a S) : sp_L c a S' := by
  obtain ⟨g, h1, h2, h3⟩ := hL
  exact ⟨g, h1, h2, fun z => (h z).symm.trans (h3 z)⟩
theorem sp_L_0 (a : Nat → Int32) : sp_L 0 a (fun _ => False) := ⟨fun _ => 0, fun j hj => absurd hj (Nat.not_lt_zero j), fun i j _ hj => absurd hj (Nat.not_lt_zero j), fun z => ⟨fun h => h.elim, fun ⟨j, hj, _⟩ => absurd hj (Nat.not_lt_zero j)⟩⟩
theorem sp_L_put {c p y : Nat} {a a' : Nat → Int32} {S : Nat → Prop} {g : Nat → Nat} (h1 : ∀ j, j < c → a j = nI (g j) ∧ g j ≤ 3000) (h2 : ∀ i j, i < j → j < c → g i < g j) (h3 : ∀ z, S z ↔ ∃ j, j < c ∧ g j = z) (hy : y ≤ 3000) (hp : p ≤ c) (hlo : ∀ j, j < p → g j < y) (hhi : ∀ j, p ≤ j → j < c → y < g j) (e1 : ∀ j, j < p → a' j = a j) (e2 : a' p = nI y) (e3 : ∀ j, p ≤ j → j < c → a' (j + 1) = a j) : sp_L (c + 1) a' (fun z => S z ∨ z = y) := by
  refine ⟨fun j => if j < p then g j else if j = p then y else g (j - 1), ?_, ?_, ?_⟩
  · intro j hj
    dsimp only
    by_cases q1 : j < p
    · rw [if_pos q1, e1 j q1]
      exact h1 j (by omega)
    · by_cases q2 : j = p
      · rw [if_neg q1, if_pos q2, q2, e2]
        exact ⟨rfl, hy⟩
      · rw [if_neg q1, if_neg q2]
        obtain ⟨k, rfl⟩ : ∃ k, j = k + 1 := ⟨j - 1, by omega⟩
        rw [e3 k (by omega) (by omega), Nat.add_sub_cancel]
        exact h1 k (by omega)
  · intro i j hij hj
    dsimp only
    by_cases q1 : j < p
    · rw [if_pos q1, if_pos (show i < p by omega)]
      exact h2 i j hij (by omega)
    · rw [if_neg q1]
      by_cases q2 : j = p
      · rw [if_pos q2, if_pos (show i < p by omega)]
        exact hlo i (by omega)
      · rw [if_neg q2]
        by_cases q3 : i < p
        · rw [if_pos q3]
          have := hlo i q3
          have := hhi (j - 1) (by omega) (by omega)
          omega
        · rw [if_neg q3]
          by_cases q4 : i = p
          · rw [if_pos q4]
            exact hhi (j - 1) (by omega) (by omega)
          · rw [if_neg q4]
            exact h2 (i - 1) (j - 1) (by omega) (by omega)
  · intro z
    constructor
    · rintro (h | h)
      · obtain ⟨j, hj, e⟩ := (h3 z).mp h
        by_cases q : j < p
        · exact ⟨j, by omega, by dsimp only; rw [if_pos q]; exact e⟩
        · refine ⟨j + 1, by omega, ?_⟩
          dsimp only
          rw [if_neg (by omega), if_neg (by omega), Nat.add_sub_cancel]
          exact e
      · refine ⟨p, by omega, ?_⟩
        dsimp only
        rw [if_neg (by omega), if_pos rfl]
        exact h.symm
    · rintro ⟨j, hj, e⟩
      dsimp only at e
      by_cases q1 : j < p
      · rw [if_pos q1] at e
        exact Or.inl ((h3 z).mpr ⟨j, by omega, e⟩)
      · rw [if_neg q1] at e
        by_cases q2 : j = p
        · rw [if_pos q2] at e
          exact Or.inr e.symm
        · rw [if_neg q2] at e
          exact Or.inl ((h3 z).mpr ⟨j - 1, by omega, e⟩)
/-- a weighted count of the numbers below m with S -/
noncomputable def sp_c (S : Nat → Prop) (w : Nat → Nat) : Nat → Nat
  | 0 => 0
  | m + 1 => sp_c S w m + @ite Nat (S m) (Classical.propDecidable _) (w m) 0
theorem sp_c_t {S : Nat → Prop} {w : Nat → Nat} {m : Nat} (h : S m) : sp_c S w (m + 1) = sp_c S w m + w m := by
  show sp_c S w m + @ite Nat (S m) (Classical.propDecidable _) (w m) 0 = _
  rw [if_pos h]
theorem sp_c_f {S : Nat → Prop} {w : Nat → Nat} {m : Nat} (h : ¬ S m) : sp_c S w (m + 1) = sp_c S w m := by
  show sp_c S w m + @ite Nat (S m) (Classical.propDecidable _) (w m) 0 = _
  rw [if_neg h]
  rfl
/-- the same over a list, j of it seen -/
def sp_d (g w : Nat → Nat) (m : Nat) : Nat → Nat
  | 0 => 0
  | j + 1 => sp_d g w m j + if g j < m then w (g j) else 0
theorem sp_d_0 (g w : Nat → Nat) : ∀ c, sp_d g w 0 c = 0 := by
  intro c
  induction c with
  | zero => rfl
  | succ c ih =>
    show sp_d g w 0 c + (if g c < 0 then w (g c) else 0) = 0
    rw [ih, if_neg (Nat.not_lt_zero _)]
theorem sp_d_ne {g w : Nat → Nat} {m : Nat} : ∀ c, (∀ j, j < c → g j ≠ m) → sp_d g w (m + 1) c = sp_d g w m c := by
  intro c
  induction c with
  | zero =>
    intro _
    rfl
  | succ c ih =>
    intro h
    show sp_d g w (m + 1) c + (if g c < m + 1 then w (g c) else 0) = sp_d g w m c + (if g c < m then w (g c) else 0)
    rw [ih (fun j hj => h j (by omega))]
    have h1 := h c (by omega)
    by_cases q : g c < m
    · rw [if_pos q, if_pos (by omega)]
    · rw [if_neg q, if_neg (by omega)]
theorem sp_d_eq {g w : Nat → Nat} {m : Nat} : ∀ c, (∀ i j, i < j → j < c → g i < g j) → (∃ j, j < c ∧ g j = m) → sp_d g w (m + 1) c = sp_d g w m c + w m := by
  intro c
  induction c with
  | zero =>
    rintro _ ⟨j, hj, _⟩
    omega
  | succ c ih =>
    rintro hs ⟨j, hj, e⟩
    show sp_d g w (m + 1) c + (if g c < m + 1 then w (g c) else 0) = sp_d g w m c + (if g c < m then w (g c) else 0) + w m
    rcases Nat.lt_or_ge j c with q | q
    · rw [ih (fun a b h1 h2 => hs a b h1 (by omega)) ⟨j, q, e⟩]
      have h1 := hs j c q (by omega)
      rw [if_neg (by omega), if_neg (by omega)]
      omega
    · have hjc : j = c := by omega
      subst hjc
      rw [sp_d_ne j (fun i hi => by have := hs i j hi (by omega); omega)]
      rw [if_pos (by omega), if_neg (by omega), e]
      omega
theorem sp_d_c {S : Nat → Prop} {g w : Nat → Nat} {c : Nat} (hs : ∀ i j, i < j → j < c → g i < g j) (hS : ∀ z, S z ↔ ∃ j, j < c ∧ g j = z) : ∀ m, sp_d g w m c = sp_c S w m := by
  intro m
  induction m with
  | zero => exact sp_d_0 g w c
  | succ m ih =>
    by_cases q : ∃ j, j < c ∧ g j = m
    · rw [sp_d_eq c hs q, sp_c_t ((hS m).mpr q), ih]
    · rw [sp_d_ne c (fun j hj e => q ⟨j, hj, e⟩), sp_c_f (fun h => q ((hS m).mp h)), ih]
theorem sp_c_iff {S S' : Nat → Prop} {w : Nat → Nat} {N : Nat} (h : ∀ z, z < N → (S z ↔ S' z)) : ∀ m, m ≤ N → sp_c S w m = sp_c S' w m := by
  intro m
  induction m with
  | zero =>
    intro _
    rfl
  | succ m ih =>
    intro hm
    by_cases q : S m
    · rw [sp_c_t q, sp_c_t ((h m (by omega)).mp q), ih (by omega)]
    · rw [sp_c_f q, sp_c_f (fun z => q ((h m (by omega)).mpr z)), ih (by omega)]
/-! what the public methods answer -/
def sp_sq (p : Int32) (N : Nat) : Prop := 2 ≤ N ∧ N ≤ 120 ∧ (∀ q, q * q ≠ N) ∧ p = nI N
def sp_set (p res : Int32) (n n' : Nat) : Prop := (sp_sq p n' ∧ res = 0) ∨ ((∀ N, ¬ sp_sq p N) ∧ res = -1 ∧ n' = n)
theorem sp_set_u {p a b : Int32} {n n1 n2 : Nat} (h1 : sp_set p a n n1) (h2 : sp_set p b n n2) : a = b ∧ n1 = n2 := by
  rcases h1 with ⟨h1, rfl⟩ | ⟨h1, rfl, rfl⟩
  · rcases h2 with ⟨h2, rfl⟩ | ⟨h2, rfl, rfl⟩
    · refine ⟨rfl, ?_⟩
      obtain ⟨-, a2, -, a4⟩ := h1
      obtain ⟨-, b2, -, b4⟩ := h2
      exact sx_eq (by omega) (by omega) (a4.symm.trans b4)
    · exact absurd h1 (h2 _)
  · rcases h2 with ⟨h2, rfl⟩ | ⟨h2, rfl, rfl⟩
    · exact absurd h2 (h1 _)
    · exact ⟨rfl, rfl⟩
def sp_term (r n : Nat) (p res : Int32) : Prop := (∃ j, j ≤ 100 ∧ p = nI j ∧ res = nI (sq_t r n j)) ∨ ((∀ j, j ≤ 100 → p ≠ nI j) ∧ res = -1)
theorem sp_term_u {r n : Nat} {p a b : Int32} (h1 : sp_term r n p a) (h2 : sp_term r n p b) : a = b := by
  rcases h1 with ⟨i, h1, e1, rfl⟩ | ⟨h1, rfl⟩
  · rcases h2 with ⟨j, h2, e2, rfl⟩ | ⟨h2, rfl⟩
    · have : i = j := sx_eq (by omega) (by omega) (e1.symm.trans e2)
      rw [this]
    · exact absurd e1 (h2 i h1)
  · rcases h2 with ⟨j, h2, e2, rfl⟩ | ⟨h2, rfl⟩
    · exact absurd e2 (h1 j h2)
    · rfl
def sp_4 (F : Int → Nat → Int32 → Prop) (n : Nat) (k l res : Int32) : Prop := (∃ z L, sp_ask n z ∧ L ≤ 3000 ∧ k = iI z ∧ l = nI L ∧ F z L res) ∨ ((¬ ∃ z L, sp_ask n z ∧ L ≤ 3000 ∧ k = iI z ∧ l = nI L) ∧ res = -1)
theorem sp_4_u {F : Int → Nat → Int32 → Prop} {n : Nat} {k l a b : Int32} (hF : ∀ z L a b, F z L a → F z L b → a = b) (h1 : sp_4 F n k l a) (h2 : sp_4 F n k l b) : a = b := by
  rcases h1 with ⟨z, L, a1, a2, a3, a4, a5⟩ | ⟨h1, rfl⟩
  · rcases h2 with ⟨z', L', b1, b2, b3, b4, b5⟩ | ⟨h2, rfl⟩
    · have e1 : z = z' := by
        obtain ⟨c1, c2, -, -⟩ := a1
        obtain ⟨d1, d2, -, -⟩ := b1
        exact iI_inj (by omega) (by omega) (by omega) (by omega) (a3.symm.trans b3)
      have e2 : L = L' := sx_eq (by omega) (by omega) (a4.symm.trans b4)
      subst e1
      subst e2
      exact hF z L a b a5 b5
    · exact absurd ⟨z, L, a1, a2, a3, a4⟩ h2
  · rcases h2 with ⟨z', L', b1, b2, b3, b4, b5⟩ | ⟨h2, rfl⟩
    · exact absurd ⟨z', L', b1, b2, b3, b4⟩ h1
    · rfl
def sp_Fc (w : Nat → Nat) (n : Nat) (z : Int) (L : Nat) (res : Int32) : Prop := res = nI (sp_c (sp_sol n z) w (L + 1))
def sp_Fn (n : Nat) (z : Int) (L : Nat) (res : Int32) : Prop := (∃ y, L ≤ y ∧ y ≤ 3000 ∧ sp_sol n z y ∧ (∀ y', L ≤ y' → y' < y → ¬ sp_sol n z y') ∧ res = nI y) ∨ ((∀ y', L ≤ y' → y' ≤ 3000 → ¬ sp_sol n z y') ∧ res = -2)
def sp_Fr (n : Nat) (z : Int) (L : Nat) (res : Int32) : Prop := (∃ Z : Nat, ((Z * Z : Nat) : Int) = ((n * L * L : Nat) : Int) + z ∧ res = nI Z) ∨ (¬ sp_sol n z L ∧ res = -2)
theorem sp_Fc_u {w : Nat → Nat} {n : Nat} (z : Int) (L : Nat) (a b : Int32) (h1 : sp_Fc w n z L a) (h2 : sp_Fc w n z L b) : a = b := h1.trans h2.symm
theorem sp_Fn_u {n : Nat} (z : Int) (L : Nat) (a b : Int32) (h1 : sp_Fn n z L a) (h2 : sp_Fn n z L b) : a = b := by
  rcases h1 with ⟨y, a1, a2, a3, a4, rfl⟩ | ⟨h1, rfl⟩
  · rcases h2 with ⟨y', b1, b2, b3, b4, rfl⟩ | ⟨h2, rfl⟩
    · rcases Nat.lt_trichotomy y y' with q | q | q
      · exact absurd a3 (b4 y a1 q)
      · rw [q]
      · exact absurd b3 (a4 y' b1 q)
    · exact absurd a3 (h2 y a1 a2)
  · rcases h2 with ⟨y', b1, b2, b3, b4, rfl⟩ | ⟨h2, rfl⟩
    · exact absurd b3 (h1 y' b1 b2)
    · rfl
theorem sp_Fr_u {n : Nat} (z : Int) (L : Nat) (a b : Int32) (h1 : sp_Fr n z L a) (h2 : sp_Fr n z L b) : a = b := by
  rcases h1 with ⟨Z, a1, rfl⟩ | ⟨h1, rfl⟩
  · rcases h2 with ⟨Z', b1, rfl⟩ | ⟨h2, rfl⟩
    · have e : Z * Z = Z' * Z' := by
        generalize Z * Z = x at a1 ⊢
        generalize Z' * Z' = x' at b1 ⊢
        omega
      have e1 : Z ≤ Z' := sx_sq (by omega)
      have e2 : Z' ≤ Z := sx_sq (by omega)
      rw [show Z = Z' by omega]
    · exact absurd ⟨Z, a1⟩ h2
  · rcases h2 with ⟨Z', b1, rfl⟩ | ⟨h2, rfl⟩
    · exact absurd ⟨Z', b1⟩ h1
    · rfl
end
section
abbrev vwCl : List vw_C := [(RX0, TX0, 5), (RX1, TX1, 2)]
abbrev wsX0_rootOf : List Cond := ws_ yX0_rootOf cX0_rootOf 5 (some .int)
abbrev rmX0_rootOf : Room := ({ frames := 0, cells := 0, slots := 0, locals := 0 } : Room)
set_option maxHeartbeats 4000000 in
set_option maxRecDepth 100000 in
theorem metX0_rootOf (l : Launch) (sz : Nat) (v : Nat) (hv0 : v < 2147483648) : Met l yX0_rootOf wsX0_rootOf rmX0_rootOf (va_Pc [.int (nI v)] (fun U => U.heap.size = sz)) (va_Qi (fun (r : Int32) (_ : Unit) => ∃ R : Nat, r = nI R ∧ R * R ≤ v ∧ v < (R + 1) * (R + 1)) (fun _ _ => True) (va_A [] sz)) 0 0 (va_A [] sz) := by
  refine Met.ofW (cc := cX0_rootOf) (maxL := 5) (ret := (some .int)) (by decide) rfl ?_
  intro p e s m args below meth c s₁ B hml hv
  obtain ⟨rfl, hsz⟩ := hv
  have hx := B.exec
  have hb := B.bytes
  have hr := B.returns
  have hts := atoms_spec (ws := wsX0_rootOf) B.pre
  have hts : ∀ w ∈ lw_all, w.before _ s = true := fun w h => hts w (List.mem_cons_of_mem _ h)
  have hown : s.vm.findClass RX0 = some m.cls := findClass_of_methodNamed B.named
  have hlocks := B.notSynchronized
  subst hsz
  generalize hAe : va_A ([] : va_W) s.heap.size = A
  have hA : ∀ q : Nat, s.heap.size ≤ q → A q := fun q h => by rw [← hAe]; exact Or.inr h
  have hS : va_S A s.heap s.heap [] := va_S.rf
  have hl := lv_entry ([.int (nI v)]) (n := 5) (Nat.le_of_ble_eq_true rfl)
  rw [lg_entry_eq]
  generalize (lg_sl ([.int (nI v)]) ++ List.replicate (5 - (lg_sl ([.int (nI v)])).length) Slot.unset).toArray = ls at hl ⊢
  have hl : lv_has ls 5 [(0, .int (nI v))] := hl
  have loop : ∀ (k : Nat) (R : Nat) (j : Nat) (B : Nat) (C : Nat) (H : Heap) (locs : List Loc), (j < k) → (C = 2 ^ j) → (B = C / 2) → (R + C ≤ 65536) → (R * R ≤ v) → (v < (R + C) * (R + C)) → va_S A s.heap H locs → ∀ (ls : Array Slot), lv_has ls 5 [(0, .int (nI v)), (1, .int (nI R)), (2, .int (nI B))] → W p l e (headSpec wsX0_rootOf rmX0_rootOf).room s m ([.int (nI v)] : List Value).toArray below meth c H locs 0 0 (MQ below (va_Qi (fun (r : Int32) (_ : Unit) => ∃ R : Nat, r = nI R ∧ R * R ≤ v ∧ v < (R + 1) * (R + 1)) (fun _ _ => True) A) ([.int (nI v)] : List Value).toArray s 0 0 A) (F0 m 5 ls []) := by
    intro k
    induction k with
    | zero =>
      intro R j B C H locs hk
      exact absurd hk (Nat.not_lt_zero _)
    | succ k ih =>
      intro R j B C H locs hk hC hB hR h1 h2 hS ls hl
      have hCp : 0 < C := by rw [hC]; exact Nat.two_pow_pos j
      refine lv_iload_n hx hb dX0_rootOf_5 rfl (lv_at hl 2 rfl) ?_
      refine lv_if_le (tgt := 38) hx hb dX0_rootOf_6 (by decide) (fun c6 => ?_) (fun c6 => ?_)
      · have hB0 : B = 0 := sx_le0 (by omega) c6
        have hC1 : C = 1 := by omega
        subst hC1
        refine lv_iload_n hx hb dX0_rootOf_38 rfl (lv_at hl 1 rfl) ?_
        exact W.iret (v := nI R) hx hb hr (fun t ht hW => ⟨⟨nI R, (), rfl, ⟨R, rfl, h1, h2⟩, trivial⟩, hS.F ht⟩) hS.2.2 dX0_rootOf_39
      · have hBp : 0 < B := sx_nle0 (by omega) c6
        obtain ⟨i, rfl⟩ : ∃ i, j = i + 1 := ⟨j - 1, by
          rcases Nat.eq_zero_or_pos j with q | q
          · subst q
            have : C = 1 := hC
            omega
          · omega⟩
        have hBi : B = 2 ^ i := by
          rw [hB, hC, Nat.pow_succ, Nat.mul_div_cancel _ (by decide)]
        have hCB : C = 2 * B := by
          rw [hC, hBi, Nat.pow_succ, Nat.mul_comm]
        have hT : (R + B) * (R + B) ≤ 65536 * 65536 := Nat.mul_le_mul (by omega) (by omega)
        refine lv_iload_n hx hb dX0_rootOf_9 rfl (lv_at hl 1 rfl) ?_
        refine lv_iload_n hx hb dX0_rootOf_10 rfl (lv_at hl 2 rfl) ?_
        refine lv_iadd hx hb dX0_rootOf_11 ?_
        refine sx_i (y := nI (R + B)) (nI_add _ _) ?_
        refine lv_i2l (v := lN (R + B)) hx hb dX0_rootOf_12 (nI_l (by omega)) ?_
        refine lv_lstore_n (lv' := [(3, .long (lN (R + B))), (0, .int (nI v)), (1, .int (nI R)), (2, .int (nI B))]) hx hb dX0_rootOf_13 rfl hl (by decide) rfl (fun ls hl => ?_)
        refine lv_lload_n hx hb dX0_rootOf_14 rfl (lv_at hl 0 rfl) ?_
        refine lv_lload_n hx hb dX0_rootOf_15 rfl (lv_at hl 0 rfl) ?_
        refine lv_lmul hx hb dX0_rootOf_16 ?_
        refine sx_l (y := lN ((R + B) * (R + B))) (lN_mul _ _) ?_
        refine lv_iload_n hx hb dX0_rootOf_17 rfl (lv_at hl 1 rfl) ?_
        refine lv_i2l (v := lN v) hx hb dX0_rootOf_18 (nI_l (by omega)) ?_
        refine W.lcmp hx hb dX0_rootOf_19 ?_
        refine lv_if_gt (tgt := 29) hx hb dX0_rootOf_20 (by decide) (fun c20 => ?_) (fun c20 => ?_)
        · have hgt : v < (R + B) * (R + B) := sx_lgt (by omega) (by omega) c20
          refine lv_iload_n hx hb dX0_rootOf_29 rfl (lv_at hl 2 rfl) ?_
          refine lv_istore_n (lv' := [(1, .int (nI R)), (3, .long (lN (R + B))), (0, .int (nI v)), (2, .int (nI B))]) hx hb dX0_rootOf_30 rfl hl (by decide) rfl (fun ls hl => ?_)
          refine lv_iload_n hx hb dX0_rootOf_31 rfl (lv_at hl 3 rfl) ?_
          refine lv_iconst (v := nI 2) hx hb dX0_rootOf_32 (by decide +kernel) ?_
          refine lv_idiv hx hb dX0_rootOf_33 (sx_ne0 (by omega) (by omega)) ?_
          refine sx_i (y := nI (B / 2)) (pk_div (by omega) (by omega) (by omega)) ?_
          refine lv_istore_n (lv' := [(2, .int (nI (B / 2))), (1, .int (nI R)), (3, .long (lN (R + B))), (0, .int (nI v))]) hx hb dX0_rootOf_34 rfl hl (by decide) rfl (fun ls hl => ?_)
          refine lv_goto (tgt := 5) hx hb dX0_rootOf_35 (by decide) ?_
          exact ih R i (B / 2) B _ _ (by omega) (hBi) (rfl) (by omega) (h1) (hgt) hS ls (lv_sub hl [3, 1, 0] rfl)
        · have hle : (R + B) * (R + B) ≤ v := sx_lngt (by omega) (by omega) c20
          refine lv_iload_n hx hb dX0_rootOf_23 rfl (lv_at hl 2 rfl) ?_
          refine lv_iload_n hx hb dX0_rootOf_24 rfl (lv_at hl 3 rfl) ?_
          refine lv_iadd hx hb dX0_rootOf_25 ?_
          refine sx_i (y := nI (R + B)) (nI_add _ _) ?_
          refine lv_goto (tgt := 30) hx hb dX0_rootOf_26 (by decide) ?_
          refine lv_istore_n (lv' := [(1, .int (nI (R + B))), (3, .long (lN (R + B))), (0, .int (nI v)), (2, .int (nI B))]) hx hb dX0_rootOf_30 rfl hl (by decide) rfl (fun ls hl => ?_)
          refine lv_iload_n hx hb dX0_rootOf_31 rfl (lv_at hl 3 rfl) ?_
          refine lv_iconst (v := nI 2) hx hb dX0_rootOf_32 (by decide +kernel) ?_
          refine lv_idiv hx hb dX0_rootOf_33 (sx_ne0 (by omega) (by omega)) ?_
          refine sx_i (y := nI (B / 2)) (pk_div (by omega) (by omega) (by omega)) ?_
          refine lv_istore_n (lv' := [(2, .int (nI (B / 2))), (1, .int (nI (R + B))), (3, .long (lN (R + B))), (0, .int (nI v))]) hx hb dX0_rootOf_34 rfl hl (by decide) rfl (fun ls hl => ?_)
          refine lv_goto (tgt := 5) hx hb dX0_rootOf_35 (by decide) ?_
          exact ih (R + B) i (B / 2) B _ _ (by omega) (hBi) (rfl) (by omega) (hle) (by rw [show R + B + B = R + C by omega]; exact h2) hS ls (lv_sub hl [3, 1, 0] rfl)
  refine lv_iconst (v := nI 0) hx hb dX0_rootOf_0 (by decide +kernel) ?_
  refine lv_istore_n (lv' := [(1, .int (nI 0)), (0, .int (nI v))]) hx hb dX0_rootOf_1 rfl hl (by decide) rfl (fun ls hl => ?_)
  refine lv_ldc (v := 32768) hx hb hown (hts _ q28) dX0_rootOf_2 ?_
  refine sx_i (y := nI 32768) (by decide +kernel) ?_
  refine lv_istore_n (lv' := [(2, .int (nI 32768)), (1, .int (nI 0)), (0, .int (nI v))]) hx hb dX0_rootOf_4 rfl hl (by decide) rfl (fun ls hl => ?_)
  exact loop 17 0 16 32768 65536 _ _ (by decide) (by decide) (by decide) (by decide) (by omega) (by omega) hS ls (lv_sub hl [2, 1, 0] rfl)

abbrev wsX1_rootOf : List Cond := ws_ yX1_rootOf cX1_rootOf 4 (some .int)
abbrev rmX1_rootOf : Room := ({ frames := 0, cells := 0, slots := 0, locals := 0 } : Room)
set_option maxHeartbeats 4000000 in
set_option maxRecDepth 100000 in
theorem metX1_rootOf (l : Launch) (sz : Nat) (v : Nat) (hv0 : v < 1102240000) : Met l yX1_rootOf wsX1_rootOf rmX1_rootOf (va_Pc [.int (nI v)] (fun U => U.heap.size = sz)) (va_Qi (fun (r : Int32) (_ : Unit) => ∃ R : Nat, r = nI R ∧ R * R ≤ v ∧ v < (R + 1) * (R + 1)) (fun _ _ => True) (va_A [] sz)) 0 0 (va_A [] sz) := by
  refine Met.ofW (cc := cX1_rootOf) (maxL := 4) (ret := (some .int)) (by decide) rfl ?_
  intro p e s m args below meth c s₁ B hml hv
  obtain ⟨rfl, hsz⟩ := hv
  have hx := B.exec
  have hb := B.bytes
  have hr := B.returns
  have hts := atoms_spec (ws := wsX1_rootOf) B.pre
  have hts : ∀ w ∈ lw_all, w.before _ s = true := fun w h => hts w (List.mem_cons_of_mem _ h)
  have hown : s.vm.findClass RX1 = some m.cls := findClass_of_methodNamed B.named
  have hlocks := B.notSynchronized
  subst hsz
  generalize hAe : va_A ([] : va_W) s.heap.size = A
  have hA : ∀ q : Nat, s.heap.size ≤ q → A q := fun q h => by rw [← hAe]; exact Or.inr h
  have hS : va_S A s.heap s.heap [] := va_S.rf
  have hl := lv_entry ([.int (nI v)]) (n := 4) (Nat.le_of_ble_eq_true rfl)
  rw [lg_entry_eq]
  generalize (lg_sl ([.int (nI v)]) ++ List.replicate (4 - (lg_sl ([.int (nI v)])).length) Slot.unset).toArray = ls at hl ⊢
  have hl : lv_has ls 4 [(0, .int (nI v))] := hl
  have loop : ∀ (k : Nat) (lo : Nat) (hi : Nat) (H : Heap) (locs : List Loc), (hi - lo < k) → (lo ≤ hi) → (hi ≤ 33200) → (lo * lo ≤ v) → (v < (hi + 1) * (hi + 1)) → va_S A s.heap H locs → ∀ (ls : Array Slot), lv_has ls 4 [(0, .int (nI v)), (1, .int (nI lo)), (2, .int (nI hi))] → W p l e (headSpec wsX1_rootOf rmX1_rootOf).room s m ([.int (nI v)] : List Value).toArray below meth c H locs 0 0 (MQ below (va_Qi (fun (r : Int32) (_ : Unit) => ∃ R : Nat, r = nI R ∧ R * R ≤ v ∧ v < (R + 1) * (R + 1)) (fun _ _ => True) A) ([.int (nI v)] : List Value).toArray s 0 0 A) (F0 m 5 ls []) := by
    intro k
    induction k with
    | zero =>
      intro lo hi H locs hk
      exact absurd hk (Nat.not_lt_zero _)
    | succ k ih =>
      intro lo hi H locs hk h0 h1 h2 h3 hS ls hl
      refine lv_iload_n hx hb dX1_rootOf_5 rfl (lv_at hl 1 rfl) ?_
      refine lv_iload_n hx hb dX1_rootOf_6 rfl (lv_at hl 2 rfl) ?_
      refine lv_icmp_ge (tgt := 37) hx hb dX1_rootOf_7 (by decide) (fun c7 => ?_) (fun c7 => ?_)
      · have hq : hi ≤ lo := sx_le (by omega) (by omega) c7
        have hq2 : hi = lo := by omega
        rw [hq2] at h3
        refine lv_iload_n hx hb dX1_rootOf_37 rfl (lv_at hl 1 rfl) ?_
        exact W.iret (v := nI lo) hx hb hr (fun t ht hW => ⟨⟨nI lo, (), rfl, ⟨lo, rfl, h2, h3⟩, trivial⟩, hS.F ht⟩) hS.2.2 dX1_rootOf_38
      · have hq : lo < hi := sx_gt (by omega) (by omega) c7
        obtain ⟨md, hmd⟩ : ∃ md, md = (lo + hi + 1) / 2 := ⟨_, rfl⟩
        have hmm : md * md ≤ 33200 * 33200 := Nat.mul_le_mul (by omega) (by omega)
        refine lv_iload_n hx hb dX1_rootOf_10 rfl (lv_at hl 1 rfl) ?_
        refine lv_iload_n hx hb dX1_rootOf_11 rfl (lv_at hl 2 rfl) ?_
        refine lv_iadd hx hb dX1_rootOf_12 ?_
        refine sx_i (y := nI (lo + hi)) (nI_add _ _) ?_
        refine lv_iconst (v := nI 1) hx hb dX1_rootOf_13 (by decide +kernel) ?_
        refine lv_iadd hx hb dX1_rootOf_14 ?_
        refine sx_i (y := nI ((lo + hi) + 1)) (nI_add _ _) ?_
        refine lv_iconst (v := nI 2) hx hb dX1_rootOf_15 (by decide +kernel) ?_
        refine lv_idiv hx hb dX1_rootOf_16 (sx_ne0 (by omega) (by omega)) ?_
        refine sx_i (y := nI md) (by rw [hmd]; exact pk_div (by omega) (by omega) (by omega)) ?_
        refine lv_istore_n (lv' := [(3, .int (nI md)), (0, .int (nI v)), (1, .int (nI lo)), (2, .int (nI hi))]) hx hb dX1_rootOf_17 rfl hl (by decide) rfl (fun ls hl => ?_)
        refine lv_iload_n hx hb dX1_rootOf_18 rfl (lv_at hl 0 rfl) ?_
        refine lv_iload_n hx hb dX1_rootOf_19 rfl (lv_at hl 0 rfl) ?_
        refine lv_imul hx hb dX1_rootOf_20 ?_
        refine sx_i (y := nI (md * md)) (pk_mul _ _) ?_
        refine lv_iload_n hx hb dX1_rootOf_21 rfl (lv_at hl 1 rfl) ?_
        refine lv_icmp_gt (tgt := 30) hx hb dX1_rootOf_22 (by decide) (fun c22 => ?_) (fun c22 => ?_)
        · have hgt : v < md * md := sx_lt (by omega) (by omega) c22
          refine lv_iload_n hx hb dX1_rootOf_30 rfl (lv_at hl 0 rfl) ?_
          refine lv_iconst (v := nI 1) hx hb dX1_rootOf_31 (by decide +kernel) ?_
          refine lv_isub hx hb dX1_rootOf_32 ?_
          refine sx_i (y := nI (md - 1)) (pk_sub (by omega)) ?_
          refine lv_istore_n (lv' := [(2, .int (nI (md - 1))), (3, .int (nI md)), (0, .int (nI v)), (1, .int (nI lo))]) hx hb dX1_rootOf_33 rfl hl (by decide) rfl (fun ls hl => ?_)
          refine lv_goto (tgt := 5) hx hb dX1_rootOf_34 (by decide) ?_
          exact ih lo (md - 1) _ _ (by omega) (by omega) (by omega) (h2) (by rw [show md - 1 + 1 = md by omega]; exact hgt) hS ls (lv_sub hl [2, 3, 0] rfl)
        · have hle : md * md ≤ v := sx_ge (by omega) (by omega) c22
          refine lv_iload_n hx hb dX1_rootOf_25 rfl (lv_at hl 0 rfl) ?_
          refine lv_istore_n (lv' := [(1, .int (nI md)), (3, .int (nI md)), (0, .int (nI v)), (2, .int (nI hi))]) hx hb dX1_rootOf_26 rfl hl (by decide) rfl (fun ls hl => ?_)
          refine lv_goto (tgt := 34) hx hb dX1_rootOf_27 (by decide) ?_
          refine lv_goto (tgt := 5) hx hb dX1_rootOf_34 (by decide) ?_
          exact ih md hi _ _ (by omega) (by omega) (by omega) (hle) (h3) hS ls (lv_sub hl [2, 0, 3] rfl)
  refine lv_iconst (v := nI 0) hx hb dX1_rootOf_0 (by decide +kernel) ?_
  refine lv_istore_n (lv' := [(1, .int (nI 0)), (0, .int (nI v))]) hx hb dX1_rootOf_1 rfl hl (by decide) rfl (fun ls hl => ?_)
  refine lv_ldc (v := 33200) hx hb hown (hts _ q118) dX1_rootOf_2 ?_
  refine sx_i (y := nI 33200) (by decide +kernel) ?_
  refine lv_istore_n (lv' := [(2, .int (nI 33200)), (1, .int (nI 0)), (0, .int (nI v))]) hx hb dX1_rootOf_4 rfl hl (by decide) rfl (fun ls hl => ?_)
  exact loop 33201 0 33200 _ _ (by decide) (by decide) (by decide) (by omega) (by omega) hS ls (lv_sub hl [2, 1, 0] rfl)
end
section
theorem sx_sq81 {z : Int} (h1 : -9 ≤ z) (h2 : z ≤ 9) : 0 ≤ z * z ∧ z * z ≤ 81 := by
  have hzc : z = -9 ∨ z = -8 ∨ z = -7 ∨ z = -6 ∨ z = -5 ∨ z = -4 ∨ z = -3 ∨ z = -2 ∨ z = -1 ∨ z = 0 ∨ z = 1 ∨ z = 2 ∨ z = 3 ∨ z = 4 ∨ z = 5 ∨ z = 6 ∨ z = 7 ∨ z = 8 ∨ z = 9 := by omega
  rcases hzc with h | h | h | h | h | h | h | h | h | h | h | h | h | h | h | h | h | h | h <;> rw [h] <;> decide
abbrev wsX1_isSquare : List Cond := ws_ yX1_isSquare cX1_isSquare 2 (some .boolean)
abbrev rmX1_isSquare : Room := ({ frames := 1, cells := 0, slots := 0, locals := 23 } : Room)
set_option maxHeartbeats 4000000 in
set_option maxRecDepth 100000 in
theorem metX1_isSquare (l : Launch) (sz : Nat) (v : Nat) (hv0 : v < 1102240000) : Met l yX1_isSquare wsX1_isSquare rmX1_isSquare (va_Pc [.int (nI v)] (fun U => U.heap.size = sz)) (va_Qi (fun (r : Int32) (_ : Unit) => (r = 1 ∧ ∃ q, q * q = v) ∨ (r = 0 ∧ ∀ q, q * q ≠ v)) (fun _ _ => True) (va_A [] sz)) 0 0 (va_A [] sz) := by
  refine Met.ofW (cc := cX1_isSquare) (maxL := 2) (ret := (some .boolean)) (by decide) rfl ?_
  intro p e s m args below meth c s₁ B hml hv
  obtain ⟨rfl, hsz⟩ := hv
  have hx := B.exec
  have hb := B.bytes
  have hr := B.returns
  have hts := atoms_spec (ws := wsX1_isSquare) B.pre
  have hts : ∀ w ∈ lw_all, w.before _ s = true := fun w h => hts w (List.mem_cons_of_mem _ h)
  have hown : s.vm.findClass RX1 = some m.cls := findClass_of_methodNamed B.named
  have hlocks := B.notSynchronized
  subst hsz
  generalize hAe : va_A ([] : va_W) s.heap.size = A
  have hA : ∀ q : Nat, s.heap.size ≤ q → A q := fun q h => by rw [← hAe]; exact Or.inr h
  have hS : va_S A s.heap s.heap [] := va_S.rf
  have hl := lv_entry ([.int (nI v)]) (n := 2) (Nat.le_of_ble_eq_true rfl)
  rw [lg_entry_eq]
  generalize (lg_sl ([.int (nI v)]) ++ List.replicate (2 - (lg_sl ([.int (nI v)])).length) Slot.unset).toArray = ls at hl ⊢
  have hl : lv_has ls 2 [(0, .int (nI v))] := hl
  refine lv_iload_n hx hb dX1_isSquare_0 rfl (lv_at hl 0 rfl) ?_
  have hFc := sx_fr hA hS
  refine va_calli (va_runS (As := [.int (nI v)]) (rest := []) ⟨hx, hb, hml, hown, hts⟩ (metX1_rootOf l s.heap.size v hv0) (va_cwS 1 hts (lw_S q115 q116 q12 q117) rfl rfl rfl (by decide +kernel) ⟨Nat.le_of_ble_eq_true rfl, Nat.le_of_ble_eq_true rfl⟩) ⟨fun a U g mk q => by obtain ⟨q0, q1⟩ := q; exact ⟨q0, q1⟩, fun U hU hW => ⟨rfl, congrArg Array.size hU⟩⟩ rfl rfl hl.1 rfl (lv_room (Nat.le_of_ble_eq_true rfl)) dX1_isSquare_1 ⟨Nat.le_of_ble_eq_true rfl, Nat.le_of_ble_eq_true rfl⟩) hS (fun q _ h => hFc q h) hFc (fun r1 u t H1 locs ht hvm hw hB hz1 hk1 hS => ?_)
  generalize H1 = H at hS ⊢
  obtain ⟨R, rfl, h1, h2⟩ := hw
  refine lv_istore_n (lv' := [(1, .int (nI R)), (0, .int (nI v))]) hx hb dX1_isSquare_4 rfl hl (by decide) rfl (fun ls hl => ?_)
  refine lv_iload_n hx hb dX1_isSquare_5 rfl (lv_at hl 0 rfl) ?_
  refine lv_iload_n hx hb dX1_isSquare_6 rfl (lv_at hl 0 rfl) ?_
  refine lv_imul hx hb dX1_isSquare_7 ?_
  refine sx_i (y := nI (R * R)) (pk_mul _ _) ?_
  refine lv_iload_n hx hb dX1_isSquare_8 rfl (lv_at hl 1 rfl) ?_
  refine lv_icmp_ne (tgt := 16) hx hb dX1_isSquare_9 (by decide) (fun c9 => ?_) (fun c9 => ?_)
  · have hne : R * R ≠ v := sx_ne (by omega) (by omega) c9
    refine lv_iconst (v := nI 0) hx hb dX1_isSquare_16 (by decide +kernel) ?_
    have hno : ∀ q, q * q ≠ v := by
      intro q hq
      apply hne
      rw [sx_root h1 h2 (b := q) (by omega) (by rw [← hq]; exact Nat.mul_lt_mul_of_lt_of_lt (Nat.lt_succ_self q) (Nat.lt_succ_self q))]
      exact hq
    exact W.zret (v := nI 0) hx hb hr rfl (fun t ht hW => ⟨⟨nI 0, (), rfl, Or.inr ⟨rfl, hno⟩, trivial⟩, hS.F ht⟩) hS.2.2 dX1_isSquare_17
  · have heq : R * R = v := sx_eq (by omega) (by omega) c9
    refine lv_iconst (v := nI 1) hx hb dX1_isSquare_12 (by decide +kernel) ?_
    refine lv_goto (tgt := 17) hx hb dX1_isSquare_13 (by decide) ?_
    exact W.zret (v := nI 1) hx hb hr rfl (fun t ht hW => ⟨⟨nI 1, (), rfl, Or.inl ⟨rfl, R, heq⟩, trivial⟩, hS.F ht⟩) hS.2.2 dX1_isSquare_17

abbrev wsX1_find : List Cond := ws_ yX1_find cX1_find 5 (some .int)
abbrev rmX1_find : Room := ({ frames := 1, cells := 0, slots := 0, locals := 23 } : Room)
set_option maxHeartbeats 4000000 in
set_option maxRecDepth 100000 in
theorem metX1_find (l : Launch) (dC : Nat → ClassId) (dI : Nat → Nat → Nat) (sz : Nat) (g0 gt : Nat) (d2 : ClassId) (b : Nat → Int32) (n : Nat) (z : Int) (y : Nat) (hn : n ≤ 120) (hz1 : -9 ≤ z) (hz2 : z ≤ 9) (hy : y ≤ 3000) : Met l yX1_find wsX1_find rmX1_find (va_Pc [.ref g0, .int (iI z), .int (nI y)] (fun U => U.heap.size = sz ∧ va_P (dC, dI) vwCl [(g0, .inr (1, [.int (nI n), .ref gt])), (gt, .inl (d2, 300, .inl b))] U.heap ∧ va_K (dC, dI) vwCl [(d2, .int)] U)) (va_Qi (fun (r : Int32) (_ : Unit) => sp_Fr n z y r) (fun _ _ => True) (va_A [] sz)) 0 0 (va_A [] sz) := by
  refine Met.ofW (cc := cX1_find) (maxL := 5) (ret := (some .int)) (by decide) rfl ?_
  intro p e s m args below meth c s₁ B hml hv
  obtain ⟨rfl, hsz, hP, hK⟩ := hv
  have hx := B.exec
  have hb := B.bytes
  have hr := B.returns
  have hts := atoms_spec (ws := wsX1_find) B.pre
  have hts : ∀ w ∈ lw_all, w.before _ s = true := fun w h => hts w (List.mem_cons_of_mem _ h)
  have hown : s.vm.findClass RX1 = some m.cls := findClass_of_methodNamed B.named
  have hlocks := B.notSynchronized
  subst hsz
  generalize hAe : va_A ([] : va_W) s.heap.size = A
  have hA : ∀ q : Nat, s.heap.size ≤ q → A q := fun q h => by rw [← hAe]; exact Or.inr h
  have hS : va_S A s.heap s.heap [] := va_S.rf
  have hP : va_P (dC, dI) vwCl [(g0, .inr (1, [.int (nI n), .ref gt])), (gt, .inl (d2, 300, .inl b))] s.heap := hP
  have hl := lv_entry ([.ref g0, .int (iI z), .int (nI y)]) (n := 5) (Nat.le_of_ble_eq_true rfl)
  rw [lg_entry_eq]
  generalize (lg_sl ([.ref g0, .int (iI z), .int (nI y)]) ++ List.replicate (5 - (lg_sl ([.ref g0, .int (iI z), .int (nI y)])).length) Slot.unset).toArray = ls at hl ⊢
  have hl : lv_has ls 5 [(0, .ref g0), (1, .int (iI z)), (2, .int (nI y))] := hl
  obtain ⟨hb1, hb2⟩ := sx_ny hn hy
  refine lv_aload_n hx hb dX1_find_0 rfl (lv_at hl 0 rfl) ?_
  refine va_get (D := (dC, dI)) (ci := 1) (v := .int (nI n)) (C := RX1) (T := TX1) (N := 2) hx hb hts in_X1 hown hK hP 0 rfl rfl 0 (by decide) (hts _ q101) (fun _ h9 => h9) rfl dX1_find_1 ?_
  refine lv_iload_n hx hb dX1_find_4 rfl (lv_at hl 2 rfl) ?_
  refine lv_imul hx hb dX1_find_5 ?_
  refine sx_i (y := nI (n * y)) (pk_mul _ _) ?_
  refine lv_iload_n hx hb dX1_find_6 rfl (lv_at hl 2 rfl) ?_
  refine lv_imul hx hb dX1_find_7 ?_
  refine sx_i (y := nI ((n * y) * y)) (pk_mul _ _) ?_
  refine lv_iload_n hx hb dX1_find_8 rfl (lv_at hl 1 rfl) ?_
  refine lv_iadd hx hb dX1_find_9 ?_
  refine sx_i (y := iI (((n * y * y : Nat) : Int) + z)) (iI_addn _ _) ?_
  refine lv_istore_n (lv' := [(3, .int (iI (((n * y * y : Nat) : Int) + z))), (0, .ref g0), (1, .int (iI z)), (2, .int (nI y))]) hx hb dX1_find_10 rfl hl (by decide) rfl (fun ls hl => ?_)
  refine lv_iload_n hx hb dX1_find_11 rfl (lv_at hl 0 rfl) ?_
  refine lv_if_ge (tgt := 18) hx hb dX1_find_12 (by decide) (fun c12 => ?_) (fun c12 => ?_)
  · have hge : 0 ≤ ((n * y * y : Nat) : Int) + z := by
      have h := sx_leI c12
      rw [iI_toInt (by omega) (by omega)] at h
      exact h
    obtain ⟨V, hV⟩ : ∃ V : Nat, (V : Int) = ((n * y * y : Nat) : Int) + z := ⟨(((n * y * y : Nat) : Int) + z).toNat, by omega⟩
    have hVe : iI (((n * y * y : Nat) : Int) + z) = nI V := by rw [← hV, iI_nat]
    rw [hVe] at hl
    refine lv_iload_n hx hb dX1_find_18 rfl (lv_at hl 0 rfl) ?_
    have hFc := sx_fr hA hS
    refine va_calli (va_runS (As := [.int (nI V)]) (rest := []) ⟨hx, hb, hml, hown, hts⟩ (metX1_rootOf l s.heap.size V (by omega)) (va_cwS 1 hts (lw_S q115 q116 q12 q117) rfl rfl rfl (by decide +kernel) ⟨Nat.le_of_ble_eq_true rfl, Nat.le_of_ble_eq_true rfl⟩) ⟨fun a U g mk q => by obtain ⟨q0, q1⟩ := q; exact ⟨q0, q1⟩, fun U hU hW => ⟨rfl, congrArg Array.size hU⟩⟩ rfl rfl hl.1 rfl (lv_room (Nat.le_of_ble_eq_true rfl)) dX1_find_19 ⟨Nat.le_of_ble_eq_true rfl, Nat.le_of_ble_eq_true rfl⟩) hS (fun q _ h => hFc q h) hFc (fun r1 u t H1 locs ht hvm hw hB hz1 hk1 hS => ?_)
    have hP := sx_keep hP hk1
    generalize H1 = H at hP hS ⊢
    obtain ⟨R, rfl, h1, h2⟩ := hw
    refine lv_istore (lv' := [(4, .int (nI R)), (3, .int (nI V)), (0, .ref g0), (1, .int (iI z)), (2, .int (nI y))]) hx hb dX1_find_22 hl (by decide) rfl (fun ls hl => ?_)
    refine lv_iload hx hb dX1_find_24 (lv_at hl 0 rfl) ?_
    refine lv_iload hx hb dX1_find_26 (lv_at hl 0 rfl) ?_
    refine lv_imul hx hb dX1_find_28 ?_
    refine sx_i (y := nI (R * R)) (pk_mul _ _) ?_
    refine lv_iload_n hx hb dX1_find_29 rfl (lv_at hl 1 rfl) ?_
    refine lv_icmp_ne (tgt := 38) hx hb dX1_find_30 (by decide) (fun c30 => ?_) (fun c30 => ?_)
    · have hne : R * R ≠ V := sx_ne (by omega) (by omega) c30
      refine lv_bipush (v := -2) hx hb dX1_find_38 (by decide +kernel) ?_
      have hno : ¬ sp_sol n z y := by
        rintro ⟨q, hq⟩
        have hq2 : q * q = V := by
          generalize q * q = x at hq ⊢
          omega
        apply hne
        rw [sx_root h1 h2 (b := q) (by omega) (by rw [← hq2]; exact Nat.mul_lt_mul_of_lt_of_lt (Nat.lt_succ_self q) (Nat.lt_succ_self q))]
        exact hq2
      exact W.iret (v := -2) hx hb hr (fun t ht hW => ⟨⟨-2, (), rfl, Or.inr ⟨hno, rfl⟩, trivial⟩, hS.F ht⟩) hS.2.2 dX1_find_40
    · have heq : R * R = V := sx_eq (by omega) (by omega) c30
      refine lv_iload hx hb dX1_find_33 (lv_at hl 0 rfl) ?_
      refine lv_goto (tgt := 40) hx hb dX1_find_35 (by decide) ?_
      exact W.iret (v := nI R) hx hb hr (fun t ht hW => ⟨⟨nI R, (), rfl, Or.inl ⟨R, by rw [heq, hV], rfl⟩, trivial⟩, hS.F ht⟩) hS.2.2 dX1_find_40
  · have hlt : ((n * y * y : Nat) : Int) + z < 0 := by
      have h := sx_nleI c12
      rw [iI_toInt (by omega) (by omega)] at h
      exact h
    have hno : ¬ sp_sol n z y := by
      rintro ⟨q, hq⟩
      generalize q * q = x at hq
      omega
    refine lv_bipush (v := -2) hx hb dX1_find_15 (by decide +kernel) ?_
    exact W.iret (v := -2) hx hb hr (fun t ht hW => ⟨⟨-2, (), rfl, Or.inr ⟨hno, rfl⟩, trivial⟩, hS.F ht⟩) hS.2.2 dX1_find_17

abbrev wsX1_refused : List Cond := ws_ yX1_refused cX1_refused 3 (some .boolean)
abbrev rmX1_refused : Room := ({ frames := 0, cells := 0, slots := 0, locals := 0 } : Room)
set_option maxHeartbeats 4000000 in
set_option maxRecDepth 100000 in
theorem metX1_refused (l : Launch) (dC : Nat → ClassId) (dI : Nat → Nat → Nat) (sz : Nat) (g0 gt : Nat) (d2 : ClassId) (b : Nat → Int32) (n : Nat) (k y : Int32) (hn : n ≤ 120) : Met l yX1_refused wsX1_refused rmX1_refused (va_Pc [.ref g0, .int k, .int y] (fun U => U.heap.size = sz ∧ va_P (dC, dI) vwCl [(g0, .inr (1, [.int (nI n), .ref gt])), (gt, .inl (d2, 300, .inl b))] U.heap ∧ va_K (dC, dI) vwCl [(d2, .int)] U)) (va_Qi (fun (r : Int32) (_ : Unit) => (r = 0 ∧ ∃ z L, sp_ask n z ∧ L ≤ 3000 ∧ k = iI z ∧ y = nI L) ∨ (r = 1 ∧ ¬ ∃ z L, sp_ask n z ∧ L ≤ 3000 ∧ k = iI z ∧ y = nI L)) (fun _ _ => True) (va_A [] sz)) 0 0 (va_A [] sz) := by
  refine Met.ofW (cc := cX1_refused) (maxL := 3) (ret := (some .boolean)) (by decide) rfl ?_
  intro p e s m args below meth c s₁ B hml hv
  obtain ⟨rfl, hsz, hP, hK⟩ := hv
  have hx := B.exec
  have hb := B.bytes
  have hr := B.returns
  have hts := atoms_spec (ws := wsX1_refused) B.pre
  have hts : ∀ w ∈ lw_all, w.before _ s = true := fun w h => hts w (List.mem_cons_of_mem _ h)
  have hown : s.vm.findClass RX1 = some m.cls := findClass_of_methodNamed B.named
  have hlocks := B.notSynchronized
  subst hsz
  generalize hAe : va_A ([] : va_W) s.heap.size = A
  have hA : ∀ q : Nat, s.heap.size ≤ q → A q := fun q h => by rw [← hAe]; exact Or.inr h
  have hS : va_S A s.heap s.heap [] := va_S.rf
  have hP : va_P (dC, dI) vwCl [(g0, .inr (1, [.int (nI n), .ref gt])), (gt, .inl (d2, 300, .inl b))] s.heap := hP
  have hl := lv_entry ([.ref g0, .int k, .int y]) (n := 3) (Nat.le_of_ble_eq_true rfl)
  rw [lg_entry_eq]
  generalize (lg_sl ([.ref g0, .int k, .int y]) ++ List.replicate (3 - (lg_sl ([.ref g0, .int k, .int y])).length) Slot.unset).toArray = ls at hl ⊢
  have hl : lv_has ls 3 [(0, .ref g0), (1, .int k), (2, .int y)] := hl
  obtain ⟨z, hz⟩ : ∃ z, z = k.toInt := ⟨_, rfl⟩
  have hkz : k = iI z := by rw [hz]; exact iI_self k
  obtain ⟨hz1, hz2⟩ := sx_tI k
  rw [← hz] at hz1 hz2
  have key : ∀ z' : Int, -9 ≤ z' → z' ≤ 9 → k = iI z' → z' = z := fun z' a1 a2 a3 => iI_inj (by omega) (by omega) hz1 hz2 (a3.symm.trans hkz)
  have e9 : (-9 : Int32).toInt = -9 := by decide
  have e99 : (nI 9).toInt = 9 := by decide
  refine lv_iload_n hx hb dX1_refused_0 rfl (lv_at hl 1 rfl) ?_
  refine lv_bipush (v := -9) hx hb dX1_refused_1 (by decide +kernel) ?_
  refine lv_icmp_lt (tgt := 37) hx hb dX1_refused_3 (by decide) (fun c3 => ?_) (fun c3 => ?_)
  · refine lv_iconst (v := nI 1) hx hb dX1_refused_37 (by decide +kernel) ?_
    refine lv_goto (tgt := 42) hx hb dX1_refused_38 (by decide) ?_
    have hno : ¬ ∃ z L, sp_ask n z ∧ L ≤ 3000 ∧ k = iI z ∧ y = nI L := by
      rintro ⟨z', L', ⟨a1, a2, a3, a4⟩, b2, b3, b4⟩
      have hzz := key z' a1 a2 b3
      subst hzz
      have h := sx_ltI c3
      omega
    exact W.zret (v := nI 1) hx hb hr rfl (fun t ht hW => ⟨⟨nI 1, (), rfl, Or.inr ⟨rfl, hno⟩, trivial⟩, hS.F ht⟩) hS.2.2 dX1_refused_42
  · refine lv_iload_n hx hb dX1_refused_6 rfl (lv_at hl 1 rfl) ?_
    refine lv_bipush (v := nI 9) hx hb dX1_refused_7 (by decide +kernel) ?_
    refine lv_icmp_gt (tgt := 37) hx hb dX1_refused_9 (by decide) (fun c9 => ?_) (fun c9 => ?_)
    · refine lv_iconst (v := nI 1) hx hb dX1_refused_37 (by decide +kernel) ?_
      refine lv_goto (tgt := 42) hx hb dX1_refused_38 (by decide) ?_
      have hno : ¬ ∃ z L, sp_ask n z ∧ L ≤ 3000 ∧ k = iI z ∧ y = nI L := by
        rintro ⟨z', L', ⟨a1, a2, a3, a4⟩, b2, b3, b4⟩
        have hzz := key z' a1 a2 b3
        subst hzz
        have h := sx_ltI c9
        omega
      exact W.zret (v := nI 1) hx hb hr rfl (fun t ht hW => ⟨⟨nI 1, (), rfl, Or.inr ⟨rfl, hno⟩, trivial⟩, hS.F ht⟩) hS.2.2 dX1_refused_42
    · refine lv_iload_n hx hb dX1_refused_12 rfl (lv_at hl 1 rfl) ?_
      refine lv_if_eq (tgt := 37) hx hb dX1_refused_13 (by decide) (fun c13 => ?_) (fun c13 => ?_)
      · refine lv_iconst (v := nI 1) hx hb dX1_refused_37 (by decide +kernel) ?_
        refine lv_goto (tgt := 42) hx hb dX1_refused_38 (by decide) ?_
        have hno : ¬ ∃ z L, sp_ask n z ∧ L ≤ 3000 ∧ k = iI z ∧ y = nI L := by
          rintro ⟨z', L', ⟨a1, a2, a3, a4⟩, b2, b3, b4⟩
          have hzz := key z' a1 a2 b3
          subst hzz
          have h0 : k.toInt = 0 := by rw [c13]; rfl
          omega
        exact W.zret (v := nI 1) hx hb hr rfl (fun t ht hW => ⟨⟨nI 1, (), rfl, Or.inr ⟨rfl, hno⟩, trivial⟩, hS.F ht⟩) hS.2.2 dX1_refused_42
      · have h3 := sx_nltI c3
        have h9 := sx_nltI c9
        have hz0 : z ≠ 0 := by
          intro h
          rw [h] at hkz
          exact c13 (by rw [hkz]; rfl)
        obtain ⟨hzp, hzz⟩ := sx_sq81 (z := z) (by omega) (by omega)
        refine lv_iload_n hx hb dX1_refused_16 rfl (lv_at hl 1 rfl) ?_
        refine lv_iload_n hx hb dX1_refused_17 rfl (lv_at hl 1 rfl) ?_
        refine lv_imul hx hb dX1_refused_18 ?_
        refine sx_i (y := iI (z * z)) (by rw [hkz]; exact iI_mul z z) ?_
        refine lv_aload_n hx hb dX1_refused_19 rfl (lv_at hl 0 rfl) ?_
        refine va_get (D := (dC, dI)) (ci := 1) (v := .int (nI n)) (C := RX1) (T := TX1) (N := 2) hx hb hts in_X1 hown hK hP 0 rfl rfl 0 (by decide) (hts _ q101) (fun _ h9 => h9) rfl dX1_refused_20 ?_
        refine lv_icmp_ge (tgt := 37) hx hb dX1_refused_23 (by decide) (fun c23 => ?_) (fun c23 => ?_)
        · refine lv_iconst (v := nI 1) hx hb dX1_refused_37 (by decide +kernel) ?_
          refine lv_goto (tgt := 42) hx hb dX1_refused_38 (by decide) ?_
          have hno : ¬ ∃ z L, sp_ask n z ∧ L ≤ 3000 ∧ k = iI z ∧ y = nI L := by
            rintro ⟨z', L', ⟨a1, a2, a3, a4⟩, b2, b3, b4⟩
            have hzz := key z' a1 a2 b3
            subst hzz
            have h := sx_leI c23
            rw [nI_toInt (by omega), iI_toInt (by omega) (by omega)] at h
            omega
          exact W.zret (v := nI 1) hx hb hr rfl (fun t ht hW => ⟨⟨nI 1, (), rfl, Or.inr ⟨rfl, hno⟩, trivial⟩, hS.F ht⟩) hS.2.2 dX1_refused_42
        · have hsn : z * z < (n : Int) := by
            have h := sx_nleI c23
            rw [nI_toInt (by omega), iI_toInt (by omega) (by omega)] at h
            exact h
          refine lv_iload_n hx hb dX1_refused_26 rfl (lv_at hl 2 rfl) ?_
          refine lv_if_lt (tgt := 37) hx hb dX1_refused_27 (by decide) (fun c27 => ?_) (fun c27 => ?_)
          · refine lv_iconst (v := nI 1) hx hb dX1_refused_37 (by decide +kernel) ?_
            refine lv_goto (tgt := 42) hx hb dX1_refused_38 (by decide) ?_
            have hno : ¬ ∃ z L, sp_ask n z ∧ L ≤ 3000 ∧ k = iI z ∧ y = nI L := by
              rintro ⟨z', L', ⟨a1, a2, a3, a4⟩, b2, b3, b4⟩
              have hzz := key z' a1 a2 b3
              subst hzz
              exact sx_neg c27 L' (by omega) b4
            exact W.zret (v := nI 1) hx hb hr rfl (fun t ht hW => ⟨⟨nI 1, (), rfl, Or.inr ⟨rfl, hno⟩, trivial⟩, hS.F ht⟩) hS.2.2 dX1_refused_42
          · refine lv_iload_n hx hb dX1_refused_30 rfl (lv_at hl 2 rfl) ?_
            refine lv_sipush (v := nI 3000) hx hb dX1_refused_31 (by decide +kernel) ?_
            refine lv_icmp_le (tgt := 41) hx hb dX1_refused_34 (by decide) (fun c34 => ?_) (fun c34 => ?_)
            · obtain ⟨L, -, hL, hyL⟩ := sx_rng (x := y) (a := 0) (b := 3000) (by omega) (by omega) c27 c34
              refine lv_iconst (v := nI 0) hx hb dX1_refused_41 (by decide +kernel) ?_
              exact W.zret (v := nI 0) hx hb hr rfl (fun t ht hW => ⟨⟨nI 0, (), rfl, Or.inl ⟨rfl, z, L, ⟨by omega, by omega, hz0, hsn⟩, hL, hkz, hyL⟩, trivial⟩, hS.F ht⟩) hS.2.2 dX1_refused_42
            · refine lv_iconst (v := nI 1) hx hb dX1_refused_37 (by decide +kernel) ?_
              refine lv_goto (tgt := 42) hx hb dX1_refused_38 (by decide) ?_
              have hno : ¬ ∃ z L, sp_ask n z ∧ L ≤ 3000 ∧ k = iI z ∧ y = nI L := by
                rintro ⟨z', L', ⟨a1, a2, a3, a4⟩, b2, b3, b4⟩
                have hzz := key z' a1 a2 b3
                subst hzz
                exact sx_nhi (by omega) c34 b2 b4
              exact W.zret (v := nI 1) hx hb hr rfl (fun t ht hW => ⟨⟨nI 1, (), rfl, Or.inr ⟨rfl, hno⟩, trivial⟩, hS.F ht⟩) hS.2.2 dX1_refused_42
end
section
theorem sq_t_le {r n P : Nat} (h : sq_A r n P) (i : Nat) : sq_t r n i ≤ 1010 := by
  have h1 := (h.2.1 i).2.2.1
  have h2 := h.1.2.2.2.2.2.2
  exact Nat.le_trans (Nat.div_le_self _ _) (by omega)
abbrev wsX1_set : List Cond := ws_ yX1_set cX1_set 2 (some .int)
abbrev rmX1_set : Room := ({ frames := 2, cells := 0, slots := 0, locals := 44 } : Room)
set_option maxHeartbeats 4000000 in
set_option maxRecDepth 100000 in
theorem metX1_set (l : Launch) (dC : Nat → ClassId) (dI : Nat → Nat → Nat) (sz : Nat) (g0 gt : Nat) (d2 : ClassId) (b : Nat → Int32) (n : Nat) (p0 : Int32) : Met l yX1_set wsX1_set rmX1_set (va_Pc [.ref g0, .int p0] (fun U => U.heap.size = sz ∧ va_P (dC, dI) vwCl [(g0, .inr (1, [.int (nI n), .ref gt])), (gt, .inl (d2, 300, .inl b))] U.heap ∧ va_K (dC, dI) vwCl [(d2, .int)] U ∧ va_D (fun _ => True) [(g0, .inr (1, [.int (nI n), .ref gt])), (gt, .inl (d2, 300, .inl b))])) (va_Qi (fun (r : Int32) (n' : Nat) => sp_set p0 r n n') (fun (n' : Nat) t => va_P (dC, dI) vwCl [(g0, .inr (1, [.int (nI n'), .ref gt])), (gt, .inl (d2, 300, .inl b))] t.heap ∧ va_D (va_A [(g0, .inr (1, [.int (nI n), .ref gt])), (gt, .inl (d2, 300, .inl b))] sz) [(g0, .inr (1, [.int (nI n'), .ref gt])), (gt, .inl (d2, 300, .inl b))]) (va_A [(g0, .inr (1, [.int (nI n), .ref gt])), (gt, .inl (d2, 300, .inl b))] sz)) 0 0 (va_A [(g0, .inr (1, [.int (nI n), .ref gt])), (gt, .inl (d2, 300, .inl b))] sz) := by
  refine Met.ofW (cc := cX1_set) (maxL := 2) (ret := (some .int)) (by decide) rfl ?_
  intro p e s m args below meth c s₁ B hml hv
  obtain ⟨rfl, hsz, hP, hK, hD0⟩ := hv
  have hx := B.exec
  have hb := B.bytes
  have hr := B.returns
  have hts := atoms_spec (ws := wsX1_set) B.pre
  have hts : ∀ w ∈ lw_all, w.before _ s = true := fun w h => hts w (List.mem_cons_of_mem _ h)
  have hown : s.vm.findClass RX1 = some m.cls := findClass_of_methodNamed B.named
  have hlocks := B.notSynchronized
  subst hsz
  have hD := hD0.self (sz := s.heap.size)
  generalize hAe : va_A [(g0, .inr (1, [.int (nI n), .ref gt])), (gt, .inl (d2, 300, .inl b))] s.heap.size = A at hD ⊢
  have hA : ∀ q : Nat, s.heap.size ≤ q → A q := fun q h => by rw [← hAe]; exact Or.inr h
  have hS : va_S A s.heap s.heap [] := va_S.rf
  have hP : va_P (dC, dI) vwCl [(g0, .inr (1, [.int (nI n), .ref gt])), (gt, .inl (d2, 300, .inl b))] s.heap := hP
  have hl := lv_entry ([.ref g0, .int p0]) (n := 2) (Nat.le_of_ble_eq_true rfl)
  rw [lg_entry_eq]
  generalize (lg_sl ([.ref g0, .int p0]) ++ List.replicate (2 - (lg_sl ([.ref g0, .int p0])).length) Slot.unset).toArray = ls at hl ⊢
  have hl : lv_has ls 2 [(0, .ref g0), (1, .int p0)] := hl
  refine lv_iload_n hx hb dX1_set_0 rfl (lv_at hl 1 rfl) ?_
  refine lv_iconst (v := nI 2) hx hb dX1_set_1 (by decide +kernel) ?_
  refine lv_icmp_lt (tgt := 18) hx hb dX1_set_2 (by decide) (fun c2 => ?_) (fun c2 => ?_)
  · refine lv_iconst (v := -1) hx hb dX1_set_18 (by decide +kernel) ?_
    exact W.iret (v := -1) hx hb hr (fun t ht hW => ⟨⟨-1, n, rfl, Or.inr ⟨fun N hN => sx_nlo (by omega) c2 hN.1 (by have := hN.2.1; omega) hN.2.2.2, rfl, rfl⟩, by rw [ht]; exact hP, hD⟩, hS.F ht⟩) hS.2.2 dX1_set_19
  · refine lv_iload_n hx hb dX1_set_5 rfl (lv_at hl 1 rfl) ?_
    refine lv_bipush (v := nI 120) hx hb dX1_set_6 (by decide +kernel) ?_
    refine lv_icmp_gt (tgt := 18) hx hb dX1_set_8 (by decide) (fun c8 => ?_) (fun c8 => ?_)
    · refine lv_iconst (v := -1) hx hb dX1_set_18 (by decide +kernel) ?_
      have hc := sx_ltI c8
      have e120 : (nI 120).toInt = 120 := by decide
      exact W.iret (v := -1) hx hb hr (fun t ht hW => ⟨⟨-1, n, rfl, Or.inr ⟨fun N hN => by have h1 := hN.2.1; have h2 := hN.2.2.2; rw [h2, e120, nI_toInt (by omega)] at hc; omega, rfl, rfl⟩, by rw [ht]; exact hP, hD⟩, hS.F ht⟩) hS.2.2 dX1_set_19
    · obtain ⟨N, hN1, hN2, rfl⟩ := sx_rng (x := p0) (a := 2) (b := 120) (by omega) (by omega) c2 (Int32.le_iff_toInt_le.mpr (sx_nltI c8))
      refine lv_iload_n hx hb dX1_set_11 rfl (lv_at hl 1 rfl) ?_
      have hFc := sx_fr hA hS
      refine va_calli (va_runS (As := [.int (nI N)]) (rest := []) ⟨hx, hb, hml, hown, hts⟩ (metX1_isSquare l s.heap.size N (by omega)) (va_cwS 1 hts (lw_S q112 q113 q12 q114) rfl rfl rfl (by decide +kernel) ⟨Nat.le_of_ble_eq_true rfl, Nat.le_of_ble_eq_true rfl⟩) ⟨fun a U g mk q => by obtain ⟨q0, q1⟩ := q; exact ⟨q0, q1⟩, fun U hU hW => ⟨rfl, congrArg Array.size hU⟩⟩ rfl rfl hl.1 rfl (lv_room (Nat.le_of_ble_eq_true rfl)) dX1_set_12 ⟨Nat.le_of_ble_eq_true rfl, Nat.le_of_ble_eq_true rfl⟩) hS (fun q _ h => hFc q h) hFc (fun r1 u t H1 locs ht hvm hw hB hz1 hk1 hS => ?_)
      have hP := sx_keep hP hk1
      generalize H1 = H at hP hS ⊢
      rcases hw with ⟨rfl, q, hq⟩ | ⟨rfl, hq⟩
      · refine lv_if_eq (tgt := 20) hx hb dX1_set_15 (by decide) (fun c15 => False.elim (absurd c15 (by decide))) (fun c15 => ?_)
        refine lv_iconst (v := -1) hx hb dX1_set_18 (by decide +kernel) ?_
        exact W.iret (v := -1) hx hb hr (fun t ht hW => ⟨⟨-1, n, rfl, Or.inr ⟨fun N' hN' => hN'.2.2.1 q (by rw [hq]; exact sx_eq (by omega) (by have := hN'.2.1; omega) hN'.2.2.2), rfl, rfl⟩, by rw [ht]; exact hP, hD⟩, hS.F ht⟩) hS.2.2 dX1_set_19
      · refine lv_if_eq (tgt := 20) hx hb dX1_set_15 (by decide) (fun c15 => ?_) (fun c15 => False.elim (c15 rfl))
        refine lv_aload_n hx hb dX1_set_20 rfl (lv_at hl 0 rfl) ?_
        refine lv_iload_n hx hb dX1_set_21 rfl (lv_at hl 1 rfl) ?_
        refine va_put (D := (dC, dI)) (ci := 1) (v := .int (nI N)) (ty := .int) (C := RX1) (T := TX1) (N := 2) hx hb hts in_X1 tyX1 tyX1_ok nmX1 hown hK hP hD hS 0 rfl rfl 0 (by decide) (hts _ q101) (fun _ h9 => h9) rfl (by decide +kernel) rfl rfl (Nat.le_of_ble_eq_true rfl) dX1_set_22 (fun H locs hP hD hS => ?_)
        have hP : va_P (dC, dI) vwCl [(g0, .inr (1, [.int (nI N), .ref gt])), (gt, .inl (d2, 300, .inl b))] H := hP
        have hD : va_D A [(g0, .inr (1, [.int (nI N), .ref gt])), (gt, .inl (d2, 300, .inl b))] := hD
        refine lv_iconst (v := nI 0) hx hb dX1_set_25 (by decide +kernel) ?_
        exact W.iret (v := nI 0) hx hb hr (fun t ht hW => ⟨⟨nI 0, N, rfl, Or.inl ⟨⟨hN1, hN2, hq, rfl⟩, nI_0⟩, by rw [ht]; exact hP, hD⟩, hS.F ht⟩) hS.2.2 dX1_set_26

abbrev wsX1_write : List Cond := ws_ yX1_write cX1_write 6 none
abbrev rmX1_write : Room := ({ frames := 1, cells := 0, slots := 0, locals := 23 } : Room)
set_option maxHeartbeats 4000000 in
set_option maxRecDepth 100000 in
theorem metX1_write (l : Launch) (dC : Nat → ClassId) (dI : Nat → Nat → Nat) (sz : Nat) (g0 gt : Nat) (d2 : ClassId) (b : Nat → Int32) (n : Nat) (r P : Nat) (hA0 : sq_A r n P) : Met l yX1_write wsX1_write rmX1_write (va_Pc [.ref g0] (fun U => U.heap.size = sz ∧ va_P (dC, dI) vwCl [(g0, .inr (1, [.int (nI n), .ref gt])), (gt, .inl (d2, 300, .inl b))] U.heap ∧ va_K (dC, dI) vwCl [(d2, .int)] U ∧ va_D (fun _ => True) [(g0, .inr (1, [.int (nI n), .ref gt])), (gt, .inl (d2, 300, .inl b))])) (va_Qv (fun (b' : Nat → Int32) => ∀ i, i < 300 → b' i = nI (sq_t r n i)) (fun (b' : Nat → Int32) t => va_P (dC, dI) vwCl [(g0, .inr (1, [.int (nI n), .ref gt])), (gt, .inl (d2, 300, .inl b'))] t.heap ∧ va_D (va_A [(g0, .inr (1, [.int (nI n), .ref gt])), (gt, .inl (d2, 300, .inl b))] sz) [(g0, .inr (1, [.int (nI n), .ref gt])), (gt, .inl (d2, 300, .inl b'))]) (va_A [(g0, .inr (1, [.int (nI n), .ref gt])), (gt, .inl (d2, 300, .inl b))] sz)) 0 0 (va_A [(g0, .inr (1, [.int (nI n), .ref gt])), (gt, .inl (d2, 300, .inl b))] sz) := by
  refine Met.ofW (cc := cX1_write) (maxL := 6) (ret := none) (by decide) rfl ?_
  intro p e s m args below meth c s₁ B hml hv
  obtain ⟨rfl, hsz, hP, hK, hD0⟩ := hv
  have hx := B.exec
  have hb := B.bytes
  have hr := B.returns
  have hts := atoms_spec (ws := wsX1_write) B.pre
  have hts : ∀ w ∈ lw_all, w.before _ s = true := fun w h => hts w (List.mem_cons_of_mem _ h)
  have hown : s.vm.findClass RX1 = some m.cls := findClass_of_methodNamed B.named
  have hlocks := B.notSynchronized
  subst hsz
  have hD := hD0.self (sz := s.heap.size)
  generalize hAe : va_A [(g0, .inr (1, [.int (nI n), .ref gt])), (gt, .inl (d2, 300, .inl b))] s.heap.size = A at hD ⊢
  have hA : ∀ q : Nat, s.heap.size ≤ q → A q := fun q h => by rw [← hAe]; exact Or.inr h
  have hS : va_S A s.heap s.heap [] := va_S.rf
  have hP : va_P (dC, dI) vwCl [(g0, .inr (1, [.int (nI n), .ref gt])), (gt, .inl (d2, 300, .inl b))] s.heap := hP
  have hl := lv_entry ([.ref g0]) (n := 6) (Nat.le_of_ble_eq_true rfl)
  rw [lg_entry_eq]
  generalize (lg_sl ([.ref g0]) ++ List.replicate (6 - (lg_sl ([.ref g0])).length) Slot.unset).toArray = ls at hl ⊢
  have hl : lv_has ls 6 [(0, .ref g0)] := hl
  obtain ⟨hn1, hn2, hr1, hr2, hP1, hP2, hr3⟩ := hA0.1
  have loop : ∀ (k : Nat) (i : Nat) (M : Nat) (D : Nat) (b' : Nat → Int32) (H : Heap) (locs : List Loc), (300 - i < k) → (i ≤ 300) → (sq_q r n i = (M, D)) → (∀ j, j < i → b' j = nI (sq_t r n j)) → va_P (dC, dI) vwCl [(g0, .inr (1, [.int (nI n), .ref gt])), (gt, .inl (d2, 300, .inl b'))] H → va_D A [(g0, .inr (1, [.int (nI n), .ref gt])), (gt, .inl (d2, 300, .inl b'))] → va_S A s.heap H locs → ∀ (ls : Array Slot), lv_has ls 6 [(0, .ref g0), (1, .int (nI r)), (2, .int (nI M)), (3, .int (nI D)), (4, .int (nI i))] → W p l e (headSpec wsX1_write rmX1_write).room s m ([.ref g0] : List Value).toArray below meth c H locs 0 0 (MQ below (va_Qv (fun (b' : Nat → Int32) => ∀ i, i < 300 → b' i = nI (sq_t r n i)) (fun (b' : Nat → Int32) t => va_P (dC, dI) vwCl [(g0, .inr (1, [.int (nI n), .ref gt])), (gt, .inl (d2, 300, .inl b'))] t.heap ∧ va_D A [(g0, .inr (1, [.int (nI n), .ref gt])), (gt, .inl (d2, 300, .inl b'))]) A) ([.ref g0] : List Value).toArray s 0 0 A) (F0 m 15 ls []) := by
    intro k
    induction k with
    | zero =>
      intro i M D b' H locs hk
      exact absurd hk (Nat.not_lt_zero _)
    | succ k ih =>
      intro i M D b' H locs hk hi hq hbi hP hD hS ls hl
      obtain ⟨hg1, hg2, hg3, hg4, hg5⟩ : 0 < D ∧ D ≤ 1000 ∧ M ≤ 1000 ∧ M ≤ (r + M) / D * D ∧ ((r + M) / D * D - M) * ((r + M) / D * D - M) ≤ n := by
        have h := hA0.2.1 i
        rw [hq] at h
        exact h
      refine lv_iload hx hb dX1_write_15 (lv_at hl 4 rfl) ?_
      refine lv_sipush (v := nI 300) hx hb dX1_write_17 (by decide +kernel) ?_
      refine lv_icmp_ge (tgt := 67) hx hb dX1_write_20 (by decide) (fun c20 => ?_) (fun c20 => ?_)
      · have hc : 300 ≤ i := sx_le (by omega) (by omega) c20
        exact W.vret hx hb hr (fun t ht hW => ⟨⟨b', rfl, fun j hj => hbi j (by omega), by rw [ht]; exact hP, hD⟩, hS.F ht⟩) hS.2.2 dX1_write_67
      · have hc : i < 300 := sx_gt (by omega) (by omega) c20
        refine lv_iload_n hx hb dX1_write_23 rfl (lv_at hl 3 rfl) ?_
        refine lv_if_eq (tgt := 67) hx hb dX1_write_24 (by decide) (fun c24 => False.elim (sx_ne0 hg1 (by omega) c24)) (fun c24 => ?_)
        obtain ⟨T, hT⟩ : ∃ T, T = (r + M) / D := ⟨_, rfl⟩
        rw [← hT] at hg4 hg5
        obtain ⟨M1, hM1⟩ : ∃ M1, M1 = T * D - M := ⟨_, rfl⟩
        rw [← hM1] at hg5
        obtain ⟨D1, hD1⟩ : ∃ D1, D1 = (n - M1 * M1) / D := ⟨_, rfl⟩
        refine lv_iload_n hx hb dX1_write_27 rfl (lv_at hl 1 rfl) ?_
        refine lv_iload_n hx hb dX1_write_28 rfl (lv_at hl 2 rfl) ?_
        refine lv_iadd hx hb dX1_write_29 ?_
        refine sx_i (y := nI (r + M)) (nI_add _ _) ?_
        refine lv_iload_n hx hb dX1_write_30 rfl (lv_at hl 3 rfl) ?_
        refine lv_idiv hx hb dX1_write_31 (sx_ne0 (by omega) (by omega)) ?_
        refine sx_i (y := nI T) (by rw [hT]; exact pk_div (by omega) (by omega) (by omega)) ?_
        refine lv_istore (lv' := [(5, .int (nI T)), (0, .ref g0), (1, .int (nI r)), (2, .int (nI M)), (3, .int (nI D)), (4, .int (nI i))]) hx hb dX1_write_32 hl (by decide) rfl (fun ls hl => ?_)
        refine lv_aload_n hx hb dX1_write_34 rfl (lv_at hl 1 rfl) ?_
        refine va_get (D := (dC, dI)) (ci := 1) (v := .ref gt) (C := RX1) (T := TX1) (N := 2) hx hb hts in_X1 hown hK hP 0 rfl rfl 1 (by decide) (hts _ q102) (fun _ h9 => h9) rfl dX1_write_35 ?_
        refine lv_iload hx hb dX1_write_38 (lv_at hl 5 rfl) ?_
        refine lv_iload hx hb dX1_write_40 (lv_at hl 0 rfl) ?_
        refine va_iast hx hb hK hP hD hS 1 0 rfl rfl (vp_in_nI (by omega) (by omega)) dX1_write_42 (fun H locs hP hD hS => ?_)
        have hP : va_P (dC, dI) vwCl [(g0, .inr (1, [.int (nI n), .ref gt])), (gt, .inl (d2, 300, .inl (upd b' (nI i).toNatClampNeg (nI T))))] H := hP
        have hD : va_D A [(g0, .inr (1, [.int (nI n), .ref gt])), (gt, .inl (d2, 300, .inl (upd b' (nI i).toNatClampNeg (nI T))))] := hD
        generalize eb1 : upd b' (nI i).toNatClampNeg (nI T) = b1 at hP hD
        refine lv_iload hx hb dX1_write_43 (lv_at hl 0 rfl) ?_
        refine lv_iload_n hx hb dX1_write_45 rfl (lv_at hl 4 rfl) ?_
        refine lv_imul hx hb dX1_write_46 ?_
        refine sx_i (y := nI (T * D)) (pk_mul _ _) ?_
        refine lv_iload_n hx hb dX1_write_47 rfl (lv_at hl 3 rfl) ?_
        refine lv_isub hx hb dX1_write_48 ?_
        refine sx_i (y := nI M1) (by rw [hM1]; exact pk_sub hg4) ?_
        refine lv_istore_n (lv' := [(2, .int (nI M1)), (5, .int (nI T)), (0, .ref g0), (1, .int (nI r)), (3, .int (nI D)), (4, .int (nI i))]) hx hb dX1_write_49 rfl hl (by decide) rfl (fun ls hl => ?_)
        refine lv_aload_n hx hb dX1_write_50 rfl (lv_at hl 2 rfl) ?_
        refine va_get (D := (dC, dI)) (ci := 1) (v := .int (nI n)) (C := RX1) (T := TX1) (N := 2) hx hb hts in_X1 hown hK hP 0 rfl rfl 0 (by decide) (hts _ q101) (fun _ h9 => h9) rfl dX1_write_51 ?_
        refine lv_iload_n hx hb dX1_write_54 rfl (lv_at hl 0 rfl) ?_
        refine lv_iload_n hx hb dX1_write_55 rfl (lv_at hl 0 rfl) ?_
        refine lv_imul hx hb dX1_write_56 ?_
        refine sx_i (y := nI (M1 * M1)) (pk_mul _ _) ?_
        refine lv_isub hx hb dX1_write_57 ?_
        refine sx_i (y := nI (n - (M1 * M1))) (pk_sub (by omega)) ?_
        refine lv_iload_n hx hb dX1_write_58 rfl (lv_at hl 4 rfl) ?_
        refine lv_idiv hx hb dX1_write_59 (sx_ne0 (by omega) (by omega)) ?_
        refine sx_i (y := nI D1) (by rw [hD1]; exact pk_div (by omega) (by omega) (by omega)) ?_
        refine lv_istore_n (lv' := [(3, .int (nI D1)), (2, .int (nI M1)), (5, .int (nI T)), (0, .ref g0), (1, .int (nI r)), (4, .int (nI i))]) hx hb dX1_write_60 rfl hl (by decide) rfl (fun ls hl => ?_)
        refine lv_iinc (v := nI (i + 1)) (lv' := [(4, .int (nI (i + 1))), (3, .int (nI D1)), (2, .int (nI M1)), (5, .int (nI T)), (0, .ref g0), (1, .int (nI r))]) hx hb dX1_write_61 hl (k := 5) rfl (sx_inc _) (by decide) rfl (fun ls hl => ?_)
        refine lv_goto (tgt := 15) hx hb dX1_write_64 (by decide) ?_
        exact ih (i + 1) M1 D1 b1 _ _ (by omega) (by omega) (by show sq_st r n (sq_q r n i) = _; rw [hq, hD1, hM1, hT]; rfl) (fun j hj => by
          rw [← eb1, sx_clamp (by omega)]
          by_cases h : j = i
          · rw [h, pk_us, hT]; unfold sq_t; rw [hq]
          · rw [pk_un h]; exact hbi j (by omega)) hP hD hS ls (lv_sub hl [4, 5, 2, 1, 0] rfl)
  refine lv_aload_n hx hb dX1_write_0 rfl (lv_at hl 0 rfl) ?_
  refine va_get (D := (dC, dI)) (ci := 1) (v := .int (nI n)) (C := RX1) (T := TX1) (N := 2) hx hb hts in_X1 hown hK hP 0 rfl rfl 0 (by decide) (hts _ q101) (fun _ h9 => h9) rfl dX1_write_1 ?_
  have hFc := sx_fr hA hS
  refine va_calli (va_runS (As := [.int (nI n)]) (rest := []) ⟨hx, hb, hml, hown, hts⟩ (metX1_rootOf l s.heap.size n (by omega)) (va_cwS 1 hts (lw_S q115 q116 q12 q117) rfl rfl rfl (by decide +kernel) ⟨Nat.le_of_ble_eq_true rfl, Nat.le_of_ble_eq_true rfl⟩) ⟨fun a U g mk q => by obtain ⟨q0, q1⟩ := q; exact ⟨q0, q1⟩, fun U hU hW => ⟨rfl, congrArg Array.size hU⟩⟩ rfl rfl hl.1 rfl (lv_room (Nat.le_of_ble_eq_true rfl)) dX1_write_4 ⟨Nat.le_of_ble_eq_true rfl, Nat.le_of_ble_eq_true rfl⟩) hS (fun q _ h => hFc q h) hFc (fun r1 u t H1 locs ht hvm hw hB hz1 hk1 hS => ?_)
  have hP := sx_keep hP hk1
  generalize H1 = H at hP hS ⊢
  obtain ⟨R, hrr, h1, h2⟩ := hw
  refine sx_i (y := nI r) (by rw [hrr, sx_root h1 h2 (Nat.le_of_lt hr1) hr2]) ?_
  refine lv_istore_n (lv' := [(1, .int (nI r)), (0, .ref g0)]) hx hb dX1_write_7 rfl hl (by decide) rfl (fun ls hl => ?_)
  refine lv_iconst (v := nI 0) hx hb dX1_write_8 (by decide +kernel) ?_
  refine lv_istore_n (lv' := [(2, .int (nI 0)), (1, .int (nI r)), (0, .ref g0)]) hx hb dX1_write_9 rfl hl (by decide) rfl (fun ls hl => ?_)
  refine lv_iconst (v := nI 1) hx hb dX1_write_10 (by decide +kernel) ?_
  refine lv_istore_n (lv' := [(3, .int (nI 1)), (2, .int (nI 0)), (1, .int (nI r)), (0, .ref g0)]) hx hb dX1_write_11 rfl hl (by decide) rfl (fun ls hl => ?_)
  refine lv_iconst (v := nI 0) hx hb dX1_write_12 (by decide +kernel) ?_
  refine lv_istore (lv' := [(4, .int (nI 0)), (3, .int (nI 1)), (2, .int (nI 0)), (1, .int (nI r)), (0, .ref g0)]) hx hb dX1_write_13 hl (by decide) rfl (fun ls hl => ?_)
  exact loop 301 0 0 1 b _ _ (by omega) (by omega) (rfl) (fun j hj => absurd hj (Nat.not_lt_zero j)) hP hD hS ls (lv_sub hl [4, 3, 2, 1, 0] rfl)

abbrev wsX1_term : List Cond := ws_ yX1_term cX1_term 2 (some .int)
abbrev rmX1_term : Room := ({ frames := 2, cells := 0, slots := 0, locals := 48 } : Room)
set_option maxHeartbeats 4000000 in
set_option maxRecDepth 100000 in
theorem metX1_term (l : Launch) (dC : Nat → ClassId) (dI : Nat → Nat → Nat) (sz : Nat) (g0 gt : Nat) (d2 : ClassId) (b : Nat → Int32) (n : Nat) (r P : Nat) (hA0 : sq_A r n P) (p0 : Int32) : Met l yX1_term wsX1_term rmX1_term (va_Pc [.ref g0, .int p0] (fun U => U.heap.size = sz ∧ va_P (dC, dI) vwCl [(g0, .inr (1, [.int (nI n), .ref gt])), (gt, .inl (d2, 300, .inl b))] U.heap ∧ va_K (dC, dI) vwCl [(d2, .int)] U ∧ va_D (fun _ => True) [(g0, .inr (1, [.int (nI n), .ref gt])), (gt, .inl (d2, 300, .inl b))])) (va_Qi (fun (res : Int32) (b' : Nat → Int32) => sp_term r n p0 res) (fun (b' : Nat → Int32) t => va_P (dC, dI) vwCl [(g0, .inr (1, [.int (nI n), .ref gt])), (gt, .inl (d2, 300, .inl b'))] t.heap ∧ va_D (va_A [(g0, .inr (1, [.int (nI n), .ref gt])), (gt, .inl (d2, 300, .inl b))] sz) [(g0, .inr (1, [.int (nI n), .ref gt])), (gt, .inl (d2, 300, .inl b'))]) (va_A [(g0, .inr (1, [.int (nI n), .ref gt])), (gt, .inl (d2, 300, .inl b))] sz)) 0 0 (va_A [(g0, .inr (1, [.int (nI n), .ref gt])), (gt, .inl (d2, 300, .inl b))] sz) := by
  refine Met.ofW (cc := cX1_term) (maxL := 2) (ret := (some .int)) (by decide) rfl ?_
  intro p e s m args below meth c s₁ B hml hv
  obtain ⟨rfl, hsz, hP, hK, hD0⟩ := hv
  have hx := B.exec
  have hb := B.bytes
  have hr := B.returns
  have hts := atoms_spec (ws := wsX1_term) B.pre
  have hts : ∀ w ∈ lw_all, w.before _ s = true := fun w h => hts w (List.mem_cons_of_mem _ h)
  have hown : s.vm.findClass RX1 = some m.cls := findClass_of_methodNamed B.named
  have hlocks := B.notSynchronized
  subst hsz
  have hD := hD0.self (sz := s.heap.size)
  generalize hAe : va_A [(g0, .inr (1, [.int (nI n), .ref gt])), (gt, .inl (d2, 300, .inl b))] s.heap.size = A at hD ⊢
  have hA : ∀ q : Nat, s.heap.size ≤ q → A q := fun q h => by rw [← hAe]; exact Or.inr h
  have hS : va_S A s.heap s.heap [] := va_S.rf
  have hP : va_P (dC, dI) vwCl [(g0, .inr (1, [.int (nI n), .ref gt])), (gt, .inl (d2, 300, .inl b))] s.heap := hP
  have hl := lv_entry ([.ref g0, .int p0]) (n := 2) (Nat.le_of_ble_eq_true rfl)
  rw [lg_entry_eq]
  generalize (lg_sl ([.ref g0, .int p0]) ++ List.replicate (2 - (lg_sl ([.ref g0, .int p0])).length) Slot.unset).toArray = ls at hl ⊢
  have hl : lv_has ls 2 [(0, .ref g0), (1, .int p0)] := hl
  refine lv_iload_n hx hb dX1_term_0 rfl (lv_at hl 1 rfl) ?_
  refine lv_if_lt (tgt := 10) hx hb dX1_term_1 (by decide) (fun c1 => ?_) (fun c1 => ?_)
  · refine lv_iconst (v := -1) hx hb dX1_term_10 (by decide +kernel) ?_
    exact W.iret (v := -1) hx hb hr (fun t ht hW => ⟨⟨-1, b, rfl, Or.inr ⟨fun j hj => sx_neg c1 j (by omega), rfl⟩, by rw [ht]; exact hP, hD⟩, hS.F ht⟩) hS.2.2 dX1_term_11
  · refine lv_iload_n hx hb dX1_term_4 rfl (lv_at hl 1 rfl) ?_
    refine lv_bipush (v := nI 100) hx hb dX1_term_5 (by decide +kernel) ?_
    refine lv_icmp_le (tgt := 12) hx hb dX1_term_7 (by decide) (fun c7 => ?_) (fun c7 => ?_)
    · obtain ⟨N, -, hN2, rfl⟩ := sx_rng (x := p0) (a := 0) (b := 100) (by omega) (by omega) c1 c7
      refine lv_aload_n hx hb dX1_term_12 rfl (lv_at hl 0 rfl) ?_
      have hPc := hP.sub (ws' := [(g0, .inr (1, [.int (nI n), .ref gt])), (gt, .inl (d2, 300, .inl b))]) [0, 1] rfl
      have hKc := hK.sub (tys' := [(d2, .int)]) [0] rfl
      have hDc := hD.sub (ws' := [(g0, .inr (1, [.int (nI n), .ref gt])), (gt, .inl (d2, 300, .inl b))]) [0, 1] (by decide) rfl
      have hFc := va_free (wc := [(g0, .inr (1, [.int (nI n), .ref gt])), (gt, .inl (d2, 300, .inl b))]) hD hS hA [0, 1] rfl
      refine va_callv (va_runV (As := []) (rest := []) ⟨hx, hb, hml, hown, hts⟩ (metX1_write l dC dI s.heap.size g0 gt d2 b n r P hA0) (cwV 0 hts (lw_V q123 q125 qs6 q12 q126) rfl rfl rfl (by decide +kernel) ⟨Nat.le_of_ble_eq_true rfl, Nat.le_of_ble_eq_true rfl⟩) ⟨fun a U g mk q => by obtain ⟨q0, q1, qP, qK, qD⟩ := q; exact ⟨q0, q1, qP, va_K.moved (u := U) (U := U.calling g mk a) (Vm.Alike.refl U.vm) qK, qD⟩, va_recv hKc hPc (ci := 1) (q0 := 0) rfl rfl, fun U hU hW => ⟨rfl, by rw [hU], by rw [hU]; exact hPc, va_K.moved hW.alike hKc, hDc.weaken (fun _ _ _ _ => trivial)⟩⟩ rfl rfl hl.1 rfl (lv_room (Nat.le_of_ble_eq_true rfl)) dX1_term_13 ⟨Nat.le_of_ble_eq_true rfl, Nat.le_of_ble_eq_true rfl⟩) hS (fun q _ h => hFc q h) hFc (fun b1 t H1 locs ht hvm hw hB hz1 hk1 hS => ?_)
      obtain ⟨hP1, hD1⟩ := hB
      rw [ht] at hP1
      obtain ⟨hP, hD⟩ := va_join (wr := []) (w1 := [(g0, .inr (1, [.int (nI n), .ref gt])), (gt, .inl (d2, 300, .inl b1))]) hP hD [0, 1] [] rfl rfl (by decide) (by decide) hk1 hFc hP1 hD1
      generalize H1 = H at hP hS ⊢
      have hP : va_P (dC, dI) vwCl [(g0, .inr (1, [.int (nI n), .ref gt])), (gt, .inl (d2, 300, .inl b1))] H := hP
      have hD : va_D A [(g0, .inr (1, [.int (nI n), .ref gt])), (gt, .inl (d2, 300, .inl b1))] := hD
      refine lv_aload_n hx hb dX1_term_16 rfl (lv_at hl 0 rfl) ?_
      refine va_get (D := (dC, dI)) (ci := 1) (v := .ref gt) (C := RX1) (T := TX1) (N := 2) hx hb hts in_X1 hown hK hP 0 rfl rfl 1 (by decide) (hts _ q102) (fun _ h9 => h9) rfl dX1_term_17 ?_
      refine lv_iload_n hx hb dX1_term_20 rfl (lv_at hl 1 rfl) ?_
      refine va_iald hx hb hK hP 1 0 rfl rfl (vp_in_nI (by omega) (by omega)) dX1_term_21 ?_
      refine sx_i (y := nI (sq_t r n N)) (sx_ald (by omega) (hw N (by omega))) ?_
      exact W.iret (v := nI (sq_t r n N)) hx hb hr (fun t ht hW => ⟨⟨nI (sq_t r n N), b1, rfl, Or.inl ⟨N, hN2, rfl, rfl⟩, by rw [ht]; exact hP, hD⟩, hS.F ht⟩) hS.2.2 dX1_term_22
    · refine lv_iconst (v := -1) hx hb dX1_term_10 (by decide +kernel) ?_
      exact W.iret (v := -1) hx hb hr (fun t ht hW => ⟨⟨-1, b, rfl, Or.inr ⟨fun j hj => sx_nhi (by omega) c7 hj, rfl⟩, by rw [ht]; exact hP, hD⟩, hS.F ht⟩) hS.2.2 dX1_term_11

abbrev wsX1_repeats : List Cond := ws_ yX1_repeats cX1_repeats 3 (some .boolean)
abbrev rmX1_repeats : Room := ({ frames := 0, cells := 0, slots := 0, locals := 0 } : Room)
set_option maxHeartbeats 4000000 in
set_option maxRecDepth 100000 in
theorem metX1_repeats (l : Launch) (dC : Nat → ClassId) (dI : Nat → Nat → Nat) (sz : Nat) (g0 gt : Nat) (d2 : ClassId) (b : Nat → Int32) (n : Nat) (r P : Nat) (hA0 : sq_A r n P) (hb0 : ∀ i, i < 300 → b i = nI (sq_t r n i)) (q : Nat) (hq0 : 0 < q) (hq1 : q < 150) : Met l yX1_repeats wsX1_repeats rmX1_repeats (va_Pc [.ref g0, .int (nI q)] (fun U => U.heap.size = sz ∧ va_P (dC, dI) vwCl [(g0, .inr (1, [.int (nI n), .ref gt])), (gt, .inl (d2, 300, .inl b))] U.heap ∧ va_K (dC, dI) vwCl [(d2, .int)] U)) (va_Qi (fun (res : Int32) (_ : Unit) => (res = 1 ∧ ∀ i, 0 < i → i + q < 300 → sq_t r n i = sq_t r n (i + q)) ∨ (res = 0 ∧ ∃ i, 0 < i ∧ i + q < 300 ∧ sq_t r n i ≠ sq_t r n (i + q))) (fun _ _ => True) (va_A [] sz)) 0 0 (va_A [] sz) := by
  refine Met.ofW (cc := cX1_repeats) (maxL := 3) (ret := (some .boolean)) (by decide) rfl ?_
  intro p e s m args below meth c s₁ B hml hv
  obtain ⟨rfl, hsz, hP, hK⟩ := hv
  have hx := B.exec
  have hb := B.bytes
  have hr := B.returns
  have hts := atoms_spec (ws := wsX1_repeats) B.pre
  have hts : ∀ w ∈ lw_all, w.before _ s = true := fun w h => hts w (List.mem_cons_of_mem _ h)
  have hown : s.vm.findClass RX1 = some m.cls := findClass_of_methodNamed B.named
  have hlocks := B.notSynchronized
  subst hsz
  generalize hAe : va_A ([] : va_W) s.heap.size = A
  have hA : ∀ q : Nat, s.heap.size ≤ q → A q := fun q h => by rw [← hAe]; exact Or.inr h
  have hS : va_S A s.heap s.heap [] := va_S.rf
  have hP : va_P (dC, dI) vwCl [(g0, .inr (1, [.int (nI n), .ref gt])), (gt, .inl (d2, 300, .inl b))] s.heap := hP
  have hl := lv_entry ([.ref g0, .int (nI q)]) (n := 3) (Nat.le_of_ble_eq_true rfl)
  rw [lg_entry_eq]
  generalize (lg_sl ([.ref g0, .int (nI q)]) ++ List.replicate (3 - (lg_sl ([.ref g0, .int (nI q)])).length) Slot.unset).toArray = ls at hl ⊢
  have hl : lv_has ls 3 [(0, .ref g0), (1, .int (nI q))] := hl
  have loop : ∀ (k : Nat) (i : Nat) (H : Heap) (locs : List Loc), (300 - i < k) → (0 < i) → (i ≤ 300) → (∀ j, 0 < j → j < i → sq_t r n j = sq_t r n (j + q)) → va_P (dC, dI) vwCl [(g0, .inr (1, [.int (nI n), .ref gt])), (gt, .inl (d2, 300, .inl b))] H → va_S A s.heap H locs → ∀ (ls : Array Slot), lv_has ls 3 [(0, .ref g0), (1, .int (nI q)), (2, .int (nI i))] → W p l e (headSpec wsX1_repeats rmX1_repeats).room s m ([.ref g0, .int (nI q)] : List Value).toArray below meth c H locs 0 0 (MQ below (va_Qi (fun (res : Int32) (_ : Unit) => (res = 1 ∧ ∀ i, 0 < i → i + q < 300 → sq_t r n i = sq_t r n (i + q)) ∨ (res = 0 ∧ ∃ i, 0 < i ∧ i + q < 300 ∧ sq_t r n i ≠ sq_t r n (i + q))) (fun _ _ => True) A) ([.ref g0, .int (nI q)] : List Value).toArray s 0 0 A) (F0 m 2 ls []) := by
    intro k
    induction k with
    | zero =>
      intro i H locs hk
      exact absurd hk (Nat.not_lt_zero _)
    | succ k ih =>
      intro i H locs hk hi hi2 hj hP hS ls hl
      refine lv_iload_n hx hb dX1_repeats_2 rfl (lv_at hl 2 rfl) ?_
      refine lv_iload_n hx hb dX1_repeats_3 rfl (lv_at hl 1 rfl) ?_
      refine lv_iadd hx hb dX1_repeats_4 ?_
      refine sx_i (y := nI (i + q)) (nI_add _ _) ?_
      refine lv_sipush (v := nI 300) hx hb dX1_repeats_5 (by decide +kernel) ?_
      refine lv_icmp_ge (tgt := 36) hx hb dX1_repeats_8 (by decide) (fun c8 => ?_) (fun c8 => ?_)
      · have hc : 300 ≤ i + q := sx_le (by omega) (by omega) c8
        refine lv_iconst (v := nI 1) hx hb dX1_repeats_36 (by decide +kernel) ?_
        exact W.zret (v := nI 1) hx hb hr rfl (fun t ht hW => ⟨⟨nI 1, (), rfl, Or.inl ⟨rfl, fun j h1 h2 => hj j h1 (by omega)⟩, trivial⟩, hS.F ht⟩) hS.2.2 dX1_repeats_37
      · have hc : i + q < 300 := sx_gt (by omega) (by omega) c8
        have ht1 := sq_t_le hA0 i
        have ht2 := sq_t_le hA0 (i + q)
        refine lv_aload_n hx hb dX1_repeats_11 rfl (lv_at hl 0 rfl) ?_
        refine va_get (D := (dC, dI)) (ci := 1) (v := .ref gt) (C := RX1) (T := TX1) (N := 2) hx hb hts in_X1 hown hK hP 0 rfl rfl 1 (by decide) (hts _ q102) (fun _ h9 => h9) rfl dX1_repeats_12 ?_
        refine lv_iload_n hx hb dX1_repeats_15 rfl (lv_at hl 2 rfl) ?_
        refine va_iald hx hb hK hP 1 0 rfl rfl (vp_in_nI (by omega) (by omega)) dX1_repeats_16 ?_
        refine sx_i (y := nI (sq_t r n i)) (sx_ald (by omega) (hb0 i (by omega))) ?_
        refine lv_aload_n hx hb dX1_repeats_17 rfl (lv_at hl 0 rfl) ?_
        refine va_get (D := (dC, dI)) (ci := 1) (v := .ref gt) (C := RX1) (T := TX1) (N := 2) hx hb hts in_X1 hown hK hP 0 rfl rfl 1 (by decide) (hts _ q102) (fun _ h9 => h9) rfl dX1_repeats_18 ?_
        refine lv_iload_n hx hb dX1_repeats_21 rfl (lv_at hl 2 rfl) ?_
        refine lv_iload_n hx hb dX1_repeats_22 rfl (lv_at hl 1 rfl) ?_
        refine lv_iadd hx hb dX1_repeats_23 ?_
        refine sx_i (y := nI (i + q)) (nI_add _ _) ?_
        refine va_iald hx hb hK hP 1 0 rfl rfl (vp_in_nI (by omega) (by omega)) dX1_repeats_24 ?_
        refine sx_i (y := nI (sq_t r n (i + q))) (sx_ald (by omega) (hb0 (i + q) (by omega))) ?_
        refine lv_icmp_eq (tgt := 30) hx hb dX1_repeats_25 (by decide) (fun c25 => ?_) (fun c25 => ?_)
        · have he := sx_eq (by omega) (by omega) c25
          refine lv_iinc (v := nI (i + 1)) (lv' := [(2, .int (nI (i + 1))), (0, .ref g0), (1, .int (nI q))]) hx hb dX1_repeats_30 hl (k := 2) rfl (sx_inc _) (by decide) rfl (fun ls hl => ?_)
          refine lv_goto (tgt := 2) hx hb dX1_repeats_33 (by decide) ?_
          exact ih (i + 1) _ _ (by omega) (by omega) (by omega) (fun j h1 h2 => by
            by_cases h : j = i
            · rw [h]; exact he
            · exact hj j h1 (by omega)) hP hS ls (lv_sub hl [1, 2, 0] rfl)
        · refine lv_iconst (v := nI 0) hx hb dX1_repeats_28 (by decide +kernel) ?_
          exact W.zret (v := nI 0) hx hb hr rfl (fun t ht hW => ⟨⟨nI 0, (), rfl, Or.inr ⟨rfl, i, hi, hc, sx_ne (by omega) (by omega) c25⟩, trivial⟩, hS.F ht⟩) hS.2.2 dX1_repeats_29
  refine lv_iconst (v := nI 1) hx hb dX1_repeats_0 (by decide +kernel) ?_
  refine lv_istore_n (lv' := [(2, .int (nI 1)), (0, .ref g0), (1, .int (nI q))]) hx hb dX1_repeats_1 rfl hl (by decide) rfl (fun ls hl => ?_)
  exact loop 301 1 _ _ (by omega) (by omega) (by omega) (fun j h1 h2 => by omega) hP hS ls (lv_sub hl [1, 2, 0] rfl)

abbrev wsX1_period : List Cond := ws_ yX1_period cX1_period 2 (some .int)
abbrev rmX1_period : Room := ({ frames := 2, cells := 0, slots := 0, locals := 48 } : Room)
set_option maxHeartbeats 4000000 in
set_option maxRecDepth 100000 in
theorem metX1_period (l : Launch) (dC : Nat → ClassId) (dI : Nat → Nat → Nat) (sz : Nat) (g0 gt : Nat) (d2 : ClassId) (b : Nat → Int32) (n : Nat) (r P : Nat) (hA0 : sq_A r n P) : Met l yX1_period wsX1_period rmX1_period (va_Pc [.ref g0] (fun U => U.heap.size = sz ∧ va_P (dC, dI) vwCl [(g0, .inr (1, [.int (nI n), .ref gt])), (gt, .inl (d2, 300, .inl b))] U.heap ∧ va_K (dC, dI) vwCl [(d2, .int)] U ∧ va_D (fun _ => True) [(g0, .inr (1, [.int (nI n), .ref gt])), (gt, .inl (d2, 300, .inl b))])) (va_Qi (fun (res : Int32) (b' : Nat → Int32) => res = nI P) (fun (b' : Nat → Int32) t => va_P (dC, dI) vwCl [(g0, .inr (1, [.int (nI n), .ref gt])), (gt, .inl (d2, 300, .inl b'))] t.heap ∧ va_D (va_A [(g0, .inr (1, [.int (nI n), .ref gt])), (gt, .inl (d2, 300, .inl b))] sz) [(g0, .inr (1, [.int (nI n), .ref gt])), (gt, .inl (d2, 300, .inl b'))]) (va_A [(g0, .inr (1, [.int (nI n), .ref gt])), (gt, .inl (d2, 300, .inl b))] sz)) 0 0 (va_A [(g0, .inr (1, [.int (nI n), .ref gt])), (gt, .inl (d2, 300, .inl b))] sz) := by
  refine Met.ofW (cc := cX1_period) (maxL := 2) (ret := (some .int)) (by decide) rfl ?_
  intro p e s m args below meth c s₁ B hml hv
  obtain ⟨rfl, hsz, hP, hK, hD0⟩ := hv
  have hx := B.exec
  have hb := B.bytes
  have hr := B.returns
  have hts := atoms_spec (ws := wsX1_period) B.pre
  have hts : ∀ w ∈ lw_all, w.before _ s = true := fun w h => hts w (List.mem_cons_of_mem _ h)
  have hown : s.vm.findClass RX1 = some m.cls := findClass_of_methodNamed B.named
  have hlocks := B.notSynchronized
  subst hsz
  have hD := hD0.self (sz := s.heap.size)
  generalize hAe : va_A [(g0, .inr (1, [.int (nI n), .ref gt])), (gt, .inl (d2, 300, .inl b))] s.heap.size = A at hD ⊢
  have hA : ∀ q : Nat, s.heap.size ≤ q → A q := fun q h => by rw [← hAe]; exact Or.inr h
  have hS : va_S A s.heap s.heap [] := va_S.rf
  have hP : va_P (dC, dI) vwCl [(g0, .inr (1, [.int (nI n), .ref gt])), (gt, .inl (d2, 300, .inl b))] s.heap := hP
  have hl := lv_entry ([.ref g0]) (n := 2) (Nat.le_of_ble_eq_true rfl)
  rw [lg_entry_eq]
  generalize (lg_sl ([.ref g0]) ++ List.replicate (2 - (lg_sl ([.ref g0])).length) Slot.unset).toArray = ls at hl ⊢
  have hl : lv_has ls 2 [(0, .ref g0)] := hl
  obtain ⟨hn1, hn2, hr1, hr2, hP1, hP2, hr3⟩ := hA0.1
  have loop : ∀ (k : Nat) (q : Nat) (b' : Nat → Int32) (H : Heap) (locs : List Loc), (P - q < k) → (0 < q) → (q ≤ P) → (∀ i, i < 300 → b' i = nI (sq_t r n i)) → va_P (dC, dI) vwCl [(g0, .inr (1, [.int (nI n), .ref gt])), (gt, .inl (d2, 300, .inl b'))] H → va_D A [(g0, .inr (1, [.int (nI n), .ref gt])), (gt, .inl (d2, 300, .inl b'))] → va_S A s.heap H locs → ∀ (ls : Array Slot), lv_has ls 2 [(0, .ref g0), (1, .int (nI q))] → W p l e (headSpec wsX1_period rmX1_period).room s m ([.ref g0] : List Value).toArray below meth c H locs 0 0 (MQ below (va_Qi (fun (res : Int32) (b' : Nat → Int32) => res = nI P) (fun (b' : Nat → Int32) t => va_P (dC, dI) vwCl [(g0, .inr (1, [.int (nI n), .ref gt])), (gt, .inl (d2, 300, .inl b'))] t.heap ∧ va_D A [(g0, .inr (1, [.int (nI n), .ref gt])), (gt, .inl (d2, 300, .inl b'))]) A) ([.ref g0] : List Value).toArray s 0 0 A) (F0 m 6 ls []) := by
    intro k
    induction k with
    | zero =>
      intro q b' H locs hk
      exact absurd hk (Nat.not_lt_zero _)
    | succ k ih =>
      intro q b' H locs hk hq hq2 hb1 hP hD hS ls hl
      refine lv_iload_n hx hb dX1_period_6 rfl (lv_at hl 1 rfl) ?_
      refine lv_sipush (v := nI 150) hx hb dX1_period_7 (by decide +kernel) ?_
      refine lv_icmp_ge (tgt := 29) hx hb dX1_period_10 (by decide) (fun c10 => False.elim (by have h := sx_le (by omega) (by omega) c10; omega)) (fun c10 => ?_)
      refine lv_aload_n hx hb dX1_period_13 rfl (lv_at hl 0 rfl) ?_
      refine lv_iload_n hx hb dX1_period_14 rfl (lv_at hl 1 rfl) ?_
      have hPc := hP.sub (ws' := [(g0, .inr (1, [.int (nI n), .ref gt])), (gt, .inl (d2, 300, .inl b'))]) [0, 1] rfl
      have hKc := hK.sub (tys' := [(d2, .int)]) [0] rfl
      have hFc := sx_fr hA hS
      refine va_calli (va_runV (As := [.int (nI q)]) (rest := []) ⟨hx, hb, hml, hown, hts⟩ (metX1_repeats l dC dI H.size g0 gt d2 b' n r P hA0 hb1 q hq (by omega)) (cwV 1 hts (lw_V q131 q133 qs7 q12 q134) rfl rfl rfl (by decide +kernel) ⟨Nat.le_of_ble_eq_true rfl, Nat.le_of_ble_eq_true rfl⟩) ⟨fun a U g mk q => by obtain ⟨q0, q1, qP, qK⟩ := q; exact ⟨q0, q1, qP, va_K.moved (u := U) (U := U.calling g mk a) (Vm.Alike.refl U.vm) qK⟩, va_recv hKc hPc (ci := 1) (q0 := 0) rfl rfl, fun U hU hW => ⟨rfl, by rw [hU], by rw [hU]; exact hPc, va_K.moved hW.alike hKc⟩⟩ rfl rfl hl.1 rfl (lv_room (Nat.le_of_ble_eq_true rfl)) dX1_period_15 ⟨Nat.le_of_ble_eq_true rfl, Nat.le_of_ble_eq_true rfl⟩) hS (fun q _ h => hFc q h) hFc (fun r1 u t H1 locs ht hvm hw hB hz1 hk1 hS => ?_)
      have hP := sx_keep hP hk1
      generalize H1 = H at hP hS ⊢
      rcases hw with ⟨rfl, hw⟩ | ⟨rfl, hw⟩
      · refine lv_if_eq (tgt := 23) hx hb dX1_period_18 (by decide) (fun c18 => False.elim (absurd c18 (by decide))) (fun c18 => ?_)
        refine lv_iload_n hx hb dX1_period_21 rfl (lv_at hl 1 rfl) ?_
        have hqP : q = P := by
          rcases Nat.lt_or_ge q P with h | h
          · obtain ⟨i, h1, h2, h3⟩ := hA0.2.2.2.2 q hq h
            exact absurd (hw i h1 h2) h3
          · omega
        exact W.iret (v := nI q) hx hb hr (fun t ht hW => ⟨⟨nI q, b', rfl, by rw [hqP], by rw [ht]; exact hP, hD⟩, hS.F ht⟩) hS.2.2 dX1_period_22
      · refine lv_if_eq (tgt := 23) hx hb dX1_period_18 (by decide) (fun c18 => ?_) (fun c18 => False.elim (c18 rfl))
        have hqP : q ≠ P := by
          intro h
          obtain ⟨i, h1, h2, h3⟩ := hw
          rw [h, sq_tper hA0.2.2.2.1 i h1] at h3
          exact h3 rfl
        refine lv_iinc (v := nI (q + 1)) (lv' := [(1, .int (nI (q + 1))), (0, .ref g0)]) hx hb dX1_period_23 hl (k := 1) rfl (sx_inc _) (by decide) rfl (fun ls hl => ?_)
        refine lv_goto (tgt := 6) hx hb dX1_period_26 (by decide) ?_
        exact ih (q + 1) b' _ _ (by omega) (by omega) (by omega) (hb1) hP hD hS ls (lv_sub hl [1, 0] rfl)
  refine lv_aload_n hx hb dX1_period_0 rfl (lv_at hl 0 rfl) ?_
  have hPc := hP.sub (ws' := [(g0, .inr (1, [.int (nI n), .ref gt])), (gt, .inl (d2, 300, .inl b))]) [0, 1] rfl
  have hKc := hK.sub (tys' := [(d2, .int)]) [0] rfl
  have hDc := hD.sub (ws' := [(g0, .inr (1, [.int (nI n), .ref gt])), (gt, .inl (d2, 300, .inl b))]) [0, 1] (by decide) rfl
  have hFc := va_free (wc := [(g0, .inr (1, [.int (nI n), .ref gt])), (gt, .inl (d2, 300, .inl b))]) hD hS hA [0, 1] rfl
  refine va_callv (va_runV (As := []) (rest := []) ⟨hx, hb, hml, hown, hts⟩ (metX1_write l dC dI s.heap.size g0 gt d2 b n r P hA0) (cwV 0 hts (lw_V q123 q125 qs6 q12 q126) rfl rfl rfl (by decide +kernel) ⟨Nat.le_of_ble_eq_true rfl, Nat.le_of_ble_eq_true rfl⟩) ⟨fun a U g mk q => by obtain ⟨q0, q1, qP, qK, qD⟩ := q; exact ⟨q0, q1, qP, va_K.moved (u := U) (U := U.calling g mk a) (Vm.Alike.refl U.vm) qK, qD⟩, va_recv hKc hPc (ci := 1) (q0 := 0) rfl rfl, fun U hU hW => ⟨rfl, by rw [hU], by rw [hU]; exact hPc, va_K.moved hW.alike hKc, hDc.weaken (fun _ _ _ _ => trivial)⟩⟩ rfl rfl hl.1 rfl (lv_room (Nat.le_of_ble_eq_true rfl)) dX1_period_1 ⟨Nat.le_of_ble_eq_true rfl, Nat.le_of_ble_eq_true rfl⟩) hS (fun q _ h => hFc q h) hFc (fun b1 t H1 locs ht hvm hw hB hz1 hk1 hS => ?_)
  obtain ⟨hP1, hD1⟩ := hB
  rw [ht] at hP1
  obtain ⟨hP, hD⟩ := va_join (wr := []) (w1 := [(g0, .inr (1, [.int (nI n), .ref gt])), (gt, .inl (d2, 300, .inl b1))]) hP hD [0, 1] [] rfl rfl (by decide) (by decide) hk1 hFc hP1 hD1
  generalize H1 = H at hP hS ⊢
  have hP : va_P (dC, dI) vwCl [(g0, .inr (1, [.int (nI n), .ref gt])), (gt, .inl (d2, 300, .inl b1))] H := hP
  have hD : va_D A [(g0, .inr (1, [.int (nI n), .ref gt])), (gt, .inl (d2, 300, .inl b1))] := hD
  refine lv_iconst (v := nI 1) hx hb dX1_period_4 (by decide +kernel) ?_
  refine lv_istore_n (lv' := [(1, .int (nI 1)), (0, .ref g0)]) hx hb dX1_period_5 rfl hl (by decide) rfl (fun ls hl => ?_)
  exact loop (P + 1) 1 b1 _ _ (by omega) (by omega) (by omega) (hw) hP hD hS ls (lv_sub hl [1, 0] rfl)
end
section
abbrev wsX1_solutions : List Cond := ws_ yX1_solutions cX1_solutions 5 (some .int)
abbrev rmX1_solutions : Room := ({ frames := 2, cells := 0, slots := 0, locals := 47 } : Room)
set_option maxHeartbeats 4000000 in
set_option maxRecDepth 100000 in
theorem metX1_solutions (l : Launch) (dC : Nat → ClassId) (dI : Nat → Nat → Nat) (sz : Nat) (g0 gt : Nat) (d2 : ClassId) (b : Nat → Int32) (n : Nat) (ka la : Int32) (hn : n ≤ 120) : Met l yX1_solutions wsX1_solutions rmX1_solutions (va_Pc [.ref g0, .int ka, .int la] (fun U => U.heap.size = sz ∧ va_P (dC, dI) vwCl [(g0, .inr (1, [.int (nI n), .ref gt])), (gt, .inl (d2, 300, .inl b))] U.heap ∧ va_K (dC, dI) vwCl [(d2, .int)] U)) (va_Qi (fun (res : Int32) (_ : Unit) => sp_4 (sp_Fc (fun _ => 1) n) n ka la res) (fun _ _ => True) (va_A [] sz)) 0 0 (va_A [] sz) := by
  refine Met.ofW (cc := cX1_solutions) (maxL := 5) (ret := (some .int)) (by decide) rfl ?_
  intro p e s m args below meth c s₁ B hml hv
  obtain ⟨rfl, hsz, hP, hK⟩ := hv
  have hx := B.exec
  have hb := B.bytes
  have hr := B.returns
  have hts := atoms_spec (ws := wsX1_solutions) B.pre
  have hts : ∀ w ∈ lw_all, w.before _ s = true := fun w h => hts w (List.mem_cons_of_mem _ h)
  have hown : s.vm.findClass RX1 = some m.cls := findClass_of_methodNamed B.named
  have hlocks := B.notSynchronized
  subst hsz
  generalize hAe : va_A ([] : va_W) s.heap.size = A
  have hA : ∀ q : Nat, s.heap.size ≤ q → A q := fun q h => by rw [← hAe]; exact Or.inr h
  have hS : va_S A s.heap s.heap [] := va_S.rf
  have hP : va_P (dC, dI) vwCl [(g0, .inr (1, [.int (nI n), .ref gt])), (gt, .inl (d2, 300, .inl b))] s.heap := hP
  have hl := lv_entry ([.ref g0, .int ka, .int la]) (n := 5) (Nat.le_of_ble_eq_true rfl)
  rw [lg_entry_eq]
  generalize (lg_sl ([.ref g0, .int ka, .int la]) ++ List.replicate (5 - (lg_sl ([.ref g0, .int ka, .int la])).length) Slot.unset).toArray = ls at hl ⊢
  have hl : lv_has ls 5 [(0, .ref g0), (1, .int ka), (2, .int la)] := hl
  refine lv_aload_n hx hb dX1_solutions_0 rfl (lv_at hl 0 rfl) ?_
  refine lv_iload_n hx hb dX1_solutions_1 rfl (lv_at hl 1 rfl) ?_
  refine lv_iload_n hx hb dX1_solutions_2 rfl (lv_at hl 2 rfl) ?_
  have hPc := hP.sub (ws' := [(g0, .inr (1, [.int (nI n), .ref gt])), (gt, .inl (d2, 300, .inl b))]) [0, 1] rfl
  have hKc := hK.sub (tys' := [(d2, .int)]) [0] rfl
  have hFc := sx_fr hA hS
  refine va_calli (va_runV (As := [.int ka, .int la]) (rest := []) ⟨hx, hb, hml, hown, hts⟩ (metX1_refused l dC dI s.heap.size g0 gt d2 b n ka la hn) (cwV 2 hts (lw_V q139 q141 qs8 q12 q142) rfl rfl rfl (by decide +kernel) ⟨Nat.le_of_ble_eq_true rfl, Nat.le_of_ble_eq_true rfl⟩) ⟨fun a U g mk q => by obtain ⟨q0, q1, qP, qK⟩ := q; exact ⟨q0, q1, qP, va_K.moved (u := U) (U := U.calling g mk a) (Vm.Alike.refl U.vm) qK⟩, va_recv hKc hPc (ci := 1) (q0 := 0) rfl rfl, fun U hU hW => ⟨rfl, by rw [hU], by rw [hU]; exact hPc, va_K.moved hW.alike hKc⟩⟩ rfl rfl hl.1 rfl (lv_room (Nat.le_of_ble_eq_true rfl)) dX1_solutions_3 ⟨Nat.le_of_ble_eq_true rfl, Nat.le_of_ble_eq_true rfl⟩) hS (fun q _ h => hFc q h) hFc (fun r1 u t H1 locs ht hvm hw hB hz1 hk1 hS => ?_)
  have hP := sx_keep hP hk1
  generalize H1 = H at hP hS ⊢
  rcases hw with ⟨rfl, z, L, ha, hL, ek, el⟩ | ⟨rfl, hw⟩
  · refine lv_if_eq (tgt := 11) hx hb dX1_solutions_6 (by decide) (fun c6 => ?_) (fun c6 => False.elim (c6 rfl))
    rw [ek, el] at hl
    obtain ⟨ha1, ha2, ha3, ha4⟩ := id ha
    have loop : ∀ (k : Nat) (y : Nat) (H : Heap) (locs : List Loc), (L + 1 - y < k) → (y ≤ L + 1) → va_P (dC, dI) vwCl [(g0, .inr (1, [.int (nI n), .ref gt])), (gt, .inl (d2, 300, .inl b))] H → va_S A s.heap H locs → ∀ (ls : Array Slot), lv_has ls 5 [(0, .ref g0), (1, .int (iI z)), (2, .int (nI L)), (3, .int (nI (sp_c (sp_sol n z) (fun _ => 1) y))), (4, .int (nI y))] → W p l e (headSpec wsX1_solutions rmX1_solutions).room s m ([.ref g0, .int ka, .int la] : List Value).toArray below meth c H locs 0 0 (MQ below (va_Qi (fun (res : Int32) (_ : Unit) => sp_4 (sp_Fc (fun _ => 1) n) n ka la res) (fun _ _ => True) A) ([.ref g0, .int ka, .int la] : List Value).toArray s 0 0 A) (F0 m 16 ls []) := by
      intro k
      induction k with
      | zero =>
        intro y H locs hk
        exact absurd hk (Nat.not_lt_zero _)
      | succ k ih =>
        intro y H locs hk hy hP hS ls hl
        refine lv_iload hx hb dX1_solutions_16 (lv_at hl 4 rfl) ?_
        refine lv_iload_n hx hb dX1_solutions_18 rfl (lv_at hl 2 rfl) ?_
        refine lv_icmp_gt (tgt := 41) hx hb dX1_solutions_19 (by decide) (fun c19 => ?_) (fun c19 => ?_)
        · have hc : L < y := sx_lt (by omega) (by omega) c19
          refine lv_iload_n hx hb dX1_solutions_41 rfl (lv_at hl 3 rfl) ?_
          exact W.iret (v := nI (sp_c (sp_sol n z) (fun _ => 1) y)) hx hb hr (fun t ht hW => ⟨⟨nI (sp_c (sp_sol n z) (fun _ => 1) y), (), rfl, Or.inl ⟨z, L, ha, hL, ek, el, by show nI (sp_c (sp_sol n z) (fun _ => 1) y) = nI (sp_c (sp_sol n z) (fun _ => 1) (L + 1)); rw [show y = L + 1 by omega]⟩, trivial⟩, hS.F ht⟩) hS.2.2 dX1_solutions_42
        · have hc : y ≤ L := sx_ge (by omega) (by omega) c19
          refine lv_aload_n hx hb dX1_solutions_22 rfl (lv_at hl 0 rfl) ?_
          refine lv_iload_n hx hb dX1_solutions_23 rfl (lv_at hl 1 rfl) ?_
          refine lv_iload hx hb dX1_solutions_24 (lv_at hl 4 rfl) ?_
          have hPc := hP.sub (ws' := [(g0, .inr (1, [.int (nI n), .ref gt])), (gt, .inl (d2, 300, .inl b))]) [0, 1] rfl
          have hKc := hK.sub (tys' := [(d2, .int)]) [0] rfl
          have hFc := sx_fr hA hS
          refine va_calli (va_runV (As := [.int (iI z), .int (nI y)]) (rest := []) ⟨hx, hb, hml, hown, hts⟩ (metX1_find l dC dI H.size g0 gt d2 b n z y hn ha1 ha2 (by omega)) (cwV 2 hts (lw_V q143 q145 qs9 q12 q146) rfl rfl rfl (by decide +kernel) ⟨Nat.le_of_ble_eq_true rfl, Nat.le_of_ble_eq_true rfl⟩) ⟨fun a U g mk q => by obtain ⟨q0, q1, qP, qK⟩ := q; exact ⟨q0, q1, qP, va_K.moved (u := U) (U := U.calling g mk a) (Vm.Alike.refl U.vm) qK⟩, va_recv hKc hPc (ci := 1) (q0 := 0) rfl rfl, fun U hU hW => ⟨rfl, by rw [hU], by rw [hU]; exact hPc, va_K.moved hW.alike hKc⟩⟩ rfl rfl hl.1 rfl (lv_room (Nat.le_of_ble_eq_true rfl)) dX1_solutions_26 ⟨Nat.le_of_ble_eq_true rfl, Nat.le_of_ble_eq_true rfl⟩) hS (fun q _ h => hFc q h) hFc (fun r2 u t H1 locs ht hvm hw hB hz1 hk1 hS => ?_)
          have hP := sx_keep hP hk1
          generalize H1 = H at hP hS ⊢
          obtain ⟨-, hnyy⟩ := sx_ny (n := n) (y := y) hn (by omega)
          rcases hw with ⟨Z, hZ, rfl⟩ | ⟨hs, rfl⟩
          · have hZb : Z < 2147483648 := by
              have h1 := Nat.le_mul_self Z
              generalize Z * Z = x at hZ h1
              omega
            have hs : sp_sol n z y := ⟨Z, hZ⟩
            refine lv_if_lt (tgt := 35) hx hb dX1_solutions_29 (by decide) (fun c29 => False.elim (nI_pos (by omega) c29)) (fun c29 => ?_)
            refine lv_iinc (v := nI (sp_c (sp_sol n z) (fun _ => 1) (y + 1))) (lv' := [(3, .int (nI (sp_c (sp_sol n z) (fun _ => 1) (y + 1)))), (0, .ref g0), (1, .int (iI z)), (2, .int (nI L)), (4, .int (nI y))]) hx hb dX1_solutions_32 hl (k := 3) rfl (by rw [sp_c_t hs]; exact sx_inc _) (by decide) rfl (fun ls hl => ?_)
            refine lv_iinc (v := nI (y + 1)) (lv' := [(4, .int (nI (y + 1))), (3, .int (nI (sp_c (sp_sol n z) (fun _ => 1) (y + 1)))), (0, .ref g0), (1, .int (iI z)), (2, .int (nI L))]) hx hb dX1_solutions_35 hl (k := 4) rfl (sx_inc _) (by decide) rfl (fun ls hl => ?_)
            refine lv_goto (tgt := 16) hx hb dX1_solutions_38 (by decide) ?_
            exact ih (y + 1) _ _ (by omega) (by omega) hP hS ls (lv_sub hl [2, 3, 4, 1, 0] rfl)
          · refine lv_if_lt (tgt := 35) hx hb dX1_solutions_29 (by decide) (fun c29 => ?_) (fun c29 => False.elim (c29 (by decide)))
            rw [← sp_c_f (w := (fun _ => 1)) hs] at hl
            refine lv_iinc (v := nI (y + 1)) (lv' := [(4, .int (nI (y + 1))), (0, .ref g0), (1, .int (iI z)), (2, .int (nI L)), (3, .int (nI (sp_c (sp_sol n z) (fun _ => 1) (y + 1))))]) hx hb dX1_solutions_35 hl (k := 4) rfl (sx_inc _) (by decide) rfl (fun ls hl => ?_)
            refine lv_goto (tgt := 16) hx hb dX1_solutions_38 (by decide) ?_
            exact ih (y + 1) _ _ (by omega) (by omega) hP hS ls (lv_sub hl [1, 2, 3, 4, 0] rfl)
    refine lv_iconst (v := nI 0) hx hb dX1_solutions_11 (by decide +kernel) ?_
    refine lv_istore_n (lv' := [(3, .int (nI 0)), (0, .ref g0), (1, .int (iI z)), (2, .int (nI L))]) hx hb dX1_solutions_12 rfl hl (by decide) rfl (fun ls hl => ?_)
    refine lv_iconst (v := nI 0) hx hb dX1_solutions_13 (by decide +kernel) ?_
    refine lv_istore (lv' := [(4, .int (nI 0)), (3, .int (nI 0)), (0, .ref g0), (1, .int (iI z)), (2, .int (nI L))]) hx hb dX1_solutions_14 hl (by decide) rfl (fun ls hl => ?_)
    exact loop (L + 2) 0 _ _ (by omega) (by omega) hP hS ls (lv_sub hl [2, 3, 4, 1, 0] rfl)
  · refine lv_if_eq (tgt := 11) hx hb dX1_solutions_6 (by decide) (fun c6 => False.elim (absurd c6 (by decide))) (fun c6 => ?_)
    refine lv_iconst (v := -1) hx hb dX1_solutions_9 (by decide +kernel) ?_
    exact W.iret (v := -1) hx hb hr (fun t ht hW => ⟨⟨-1, (), rfl, Or.inr ⟨hw, rfl⟩, trivial⟩, hS.F ht⟩) hS.2.2 dX1_solutions_10

abbrev wsX1_sum : List Cond := ws_ yX1_sum cX1_sum 5 (some .int)
abbrev rmX1_sum : Room := ({ frames := 2, cells := 0, slots := 0, locals := 47 } : Room)
set_option maxHeartbeats 4000000 in
set_option maxRecDepth 100000 in
theorem metX1_sum (l : Launch) (dC : Nat → ClassId) (dI : Nat → Nat → Nat) (sz : Nat) (g0 gt : Nat) (d2 : ClassId) (b : Nat → Int32) (n : Nat) (ka la : Int32) (hn : n ≤ 120) : Met l yX1_sum wsX1_sum rmX1_sum (va_Pc [.ref g0, .int ka, .int la] (fun U => U.heap.size = sz ∧ va_P (dC, dI) vwCl [(g0, .inr (1, [.int (nI n), .ref gt])), (gt, .inl (d2, 300, .inl b))] U.heap ∧ va_K (dC, dI) vwCl [(d2, .int)] U)) (va_Qi (fun (res : Int32) (_ : Unit) => sp_4 (sp_Fc (fun y => y) n) n ka la res) (fun _ _ => True) (va_A [] sz)) 0 0 (va_A [] sz) := by
  refine Met.ofW (cc := cX1_sum) (maxL := 5) (ret := (some .int)) (by decide) rfl ?_
  intro p e s m args below meth c s₁ B hml hv
  obtain ⟨rfl, hsz, hP, hK⟩ := hv
  have hx := B.exec
  have hb := B.bytes
  have hr := B.returns
  have hts := atoms_spec (ws := wsX1_sum) B.pre
  have hts : ∀ w ∈ lw_all, w.before _ s = true := fun w h => hts w (List.mem_cons_of_mem _ h)
  have hown : s.vm.findClass RX1 = some m.cls := findClass_of_methodNamed B.named
  have hlocks := B.notSynchronized
  subst hsz
  generalize hAe : va_A ([] : va_W) s.heap.size = A
  have hA : ∀ q : Nat, s.heap.size ≤ q → A q := fun q h => by rw [← hAe]; exact Or.inr h
  have hS : va_S A s.heap s.heap [] := va_S.rf
  have hP : va_P (dC, dI) vwCl [(g0, .inr (1, [.int (nI n), .ref gt])), (gt, .inl (d2, 300, .inl b))] s.heap := hP
  have hl := lv_entry ([.ref g0, .int ka, .int la]) (n := 5) (Nat.le_of_ble_eq_true rfl)
  rw [lg_entry_eq]
  generalize (lg_sl ([.ref g0, .int ka, .int la]) ++ List.replicate (5 - (lg_sl ([.ref g0, .int ka, .int la])).length) Slot.unset).toArray = ls at hl ⊢
  have hl : lv_has ls 5 [(0, .ref g0), (1, .int ka), (2, .int la)] := hl
  refine lv_aload_n hx hb dX1_sum_0 rfl (lv_at hl 0 rfl) ?_
  refine lv_iload_n hx hb dX1_sum_1 rfl (lv_at hl 1 rfl) ?_
  refine lv_iload_n hx hb dX1_sum_2 rfl (lv_at hl 2 rfl) ?_
  have hPc := hP.sub (ws' := [(g0, .inr (1, [.int (nI n), .ref gt])), (gt, .inl (d2, 300, .inl b))]) [0, 1] rfl
  have hKc := hK.sub (tys' := [(d2, .int)]) [0] rfl
  have hFc := sx_fr hA hS
  refine va_calli (va_runV (As := [.int ka, .int la]) (rest := []) ⟨hx, hb, hml, hown, hts⟩ (metX1_refused l dC dI s.heap.size g0 gt d2 b n ka la hn) (cwV 2 hts (lw_V q139 q141 qs8 q12 q142) rfl rfl rfl (by decide +kernel) ⟨Nat.le_of_ble_eq_true rfl, Nat.le_of_ble_eq_true rfl⟩) ⟨fun a U g mk q => by obtain ⟨q0, q1, qP, qK⟩ := q; exact ⟨q0, q1, qP, va_K.moved (u := U) (U := U.calling g mk a) (Vm.Alike.refl U.vm) qK⟩, va_recv hKc hPc (ci := 1) (q0 := 0) rfl rfl, fun U hU hW => ⟨rfl, by rw [hU], by rw [hU]; exact hPc, va_K.moved hW.alike hKc⟩⟩ rfl rfl hl.1 rfl (lv_room (Nat.le_of_ble_eq_true rfl)) dX1_sum_3 ⟨Nat.le_of_ble_eq_true rfl, Nat.le_of_ble_eq_true rfl⟩) hS (fun q _ h => hFc q h) hFc (fun r1 u t H1 locs ht hvm hw hB hz1 hk1 hS => ?_)
  have hP := sx_keep hP hk1
  generalize H1 = H at hP hS ⊢
  rcases hw with ⟨rfl, z, L, ha, hL, ek, el⟩ | ⟨rfl, hw⟩
  · refine lv_if_eq (tgt := 11) hx hb dX1_sum_6 (by decide) (fun c6 => ?_) (fun c6 => False.elim (c6 rfl))
    rw [ek, el] at hl
    obtain ⟨ha1, ha2, ha3, ha4⟩ := id ha
    have loop : ∀ (k : Nat) (y : Nat) (H : Heap) (locs : List Loc), (L + 1 - y < k) → (y ≤ L + 1) → va_P (dC, dI) vwCl [(g0, .inr (1, [.int (nI n), .ref gt])), (gt, .inl (d2, 300, .inl b))] H → va_S A s.heap H locs → ∀ (ls : Array Slot), lv_has ls 5 [(0, .ref g0), (1, .int (iI z)), (2, .int (nI L)), (3, .int (nI (sp_c (sp_sol n z) (fun y => y) y))), (4, .int (nI y))] → W p l e (headSpec wsX1_sum rmX1_sum).room s m ([.ref g0, .int ka, .int la] : List Value).toArray below meth c H locs 0 0 (MQ below (va_Qi (fun (res : Int32) (_ : Unit) => sp_4 (sp_Fc (fun y => y) n) n ka la res) (fun _ _ => True) A) ([.ref g0, .int ka, .int la] : List Value).toArray s 0 0 A) (F0 m 16 ls []) := by
      intro k
      induction k with
      | zero =>
        intro y H locs hk
        exact absurd hk (Nat.not_lt_zero _)
      | succ k ih =>
        intro y H locs hk hy hP hS ls hl
        refine lv_iload hx hb dX1_sum_16 (lv_at hl 4 rfl) ?_
        refine lv_iload_n hx hb dX1_sum_18 rfl (lv_at hl 2 rfl) ?_
        refine lv_icmp_gt (tgt := 43) hx hb dX1_sum_19 (by decide) (fun c19 => ?_) (fun c19 => ?_)
        · have hc : L < y := sx_lt (by omega) (by omega) c19
          refine lv_iload_n hx hb dX1_sum_43 rfl (lv_at hl 3 rfl) ?_
          exact W.iret (v := nI (sp_c (sp_sol n z) (fun y => y) y)) hx hb hr (fun t ht hW => ⟨⟨nI (sp_c (sp_sol n z) (fun y => y) y), (), rfl, Or.inl ⟨z, L, ha, hL, ek, el, by show nI (sp_c (sp_sol n z) (fun y => y) y) = nI (sp_c (sp_sol n z) (fun y => y) (L + 1)); rw [show y = L + 1 by omega]⟩, trivial⟩, hS.F ht⟩) hS.2.2 dX1_sum_44
        · have hc : y ≤ L := sx_ge (by omega) (by omega) c19
          refine lv_aload_n hx hb dX1_sum_22 rfl (lv_at hl 0 rfl) ?_
          refine lv_iload_n hx hb dX1_sum_23 rfl (lv_at hl 1 rfl) ?_
          refine lv_iload hx hb dX1_sum_24 (lv_at hl 4 rfl) ?_
          have hPc := hP.sub (ws' := [(g0, .inr (1, [.int (nI n), .ref gt])), (gt, .inl (d2, 300, .inl b))]) [0, 1] rfl
          have hKc := hK.sub (tys' := [(d2, .int)]) [0] rfl
          have hFc := sx_fr hA hS
          refine va_calli (va_runV (As := [.int (iI z), .int (nI y)]) (rest := []) ⟨hx, hb, hml, hown, hts⟩ (metX1_find l dC dI H.size g0 gt d2 b n z y hn ha1 ha2 (by omega)) (cwV 2 hts (lw_V q143 q145 qs9 q12 q146) rfl rfl rfl (by decide +kernel) ⟨Nat.le_of_ble_eq_true rfl, Nat.le_of_ble_eq_true rfl⟩) ⟨fun a U g mk q => by obtain ⟨q0, q1, qP, qK⟩ := q; exact ⟨q0, q1, qP, va_K.moved (u := U) (U := U.calling g mk a) (Vm.Alike.refl U.vm) qK⟩, va_recv hKc hPc (ci := 1) (q0 := 0) rfl rfl, fun U hU hW => ⟨rfl, by rw [hU], by rw [hU]; exact hPc, va_K.moved hW.alike hKc⟩⟩ rfl rfl hl.1 rfl (lv_room (Nat.le_of_ble_eq_true rfl)) dX1_sum_26 ⟨Nat.le_of_ble_eq_true rfl, Nat.le_of_ble_eq_true rfl⟩) hS (fun q _ h => hFc q h) hFc (fun r2 u t H1 locs ht hvm hw hB hz1 hk1 hS => ?_)
          have hP := sx_keep hP hk1
          generalize H1 = H at hP hS ⊢
          obtain ⟨-, hnyy⟩ := sx_ny (n := n) (y := y) hn (by omega)
          rcases hw with ⟨Z, hZ, rfl⟩ | ⟨hs, rfl⟩
          · have hZb : Z < 2147483648 := by
              have h1 := Nat.le_mul_self Z
              generalize Z * Z = x at hZ h1
              omega
            have hs : sp_sol n z y := ⟨Z, hZ⟩
            refine lv_if_lt (tgt := 37) hx hb dX1_sum_29 (by decide) (fun c29 => False.elim (nI_pos (by omega) c29)) (fun c29 => ?_)
            refine lv_iload_n hx hb dX1_sum_32 rfl (lv_at hl 3 rfl) ?_
            refine lv_iload hx hb dX1_sum_33 (lv_at hl 4 rfl) ?_
            refine lv_iadd hx hb dX1_sum_35 ?_
            refine sx_i (y := nI (sp_c (sp_sol n z) (fun y => y) (y + 1))) (by rw [sp_c_t hs]; exact nI_add _ _) ?_
            refine lv_istore_n (lv' := [(3, .int (nI (sp_c (sp_sol n z) (fun y => y) (y + 1)))), (0, .ref g0), (1, .int (iI z)), (2, .int (nI L)), (4, .int (nI y))]) hx hb dX1_sum_36 rfl hl (by decide) rfl (fun ls hl => ?_)
            refine lv_iinc (v := nI (y + 1)) (lv' := [(4, .int (nI (y + 1))), (3, .int (nI (sp_c (sp_sol n z) (fun y => y) (y + 1)))), (0, .ref g0), (1, .int (iI z)), (2, .int (nI L))]) hx hb dX1_sum_37 hl (k := 4) rfl (sx_inc _) (by decide) rfl (fun ls hl => ?_)
            refine lv_goto (tgt := 16) hx hb dX1_sum_40 (by decide) ?_
            exact ih (y + 1) _ _ (by omega) (by omega) hP hS ls (lv_sub hl [2, 3, 4, 1, 0] rfl)
          · refine lv_if_lt (tgt := 37) hx hb dX1_sum_29 (by decide) (fun c29 => ?_) (fun c29 => False.elim (c29 (by decide)))
            rw [← sp_c_f (w := (fun y => y)) hs] at hl
            refine lv_iinc (v := nI (y + 1)) (lv' := [(4, .int (nI (y + 1))), (0, .ref g0), (1, .int (iI z)), (2, .int (nI L)), (3, .int (nI (sp_c (sp_sol n z) (fun y => y) (y + 1))))]) hx hb dX1_sum_37 hl (k := 4) rfl (sx_inc _) (by decide) rfl (fun ls hl => ?_)
            refine lv_goto (tgt := 16) hx hb dX1_sum_40 (by decide) ?_
            exact ih (y + 1) _ _ (by omega) (by omega) hP hS ls (lv_sub hl [1, 2, 3, 4, 0] rfl)
    refine lv_iconst (v := nI 0) hx hb dX1_sum_11 (by decide +kernel) ?_
    refine lv_istore_n (lv' := [(3, .int (nI 0)), (0, .ref g0), (1, .int (iI z)), (2, .int (nI L))]) hx hb dX1_sum_12 rfl hl (by decide) rfl (fun ls hl => ?_)
    refine lv_iconst (v := nI 0) hx hb dX1_sum_13 (by decide +kernel) ?_
    refine lv_istore (lv' := [(4, .int (nI 0)), (3, .int (nI 0)), (0, .ref g0), (1, .int (iI z)), (2, .int (nI L))]) hx hb dX1_sum_14 hl (by decide) rfl (fun ls hl => ?_)
    exact loop (L + 2) 0 _ _ (by omega) (by omega) hP hS ls (lv_sub hl [2, 3, 4, 1, 0] rfl)
  · refine lv_if_eq (tgt := 11) hx hb dX1_sum_6 (by decide) (fun c6 => False.elim (absurd c6 (by decide))) (fun c6 => ?_)
    refine lv_iconst (v := -1) hx hb dX1_sum_9 (by decide +kernel) ?_
    exact W.iret (v := -1) hx hb hr (fun t ht hW => ⟨⟨-1, (), rfl, Or.inr ⟨hw, rfl⟩, trivial⟩, hS.F ht⟩) hS.2.2 dX1_sum_10

abbrev wsX1_next : List Cond := ws_ yX1_next cX1_next 4 (some .int)
abbrev rmX1_next : Room := ({ frames := 2, cells := 0, slots := 0, locals := 47 } : Room)
set_option maxHeartbeats 4000000 in
set_option maxRecDepth 100000 in
theorem metX1_next (l : Launch) (dC : Nat → ClassId) (dI : Nat → Nat → Nat) (sz : Nat) (g0 gt : Nat) (d2 : ClassId) (b : Nat → Int32) (n : Nat) (ka la : Int32) (hn : n ≤ 120) : Met l yX1_next wsX1_next rmX1_next (va_Pc [.ref g0, .int ka, .int la] (fun U => U.heap.size = sz ∧ va_P (dC, dI) vwCl [(g0, .inr (1, [.int (nI n), .ref gt])), (gt, .inl (d2, 300, .inl b))] U.heap ∧ va_K (dC, dI) vwCl [(d2, .int)] U)) (va_Qi (fun (res : Int32) (_ : Unit) => sp_4 (sp_Fn n) n ka la res) (fun _ _ => True) (va_A [] sz)) 0 0 (va_A [] sz) := by
  refine Met.ofW (cc := cX1_next) (maxL := 4) (ret := (some .int)) (by decide) rfl ?_
  intro p e s m args below meth c s₁ B hml hv
  obtain ⟨rfl, hsz, hP, hK⟩ := hv
  have hx := B.exec
  have hb := B.bytes
  have hr := B.returns
  have hts := atoms_spec (ws := wsX1_next) B.pre
  have hts : ∀ w ∈ lw_all, w.before _ s = true := fun w h => hts w (List.mem_cons_of_mem _ h)
  have hown : s.vm.findClass RX1 = some m.cls := findClass_of_methodNamed B.named
  have hlocks := B.notSynchronized
  subst hsz
  generalize hAe : va_A ([] : va_W) s.heap.size = A
  have hA : ∀ q : Nat, s.heap.size ≤ q → A q := fun q h => by rw [← hAe]; exact Or.inr h
  have hS : va_S A s.heap s.heap [] := va_S.rf
  have hP : va_P (dC, dI) vwCl [(g0, .inr (1, [.int (nI n), .ref gt])), (gt, .inl (d2, 300, .inl b))] s.heap := hP
  have hl := lv_entry ([.ref g0, .int ka, .int la]) (n := 4) (Nat.le_of_ble_eq_true rfl)
  rw [lg_entry_eq]
  generalize (lg_sl ([.ref g0, .int ka, .int la]) ++ List.replicate (4 - (lg_sl ([.ref g0, .int ka, .int la])).length) Slot.unset).toArray = ls at hl ⊢
  have hl : lv_has ls 4 [(0, .ref g0), (1, .int ka), (2, .int la)] := hl
  refine lv_aload_n hx hb dX1_next_0 rfl (lv_at hl 0 rfl) ?_
  refine lv_iload_n hx hb dX1_next_1 rfl (lv_at hl 1 rfl) ?_
  refine lv_iload_n hx hb dX1_next_2 rfl (lv_at hl 2 rfl) ?_
  have hPc := hP.sub (ws' := [(g0, .inr (1, [.int (nI n), .ref gt])), (gt, .inl (d2, 300, .inl b))]) [0, 1] rfl
  have hKc := hK.sub (tys' := [(d2, .int)]) [0] rfl
  have hFc := sx_fr hA hS
  refine va_calli (va_runV (As := [.int ka, .int la]) (rest := []) ⟨hx, hb, hml, hown, hts⟩ (metX1_refused l dC dI s.heap.size g0 gt d2 b n ka la hn) (cwV 2 hts (lw_V q139 q141 qs8 q12 q142) rfl rfl rfl (by decide +kernel) ⟨Nat.le_of_ble_eq_true rfl, Nat.le_of_ble_eq_true rfl⟩) ⟨fun a U g mk q => by obtain ⟨q0, q1, qP, qK⟩ := q; exact ⟨q0, q1, qP, va_K.moved (u := U) (U := U.calling g mk a) (Vm.Alike.refl U.vm) qK⟩, va_recv hKc hPc (ci := 1) (q0 := 0) rfl rfl, fun U hU hW => ⟨rfl, by rw [hU], by rw [hU]; exact hPc, va_K.moved hW.alike hKc⟩⟩ rfl rfl hl.1 rfl (lv_room (Nat.le_of_ble_eq_true rfl)) dX1_next_3 ⟨Nat.le_of_ble_eq_true rfl, Nat.le_of_ble_eq_true rfl⟩) hS (fun q _ h => hFc q h) hFc (fun r1 u t H1 locs ht hvm hw hB hz1 hk1 hS => ?_)
  have hP := sx_keep hP hk1
  generalize H1 = H at hP hS ⊢
  rcases hw with ⟨rfl, z, L, ha, hL, ek, el⟩ | ⟨rfl, hw⟩
  · refine lv_if_eq (tgt := 11) hx hb dX1_next_6 (by decide) (fun c6 => ?_) (fun c6 => False.elim (c6 rfl))
    rw [ek, el] at hl
    obtain ⟨ha1, ha2, ha3, ha4⟩ := id ha
    have loop : ∀ (k : Nat) (y : Nat) (H : Heap) (locs : List Loc), (3001 - y < k) → (L ≤ y) → (y ≤ 3001) → (∀ y', L ≤ y' → y' < y → ¬ sp_sol n z y') → va_P (dC, dI) vwCl [(g0, .inr (1, [.int (nI n), .ref gt])), (gt, .inl (d2, 300, .inl b))] H → va_S A s.heap H locs → ∀ (ls : Array Slot), lv_has ls 4 [(0, .ref g0), (1, .int (iI z)), (2, .int (nI L)), (3, .int (nI y))] → W p l e (headSpec wsX1_next rmX1_next).room s m ([.ref g0, .int ka, .int la] : List Value).toArray below meth c H locs 0 0 (MQ below (va_Qi (fun (res : Int32) (_ : Unit) => sp_4 (sp_Fn n) n ka la res) (fun _ _ => True) A) ([.ref g0, .int ka, .int la] : List Value).toArray s 0 0 A) (F0 m 13 ls []) := by
      intro k
      induction k with
      | zero =>
        intro y H locs hk
        exact absurd hk (Nat.not_lt_zero _)
      | succ k ih =>
        intro y H locs hk hy hy2 hno hP hS ls hl
        refine lv_iload_n hx hb dX1_next_13 rfl (lv_at hl 3 rfl) ?_
        refine lv_sipush (v := nI 3000) hx hb dX1_next_14 (by decide +kernel) ?_
        refine lv_icmp_gt (tgt := 37) hx hb dX1_next_17 (by decide) (fun c17 => ?_) (fun c17 => ?_)
        · have hc : 3000 < y := sx_lt (by omega) (by omega) c17
          refine lv_bipush (v := -2) hx hb dX1_next_37 (by decide +kernel) ?_
          exact W.iret (v := -2) hx hb hr (fun t ht hW => ⟨⟨-2, (), rfl, Or.inl ⟨z, L, ha, hL, ek, el, Or.inr ⟨fun y' h1 h2 => hno y' h1 (by omega), rfl⟩⟩, trivial⟩, hS.F ht⟩) hS.2.2 dX1_next_39
        · have hc : y ≤ 3000 := sx_ge (by omega) (by omega) c17
          refine lv_aload_n hx hb dX1_next_20 rfl (lv_at hl 0 rfl) ?_
          refine lv_iload_n hx hb dX1_next_21 rfl (lv_at hl 1 rfl) ?_
          refine lv_iload_n hx hb dX1_next_22 rfl (lv_at hl 3 rfl) ?_
          have hPc := hP.sub (ws' := [(g0, .inr (1, [.int (nI n), .ref gt])), (gt, .inl (d2, 300, .inl b))]) [0, 1] rfl
          have hKc := hK.sub (tys' := [(d2, .int)]) [0] rfl
          have hFc := sx_fr hA hS
          refine va_calli (va_runV (As := [.int (iI z), .int (nI y)]) (rest := []) ⟨hx, hb, hml, hown, hts⟩ (metX1_find l dC dI H.size g0 gt d2 b n z y hn ha1 ha2 (by omega)) (cwV 2 hts (lw_V q143 q145 qs9 q12 q146) rfl rfl rfl (by decide +kernel) ⟨Nat.le_of_ble_eq_true rfl, Nat.le_of_ble_eq_true rfl⟩) ⟨fun a U g mk q => by obtain ⟨q0, q1, qP, qK⟩ := q; exact ⟨q0, q1, qP, va_K.moved (u := U) (U := U.calling g mk a) (Vm.Alike.refl U.vm) qK⟩, va_recv hKc hPc (ci := 1) (q0 := 0) rfl rfl, fun U hU hW => ⟨rfl, by rw [hU], by rw [hU]; exact hPc, va_K.moved hW.alike hKc⟩⟩ rfl rfl hl.1 rfl (lv_room (Nat.le_of_ble_eq_true rfl)) dX1_next_23 ⟨Nat.le_of_ble_eq_true rfl, Nat.le_of_ble_eq_true rfl⟩) hS (fun q _ h => hFc q h) hFc (fun r2 u t H1 locs ht hvm hw hB hz1 hk1 hS => ?_)
          have hP := sx_keep hP hk1
          generalize H1 = H at hP hS ⊢
          obtain ⟨-, hnyy⟩ := sx_ny (n := n) (y := y) hn (by omega)
          rcases hw with ⟨Z, hZ, rfl⟩ | ⟨hs, rfl⟩
          · have hZb : Z < 2147483648 := by
              have h1 := Nat.le_mul_self Z
              generalize Z * Z = x at hZ h1
              omega
            have hs : sp_sol n z y := ⟨Z, hZ⟩
            refine lv_if_lt (tgt := 31) hx hb dX1_next_26 (by decide) (fun c26 => False.elim (nI_pos (by omega) c26)) (fun c26 => ?_)
            refine lv_iload_n hx hb dX1_next_29 rfl (lv_at hl 3 rfl) ?_
            exact W.iret (v := nI y) hx hb hr (fun t ht hW => ⟨⟨nI y, (), rfl, Or.inl ⟨z, L, ha, hL, ek, el, Or.inl ⟨y, hy, hc, hs, hno, rfl⟩⟩, trivial⟩, hS.F ht⟩) hS.2.2 dX1_next_30
          · refine lv_if_lt (tgt := 31) hx hb dX1_next_26 (by decide) (fun c26 => ?_) (fun c26 => False.elim (c26 (by decide)))
            refine lv_iinc (v := nI (y + 1)) (lv' := [(3, .int (nI (y + 1))), (0, .ref g0), (1, .int (iI z)), (2, .int (nI L))]) hx hb dX1_next_31 hl (k := 3) rfl (sx_inc _) (by decide) rfl (fun ls hl => ?_)
            refine lv_goto (tgt := 13) hx hb dX1_next_34 (by decide) ?_
            exact ih (y + 1) _ _ (by omega) (by omega) (by omega) (fun y' h1 h2 => by
              by_cases h : y' = y
              · rw [h]; exact hs
              · exact hno y' h1 (by omega)) hP hS ls (lv_sub hl [1, 2, 3, 0] rfl)
    refine lv_iload_n hx hb dX1_next_11 rfl (lv_at hl 2 rfl) ?_
    refine lv_istore_n (lv' := [(3, .int (nI L)), (0, .ref g0), (1, .int (iI z)), (2, .int (nI L))]) hx hb dX1_next_12 rfl hl (by decide) rfl (fun ls hl => ?_)
    exact loop 3002 L _ _ (by omega) (by omega) (by omega) (fun y' h1 h2 => by omega) hP hS ls (lv_sub hl [1, 2, 3, 0] rfl)
  · refine lv_if_eq (tgt := 11) hx hb dX1_next_6 (by decide) (fun c6 => False.elim (absurd c6 (by decide))) (fun c6 => ?_)
    refine lv_iconst (v := -1) hx hb dX1_next_9 (by decide +kernel) ?_
    exact W.iret (v := -1) hx hb hr (fun t ht hW => ⟨⟨-1, (), rfl, Or.inr ⟨hw, rfl⟩, trivial⟩, hS.F ht⟩) hS.2.2 dX1_next_10

abbrev wsX1_root : List Cond := ws_ yX1_root cX1_root 3 (some .int)
abbrev rmX1_root : Room := ({ frames := 2, cells := 0, slots := 0, locals := 47 } : Room)
set_option maxHeartbeats 4000000 in
set_option maxRecDepth 100000 in
theorem metX1_root (l : Launch) (dC : Nat → ClassId) (dI : Nat → Nat → Nat) (sz : Nat) (g0 gt : Nat) (d2 : ClassId) (b : Nat → Int32) (n : Nat) (ka la : Int32) (hn : n ≤ 120) : Met l yX1_root wsX1_root rmX1_root (va_Pc [.ref g0, .int ka, .int la] (fun U => U.heap.size = sz ∧ va_P (dC, dI) vwCl [(g0, .inr (1, [.int (nI n), .ref gt])), (gt, .inl (d2, 300, .inl b))] U.heap ∧ va_K (dC, dI) vwCl [(d2, .int)] U)) (va_Qi (fun (res : Int32) (_ : Unit) => sp_4 (sp_Fr n) n ka la res) (fun _ _ => True) (va_A [] sz)) 0 0 (va_A [] sz) := by
  refine Met.ofW (cc := cX1_root) (maxL := 3) (ret := (some .int)) (by decide) rfl ?_
  intro p e s m args below meth c s₁ B hml hv
  obtain ⟨rfl, hsz, hP, hK⟩ := hv
  have hx := B.exec
  have hb := B.bytes
  have hr := B.returns
  have hts := atoms_spec (ws := wsX1_root) B.pre
  have hts : ∀ w ∈ lw_all, w.before _ s = true := fun w h => hts w (List.mem_cons_of_mem _ h)
  have hown : s.vm.findClass RX1 = some m.cls := findClass_of_methodNamed B.named
  have hlocks := B.notSynchronized
  subst hsz
  generalize hAe : va_A ([] : va_W) s.heap.size = A
  have hA : ∀ q : Nat, s.heap.size ≤ q → A q := fun q h => by rw [← hAe]; exact Or.inr h
  have hS : va_S A s.heap s.heap [] := va_S.rf
  have hP : va_P (dC, dI) vwCl [(g0, .inr (1, [.int (nI n), .ref gt])), (gt, .inl (d2, 300, .inl b))] s.heap := hP
  have hl := lv_entry ([.ref g0, .int ka, .int la]) (n := 3) (Nat.le_of_ble_eq_true rfl)
  rw [lg_entry_eq]
  generalize (lg_sl ([.ref g0, .int ka, .int la]) ++ List.replicate (3 - (lg_sl ([.ref g0, .int ka, .int la])).length) Slot.unset).toArray = ls at hl ⊢
  have hl : lv_has ls 3 [(0, .ref g0), (1, .int ka), (2, .int la)] := hl
  refine lv_aload_n hx hb dX1_root_0 rfl (lv_at hl 0 rfl) ?_
  refine lv_iload_n hx hb dX1_root_1 rfl (lv_at hl 1 rfl) ?_
  refine lv_iload_n hx hb dX1_root_2 rfl (lv_at hl 2 rfl) ?_
  have hPc := hP.sub (ws' := [(g0, .inr (1, [.int (nI n), .ref gt])), (gt, .inl (d2, 300, .inl b))]) [0, 1] rfl
  have hKc := hK.sub (tys' := [(d2, .int)]) [0] rfl
  have hFc := sx_fr hA hS
  refine va_calli (va_runV (As := [.int ka, .int la]) (rest := []) ⟨hx, hb, hml, hown, hts⟩ (metX1_refused l dC dI s.heap.size g0 gt d2 b n ka la hn) (cwV 2 hts (lw_V q139 q141 qs8 q12 q142) rfl rfl rfl (by decide +kernel) ⟨Nat.le_of_ble_eq_true rfl, Nat.le_of_ble_eq_true rfl⟩) ⟨fun a U g mk q => by obtain ⟨q0, q1, qP, qK⟩ := q; exact ⟨q0, q1, qP, va_K.moved (u := U) (U := U.calling g mk a) (Vm.Alike.refl U.vm) qK⟩, va_recv hKc hPc (ci := 1) (q0 := 0) rfl rfl, fun U hU hW => ⟨rfl, by rw [hU], by rw [hU]; exact hPc, va_K.moved hW.alike hKc⟩⟩ rfl rfl hl.1 rfl (lv_room (Nat.le_of_ble_eq_true rfl)) dX1_root_3 ⟨Nat.le_of_ble_eq_true rfl, Nat.le_of_ble_eq_true rfl⟩) hS (fun q _ h => hFc q h) hFc (fun r1 u t H1 locs ht hvm hw hB hz1 hk1 hS => ?_)
  have hP := sx_keep hP hk1
  generalize H1 = H at hP hS ⊢
  rcases hw with ⟨rfl, z, L, ha, hL, ek, el⟩ | ⟨rfl, hw⟩
  · refine lv_if_eq (tgt := 13) hx hb dX1_root_6 (by decide) (fun c6 => ?_) (fun c6 => False.elim (c6 rfl))
    rw [ek, el] at hl
    obtain ⟨ha1, ha2, ha3, ha4⟩ := id ha
    refine lv_aload_n hx hb dX1_root_13 rfl (lv_at hl 0 rfl) ?_
    refine lv_iload_n hx hb dX1_root_14 rfl (lv_at hl 1 rfl) ?_
    refine lv_iload_n hx hb dX1_root_15 rfl (lv_at hl 2 rfl) ?_
    have hPc := hP.sub (ws' := [(g0, .inr (1, [.int (nI n), .ref gt])), (gt, .inl (d2, 300, .inl b))]) [0, 1] rfl
    have hKc := hK.sub (tys' := [(d2, .int)]) [0] rfl
    have hFc := sx_fr hA hS
    refine va_calli (va_runV (As := [.int (iI z), .int (nI L)]) (rest := []) ⟨hx, hb, hml, hown, hts⟩ (metX1_find l dC dI H.size g0 gt d2 b n z L hn ha1 ha2 hL) (cwV 2 hts (lw_V q143 q145 qs9 q12 q146) rfl rfl rfl (by decide +kernel) ⟨Nat.le_of_ble_eq_true rfl, Nat.le_of_ble_eq_true rfl⟩) ⟨fun a U g mk q => by obtain ⟨q0, q1, qP, qK⟩ := q; exact ⟨q0, q1, qP, va_K.moved (u := U) (U := U.calling g mk a) (Vm.Alike.refl U.vm) qK⟩, va_recv hKc hPc (ci := 1) (q0 := 0) rfl rfl, fun U hU hW => ⟨rfl, by rw [hU], by rw [hU]; exact hPc, va_K.moved hW.alike hKc⟩⟩ rfl rfl hl.1 rfl (lv_room (Nat.le_of_ble_eq_true rfl)) dX1_root_16 ⟨Nat.le_of_ble_eq_true rfl, Nat.le_of_ble_eq_true rfl⟩) hS (fun q _ h => hFc q h) hFc (fun r2 u t H1 locs ht hvm hw hB hz1 hk1 hS => ?_)
    have hP := sx_keep hP hk1
    generalize H1 = H at hP hS ⊢
    exact W.iret (v := r2) hx hb hr (fun t ht hW => ⟨⟨r2, (), rfl, Or.inl ⟨z, L, ha, hL, ek, el, hw⟩, trivial⟩, hS.F ht⟩) hS.2.2 dX1_root_19
  · refine lv_if_eq (tgt := 13) hx hb dX1_root_6 (by decide) (fun c6 => False.elim (absurd c6 (by decide))) (fun c6 => ?_)
    refine lv_iconst (v := -1) hx hb dX1_root_9 (by decide +kernel) ?_
    refine lv_goto (tgt := 19) hx hb dX1_root_10 (by decide) ?_
    exact W.iret (v := -1) hx hb hr (fun t ht hW => ⟨⟨-1, (), rfl, Or.inr ⟨hw, rfl⟩, trivial⟩, hS.F ht⟩) hS.2.2 dX1_root_19
end
section
abbrev wsX0_isAsked : List Cond := ws_ yX0_isAsked cX0_isAsked 2 (some .boolean)
abbrev rmX0_isAsked : Room := ({ frames := 0, cells := 0, slots := 0, locals := 0 } : Room)
set_option maxHeartbeats 4000000 in
set_option maxRecDepth 100000 in
theorem metX0_isAsked (l : Launch) (dC : Nat → ClassId) (dI : Nat → Nat → Nat) (sz : Nat) (h0 tA yA : Nat) (d0 d1 : ClassId) (aT aY : Nat → Int32) (n : Nat) (pv fv k : Int32) (hn : n ≤ 120) : Met l yX0_isAsked wsX0_isAsked rmX0_isAsked (va_Pc [.ref h0, .int k] (fun U => U.heap.size = sz ∧ va_P (dC, dI) vwCl [(h0, .inr (0, [.int (nI n), .int pv, .ref tA, .int fv, .ref yA])), (tA, .inl (d0, 64, .inl aT)), (yA, .inl (d1, 64, .inl aY))] U.heap ∧ va_K (dC, dI) vwCl [(d0, .int), (d1, .int)] U)) (va_Qi (fun (r : Int32) (_ : Unit) => (r = 1 ∧ ∃ z, sp_ask n z ∧ k = iI z) ∨ (r = 0 ∧ ¬ ∃ z, sp_ask n z ∧ k = iI z)) (fun _ _ => True) (va_A [] sz)) 0 0 (va_A [] sz) := by
  refine Met.ofW (cc := cX0_isAsked) (maxL := 2) (ret := (some .boolean)) (by decide) rfl ?_
  intro p e s m args below meth c s₁ B hml hv
  obtain ⟨rfl, hsz, hP, hK⟩ := hv
  have hx := B.exec
  have hb := B.bytes
  have hr := B.returns
  have hts := atoms_spec (ws := wsX0_isAsked) B.pre
  have hts : ∀ w ∈ lw_all, w.before _ s = true := fun w h => hts w (List.mem_cons_of_mem _ h)
  have hown : s.vm.findClass RX0 = some m.cls := findClass_of_methodNamed B.named
  have hlocks := B.notSynchronized
  subst hsz
  generalize hAe : va_A ([] : va_W) s.heap.size = A
  have hA : ∀ q : Nat, s.heap.size ≤ q → A q := fun q h => by rw [← hAe]; exact Or.inr h
  have hS : va_S A s.heap s.heap [] := va_S.rf
  have hP : va_P (dC, dI) vwCl [(h0, .inr (0, [.int (nI n), .int pv, .ref tA, .int fv, .ref yA])), (tA, .inl (d0, 64, .inl aT)), (yA, .inl (d1, 64, .inl aY))] s.heap := hP
  have hl := lv_entry ([.ref h0, .int k]) (n := 2) (Nat.le_of_ble_eq_true rfl)
  rw [lg_entry_eq]
  generalize (lg_sl ([.ref h0, .int k]) ++ List.replicate (2 - (lg_sl ([.ref h0, .int k])).length) Slot.unset).toArray = ls at hl ⊢
  have hl : lv_has ls 2 [(0, .ref h0), (1, .int k)] := hl
  obtain ⟨z, hz⟩ : ∃ z, z = k.toInt := ⟨_, rfl⟩
  have hkz : k = iI z := by rw [hz]; exact iI_self k
  obtain ⟨hz1, hz2⟩ := sx_tI k
  rw [← hz] at hz1 hz2
  have key : ∀ z' : Int, -9 ≤ z' → z' ≤ 9 → k = iI z' → z' = z := fun z' a1 a2 a3 => iI_inj (by omega) (by omega) hz1 hz2 (a3.symm.trans hkz)
  have e9 : (-9 : Int32).toInt = -9 := by decide
  have e99 : (nI 9).toInt = 9 := by decide
  refine lv_iload_n hx hb dX0_isAsked_0 rfl (lv_at hl 1 rfl) ?_
  refine lv_bipush (v := -9) hx hb dX0_isAsked_1 (by decide +kernel) ?_
  refine lv_icmp_lt (tgt := 30) hx hb dX0_isAsked_3 (by decide) (fun c3 => ?_) (fun c3 => ?_)
  · refine lv_iconst (v := nI 0) hx hb dX0_isAsked_30 (by decide +kernel) ?_
    have hno : ¬ ∃ z, sp_ask n z ∧ k = iI z := by
      rintro ⟨z', ⟨a1, a2, a3, a4⟩, b3⟩
      have hzz := key z' a1 a2 b3
      subst hzz
      have h := sx_ltI c3
      omega
    exact W.zret (v := nI 0) hx hb hr rfl (fun t ht hW => ⟨⟨nI 0, (), rfl, Or.inr ⟨rfl, hno⟩, trivial⟩, hS.F ht⟩) hS.2.2 dX0_isAsked_31
  · refine lv_iload_n hx hb dX0_isAsked_6 rfl (lv_at hl 1 rfl) ?_
    refine lv_bipush (v := nI 9) hx hb dX0_isAsked_7 (by decide +kernel) ?_
    refine lv_icmp_gt (tgt := 30) hx hb dX0_isAsked_9 (by decide) (fun c9 => ?_) (fun c9 => ?_)
    · refine lv_iconst (v := nI 0) hx hb dX0_isAsked_30 (by decide +kernel) ?_
      have hno : ¬ ∃ z, sp_ask n z ∧ k = iI z := by
        rintro ⟨z', ⟨a1, a2, a3, a4⟩, b3⟩
        have hzz := key z' a1 a2 b3
        subst hzz
        have h := sx_ltI c9
        omega
      exact W.zret (v := nI 0) hx hb hr rfl (fun t ht hW => ⟨⟨nI 0, (), rfl, Or.inr ⟨rfl, hno⟩, trivial⟩, hS.F ht⟩) hS.2.2 dX0_isAsked_31
    · refine lv_iload_n hx hb dX0_isAsked_12 rfl (lv_at hl 1 rfl) ?_
      refine lv_if_eq (tgt := 30) hx hb dX0_isAsked_13 (by decide) (fun c13 => ?_) (fun c13 => ?_)
      · refine lv_iconst (v := nI 0) hx hb dX0_isAsked_30 (by decide +kernel) ?_
        have hno : ¬ ∃ z, sp_ask n z ∧ k = iI z := by
          rintro ⟨z', ⟨a1, a2, a3, a4⟩, b3⟩
          have hzz := key z' a1 a2 b3
          subst hzz
          have h0 : k.toInt = 0 := by rw [c13]; rfl
          omega
        exact W.zret (v := nI 0) hx hb hr rfl (fun t ht hW => ⟨⟨nI 0, (), rfl, Or.inr ⟨rfl, hno⟩, trivial⟩, hS.F ht⟩) hS.2.2 dX0_isAsked_31
      · have h3 := sx_nltI c3
        have h9 := sx_nltI c9
        have hz0 : z ≠ 0 := by
          intro h
          rw [h] at hkz
          exact c13 (by rw [hkz]; rfl)
        obtain ⟨hzp, hzz⟩ := sx_sq81 (z := z) (by omega) (by omega)
        refine lv_iload_n hx hb dX0_isAsked_16 rfl (lv_at hl 1 rfl) ?_
        refine lv_iload_n hx hb dX0_isAsked_17 rfl (lv_at hl 1 rfl) ?_
        refine lv_imul hx hb dX0_isAsked_18 ?_
        refine sx_i (y := iI (z * z)) (by rw [hkz]; exact iI_mul z z) ?_
        refine lv_aload_n hx hb dX0_isAsked_19 rfl (lv_at hl 0 rfl) ?_
        refine va_get (D := (dC, dI)) (ci := 0) (v := .int (nI n)) (C := RX0) (T := TX0) (N := 5) hx hb hts in_X0 hown hK hP 0 rfl rfl 0 (by decide) (hts _ q29) (fun _ h9 => h9) rfl dX0_isAsked_20 ?_
        refine lv_icmp_ge (tgt := 30) hx hb dX0_isAsked_23 (by decide) (fun c23 => ?_) (fun c23 => ?_)
        · refine lv_iconst (v := nI 0) hx hb dX0_isAsked_30 (by decide +kernel) ?_
          have hno : ¬ ∃ z, sp_ask n z ∧ k = iI z := by
            rintro ⟨z', ⟨a1, a2, a3, a4⟩, b3⟩
            have hzz := key z' a1 a2 b3
            subst hzz
            have h := sx_leI c23
            rw [nI_toInt (by omega), iI_toInt (by omega) (by omega)] at h
            omega
          exact W.zret (v := nI 0) hx hb hr rfl (fun t ht hW => ⟨⟨nI 0, (), rfl, Or.inr ⟨rfl, hno⟩, trivial⟩, hS.F ht⟩) hS.2.2 dX0_isAsked_31
        · have hsn : z * z < (n : Int) := by
            have h := sx_nleI c23
            rw [nI_toInt (by omega), iI_toInt (by omega) (by omega)] at h
            exact h
          refine lv_iconst (v := nI 1) hx hb dX0_isAsked_26 (by decide +kernel) ?_
          refine lv_goto (tgt := 31) hx hb dX0_isAsked_27 (by decide) ?_
          exact W.zret (v := nI 1) hx hb hr rfl (fun t ht hW => ⟨⟨nI 1, (), rfl, Or.inl ⟨rfl, z, ⟨by omega, by omega, hz0, hsn⟩, hkz⟩, trivial⟩, hS.F ht⟩) hS.2.2 dX0_isAsked_31

abbrev wsX0_termAt : List Cond := ws_ yX0_termAt cX0_termAt 2 (some .int)
abbrev rmX0_termAt : Room := ({ frames := 0, cells := 0, slots := 0, locals := 0 } : Room)
set_option maxHeartbeats 4000000 in
set_option maxRecDepth 100000 in
theorem metX0_termAt (l : Launch) (dC : Nat → ClassId) (dI : Nat → Nat → Nat) (sz : Nat) (h0 tA yA : Nat) (d0 d1 : ClassId) (aT aY : Nat → Int32) (n : Nat) (fv : Int32) (r P : Nat) (hA0 : sq_A r n P) (hrow : ∀ i, i ≤ P → aT i = nI (sq_t r n i)) (j : Nat) (hj : j ≤ 300) : Met l yX0_termAt wsX0_termAt rmX0_termAt (va_Pc [.ref h0, .int (nI j)] (fun U => U.heap.size = sz ∧ va_P (dC, dI) vwCl [(h0, .inr (0, [.int (nI n), .int (nI P), .ref tA, .int fv, .ref yA])), (tA, .inl (d0, 64, .inl aT)), (yA, .inl (d1, 64, .inl aY))] U.heap ∧ va_K (dC, dI) vwCl [(d0, .int), (d1, .int)] U)) (va_Qi (fun (res : Int32) (_ : Unit) => res = nI (sq_t r n j)) (fun _ _ => True) (va_A [] sz)) 0 0 (va_A [] sz) := by
  refine Met.ofW (cc := cX0_termAt) (maxL := 2) (ret := (some .int)) (by decide) rfl ?_
  intro p e s m args below meth c s₁ B hml hv
  obtain ⟨rfl, hsz, hP, hK⟩ := hv
  have hx := B.exec
  have hb := B.bytes
  have hr := B.returns
  have hts := atoms_spec (ws := wsX0_termAt) B.pre
  have hts : ∀ w ∈ lw_all, w.before _ s = true := fun w h => hts w (List.mem_cons_of_mem _ h)
  have hown : s.vm.findClass RX0 = some m.cls := findClass_of_methodNamed B.named
  have hlocks := B.notSynchronized
  subst hsz
  generalize hAe : va_A ([] : va_W) s.heap.size = A
  have hA : ∀ q : Nat, s.heap.size ≤ q → A q := fun q h => by rw [← hAe]; exact Or.inr h
  have hS : va_S A s.heap s.heap [] := va_S.rf
  have hP : va_P (dC, dI) vwCl [(h0, .inr (0, [.int (nI n), .int (nI P), .ref tA, .int fv, .ref yA])), (tA, .inl (d0, 64, .inl aT)), (yA, .inl (d1, 64, .inl aY))] s.heap := hP
  have hl := lv_entry ([.ref h0, .int (nI j)]) (n := 2) (Nat.le_of_ble_eq_true rfl)
  rw [lg_entry_eq]
  generalize (lg_sl ([.ref h0, .int (nI j)]) ++ List.replicate (2 - (lg_sl ([.ref h0, .int (nI j)])).length) Slot.unset).toArray = ls at hl ⊢
  have hl : lv_has ls 2 [(0, .ref h0), (1, .int (nI j))] := hl
  obtain ⟨hn1, hn2, hr1, hr2, hP1, hP2, hr3⟩ := hA0.1
  refine lv_iload_n hx hb dX0_termAt_0 rfl (lv_at hl 1 rfl) ?_
  refine lv_if_ne (tgt := 13) hx hb dX0_termAt_1 (by decide) (fun c1 => ?_) (fun c1 => ?_)
  · have hj0 : j ≠ 0 := fun h => c1 (by rw [h]; exact nI_0)
    have hm := Nat.mod_lt (j - 1) hP1
    have hte : sq_t r n (1 + (j - 1) % P) = sq_t r n j := by
      rw [sq_tmod hA0.2.2.2.1 hP1 (j - 1), show j - 1 + 1 = j by omega]
    refine lv_aload_n hx hb dX0_termAt_13 rfl (lv_at hl 0 rfl) ?_
    refine va_get (D := (dC, dI)) (ci := 0) (v := .ref tA) (C := RX0) (T := TX0) (N := 5) hx hb hts in_X0 hown hK hP 0 rfl rfl 2 (by decide) (hts _ q31) (fun _ h9 => h9) rfl dX0_termAt_14 ?_
    refine lv_iconst (v := nI 1) hx hb dX0_termAt_17 (by decide +kernel) ?_
    refine lv_iload_n hx hb dX0_termAt_18 rfl (lv_at hl 1 rfl) ?_
    refine lv_iconst (v := nI 1) hx hb dX0_termAt_19 (by decide +kernel) ?_
    refine lv_isub hx hb dX0_termAt_20 ?_
    refine sx_i (y := nI (j - 1)) (pk_sub (by omega)) ?_
    refine lv_aload_n hx hb dX0_termAt_21 rfl (lv_at hl 0 rfl) ?_
    refine va_get (D := (dC, dI)) (ci := 0) (v := .int (nI P)) (C := RX0) (T := TX0) (N := 5) hx hb hts in_X0 hown hK hP 0 rfl rfl 1 (by decide) (hts _ q30) (fun _ h9 => h9) rfl dX0_termAt_22 ?_
    refine lv_irem hx hb dX0_termAt_25 (sx_ne0 (by omega) (by omega)) ?_
    refine sx_i (y := nI ((j - 1) % P)) (pk_rem (by omega) (by omega) (by omega)) ?_
    refine lv_iadd hx hb dX0_termAt_26 ?_
    refine sx_i (y := nI (1 + ((j - 1) % P))) (nI_add _ _) ?_
    refine va_iald hx hb hK hP 1 0 rfl rfl (vp_in_nI (by omega) (by omega)) dX0_termAt_27 ?_
    refine sx_i (y := nI (sq_t r n j)) (sx_ald (by omega) (by rw [hrow _ (by omega), hte])) ?_
    exact W.iret (v := nI (sq_t r n j)) hx hb hr (fun t ht hW => ⟨⟨nI (sq_t r n j), (), rfl, rfl, trivial⟩, hS.F ht⟩) hS.2.2 dX0_termAt_28
  · have hj0 : j = 0 := sx_eq0 (by omega) c1
    refine lv_aload_n hx hb dX0_termAt_4 rfl (lv_at hl 0 rfl) ?_
    refine va_get (D := (dC, dI)) (ci := 0) (v := .ref tA) (C := RX0) (T := TX0) (N := 5) hx hb hts in_X0 hown hK hP 0 rfl rfl 2 (by decide) (hts _ q31) (fun _ h9 => h9) rfl dX0_termAt_5 ?_
    refine lv_iconst (v := nI 0) hx hb dX0_termAt_8 (by decide +kernel) ?_
    refine va_iald hx hb hK hP 1 0 rfl rfl (vp_in_nI (by omega) (by omega)) dX0_termAt_9 ?_
    refine sx_i (y := nI (sq_t r n 0)) (sx_ald (by omega) (hrow 0 (by omega))) ?_
    refine lv_goto (tgt := 28) hx hb dX0_termAt_10 (by decide) ?_
    exact W.iret (v := nI (sq_t r n 0)) hx hb hr (fun t ht hW => ⟨⟨nI (sq_t r n 0), (), rfl, by rw [hj0], trivial⟩, hS.F ht⟩) hS.2.2 dX0_termAt_28

abbrev wsX0_period : List Cond := ws_ yX0_period cX0_period 1 (some .int)
abbrev rmX0_period : Room := ({ frames := 0, cells := 0, slots := 0, locals := 0 } : Room)
set_option maxHeartbeats 4000000 in
set_option maxRecDepth 100000 in
theorem metX0_period (l : Launch) (dC : Nat → ClassId) (dI : Nat → Nat → Nat) (sz : Nat) (h0 tA yA : Nat) (d0 d1 : ClassId) (aT aY : Nat → Int32) (n : Nat) (fv : Int32) (P : Nat) : Met l yX0_period wsX0_period rmX0_period (va_Pc [.ref h0] (fun U => U.heap.size = sz ∧ va_P (dC, dI) vwCl [(h0, .inr (0, [.int (nI n), .int (nI P), .ref tA, .int fv, .ref yA])), (tA, .inl (d0, 64, .inl aT)), (yA, .inl (d1, 64, .inl aY))] U.heap ∧ va_K (dC, dI) vwCl [(d0, .int), (d1, .int)] U)) (va_Qi (fun (res : Int32) (_ : Unit) => res = nI P) (fun _ _ => True) (va_A [] sz)) 0 0 (va_A [] sz) := by
  refine Met.ofW (cc := cX0_period) (maxL := 1) (ret := (some .int)) (by decide) rfl ?_
  intro p e s m args below meth c s₁ B hml hv
  obtain ⟨rfl, hsz, hP, hK⟩ := hv
  have hx := B.exec
  have hb := B.bytes
  have hr := B.returns
  have hts := atoms_spec (ws := wsX0_period) B.pre
  have hts : ∀ w ∈ lw_all, w.before _ s = true := fun w h => hts w (List.mem_cons_of_mem _ h)
  have hown : s.vm.findClass RX0 = some m.cls := findClass_of_methodNamed B.named
  have hlocks := B.notSynchronized
  subst hsz
  generalize hAe : va_A ([] : va_W) s.heap.size = A
  have hA : ∀ q : Nat, s.heap.size ≤ q → A q := fun q h => by rw [← hAe]; exact Or.inr h
  have hS : va_S A s.heap s.heap [] := va_S.rf
  have hP : va_P (dC, dI) vwCl [(h0, .inr (0, [.int (nI n), .int (nI P), .ref tA, .int fv, .ref yA])), (tA, .inl (d0, 64, .inl aT)), (yA, .inl (d1, 64, .inl aY))] s.heap := hP
  have hl := lv_entry ([.ref h0]) (n := 1) (Nat.le_of_ble_eq_true rfl)
  rw [lg_entry_eq]
  generalize (lg_sl ([.ref h0]) ++ List.replicate (1 - (lg_sl ([.ref h0])).length) Slot.unset).toArray = ls at hl ⊢
  have hl : lv_has ls 1 [(0, .ref h0)] := hl
  refine lv_aload_n hx hb dX0_period_0 rfl (lv_at hl 0 rfl) ?_
  refine va_get (D := (dC, dI)) (ci := 0) (v := .int (nI P)) (C := RX0) (T := TX0) (N := 5) hx hb hts in_X0 hown hK hP 0 rfl rfl 1 (by decide) (hts _ q30) (fun _ h9 => h9) rfl dX0_period_1 ?_
  exact W.iret (v := nI P) hx hb hr (fun t ht hW => ⟨⟨nI P, (), rfl, rfl, trivial⟩, hS.F ht⟩) hS.2.2 dX0_period_4

abbrev wsX0_term : List Cond := ws_ yX0_term cX0_term 2 (some .int)
abbrev rmX0_term : Room := ({ frames := 1, cells := 0, slots := 0, locals := 21 } : Room)
set_option maxHeartbeats 4000000 in
set_option maxRecDepth 100000 in
theorem metX0_term (l : Launch) (dC : Nat → ClassId) (dI : Nat → Nat → Nat) (sz : Nat) (h0 tA yA : Nat) (d0 d1 : ClassId) (aT aY : Nat → Int32) (n : Nat) (fv : Int32) (r P : Nat) (hA0 : sq_A r n P) (hrow : ∀ i, i ≤ P → aT i = nI (sq_t r n i)) (p0 : Int32) : Met l yX0_term wsX0_term rmX0_term (va_Pc [.ref h0, .int p0] (fun U => U.heap.size = sz ∧ va_P (dC, dI) vwCl [(h0, .inr (0, [.int (nI n), .int (nI P), .ref tA, .int fv, .ref yA])), (tA, .inl (d0, 64, .inl aT)), (yA, .inl (d1, 64, .inl aY))] U.heap ∧ va_K (dC, dI) vwCl [(d0, .int), (d1, .int)] U)) (va_Qi (fun (res : Int32) (_ : Unit) => sp_term r n p0 res) (fun _ _ => True) (va_A [] sz)) 0 0 (va_A [] sz) := by
  refine Met.ofW (cc := cX0_term) (maxL := 2) (ret := (some .int)) (by decide) rfl ?_
  intro p e s m args below meth c s₁ B hml hv
  obtain ⟨rfl, hsz, hP, hK⟩ := hv
  have hx := B.exec
  have hb := B.bytes
  have hr := B.returns
  have hts := atoms_spec (ws := wsX0_term) B.pre
  have hts : ∀ w ∈ lw_all, w.before _ s = true := fun w h => hts w (List.mem_cons_of_mem _ h)
  have hown : s.vm.findClass RX0 = some m.cls := findClass_of_methodNamed B.named
  have hlocks := B.notSynchronized
  subst hsz
  generalize hAe : va_A ([] : va_W) s.heap.size = A
  have hA : ∀ q : Nat, s.heap.size ≤ q → A q := fun q h => by rw [← hAe]; exact Or.inr h
  have hS : va_S A s.heap s.heap [] := va_S.rf
  have hP : va_P (dC, dI) vwCl [(h0, .inr (0, [.int (nI n), .int (nI P), .ref tA, .int fv, .ref yA])), (tA, .inl (d0, 64, .inl aT)), (yA, .inl (d1, 64, .inl aY))] s.heap := hP
  have hl := lv_entry ([.ref h0, .int p0]) (n := 2) (Nat.le_of_ble_eq_true rfl)
  rw [lg_entry_eq]
  generalize (lg_sl ([.ref h0, .int p0]) ++ List.replicate (2 - (lg_sl ([.ref h0, .int p0])).length) Slot.unset).toArray = ls at hl ⊢
  have hl : lv_has ls 2 [(0, .ref h0), (1, .int p0)] := hl
  refine lv_iload_n hx hb dX0_term_0 rfl (lv_at hl 1 rfl) ?_
  refine lv_if_lt (tgt := 10) hx hb dX0_term_1 (by decide) (fun c1 => ?_) (fun c1 => ?_)
  · refine lv_iconst (v := -1) hx hb dX0_term_10 (by decide +kernel) ?_
    refine lv_goto (tgt := 19) hx hb dX0_term_11 (by decide) ?_
    exact W.iret (v := -1) hx hb hr (fun t ht hW => ⟨⟨-1, (), rfl, Or.inr ⟨fun j hj => sx_neg c1 j (by omega), rfl⟩, trivial⟩, hS.F ht⟩) hS.2.2 dX0_term_19
  · refine lv_iload_n hx hb dX0_term_4 rfl (lv_at hl 1 rfl) ?_
    refine lv_bipush (v := nI 100) hx hb dX0_term_5 (by decide +kernel) ?_
    refine lv_icmp_le (tgt := 14) hx hb dX0_term_7 (by decide) (fun c7 => ?_) (fun c7 => ?_)
    · obtain ⟨N, -, hN2, rfl⟩ := sx_rng (x := p0) (a := 0) (b := 100) (by omega) (by omega) c1 c7
      refine lv_aload_n hx hb dX0_term_14 rfl (lv_at hl 0 rfl) ?_
      refine lv_iload_n hx hb dX0_term_15 rfl (lv_at hl 1 rfl) ?_
      have hPc := hP.sub (ws' := [(h0, .inr (0, [.int (nI n), .int (nI P), .ref tA, .int fv, .ref yA])), (tA, .inl (d0, 64, .inl aT)), (yA, .inl (d1, 64, .inl aY))]) [0, 1, 2] rfl
      have hKc := hK.sub (tys' := [(d0, .int), (d1, .int)]) [0, 1] rfl
      have hFc := sx_fr hA hS
      refine va_calli (va_runV (As := [.int (nI N)]) (rest := []) ⟨hx, hb, hml, hown, hts⟩ (metX0_termAt l dC dI s.heap.size h0 tA yA d0 d1 aT aY n fv r P hA0 hrow N (by omega)) (cwV 1 hts (lw_V q54 q56 qs1 q11 q57) rfl rfl rfl (by decide +kernel) ⟨Nat.le_of_ble_eq_true rfl, Nat.le_of_ble_eq_true rfl⟩) ⟨fun a U g mk q => by obtain ⟨q0, q1, qP, qK⟩ := q; exact ⟨q0, q1, qP, va_K.moved (u := U) (U := U.calling g mk a) (Vm.Alike.refl U.vm) qK⟩, va_recv hKc hPc (ci := 0) (q0 := 0) rfl rfl, fun U hU hW => ⟨rfl, by rw [hU], by rw [hU]; exact hPc, va_K.moved hW.alike hKc⟩⟩ rfl rfl hl.1 rfl (lv_room (Nat.le_of_ble_eq_true rfl)) dX0_term_16 ⟨Nat.le_of_ble_eq_true rfl, Nat.le_of_ble_eq_true rfl⟩) hS (fun q _ h => hFc q h) hFc (fun r1 u t H1 locs ht hvm hw hB hz1 hk1 hS => ?_)
      have hP := sx_keep hP hk1
      generalize H1 = H at hP hS ⊢
      exact W.iret (v := r1) hx hb hr (fun t ht hW => ⟨⟨r1, (), rfl, Or.inl ⟨N, hN2, rfl, hw⟩, trivial⟩, hS.F ht⟩) hS.2.2 dX0_term_19
    · refine lv_iconst (v := -1) hx hb dX0_term_10 (by decide +kernel) ?_
      refine lv_goto (tgt := 19) hx hb dX0_term_11 (by decide) ?_
      exact W.iret (v := -1) hx hb hr (fun t ht hW => ⟨⟨-1, (), rfl, Or.inr ⟨fun j hj => sx_nhi (by omega) c7 hj, rfl⟩, trivial⟩, hS.F ht⟩) hS.2.2 dX0_term_19

abbrev wsX0_findRow : List Cond := ws_ yX0_findRow cX0_findRow 6 none
abbrev rmX0_findRow : Room := ({ frames := 1, cells := 0, slots := 0, locals := 24 } : Room)
set_option maxHeartbeats 4000000 in
set_option maxRecDepth 100000 in
theorem metX0_findRow (l : Launch) (dC : Nat → ClassId) (dI : Nat → Nat → Nat) (sz : Nat) (h0 tA yA : Nat) (d0 d1 : ClassId) (aT aY : Nat → Int32) (n : Nat) (pv fv : Int32) (r P : Nat) (hA0 : sq_A r n P) : Met l yX0_findRow wsX0_findRow rmX0_findRow (va_Pc [.ref h0] (fun U => U.heap.size = sz ∧ va_P (dC, dI) vwCl [(h0, .inr (0, [.int (nI n), .int pv, .ref tA, .int fv, .ref yA])), (tA, .inl (d0, 64, .inl aT)), (yA, .inl (d1, 64, .inl aY))] U.heap ∧ va_K (dC, dI) vwCl [(d0, .int), (d1, .int)] U ∧ va_D (fun _ => True) [(h0, .inr (0, [.int (nI n), .int pv, .ref tA, .int fv, .ref yA])), (tA, .inl (d0, 64, .inl aT)), (yA, .inl (d1, 64, .inl aY))])) (va_Qv (fun (a' : Nat → Int32) => ∀ i, i ≤ P → a' i = nI (sq_t r n i)) (fun (a' : Nat → Int32) t => va_P (dC, dI) vwCl [(h0, .inr (0, [.int (nI n), .int (nI P), .ref tA, .int fv, .ref yA])), (tA, .inl (d0, 64, .inl a')), (yA, .inl (d1, 64, .inl aY))] t.heap ∧ va_D (va_A [(h0, .inr (0, [.int (nI n), .int pv, .ref tA, .int fv, .ref yA])), (tA, .inl (d0, 64, .inl aT)), (yA, .inl (d1, 64, .inl aY))] sz) [(h0, .inr (0, [.int (nI n), .int (nI P), .ref tA, .int fv, .ref yA])), (tA, .inl (d0, 64, .inl a')), (yA, .inl (d1, 64, .inl aY))]) (va_A [(h0, .inr (0, [.int (nI n), .int pv, .ref tA, .int fv, .ref yA])), (tA, .inl (d0, 64, .inl aT)), (yA, .inl (d1, 64, .inl aY))] sz)) 0 0 (va_A [(h0, .inr (0, [.int (nI n), .int pv, .ref tA, .int fv, .ref yA])), (tA, .inl (d0, 64, .inl aT)), (yA, .inl (d1, 64, .inl aY))] sz) := by
  refine Met.ofW (cc := cX0_findRow) (maxL := 6) (ret := none) (by decide) rfl ?_
  intro p e s m args below meth c s₁ B hml hv
  obtain ⟨rfl, hsz, hP, hK, hD0⟩ := hv
  have hx := B.exec
  have hb := B.bytes
  have hr := B.returns
  have hts := atoms_spec (ws := wsX0_findRow) B.pre
  have hts : ∀ w ∈ lw_all, w.before _ s = true := fun w h => hts w (List.mem_cons_of_mem _ h)
  have hown : s.vm.findClass RX0 = some m.cls := findClass_of_methodNamed B.named
  have hlocks := B.notSynchronized
  subst hsz
  have hD := hD0.self (sz := s.heap.size)
  generalize hAe : va_A [(h0, .inr (0, [.int (nI n), .int pv, .ref tA, .int fv, .ref yA])), (tA, .inl (d0, 64, .inl aT)), (yA, .inl (d1, 64, .inl aY))] s.heap.size = A at hD ⊢
  have hA : ∀ q : Nat, s.heap.size ≤ q → A q := fun q h => by rw [← hAe]; exact Or.inr h
  have hS : va_S A s.heap s.heap [] := va_S.rf
  have hP : va_P (dC, dI) vwCl [(h0, .inr (0, [.int (nI n), .int pv, .ref tA, .int fv, .ref yA])), (tA, .inl (d0, 64, .inl aT)), (yA, .inl (d1, 64, .inl aY))] s.heap := hP
  have hl := lv_entry ([.ref h0]) (n := 6) (Nat.le_of_ble_eq_true rfl)
  rw [lg_entry_eq]
  generalize (lg_sl ([.ref h0]) ++ List.replicate (6 - (lg_sl ([.ref h0])).length) Slot.unset).toArray = ls at hl ⊢
  have hl : lv_has ls 6 [(0, .ref h0)] := hl
  obtain ⟨hn1, hn2, hr1, hr2, hP1, hP2, hr3⟩ := hA0.1
  have loop : ∀ (k : Nat) (i : Nat) (M : Nat) (D : Nat) (a' : Nat → Int32) (H : Heap) (locs : List Loc), (P - i < k) → (i < P) → (sq_q r n i = (M, D)) → (∀ j, j < i → a' j = nI (sq_t r n j)) → va_P (dC, dI) vwCl [(h0, .inr (0, [.int (nI n), .int (nI 0), .ref tA, .int fv, .ref yA])), (tA, .inl (d0, 64, .inl a')), (yA, .inl (d1, 64, .inl aY))] H → va_D A [(h0, .inr (0, [.int (nI n), .int (nI 0), .ref tA, .int fv, .ref yA])), (tA, .inl (d0, 64, .inl a')), (yA, .inl (d1, 64, .inl aY))] → va_S A s.heap H locs → ∀ (ls : Array Slot), lv_has ls 6 [(0, .ref h0), (1, .int (nI r)), (2, .int (nI M)), (3, .int (nI D)), (4, .int (nI i))] → W p l e (headSpec wsX0_findRow rmX0_findRow).room s m ([.ref h0] : List Value).toArray below meth c H locs 0 0 (MQ below (va_Qv (fun (a' : Nat → Int32) => ∀ i, i ≤ P → a' i = nI (sq_t r n i)) (fun (a' : Nat → Int32) t => va_P (dC, dI) vwCl [(h0, .inr (0, [.int (nI n), .int (nI P), .ref tA, .int fv, .ref yA])), (tA, .inl (d0, 64, .inl a')), (yA, .inl (d1, 64, .inl aY))] t.heap ∧ va_D A [(h0, .inr (0, [.int (nI n), .int (nI P), .ref tA, .int fv, .ref yA])), (tA, .inl (d0, 64, .inl a')), (yA, .inl (d1, 64, .inl aY))]) A) ([.ref h0] : List Value).toArray s 0 0 A) (F0 m 20 ls []) := by
    intro k
    induction k with
    | zero =>
      intro i M D a' H locs hk
      exact absurd hk (Nat.not_lt_zero _)
    | succ k ih =>
      intro i M D a' H locs hk hi hq hai hP hD hS ls hl
      obtain ⟨hg1, hg2, hg3, hg4, hg5⟩ : 0 < D ∧ D ≤ 1000 ∧ M ≤ 1000 ∧ M ≤ (r + M) / D * D ∧ ((r + M) / D * D - M) * ((r + M) / D * D - M) ≤ n := by
        have h := hA0.2.1 i
        rw [hq] at h
        exact h
      obtain ⟨T, hT⟩ : ∃ T, T = (r + M) / D := ⟨_, rfl⟩
      rw [← hT] at hg4 hg5
      obtain ⟨M1, hM1⟩ : ∃ M1, M1 = T * D - M := ⟨_, rfl⟩
      rw [← hM1] at hg5
      obtain ⟨D1, hD1⟩ : ∃ D1, D1 = (n - M1 * M1) / D := ⟨_, rfl⟩
      have hq1 : sq_q r n (i + 1) = (M1, D1) := by show sq_st r n (sq_q r n i) = _; rw [hq, hD1, hM1, hT]; rfl
      have hD1b : D1 ≤ 1000 := by have h := (hA0.2.1 (i + 1)).2.1; rw [hq1] at h; exact h
      have hM1b : M1 ≤ 1000 := by have h := (hA0.2.1 (i + 1)).2.2.1; rw [hq1] at h; exact h
      refine lv_iload hx hb dX0_findRow_20 (lv_at hl 4 rfl) ?_
      refine lv_bipush (v := nI 64) hx hb dX0_findRow_22 (by decide +kernel) ?_
      refine lv_icmp_ge (tgt := 99) hx hb dX0_findRow_24 (by decide) (fun c24 => False.elim (by have h := sx_le (by omega) (by omega) c24; omega)) (fun c24 => ?_)
      refine lv_aload_n hx hb dX0_findRow_27 rfl (lv_at hl 0 rfl) ?_
      refine va_get (D := (dC, dI)) (ci := 0) (v := .int (nI 0)) (C := RX0) (T := TX0) (N := 5) hx hb hts in_X0 hown hK hP 0 rfl rfl 1 (by decide) (hts _ q30) (fun _ h9 => h9) rfl dX0_findRow_28 ?_
      refine lv_if_ne (tgt := 99) hx hb dX0_findRow_31 (by decide) (fun c31 => False.elim (c31 nI_0)) (fun c31 => ?_)
      refine lv_iload_n hx hb dX0_findRow_34 rfl (lv_at hl 1 rfl) ?_
      refine lv_iload_n hx hb dX0_findRow_35 rfl (lv_at hl 2 rfl) ?_
      refine lv_iadd hx hb dX0_findRow_36 ?_
      refine sx_i (y := nI (r + M)) (nI_add _ _) ?_
      refine lv_iload_n hx hb dX0_findRow_37 rfl (lv_at hl 3 rfl) ?_
      refine lv_idiv hx hb dX0_findRow_38 (sx_ne0 (by omega) (by omega)) ?_
      refine sx_i (y := nI T) (by rw [hT]; exact pk_div (by omega) (by omega) (by omega)) ?_
      refine lv_istore (lv' := [(5, .int (nI T)), (0, .ref h0), (1, .int (nI r)), (2, .int (nI M)), (3, .int (nI D)), (4, .int (nI i))]) hx hb dX0_findRow_39 hl (by decide) rfl (fun ls hl => ?_)
      refine lv_aload_n hx hb dX0_findRow_41 rfl (lv_at hl 1 rfl) ?_
      refine va_get (D := (dC, dI)) (ci := 0) (v := .ref tA) (C := RX0) (T := TX0) (N := 5) hx hb hts in_X0 hown hK hP 0 rfl rfl 2 (by decide) (hts _ q31) (fun _ h9 => h9) rfl dX0_findRow_42 ?_
      refine lv_iload hx hb dX0_findRow_45 (lv_at hl 5 rfl) ?_
      refine lv_iload hx hb dX0_findRow_47 (lv_at hl 0 rfl) ?_
      refine va_iast hx hb hK hP hD hS 1 0 rfl rfl (vp_in_nI (by omega) (by omega)) dX0_findRow_49 (fun H locs hP hD hS => ?_)
      have hP : va_P (dC, dI) vwCl [(h0, .inr (0, [.int (nI n), .int (nI 0), .ref tA, .int fv, .ref yA])), (tA, .inl (d0, 64, .inl (upd a' (nI i).toNatClampNeg (nI T)))), (yA, .inl (d1, 64, .inl aY))] H := hP
      have hD : va_D A [(h0, .inr (0, [.int (nI n), .int (nI 0), .ref tA, .int fv, .ref yA])), (tA, .inl (d0, 64, .inl (upd a' (nI i).toNatClampNeg (nI T)))), (yA, .inl (d1, 64, .inl aY))] := hD
      generalize ea1 : upd a' (nI i).toNatClampNeg (nI T) = a1 at hP hD
      refine lv_iload hx hb dX0_findRow_50 (lv_at hl 0 rfl) ?_
      refine lv_iload_n hx hb dX0_findRow_52 rfl (lv_at hl 4 rfl) ?_
      refine lv_imul hx hb dX0_findRow_53 ?_
      refine sx_i (y := nI (T * D)) (pk_mul _ _) ?_
      refine lv_iload_n hx hb dX0_findRow_54 rfl (lv_at hl 3 rfl) ?_
      refine lv_isub hx hb dX0_findRow_55 ?_
      refine sx_i (y := nI M1) (by rw [hM1]; exact pk_sub hg4) ?_
      refine lv_istore_n (lv' := [(2, .int (nI M1)), (5, .int (nI T)), (0, .ref h0), (1, .int (nI r)), (3, .int (nI D)), (4, .int (nI i))]) hx hb dX0_findRow_56 rfl hl (by decide) rfl (fun ls hl => ?_)
      refine lv_aload_n hx hb dX0_findRow_57 rfl (lv_at hl 2 rfl) ?_
      refine va_get (D := (dC, dI)) (ci := 0) (v := .int (nI n)) (C := RX0) (T := TX0) (N := 5) hx hb hts in_X0 hown hK hP 0 rfl rfl 0 (by decide) (hts _ q29) (fun _ h9 => h9) rfl dX0_findRow_58 ?_
      refine lv_iload_n hx hb dX0_findRow_61 rfl (lv_at hl 0 rfl) ?_
      refine lv_iload_n hx hb dX0_findRow_62 rfl (lv_at hl 0 rfl) ?_
      refine lv_imul hx hb dX0_findRow_63 ?_
      refine sx_i (y := nI (M1 * M1)) (pk_mul _ _) ?_
      refine lv_isub hx hb dX0_findRow_64 ?_
      refine sx_i (y := nI (n - (M1 * M1))) (pk_sub (by omega)) ?_
      refine lv_iload_n hx hb dX0_findRow_65 rfl (lv_at hl 4 rfl) ?_
      refine lv_idiv hx hb dX0_findRow_66 (sx_ne0 (by omega) (by omega)) ?_
      refine sx_i (y := nI D1) (by rw [hD1]; exact pk_div (by omega) (by omega) (by omega)) ?_
      refine lv_istore_n (lv' := [(3, .int (nI D1)), (2, .int (nI M1)), (5, .int (nI T)), (0, .ref h0), (1, .int (nI r)), (4, .int (nI i))]) hx hb dX0_findRow_67 rfl hl (by decide) rfl (fun ls hl => ?_)
      refine lv_iload_n hx hb dX0_findRow_68 rfl (lv_at hl 0 rfl) ?_
      refine lv_iconst (v := nI 1) hx hb dX0_findRow_69 (by decide +kernel) ?_
      have ha1 : ∀ j, j < i + 1 → a1 j = nI (sq_t r n j) := by
        intro j hj
        rw [← ea1, sx_clamp (by omega)]
        by_cases h : j = i
        · rw [h, pk_us, hT]; unfold sq_t; rw [hq]
        · rw [pk_un h]; exact hai j (by omega)
      refine lv_icmp_ne (tgt := 93) hx hb dX0_findRow_70 (by decide) (fun c70 => ?_) (fun c70 => ?_)
      · have hne : D1 ≠ 1 := sx_ne (by omega) (by omega) c70
        have hiP : i + 1 ≠ P := by
          intro h
          have h2 := hA0.2.2.2.1
          rw [← h, hq1] at h2
          exact hne h2
        refine lv_iinc (v := nI (i + 1)) (lv' := [(4, .int (nI (i + 1))), (3, .int (nI D1)), (2, .int (nI M1)), (5, .int (nI T)), (0, .ref h0), (1, .int (nI r))]) hx hb dX0_findRow_93 hl (k := 5) rfl (sx_inc _) (by decide) rfl (fun ls hl => ?_)
        refine lv_goto (tgt := 20) hx hb dX0_findRow_96 (by decide) ?_
        exact ih (i + 1) M1 D1 a1 _ _ (by omega) (by omega) (hq1) (ha1) hP hD hS ls (lv_sub hl [4, 5, 2, 1, 0] rfl)
      · have heq : D1 = 1 := sx_eq (by omega) (by omega) c70
        have hiP : i + 1 = P := by
          rcases Nat.lt_or_ge (i + 1) P with h | h
          · exact absurd (by rw [hq1]; exact heq) (hA0.2.2.1 (i + 1) (by omega) h)
          · omega
        refine lv_aload_n hx hb dX0_findRow_73 rfl (lv_at hl 3 rfl) ?_
        refine lv_iload hx hb dX0_findRow_74 (lv_at hl 5 rfl) ?_
        refine lv_iconst (v := nI 1) hx hb dX0_findRow_76 (by decide +kernel) ?_
        refine lv_iadd hx hb dX0_findRow_77 ?_
        refine sx_i (y := nI (i + 1)) (nI_add _ _) ?_
        refine va_put (D := (dC, dI)) (ci := 0) (v := .int (nI (i + 1))) (ty := .int) (C := RX0) (T := TX0) (N := 5) hx hb hts in_X0 tyX0 tyX0_ok nmX0 hown hK hP hD hS 0 rfl rfl 1 (by decide) (hts _ q30) (fun _ h9 => h9) rfl (by decide +kernel) rfl rfl (Nat.le_of_ble_eq_true rfl) dX0_findRow_78 (fun H locs hP hD hS => ?_)
        have hP : va_P (dC, dI) vwCl [(h0, .inr (0, [.int (nI n), .int (nI (i + 1)), .ref tA, .int fv, .ref yA])), (tA, .inl (d0, 64, .inl a1)), (yA, .inl (d1, 64, .inl aY))] H := hP
        have hD : va_D A [(h0, .inr (0, [.int (nI n), .int (nI (i + 1)), .ref tA, .int fv, .ref yA])), (tA, .inl (d0, 64, .inl a1)), (yA, .inl (d1, 64, .inl aY))] := hD
        refine lv_aload_n hx hb dX0_findRow_81 rfl (lv_at hl 3 rfl) ?_
        refine va_get (D := (dC, dI)) (ci := 0) (v := .ref tA) (C := RX0) (T := TX0) (N := 5) hx hb hts in_X0 hown hK hP 0 rfl rfl 2 (by decide) (hts _ q31) (fun _ h9 => h9) rfl dX0_findRow_82 ?_
        refine lv_iload hx hb dX0_findRow_85 (lv_at hl 5 rfl) ?_
        refine lv_iconst (v := nI 1) hx hb dX0_findRow_87 (by decide +kernel) ?_
        refine lv_iadd hx hb dX0_findRow_88 ?_
        refine sx_i (y := nI (i + 1)) (nI_add _ _) ?_
        refine lv_iload_n hx hb dX0_findRow_89 rfl (lv_at hl 4 rfl) ?_
        refine lv_iload_n hx hb dX0_findRow_90 rfl (lv_at hl 1 rfl) ?_
        refine lv_iadd hx hb dX0_findRow_91 ?_
        refine sx_i (y := nI (r + M1)) (nI_add _ _) ?_
        refine va_iast hx hb hK hP hD hS 1 0 rfl rfl (vp_in_nI (by omega) (by omega)) dX0_findRow_92 (fun H locs hP hD hS => ?_)
        have hP : va_P (dC, dI) vwCl [(h0, .inr (0, [.int (nI n), .int (nI (i + 1)), .ref tA, .int fv, .ref yA])), (tA, .inl (d0, 64, .inl (upd a1 (nI (i + 1)).toNatClampNeg (nI (r + M1))))), (yA, .inl (d1, 64, .inl aY))] H := hP
        have hD : va_D A [(h0, .inr (0, [.int (nI n), .int (nI (i + 1)), .ref tA, .int fv, .ref yA])), (tA, .inl (d0, 64, .inl (upd a1 (nI (i + 1)).toNatClampNeg (nI (r + M1))))), (yA, .inl (d1, 64, .inl aY))] := hD
        generalize ea2 : upd a1 (nI (i + 1)).toNatClampNeg (nI (r + M1)) = a2 at hP hD
        refine lv_iinc (v := nI (i + 1)) (lv' := [(4, .int (nI (i + 1))), (3, .int (nI D1)), (2, .int (nI M1)), (5, .int (nI T)), (0, .ref h0), (1, .int (nI r))]) hx hb dX0_findRow_93 hl (k := 5) rfl (sx_inc _) (by decide) rfl (fun ls hl => ?_)
        refine lv_goto (tgt := 20) hx hb dX0_findRow_96 (by decide) ?_
        refine lv_iload hx hb dX0_findRow_20 (lv_at hl 0 rfl) ?_
        refine lv_bipush (v := nI 64) hx hb dX0_findRow_22 (by decide +kernel) ?_
        refine lv_icmp_ge (tgt := 99) hx hb dX0_findRow_24 (by decide) (fun c24 => False.elim (by have h := sx_le (by omega) (by omega) c24; omega)) (fun c24 => ?_)
        refine lv_aload_n hx hb dX0_findRow_27 rfl (lv_at hl 4 rfl) ?_
        refine va_get (D := (dC, dI)) (ci := 0) (v := .int (nI (i + 1))) (C := RX0) (T := TX0) (N := 5) hx hb hts in_X0 hown hK hP 0 rfl rfl 1 (by decide) (hts _ q30) (fun _ h9 => h9) rfl dX0_findRow_28 ?_
        refine lv_if_ne (tgt := 99) hx hb dX0_findRow_31 (by decide) (fun c31 => ?_) (fun c31 => False.elim (sx_ne0 (a := i + 1) (by omega) (by omega) c31))
        have ha2 : ∀ j, j ≤ P → a2 j = nI (sq_t r n j) := by
          intro j hj
          rw [← ea2, sx_clamp (by omega)]
          by_cases h : j = i + 1
          · rw [h, pk_us]; unfold sq_t; rw [hq1, heq, Nat.div_one]
          · rw [pk_un h]; exact ha1 j (by omega)
        rw [hiP] at hP hD
        exact W.vret hx hb hr (fun t ht hW => ⟨⟨a2, rfl, ha2, by rw [ht]; exact hP, hD⟩, hS.F ht⟩) hS.2.2 dX0_findRow_99
  refine lv_aload_n hx hb dX0_findRow_0 rfl (lv_at hl 0 rfl) ?_
  refine va_get (D := (dC, dI)) (ci := 0) (v := .int (nI n)) (C := RX0) (T := TX0) (N := 5) hx hb hts in_X0 hown hK hP 0 rfl rfl 0 (by decide) (hts _ q29) (fun _ h9 => h9) rfl dX0_findRow_1 ?_
  have hFc := sx_fr hA hS
  refine va_calli (va_runS (As := [.int (nI n)]) (rest := []) ⟨hx, hb, hml, hown, hts⟩ (metX0_rootOf l s.heap.size n (by omega)) (va_cwS 1 hts (lw_S q25 q26 q11 q27) rfl rfl rfl (by decide +kernel) ⟨Nat.le_of_ble_eq_true rfl, Nat.le_of_ble_eq_true rfl⟩) ⟨fun a U g mk q => by obtain ⟨q0, q1⟩ := q; exact ⟨q0, q1⟩, fun U hU hW => ⟨rfl, congrArg Array.size hU⟩⟩ rfl rfl hl.1 rfl (lv_room (Nat.le_of_ble_eq_true rfl)) dX0_findRow_4 ⟨Nat.le_of_ble_eq_true rfl, Nat.le_of_ble_eq_true rfl⟩) hS (fun q _ h => hFc q h) hFc (fun r1 u t H1 locs ht hvm hw hB hz1 hk1 hS => ?_)
  have hP := sx_keep hP hk1
  generalize H1 = H at hP hS ⊢
  obtain ⟨R, hrr, h1, h2⟩ := hw
  refine sx_i (y := nI r) (by rw [hrr, sx_root h1 h2 (Nat.le_of_lt hr1) hr2]) ?_
  refine lv_istore_n (lv' := [(1, .int (nI r)), (0, .ref h0)]) hx hb dX0_findRow_7 rfl hl (by decide) rfl (fun ls hl => ?_)
  refine lv_iconst (v := nI 0) hx hb dX0_findRow_8 (by decide +kernel) ?_
  refine lv_istore_n (lv' := [(2, .int (nI 0)), (1, .int (nI r)), (0, .ref h0)]) hx hb dX0_findRow_9 rfl hl (by decide) rfl (fun ls hl => ?_)
  refine lv_iconst (v := nI 1) hx hb dX0_findRow_10 (by decide +kernel) ?_
  refine lv_istore_n (lv' := [(3, .int (nI 1)), (2, .int (nI 0)), (1, .int (nI r)), (0, .ref h0)]) hx hb dX0_findRow_11 rfl hl (by decide) rfl (fun ls hl => ?_)
  refine lv_aload_n hx hb dX0_findRow_12 rfl (lv_at hl 3 rfl) ?_
  refine lv_iconst (v := nI 0) hx hb dX0_findRow_13 (by decide +kernel) ?_
  refine va_put (D := (dC, dI)) (ci := 0) (v := .int (nI 0)) (ty := .int) (C := RX0) (T := TX0) (N := 5) hx hb hts in_X0 tyX0 tyX0_ok nmX0 hown hK hP hD hS 0 rfl rfl 1 (by decide) (hts _ q30) (fun _ h9 => h9) rfl (by decide +kernel) rfl rfl (Nat.le_of_ble_eq_true rfl) dX0_findRow_14 (fun H locs hP hD hS => ?_)
  have hP : va_P (dC, dI) vwCl [(h0, .inr (0, [.int (nI n), .int (nI 0), .ref tA, .int fv, .ref yA])), (tA, .inl (d0, 64, .inl aT)), (yA, .inl (d1, 64, .inl aY))] H := hP
  have hD : va_D A [(h0, .inr (0, [.int (nI n), .int (nI 0), .ref tA, .int fv, .ref yA])), (tA, .inl (d0, 64, .inl aT)), (yA, .inl (d1, 64, .inl aY))] := hD
  refine lv_iconst (v := nI 0) hx hb dX0_findRow_17 (by decide +kernel) ?_
  refine lv_istore (lv' := [(4, .int (nI 0)), (3, .int (nI 1)), (2, .int (nI 0)), (1, .int (nI r)), (0, .ref h0)]) hx hb dX0_findRow_18 hl (by decide) rfl (fun ls hl => ?_)
  exact loop (P + 1) 0 0 1 aT _ _ (by omega) (by omega) (rfl) (fun j hj => absurd hj (Nat.not_lt_zero j)) hP hD hS ls (lv_sub hl [4, 3, 2, 1, 0] rfl)

abbrev wsX0_set : List Cond := ws_ yX0_set cX0_set 3 (some .int)
abbrev rmX0_set : Room := ({ frames := 2, cells := 0, slots := 0, locals := 49 } : Room)
set_option maxHeartbeats 4000000 in
set_option maxRecDepth 100000 in
theorem metX0_set (l : Launch) (dC : Nat → ClassId) (dI : Nat → Nat → Nat) (sz : Nat) (h0 tA yA : Nat) (d0 d1 : ClassId) (aT aY : Nat → Int32) (n : Nat) (fv : Int32) (r P : Nat) (hOK : sq_OK r n P) (hrow : ∀ i, i ≤ P → aT i = nI (sq_t r n i)) (p0 : Int32) : Met l yX0_set wsX0_set rmX0_set (va_Pc [.ref h0, .int p0] (fun U => U.heap.size = sz ∧ va_P (dC, dI) vwCl [(h0, .inr (0, [.int (nI n), .int (nI P), .ref tA, .int fv, .ref yA])), (tA, .inl (d0, 64, .inl aT)), (yA, .inl (d1, 64, .inl aY))] U.heap ∧ va_K (dC, dI) vwCl [(d0, .int), (d1, .int)] U ∧ va_D (fun _ => True) [(h0, .inr (0, [.int (nI n), .int (nI P), .ref tA, .int fv, .ref yA])), (tA, .inl (d0, 64, .inl aT)), (yA, .inl (d1, 64, .inl aY))])) (va_Qi (fun (res : Int32) (u : Nat × Nat × Nat × (Nat → Int32)) => sp_set p0 res n u.1 ∧ sq_OK u.2.1 u.1 u.2.2.1 ∧ ∀ i, i ≤ u.2.2.1 → u.2.2.2 i = nI (sq_t u.2.1 u.1 i)) (fun (u : Nat × Nat × Nat × (Nat → Int32)) t => va_P (dC, dI) vwCl [(h0, .inr (0, [.int (nI u.1), .int (nI u.2.2.1), .ref tA, .int fv, .ref yA])), (tA, .inl (d0, 64, .inl u.2.2.2)), (yA, .inl (d1, 64, .inl aY))] t.heap ∧ va_D (va_A [(h0, .inr (0, [.int (nI n), .int (nI P), .ref tA, .int fv, .ref yA])), (tA, .inl (d0, 64, .inl aT)), (yA, .inl (d1, 64, .inl aY))] sz) [(h0, .inr (0, [.int (nI u.1), .int (nI u.2.2.1), .ref tA, .int fv, .ref yA])), (tA, .inl (d0, 64, .inl u.2.2.2)), (yA, .inl (d1, 64, .inl aY))]) (va_A [(h0, .inr (0, [.int (nI n), .int (nI P), .ref tA, .int fv, .ref yA])), (tA, .inl (d0, 64, .inl aT)), (yA, .inl (d1, 64, .inl aY))] sz)) 0 0 (va_A [(h0, .inr (0, [.int (nI n), .int (nI P), .ref tA, .int fv, .ref yA])), (tA, .inl (d0, 64, .inl aT)), (yA, .inl (d1, 64, .inl aY))] sz) := by
  refine Met.ofW (cc := cX0_set) (maxL := 3) (ret := (some .int)) (by decide) rfl ?_
  intro p e s m args below meth c s₁ B hml hv
  obtain ⟨rfl, hsz, hP, hK, hD0⟩ := hv
  have hx := B.exec
  have hb := B.bytes
  have hr := B.returns
  have hts := atoms_spec (ws := wsX0_set) B.pre
  have hts : ∀ w ∈ lw_all, w.before _ s = true := fun w h => hts w (List.mem_cons_of_mem _ h)
  have hown : s.vm.findClass RX0 = some m.cls := findClass_of_methodNamed B.named
  have hlocks := B.notSynchronized
  subst hsz
  have hD := hD0.self (sz := s.heap.size)
  generalize hAe : va_A [(h0, .inr (0, [.int (nI n), .int (nI P), .ref tA, .int fv, .ref yA])), (tA, .inl (d0, 64, .inl aT)), (yA, .inl (d1, 64, .inl aY))] s.heap.size = A at hD ⊢
  have hA : ∀ q : Nat, s.heap.size ≤ q → A q := fun q h => by rw [← hAe]; exact Or.inr h
  have hS : va_S A s.heap s.heap [] := va_S.rf
  have hP : va_P (dC, dI) vwCl [(h0, .inr (0, [.int (nI n), .int (nI P), .ref tA, .int fv, .ref yA])), (tA, .inl (d0, 64, .inl aT)), (yA, .inl (d1, 64, .inl aY))] s.heap := hP
  have hl := lv_entry ([.ref h0, .int p0]) (n := 3) (Nat.le_of_ble_eq_true rfl)
  rw [lg_entry_eq]
  generalize (lg_sl ([.ref h0, .int p0]) ++ List.replicate (3 - (lg_sl ([.ref h0, .int p0])).length) Slot.unset).toArray = ls at hl ⊢
  have hl : lv_has ls 3 [(0, .ref h0), (1, .int p0)] := hl
  refine lv_iload_n hx hb dX0_set_0 rfl (lv_at hl 1 rfl) ?_
  refine lv_iconst (v := nI 2) hx hb dX0_set_1 (by decide +kernel) ?_
  refine lv_icmp_lt (tgt := 11) hx hb dX0_set_2 (by decide) (fun c2 => ?_) (fun c2 => ?_)
  · refine lv_iconst (v := -1) hx hb dX0_set_11 (by decide +kernel) ?_
    exact W.iret (v := -1) hx hb hr (fun t ht hW => ⟨⟨-1, (n, r, P, aT), rfl, ⟨Or.inr ⟨fun N hN => sx_nlo (by omega) c2 hN.1 (by have := hN.2.1; omega) hN.2.2.2, rfl, rfl⟩, hOK, hrow⟩, by rw [ht]; exact hP, hD⟩, hS.F ht⟩) hS.2.2 dX0_set_12
  · refine lv_iload_n hx hb dX0_set_5 rfl (lv_at hl 1 rfl) ?_
    refine lv_bipush (v := nI 120) hx hb dX0_set_6 (by decide +kernel) ?_
    refine lv_icmp_le (tgt := 13) hx hb dX0_set_8 (by decide) (fun c8 => ?_) (fun c8 => ?_)
    · obtain ⟨N, hN1, hN2, rfl⟩ := sx_rng (x := p0) (a := 2) (b := 120) (by omega) (by omega) c2 c8
      refine lv_iload_n hx hb dX0_set_13 rfl (lv_at hl 1 rfl) ?_
      have hFc := sx_fr hA hS
      refine va_calli (va_runS (As := [.int (nI N)]) (rest := []) ⟨hx, hb, hml, hown, hts⟩ (metX0_rootOf l s.heap.size N (by omega)) (va_cwS 1 hts (lw_S q25 q26 q11 q27) rfl rfl rfl (by decide +kernel) ⟨Nat.le_of_ble_eq_true rfl, Nat.le_of_ble_eq_true rfl⟩) ⟨fun a U g mk q => by obtain ⟨q0, q1⟩ := q; exact ⟨q0, q1⟩, fun U hU hW => ⟨rfl, congrArg Array.size hU⟩⟩ rfl rfl hl.1 rfl (lv_room (Nat.le_of_ble_eq_true rfl)) dX0_set_14 ⟨Nat.le_of_ble_eq_true rfl, Nat.le_of_ble_eq_true rfl⟩) hS (fun q _ h => hFc q h) hFc (fun r1 u t H1 locs ht hvm hw hB hz1 hk1 hS => ?_)
      have hP := sx_keep hP hk1
      generalize H1 = H at hP hS ⊢
      obtain ⟨R, rfl, h1, h2⟩ := hw
      refine lv_istore_n (lv' := [(2, .int (nI R)), (0, .ref h0), (1, .int (nI N))]) hx hb dX0_set_17 rfl hl (by decide) rfl (fun ls hl => ?_)
      refine lv_iload_n hx hb dX0_set_18 rfl (lv_at hl 0 rfl) ?_
      refine lv_iload_n hx hb dX0_set_19 rfl (lv_at hl 0 rfl) ?_
      refine lv_imul hx hb dX0_set_20 ?_
      refine sx_i (y := nI (R * R)) (pk_mul _ _) ?_
      refine lv_iload_n hx hb dX0_set_21 rfl (lv_at hl 2 rfl) ?_
      refine lv_icmp_ne (tgt := 27) hx hb dX0_set_22 (by decide) (fun c22 => ?_) (fun c22 => ?_)
      · have hne : R * R ≠ N := sx_ne (by omega) (by omega) c22
        have hno : ∀ q, q * q ≠ N := by
          intro q hq
          apply hne
          rw [sx_root h1 h2 (b := q) (by omega) (by rw [← hq]; exact Nat.mul_lt_mul_of_lt_of_lt (Nat.lt_succ_self q) (Nat.lt_succ_self q))]
          exact hq
        obtain ⟨r', P', hOK'⟩ := sq_all N hN1 hN2 hno
        refine lv_aload_n hx hb dX0_set_27 rfl (lv_at hl 1 rfl) ?_
        refine lv_iload_n hx hb dX0_set_28 rfl (lv_at hl 2 rfl) ?_
        refine va_put (D := (dC, dI)) (ci := 0) (v := .int (nI N)) (ty := .int) (C := RX0) (T := TX0) (N := 5) hx hb hts in_X0 tyX0 tyX0_ok nmX0 hown hK hP hD hS 0 rfl rfl 0 (by decide) (hts _ q29) (fun _ h9 => h9) rfl (by decide +kernel) rfl rfl (Nat.le_of_ble_eq_true rfl) dX0_set_29 (fun H locs hP hD hS => ?_)
        have hP : va_P (dC, dI) vwCl [(h0, .inr (0, [.int (nI N), .int (nI P), .ref tA, .int fv, .ref yA])), (tA, .inl (d0, 64, .inl aT)), (yA, .inl (d1, 64, .inl aY))] H := hP
        have hD : va_D A [(h0, .inr (0, [.int (nI N), .int (nI P), .ref tA, .int fv, .ref yA])), (tA, .inl (d0, 64, .inl aT)), (yA, .inl (d1, 64, .inl aY))] := hD
        refine lv_aload_n hx hb dX0_set_32 rfl (lv_at hl 1 rfl) ?_
        have hPc := hP.sub (ws' := [(h0, .inr (0, [.int (nI N), .int (nI P), .ref tA, .int fv, .ref yA])), (tA, .inl (d0, 64, .inl aT)), (yA, .inl (d1, 64, .inl aY))]) [0, 1, 2] rfl
        have hKc := hK.sub (tys' := [(d0, .int), (d1, .int)]) [0, 1] rfl
        have hDc := hD.sub (ws' := [(h0, .inr (0, [.int (nI N), .int (nI P), .ref tA, .int fv, .ref yA])), (tA, .inl (d0, 64, .inl aT)), (yA, .inl (d1, 64, .inl aY))]) [0, 1, 2] (by decide) rfl
        have hFc := va_free (wc := [(h0, .inr (0, [.int (nI N), .int (nI P), .ref tA, .int fv, .ref yA])), (tA, .inl (d0, 64, .inl aT)), (yA, .inl (d1, 64, .inl aY))]) hD hS hA [0, 1, 2] rfl
        refine va_callv (va_runV (As := []) (rest := []) ⟨hx, hb, hml, hown, hts⟩ (metX0_findRow l dC dI H.size h0 tA yA d0 d1 aT aY N (nI P) fv r' P' hOK'.1) (cwV 0 hts (lw_V q21 q23 qs0 q11 q24) rfl rfl rfl (by decide +kernel) ⟨Nat.le_of_ble_eq_true rfl, Nat.le_of_ble_eq_true rfl⟩) ⟨fun a U g mk q => by obtain ⟨q0, q1, qP, qK, qD⟩ := q; exact ⟨q0, q1, qP, va_K.moved (u := U) (U := U.calling g mk a) (Vm.Alike.refl U.vm) qK, qD⟩, va_recv hKc hPc (ci := 0) (q0 := 0) rfl rfl, fun U hU hW => ⟨rfl, by rw [hU], by rw [hU]; exact hPc, va_K.moved hW.alike hKc, hDc.weaken (fun _ _ _ _ => trivial)⟩⟩ rfl rfl hl.1 rfl (lv_room (Nat.le_of_ble_eq_true rfl)) dX0_set_33 ⟨Nat.le_of_ble_eq_true rfl, Nat.le_of_ble_eq_true rfl⟩) hS (fun q _ h => hFc q h) hFc (fun a1 t H1 locs ht hvm hw hB hz1 hk1 hS => ?_)
        obtain ⟨hP1, hD1⟩ := hB
        rw [ht] at hP1
        obtain ⟨hP, hD⟩ := va_join (wr := []) (w1 := [(h0, .inr (0, [.int (nI N), .int (nI P'), .ref tA, .int fv, .ref yA])), (tA, .inl (d0, 64, .inl a1)), (yA, .inl (d1, 64, .inl aY))]) hP hD [0, 1, 2] [] rfl rfl (by decide) (by decide) hk1 hFc hP1 hD1
        generalize H1 = H at hP hS ⊢
        have hP : va_P (dC, dI) vwCl [(h0, .inr (0, [.int (nI N), .int (nI P'), .ref tA, .int fv, .ref yA])), (tA, .inl (d0, 64, .inl a1)), (yA, .inl (d1, 64, .inl aY))] H := hP
        have hD : va_D A [(h0, .inr (0, [.int (nI N), .int (nI P'), .ref tA, .int fv, .ref yA])), (tA, .inl (d0, 64, .inl a1)), (yA, .inl (d1, 64, .inl aY))] := hD
        refine lv_iconst (v := nI 0) hx hb dX0_set_36 (by decide +kernel) ?_
        exact W.iret (v := nI 0) hx hb hr (fun t ht hW => ⟨⟨nI 0, (N, r', P', a1), rfl, ⟨Or.inl ⟨⟨hN1, hN2, hno, rfl⟩, nI_0⟩, hOK', hw⟩, by rw [ht]; exact hP, hD⟩, hS.F ht⟩) hS.2.2 dX0_set_37
      · have heq : R * R = N := sx_eq (by omega) (by omega) c22
        refine lv_iconst (v := -1) hx hb dX0_set_25 (by decide +kernel) ?_
        exact W.iret (v := -1) hx hb hr (fun t ht hW => ⟨⟨-1, (n, r, P, aT), rfl, ⟨Or.inr ⟨fun N' hN' => hN'.2.2.1 R (by rw [heq]; exact sx_eq (by omega) (by have := hN'.2.1; omega) hN'.2.2.2), rfl, rfl⟩, hOK, hrow⟩, by rw [ht]; exact hP, hD⟩, hS.F ht⟩) hS.2.2 dX0_set_26
    · refine lv_iconst (v := -1) hx hb dX0_set_11 (by decide +kernel) ?_
      exact W.iret (v := -1) hx hb hr (fun t ht hW => ⟨⟨-1, (n, r, P, aT), rfl, ⟨Or.inr ⟨fun N hN => sx_nhi (by omega) c8 hN.2.1 hN.2.2.2, rfl, rfl⟩, hOK, hrow⟩, by rw [ht]; exact hP, hD⟩, hS.F ht⟩) hS.2.2 dX0_set_12
end
section
theorem sx_pred (c : Nat) : nI c - nI 1 = iI ((c : Int) - 1) := by
  rw [← iI_nat, ← iI_nat]
  exact (Int32.ofInt_sub _ _).symm
theorem sx_ff {f : Nat} (h1 : 0 < f) (h2 : f ≤ 3) : 0 < f * f ∧ f * f ≤ 9 := by
  have h : f = 1 ∨ f = 2 ∨ f = 3 := by omega
  rcases h with h | h | h <;> rw [h] <;> decide
theorem sx_div9a : ∀ a : Fin 19, ∀ b : Fin 3, (iI ((a.val : Int) - 9) - iI ((a.val : Int) - 9) / nI ((b.val + 1) * (b.val + 1)) * nI ((b.val + 1) * (b.val + 1)) = 0 ∧ iI ((a.val : Int) - 9) / nI ((b.val + 1) * (b.val + 1)) = iI (((a.val : Int) - 9) / (((b.val + 1) * (b.val + 1) : Nat) : Int)) ∧ (((b.val + 1) * (b.val + 1) : Nat) : Int) * (((a.val : Int) - 9) / (((b.val + 1) * (b.val + 1) : Nat) : Int)) = (a.val : Int) - 9) ∨ (¬ iI ((a.val : Int) - 9) - iI ((a.val : Int) - 9) / nI ((b.val + 1) * (b.val + 1)) * nI ((b.val + 1) * (b.val + 1)) = 0 ∧ ((a.val : Int) - 9) % (((b.val + 1) * (b.val + 1) : Nat) : Int) ≠ 0) := by decide +kernel
theorem sx_div9 {z : Int} {f : Nat} (hz1 : -9 ≤ z) (hz2 : z ≤ 9) (hf1 : 0 < f) (hf2 : f ≤ 3) : (iI z - iI z / nI (f * f) * nI (f * f) = 0 ∧ ∃ w : Int, iI z / nI (f * f) = iI w ∧ ((f * f : Nat) : Int) * w = z ∧ -9 ≤ w ∧ w ≤ 9) ∨ (¬ iI z - iI z / nI (f * f) * nI (f * f) = 0 ∧ ∀ w : Int, ((f * f : Nat) : Int) * w ≠ z) := by
  obtain ⟨hff1, hff2⟩ := sx_ff hf1 hf2
  have h := sx_div9a ⟨(z + 9).toNat, by omega⟩ ⟨f - 1, by omega⟩
  dsimp only at h
  rw [show (((z + 9).toNat : Nat) : Int) - 9 = z by omega, show f - 1 + 1 = f by omega] at h
  rcases h with ⟨h1, h2, h3⟩ | ⟨h1, h2⟩
  · refine Or.inl ⟨h1, z / ((f * f : Nat) : Int), h2, h3, ?_, ?_⟩
    · generalize z / ((f * f : Nat) : Int) = w at h3
      generalize f * f = F at h3 hff1 hff2
      rcases Int.lt_or_le w (-9) with q | q
      · have := Int.mul_le_mul_of_nonneg_left (c := (F : Int)) (show w ≤ -10 by omega) (by omega)
        omega
      · exact q
    · generalize z / ((f * f : Nat) : Int) = w at h3
      generalize f * f = F at h3 hff1 hff2
      rcases Int.lt_or_le 9 w with q | q
      · have := Int.mul_le_mul_of_nonneg_left (c := (F : Int)) (show 10 ≤ w by omega) (by omega)
        omega
      · exact q
  · refine Or.inr ⟨h1, fun w hw => h2 ?_⟩
    rw [← hw]
    exact Int.mul_emod_right _ _
abbrev wsX0_addY : List Cond := ws_ yX0_addY cX0_addY 4 none
abbrev rmX0_addY : Room := ({ frames := 0, cells := 0, slots := 0, locals := 0 } : Room)
set_option maxHeartbeats 4000000 in
set_option maxRecDepth 100000 in
theorem metX0_addY (l : Launch) (dC : Nat → ClassId) (dI : Nat → Nat → Nat) (sz : Nat) (h0 tA yA : Nat) (d0 d1 : ClassId) (aT aY : Nat → Int32) (n : Nat) (pv : Int32) (c0 : Nat) (S : Nat → Prop) (hL : sp_L c0 aY S) (hc : c0 < 64) (y : Nat) (hy : y ≤ 3000) : Met l yX0_addY wsX0_addY rmX0_addY (va_Pc [.ref h0, .int (nI y)] (fun U => U.heap.size = sz ∧ va_P (dC, dI) vwCl [(h0, .inr (0, [.int (nI n), .int pv, .ref tA, .int (nI c0), .ref yA])), (tA, .inl (d0, 64, .inl aT)), (yA, .inl (d1, 64, .inl aY))] U.heap ∧ va_K (dC, dI) vwCl [(d0, .int), (d1, .int)] U ∧ va_D (fun _ => True) [(h0, .inr (0, [.int (nI n), .int pv, .ref tA, .int (nI c0), .ref yA])), (tA, .inl (d0, 64, .inl aT)), (yA, .inl (d1, 64, .inl aY))])) (va_Qv (fun (u : Nat × (Nat → Int32)) => sp_L u.1 u.2 (fun z => S z ∨ z = y) ∧ u.1 ≤ c0 + 1) (fun (u : Nat × (Nat → Int32)) t => va_P (dC, dI) vwCl [(h0, .inr (0, [.int (nI n), .int pv, .ref tA, .int (nI u.1), .ref yA])), (tA, .inl (d0, 64, .inl aT)), (yA, .inl (d1, 64, .inl u.2))] t.heap ∧ va_D (va_A [(h0, .inr (0, [.int (nI n), .int pv, .ref tA, .int (nI c0), .ref yA])), (tA, .inl (d0, 64, .inl aT)), (yA, .inl (d1, 64, .inl aY))] sz) [(h0, .inr (0, [.int (nI n), .int pv, .ref tA, .int (nI u.1), .ref yA])), (tA, .inl (d0, 64, .inl aT)), (yA, .inl (d1, 64, .inl u.2))]) (va_A [(h0, .inr (0, [.int (nI n), .int pv, .ref tA, .int (nI c0), .ref yA])), (tA, .inl (d0, 64, .inl aT)), (yA, .inl (d1, 64, .inl aY))] sz)) 0 0 (va_A [(h0, .inr (0, [.int (nI n), .int pv, .ref tA, .int (nI c0), .ref yA])), (tA, .inl (d0, 64, .inl aT)), (yA, .inl (d1, 64, .inl aY))] sz) := by
  refine Met.ofW (cc := cX0_addY) (maxL := 4) (ret := none) (by decide) rfl ?_
  intro p e s m args below meth c s₁ B hml hv
  obtain ⟨rfl, hsz, hP, hK, hD0⟩ := hv
  have hx := B.exec
  have hb := B.bytes
  have hr := B.returns
  have hts := atoms_spec (ws := wsX0_addY) B.pre
  have hts : ∀ w ∈ lw_all, w.before _ s = true := fun w h => hts w (List.mem_cons_of_mem _ h)
  have hown : s.vm.findClass RX0 = some m.cls := findClass_of_methodNamed B.named
  have hlocks := B.notSynchronized
  subst hsz
  have hD := hD0.self (sz := s.heap.size)
  generalize hAe : va_A [(h0, .inr (0, [.int (nI n), .int pv, .ref tA, .int (nI c0), .ref yA])), (tA, .inl (d0, 64, .inl aT)), (yA, .inl (d1, 64, .inl aY))] s.heap.size = A at hD ⊢
  have hA : ∀ q : Nat, s.heap.size ≤ q → A q := fun q h => by rw [← hAe]; exact Or.inr h
  have hS : va_S A s.heap s.heap [] := va_S.rf
  have hP : va_P (dC, dI) vwCl [(h0, .inr (0, [.int (nI n), .int pv, .ref tA, .int (nI c0), .ref yA])), (tA, .inl (d0, 64, .inl aT)), (yA, .inl (d1, 64, .inl aY))] s.heap := hP
  have hl := lv_entry ([.ref h0, .int (nI y)]) (n := 4) (Nat.le_of_ble_eq_true rfl)
  rw [lg_entry_eq]
  generalize (lg_sl ([.ref h0, .int (nI y)]) ++ List.replicate (4 - (lg_sl ([.ref h0, .int (nI y)])).length) Slot.unset).toArray = ls at hl ⊢
  have hl : lv_has ls 4 [(0, .ref h0), (1, .int (nI y))] := hl
  obtain ⟨g, h1, h2, h3⟩ := id hL
  have loop2 : ∀ (k : Nat) (i : Nat) (pl : Nat) (a' : Nat → Int32) (H : Heap) (locs : List Loc), (i < k) → (pl ≤ i) → (i ≤ c0) → (∀ j, j < pl → g j < y) → (∀ j, pl ≤ j → j < c0 → y < g j) → (∀ j, j ≤ i → a' j = aY j) → (∀ j, i ≤ j → j < c0 → a' (j + 1) = aY j) → va_P (dC, dI) vwCl [(h0, .inr (0, [.int (nI n), .int pv, .ref tA, .int (nI c0), .ref yA])), (tA, .inl (d0, 64, .inl aT)), (yA, .inl (d1, 64, .inl a'))] H → va_D A [(h0, .inr (0, [.int (nI n), .int pv, .ref tA, .int (nI c0), .ref yA])), (tA, .inl (d0, 64, .inl aT)), (yA, .inl (d1, 64, .inl a'))] → va_S A s.heap H locs → ∀ (ls : Array Slot), lv_has ls 4 [(0, .ref h0), (1, .int (nI y)), (2, .int (nI pl)), (3, .int (nI i))] → W p l e (headSpec wsX0_addY rmX0_addY).room s m ([.ref h0, .int (nI y)] : List Value).toArray below meth c H locs 0 0 (MQ below (va_Qv (fun (u : Nat × (Nat → Int32)) => sp_L u.1 u.2 (fun z => S z ∨ z = y) ∧ u.1 ≤ c0 + 1) (fun (u : Nat × (Nat → Int32)) t => va_P (dC, dI) vwCl [(h0, .inr (0, [.int (nI n), .int pv, .ref tA, .int (nI u.1), .ref yA])), (tA, .inl (d0, 64, .inl aT)), (yA, .inl (d1, 64, .inl u.2))] t.heap ∧ va_D A [(h0, .inr (0, [.int (nI n), .int pv, .ref tA, .int (nI u.1), .ref yA])), (tA, .inl (d0, 64, .inl aT)), (yA, .inl (d1, 64, .inl u.2))]) A) ([.ref h0, .int (nI y)] : List Value).toArray s 0 0 A) (F0 m 54 ls []) := by
    intro k
    induction k with
    | zero =>
      intro i pl a' H locs hk
      exact absurd hk (Nat.not_lt_zero _)
    | succ k ih =>
      intro i pl a' H locs hk hpi hic hlo hhi e1 e3 hP hD hS ls hl
      refine lv_iload_n hx hb dX0_addY_54 rfl (lv_at hl 3 rfl) ?_
      refine lv_iload_n hx hb dX0_addY_55 rfl (lv_at hl 2 rfl) ?_
      refine lv_icmp_le (tgt := 79) hx hb dX0_addY_56 (by decide) (fun c56 => ?_) (fun c56 => ?_)
      · have hc1 : i ≤ pl := sx_le (by omega) (by omega) c56
        have hc2 : i = pl := by omega
        rw [hc2] at e1 e3
        refine lv_aload_n hx hb dX0_addY_79 rfl (lv_at hl 0 rfl) ?_
        refine va_get (D := (dC, dI)) (ci := 0) (v := .ref yA) (C := RX0) (T := TX0) (N := 5) hx hb hts in_X0 hown hK hP 0 rfl rfl 4 (by decide) (hts _ q33) (fun _ h9 => h9) rfl dX0_addY_80 ?_
        refine lv_iload_n hx hb dX0_addY_83 rfl (lv_at hl 2 rfl) ?_
        refine lv_iload_n hx hb dX0_addY_84 rfl (lv_at hl 1 rfl) ?_
        refine va_iast hx hb hK hP hD hS 2 1 rfl rfl (vp_in_nI (by omega) (by omega)) dX0_addY_85 (fun H locs hP hD hS => ?_)
        have hP : va_P (dC, dI) vwCl [(h0, .inr (0, [.int (nI n), .int pv, .ref tA, .int (nI c0), .ref yA])), (tA, .inl (d0, 64, .inl aT)), (yA, .inl (d1, 64, .inl (upd a' (nI pl).toNatClampNeg (nI y))))] H := hP
        have hD : va_D A [(h0, .inr (0, [.int (nI n), .int pv, .ref tA, .int (nI c0), .ref yA])), (tA, .inl (d0, 64, .inl aT)), (yA, .inl (d1, 64, .inl (upd a' (nI pl).toNatClampNeg (nI y))))] := hD
        generalize ea3 : upd a' (nI pl).toNatClampNeg (nI y) = a3 at hP hD
        refine lv_aload_n hx hb dX0_addY_86 rfl (lv_at hl 0 rfl) ?_
        refine lv_dup hx hb dX0_addY_87 rfl ?_
        refine va_get (D := (dC, dI)) (ci := 0) (v := .int (nI c0)) (C := RX0) (T := TX0) (N := 5) hx hb hts in_X0 hown hK hP 0 rfl rfl 3 (by decide) (hts _ q32) (fun _ h9 => h9) rfl dX0_addY_88 ?_
        refine lv_iconst (v := nI 1) hx hb dX0_addY_91 (by decide +kernel) ?_
        refine lv_iadd hx hb dX0_addY_92 ?_
        refine sx_i (y := nI (c0 + 1)) (nI_add _ _) ?_
        refine va_put (D := (dC, dI)) (ci := 0) (v := .int (nI (c0 + 1))) (ty := .int) (C := RX0) (T := TX0) (N := 5) hx hb hts in_X0 tyX0 tyX0_ok nmX0 hown hK hP hD hS 0 rfl rfl 3 (by decide) (hts _ q32) (fun _ h9 => h9) rfl (by decide +kernel) rfl rfl (Nat.le_of_ble_eq_true rfl) dX0_addY_93 (fun H locs hP hD hS => ?_)
        have hP : va_P (dC, dI) vwCl [(h0, .inr (0, [.int (nI n), .int pv, .ref tA, .int (nI (c0 + 1)), .ref yA])), (tA, .inl (d0, 64, .inl aT)), (yA, .inl (d1, 64, .inl a3))] H := hP
        have hD : va_D A [(h0, .inr (0, [.int (nI n), .int pv, .ref tA, .int (nI (c0 + 1)), .ref yA])), (tA, .inl (d0, 64, .inl aT)), (yA, .inl (d1, 64, .inl a3))] := hD
        have hL3 : sp_L (c0 + 1) a3 (fun z => S z ∨ z = y) := by
          refine sp_L_put h1 h2 h3 hy (p := pl) (by omega) hlo hhi ?_ ?_ ?_
          · intro j hj
            rw [← ea3, sx_clamp (by omega), pk_un (by omega)]
            exact e1 j (by omega)
          · rw [← ea3, sx_clamp (by omega), pk_us]
          · intro j hj1 hj2
            rw [← ea3, sx_clamp (by omega), pk_un (by omega)]
            exact e3 j hj1 hj2
        exact W.vret hx hb hr (fun t ht hW => ⟨⟨(c0 + 1, a3), rfl, ⟨hL3, Nat.le_refl _⟩, by rw [ht]; exact hP, hD⟩, hS.F ht⟩) hS.2.2 dX0_addY_96
      · have hc1 : pl < i := sx_gt (by omega) (by omega) c56
        obtain ⟨i', rfl⟩ : ∃ i', i = i' + 1 := ⟨i - 1, by omega⟩
        refine lv_aload_n hx hb dX0_addY_59 rfl (lv_at hl 0 rfl) ?_
        refine va_get (D := (dC, dI)) (ci := 0) (v := .ref yA) (C := RX0) (T := TX0) (N := 5) hx hb hts in_X0 hown hK hP 0 rfl rfl 4 (by decide) (hts _ q33) (fun _ h9 => h9) rfl dX0_addY_60 ?_
        refine lv_iload_n hx hb dX0_addY_63 rfl (lv_at hl 3 rfl) ?_
        refine lv_aload_n hx hb dX0_addY_64 rfl (lv_at hl 0 rfl) ?_
        refine va_get (D := (dC, dI)) (ci := 0) (v := .ref yA) (C := RX0) (T := TX0) (N := 5) hx hb hts in_X0 hown hK hP 0 rfl rfl 4 (by decide) (hts _ q33) (fun _ h9 => h9) rfl dX0_addY_65 ?_
        refine lv_iload_n hx hb dX0_addY_68 rfl (lv_at hl 3 rfl) ?_
        refine lv_iconst (v := nI 1) hx hb dX0_addY_69 (by decide +kernel) ?_
        refine lv_isub hx hb dX0_addY_70 ?_
        refine sx_i (y := nI i') (pk_sub (a := i' + 1) (b := 1) (by omega)) ?_
        refine va_iald hx hb hK hP 2 1 rfl rfl (vp_in_nI (by omega) (by omega)) dX0_addY_71 ?_
        refine sx_i (y := a' i') (sx_ald (by omega) rfl) ?_
        refine va_iast hx hb hK hP hD hS 2 1 rfl rfl (vp_in_nI (by omega) (by omega)) dX0_addY_72 (fun H locs hP hD hS => ?_)
        have hP : va_P (dC, dI) vwCl [(h0, .inr (0, [.int (nI n), .int pv, .ref tA, .int (nI c0), .ref yA])), (tA, .inl (d0, 64, .inl aT)), (yA, .inl (d1, 64, .inl (upd a' (nI (i' + 1)).toNatClampNeg (a' i'))))] H := hP
        have hD : va_D A [(h0, .inr (0, [.int (nI n), .int pv, .ref tA, .int (nI c0), .ref yA])), (tA, .inl (d0, 64, .inl aT)), (yA, .inl (d1, 64, .inl (upd a' (nI (i' + 1)).toNatClampNeg (a' i'))))] := hD
        generalize ea2 : upd a' (nI (i' + 1)).toNatClampNeg (a' i') = a2 at hP hD
        refine lv_iinc (v := nI i') (lv' := [(3, .int (nI i')), (0, .ref h0), (1, .int (nI y)), (2, .int (nI pl))]) hx hb dX0_addY_73 hl (k := 3) rfl (sx_dec _) (by decide) rfl (fun ls hl => ?_)
        refine lv_goto (tgt := 54) hx hb dX0_addY_76 (by decide) ?_
        exact ih i' pl a2 _ _ (by omega) (by omega) (by omega) (hlo) (hhi) (fun j hj => by
          rw [← ea2, sx_clamp (by omega), pk_un (by omega)]
          exact e1 j (by omega)) (fun j hj1 hj2 => by
          rw [← ea2, sx_clamp (by omega)]
          by_cases h : j = i'
          · rw [h, pk_us]; exact e1 i' (by omega)
          · rw [pk_un (by omega)]; exact e3 j (by omega) hj2) hP hD hS ls (lv_sub hl [1, 2, 3, 0] rfl)
  have loop1 : ∀ (k : Nat) (m' : Nat) (pl : Nat) (H : Heap) (locs : List Loc), (m' < k) → (m' ≤ pl) → (pl ≤ c0) → (∀ j, m' ≤ j → j < pl → g j < y) → (∀ j, pl ≤ j → j < c0 → y < g j) → va_P (dC, dI) vwCl [(h0, .inr (0, [.int (nI n), .int pv, .ref tA, .int (nI c0), .ref yA])), (tA, .inl (d0, 64, .inl aT)), (yA, .inl (d1, 64, .inl aY))] H → va_D A [(h0, .inr (0, [.int (nI n), .int pv, .ref tA, .int (nI c0), .ref yA])), (tA, .inl (d0, 64, .inl aT)), (yA, .inl (d1, 64, .inl aY))] → va_S A s.heap H locs → ∀ (ls : Array Slot), lv_has ls 4 [(0, .ref h0), (1, .int (nI y)), (2, .int (nI pl)), (3, .int (iI ((m' : Int) - 1)))] → W p l e (headSpec wsX0_addY rmX0_addY).room s m ([.ref h0, .int (nI y)] : List Value).toArray below meth c H locs 0 0 (MQ below (va_Qv (fun (u : Nat × (Nat → Int32)) => sp_L u.1 u.2 (fun z => S z ∨ z = y) ∧ u.1 ≤ c0 + 1) (fun (u : Nat × (Nat → Int32)) t => va_P (dC, dI) vwCl [(h0, .inr (0, [.int (nI n), .int pv, .ref tA, .int (nI u.1), .ref yA])), (tA, .inl (d0, 64, .inl aT)), (yA, .inl (d1, 64, .inl u.2))] t.heap ∧ va_D A [(h0, .inr (0, [.int (nI n), .int pv, .ref tA, .int (nI u.1), .ref yA])), (tA, .inl (d0, 64, .inl aT)), (yA, .inl (d1, 64, .inl u.2))]) A) ([.ref h0, .int (nI y)] : List Value).toArray s 0 0 A) (F0 m 12 ls []) := by
    intro k
    induction k with
    | zero =>
      intro m' pl H locs hk
      exact absurd hk (Nat.not_lt_zero _)
    | succ k ih =>
      intro m' pl H locs hk hmp hpc hmid hhi hP hD hS ls hl
      rcases Nat.eq_zero_or_pos m' with hm0 | hm0
      · subst hm0
        refine lv_iload_n hx hb dX0_addY_12 rfl (lv_at hl 3 rfl) ?_
        refine lv_if_lt (tgt := 49) hx hb dX0_addY_13 (by decide) (fun c13 => ?_) (fun c13 => False.elim (c13 (by decide)))
        refine lv_aload_n hx hb dX0_addY_49 rfl (lv_at hl 0 rfl) ?_
        refine va_get (D := (dC, dI)) (ci := 0) (v := .int (nI c0)) (C := RX0) (T := TX0) (N := 5) hx hb hts in_X0 hown hK hP 0 rfl rfl 3 (by decide) (hts _ q32) (fun _ h9 => h9) rfl dX0_addY_50 ?_
        refine lv_istore_n (lv' := [(3, .int (nI c0)), (0, .ref h0), (1, .int (nI y)), (2, .int (nI pl))]) hx hb dX0_addY_53 rfl hl (by decide) rfl (fun ls hl => ?_)
        exact loop2 (c0 + 1) c0 pl aY _ _ (by omega) (by omega) (by omega) (fun j hj => hmid j (by omega) hj) (hhi) (fun j hj => rfl) (fun j hj1 hj2 => by omega) hP hD hS ls (lv_sub hl [1, 2, 3, 0] rfl)
      · obtain ⟨q, rfl⟩ : ∃ q, m' = q + 1 := ⟨m' - 1, by omega⟩
        have hqe : iI (((q + 1 : Nat) : Int) - 1) = nI q := by rw [← iI_nat]; congr 1; omega
        rw [hqe] at hl
        obtain ⟨hq1, hq2⟩ := h1 q (by omega)
        refine lv_iload_n hx hb dX0_addY_12 rfl (lv_at hl 3 rfl) ?_
        refine lv_if_lt (tgt := 49) hx hb dX0_addY_13 (by decide) (fun c13 => False.elim (nI_pos (by omega) c13)) (fun c13 => ?_)
        refine lv_aload_n hx hb dX0_addY_16 rfl (lv_at hl 0 rfl) ?_
        refine va_get (D := (dC, dI)) (ci := 0) (v := .ref yA) (C := RX0) (T := TX0) (N := 5) hx hb hts in_X0 hown hK hP 0 rfl rfl 4 (by decide) (hts _ q33) (fun _ h9 => h9) rfl dX0_addY_17 ?_
        refine lv_iload_n hx hb dX0_addY_20 rfl (lv_at hl 3 rfl) ?_
        refine va_iald hx hb hK hP 2 1 rfl rfl (vp_in_nI (by omega) (by omega)) dX0_addY_21 ?_
        refine sx_i (y := nI (g q)) (sx_ald (by omega) hq1) ?_
        refine lv_iload_n hx hb dX0_addY_22 rfl (lv_at hl 1 rfl) ?_
        refine lv_icmp_ne (tgt := 27) hx hb dX0_addY_23 (by decide) (fun c23 => ?_) (fun c23 => ?_)
        · have hne : g q ≠ y := sx_ne (by omega) (by omega) c23
          refine lv_aload_n hx hb dX0_addY_27 rfl (lv_at hl 0 rfl) ?_
          refine va_get (D := (dC, dI)) (ci := 0) (v := .ref yA) (C := RX0) (T := TX0) (N := 5) hx hb hts in_X0 hown hK hP 0 rfl rfl 4 (by decide) (hts _ q33) (fun _ h9 => h9) rfl dX0_addY_28 ?_
          refine lv_iload_n hx hb dX0_addY_31 rfl (lv_at hl 3 rfl) ?_
          refine va_iald hx hb hK hP 2 1 rfl rfl (vp_in_nI (by omega) (by omega)) dX0_addY_32 ?_
          refine sx_i (y := nI (g q)) (sx_ald (by omega) hq1) ?_
          refine lv_iload_n hx hb dX0_addY_33 rfl (lv_at hl 1 rfl) ?_
          refine lv_icmp_le (tgt := 41) hx hb dX0_addY_34 (by decide) (fun c34 => ?_) (fun c34 => ?_)
          · have hle : g q ≤ y := sx_le (by omega) (by omega) c34
            refine lv_iload_n hx hb dX0_addY_41 rfl (lv_at hl 2 rfl) ?_
            refine lv_istore_n (lv' := [(2, .int (nI pl)), (0, .ref h0), (1, .int (nI y)), (3, .int (nI q))]) hx hb dX0_addY_42 rfl hl (by decide) rfl (fun ls hl => ?_)
            refine lv_iinc (v := iI ((q : Int) - 1)) (lv' := [(3, .int (iI ((q : Int) - 1))), (2, .int (nI pl)), (0, .ref h0), (1, .int (nI y))]) hx hb dX0_addY_43 hl (k := 3) rfl (by rw [← iI_nat]; exact iI_add _ _) (by decide) rfl (fun ls hl => ?_)
            refine lv_goto (tgt := 12) hx hb dX0_addY_46 (by decide) ?_
            exact ih q pl _ _ (by omega) (by omega) (by omega) (fun j hj1 hj2 => by
              by_cases h : j = q
              · rw [h]; omega
              · exact hmid j (by omega) hj2) (hhi) hP hD hS ls (lv_sub hl [2, 3, 1, 0] rfl)
          · have hgt : y < g q := sx_gt (by omega) (by omega) c34
            refine lv_iload_n hx hb dX0_addY_37 rfl (lv_at hl 3 rfl) ?_
            refine lv_goto (tgt := 42) hx hb dX0_addY_38 (by decide) ?_
            refine lv_istore_n (lv' := [(2, .int (nI q)), (0, .ref h0), (1, .int (nI y)), (3, .int (nI q))]) hx hb dX0_addY_42 rfl hl (by decide) rfl (fun ls hl => ?_)
            refine lv_iinc (v := iI ((q : Int) - 1)) (lv' := [(3, .int (iI ((q : Int) - 1))), (2, .int (nI q)), (0, .ref h0), (1, .int (nI y))]) hx hb dX0_addY_43 hl (k := 3) rfl (by rw [← iI_nat]; exact iI_add _ _) (by decide) rfl (fun ls hl => ?_)
            refine lv_goto (tgt := 12) hx hb dX0_addY_46 (by decide) ?_
            exact ih q q _ _ (by omega) (by omega) (by omega) (fun j hj1 hj2 => by omega) (fun j hj1 hj2 => by
              by_cases h : j = q
              · rw [h]; exact hgt
              · have := h2 q j (by omega) hj2; omega) hP hD hS ls (lv_sub hl [2, 3, 1, 0] rfl)
        · have heq : g q = y := sx_eq (by omega) (by omega) c23
          have hL4 : sp_L c0 aY (fun z => S z ∨ z = y) := by
            refine sp_L_iff (fun z => ⟨Or.inl, fun h => ?_⟩) hL
            rcases h with h | h
            · exact h
            · exact (h3 z).mpr ⟨q, by omega, by rw [h]; exact heq⟩
          exact W.vret hx hb hr (fun t ht hW => ⟨⟨(c0, aY), rfl, ⟨hL4, by omega⟩, by rw [ht]; exact hP, hD⟩, hS.F ht⟩) hS.2.2 dX0_addY_26
  refine lv_aload_n hx hb dX0_addY_0 rfl (lv_at hl 0 rfl) ?_
  refine va_get (D := (dC, dI)) (ci := 0) (v := .int (nI c0)) (C := RX0) (T := TX0) (N := 5) hx hb hts in_X0 hown hK hP 0 rfl rfl 3 (by decide) (hts _ q32) (fun _ h9 => h9) rfl dX0_addY_1 ?_
  refine lv_istore_n (lv' := [(2, .int (nI c0)), (0, .ref h0), (1, .int (nI y))]) hx hb dX0_addY_4 rfl hl (by decide) rfl (fun ls hl => ?_)
  refine lv_aload_n hx hb dX0_addY_5 rfl (lv_at hl 1 rfl) ?_
  refine va_get (D := (dC, dI)) (ci := 0) (v := .int (nI c0)) (C := RX0) (T := TX0) (N := 5) hx hb hts in_X0 hown hK hP 0 rfl rfl 3 (by decide) (hts _ q32) (fun _ h9 => h9) rfl dX0_addY_6 ?_
  refine lv_iconst (v := nI 1) hx hb dX0_addY_9 (by decide +kernel) ?_
  refine lv_isub hx hb dX0_addY_10 ?_
  refine sx_i (y := iI ((c0 : Int) - 1)) (sx_pred c0) ?_
  refine lv_istore_n (lv' := [(3, .int (iI ((c0 : Int) - 1))), (2, .int (nI c0)), (0, .ref h0), (1, .int (nI y))]) hx hb dX0_addY_11 rfl hl (by decide) rfl (fun ls hl => ?_)
  exact loop1 (c0 + 1) c0 c0 _ _ (by omega) (by omega) (by omega) (fun j hj1 hj2 => by omega) (fun j hj1 hj2 => by omega) hP hD hS ls (lv_sub hl [2, 3, 1, 0] rfl)

abbrev wsX0_addFractions : List Cond := ws_ yX0_addFractions cX0_addFractions 17 none
abbrev rmX0_addFractions : Room := ({ frames := 1, cells := 0, slots := 0, locals := 23 } : Room)
set_option maxHeartbeats 4000000 in
set_option maxRecDepth 100000 in
theorem metX0_addFractions (l : Launch) (dC : Nat → ClassId) (dI : Nat → Nat → Nat) (sz : Nat) (h0 tA yA : Nat) (d0 d1 : ClassId) (aT aY : Nat → Int32) (n : Nat) (r P K : Nat) (hA0 : sq_A r n P) (hB0 : sq_B r n K) (hrow : ∀ i, i ≤ P → aT i = nI (sq_t r n i)) (c0 : Nat) (S : Nat → Prop) (hL : sp_L c0 aY S) (hc : c0 ≤ 40) (w : Int) (hw1 : -9 ≤ w) (hw2 : w ≤ 9) (f : Nat) (hf1 : 0 < f) (hf2 : f ≤ 3) : Met l yX0_addFractions wsX0_addFractions rmX0_addFractions (va_Pc [.ref h0, .int (iI w), .int (nI f)] (fun U => U.heap.size = sz ∧ va_P (dC, dI) vwCl [(h0, .inr (0, [.int (nI n), .int (nI P), .ref tA, .int (nI c0), .ref yA])), (tA, .inl (d0, 64, .inl aT)), (yA, .inl (d1, 64, .inl aY))] U.heap ∧ va_K (dC, dI) vwCl [(d0, .int), (d1, .int)] U ∧ va_D (fun _ => True) [(h0, .inr (0, [.int (nI n), .int (nI P), .ref tA, .int (nI c0), .ref yA])), (tA, .inl (d0, 64, .inl aT)), (yA, .inl (d1, 64, .inl aY))])) (va_Qv (fun (u : Nat × (Nat → Int32)) => sp_L u.1 u.2 (fun y => S y ∨ sp_F r n K w f y) ∧ u.1 ≤ c0 + 20) (fun (u : Nat × (Nat → Int32)) t => va_P (dC, dI) vwCl [(h0, .inr (0, [.int (nI n), .int (nI P), .ref tA, .int (nI u.1), .ref yA])), (tA, .inl (d0, 64, .inl aT)), (yA, .inl (d1, 64, .inl u.2))] t.heap ∧ va_D (va_A [(h0, .inr (0, [.int (nI n), .int (nI P), .ref tA, .int (nI c0), .ref yA])), (tA, .inl (d0, 64, .inl aT)), (yA, .inl (d1, 64, .inl aY))] sz) [(h0, .inr (0, [.int (nI n), .int (nI P), .ref tA, .int (nI u.1), .ref yA])), (tA, .inl (d0, 64, .inl aT)), (yA, .inl (d1, 64, .inl u.2))]) (va_A [(h0, .inr (0, [.int (nI n), .int (nI P), .ref tA, .int (nI c0), .ref yA])), (tA, .inl (d0, 64, .inl aT)), (yA, .inl (d1, 64, .inl aY))] sz)) 0 0 (va_A [(h0, .inr (0, [.int (nI n), .int (nI P), .ref tA, .int (nI c0), .ref yA])), (tA, .inl (d0, 64, .inl aT)), (yA, .inl (d1, 64, .inl aY))] sz) := by
  refine Met.ofW (cc := cX0_addFractions) (maxL := 17) (ret := none) (by decide) rfl ?_
  intro p e s m args below meth c s₁ B hml hv
  obtain ⟨rfl, hsz, hP, hK, hD0⟩ := hv
  have hx := B.exec
  have hb := B.bytes
  have hr := B.returns
  have hts := atoms_spec (ws := wsX0_addFractions) B.pre
  have hts : ∀ w ∈ lw_all, w.before _ s = true := fun w h => hts w (List.mem_cons_of_mem _ h)
  have hown : s.vm.findClass RX0 = some m.cls := findClass_of_methodNamed B.named
  have hlocks := B.notSynchronized
  subst hsz
  have hD := hD0.self (sz := s.heap.size)
  generalize hAe : va_A [(h0, .inr (0, [.int (nI n), .int (nI P), .ref tA, .int (nI c0), .ref yA])), (tA, .inl (d0, 64, .inl aT)), (yA, .inl (d1, 64, .inl aY))] s.heap.size = A at hD ⊢
  have hA : ∀ q : Nat, s.heap.size ≤ q → A q := fun q h => by rw [← hAe]; exact Or.inr h
  have hS : va_S A s.heap s.heap [] := va_S.rf
  have hP : va_P (dC, dI) vwCl [(h0, .inr (0, [.int (nI n), .int (nI P), .ref tA, .int (nI c0), .ref yA])), (tA, .inl (d0, 64, .inl aT)), (yA, .inl (d1, 64, .inl aY))] s.heap := hP
  have hl := lv_entry ([.ref h0, .int (iI w), .int (nI f)]) (n := 17) (Nat.le_of_ble_eq_true rfl)
  rw [lg_entry_eq]
  generalize (lg_sl ([.ref h0, .int (iI w), .int (nI f)]) ++ List.replicate (17 - (lg_sl ([.ref h0, .int (iI w), .int (nI f)])).length) Slot.unset).toArray = ls at hl ⊢
  have hl : lv_has ls 17 [(0, .ref h0), (1, .int (iI w)), (2, .int (nI f))] := hl
  obtain ⟨hn1, hn2, hr1, hr2, hP1, hP2, hr3⟩ := hA0.1
  obtain ⟨hK1, hK2, hK3, hK4⟩ := id hB0
  have loop : ∀ (k : Nat) (i : Nat) (c1 : Nat) (a' : Nat → Int32) (X : Nat) (Y : Nat) (bX : Nat) (bY : Nat) (H : Heap) (locs : List Loc), (K - i < k) → (i ≤ K) → (sq_f r n i = ((X, Y), (bX, bY))) → (c1 ≤ c0 + i) → (sp_L c1 a' (fun y => S y ∨ ∃ j, j < i ∧ sp_w r n j = w ∧ y = (sq_f r n j).1.2 * f)) → (∀ j, j < i → (sq_f r n j).1.2 * f ≤ 3000) → va_P (dC, dI) vwCl [(h0, .inr (0, [.int (nI n), .int (nI P), .ref tA, .int (nI c1), .ref yA])), (tA, .inl (d0, 64, .inl aT)), (yA, .inl (d1, 64, .inl a'))] H → va_D A [(h0, .inr (0, [.int (nI n), .int (nI P), .ref tA, .int (nI c1), .ref yA])), (tA, .inl (d0, 64, .inl aT)), (yA, .inl (d1, 64, .inl a'))] → va_S A s.heap H locs → ∀ (ls : Array Slot), lv_has ls 17 [(0, .ref h0), (1, .int (iI w)), (2, .int (nI f)), (3, .long (lN X)), (5, .long (lN Y)), (7, .long (lN bX)), (9, .long (lN bY)), (11, .int (nI i))] → W p l e (headSpec wsX0_addFractions rmX0_addFractions).room s m ([.ref h0, .int (iI w), .int (nI f)] : List Value).toArray below meth c H locs 0 0 (MQ below (va_Qv (fun (u : Nat × (Nat → Int32)) => sp_L u.1 u.2 (fun y => S y ∨ sp_F r n K w f y) ∧ u.1 ≤ c0 + 20) (fun (u : Nat × (Nat → Int32)) t => va_P (dC, dI) vwCl [(h0, .inr (0, [.int (nI n), .int (nI P), .ref tA, .int (nI u.1), .ref yA])), (tA, .inl (d0, 64, .inl aT)), (yA, .inl (d1, 64, .inl u.2))] t.heap ∧ va_D A [(h0, .inr (0, [.int (nI n), .int (nI P), .ref tA, .int (nI u.1), .ref yA])), (tA, .inl (d0, 64, .inl aT)), (yA, .inl (d1, 64, .inl u.2))]) A) ([.ref h0, .int (iI w), .int (nI f)] : List Value).toArray s 0 0 A) (F0 m 14 ls []) := by
    intro k
    induction k with
    | zero =>
      intro i c1 a' X Y bX bY H locs hk
      exact absurd hk (Nat.not_lt_zero _)
    | succ k ih =>
      intro i c1 a' X Y bX bY H locs hk hi hf hc1 hLi hlt hP hD hS ls hl
      obtain ⟨hX, hY⟩ : X ≤ 2000000 ∧ Y ≤ 2000000 := by have h := hK2 i hi; rw [hf] at h; exact h
      have hYe : (sq_f r n i).1.2 = Y := by rw [hf]
      have hYf : Y * f ≤ 2000000 * 3 := Nat.mul_le_mul hY hf2
      have hXX : X * X ≤ 2000000 * 2000000 := Nat.mul_le_mul hX hX
      have hnY : n * Y ≤ 120 * 2000000 := Nat.mul_le_mul hn2 hY
      have hnYY : n * Y * Y ≤ 240000000 * 2000000 := Nat.mul_le_mul hnY hY
      have hwe : sp_w r n i = ((X * X : Nat) : Int) - ((n * Y * Y : Nat) : Int) := by unfold sp_w; rw [hf]
      refine lv_iload hx hb dX0_addFractions_14 (lv_at hl 7 rfl) ?_
      refine lv_bipush (v := nI 40) hx hb dX0_addFractions_16 (by decide +kernel) ?_
      refine lv_icmp_ge (tgt := 112) hx hb dX0_addFractions_18 (by decide) (fun c18 => False.elim (by have h := sx_le (by omega) (by omega) c18; omega)) (fun c18 => ?_)
      refine lv_lload hx hb dX0_addFractions_21 (lv_at hl 4 rfl) ?_
      refine lv_iload_n hx hb dX0_addFractions_23 rfl (lv_at hl 2 rfl) ?_
      refine lv_i2l (v := lN f) hx hb dX0_addFractions_24 (nI_l (by omega)) ?_
      refine lv_lmul hx hb dX0_addFractions_25 ?_
      refine sx_l (y := lN (Y * f)) (lN_mul _ _) ?_
      refine lv_ldc2 (v := 3000) hx hb hown (hts _ q78) dX0_addFractions_26 ?_
      refine sx_l (y := lN 3000) (by decide +kernel) ?_
      refine W.lcmp hx hb dX0_addFractions_29 ?_
      refine lv_if_gt (tgt := 112) hx hb dX0_addFractions_30 (by decide) (fun c30 => ?_) (fun c30 => ?_)
      · have hgt : 3000 < Y * f := sx_lgt (by omega) (by omega) c30
        have hLe : sp_L c1 a' (fun y => S y ∨ sp_F r n K w f y) := by
          refine sp_L_iff (fun y => ⟨fun h => ?_, fun h => ?_⟩) hLi
          · rcases h with h | ⟨j, hj, hw, hy⟩
            · exact Or.inl h
            · exact Or.inr ⟨j, by omega, hlt j hj, hw, hy⟩
          · rcases h with h | ⟨j, hj, hy3, hw, hy⟩
            · exact Or.inl h
            · refine Or.inr ⟨j, ?_, hw, hy⟩
              rcases Nat.lt_or_ge j i with q | q
              · exact q
              · have hmo := sq_mono hB0 j i q hj
                rw [hYe] at hmo
                have hmu := Nat.mul_le_mul_right f hmo
                omega
        exact W.vret hx hb hr (fun t ht hW => ⟨⟨(c1, a'), rfl, ⟨hLe, by show c1 ≤ c0 + 20; omega⟩, by rw [ht]; exact hP, hD⟩, hS.F ht⟩) hS.2.2 dX0_addFractions_112
      · have hle : Y * f ≤ 3000 := sx_lngt (by omega) (by omega) c30
        have hiK : i < K := by
          rcases Nat.lt_or_ge i K with q | q
          · exact q
          · exfalso
            have he : i = K := by omega
            rw [← he, hYe] at hK4
            have := Nat.le_mul_of_pos_right Y hf1
            omega
        have hti := sq_t_le hA0 i
        have hfn : sq_f r n (i + 1) = ((sq_t r n i * X + bX, sq_t r n i * Y + bY), (X, Y)) := by
          show ((sq_t r n i * (sq_f r n i).1.1 + (sq_f r n i).2.1, sq_t r n i * (sq_f r n i).1.2 + (sq_f r n i).2.2), (sq_f r n i).1) = _
          rw [hf]
        have hltn : ∀ j, j < i + 1 → (sq_f r n j).1.2 * f ≤ 3000 := by
          intro j hj
          by_cases h : j = i
          · rw [h, hYe]; exact hle
          · exact hlt j (by omega)
        refine lv_lload_n hx hb dX0_addFractions_33 rfl (lv_at hl 3 rfl) ?_
        refine lv_lload_n hx hb dX0_addFractions_34 rfl (lv_at hl 3 rfl) ?_
        refine lv_lmul hx hb dX0_addFractions_35 ?_
        refine sx_l (y := lN (X * X)) (lN_mul _ _) ?_
        refine lv_aload_n hx hb dX0_addFractions_36 rfl (lv_at hl 0 rfl) ?_
        refine va_get (D := (dC, dI)) (ci := 0) (v := .int (nI n)) (C := RX0) (T := TX0) (N := 5) hx hb hts in_X0 hown hK hP 0 rfl rfl 0 (by decide) (hts _ q29) (fun _ h9 => h9) rfl dX0_addFractions_37 ?_
        refine lv_i2l (v := lN n) hx hb dX0_addFractions_40 (nI_l (by omega)) ?_
        refine lv_lload hx hb dX0_addFractions_41 (lv_at hl 4 rfl) ?_
        refine lv_lmul hx hb dX0_addFractions_43 ?_
        refine sx_l (y := lN (n * Y)) (lN_mul _ _) ?_
        refine lv_lload hx hb dX0_addFractions_44 (lv_at hl 4 rfl) ?_
        refine lv_lmul hx hb dX0_addFractions_46 ?_
        refine sx_l (y := lN ((n * Y) * Y)) (lN_mul _ _) ?_
        refine lv_lsub hx hb dX0_addFractions_47 ?_
        refine sx_l (y := lN (X * X) - lN (n * Y * Y)) (rfl) ?_
        refine lv_iload_n hx hb dX0_addFractions_48 rfl (lv_at hl 1 rfl) ?_
        refine lv_i2l (v := (iI w).toInt64) hx hb dX0_addFractions_49 (rfl) ?_
        refine W.lcmp hx hb dX0_addFractions_50 ?_
        refine lv_if_ne (tgt := 63) hx hb dX0_addFractions_51 (by decide) (fun c51 => ?_) (fun c51 => ?_)
        · have hwn : sp_w r n i ≠ w := by
            intro h
            apply c51
            rw [hwe] at h
            exact (lg_cmp_eq _ _).mpr ((sx_ldiff (by omega) (by omega) (by omega) (by omega)).mpr h)
          have hLn : sp_L c1 a' (fun y => S y ∨ ∃ j, j < i + 1 ∧ sp_w r n j = w ∧ y = (sq_f r n j).1.2 * f) := by
            refine sp_L_iff (fun y => ⟨fun h => ?_, fun h => ?_⟩) hLi
            · rcases h with h | ⟨j, hj, hw, hy⟩
              · exact Or.inl h
              · exact Or.inr ⟨j, by omega, hw, hy⟩
            · rcases h with h | ⟨j, hj, hw, hy⟩
              · exact Or.inl h
              · refine Or.inr ⟨j, ?_, hw, hy⟩
                by_cases hji : j = i
                · rw [hji] at hw; exact absurd hw hwn
                · omega
          refine lv_aload_n hx hb dX0_addFractions_63 rfl (lv_at hl 0 rfl) ?_
          refine lv_iload hx hb dX0_addFractions_64 (lv_at hl 7 rfl) ?_
          have hPc := hP.sub (ws' := [(h0, .inr (0, [.int (nI n), .int (nI P), .ref tA, .int (nI c1), .ref yA])), (tA, .inl (d0, 64, .inl aT)), (yA, .inl (d1, 64, .inl a'))]) [0, 1, 2] rfl
          have hKc := hK.sub (tys' := [(d0, .int), (d1, .int)]) [0, 1] rfl
          have hFc := sx_fr hA hS
          refine va_calli (va_runV (As := [.int (nI i)]) (rest := []) ⟨hx, hb, hml, hown, hts⟩ (metX0_termAt l dC dI H.size h0 tA yA d0 d1 aT a' n (nI c1) r P hA0 hrow i (by omega)) (cwV 1 hts (lw_V q54 q56 qs1 q11 q57) rfl rfl rfl (by decide +kernel) ⟨Nat.le_of_ble_eq_true rfl, Nat.le_of_ble_eq_true rfl⟩) ⟨fun a U g mk q => by obtain ⟨q0, q1, qP, qK⟩ := q; exact ⟨q0, q1, qP, va_K.moved (u := U) (U := U.calling g mk a) (Vm.Alike.refl U.vm) qK⟩, va_recv hKc hPc (ci := 0) (q0 := 0) rfl rfl, fun U hU hW => ⟨rfl, by rw [hU], by rw [hU]; exact hPc, va_K.moved hW.alike hKc⟩⟩ rfl rfl hl.1 rfl (lv_room (Nat.le_of_ble_eq_true rfl)) dX0_addFractions_66 ⟨Nat.le_of_ble_eq_true rfl, Nat.le_of_ble_eq_true rfl⟩) hS (fun q _ h => hFc q h) hFc (fun r9 u t H1 locs ht hvm hw hB hz1 hk1 hS => ?_)
          have hP := sx_keep hP hk1
          generalize H1 = H at hP hS ⊢
          subst hw
          refine lv_istore (lv' := [(12, .int (nI (sq_t r n i))), (0, .ref h0), (1, .int (iI w)), (2, .int (nI f)), (3, .long (lN X)), (5, .long (lN Y)), (7, .long (lN bX)), (9, .long (lN bY)), (11, .int (nI i))]) hx hb dX0_addFractions_69 hl (by decide) rfl (fun ls hl => ?_)
          refine lv_iload hx hb dX0_addFractions_71 (lv_at hl 0 rfl) ?_
          refine lv_i2l (v := lN (sq_t r n i)) hx hb dX0_addFractions_73 (nI_l (by omega)) ?_
          refine lv_lload_n hx hb dX0_addFractions_74 rfl (lv_at hl 4 rfl) ?_
          refine lv_lmul hx hb dX0_addFractions_75 ?_
          refine sx_l (y := lN ((sq_t r n i) * X)) (lN_mul _ _) ?_
          refine lv_lload hx hb dX0_addFractions_76 (lv_at hl 6 rfl) ?_
          refine lv_ladd hx hb dX0_addFractions_78 ?_
          refine sx_l (y := lN (((sq_t r n i) * X) + bX)) (lN_add _ _) ?_
          refine lv_lstore (lv' := [(13, .long (lN (((sq_t r n i) * X) + bX))), (12, .int (nI (sq_t r n i))), (0, .ref h0), (1, .int (iI w)), (2, .int (nI f)), (3, .long (lN X)), (5, .long (lN Y)), (7, .long (lN bX)), (9, .long (lN bY)), (11, .int (nI i))]) hx hb dX0_addFractions_79 hl (by decide) rfl (fun ls hl => ?_)
          refine lv_iload hx hb dX0_addFractions_81 (lv_at hl 1 rfl) ?_
          refine lv_i2l (v := lN (sq_t r n i)) hx hb dX0_addFractions_83 (nI_l (by omega)) ?_
          refine lv_lload hx hb dX0_addFractions_84 (lv_at hl 6 rfl) ?_
          refine lv_lmul hx hb dX0_addFractions_86 ?_
          refine sx_l (y := lN ((sq_t r n i) * Y)) (lN_mul _ _) ?_
          refine lv_lload hx hb dX0_addFractions_87 (lv_at hl 8 rfl) ?_
          refine lv_ladd hx hb dX0_addFractions_89 ?_
          refine sx_l (y := lN (((sq_t r n i) * Y) + bY)) (lN_add _ _) ?_
          refine lv_lstore (lv' := [(15, .long (lN (((sq_t r n i) * Y) + bY))), (13, .long (lN (((sq_t r n i) * X) + bX))), (12, .int (nI (sq_t r n i))), (0, .ref h0), (1, .int (iI w)), (2, .int (nI f)), (3, .long (lN X)), (5, .long (lN Y)), (7, .long (lN bX)), (9, .long (lN bY)), (11, .int (nI i))]) hx hb dX0_addFractions_90 hl (by decide) rfl (fun ls hl => ?_)
          refine lv_lload_n hx hb dX0_addFractions_92 rfl (lv_at hl 6 rfl) ?_
          refine lv_lstore (lv' := [(7, .long (lN X)), (15, .long (lN (((sq_t r n i) * Y) + bY))), (13, .long (lN (((sq_t r n i) * X) + bX))), (12, .int (nI (sq_t r n i))), (0, .ref h0), (1, .int (iI w)), (2, .int (nI f)), (3, .long (lN X)), (5, .long (lN Y)), (9, .long (lN bY)), (11, .int (nI i))]) hx hb dX0_addFractions_93 hl (by decide) rfl (fun ls hl => ?_)
          refine lv_lload hx hb dX0_addFractions_95 (lv_at hl 8 rfl) ?_
          refine lv_lstore (lv' := [(9, .long (lN Y)), (7, .long (lN X)), (15, .long (lN (((sq_t r n i) * Y) + bY))), (13, .long (lN (((sq_t r n i) * X) + bX))), (12, .int (nI (sq_t r n i))), (0, .ref h0), (1, .int (iI w)), (2, .int (nI f)), (3, .long (lN X)), (5, .long (lN Y)), (11, .int (nI i))]) hx hb dX0_addFractions_97 hl (by decide) rfl (fun ls hl => ?_)
          refine lv_lload hx hb dX0_addFractions_99 (lv_at hl 3 rfl) ?_
          refine lv_lstore_n (lv' := [(3, .long (lN (((sq_t r n i) * X) + bX))), (9, .long (lN Y)), (7, .long (lN X)), (15, .long (lN (((sq_t r n i) * Y) + bY))), (13, .long (lN (((sq_t r n i) * X) + bX))), (12, .int (nI (sq_t r n i))), (0, .ref h0), (1, .int (iI w)), (2, .int (nI f)), (5, .long (lN Y)), (11, .int (nI i))]) hx hb dX0_addFractions_101 rfl hl (by decide) rfl (fun ls hl => ?_)
          refine lv_lload hx hb dX0_addFractions_102 (lv_at hl 3 rfl) ?_
          refine lv_lstore (lv' := [(5, .long (lN (((sq_t r n i) * Y) + bY))), (3, .long (lN (((sq_t r n i) * X) + bX))), (9, .long (lN Y)), (7, .long (lN X)), (15, .long (lN (((sq_t r n i) * Y) + bY))), (13, .long (lN (((sq_t r n i) * X) + bX))), (12, .int (nI (sq_t r n i))), (0, .ref h0), (1, .int (iI w)), (2, .int (nI f)), (11, .int (nI i))]) hx hb dX0_addFractions_104 hl (by decide) rfl (fun ls hl => ?_)
          refine lv_iinc (v := nI (i + 1)) (lv' := [(11, .int (nI (i + 1))), (5, .long (lN (((sq_t r n i) * Y) + bY))), (3, .long (lN (((sq_t r n i) * X) + bX))), (9, .long (lN Y)), (7, .long (lN X)), (15, .long (lN (((sq_t r n i) * Y) + bY))), (13, .long (lN (((sq_t r n i) * X) + bX))), (12, .int (nI (sq_t r n i))), (0, .ref h0), (1, .int (iI w)), (2, .int (nI f))]) hx hb dX0_addFractions_106 hl (k := 10) rfl (sx_inc _) (by decide) rfl (fun ls hl => ?_)
          refine lv_goto (tgt := 14) hx hb dX0_addFractions_109 (by decide) ?_
          exact ih (i + 1) c1 a' (sq_t r n i * X + bX) (sq_t r n i * Y + bY) X Y _ _ (by omega) (by omega) (hfn) (by omega) (hLn) (hltn) hP hD hS ls (lv_sub hl [8, 9, 10, 2, 1, 4, 3, 0] rfl)
        · have hwi : sp_w r n i = w := by
            rw [hwe]
            exact (sx_ldiff (by omega) (by omega) (by omega) (by omega)).mp ((lg_cmp_eq _ _).mp c51)
          refine lv_aload_n hx hb dX0_addFractions_54 rfl (lv_at hl 0 rfl) ?_
          refine lv_lload hx hb dX0_addFractions_55 (lv_at hl 4 rfl) ?_
          refine lv_l2i (v := nI Y) hx hb dX0_addFractions_57 (lN_i _) ?_
          refine lv_iload_n hx hb dX0_addFractions_58 rfl (lv_at hl 2 rfl) ?_
          refine lv_imul hx hb dX0_addFractions_59 ?_
          refine sx_i (y := nI (Y * f)) (pk_mul _ _) ?_
          have hPc := hP.sub (ws' := [(h0, .inr (0, [.int (nI n), .int (nI P), .ref tA, .int (nI c1), .ref yA])), (tA, .inl (d0, 64, .inl aT)), (yA, .inl (d1, 64, .inl a'))]) [0, 1, 2] rfl
          have hKc := hK.sub (tys' := [(d0, .int), (d1, .int)]) [0, 1] rfl
          have hDc := hD.sub (ws' := [(h0, .inr (0, [.int (nI n), .int (nI P), .ref tA, .int (nI c1), .ref yA])), (tA, .inl (d0, 64, .inl aT)), (yA, .inl (d1, 64, .inl a'))]) [0, 1, 2] (by decide) rfl
          have hFc := va_free (wc := [(h0, .inr (0, [.int (nI n), .int (nI P), .ref tA, .int (nI c1), .ref yA])), (tA, .inl (d0, 64, .inl aT)), (yA, .inl (d1, 64, .inl a'))]) hD hS hA [0, 1, 2] rfl
          refine va_callv (va_runV (As := [.int (nI (Y * f))]) (rest := []) ⟨hx, hb, hml, hown, hts⟩ (metX0_addY l dC dI H.size h0 tA yA d0 d1 aT a' n (nI P) c1 (fun y => S y ∨ ∃ j, j < i ∧ sp_w r n j = w ∧ y = (sq_f r n j).1.2 * f) hLi (by omega) (Y * f) hle) (cwV 1 hts (lw_V q79 q81 qs5 q11 q82) rfl rfl rfl (by decide +kernel) ⟨Nat.le_of_ble_eq_true rfl, Nat.le_of_ble_eq_true rfl⟩) ⟨fun a U g mk q => by obtain ⟨q0, q1, qP, qK, qD⟩ := q; exact ⟨q0, q1, qP, va_K.moved (u := U) (U := U.calling g mk a) (Vm.Alike.refl U.vm) qK, qD⟩, va_recv hKc hPc (ci := 0) (q0 := 0) rfl rfl, fun U hU hW => ⟨rfl, by rw [hU], by rw [hU]; exact hPc, va_K.moved hW.alike hKc, hDc.weaken (fun _ _ _ _ => trivial)⟩⟩ rfl rfl hl.1 rfl (lv_room (Nat.le_of_ble_eq_true rfl)) dX0_addFractions_60 ⟨Nat.le_of_ble_eq_true rfl, Nat.le_of_ble_eq_true rfl⟩) hS (fun q _ h => hFc q h) hFc (fun u t H1 locs ht hvm hw hB hz1 hk1 hS => ?_)
          obtain ⟨c2, a2⟩ := u
          obtain ⟨hP1, hD1⟩ := hB
          rw [ht] at hP1
          obtain ⟨hP, hD⟩ := va_join (wr := []) (w1 := [(h0, .inr (0, [.int (nI n), .int (nI P), .ref tA, .int (nI c2), .ref yA])), (tA, .inl (d0, 64, .inl aT)), (yA, .inl (d1, 64, .inl a2))]) hP hD [0, 1, 2] [] rfl rfl (by decide) (by decide) hk1 hFc hP1 hD1
          generalize H1 = H at hP hS ⊢
          have hP : va_P (dC, dI) vwCl [(h0, .inr (0, [.int (nI n), .int (nI P), .ref tA, .int (nI c2), .ref yA])), (tA, .inl (d0, 64, .inl aT)), (yA, .inl (d1, 64, .inl a2))] H := hP
          have hD : va_D A [(h0, .inr (0, [.int (nI n), .int (nI P), .ref tA, .int (nI c2), .ref yA])), (tA, .inl (d0, 64, .inl aT)), (yA, .inl (d1, 64, .inl a2))] := hD
          obtain ⟨hw5, hw6⟩ := hw
          have hw6 : c2 ≤ c1 + 1 := hw6
          have hLn : sp_L c2 a2 (fun y => S y ∨ ∃ j, j < i + 1 ∧ sp_w r n j = w ∧ y = (sq_f r n j).1.2 * f) := by
            refine sp_L_iff (fun y => ⟨fun h => ?_, fun h => ?_⟩) hw5
            · rcases h with (h | ⟨j, hj, hw, hy⟩) | h
              · exact Or.inl h
              · exact Or.inr ⟨j, by omega, hw, hy⟩
              · exact Or.inr ⟨i, by omega, hwi, by rw [hYe]; exact h⟩
            · rcases h with h | ⟨j, hj, hw, hy⟩
              · exact Or.inl (Or.inl h)
              · by_cases hji : j = i
                · rw [hji, hYe] at hy; exact Or.inr hy
                · exact Or.inl (Or.inr ⟨j, by omega, hw, hy⟩)
          refine lv_aload_n hx hb dX0_addFractions_63 rfl (lv_at hl 0 rfl) ?_
          refine lv_iload hx hb dX0_addFractions_64 (lv_at hl 7 rfl) ?_
          have hPc := hP.sub (ws' := [(h0, .inr (0, [.int (nI n), .int (nI P), .ref tA, .int (nI c2), .ref yA])), (tA, .inl (d0, 64, .inl aT)), (yA, .inl (d1, 64, .inl a2))]) [0, 1, 2] rfl
          have hKc := hK.sub (tys' := [(d0, .int), (d1, .int)]) [0, 1] rfl
          have hFc := sx_fr hA hS
          refine va_calli (va_runV (As := [.int (nI i)]) (rest := []) ⟨hx, hb, hml, hown, hts⟩ (metX0_termAt l dC dI H.size h0 tA yA d0 d1 aT a2 n (nI c2) r P hA0 hrow i (by omega)) (cwV 1 hts (lw_V q54 q56 qs1 q11 q57) rfl rfl rfl (by decide +kernel) ⟨Nat.le_of_ble_eq_true rfl, Nat.le_of_ble_eq_true rfl⟩) ⟨fun a U g mk q => by obtain ⟨q0, q1, qP, qK⟩ := q; exact ⟨q0, q1, qP, va_K.moved (u := U) (U := U.calling g mk a) (Vm.Alike.refl U.vm) qK⟩, va_recv hKc hPc (ci := 0) (q0 := 0) rfl rfl, fun U hU hW => ⟨rfl, by rw [hU], by rw [hU]; exact hPc, va_K.moved hW.alike hKc⟩⟩ rfl rfl hl.1 rfl (lv_room (Nat.le_of_ble_eq_true rfl)) dX0_addFractions_66 ⟨Nat.le_of_ble_eq_true rfl, Nat.le_of_ble_eq_true rfl⟩) hS (fun q _ h => hFc q h) hFc (fun r9 u t H1 locs ht hvm hw hB hz1 hk1 hS => ?_)
          have hP := sx_keep hP hk1
          generalize H1 = H at hP hS ⊢
          subst hw
          refine lv_istore (lv' := [(12, .int (nI (sq_t r n i))), (0, .ref h0), (1, .int (iI w)), (2, .int (nI f)), (3, .long (lN X)), (5, .long (lN Y)), (7, .long (lN bX)), (9, .long (lN bY)), (11, .int (nI i))]) hx hb dX0_addFractions_69 hl (by decide) rfl (fun ls hl => ?_)
          refine lv_iload hx hb dX0_addFractions_71 (lv_at hl 0 rfl) ?_
          refine lv_i2l (v := lN (sq_t r n i)) hx hb dX0_addFractions_73 (nI_l (by omega)) ?_
          refine lv_lload_n hx hb dX0_addFractions_74 rfl (lv_at hl 4 rfl) ?_
          refine lv_lmul hx hb dX0_addFractions_75 ?_
          refine sx_l (y := lN ((sq_t r n i) * X)) (lN_mul _ _) ?_
          refine lv_lload hx hb dX0_addFractions_76 (lv_at hl 6 rfl) ?_
          refine lv_ladd hx hb dX0_addFractions_78 ?_
          refine sx_l (y := lN (((sq_t r n i) * X) + bX)) (lN_add _ _) ?_
          refine lv_lstore (lv' := [(13, .long (lN (((sq_t r n i) * X) + bX))), (12, .int (nI (sq_t r n i))), (0, .ref h0), (1, .int (iI w)), (2, .int (nI f)), (3, .long (lN X)), (5, .long (lN Y)), (7, .long (lN bX)), (9, .long (lN bY)), (11, .int (nI i))]) hx hb dX0_addFractions_79 hl (by decide) rfl (fun ls hl => ?_)
          refine lv_iload hx hb dX0_addFractions_81 (lv_at hl 1 rfl) ?_
          refine lv_i2l (v := lN (sq_t r n i)) hx hb dX0_addFractions_83 (nI_l (by omega)) ?_
          refine lv_lload hx hb dX0_addFractions_84 (lv_at hl 6 rfl) ?_
          refine lv_lmul hx hb dX0_addFractions_86 ?_
          refine sx_l (y := lN ((sq_t r n i) * Y)) (lN_mul _ _) ?_
          refine lv_lload hx hb dX0_addFractions_87 (lv_at hl 8 rfl) ?_
          refine lv_ladd hx hb dX0_addFractions_89 ?_
          refine sx_l (y := lN (((sq_t r n i) * Y) + bY)) (lN_add _ _) ?_
          refine lv_lstore (lv' := [(15, .long (lN (((sq_t r n i) * Y) + bY))), (13, .long (lN (((sq_t r n i) * X) + bX))), (12, .int (nI (sq_t r n i))), (0, .ref h0), (1, .int (iI w)), (2, .int (nI f)), (3, .long (lN X)), (5, .long (lN Y)), (7, .long (lN bX)), (9, .long (lN bY)), (11, .int (nI i))]) hx hb dX0_addFractions_90 hl (by decide) rfl (fun ls hl => ?_)
          refine lv_lload_n hx hb dX0_addFractions_92 rfl (lv_at hl 6 rfl) ?_
          refine lv_lstore (lv' := [(7, .long (lN X)), (15, .long (lN (((sq_t r n i) * Y) + bY))), (13, .long (lN (((sq_t r n i) * X) + bX))), (12, .int (nI (sq_t r n i))), (0, .ref h0), (1, .int (iI w)), (2, .int (nI f)), (3, .long (lN X)), (5, .long (lN Y)), (9, .long (lN bY)), (11, .int (nI i))]) hx hb dX0_addFractions_93 hl (by decide) rfl (fun ls hl => ?_)
          refine lv_lload hx hb dX0_addFractions_95 (lv_at hl 8 rfl) ?_
          refine lv_lstore (lv' := [(9, .long (lN Y)), (7, .long (lN X)), (15, .long (lN (((sq_t r n i) * Y) + bY))), (13, .long (lN (((sq_t r n i) * X) + bX))), (12, .int (nI (sq_t r n i))), (0, .ref h0), (1, .int (iI w)), (2, .int (nI f)), (3, .long (lN X)), (5, .long (lN Y)), (11, .int (nI i))]) hx hb dX0_addFractions_97 hl (by decide) rfl (fun ls hl => ?_)
          refine lv_lload hx hb dX0_addFractions_99 (lv_at hl 3 rfl) ?_
          refine lv_lstore_n (lv' := [(3, .long (lN (((sq_t r n i) * X) + bX))), (9, .long (lN Y)), (7, .long (lN X)), (15, .long (lN (((sq_t r n i) * Y) + bY))), (13, .long (lN (((sq_t r n i) * X) + bX))), (12, .int (nI (sq_t r n i))), (0, .ref h0), (1, .int (iI w)), (2, .int (nI f)), (5, .long (lN Y)), (11, .int (nI i))]) hx hb dX0_addFractions_101 rfl hl (by decide) rfl (fun ls hl => ?_)
          refine lv_lload hx hb dX0_addFractions_102 (lv_at hl 3 rfl) ?_
          refine lv_lstore (lv' := [(5, .long (lN (((sq_t r n i) * Y) + bY))), (3, .long (lN (((sq_t r n i) * X) + bX))), (9, .long (lN Y)), (7, .long (lN X)), (15, .long (lN (((sq_t r n i) * Y) + bY))), (13, .long (lN (((sq_t r n i) * X) + bX))), (12, .int (nI (sq_t r n i))), (0, .ref h0), (1, .int (iI w)), (2, .int (nI f)), (11, .int (nI i))]) hx hb dX0_addFractions_104 hl (by decide) rfl (fun ls hl => ?_)
          refine lv_iinc (v := nI (i + 1)) (lv' := [(11, .int (nI (i + 1))), (5, .long (lN (((sq_t r n i) * Y) + bY))), (3, .long (lN (((sq_t r n i) * X) + bX))), (9, .long (lN Y)), (7, .long (lN X)), (15, .long (lN (((sq_t r n i) * Y) + bY))), (13, .long (lN (((sq_t r n i) * X) + bX))), (12, .int (nI (sq_t r n i))), (0, .ref h0), (1, .int (iI w)), (2, .int (nI f))]) hx hb dX0_addFractions_106 hl (k := 10) rfl (sx_inc _) (by decide) rfl (fun ls hl => ?_)
          refine lv_goto (tgt := 14) hx hb dX0_addFractions_109 (by decide) ?_
          exact ih (i + 1) c2 a2 (sq_t r n i * X + bX) (sq_t r n i * Y + bY) X Y _ _ (by omega) (by omega) (hfn) (by omega) (hLn) (hltn) hP hD hS ls (lv_sub hl [8, 9, 10, 2, 1, 4, 3, 0] rfl)
  refine lv_lconst (v := lN 1) hx hb dX0_addFractions_0 (by decide +kernel) ?_
  refine lv_lstore_n (lv' := [(3, .long (lN 1)), (0, .ref h0), (1, .int (iI w)), (2, .int (nI f))]) hx hb dX0_addFractions_1 rfl hl (by decide) rfl (fun ls hl => ?_)
  refine lv_lconst (v := lN 0) hx hb dX0_addFractions_2 (by decide +kernel) ?_
  refine lv_lstore (lv' := [(5, .long (lN 0)), (3, .long (lN 1)), (0, .ref h0), (1, .int (iI w)), (2, .int (nI f))]) hx hb dX0_addFractions_3 hl (by decide) rfl (fun ls hl => ?_)
  refine lv_lconst (v := lN 0) hx hb dX0_addFractions_5 (by decide +kernel) ?_
  refine lv_lstore (lv' := [(7, .long (lN 0)), (5, .long (lN 0)), (3, .long (lN 1)), (0, .ref h0), (1, .int (iI w)), (2, .int (nI f))]) hx hb dX0_addFractions_6 hl (by decide) rfl (fun ls hl => ?_)
  refine lv_lconst (v := lN 1) hx hb dX0_addFractions_8 (by decide +kernel) ?_
  refine lv_lstore (lv' := [(9, .long (lN 1)), (7, .long (lN 0)), (5, .long (lN 0)), (3, .long (lN 1)), (0, .ref h0), (1, .int (iI w)), (2, .int (nI f))]) hx hb dX0_addFractions_9 hl (by decide) rfl (fun ls hl => ?_)
  refine lv_iconst (v := nI 0) hx hb dX0_addFractions_11 (by decide +kernel) ?_
  refine lv_istore (lv' := [(11, .int (nI 0)), (9, .long (lN 1)), (7, .long (lN 0)), (5, .long (lN 0)), (3, .long (lN 1)), (0, .ref h0), (1, .int (iI w)), (2, .int (nI f))]) hx hb dX0_addFractions_12 hl (by decide) rfl (fun ls hl => ?_)
  exact loop (K + 1) 0 c0 aY 1 0 0 1 _ _ (by omega) (by omega) (rfl) (by omega) (sp_L_iff (fun y => ⟨Or.inl, fun h => h.elim id (fun ⟨j, hj, _⟩ => absurd hj (Nat.not_lt_zero j))⟩) hL) (fun j hj => absurd hj (Nat.not_lt_zero j)) hP hD hS ls (lv_sub hl [5, 6, 7, 4, 3, 2, 1, 0] rfl)

abbrev wsX0_listSolutions : List Cond := ws_ yX0_listSolutions cX0_listSolutions 3 none
abbrev rmX0_listSolutions : Room := ({ frames := 2, cells := 0, slots := 0, locals := 59 } : Room)
set_option maxHeartbeats 4000000 in
set_option maxRecDepth 100000 in
theorem metX0_listSolutions (l : Launch) (dC : Nat → ClassId) (dI : Nat → Nat → Nat) (sz : Nat) (h0 tA yA : Nat) (d0 d1 : ClassId) (aT aY : Nat → Int32) (n : Nat) (fv : Int32) (r P K cc : Nat) (hA0 : sq_A r n P) (hB0 : sq_B r n K) (hC0 : sq_C r n K cc) (hrow : ∀ i, i ≤ P → aT i = nI (sq_t r n i)) (z : Int) (hz : sp_ask n z) : Met l yX0_listSolutions wsX0_listSolutions rmX0_listSolutions (va_Pc [.ref h0, .int (iI z)] (fun U => U.heap.size = sz ∧ va_P (dC, dI) vwCl [(h0, .inr (0, [.int (nI n), .int (nI P), .ref tA, .int fv, .ref yA])), (tA, .inl (d0, 64, .inl aT)), (yA, .inl (d1, 64, .inl aY))] U.heap ∧ va_K (dC, dI) vwCl [(d0, .int), (d1, .int)] U ∧ va_D (fun _ => True) [(h0, .inr (0, [.int (nI n), .int (nI P), .ref tA, .int fv, .ref yA])), (tA, .inl (d0, 64, .inl aT)), (yA, .inl (d1, 64, .inl aY))])) (va_Qv (fun (u : Nat × (Nat → Int32)) => sp_L u.1 u.2 (fun y => y ≤ 3000 ∧ sp_sol n z y) ∧ u.1 ≤ 64) (fun (u : Nat × (Nat → Int32)) t => va_P (dC, dI) vwCl [(h0, .inr (0, [.int (nI n), .int (nI P), .ref tA, .int (nI u.1), .ref yA])), (tA, .inl (d0, 64, .inl aT)), (yA, .inl (d1, 64, .inl u.2))] t.heap ∧ va_D (va_A [(h0, .inr (0, [.int (nI n), .int (nI P), .ref tA, .int fv, .ref yA])), (tA, .inl (d0, 64, .inl aT)), (yA, .inl (d1, 64, .inl aY))] sz) [(h0, .inr (0, [.int (nI n), .int (nI P), .ref tA, .int (nI u.1), .ref yA])), (tA, .inl (d0, 64, .inl aT)), (yA, .inl (d1, 64, .inl u.2))]) (va_A [(h0, .inr (0, [.int (nI n), .int (nI P), .ref tA, .int fv, .ref yA])), (tA, .inl (d0, 64, .inl aT)), (yA, .inl (d1, 64, .inl aY))] sz)) 0 0 (va_A [(h0, .inr (0, [.int (nI n), .int (nI P), .ref tA, .int fv, .ref yA])), (tA, .inl (d0, 64, .inl aT)), (yA, .inl (d1, 64, .inl aY))] sz) := by
  refine Met.ofW (cc := cX0_listSolutions) (maxL := 3) (ret := none) (by decide) rfl ?_
  intro p e s m args below meth c s₁ B hml hv
  obtain ⟨rfl, hsz, hP, hK, hD0⟩ := hv
  have hx := B.exec
  have hb := B.bytes
  have hr := B.returns
  have hts := atoms_spec (ws := wsX0_listSolutions) B.pre
  have hts : ∀ w ∈ lw_all, w.before _ s = true := fun w h => hts w (List.mem_cons_of_mem _ h)
  have hown : s.vm.findClass RX0 = some m.cls := findClass_of_methodNamed B.named
  have hlocks := B.notSynchronized
  subst hsz
  have hD := hD0.self (sz := s.heap.size)
  generalize hAe : va_A [(h0, .inr (0, [.int (nI n), .int (nI P), .ref tA, .int fv, .ref yA])), (tA, .inl (d0, 64, .inl aT)), (yA, .inl (d1, 64, .inl aY))] s.heap.size = A at hD ⊢
  have hA : ∀ q : Nat, s.heap.size ≤ q → A q := fun q h => by rw [← hAe]; exact Or.inr h
  have hS : va_S A s.heap s.heap [] := va_S.rf
  have hP : va_P (dC, dI) vwCl [(h0, .inr (0, [.int (nI n), .int (nI P), .ref tA, .int fv, .ref yA])), (tA, .inl (d0, 64, .inl aT)), (yA, .inl (d1, 64, .inl aY))] s.heap := hP
  have hl := lv_entry ([.ref h0, .int (iI z)]) (n := 3) (Nat.le_of_ble_eq_true rfl)
  rw [lg_entry_eq]
  generalize (lg_sl ([.ref h0, .int (iI z)]) ++ List.replicate (3 - (lg_sl ([.ref h0, .int (iI z)])).length) Slot.unset).toArray = ls at hl ⊢
  have hl : lv_has ls 3 [(0, .ref h0), (1, .int (iI z))] := hl
  obtain ⟨hn1, hn2, hr1, hr2, hP1, hP2, hr3⟩ := hA0.1
  obtain ⟨hz1, hz2, hz3, hz4⟩ := id hz
  have loop : ∀ (k : Nat) (f : Nat) (c1 : Nat) (a' : Nat → Int32) (H : Heap) (locs : List Loc), (4 - f < k) → (0 < f) → (f ≤ 4) → (c1 ≤ 20 * (f - 1)) → (sp_L c1 a' (sp_G r n K z f)) → va_P (dC, dI) vwCl [(h0, .inr (0, [.int (nI n), .int (nI P), .ref tA, .int (nI c1), .ref yA])), (tA, .inl (d0, 64, .inl aT)), (yA, .inl (d1, 64, .inl a'))] H → va_D A [(h0, .inr (0, [.int (nI n), .int (nI P), .ref tA, .int (nI c1), .ref yA])), (tA, .inl (d0, 64, .inl aT)), (yA, .inl (d1, 64, .inl a'))] → va_S A s.heap H locs → ∀ (ls : Array Slot), lv_has ls 3 [(0, .ref h0), (1, .int (iI z)), (2, .int (nI f))] → W p l e (headSpec wsX0_listSolutions rmX0_listSolutions).room s m ([.ref h0, .int (iI z)] : List Value).toArray below meth c H locs 0 0 (MQ below (va_Qv (fun (u : Nat × (Nat → Int32)) => sp_L u.1 u.2 (fun y => y ≤ 3000 ∧ sp_sol n z y) ∧ u.1 ≤ 64) (fun (u : Nat × (Nat → Int32)) t => va_P (dC, dI) vwCl [(h0, .inr (0, [.int (nI n), .int (nI P), .ref tA, .int (nI u.1), .ref yA])), (tA, .inl (d0, 64, .inl aT)), (yA, .inl (d1, 64, .inl u.2))] t.heap ∧ va_D A [(h0, .inr (0, [.int (nI n), .int (nI P), .ref tA, .int (nI u.1), .ref yA])), (tA, .inl (d0, 64, .inl aT)), (yA, .inl (d1, 64, .inl u.2))]) A) ([.ref h0, .int (iI z)] : List Value).toArray s 0 0 A) (F0 m 7 ls []) := by
    intro k
    induction k with
    | zero =>
      intro f c1 a' H locs hk
      exact absurd hk (Nat.not_lt_zero _)
    | succ k ih =>
      intro f c1 a' H locs hk hf1 hf2 hc1 hLi hP hD hS ls hl
      refine lv_iload_n hx hb dX0_listSolutions_7 rfl (lv_at hl 2 rfl) ?_
      refine lv_iconst (v := nI 3) hx hb dX0_listSolutions_8 (by decide +kernel) ?_
      refine lv_icmp_gt (tgt := 36) hx hb dX0_listSolutions_9 (by decide) (fun c9 => ?_) (fun c9 => ?_)
      · have hgt : 3 < f := sx_lt (by omega) (by omega) c9
        have hf4 : f = 4 := by omega
        rw [hf4] at hLi
        exact W.vret hx hb hr (fun t ht hW => ⟨⟨(c1, a'), rfl, ⟨sp_L_iff (fun y => sp_G_all hA0 hC0 hz y) hLi, by show c1 ≤ 64; omega⟩, by rw [ht]; exact hP, hD⟩, hS.F ht⟩) hS.2.2 dX0_listSolutions_36
      · have hle : f ≤ 3 := sx_ge (by omega) (by omega) c9
        obtain ⟨hff1, hff2⟩ := sx_ff hf1 hle
        have hdv := sx_div9 (z := z) (f := f) hz1 hz2 hf1 hle
        refine lv_iload_n hx hb dX0_listSolutions_12 rfl (lv_at hl 1 rfl) ?_
        refine lv_iload_n hx hb dX0_listSolutions_13 rfl (lv_at hl 2 rfl) ?_
        refine lv_iload_n hx hb dX0_listSolutions_14 rfl (lv_at hl 2 rfl) ?_
        refine lv_imul hx hb dX0_listSolutions_15 ?_
        refine sx_i (y := nI (f * f)) (pk_mul _ _) ?_
        refine lv_irem hx hb dX0_listSolutions_16 (sx_ne0 hff1 (by omega)) ?_
        refine sx_i (y := iI z - iI z / nI (f * f) * nI (f * f)) (rfl) ?_
        refine lv_if_ne (tgt := 30) hx hb dX0_listSolutions_17 (by decide) (fun c17 => ?_) (fun c17 => ?_)
        · have hno : ∀ w : Int, ((f * f : Nat) : Int) * w ≠ z := by
            rcases hdv with ⟨h, -⟩ | ⟨-, h⟩
            · exact absurd h c17
            · exact h
          have hLn : sp_L c1 a' (sp_G r n K z (f + 1)) := by
            refine sp_L_iff (fun y => ⟨fun ⟨f', w, h1, h2, h3, h4⟩ => ⟨f', w, h1, by omega, h3, h4⟩, fun ⟨f', w, h1, h2, h3, h4⟩ => ⟨f', w, h1, ?_, h3, h4⟩⟩) hLi
            by_cases h : f' = f
            · rw [h] at h3; exact absurd h3 (hno w)
            · omega
          refine lv_iinc (v := nI (f + 1)) (lv' := [(2, .int (nI (f + 1))), (0, .ref h0), (1, .int (iI z))]) hx hb dX0_listSolutions_30 hl (k := 2) rfl (sx_inc _) (by decide) rfl (fun ls hl => ?_)
          refine lv_goto (tgt := 7) hx hb dX0_listSolutions_33 (by decide) ?_
          exact ih (f + 1) c1 a' _ _ (by omega) (by omega) (by omega) (by omega) (hLn) hP hD hS ls (lv_sub hl [1, 2, 0] rfl)
        · obtain ⟨w, hwe, hwz, hw1, hw2⟩ : ∃ w : Int, iI z / nI (f * f) = iI w ∧ ((f * f : Nat) : Int) * w = z ∧ -9 ≤ w ∧ w ≤ 9 := by
            rcases hdv with ⟨-, h⟩ | ⟨h, -⟩
            · exact h
            · exact absurd c17 h
          refine lv_aload_n hx hb dX0_listSolutions_20 rfl (lv_at hl 0 rfl) ?_
          refine lv_iload_n hx hb dX0_listSolutions_21 rfl (lv_at hl 1 rfl) ?_
          refine lv_iload_n hx hb dX0_listSolutions_22 rfl (lv_at hl 2 rfl) ?_
          refine lv_iload_n hx hb dX0_listSolutions_23 rfl (lv_at hl 2 rfl) ?_
          refine lv_imul hx hb dX0_listSolutions_24 ?_
          refine sx_i (y := nI (f * f)) (pk_mul _ _) ?_
          refine lv_idiv hx hb dX0_listSolutions_25 (sx_ne0 hff1 (by omega)) ?_
          refine sx_i (y := iI w) (hwe) ?_
          refine lv_iload_n hx hb dX0_listSolutions_26 rfl (lv_at hl 2 rfl) ?_
          have hPc := hP.sub (ws' := [(h0, .inr (0, [.int (nI n), .int (nI P), .ref tA, .int (nI c1), .ref yA])), (tA, .inl (d0, 64, .inl aT)), (yA, .inl (d1, 64, .inl a'))]) [0, 1, 2] rfl
          have hKc := hK.sub (tys' := [(d0, .int), (d1, .int)]) [0, 1] rfl
          have hDc := hD.sub (ws' := [(h0, .inr (0, [.int (nI n), .int (nI P), .ref tA, .int (nI c1), .ref yA])), (tA, .inl (d0, 64, .inl aT)), (yA, .inl (d1, 64, .inl a'))]) [0, 1, 2] (by decide) rfl
          have hFc := va_free (wc := [(h0, .inr (0, [.int (nI n), .int (nI P), .ref tA, .int (nI c1), .ref yA])), (tA, .inl (d0, 64, .inl aT)), (yA, .inl (d1, 64, .inl a'))]) hD hS hA [0, 1, 2] rfl
          refine va_callv (va_runV (As := [.int (iI w), .int (nI f)]) (rest := []) ⟨hx, hb, hml, hown, hts⟩ (metX0_addFractions l dC dI H.size h0 tA yA d0 d1 aT a' n r P K hA0 hB0 hrow c1 (sp_G r n K z f) hLi (by omega) w hw1 hw2 f hf1 hle) (cwV 2 hts (lw_V q74 q76 qs4 q11 q77) rfl rfl rfl (by decide +kernel) ⟨Nat.le_of_ble_eq_true rfl, Nat.le_of_ble_eq_true rfl⟩) ⟨fun a U g mk q => by obtain ⟨q0, q1, qP, qK, qD⟩ := q; exact ⟨q0, q1, qP, va_K.moved (u := U) (U := U.calling g mk a) (Vm.Alike.refl U.vm) qK, qD⟩, va_recv hKc hPc (ci := 0) (q0 := 0) rfl rfl, fun U hU hW => ⟨rfl, by rw [hU], by rw [hU]; exact hPc, va_K.moved hW.alike hKc, hDc.weaken (fun _ _ _ _ => trivial)⟩⟩ rfl rfl hl.1 rfl (lv_room (Nat.le_of_ble_eq_true rfl)) dX0_listSolutions_27 ⟨Nat.le_of_ble_eq_true rfl, Nat.le_of_ble_eq_true rfl⟩) hS (fun q _ h => hFc q h) hFc (fun u t H1 locs ht hvm hw hB hz1 hk1 hS => ?_)
          obtain ⟨c2, a2⟩ := u
          obtain ⟨hP1, hD1⟩ := hB
          rw [ht] at hP1
          obtain ⟨hP, hD⟩ := va_join (wr := []) (w1 := [(h0, .inr (0, [.int (nI n), .int (nI P), .ref tA, .int (nI c2), .ref yA])), (tA, .inl (d0, 64, .inl aT)), (yA, .inl (d1, 64, .inl a2))]) hP hD [0, 1, 2] [] rfl rfl (by decide) (by decide) hk1 hFc hP1 hD1
          generalize H1 = H at hP hS ⊢
          have hP : va_P (dC, dI) vwCl [(h0, .inr (0, [.int (nI n), .int (nI P), .ref tA, .int (nI c2), .ref yA])), (tA, .inl (d0, 64, .inl aT)), (yA, .inl (d1, 64, .inl a2))] H := hP
          have hD : va_D A [(h0, .inr (0, [.int (nI n), .int (nI P), .ref tA, .int (nI c2), .ref yA])), (tA, .inl (d0, 64, .inl aT)), (yA, .inl (d1, 64, .inl a2))] := hD
          obtain ⟨hw5, hw6⟩ := hw
          have hw6 : c2 ≤ c1 + 20 := hw6
          have hLn : sp_L c2 a2 (sp_G r n K z (f + 1)) := by
            refine sp_L_iff (fun y => ⟨fun h => ?_, fun ⟨f', w', h1, h2, h3, h4⟩ => ?_⟩) hw5
            · rcases h with ⟨f', w', h1, h2, h3, h4⟩ | h
              · exact ⟨f', w', h1, by omega, h3, h4⟩
              · exact ⟨f, w, hf1, by omega, hwz, h⟩
            · by_cases h : f' = f
              · subst h
                have hww : w' = w := Int.eq_of_mul_eq_mul_left (by omega) (h3.trans hwz.symm)
                rw [hww] at h4
                exact Or.inr h4
              · exact Or.inl ⟨f', w', h1, by omega, h3, h4⟩
          refine lv_iinc (v := nI (f + 1)) (lv' := [(2, .int (nI (f + 1))), (0, .ref h0), (1, .int (iI z))]) hx hb dX0_listSolutions_30 hl (k := 2) rfl (sx_inc _) (by decide) rfl (fun ls hl => ?_)
          refine lv_goto (tgt := 7) hx hb dX0_listSolutions_33 (by decide) ?_
          exact ih (f + 1) c2 a2 _ _ (by omega) (by omega) (by omega) (by omega) (hLn) hP hD hS ls (lv_sub hl [1, 2, 0] rfl)
  refine lv_aload_n hx hb dX0_listSolutions_0 rfl (lv_at hl 0 rfl) ?_
  refine lv_iconst (v := nI 0) hx hb dX0_listSolutions_1 (by decide +kernel) ?_
  refine va_put (D := (dC, dI)) (ci := 0) (v := .int (nI 0)) (ty := .int) (C := RX0) (T := TX0) (N := 5) hx hb hts in_X0 tyX0 tyX0_ok nmX0 hown hK hP hD hS 0 rfl rfl 3 (by decide) (hts _ q32) (fun _ h9 => h9) rfl (by decide +kernel) rfl rfl (Nat.le_of_ble_eq_true rfl) dX0_listSolutions_2 (fun H locs hP hD hS => ?_)
  have hP : va_P (dC, dI) vwCl [(h0, .inr (0, [.int (nI n), .int (nI P), .ref tA, .int (nI 0), .ref yA])), (tA, .inl (d0, 64, .inl aT)), (yA, .inl (d1, 64, .inl aY))] H := hP
  have hD : va_D A [(h0, .inr (0, [.int (nI n), .int (nI P), .ref tA, .int (nI 0), .ref yA])), (tA, .inl (d0, 64, .inl aT)), (yA, .inl (d1, 64, .inl aY))] := hD
  refine lv_iconst (v := nI 1) hx hb dX0_listSolutions_5 (by decide +kernel) ?_
  refine lv_istore_n (lv' := [(2, .int (nI 1)), (0, .ref h0), (1, .int (iI z))]) hx hb dX0_listSolutions_6 rfl hl (by decide) rfl (fun ls hl => ?_)
  exact loop 4 1 0 aY _ _ (by omega) (by omega) (by omega) (by omega) (sp_L_iff (fun y => ⟨fun h => h.elim, fun ⟨f', w', h1, h2, _⟩ => by omega⟩) (sp_L_0 aY)) hP hD hS ls (lv_sub hl [1, 2, 0] rfl)
end
section
abbrev wsX0_solutions : List Cond := ws_ yX0_solutions cX0_solutions 5 (some .int)
abbrev rmX0_solutions : Room := ({ frames := 3, cells := 0, slots := 0, locals := 81 } : Room)
set_option maxHeartbeats 4000000 in
set_option maxRecDepth 100000 in
theorem metX0_solutions (l : Launch) (dC : Nat → ClassId) (dI : Nat → Nat → Nat) (sz : Nat) (h0 tA yA : Nat) (d0 d1 : ClassId) (aT aY : Nat → Int32) (n : Nat) (fv : Int32) (r P K cc : Nat) (hA0 : sq_A r n P) (hB0 : sq_B r n K) (hC0 : sq_C r n K cc) (hrow : ∀ i, i ≤ P → aT i = nI (sq_t r n i)) (ka la : Int32) : Met l yX0_solutions wsX0_solutions rmX0_solutions (va_Pc [.ref h0, .int ka, .int la] (fun U => U.heap.size = sz ∧ va_P (dC, dI) vwCl [(h0, .inr (0, [.int (nI n), .int (nI P), .ref tA, .int fv, .ref yA])), (tA, .inl (d0, 64, .inl aT)), (yA, .inl (d1, 64, .inl aY))] U.heap ∧ va_K (dC, dI) vwCl [(d0, .int), (d1, .int)] U ∧ va_D (fun _ => True) [(h0, .inr (0, [.int (nI n), .int (nI P), .ref tA, .int fv, .ref yA])), (tA, .inl (d0, 64, .inl aT)), (yA, .inl (d1, 64, .inl aY))])) (va_Qi (fun (res : Int32) (u : Int32 × (Nat → Int32)) => sp_4 (sp_Fc (fun _ => 1) n) n ka la res) (fun (u : Int32 × (Nat → Int32)) t => va_P (dC, dI) vwCl [(h0, .inr (0, [.int (nI n), .int (nI P), .ref tA, .int u.1, .ref yA])), (tA, .inl (d0, 64, .inl aT)), (yA, .inl (d1, 64, .inl u.2))] t.heap ∧ va_D (va_A [(h0, .inr (0, [.int (nI n), .int (nI P), .ref tA, .int fv, .ref yA])), (tA, .inl (d0, 64, .inl aT)), (yA, .inl (d1, 64, .inl aY))] sz) [(h0, .inr (0, [.int (nI n), .int (nI P), .ref tA, .int u.1, .ref yA])), (tA, .inl (d0, 64, .inl aT)), (yA, .inl (d1, 64, .inl u.2))]) (va_A [(h0, .inr (0, [.int (nI n), .int (nI P), .ref tA, .int fv, .ref yA])), (tA, .inl (d0, 64, .inl aT)), (yA, .inl (d1, 64, .inl aY))] sz)) 0 0 (va_A [(h0, .inr (0, [.int (nI n), .int (nI P), .ref tA, .int fv, .ref yA])), (tA, .inl (d0, 64, .inl aT)), (yA, .inl (d1, 64, .inl aY))] sz) := by
  refine Met.ofW (cc := cX0_solutions) (maxL := 5) (ret := (some .int)) (by decide) rfl ?_
  intro p e s m args below meth c s₁ B hml hv
  obtain ⟨rfl, hsz, hP, hK, hD0⟩ := hv
  have hx := B.exec
  have hb := B.bytes
  have hr := B.returns
  have hts := atoms_spec (ws := wsX0_solutions) B.pre
  have hts : ∀ w ∈ lw_all, w.before _ s = true := fun w h => hts w (List.mem_cons_of_mem _ h)
  have hown : s.vm.findClass RX0 = some m.cls := findClass_of_methodNamed B.named
  have hlocks := B.notSynchronized
  subst hsz
  have hD := hD0.self (sz := s.heap.size)
  generalize hAe : va_A [(h0, .inr (0, [.int (nI n), .int (nI P), .ref tA, .int fv, .ref yA])), (tA, .inl (d0, 64, .inl aT)), (yA, .inl (d1, 64, .inl aY))] s.heap.size = A at hD ⊢
  have hA : ∀ q : Nat, s.heap.size ≤ q → A q := fun q h => by rw [← hAe]; exact Or.inr h
  have hS : va_S A s.heap s.heap [] := va_S.rf
  have hP : va_P (dC, dI) vwCl [(h0, .inr (0, [.int (nI n), .int (nI P), .ref tA, .int fv, .ref yA])), (tA, .inl (d0, 64, .inl aT)), (yA, .inl (d1, 64, .inl aY))] s.heap := hP
  have hl := lv_entry ([.ref h0, .int ka, .int la]) (n := 5) (Nat.le_of_ble_eq_true rfl)
  rw [lg_entry_eq]
  generalize (lg_sl ([.ref h0, .int ka, .int la]) ++ List.replicate (5 - (lg_sl ([.ref h0, .int ka, .int la])).length) Slot.unset).toArray = ls at hl ⊢
  have hl : lv_has ls 5 [(0, .ref h0), (1, .int ka), (2, .int la)] := hl
  obtain ⟨hn1, hn2, hr1, hr2, hP1, hP2, hr3⟩ := hA0.1
  refine lv_aload_n hx hb dX0_solutions_0 rfl (lv_at hl 0 rfl) ?_
  refine lv_iload_n hx hb dX0_solutions_1 rfl (lv_at hl 1 rfl) ?_
  have hPc := hP.sub (ws' := [(h0, .inr (0, [.int (nI n), .int (nI P), .ref tA, .int fv, .ref yA])), (tA, .inl (d0, 64, .inl aT)), (yA, .inl (d1, 64, .inl aY))]) [0, 1, 2] rfl
  have hKc := hK.sub (tys' := [(d0, .int), (d1, .int)]) [0, 1] rfl
  have hFc := sx_fr hA hS
  refine va_calli (va_runV (As := [.int ka]) (rest := []) ⟨hx, hb, hml, hown, hts⟩ (metX0_isAsked l dC dI s.heap.size h0 tA yA d0 d1 aT aY n (nI P) fv ka hn2) (cwV 1 hts (lw_V q66 q68 qs2 q11 q69) rfl rfl rfl (by decide +kernel) ⟨Nat.le_of_ble_eq_true rfl, Nat.le_of_ble_eq_true rfl⟩) ⟨fun a U g mk q => by obtain ⟨q0, q1, qP, qK⟩ := q; exact ⟨q0, q1, qP, va_K.moved (u := U) (U := U.calling g mk a) (Vm.Alike.refl U.vm) qK⟩, va_recv hKc hPc (ci := 0) (q0 := 0) rfl rfl, fun U hU hW => ⟨rfl, by rw [hU], by rw [hU]; exact hPc, va_K.moved hW.alike hKc⟩⟩ rfl rfl hl.1 rfl (lv_room (Nat.le_of_ble_eq_true rfl)) dX0_solutions_2 ⟨Nat.le_of_ble_eq_true rfl, Nat.le_of_ble_eq_true rfl⟩) hS (fun q _ h => hFc q h) hFc (fun r1 u t H1 locs ht hvm hw hB hz1 hk1 hS => ?_)
  have hP := sx_keep hP hk1
  generalize H1 = H at hP hS ⊢
  rcases hw with ⟨rfl, z, ha, ek⟩ | ⟨rfl, hno⟩
  · refine lv_if_eq (tgt := 19) hx hb dX0_solutions_5 (by decide) (fun c5 => False.elim (absurd c5 (by decide))) (fun c5 => ?_)
    refine lv_iload_n hx hb dX0_solutions_8 rfl (lv_at hl 2 rfl) ?_
    refine lv_if_lt (tgt := 19) hx hb dX0_solutions_9 (by decide) (fun c9 => ?_) (fun c9 => ?_)
    · refine lv_iconst (v := -1) hx hb dX0_solutions_19 (by decide +kernel) ?_
      exact W.iret (v := -1) hx hb hr (fun t ht hW => ⟨⟨-1, (fv, aY), rfl, Or.inr ⟨fun ⟨z', L, b1, b2, b3, b4⟩ => sx_neg c9 L (by omega) b4, rfl⟩, by rw [ht]; exact hP, hD⟩, hS.F ht⟩) hS.2.2 dX0_solutions_20
    · refine lv_iload_n hx hb dX0_solutions_12 rfl (lv_at hl 2 rfl) ?_
      refine lv_sipush (v := nI 3000) hx hb dX0_solutions_13 (by decide +kernel) ?_
      refine lv_icmp_le (tgt := 21) hx hb dX0_solutions_16 (by decide) (fun c16 => ?_) (fun c16 => ?_)
      · obtain ⟨L, -, hL, el⟩ := sx_rng (x := la) (a := 0) (b := 3000) (by omega) (by omega) c9 c16
        rw [ek, el] at hl
        obtain ⟨ha1, ha2, ha3, ha4⟩ := id ha
        refine lv_aload_n hx hb dX0_solutions_21 rfl (lv_at hl 0 rfl) ?_
        refine lv_iload_n hx hb dX0_solutions_22 rfl (lv_at hl 1 rfl) ?_
        have hPc := hP.sub (ws' := [(h0, .inr (0, [.int (nI n), .int (nI P), .ref tA, .int fv, .ref yA])), (tA, .inl (d0, 64, .inl aT)), (yA, .inl (d1, 64, .inl aY))]) [0, 1, 2] rfl
        have hKc := hK.sub (tys' := [(d0, .int), (d1, .int)]) [0, 1] rfl
        have hDc := hD.sub (ws' := [(h0, .inr (0, [.int (nI n), .int (nI P), .ref tA, .int fv, .ref yA])), (tA, .inl (d0, 64, .inl aT)), (yA, .inl (d1, 64, .inl aY))]) [0, 1, 2] (by decide) rfl
        have hFc := va_free (wc := [(h0, .inr (0, [.int (nI n), .int (nI P), .ref tA, .int fv, .ref yA])), (tA, .inl (d0, 64, .inl aT)), (yA, .inl (d1, 64, .inl aY))]) hD hS hA [0, 1, 2] rfl
        refine va_callv (va_runV (As := [.int (iI z)]) (rest := []) ⟨hx, hb, hml, hown, hts⟩ (metX0_listSolutions l dC dI H.size h0 tA yA d0 d1 aT aY n fv r P K cc hA0 hB0 hC0 hrow z ha) (cwV 1 hts (lw_V q70 q72 qs3 q11 q73) rfl rfl rfl (by decide +kernel) ⟨Nat.le_of_ble_eq_true rfl, Nat.le_of_ble_eq_true rfl⟩) ⟨fun a U g mk q => by obtain ⟨q0, q1, qP, qK, qD⟩ := q; exact ⟨q0, q1, qP, va_K.moved (u := U) (U := U.calling g mk a) (Vm.Alike.refl U.vm) qK, qD⟩, va_recv hKc hPc (ci := 0) (q0 := 0) rfl rfl, fun U hU hW => ⟨rfl, by rw [hU], by rw [hU]; exact hPc, va_K.moved hW.alike hKc, hDc.weaken (fun _ _ _ _ => trivial)⟩⟩ rfl rfl hl.1 rfl (lv_room (Nat.le_of_ble_eq_true rfl)) dX0_solutions_23 ⟨Nat.le_of_ble_eq_true rfl, Nat.le_of_ble_eq_true rfl⟩) hS (fun q _ h => hFc q h) hFc (fun u t H1 locs ht hvm hw hB hz1 hk1 hS => ?_)
        obtain ⟨c1, a1⟩ := u
        obtain ⟨hP1, hD1⟩ := hB
        rw [ht] at hP1
        obtain ⟨hP, hD⟩ := va_join (wr := []) (w1 := [(h0, .inr (0, [.int (nI n), .int (nI P), .ref tA, .int (nI c1), .ref yA])), (tA, .inl (d0, 64, .inl aT)), (yA, .inl (d1, 64, .inl a1))]) hP hD [0, 1, 2] [] rfl rfl (by decide) (by decide) hk1 hFc hP1 hD1
        generalize H1 = H at hP hS ⊢
        have hP : va_P (dC, dI) vwCl [(h0, .inr (0, [.int (nI n), .int (nI P), .ref tA, .int (nI c1), .ref yA])), (tA, .inl (d0, 64, .inl aT)), (yA, .inl (d1, 64, .inl a1))] H := hP
        have hD : va_D A [(h0, .inr (0, [.int (nI n), .int (nI P), .ref tA, .int (nI c1), .ref yA])), (tA, .inl (d0, 64, .inl aT)), (yA, .inl (d1, 64, .inl a1))] := hD
        obtain ⟨⟨g, h1, h2, h3⟩, hc⟩ := hw
        have hc : c1 ≤ 64 := hc
        have h1 : ∀ j, j < c1 → a1 j = nI (g j) ∧ g j ≤ 3000 := h1
        have h2 : ∀ i j, i < j → j < c1 → g i < g j := h2
        have h3 : ∀ y, (y ≤ 3000 ∧ sp_sol n z y) ↔ ∃ j, j < c1 ∧ g j = y := h3
        have loop : ∀ (k : Nat) (j : Nat) (H : Heap) (locs : List Loc), (c1 - j < k) → (j ≤ c1) → va_P (dC, dI) vwCl [(h0, .inr (0, [.int (nI n), .int (nI P), .ref tA, .int (nI c1), .ref yA])), (tA, .inl (d0, 64, .inl aT)), (yA, .inl (d1, 64, .inl a1))] H → va_D A [(h0, .inr (0, [.int (nI n), .int (nI P), .ref tA, .int (nI c1), .ref yA])), (tA, .inl (d0, 64, .inl aT)), (yA, .inl (d1, 64, .inl a1))] → va_S A s.heap H locs → ∀ (ls : Array Slot), lv_has ls 5 [(0, .ref h0), (1, .int (iI z)), (2, .int (nI L)), (3, .int (nI (sp_d g (fun _ => 1) (L + 1) j))), (4, .int (nI j))] → W p l e (headSpec wsX0_solutions rmX0_solutions).room s m ([.ref h0, .int ka, .int la] : List Value).toArray below meth c H locs 0 0 (MQ below (va_Qi (fun (res : Int32) (u : Int32 × (Nat → Int32)) => sp_4 (sp_Fc (fun _ => 1) n) n ka la res) (fun (u : Int32 × (Nat → Int32)) t => va_P (dC, dI) vwCl [(h0, .inr (0, [.int (nI n), .int (nI P), .ref tA, .int u.1, .ref yA])), (tA, .inl (d0, 64, .inl aT)), (yA, .inl (d1, 64, .inl u.2))] t.heap ∧ va_D A [(h0, .inr (0, [.int (nI n), .int (nI P), .ref tA, .int u.1, .ref yA])), (tA, .inl (d0, 64, .inl aT)), (yA, .inl (d1, 64, .inl u.2))]) A) ([.ref h0, .int ka, .int la] : List Value).toArray s 0 0 A) (F0 m 31 ls []) := by
          intro k
          induction k with
          | zero =>
            intro j H locs hk
            exact absurd hk (Nat.not_lt_zero _)
          | succ k ih =>
            intro j H locs hk hj hP hD hS ls hl
            refine lv_iload hx hb dX0_solutions_31 (lv_at hl 4 rfl) ?_
            refine lv_aload_n hx hb dX0_solutions_33 rfl (lv_at hl 0 rfl) ?_
            refine va_get (D := (dC, dI)) (ci := 0) (v := .int (nI c1)) (C := RX0) (T := TX0) (N := 5) hx hb hts in_X0 hown hK hP 0 rfl rfl 3 (by decide) (hts _ q32) (fun _ h9 => h9) rfl dX0_solutions_34 ?_
            refine lv_icmp_ge (tgt := 65) hx hb dX0_solutions_37 (by decide) (fun c37 => ?_) (fun c37 => ?_)
            · have hq : c1 ≤ j := sx_le (by omega) (by omega) c37
              refine lv_iload_n hx hb dX0_solutions_65 rfl (lv_at hl 3 rfl) ?_
              have hfin : nI (sp_d g (fun _ => 1) (L + 1) j) = nI (sp_c (sp_sol n z) (fun _ => 1) (L + 1)) := by
                rw [show j = c1 by omega, sp_d_c h2 h3 (L + 1), sp_c_iff (S' := sp_sol n z) (N := L + 1) (fun y hy => ⟨fun h => h.2, fun h => ⟨by omega, h⟩⟩) (L + 1) (Nat.le_refl _)]
              exact W.iret (v := nI (sp_d g (fun _ => 1) (L + 1) j)) hx hb hr (fun t ht hW => ⟨⟨nI (sp_d g (fun _ => 1) (L + 1) j), (nI c1, a1), rfl, Or.inl ⟨z, L, ha, hL, ek, el, hfin⟩, by rw [ht]; exact hP, hD⟩, hS.F ht⟩) hS.2.2 dX0_solutions_66
            · have hq : j < c1 := sx_gt (by omega) (by omega) c37
              obtain ⟨hg1, hg2⟩ := h1 j hq
              refine lv_iload_n hx hb dX0_solutions_40 rfl (lv_at hl 3 rfl) ?_
              refine lv_aload_n hx hb dX0_solutions_41 rfl (lv_at hl 0 rfl) ?_
              refine va_get (D := (dC, dI)) (ci := 0) (v := .ref yA) (C := RX0) (T := TX0) (N := 5) hx hb hts in_X0 hown hK hP 0 rfl rfl 4 (by decide) (hts _ q33) (fun _ h9 => h9) rfl dX0_solutions_42 ?_
              refine lv_iload hx hb dX0_solutions_45 (lv_at hl 4 rfl) ?_
              refine va_iald hx hb hK hP 2 1 rfl rfl (vp_in_nI (by omega) (by omega)) dX0_solutions_47 ?_
              refine sx_i (y := nI (g j)) (sx_ald (by omega) hg1) ?_
              refine lv_iload_n hx hb dX0_solutions_48 rfl (lv_at hl 2 rfl) ?_
              refine lv_icmp_gt (tgt := 56) hx hb dX0_solutions_49 (by decide) (fun c49 => ?_) (fun c49 => ?_)
              · have hgt : L < g j := sx_lt (by omega) (by omega) c49
                refine lv_iconst (v := nI 0) hx hb dX0_solutions_56 (by decide +kernel) ?_
                refine lv_iadd hx hb dX0_solutions_57 ?_
                refine sx_i (y := nI (sp_d g (fun _ => 1) (L + 1) (j + 1))) (by rw [nI_add]; show _ = nI (sp_d g (fun _ => 1) (L + 1) j + if g j < L + 1 then (fun _ => 1) (g j) else 0); rw [if_neg (by omega)]) ?_
                refine lv_istore_n (lv' := [(3, .int (nI (sp_d g (fun _ => 1) (L + 1) (j + 1)))), (0, .ref h0), (1, .int (iI z)), (2, .int (nI L)), (4, .int (nI j))]) hx hb dX0_solutions_58 rfl hl (by decide) rfl (fun ls hl => ?_)
                refine lv_iinc (v := nI (j + 1)) (lv' := [(4, .int (nI (j + 1))), (3, .int (nI (sp_d g (fun _ => 1) (L + 1) (j + 1)))), (0, .ref h0), (1, .int (iI z)), (2, .int (nI L))]) hx hb dX0_solutions_59 hl (k := 4) rfl (sx_inc _) (by decide) rfl (fun ls hl => ?_)
                refine lv_goto (tgt := 31) hx hb dX0_solutions_62 (by decide) ?_
                exact ih (j + 1) _ _ (by omega) (by omega) hP hD hS ls (lv_sub hl [2, 3, 4, 1, 0] rfl)
              · have hle : g j ≤ L := sx_ge (by omega) (by omega) c49
                refine lv_iconst (v := nI 1) hx hb dX0_solutions_52 (by decide +kernel) ?_
                refine lv_goto (tgt := 57) hx hb dX0_solutions_53 (by decide) ?_
                refine lv_iadd hx hb dX0_solutions_57 ?_
                refine sx_i (y := nI (sp_d g (fun _ => 1) (L + 1) (j + 1))) (by rw [nI_add]; show _ = nI (sp_d g (fun _ => 1) (L + 1) j + if g j < L + 1 then (fun _ => 1) (g j) else 0); rw [if_pos (by omega)]) ?_
                refine lv_istore_n (lv' := [(3, .int (nI (sp_d g (fun _ => 1) (L + 1) (j + 1)))), (0, .ref h0), (1, .int (iI z)), (2, .int (nI L)), (4, .int (nI j))]) hx hb dX0_solutions_58 rfl hl (by decide) rfl (fun ls hl => ?_)
                refine lv_iinc (v := nI (j + 1)) (lv' := [(4, .int (nI (j + 1))), (3, .int (nI (sp_d g (fun _ => 1) (L + 1) (j + 1)))), (0, .ref h0), (1, .int (iI z)), (2, .int (nI L))]) hx hb dX0_solutions_59 hl (k := 4) rfl (sx_inc _) (by decide) rfl (fun ls hl => ?_)
                refine lv_goto (tgt := 31) hx hb dX0_solutions_62 (by decide) ?_
                exact ih (j + 1) _ _ (by omega) (by omega) hP hD hS ls (lv_sub hl [2, 3, 4, 1, 0] rfl)
        refine lv_iconst (v := nI 0) hx hb dX0_solutions_26 (by decide +kernel) ?_
        refine lv_istore_n (lv' := [(3, .int (nI 0)), (0, .ref h0), (1, .int (iI z)), (2, .int (nI L))]) hx hb dX0_solutions_27 rfl hl (by decide) rfl (fun ls hl => ?_)
        refine lv_iconst (v := nI 0) hx hb dX0_solutions_28 (by decide +kernel) ?_
        refine lv_istore (lv' := [(4, .int (nI 0)), (3, .int (nI 0)), (0, .ref h0), (1, .int (iI z)), (2, .int (nI L))]) hx hb dX0_solutions_29 hl (by decide) rfl (fun ls hl => ?_)
        exact loop (c1 + 1) 0 _ _ (by omega) (by omega) hP hD hS ls (lv_sub hl [2, 3, 4, 1, 0] rfl)
      · refine lv_iconst (v := -1) hx hb dX0_solutions_19 (by decide +kernel) ?_
        exact W.iret (v := -1) hx hb hr (fun t ht hW => ⟨⟨-1, (fv, aY), rfl, Or.inr ⟨fun ⟨z', L, b1, b2, b3, b4⟩ => sx_nhi (by omega) c16 b2 b4, rfl⟩, by rw [ht]; exact hP, hD⟩, hS.F ht⟩) hS.2.2 dX0_solutions_20
  · refine lv_if_eq (tgt := 19) hx hb dX0_solutions_5 (by decide) (fun c5 => ?_) (fun c5 => False.elim (c5 rfl))
    refine lv_iconst (v := -1) hx hb dX0_solutions_19 (by decide +kernel) ?_
    exact W.iret (v := -1) hx hb hr (fun t ht hW => ⟨⟨-1, (fv, aY), rfl, Or.inr ⟨fun ⟨z', L, b1, b2, b3, b4⟩ => hno ⟨z', b1, b3⟩, rfl⟩, by rw [ht]; exact hP, hD⟩, hS.F ht⟩) hS.2.2 dX0_solutions_20

abbrev wsX0_sum : List Cond := ws_ yX0_sum cX0_sum 5 (some .int)
abbrev rmX0_sum : Room := ({ frames := 3, cells := 0, slots := 0, locals := 81 } : Room)
set_option maxHeartbeats 4000000 in
set_option maxRecDepth 100000 in
theorem metX0_sum (l : Launch) (dC : Nat → ClassId) (dI : Nat → Nat → Nat) (sz : Nat) (h0 tA yA : Nat) (d0 d1 : ClassId) (aT aY : Nat → Int32) (n : Nat) (fv : Int32) (r P K cc : Nat) (hA0 : sq_A r n P) (hB0 : sq_B r n K) (hC0 : sq_C r n K cc) (hrow : ∀ i, i ≤ P → aT i = nI (sq_t r n i)) (ka la : Int32) : Met l yX0_sum wsX0_sum rmX0_sum (va_Pc [.ref h0, .int ka, .int la] (fun U => U.heap.size = sz ∧ va_P (dC, dI) vwCl [(h0, .inr (0, [.int (nI n), .int (nI P), .ref tA, .int fv, .ref yA])), (tA, .inl (d0, 64, .inl aT)), (yA, .inl (d1, 64, .inl aY))] U.heap ∧ va_K (dC, dI) vwCl [(d0, .int), (d1, .int)] U ∧ va_D (fun _ => True) [(h0, .inr (0, [.int (nI n), .int (nI P), .ref tA, .int fv, .ref yA])), (tA, .inl (d0, 64, .inl aT)), (yA, .inl (d1, 64, .inl aY))])) (va_Qi (fun (res : Int32) (u : Int32 × (Nat → Int32)) => sp_4 (sp_Fc (fun y => y) n) n ka la res) (fun (u : Int32 × (Nat → Int32)) t => va_P (dC, dI) vwCl [(h0, .inr (0, [.int (nI n), .int (nI P), .ref tA, .int u.1, .ref yA])), (tA, .inl (d0, 64, .inl aT)), (yA, .inl (d1, 64, .inl u.2))] t.heap ∧ va_D (va_A [(h0, .inr (0, [.int (nI n), .int (nI P), .ref tA, .int fv, .ref yA])), (tA, .inl (d0, 64, .inl aT)), (yA, .inl (d1, 64, .inl aY))] sz) [(h0, .inr (0, [.int (nI n), .int (nI P), .ref tA, .int u.1, .ref yA])), (tA, .inl (d0, 64, .inl aT)), (yA, .inl (d1, 64, .inl u.2))]) (va_A [(h0, .inr (0, [.int (nI n), .int (nI P), .ref tA, .int fv, .ref yA])), (tA, .inl (d0, 64, .inl aT)), (yA, .inl (d1, 64, .inl aY))] sz)) 0 0 (va_A [(h0, .inr (0, [.int (nI n), .int (nI P), .ref tA, .int fv, .ref yA])), (tA, .inl (d0, 64, .inl aT)), (yA, .inl (d1, 64, .inl aY))] sz) := by
  refine Met.ofW (cc := cX0_sum) (maxL := 5) (ret := (some .int)) (by decide) rfl ?_
  intro p e s m args below meth c s₁ B hml hv
  obtain ⟨rfl, hsz, hP, hK, hD0⟩ := hv
  have hx := B.exec
  have hb := B.bytes
  have hr := B.returns
  have hts := atoms_spec (ws := wsX0_sum) B.pre
  have hts : ∀ w ∈ lw_all, w.before _ s = true := fun w h => hts w (List.mem_cons_of_mem _ h)
  have hown : s.vm.findClass RX0 = some m.cls := findClass_of_methodNamed B.named
  have hlocks := B.notSynchronized
  subst hsz
  have hD := hD0.self (sz := s.heap.size)
  generalize hAe : va_A [(h0, .inr (0, [.int (nI n), .int (nI P), .ref tA, .int fv, .ref yA])), (tA, .inl (d0, 64, .inl aT)), (yA, .inl (d1, 64, .inl aY))] s.heap.size = A at hD ⊢
  have hA : ∀ q : Nat, s.heap.size ≤ q → A q := fun q h => by rw [← hAe]; exact Or.inr h
  have hS : va_S A s.heap s.heap [] := va_S.rf
  have hP : va_P (dC, dI) vwCl [(h0, .inr (0, [.int (nI n), .int (nI P), .ref tA, .int fv, .ref yA])), (tA, .inl (d0, 64, .inl aT)), (yA, .inl (d1, 64, .inl aY))] s.heap := hP
  have hl := lv_entry ([.ref h0, .int ka, .int la]) (n := 5) (Nat.le_of_ble_eq_true rfl)
  rw [lg_entry_eq]
  generalize (lg_sl ([.ref h0, .int ka, .int la]) ++ List.replicate (5 - (lg_sl ([.ref h0, .int ka, .int la])).length) Slot.unset).toArray = ls at hl ⊢
  have hl : lv_has ls 5 [(0, .ref h0), (1, .int ka), (2, .int la)] := hl
  obtain ⟨hn1, hn2, hr1, hr2, hP1, hP2, hr3⟩ := hA0.1
  refine lv_aload_n hx hb dX0_sum_0 rfl (lv_at hl 0 rfl) ?_
  refine lv_iload_n hx hb dX0_sum_1 rfl (lv_at hl 1 rfl) ?_
  have hPc := hP.sub (ws' := [(h0, .inr (0, [.int (nI n), .int (nI P), .ref tA, .int fv, .ref yA])), (tA, .inl (d0, 64, .inl aT)), (yA, .inl (d1, 64, .inl aY))]) [0, 1, 2] rfl
  have hKc := hK.sub (tys' := [(d0, .int), (d1, .int)]) [0, 1] rfl
  have hFc := sx_fr hA hS
  refine va_calli (va_runV (As := [.int ka]) (rest := []) ⟨hx, hb, hml, hown, hts⟩ (metX0_isAsked l dC dI s.heap.size h0 tA yA d0 d1 aT aY n (nI P) fv ka hn2) (cwV 1 hts (lw_V q66 q68 qs2 q11 q69) rfl rfl rfl (by decide +kernel) ⟨Nat.le_of_ble_eq_true rfl, Nat.le_of_ble_eq_true rfl⟩) ⟨fun a U g mk q => by obtain ⟨q0, q1, qP, qK⟩ := q; exact ⟨q0, q1, qP, va_K.moved (u := U) (U := U.calling g mk a) (Vm.Alike.refl U.vm) qK⟩, va_recv hKc hPc (ci := 0) (q0 := 0) rfl rfl, fun U hU hW => ⟨rfl, by rw [hU], by rw [hU]; exact hPc, va_K.moved hW.alike hKc⟩⟩ rfl rfl hl.1 rfl (lv_room (Nat.le_of_ble_eq_true rfl)) dX0_sum_2 ⟨Nat.le_of_ble_eq_true rfl, Nat.le_of_ble_eq_true rfl⟩) hS (fun q _ h => hFc q h) hFc (fun r1 u t H1 locs ht hvm hw hB hz1 hk1 hS => ?_)
  have hP := sx_keep hP hk1
  generalize H1 = H at hP hS ⊢
  rcases hw with ⟨rfl, z, ha, ek⟩ | ⟨rfl, hno⟩
  · refine lv_if_eq (tgt := 19) hx hb dX0_sum_5 (by decide) (fun c5 => False.elim (absurd c5 (by decide))) (fun c5 => ?_)
    refine lv_iload_n hx hb dX0_sum_8 rfl (lv_at hl 2 rfl) ?_
    refine lv_if_lt (tgt := 19) hx hb dX0_sum_9 (by decide) (fun c9 => ?_) (fun c9 => ?_)
    · refine lv_iconst (v := -1) hx hb dX0_sum_19 (by decide +kernel) ?_
      exact W.iret (v := -1) hx hb hr (fun t ht hW => ⟨⟨-1, (fv, aY), rfl, Or.inr ⟨fun ⟨z', L, b1, b2, b3, b4⟩ => sx_neg c9 L (by omega) b4, rfl⟩, by rw [ht]; exact hP, hD⟩, hS.F ht⟩) hS.2.2 dX0_sum_20
    · refine lv_iload_n hx hb dX0_sum_12 rfl (lv_at hl 2 rfl) ?_
      refine lv_sipush (v := nI 3000) hx hb dX0_sum_13 (by decide +kernel) ?_
      refine lv_icmp_le (tgt := 21) hx hb dX0_sum_16 (by decide) (fun c16 => ?_) (fun c16 => ?_)
      · obtain ⟨L, -, hL, el⟩ := sx_rng (x := la) (a := 0) (b := 3000) (by omega) (by omega) c9 c16
        rw [ek, el] at hl
        obtain ⟨ha1, ha2, ha3, ha4⟩ := id ha
        refine lv_aload_n hx hb dX0_sum_21 rfl (lv_at hl 0 rfl) ?_
        refine lv_iload_n hx hb dX0_sum_22 rfl (lv_at hl 1 rfl) ?_
        have hPc := hP.sub (ws' := [(h0, .inr (0, [.int (nI n), .int (nI P), .ref tA, .int fv, .ref yA])), (tA, .inl (d0, 64, .inl aT)), (yA, .inl (d1, 64, .inl aY))]) [0, 1, 2] rfl
        have hKc := hK.sub (tys' := [(d0, .int), (d1, .int)]) [0, 1] rfl
        have hDc := hD.sub (ws' := [(h0, .inr (0, [.int (nI n), .int (nI P), .ref tA, .int fv, .ref yA])), (tA, .inl (d0, 64, .inl aT)), (yA, .inl (d1, 64, .inl aY))]) [0, 1, 2] (by decide) rfl
        have hFc := va_free (wc := [(h0, .inr (0, [.int (nI n), .int (nI P), .ref tA, .int fv, .ref yA])), (tA, .inl (d0, 64, .inl aT)), (yA, .inl (d1, 64, .inl aY))]) hD hS hA [0, 1, 2] rfl
        refine va_callv (va_runV (As := [.int (iI z)]) (rest := []) ⟨hx, hb, hml, hown, hts⟩ (metX0_listSolutions l dC dI H.size h0 tA yA d0 d1 aT aY n fv r P K cc hA0 hB0 hC0 hrow z ha) (cwV 1 hts (lw_V q70 q72 qs3 q11 q73) rfl rfl rfl (by decide +kernel) ⟨Nat.le_of_ble_eq_true rfl, Nat.le_of_ble_eq_true rfl⟩) ⟨fun a U g mk q => by obtain ⟨q0, q1, qP, qK, qD⟩ := q; exact ⟨q0, q1, qP, va_K.moved (u := U) (U := U.calling g mk a) (Vm.Alike.refl U.vm) qK, qD⟩, va_recv hKc hPc (ci := 0) (q0 := 0) rfl rfl, fun U hU hW => ⟨rfl, by rw [hU], by rw [hU]; exact hPc, va_K.moved hW.alike hKc, hDc.weaken (fun _ _ _ _ => trivial)⟩⟩ rfl rfl hl.1 rfl (lv_room (Nat.le_of_ble_eq_true rfl)) dX0_sum_23 ⟨Nat.le_of_ble_eq_true rfl, Nat.le_of_ble_eq_true rfl⟩) hS (fun q _ h => hFc q h) hFc (fun u t H1 locs ht hvm hw hB hz1 hk1 hS => ?_)
        obtain ⟨c1, a1⟩ := u
        obtain ⟨hP1, hD1⟩ := hB
        rw [ht] at hP1
        obtain ⟨hP, hD⟩ := va_join (wr := []) (w1 := [(h0, .inr (0, [.int (nI n), .int (nI P), .ref tA, .int (nI c1), .ref yA])), (tA, .inl (d0, 64, .inl aT)), (yA, .inl (d1, 64, .inl a1))]) hP hD [0, 1, 2] [] rfl rfl (by decide) (by decide) hk1 hFc hP1 hD1
        generalize H1 = H at hP hS ⊢
        have hP : va_P (dC, dI) vwCl [(h0, .inr (0, [.int (nI n), .int (nI P), .ref tA, .int (nI c1), .ref yA])), (tA, .inl (d0, 64, .inl aT)), (yA, .inl (d1, 64, .inl a1))] H := hP
        have hD : va_D A [(h0, .inr (0, [.int (nI n), .int (nI P), .ref tA, .int (nI c1), .ref yA])), (tA, .inl (d0, 64, .inl aT)), (yA, .inl (d1, 64, .inl a1))] := hD
        obtain ⟨⟨g, h1, h2, h3⟩, hc⟩ := hw
        have hc : c1 ≤ 64 := hc
        have h1 : ∀ j, j < c1 → a1 j = nI (g j) ∧ g j ≤ 3000 := h1
        have h2 : ∀ i j, i < j → j < c1 → g i < g j := h2
        have h3 : ∀ y, (y ≤ 3000 ∧ sp_sol n z y) ↔ ∃ j, j < c1 ∧ g j = y := h3
        have loop : ∀ (k : Nat) (j : Nat) (H : Heap) (locs : List Loc), (c1 - j < k) → (j ≤ c1) → va_P (dC, dI) vwCl [(h0, .inr (0, [.int (nI n), .int (nI P), .ref tA, .int (nI c1), .ref yA])), (tA, .inl (d0, 64, .inl aT)), (yA, .inl (d1, 64, .inl a1))] H → va_D A [(h0, .inr (0, [.int (nI n), .int (nI P), .ref tA, .int (nI c1), .ref yA])), (tA, .inl (d0, 64, .inl aT)), (yA, .inl (d1, 64, .inl a1))] → va_S A s.heap H locs → ∀ (ls : Array Slot), lv_has ls 5 [(0, .ref h0), (1, .int (iI z)), (2, .int (nI L)), (3, .int (nI (sp_d g (fun y => y) (L + 1) j))), (4, .int (nI j))] → W p l e (headSpec wsX0_sum rmX0_sum).room s m ([.ref h0, .int ka, .int la] : List Value).toArray below meth c H locs 0 0 (MQ below (va_Qi (fun (res : Int32) (u : Int32 × (Nat → Int32)) => sp_4 (sp_Fc (fun y => y) n) n ka la res) (fun (u : Int32 × (Nat → Int32)) t => va_P (dC, dI) vwCl [(h0, .inr (0, [.int (nI n), .int (nI P), .ref tA, .int u.1, .ref yA])), (tA, .inl (d0, 64, .inl aT)), (yA, .inl (d1, 64, .inl u.2))] t.heap ∧ va_D A [(h0, .inr (0, [.int (nI n), .int (nI P), .ref tA, .int u.1, .ref yA])), (tA, .inl (d0, 64, .inl aT)), (yA, .inl (d1, 64, .inl u.2))]) A) ([.ref h0, .int ka, .int la] : List Value).toArray s 0 0 A) (F0 m 31 ls []) := by
          intro k
          induction k with
          | zero =>
            intro j H locs hk
            exact absurd hk (Nat.not_lt_zero _)
          | succ k ih =>
            intro j H locs hk hj hP hD hS ls hl
            refine lv_iload hx hb dX0_sum_31 (lv_at hl 4 rfl) ?_
            refine lv_aload_n hx hb dX0_sum_33 rfl (lv_at hl 0 rfl) ?_
            refine va_get (D := (dC, dI)) (ci := 0) (v := .int (nI c1)) (C := RX0) (T := TX0) (N := 5) hx hb hts in_X0 hown hK hP 0 rfl rfl 3 (by decide) (hts _ q32) (fun _ h9 => h9) rfl dX0_sum_34 ?_
            refine lv_icmp_ge (tgt := 71) hx hb dX0_sum_37 (by decide) (fun c37 => ?_) (fun c37 => ?_)
            · have hq : c1 ≤ j := sx_le (by omega) (by omega) c37
              refine lv_iload_n hx hb dX0_sum_71 rfl (lv_at hl 3 rfl) ?_
              have hfin : nI (sp_d g (fun y => y) (L + 1) j) = nI (sp_c (sp_sol n z) (fun y => y) (L + 1)) := by
                rw [show j = c1 by omega, sp_d_c h2 h3 (L + 1), sp_c_iff (S' := sp_sol n z) (N := L + 1) (fun y hy => ⟨fun h => h.2, fun h => ⟨by omega, h⟩⟩) (L + 1) (Nat.le_refl _)]
              exact W.iret (v := nI (sp_d g (fun y => y) (L + 1) j)) hx hb hr (fun t ht hW => ⟨⟨nI (sp_d g (fun y => y) (L + 1) j), (nI c1, a1), rfl, Or.inl ⟨z, L, ha, hL, ek, el, hfin⟩, by rw [ht]; exact hP, hD⟩, hS.F ht⟩) hS.2.2 dX0_sum_72
            · have hq : j < c1 := sx_gt (by omega) (by omega) c37
              obtain ⟨hg1, hg2⟩ := h1 j hq
              refine lv_iload_n hx hb dX0_sum_40 rfl (lv_at hl 3 rfl) ?_
              refine lv_aload_n hx hb dX0_sum_41 rfl (lv_at hl 0 rfl) ?_
              refine va_get (D := (dC, dI)) (ci := 0) (v := .ref yA) (C := RX0) (T := TX0) (N := 5) hx hb hts in_X0 hown hK hP 0 rfl rfl 4 (by decide) (hts _ q33) (fun _ h9 => h9) rfl dX0_sum_42 ?_
              refine lv_iload hx hb dX0_sum_45 (lv_at hl 4 rfl) ?_
              refine va_iald hx hb hK hP 2 1 rfl rfl (vp_in_nI (by omega) (by omega)) dX0_sum_47 ?_
              refine sx_i (y := nI (g j)) (sx_ald (by omega) hg1) ?_
              refine lv_iload_n hx hb dX0_sum_48 rfl (lv_at hl 2 rfl) ?_
              refine lv_icmp_gt (tgt := 62) hx hb dX0_sum_49 (by decide) (fun c49 => ?_) (fun c49 => ?_)
              · have hgt : L < g j := sx_lt (by omega) (by omega) c49
                refine lv_iconst (v := nI 0) hx hb dX0_sum_62 (by decide +kernel) ?_
                refine lv_iadd hx hb dX0_sum_63 ?_
                refine sx_i (y := nI (sp_d g (fun y => y) (L + 1) (j + 1))) (by rw [nI_add]; show _ = nI (sp_d g (fun y => y) (L + 1) j + if g j < L + 1 then (fun y => y) (g j) else 0); rw [if_neg (by omega)]) ?_
                refine lv_istore_n (lv' := [(3, .int (nI (sp_d g (fun y => y) (L + 1) (j + 1)))), (0, .ref h0), (1, .int (iI z)), (2, .int (nI L)), (4, .int (nI j))]) hx hb dX0_sum_64 rfl hl (by decide) rfl (fun ls hl => ?_)
                refine lv_iinc (v := nI (j + 1)) (lv' := [(4, .int (nI (j + 1))), (3, .int (nI (sp_d g (fun y => y) (L + 1) (j + 1)))), (0, .ref h0), (1, .int (iI z)), (2, .int (nI L))]) hx hb dX0_sum_65 hl (k := 4) rfl (sx_inc _) (by decide) rfl (fun ls hl => ?_)
                refine lv_goto (tgt := 31) hx hb dX0_sum_68 (by decide) ?_
                exact ih (j + 1) _ _ (by omega) (by omega) hP hD hS ls (lv_sub hl [2, 3, 4, 1, 0] rfl)
              · have hle : g j ≤ L := sx_ge (by omega) (by omega) c49
                refine lv_aload_n hx hb dX0_sum_52 rfl (lv_at hl 0 rfl) ?_
                refine va_get (D := (dC, dI)) (ci := 0) (v := .ref yA) (C := RX0) (T := TX0) (N := 5) hx hb hts in_X0 hown hK hP 0 rfl rfl 4 (by decide) (hts _ q33) (fun _ h9 => h9) rfl dX0_sum_53 ?_
                refine lv_iload hx hb dX0_sum_56 (lv_at hl 4 rfl) ?_
                refine va_iald hx hb hK hP 2 1 rfl rfl (vp_in_nI (by omega) (by omega)) dX0_sum_58 ?_
                refine sx_i (y := nI (g j)) (sx_ald (by omega) hg1) ?_
                refine lv_goto (tgt := 63) hx hb dX0_sum_59 (by decide) ?_
                refine lv_iadd hx hb dX0_sum_63 ?_
                refine sx_i (y := nI (sp_d g (fun y => y) (L + 1) (j + 1))) (by rw [nI_add]; show _ = nI (sp_d g (fun y => y) (L + 1) j + if g j < L + 1 then (fun y => y) (g j) else 0); rw [if_pos (by omega)]) ?_
                refine lv_istore_n (lv' := [(3, .int (nI (sp_d g (fun y => y) (L + 1) (j + 1)))), (0, .ref h0), (1, .int (iI z)), (2, .int (nI L)), (4, .int (nI j))]) hx hb dX0_sum_64 rfl hl (by decide) rfl (fun ls hl => ?_)
                refine lv_iinc (v := nI (j + 1)) (lv' := [(4, .int (nI (j + 1))), (3, .int (nI (sp_d g (fun y => y) (L + 1) (j + 1)))), (0, .ref h0), (1, .int (iI z)), (2, .int (nI L))]) hx hb dX0_sum_65 hl (k := 4) rfl (sx_inc _) (by decide) rfl (fun ls hl => ?_)
                refine lv_goto (tgt := 31) hx hb dX0_sum_68 (by decide) ?_
                exact ih (j + 1) _ _ (by omega) (by omega) hP hD hS ls (lv_sub hl [2, 3, 4, 1, 0] rfl)
        refine lv_iconst (v := nI 0) hx hb dX0_sum_26 (by decide +kernel) ?_
        refine lv_istore_n (lv' := [(3, .int (nI 0)), (0, .ref h0), (1, .int (iI z)), (2, .int (nI L))]) hx hb dX0_sum_27 rfl hl (by decide) rfl (fun ls hl => ?_)
        refine lv_iconst (v := nI 0) hx hb dX0_sum_28 (by decide +kernel) ?_
        refine lv_istore (lv' := [(4, .int (nI 0)), (3, .int (nI 0)), (0, .ref h0), (1, .int (iI z)), (2, .int (nI L))]) hx hb dX0_sum_29 hl (by decide) rfl (fun ls hl => ?_)
        exact loop (c1 + 1) 0 _ _ (by omega) (by omega) hP hD hS ls (lv_sub hl [2, 3, 4, 1, 0] rfl)
      · refine lv_iconst (v := -1) hx hb dX0_sum_19 (by decide +kernel) ?_
        exact W.iret (v := -1) hx hb hr (fun t ht hW => ⟨⟨-1, (fv, aY), rfl, Or.inr ⟨fun ⟨z', L, b1, b2, b3, b4⟩ => sx_nhi (by omega) c16 b2 b4, rfl⟩, by rw [ht]; exact hP, hD⟩, hS.F ht⟩) hS.2.2 dX0_sum_20
  · refine lv_if_eq (tgt := 19) hx hb dX0_sum_5 (by decide) (fun c5 => ?_) (fun c5 => False.elim (c5 rfl))
    refine lv_iconst (v := -1) hx hb dX0_sum_19 (by decide +kernel) ?_
    exact W.iret (v := -1) hx hb hr (fun t ht hW => ⟨⟨-1, (fv, aY), rfl, Or.inr ⟨fun ⟨z', L, b1, b2, b3, b4⟩ => hno ⟨z', b1, b3⟩, rfl⟩, by rw [ht]; exact hP, hD⟩, hS.F ht⟩) hS.2.2 dX0_sum_20

abbrev wsX0_next : List Cond := ws_ yX0_next cX0_next 4 (some .int)
abbrev rmX0_next : Room := ({ frames := 3, cells := 0, slots := 0, locals := 81 } : Room)
set_option maxHeartbeats 4000000 in
set_option maxRecDepth 100000 in
theorem metX0_next (l : Launch) (dC : Nat → ClassId) (dI : Nat → Nat → Nat) (sz : Nat) (h0 tA yA : Nat) (d0 d1 : ClassId) (aT aY : Nat → Int32) (n : Nat) (fv : Int32) (r P K cc : Nat) (hA0 : sq_A r n P) (hB0 : sq_B r n K) (hC0 : sq_C r n K cc) (hrow : ∀ i, i ≤ P → aT i = nI (sq_t r n i)) (ka la : Int32) : Met l yX0_next wsX0_next rmX0_next (va_Pc [.ref h0, .int ka, .int la] (fun U => U.heap.size = sz ∧ va_P (dC, dI) vwCl [(h0, .inr (0, [.int (nI n), .int (nI P), .ref tA, .int fv, .ref yA])), (tA, .inl (d0, 64, .inl aT)), (yA, .inl (d1, 64, .inl aY))] U.heap ∧ va_K (dC, dI) vwCl [(d0, .int), (d1, .int)] U ∧ va_D (fun _ => True) [(h0, .inr (0, [.int (nI n), .int (nI P), .ref tA, .int fv, .ref yA])), (tA, .inl (d0, 64, .inl aT)), (yA, .inl (d1, 64, .inl aY))])) (va_Qi (fun (res : Int32) (u : Int32 × (Nat → Int32)) => sp_4 (sp_Fn n) n ka la res) (fun (u : Int32 × (Nat → Int32)) t => va_P (dC, dI) vwCl [(h0, .inr (0, [.int (nI n), .int (nI P), .ref tA, .int u.1, .ref yA])), (tA, .inl (d0, 64, .inl aT)), (yA, .inl (d1, 64, .inl u.2))] t.heap ∧ va_D (va_A [(h0, .inr (0, [.int (nI n), .int (nI P), .ref tA, .int fv, .ref yA])), (tA, .inl (d0, 64, .inl aT)), (yA, .inl (d1, 64, .inl aY))] sz) [(h0, .inr (0, [.int (nI n), .int (nI P), .ref tA, .int u.1, .ref yA])), (tA, .inl (d0, 64, .inl aT)), (yA, .inl (d1, 64, .inl u.2))]) (va_A [(h0, .inr (0, [.int (nI n), .int (nI P), .ref tA, .int fv, .ref yA])), (tA, .inl (d0, 64, .inl aT)), (yA, .inl (d1, 64, .inl aY))] sz)) 0 0 (va_A [(h0, .inr (0, [.int (nI n), .int (nI P), .ref tA, .int fv, .ref yA])), (tA, .inl (d0, 64, .inl aT)), (yA, .inl (d1, 64, .inl aY))] sz) := by
  refine Met.ofW (cc := cX0_next) (maxL := 4) (ret := (some .int)) (by decide) rfl ?_
  intro p e s m args below meth c s₁ B hml hv
  obtain ⟨rfl, hsz, hP, hK, hD0⟩ := hv
  have hx := B.exec
  have hb := B.bytes
  have hr := B.returns
  have hts := atoms_spec (ws := wsX0_next) B.pre
  have hts : ∀ w ∈ lw_all, w.before _ s = true := fun w h => hts w (List.mem_cons_of_mem _ h)
  have hown : s.vm.findClass RX0 = some m.cls := findClass_of_methodNamed B.named
  have hlocks := B.notSynchronized
  subst hsz
  have hD := hD0.self (sz := s.heap.size)
  generalize hAe : va_A [(h0, .inr (0, [.int (nI n), .int (nI P), .ref tA, .int fv, .ref yA])), (tA, .inl (d0, 64, .inl aT)), (yA, .inl (d1, 64, .inl aY))] s.heap.size = A at hD ⊢
  have hA : ∀ q : Nat, s.heap.size ≤ q → A q := fun q h => by rw [← hAe]; exact Or.inr h
  have hS : va_S A s.heap s.heap [] := va_S.rf
  have hP : va_P (dC, dI) vwCl [(h0, .inr (0, [.int (nI n), .int (nI P), .ref tA, .int fv, .ref yA])), (tA, .inl (d0, 64, .inl aT)), (yA, .inl (d1, 64, .inl aY))] s.heap := hP
  have hl := lv_entry ([.ref h0, .int ka, .int la]) (n := 4) (Nat.le_of_ble_eq_true rfl)
  rw [lg_entry_eq]
  generalize (lg_sl ([.ref h0, .int ka, .int la]) ++ List.replicate (4 - (lg_sl ([.ref h0, .int ka, .int la])).length) Slot.unset).toArray = ls at hl ⊢
  have hl : lv_has ls 4 [(0, .ref h0), (1, .int ka), (2, .int la)] := hl
  obtain ⟨hn1, hn2, hr1, hr2, hP1, hP2, hr3⟩ := hA0.1
  refine lv_aload_n hx hb dX0_next_0 rfl (lv_at hl 0 rfl) ?_
  refine lv_iload_n hx hb dX0_next_1 rfl (lv_at hl 1 rfl) ?_
  have hPc := hP.sub (ws' := [(h0, .inr (0, [.int (nI n), .int (nI P), .ref tA, .int fv, .ref yA])), (tA, .inl (d0, 64, .inl aT)), (yA, .inl (d1, 64, .inl aY))]) [0, 1, 2] rfl
  have hKc := hK.sub (tys' := [(d0, .int), (d1, .int)]) [0, 1] rfl
  have hFc := sx_fr hA hS
  refine va_calli (va_runV (As := [.int ka]) (rest := []) ⟨hx, hb, hml, hown, hts⟩ (metX0_isAsked l dC dI s.heap.size h0 tA yA d0 d1 aT aY n (nI P) fv ka hn2) (cwV 1 hts (lw_V q66 q68 qs2 q11 q69) rfl rfl rfl (by decide +kernel) ⟨Nat.le_of_ble_eq_true rfl, Nat.le_of_ble_eq_true rfl⟩) ⟨fun a U g mk q => by obtain ⟨q0, q1, qP, qK⟩ := q; exact ⟨q0, q1, qP, va_K.moved (u := U) (U := U.calling g mk a) (Vm.Alike.refl U.vm) qK⟩, va_recv hKc hPc (ci := 0) (q0 := 0) rfl rfl, fun U hU hW => ⟨rfl, by rw [hU], by rw [hU]; exact hPc, va_K.moved hW.alike hKc⟩⟩ rfl rfl hl.1 rfl (lv_room (Nat.le_of_ble_eq_true rfl)) dX0_next_2 ⟨Nat.le_of_ble_eq_true rfl, Nat.le_of_ble_eq_true rfl⟩) hS (fun q _ h => hFc q h) hFc (fun r1 u t H1 locs ht hvm hw hB hz1 hk1 hS => ?_)
  have hP := sx_keep hP hk1
  generalize H1 = H at hP hS ⊢
  rcases hw with ⟨rfl, z, ha, ek⟩ | ⟨rfl, hno⟩
  · refine lv_if_eq (tgt := 19) hx hb dX0_next_5 (by decide) (fun c5 => False.elim (absurd c5 (by decide))) (fun c5 => ?_)
    refine lv_iload_n hx hb dX0_next_8 rfl (lv_at hl 2 rfl) ?_
    refine lv_if_lt (tgt := 19) hx hb dX0_next_9 (by decide) (fun c9 => ?_) (fun c9 => ?_)
    · refine lv_iconst (v := -1) hx hb dX0_next_19 (by decide +kernel) ?_
      exact W.iret (v := -1) hx hb hr (fun t ht hW => ⟨⟨-1, (fv, aY), rfl, Or.inr ⟨fun ⟨z', L, b1, b2, b3, b4⟩ => sx_neg c9 L (by omega) b4, rfl⟩, by rw [ht]; exact hP, hD⟩, hS.F ht⟩) hS.2.2 dX0_next_20
    · refine lv_iload_n hx hb dX0_next_12 rfl (lv_at hl 2 rfl) ?_
      refine lv_sipush (v := nI 3000) hx hb dX0_next_13 (by decide +kernel) ?_
      refine lv_icmp_le (tgt := 21) hx hb dX0_next_16 (by decide) (fun c16 => ?_) (fun c16 => ?_)
      · obtain ⟨L, -, hL, el⟩ := sx_rng (x := la) (a := 0) (b := 3000) (by omega) (by omega) c9 c16
        rw [ek, el] at hl
        obtain ⟨ha1, ha2, ha3, ha4⟩ := id ha
        refine lv_aload_n hx hb dX0_next_21 rfl (lv_at hl 0 rfl) ?_
        refine lv_iload_n hx hb dX0_next_22 rfl (lv_at hl 1 rfl) ?_
        have hPc := hP.sub (ws' := [(h0, .inr (0, [.int (nI n), .int (nI P), .ref tA, .int fv, .ref yA])), (tA, .inl (d0, 64, .inl aT)), (yA, .inl (d1, 64, .inl aY))]) [0, 1, 2] rfl
        have hKc := hK.sub (tys' := [(d0, .int), (d1, .int)]) [0, 1] rfl
        have hDc := hD.sub (ws' := [(h0, .inr (0, [.int (nI n), .int (nI P), .ref tA, .int fv, .ref yA])), (tA, .inl (d0, 64, .inl aT)), (yA, .inl (d1, 64, .inl aY))]) [0, 1, 2] (by decide) rfl
        have hFc := va_free (wc := [(h0, .inr (0, [.int (nI n), .int (nI P), .ref tA, .int fv, .ref yA])), (tA, .inl (d0, 64, .inl aT)), (yA, .inl (d1, 64, .inl aY))]) hD hS hA [0, 1, 2] rfl
        refine va_callv (va_runV (As := [.int (iI z)]) (rest := []) ⟨hx, hb, hml, hown, hts⟩ (metX0_listSolutions l dC dI H.size h0 tA yA d0 d1 aT aY n fv r P K cc hA0 hB0 hC0 hrow z ha) (cwV 1 hts (lw_V q70 q72 qs3 q11 q73) rfl rfl rfl (by decide +kernel) ⟨Nat.le_of_ble_eq_true rfl, Nat.le_of_ble_eq_true rfl⟩) ⟨fun a U g mk q => by obtain ⟨q0, q1, qP, qK, qD⟩ := q; exact ⟨q0, q1, qP, va_K.moved (u := U) (U := U.calling g mk a) (Vm.Alike.refl U.vm) qK, qD⟩, va_recv hKc hPc (ci := 0) (q0 := 0) rfl rfl, fun U hU hW => ⟨rfl, by rw [hU], by rw [hU]; exact hPc, va_K.moved hW.alike hKc, hDc.weaken (fun _ _ _ _ => trivial)⟩⟩ rfl rfl hl.1 rfl (lv_room (Nat.le_of_ble_eq_true rfl)) dX0_next_23 ⟨Nat.le_of_ble_eq_true rfl, Nat.le_of_ble_eq_true rfl⟩) hS (fun q _ h => hFc q h) hFc (fun u t H1 locs ht hvm hw hB hz1 hk1 hS => ?_)
        obtain ⟨c1, a1⟩ := u
        obtain ⟨hP1, hD1⟩ := hB
        rw [ht] at hP1
        obtain ⟨hP, hD⟩ := va_join (wr := []) (w1 := [(h0, .inr (0, [.int (nI n), .int (nI P), .ref tA, .int (nI c1), .ref yA])), (tA, .inl (d0, 64, .inl aT)), (yA, .inl (d1, 64, .inl a1))]) hP hD [0, 1, 2] [] rfl rfl (by decide) (by decide) hk1 hFc hP1 hD1
        generalize H1 = H at hP hS ⊢
        have hP : va_P (dC, dI) vwCl [(h0, .inr (0, [.int (nI n), .int (nI P), .ref tA, .int (nI c1), .ref yA])), (tA, .inl (d0, 64, .inl aT)), (yA, .inl (d1, 64, .inl a1))] H := hP
        have hD : va_D A [(h0, .inr (0, [.int (nI n), .int (nI P), .ref tA, .int (nI c1), .ref yA])), (tA, .inl (d0, 64, .inl aT)), (yA, .inl (d1, 64, .inl a1))] := hD
        obtain ⟨⟨g, h1, h2, h3⟩, hc⟩ := hw
        have hc : c1 ≤ 64 := hc
        have h1 : ∀ j, j < c1 → a1 j = nI (g j) ∧ g j ≤ 3000 := h1
        have h2 : ∀ i j, i < j → j < c1 → g i < g j := h2
        have h3 : ∀ y, (y ≤ 3000 ∧ sp_sol n z y) ↔ ∃ j, j < c1 ∧ g j = y := h3
        have loop : ∀ (k : Nat) (j : Nat) (H : Heap) (locs : List Loc), (c1 - j < k) → (j ≤ c1) → (∀ i, i < j → g i < L) → va_P (dC, dI) vwCl [(h0, .inr (0, [.int (nI n), .int (nI P), .ref tA, .int (nI c1), .ref yA])), (tA, .inl (d0, 64, .inl aT)), (yA, .inl (d1, 64, .inl a1))] H → va_D A [(h0, .inr (0, [.int (nI n), .int (nI P), .ref tA, .int (nI c1), .ref yA])), (tA, .inl (d0, 64, .inl aT)), (yA, .inl (d1, 64, .inl a1))] → va_S A s.heap H locs → ∀ (ls : Array Slot), lv_has ls 4 [(0, .ref h0), (1, .int (iI z)), (2, .int (nI L)), (3, .int (nI j))] → W p l e (headSpec wsX0_next rmX0_next).room s m ([.ref h0, .int ka, .int la] : List Value).toArray below meth c H locs 0 0 (MQ below (va_Qi (fun (res : Int32) (u : Int32 × (Nat → Int32)) => sp_4 (sp_Fn n) n ka la res) (fun (u : Int32 × (Nat → Int32)) t => va_P (dC, dI) vwCl [(h0, .inr (0, [.int (nI n), .int (nI P), .ref tA, .int u.1, .ref yA])), (tA, .inl (d0, 64, .inl aT)), (yA, .inl (d1, 64, .inl u.2))] t.heap ∧ va_D A [(h0, .inr (0, [.int (nI n), .int (nI P), .ref tA, .int u.1, .ref yA])), (tA, .inl (d0, 64, .inl aT)), (yA, .inl (d1, 64, .inl u.2))]) A) ([.ref h0, .int ka, .int la] : List Value).toArray s 0 0 A) (F0 m 28 ls []) := by
          intro k
          induction k with
          | zero =>
            intro j H locs hk
            exact absurd hk (Nat.not_lt_zero _)
          | succ k ih =>
            intro j H locs hk hj hlo hP hD hS ls hl
            refine lv_iload_n hx hb dX0_next_28 rfl (lv_at hl 3 rfl) ?_
            refine lv_aload_n hx hb dX0_next_29 rfl (lv_at hl 0 rfl) ?_
            refine va_get (D := (dC, dI)) (ci := 0) (v := .int (nI c1)) (C := RX0) (T := TX0) (N := 5) hx hb hts in_X0 hown hK hP 0 rfl rfl 3 (by decide) (hts _ q32) (fun _ h9 => h9) rfl dX0_next_30 ?_
            refine lv_icmp_ge (tgt := 59) hx hb dX0_next_33 (by decide) (fun c33 => ?_) (fun c33 => ?_)
            · have hq : c1 ≤ j := sx_le (by omega) (by omega) c33
              refine lv_bipush (v := -2) hx hb dX0_next_59 (by decide +kernel) ?_
              have hno : ∀ y', L ≤ y' → y' ≤ 3000 → ¬ sp_sol n z y' := by
                intro y' b1 b2 b3
                obtain ⟨i, hi, he⟩ := (h3 y').mp ⟨b2, b3⟩
                have := hlo i (by omega)
                omega
              exact W.iret (v := -2) hx hb hr (fun t ht hW => ⟨⟨-2, (nI c1, a1), rfl, Or.inl ⟨z, L, ha, hL, ek, el, Or.inr ⟨hno, rfl⟩⟩, by rw [ht]; exact hP, hD⟩, hS.F ht⟩) hS.2.2 dX0_next_61
            · have hq : j < c1 := sx_gt (by omega) (by omega) c33
              obtain ⟨hg1, hg2⟩ := h1 j hq
              refine lv_aload_n hx hb dX0_next_36 rfl (lv_at hl 0 rfl) ?_
              refine va_get (D := (dC, dI)) (ci := 0) (v := .ref yA) (C := RX0) (T := TX0) (N := 5) hx hb hts in_X0 hown hK hP 0 rfl rfl 4 (by decide) (hts _ q33) (fun _ h9 => h9) rfl dX0_next_37 ?_
              refine lv_iload_n hx hb dX0_next_40 rfl (lv_at hl 3 rfl) ?_
              refine va_iald hx hb hK hP 2 1 rfl rfl (vp_in_nI (by omega) (by omega)) dX0_next_41 ?_
              refine sx_i (y := nI (g j)) (sx_ald (by omega) hg1) ?_
              refine lv_iload_n hx hb dX0_next_42 rfl (lv_at hl 2 rfl) ?_
              refine lv_icmp_lt (tgt := 53) hx hb dX0_next_43 (by decide) (fun c43 => ?_) (fun c43 => ?_)
              · have hlt : g j < L := sx_lt (by omega) (by omega) c43
                refine lv_iinc (v := nI (j + 1)) (lv' := [(3, .int (nI (j + 1))), (0, .ref h0), (1, .int (iI z)), (2, .int (nI L))]) hx hb dX0_next_53 hl (k := 3) rfl (sx_inc _) (by decide) rfl (fun ls hl => ?_)
                refine lv_goto (tgt := 28) hx hb dX0_next_56 (by decide) ?_
                exact ih (j + 1) _ _ (by omega) (by omega) (fun i hi => by
                  by_cases h : i = j
                  · rw [h]; exact hlt
                  · exact hlo i (by omega)) hP hD hS ls (lv_sub hl [1, 2, 3, 0] rfl)
              · have hge : L ≤ g j := sx_ge (by omega) (by omega) c43
                refine lv_aload_n hx hb dX0_next_46 rfl (lv_at hl 0 rfl) ?_
                refine va_get (D := (dC, dI)) (ci := 0) (v := .ref yA) (C := RX0) (T := TX0) (N := 5) hx hb hts in_X0 hown hK hP 0 rfl rfl 4 (by decide) (hts _ q33) (fun _ h9 => h9) rfl dX0_next_47 ?_
                refine lv_iload_n hx hb dX0_next_50 rfl (lv_at hl 3 rfl) ?_
                refine va_iald hx hb hK hP 2 1 rfl rfl (vp_in_nI (by omega) (by omega)) dX0_next_51 ?_
                refine sx_i (y := nI (g j)) (sx_ald (by omega) hg1) ?_
                have hsol : sp_sol n z (g j) := ((h3 (g j)).mpr ⟨j, hq, rfl⟩).2
                have hmin : ∀ y', L ≤ y' → y' < g j → ¬ sp_sol n z y' := by
                  intro y' b1 b2 b3
                  obtain ⟨i, hi, he⟩ := (h3 y').mp ⟨by omega, b3⟩
                  rcases Nat.lt_trichotomy i j with q | q | q
                  · have := hlo i q
                    omega
                  · rw [q] at he
                    omega
                  · have := h2 j i q hi
                    omega
                exact W.iret (v := nI (g j)) hx hb hr (fun t ht hW => ⟨⟨nI (g j), (nI c1, a1), rfl, Or.inl ⟨z, L, ha, hL, ek, el, Or.inl ⟨g j, hge, hg2, hsol, hmin, rfl⟩⟩, by rw [ht]; exact hP, hD⟩, hS.F ht⟩) hS.2.2 dX0_next_52
        refine lv_iconst (v := nI 0) hx hb dX0_next_26 (by decide +kernel) ?_
        refine lv_istore_n (lv' := [(3, .int (nI 0)), (0, .ref h0), (1, .int (iI z)), (2, .int (nI L))]) hx hb dX0_next_27 rfl hl (by decide) rfl (fun ls hl => ?_)
        exact loop (c1 + 1) 0 _ _ (by omega) (by omega) (fun i hi => absurd hi (Nat.not_lt_zero i)) hP hD hS ls (lv_sub hl [1, 2, 3, 0] rfl)
      · refine lv_iconst (v := -1) hx hb dX0_next_19 (by decide +kernel) ?_
        exact W.iret (v := -1) hx hb hr (fun t ht hW => ⟨⟨-1, (fv, aY), rfl, Or.inr ⟨fun ⟨z', L, b1, b2, b3, b4⟩ => sx_nhi (by omega) c16 b2 b4, rfl⟩, by rw [ht]; exact hP, hD⟩, hS.F ht⟩) hS.2.2 dX0_next_20
  · refine lv_if_eq (tgt := 19) hx hb dX0_next_5 (by decide) (fun c5 => ?_) (fun c5 => False.elim (c5 rfl))
    refine lv_iconst (v := -1) hx hb dX0_next_19 (by decide +kernel) ?_
    exact W.iret (v := -1) hx hb hr (fun t ht hW => ⟨⟨-1, (fv, aY), rfl, Or.inr ⟨fun ⟨z', L, b1, b2, b3, b4⟩ => hno ⟨z', b1, b3⟩, rfl⟩, by rw [ht]; exact hP, hD⟩, hS.F ht⟩) hS.2.2 dX0_next_20

abbrev wsX0_root : List Cond := ws_ yX0_root cX0_root 4 (some .int)
abbrev rmX0_root : Room := ({ frames := 3, cells := 0, slots := 0, locals := 81 } : Room)
set_option maxHeartbeats 4000000 in
set_option maxRecDepth 100000 in
theorem metX0_root (l : Launch) (dC : Nat → ClassId) (dI : Nat → Nat → Nat) (sz : Nat) (h0 tA yA : Nat) (d0 d1 : ClassId) (aT aY : Nat → Int32) (n : Nat) (fv : Int32) (r P K cc : Nat) (hA0 : sq_A r n P) (hB0 : sq_B r n K) (hC0 : sq_C r n K cc) (hrow : ∀ i, i ≤ P → aT i = nI (sq_t r n i)) (ka la : Int32) : Met l yX0_root wsX0_root rmX0_root (va_Pc [.ref h0, .int ka, .int la] (fun U => U.heap.size = sz ∧ va_P (dC, dI) vwCl [(h0, .inr (0, [.int (nI n), .int (nI P), .ref tA, .int fv, .ref yA])), (tA, .inl (d0, 64, .inl aT)), (yA, .inl (d1, 64, .inl aY))] U.heap ∧ va_K (dC, dI) vwCl [(d0, .int), (d1, .int)] U ∧ va_D (fun _ => True) [(h0, .inr (0, [.int (nI n), .int (nI P), .ref tA, .int fv, .ref yA])), (tA, .inl (d0, 64, .inl aT)), (yA, .inl (d1, 64, .inl aY))])) (va_Qi (fun (res : Int32) (u : Int32 × (Nat → Int32)) => sp_4 (sp_Fr n) n ka la res) (fun (u : Int32 × (Nat → Int32)) t => va_P (dC, dI) vwCl [(h0, .inr (0, [.int (nI n), .int (nI P), .ref tA, .int u.1, .ref yA])), (tA, .inl (d0, 64, .inl aT)), (yA, .inl (d1, 64, .inl u.2))] t.heap ∧ va_D (va_A [(h0, .inr (0, [.int (nI n), .int (nI P), .ref tA, .int fv, .ref yA])), (tA, .inl (d0, 64, .inl aT)), (yA, .inl (d1, 64, .inl aY))] sz) [(h0, .inr (0, [.int (nI n), .int (nI P), .ref tA, .int u.1, .ref yA])), (tA, .inl (d0, 64, .inl aT)), (yA, .inl (d1, 64, .inl u.2))]) (va_A [(h0, .inr (0, [.int (nI n), .int (nI P), .ref tA, .int fv, .ref yA])), (tA, .inl (d0, 64, .inl aT)), (yA, .inl (d1, 64, .inl aY))] sz)) 0 0 (va_A [(h0, .inr (0, [.int (nI n), .int (nI P), .ref tA, .int fv, .ref yA])), (tA, .inl (d0, 64, .inl aT)), (yA, .inl (d1, 64, .inl aY))] sz) := by
  refine Met.ofW (cc := cX0_root) (maxL := 4) (ret := (some .int)) (by decide) rfl ?_
  intro p e s m args below meth c s₁ B hml hv
  obtain ⟨rfl, hsz, hP, hK, hD0⟩ := hv
  have hx := B.exec
  have hb := B.bytes
  have hr := B.returns
  have hts := atoms_spec (ws := wsX0_root) B.pre
  have hts : ∀ w ∈ lw_all, w.before _ s = true := fun w h => hts w (List.mem_cons_of_mem _ h)
  have hown : s.vm.findClass RX0 = some m.cls := findClass_of_methodNamed B.named
  have hlocks := B.notSynchronized
  subst hsz
  have hD := hD0.self (sz := s.heap.size)
  generalize hAe : va_A [(h0, .inr (0, [.int (nI n), .int (nI P), .ref tA, .int fv, .ref yA])), (tA, .inl (d0, 64, .inl aT)), (yA, .inl (d1, 64, .inl aY))] s.heap.size = A at hD ⊢
  have hA : ∀ q : Nat, s.heap.size ≤ q → A q := fun q h => by rw [← hAe]; exact Or.inr h
  have hS : va_S A s.heap s.heap [] := va_S.rf
  have hP : va_P (dC, dI) vwCl [(h0, .inr (0, [.int (nI n), .int (nI P), .ref tA, .int fv, .ref yA])), (tA, .inl (d0, 64, .inl aT)), (yA, .inl (d1, 64, .inl aY))] s.heap := hP
  have hl := lv_entry ([.ref h0, .int ka, .int la]) (n := 4) (Nat.le_of_ble_eq_true rfl)
  rw [lg_entry_eq]
  generalize (lg_sl ([.ref h0, .int ka, .int la]) ++ List.replicate (4 - (lg_sl ([.ref h0, .int ka, .int la])).length) Slot.unset).toArray = ls at hl ⊢
  have hl : lv_has ls 4 [(0, .ref h0), (1, .int ka), (2, .int la)] := hl
  obtain ⟨hn1, hn2, hr1, hr2, hP1, hP2, hr3⟩ := hA0.1
  refine lv_aload_n hx hb dX0_root_0 rfl (lv_at hl 0 rfl) ?_
  refine lv_iload_n hx hb dX0_root_1 rfl (lv_at hl 1 rfl) ?_
  have hPc := hP.sub (ws' := [(h0, .inr (0, [.int (nI n), .int (nI P), .ref tA, .int fv, .ref yA])), (tA, .inl (d0, 64, .inl aT)), (yA, .inl (d1, 64, .inl aY))]) [0, 1, 2] rfl
  have hKc := hK.sub (tys' := [(d0, .int), (d1, .int)]) [0, 1] rfl
  have hFc := sx_fr hA hS
  refine va_calli (va_runV (As := [.int ka]) (rest := []) ⟨hx, hb, hml, hown, hts⟩ (metX0_isAsked l dC dI s.heap.size h0 tA yA d0 d1 aT aY n (nI P) fv ka hn2) (cwV 1 hts (lw_V q66 q68 qs2 q11 q69) rfl rfl rfl (by decide +kernel) ⟨Nat.le_of_ble_eq_true rfl, Nat.le_of_ble_eq_true rfl⟩) ⟨fun a U g mk q => by obtain ⟨q0, q1, qP, qK⟩ := q; exact ⟨q0, q1, qP, va_K.moved (u := U) (U := U.calling g mk a) (Vm.Alike.refl U.vm) qK⟩, va_recv hKc hPc (ci := 0) (q0 := 0) rfl rfl, fun U hU hW => ⟨rfl, by rw [hU], by rw [hU]; exact hPc, va_K.moved hW.alike hKc⟩⟩ rfl rfl hl.1 rfl (lv_room (Nat.le_of_ble_eq_true rfl)) dX0_root_2 ⟨Nat.le_of_ble_eq_true rfl, Nat.le_of_ble_eq_true rfl⟩) hS (fun q _ h => hFc q h) hFc (fun r1 u t H1 locs ht hvm hw hB hz1 hk1 hS => ?_)
  have hP := sx_keep hP hk1
  generalize H1 = H at hP hS ⊢
  rcases hw with ⟨rfl, z, ha, ek⟩ | ⟨rfl, hno⟩
  · refine lv_if_eq (tgt := 19) hx hb dX0_root_5 (by decide) (fun c5 => False.elim (absurd c5 (by decide))) (fun c5 => ?_)
    refine lv_iload_n hx hb dX0_root_8 rfl (lv_at hl 2 rfl) ?_
    refine lv_if_lt (tgt := 19) hx hb dX0_root_9 (by decide) (fun c9 => ?_) (fun c9 => ?_)
    · refine lv_iconst (v := -1) hx hb dX0_root_19 (by decide +kernel) ?_
      exact W.iret (v := -1) hx hb hr (fun t ht hW => ⟨⟨-1, (fv, aY), rfl, Or.inr ⟨fun ⟨z', L, b1, b2, b3, b4⟩ => sx_neg c9 L (by omega) b4, rfl⟩, by rw [ht]; exact hP, hD⟩, hS.F ht⟩) hS.2.2 dX0_root_20
    · refine lv_iload_n hx hb dX0_root_12 rfl (lv_at hl 2 rfl) ?_
      refine lv_sipush (v := nI 3000) hx hb dX0_root_13 (by decide +kernel) ?_
      refine lv_icmp_le (tgt := 21) hx hb dX0_root_16 (by decide) (fun c16 => ?_) (fun c16 => ?_)
      · obtain ⟨L, -, hL, el⟩ := sx_rng (x := la) (a := 0) (b := 3000) (by omega) (by omega) c9 c16
        rw [ek, el] at hl
        obtain ⟨ha1, ha2, ha3, ha4⟩ := id ha
        refine lv_aload_n hx hb dX0_root_21 rfl (lv_at hl 0 rfl) ?_
        refine lv_iload_n hx hb dX0_root_22 rfl (lv_at hl 1 rfl) ?_
        have hPc := hP.sub (ws' := [(h0, .inr (0, [.int (nI n), .int (nI P), .ref tA, .int fv, .ref yA])), (tA, .inl (d0, 64, .inl aT)), (yA, .inl (d1, 64, .inl aY))]) [0, 1, 2] rfl
        have hKc := hK.sub (tys' := [(d0, .int), (d1, .int)]) [0, 1] rfl
        have hDc := hD.sub (ws' := [(h0, .inr (0, [.int (nI n), .int (nI P), .ref tA, .int fv, .ref yA])), (tA, .inl (d0, 64, .inl aT)), (yA, .inl (d1, 64, .inl aY))]) [0, 1, 2] (by decide) rfl
        have hFc := va_free (wc := [(h0, .inr (0, [.int (nI n), .int (nI P), .ref tA, .int fv, .ref yA])), (tA, .inl (d0, 64, .inl aT)), (yA, .inl (d1, 64, .inl aY))]) hD hS hA [0, 1, 2] rfl
        refine va_callv (va_runV (As := [.int (iI z)]) (rest := []) ⟨hx, hb, hml, hown, hts⟩ (metX0_listSolutions l dC dI H.size h0 tA yA d0 d1 aT aY n fv r P K cc hA0 hB0 hC0 hrow z ha) (cwV 1 hts (lw_V q70 q72 qs3 q11 q73) rfl rfl rfl (by decide +kernel) ⟨Nat.le_of_ble_eq_true rfl, Nat.le_of_ble_eq_true rfl⟩) ⟨fun a U g mk q => by obtain ⟨q0, q1, qP, qK, qD⟩ := q; exact ⟨q0, q1, qP, va_K.moved (u := U) (U := U.calling g mk a) (Vm.Alike.refl U.vm) qK, qD⟩, va_recv hKc hPc (ci := 0) (q0 := 0) rfl rfl, fun U hU hW => ⟨rfl, by rw [hU], by rw [hU]; exact hPc, va_K.moved hW.alike hKc, hDc.weaken (fun _ _ _ _ => trivial)⟩⟩ rfl rfl hl.1 rfl (lv_room (Nat.le_of_ble_eq_true rfl)) dX0_root_23 ⟨Nat.le_of_ble_eq_true rfl, Nat.le_of_ble_eq_true rfl⟩) hS (fun q _ h => hFc q h) hFc (fun u t H1 locs ht hvm hw hB hz1 hk1 hS => ?_)
        obtain ⟨c1, a1⟩ := u
        obtain ⟨hP1, hD1⟩ := hB
        rw [ht] at hP1
        obtain ⟨hP, hD⟩ := va_join (wr := []) (w1 := [(h0, .inr (0, [.int (nI n), .int (nI P), .ref tA, .int (nI c1), .ref yA])), (tA, .inl (d0, 64, .inl aT)), (yA, .inl (d1, 64, .inl a1))]) hP hD [0, 1, 2] [] rfl rfl (by decide) (by decide) hk1 hFc hP1 hD1
        generalize H1 = H at hP hS ⊢
        have hP : va_P (dC, dI) vwCl [(h0, .inr (0, [.int (nI n), .int (nI P), .ref tA, .int (nI c1), .ref yA])), (tA, .inl (d0, 64, .inl aT)), (yA, .inl (d1, 64, .inl a1))] H := hP
        have hD : va_D A [(h0, .inr (0, [.int (nI n), .int (nI P), .ref tA, .int (nI c1), .ref yA])), (tA, .inl (d0, 64, .inl aT)), (yA, .inl (d1, 64, .inl a1))] := hD
        obtain ⟨⟨g, h1, h2, h3⟩, hc⟩ := hw
        have hc : c1 ≤ 64 := hc
        have h1 : ∀ j, j < c1 → a1 j = nI (g j) ∧ g j ≤ 3000 := h1
        have h2 : ∀ i j, i < j → j < c1 → g i < g j := h2
        have h3 : ∀ y, (y ≤ 3000 ∧ sp_sol n z y) ↔ ∃ j, j < c1 ∧ g j = y := h3
        have loop : ∀ (k : Nat) (j : Nat) (H : Heap) (locs : List Loc), (c1 - j < k) → (j ≤ c1) → (∀ i, i < j → g i ≠ L) → va_P (dC, dI) vwCl [(h0, .inr (0, [.int (nI n), .int (nI P), .ref tA, .int (nI c1), .ref yA])), (tA, .inl (d0, 64, .inl aT)), (yA, .inl (d1, 64, .inl a1))] H → va_D A [(h0, .inr (0, [.int (nI n), .int (nI P), .ref tA, .int (nI c1), .ref yA])), (tA, .inl (d0, 64, .inl aT)), (yA, .inl (d1, 64, .inl a1))] → va_S A s.heap H locs → ∀ (ls : Array Slot), lv_has ls 4 [(0, .ref h0), (1, .int (iI z)), (2, .int (nI L)), (3, .int (nI j))] → W p l e (headSpec wsX0_root rmX0_root).room s m ([.ref h0, .int ka, .int la] : List Value).toArray below meth c H locs 0 0 (MQ below (va_Qi (fun (res : Int32) (u : Int32 × (Nat → Int32)) => sp_4 (sp_Fr n) n ka la res) (fun (u : Int32 × (Nat → Int32)) t => va_P (dC, dI) vwCl [(h0, .inr (0, [.int (nI n), .int (nI P), .ref tA, .int u.1, .ref yA])), (tA, .inl (d0, 64, .inl aT)), (yA, .inl (d1, 64, .inl u.2))] t.heap ∧ va_D A [(h0, .inr (0, [.int (nI n), .int (nI P), .ref tA, .int u.1, .ref yA])), (tA, .inl (d0, 64, .inl aT)), (yA, .inl (d1, 64, .inl u.2))]) A) ([.ref h0, .int ka, .int la] : List Value).toArray s 0 0 A) (F0 m 28 ls []) := by
          intro k
          induction k with
          | zero =>
            intro j H locs hk
            exact absurd hk (Nat.not_lt_zero _)
          | succ k ih =>
            intro j H locs hk hj hlo hP hD hS ls hl
            refine lv_iload_n hx hb dX0_root_28 rfl (lv_at hl 3 rfl) ?_
            refine lv_aload_n hx hb dX0_root_29 rfl (lv_at hl 0 rfl) ?_
            refine va_get (D := (dC, dI)) (ci := 0) (v := .int (nI c1)) (C := RX0) (T := TX0) (N := 5) hx hb hts in_X0 hown hK hP 0 rfl rfl 3 (by decide) (hts _ q32) (fun _ h9 => h9) rfl dX0_root_30 ?_
            refine lv_icmp_ge (tgt := 66) hx hb dX0_root_33 (by decide) (fun c33 => ?_) (fun c33 => ?_)
            · have hq : c1 ≤ j := sx_le (by omega) (by omega) c33
              refine lv_bipush (v := -2) hx hb dX0_root_66 (by decide +kernel) ?_
              have hno : ¬ sp_sol n z L := by
                intro b3
                obtain ⟨i, hi, he⟩ := (h3 L).mp ⟨hL, b3⟩
                exact hlo i (by omega) he
              exact W.iret (v := -2) hx hb hr (fun t ht hW => ⟨⟨-2, (nI c1, a1), rfl, Or.inl ⟨z, L, ha, hL, ek, el, Or.inr ⟨hno, rfl⟩⟩, by rw [ht]; exact hP, hD⟩, hS.F ht⟩) hS.2.2 dX0_root_68
            · have hq : j < c1 := sx_gt (by omega) (by omega) c33
              obtain ⟨hg1, hg2⟩ := h1 j hq
              refine lv_aload_n hx hb dX0_root_36 rfl (lv_at hl 0 rfl) ?_
              refine va_get (D := (dC, dI)) (ci := 0) (v := .ref yA) (C := RX0) (T := TX0) (N := 5) hx hb hts in_X0 hown hK hP 0 rfl rfl 4 (by decide) (hts _ q33) (fun _ h9 => h9) rfl dX0_root_37 ?_
              refine lv_iload_n hx hb dX0_root_40 rfl (lv_at hl 3 rfl) ?_
              refine va_iald hx hb hK hP 2 1 rfl rfl (vp_in_nI (by omega) (by omega)) dX0_root_41 ?_
              refine sx_i (y := nI (g j)) (sx_ald (by omega) hg1) ?_
              refine lv_iload_n hx hb dX0_root_42 rfl (lv_at hl 2 rfl) ?_
              refine lv_icmp_ne (tgt := 60) hx hb dX0_root_43 (by decide) (fun c43 => ?_) (fun c43 => ?_)
              · have hne : g j ≠ L := sx_ne (by omega) (by omega) c43
                refine lv_iinc (v := nI (j + 1)) (lv' := [(3, .int (nI (j + 1))), (0, .ref h0), (1, .int (iI z)), (2, .int (nI L))]) hx hb dX0_root_60 hl (k := 3) rfl (sx_inc _) (by decide) rfl (fun ls hl => ?_)
                refine lv_goto (tgt := 28) hx hb dX0_root_63 (by decide) ?_
                exact ih (j + 1) _ _ (by omega) (by omega) (fun i hi => by
                  by_cases h : i = j
                  · rw [h]; exact hne
                  · exact hlo i (by omega)) hP hD hS ls (lv_sub hl [1, 2, 3, 0] rfl)
              · have heq : g j = L := sx_eq (by omega) (by omega) c43
                obtain ⟨Z, hZ⟩ : sp_sol n z L := ((h3 L).mpr ⟨j, hq, heq⟩).2
                obtain ⟨-, hnLL⟩ := sx_ny (n := n) (y := L) hn2 hL
                have hZb : Z * Z < 2147483648 := by
                  generalize Z * Z = q at hZ ⊢
                  omega
                have hZe : iI z + nI (n * L * L) = nI (Z * Z) := by
                  rw [iI_nadd, ← iI_nat, hZ]
                  congr 1
                  omega
                refine lv_iload_n hx hb dX0_root_46 rfl (lv_at hl 1 rfl) ?_
                refine lv_aload_n hx hb dX0_root_47 rfl (lv_at hl 0 rfl) ?_
                refine va_get (D := (dC, dI)) (ci := 0) (v := .int (nI n)) (C := RX0) (T := TX0) (N := 5) hx hb hts in_X0 hown hK hP 0 rfl rfl 0 (by decide) (hts _ q29) (fun _ h9 => h9) rfl dX0_root_48 ?_
                refine lv_iload_n hx hb dX0_root_51 rfl (lv_at hl 2 rfl) ?_
                refine lv_imul hx hb dX0_root_52 ?_
                refine sx_i (y := nI (n * L)) (pk_mul _ _) ?_
                refine lv_iload_n hx hb dX0_root_53 rfl (lv_at hl 2 rfl) ?_
                refine lv_imul hx hb dX0_root_54 ?_
                refine sx_i (y := nI ((n * L) * L)) (pk_mul _ _) ?_
                refine lv_iadd hx hb dX0_root_55 ?_
                refine sx_i (y := nI (Z * Z)) (hZe) ?_
                have hFc := sx_fr hA hS
                refine va_calli (va_runS (As := [.int (nI (Z * Z))]) (rest := []) ⟨hx, hb, hml, hown, hts⟩ (metX0_rootOf l H.size (Z * Z) hZb) (va_cwS 1 hts (lw_S q25 q26 q11 q27) rfl rfl rfl (by decide +kernel) ⟨Nat.le_of_ble_eq_true rfl, Nat.le_of_ble_eq_true rfl⟩) ⟨fun a U g mk q => by obtain ⟨q0, q1⟩ := q; exact ⟨q0, q1⟩, fun U hU hW => ⟨rfl, congrArg Array.size hU⟩⟩ rfl rfl hl.1 rfl (lv_room (Nat.le_of_ble_eq_true rfl)) dX0_root_56 ⟨Nat.le_of_ble_eq_true rfl, Nat.le_of_ble_eq_true rfl⟩) hS (fun q _ h => hFc q h) hFc (fun r7 u t H1 locs ht hvm hw hB hz1 hk1 hS => ?_)
                have hP := sx_keep hP hk1
                generalize H1 = H at hP hS ⊢
                obtain ⟨R, hrr, hR1, hR2⟩ := hw
                have hRZ : R = Z := sx_root hR1 hR2 (Nat.le_refl _) (Nat.mul_lt_mul_of_lt_of_lt (Nat.lt_succ_self Z) (Nat.lt_succ_self Z))
                rw [hRZ] at hrr
                exact W.iret (v := r7) hx hb hr (fun t ht hW => ⟨⟨r7, (nI c1, a1), rfl, Or.inl ⟨z, L, ha, hL, ek, el, Or.inl ⟨Z, hZ, hrr⟩⟩, by rw [ht]; exact hP, hD⟩, hS.F ht⟩) hS.2.2 dX0_root_59
        refine lv_iconst (v := nI 0) hx hb dX0_root_26 (by decide +kernel) ?_
        refine lv_istore_n (lv' := [(3, .int (nI 0)), (0, .ref h0), (1, .int (iI z)), (2, .int (nI L))]) hx hb dX0_root_27 rfl hl (by decide) rfl (fun ls hl => ?_)
        exact loop (c1 + 1) 0 _ _ (by omega) (by omega) (fun i hi => absurd hi (Nat.not_lt_zero i)) hP hD hS ls (lv_sub hl [1, 2, 3, 0] rfl)
      · refine lv_iconst (v := -1) hx hb dX0_root_19 (by decide +kernel) ?_
        exact W.iret (v := -1) hx hb hr (fun t ht hW => ⟨⟨-1, (fv, aY), rfl, Or.inr ⟨fun ⟨z', L, b1, b2, b3, b4⟩ => sx_nhi (by omega) c16 b2 b4, rfl⟩, by rw [ht]; exact hP, hD⟩, hS.F ht⟩) hS.2.2 dX0_root_20
  · refine lv_if_eq (tgt := 19) hx hb dX0_root_5 (by decide) (fun c5 => ?_) (fun c5 => False.elim (c5 rfl))
    refine lv_iconst (v := -1) hx hb dX0_root_19 (by decide +kernel) ?_
    exact W.iret (v := -1) hx hb hr (fun t ht hW => ⟨⟨-1, (fv, aY), rfl, Or.inr ⟨fun ⟨z', L, b1, b2, b3, b4⟩ => hno ⟨z', b1, b3⟩, rfl⟩, by rw [ht]; exact hP, hD⟩, hS.F ht⟩) hS.2.2 dX0_root_20
end
section
abbrev wsX0_init : List Cond := ws_ yX0_init cX0_init 1 none
abbrev rmX0_init : Room := ({ frames := 3, cells := 2, slots := 128, locals := 60 } : Room)
set_option maxHeartbeats 4000000 in
set_option maxRecDepth 100000 in
theorem metX0_init (l : Launch) (dC : Nat → ClassId) (dI : Nat → Nat → Nat) (sz : Nat) (h0 : Nat) : Met l yX0_init wsX0_init rmX0_init (va_Pc [.ref h0] (fun U => U.heap.size = sz ∧ va_P (dC, dI) vwCl [(h0, .inr (0, [.int 0, .int 0, .null, .int 0, .null]))] U.heap ∧ va_K (dC, dI) vwCl [] U ∧ va_D (fun _ => True) [(h0, .inr (0, [.int 0, .int 0, .null, .int 0, .null]))])) (va_Qv (fun (u : Nat × Nat × ClassId × ClassId × (Nat → Int32)) => ∀ i, i ≤ 1 → u.2.2.2.2 i = nI (sq_t 1 2 i)) (fun (u : Nat × Nat × ClassId × ClassId × (Nat → Int32)) t => va_P (dC, dI) vwCl [(h0, .inr (0, [.int (nI 2), .int (nI 1), .ref u.1, .int 0, .ref u.2.1])), (u.1, .inl (u.2.2.1, 64, .inl u.2.2.2.2)), (u.2.1, .inl (u.2.2.2.1, 64, .inl (fun _ => 0)))] t.heap ∧ va_K (dC, dI) vwCl [(u.2.2.1, .int), (u.2.2.2.1, .int)] t ∧ va_D (va_A [(h0, .inr (0, [.int 0, .int 0, .null, .int 0, .null]))] sz) [(h0, .inr (0, [.int (nI 2), .int (nI 1), .ref u.1, .int 0, .ref u.2.1])), (u.1, .inl (u.2.2.1, 64, .inl u.2.2.2.2)), (u.2.1, .inl (u.2.2.2.1, 64, .inl (fun _ => 0)))]) (va_A [(h0, .inr (0, [.int 0, .int 0, .null, .int 0, .null]))] sz)) 2 128 (va_A [(h0, .inr (0, [.int 0, .int 0, .null, .int 0, .null]))] sz) := by
  refine Met.ofW (cc := cX0_init) (maxL := 1) (ret := none) (by decide) rfl ?_
  intro p e s m args below meth c s₁ B hml hv
  obtain ⟨rfl, hsz, hP, hK, hD0⟩ := hv
  have hx := B.exec
  have hb := B.bytes
  have hr := B.returns
  have hts := atoms_spec (ws := wsX0_init) B.pre
  have hts : ∀ w ∈ lw_all, w.before _ s = true := fun w h => hts w (List.mem_cons_of_mem _ h)
  have hown : s.vm.findClass RX0 = some m.cls := findClass_of_methodNamed B.named
  have hlocks := B.notSynchronized
  subst hsz
  have hin : meth.name = "<init>" := (name_of_methodNamed B.named B.method).1
  have hD := hD0.self (sz := s.heap.size)
  generalize hAe : va_A [(h0, .inr (0, [.int 0, .int 0, .null, .int 0, .null]))] s.heap.size = A at hD ⊢
  have hA : ∀ q : Nat, s.heap.size ≤ q → A q := fun q h => by rw [← hAe]; exact Or.inr h
  have hS : va_S A s.heap s.heap [] := va_S.rf
  have hP : va_P (dC, dI) vwCl [(h0, .inr (0, [.int 0, .int 0, .null, .int 0, .null]))] s.heap := hP
  have hl := lv_entry ([.ref h0]) (n := 1) (Nat.le_of_ble_eq_true rfl)
  rw [lg_entry_eq]
  generalize (lg_sl ([.ref h0]) ++ List.replicate (1 - (lg_sl ([.ref h0])).length) Slot.unset).toArray = ls at hl ⊢
  have hl : lv_has ls 1 [(0, .ref h0)] := hl
  refine lv_aload_n hx hb dX0_init_0 rfl (lv_at hl 0 rfl) ?_
  refine W.objInit hx hb hown (hts _ q18) (hts _ q19) (hts _ q20) rfl (by rw [hml]; exact hl.1) rfl dX0_init_1 (Nat.le_of_ble_eq_true rfl) (Nat.le_of_ble_eq_true rfl) ?_
  refine W.eq (g2 := F0 m 4 ls []) rfl ?_
  refine lv_aload_n hx hb dX0_init_4 rfl (lv_at hl 0 rfl) ?_
  refine lv_bipush (v := nI 64) hx hb dX0_init_5 (by decide +kernel) ?_
  refine va_newa (atype := .int) (ty := .int) (N' := 64) (a0 := (64, .inl (fun _ => 0))) hx hb (hts _ q45) rfl hK hP hD hS hA (fun cA => rfl) (by decide +kernel) (by decide +kernel) (by decide +kernel) (Nat.le_of_ble_eq_true rfl) (Nat.le_of_ble_eq_true rfl) dX0_init_7 (fun tA d0 H hK hP hD hS => ?_)
  have hK : va_K (dC, dI) vwCl [(d0, .int)] s := hK
  have hP : va_P (dC, dI) vwCl [(h0, .inr (0, [.int 0, .int 0, .null, .int 0, .null])), (tA, .inl (d0, 64, .inl (fun _ => 0)))] H := hP
  have hD : va_D A [(h0, .inr (0, [.int 0, .int 0, .null, .int 0, .null])), (tA, .inl (d0, 64, .inl (fun _ => 0)))] := hD
  refine va_putF (D := (dC, dI)) (ci := 0) (v := .ref tA) (ty := .array .int) (C := RX0) (T := TX0) (N := 5) hx hb hts in_X0 tyX0 tyX0_ok nmX0 hown hK hP hD hS 0 rfl rfl 2 (by decide) (hts _ q31) (fun _ h9 => h9) rfl hin rfl (by decide +kernel) rfl rfl (Nat.le_of_ble_eq_true rfl) dX0_init_9 (fun H locs hP hD hS => ?_)
  have hP : va_P (dC, dI) vwCl [(h0, .inr (0, [.int 0, .int 0, .ref tA, .int 0, .null])), (tA, .inl (d0, 64, .inl (fun _ => 0)))] H := hP
  have hD : va_D A [(h0, .inr (0, [.int 0, .int 0, .ref tA, .int 0, .null])), (tA, .inl (d0, 64, .inl (fun _ => 0)))] := hD
  refine lv_aload_n hx hb dX0_init_12 rfl (lv_at hl 0 rfl) ?_
  refine lv_bipush (v := nI 64) hx hb dX0_init_13 (by decide +kernel) ?_
  refine va_newa (atype := .int) (ty := .int) (N' := 64) (a0 := (64, .inl (fun _ => 0))) hx hb (hts _ q45) rfl hK hP hD hS hA (fun cA => rfl) (by decide +kernel) (by decide +kernel) (by decide +kernel) (Nat.le_of_ble_eq_true rfl) (Nat.le_of_ble_eq_true rfl) dX0_init_15 (fun yA d1 H hK hP hD hS => ?_)
  have hK : va_K (dC, dI) vwCl [(d0, .int), (d1, .int)] s := hK
  have hP : va_P (dC, dI) vwCl [(h0, .inr (0, [.int 0, .int 0, .ref tA, .int 0, .null])), (tA, .inl (d0, 64, .inl (fun _ => 0))), (yA, .inl (d1, 64, .inl (fun _ => 0)))] H := hP
  have hD : va_D A [(h0, .inr (0, [.int 0, .int 0, .ref tA, .int 0, .null])), (tA, .inl (d0, 64, .inl (fun _ => 0))), (yA, .inl (d1, 64, .inl (fun _ => 0)))] := hD
  refine va_putF (D := (dC, dI)) (ci := 0) (v := .ref yA) (ty := .array .int) (C := RX0) (T := TX0) (N := 5) hx hb hts in_X0 tyX0 tyX0_ok nmX0 hown hK hP hD hS 0 rfl rfl 4 (by decide) (hts _ q33) (fun _ h9 => h9) rfl hin rfl (by decide +kernel) rfl rfl (Nat.le_of_ble_eq_true rfl) dX0_init_17 (fun H locs hP hD hS => ?_)
  have hP : va_P (dC, dI) vwCl [(h0, .inr (0, [.int 0, .int 0, .ref tA, .int 0, .ref yA])), (tA, .inl (d0, 64, .inl (fun _ => 0))), (yA, .inl (d1, 64, .inl (fun _ => 0)))] H := hP
  have hD : va_D A [(h0, .inr (0, [.int 0, .int 0, .ref tA, .int 0, .ref yA])), (tA, .inl (d0, 64, .inl (fun _ => 0))), (yA, .inl (d1, 64, .inl (fun _ => 0)))] := hD
  refine lv_aload_n hx hb dX0_init_20 rfl (lv_at hl 0 rfl) ?_
  refine lv_iconst (v := nI 2) hx hb dX0_init_21 (by decide +kernel) ?_
  refine va_put (D := (dC, dI)) (ci := 0) (v := .int (nI 2)) (ty := .int) (C := RX0) (T := TX0) (N := 5) hx hb hts in_X0 tyX0 tyX0_ok nmX0 hown hK hP hD hS 0 rfl rfl 0 (by decide) (hts _ q29) (fun _ h9 => h9) rfl (by decide +kernel) rfl rfl (Nat.le_of_ble_eq_true rfl) dX0_init_22 (fun H locs hP hD hS => ?_)
  have hP : va_P (dC, dI) vwCl [(h0, .inr (0, [.int (nI 2), .int 0, .ref tA, .int 0, .ref yA])), (tA, .inl (d0, 64, .inl (fun _ => 0))), (yA, .inl (d1, 64, .inl (fun _ => 0)))] H := hP
  have hD : va_D A [(h0, .inr (0, [.int (nI 2), .int 0, .ref tA, .int 0, .ref yA])), (tA, .inl (d0, 64, .inl (fun _ => 0))), (yA, .inl (d1, 64, .inl (fun _ => 0)))] := hD
  refine lv_aload_n hx hb dX0_init_25 rfl (lv_at hl 0 rfl) ?_
  have hPc := hP.sub (ws' := [(h0, .inr (0, [.int (nI 2), .int 0, .ref tA, .int 0, .ref yA])), (tA, .inl (d0, 64, .inl (fun _ => 0))), (yA, .inl (d1, 64, .inl (fun _ => 0)))]) [0, 1, 2] rfl
  have hKc := hK.sub (tys' := [(d0, .int), (d1, .int)]) [0, 1] rfl
  have hDc := hD.sub (ws' := [(h0, .inr (0, [.int (nI 2), .int 0, .ref tA, .int 0, .ref yA])), (tA, .inl (d0, 64, .inl (fun _ => 0))), (yA, .inl (d1, 64, .inl (fun _ => 0)))]) [0, 1, 2] (by decide) rfl
  have hFc := va_free (wc := [(h0, .inr (0, [.int (nI 2), .int 0, .ref tA, .int 0, .ref yA])), (tA, .inl (d0, 64, .inl (fun _ => 0))), (yA, .inl (d1, 64, .inl (fun _ => 0)))]) hD hS hA [0, 1, 2] rfl
  refine va_callv (va_runV (As := []) (rest := []) ⟨hx, hb, hml, hown, hts⟩ (metX0_findRow l dC dI H.size h0 tA yA d0 d1 (fun _ => 0) (fun _ => 0) 2 0 0 1 1 sn_2.1) (cwV 0 hts (lw_V q21 q23 qs0 q11 q24) rfl rfl rfl (by decide +kernel) ⟨Nat.le_of_ble_eq_true rfl, Nat.le_of_ble_eq_true rfl⟩) ⟨fun a U g mk q => by obtain ⟨q0, q1, qP, qK, qD⟩ := q; exact ⟨q0, q1, qP, va_K.moved (u := U) (U := U.calling g mk a) (Vm.Alike.refl U.vm) qK, qD⟩, va_recv hKc hPc (ci := 0) (q0 := 0) rfl rfl, fun U hU hW => ⟨rfl, by rw [hU], by rw [hU]; exact hPc, va_K.moved hW.alike hKc, hDc.weaken (fun _ _ _ _ => trivial)⟩⟩ rfl rfl hl.1 rfl (lv_room (Nat.le_of_ble_eq_true rfl)) dX0_init_26 ⟨Nat.le_of_ble_eq_true rfl, Nat.le_of_ble_eq_true rfl⟩) hS (fun q _ h => hFc q h) hFc (fun a1 t H1 locs ht hvm hw hB hz1 hk1 hS => ?_)
  obtain ⟨hP1, hD1⟩ := hB
  rw [ht] at hP1
  obtain ⟨hP, hD⟩ := va_join (wr := []) (w1 := [(h0, .inr (0, [.int (nI 2), .int (nI 1), .ref tA, .int 0, .ref yA])), (tA, .inl (d0, 64, .inl a1)), (yA, .inl (d1, 64, .inl (fun _ => 0)))]) hP hD [0, 1, 2] [] rfl rfl (by decide) (by decide) hk1 hFc hP1 hD1
  generalize H1 = H at hP hS ⊢
  have hP : va_P (dC, dI) vwCl [(h0, .inr (0, [.int (nI 2), .int (nI 1), .ref tA, .int 0, .ref yA])), (tA, .inl (d0, 64, .inl a1)), (yA, .inl (d1, 64, .inl (fun _ => 0)))] H := hP
  have hD : va_D A [(h0, .inr (0, [.int (nI 2), .int (nI 1), .ref tA, .int 0, .ref yA])), (tA, .inl (d0, 64, .inl a1)), (yA, .inl (d1, 64, .inl (fun _ => 0)))] := hD
  refine W.widen (k := 2) (n := 128) (Nat.le_of_ble_eq_true rfl) (Nat.le_of_ble_eq_true rfl) ?_
  exact W.vret hx hb hr (fun t ht hW => ⟨⟨(tA, yA, d0, d1, a1), rfl, hw, by rw [ht]; exact hP, va_K.moved hW.alike hK, hD⟩, hS.F ht⟩) hS.2.2 dX0_init_29

abbrev wsX1_init : List Cond := ws_ yX1_init cX1_init 1 none
abbrev rmX1_init : Room := ({ frames := 1, cells := 1, slots := 300, locals := 12 } : Room)
set_option maxHeartbeats 4000000 in
set_option maxRecDepth 100000 in
theorem metX1_init (l : Launch) (dC : Nat → ClassId) (dI : Nat → Nat → Nat) (sz : Nat) (g0 : Nat) : Met l yX1_init wsX1_init rmX1_init (va_Pc [.ref g0] (fun U => U.heap.size = sz ∧ va_P (dC, dI) vwCl [(g0, .inr (1, [.int 0, .null]))] U.heap ∧ va_K (dC, dI) vwCl [] U ∧ va_D (fun _ => True) [(g0, .inr (1, [.int 0, .null]))])) (va_Qv (fun (u : Nat × ClassId) => True) (fun (u : Nat × ClassId) t => va_P (dC, dI) vwCl [(g0, .inr (1, [.int (nI 2), .ref u.1])), (u.1, .inl (u.2, 300, .inl (fun _ => 0)))] t.heap ∧ va_K (dC, dI) vwCl [(u.2, .int)] t ∧ va_D (va_A [(g0, .inr (1, [.int 0, .null]))] sz) [(g0, .inr (1, [.int (nI 2), .ref u.1])), (u.1, .inl (u.2, 300, .inl (fun _ => 0)))]) (va_A [(g0, .inr (1, [.int 0, .null]))] sz)) 1 300 (va_A [(g0, .inr (1, [.int 0, .null]))] sz) := by
  refine Met.ofW (cc := cX1_init) (maxL := 1) (ret := none) (by decide) rfl ?_
  intro p e s m args below meth c s₁ B hml hv
  obtain ⟨rfl, hsz, hP, hK, hD0⟩ := hv
  have hx := B.exec
  have hb := B.bytes
  have hr := B.returns
  have hts := atoms_spec (ws := wsX1_init) B.pre
  have hts : ∀ w ∈ lw_all, w.before _ s = true := fun w h => hts w (List.mem_cons_of_mem _ h)
  have hown : s.vm.findClass RX1 = some m.cls := findClass_of_methodNamed B.named
  have hlocks := B.notSynchronized
  subst hsz
  have hin : meth.name = "<init>" := (name_of_methodNamed B.named B.method).1
  have hD := hD0.self (sz := s.heap.size)
  generalize hAe : va_A [(g0, .inr (1, [.int 0, .null]))] s.heap.size = A at hD ⊢
  have hA : ∀ q : Nat, s.heap.size ≤ q → A q := fun q h => by rw [← hAe]; exact Or.inr h
  have hS : va_S A s.heap s.heap [] := va_S.rf
  have hP : va_P (dC, dI) vwCl [(g0, .inr (1, [.int 0, .null]))] s.heap := hP
  have hl := lv_entry ([.ref g0]) (n := 1) (Nat.le_of_ble_eq_true rfl)
  rw [lg_entry_eq]
  generalize (lg_sl ([.ref g0]) ++ List.replicate (1 - (lg_sl ([.ref g0])).length) Slot.unset).toArray = ls at hl ⊢
  have hl : lv_has ls 1 [(0, .ref g0)] := hl
  refine lv_aload_n hx hb dX1_init_0 rfl (lv_at hl 0 rfl) ?_
  refine W.objInit hx hb hown (hts _ q100) (hts _ q19) (hts _ q20) rfl (by rw [hml]; exact hl.1) rfl dX1_init_1 (Nat.le_of_ble_eq_true rfl) (Nat.le_of_ble_eq_true rfl) ?_
  refine W.eq (g2 := F0 m 4 ls []) rfl ?_
  refine lv_aload_n hx hb dX1_init_4 rfl (lv_at hl 0 rfl) ?_
  refine lv_iconst (v := nI 2) hx hb dX1_init_5 (by decide +kernel) ?_
  refine va_put (D := (dC, dI)) (ci := 1) (v := .int (nI 2)) (ty := .int) (C := RX1) (T := TX1) (N := 2) hx hb hts in_X1 tyX1 tyX1_ok nmX1 hown hK hP hD hS 0 rfl rfl 0 (by decide) (hts _ q101) (fun _ h9 => h9) rfl (by decide +kernel) rfl rfl (Nat.le_of_ble_eq_true rfl) dX1_init_6 (fun H locs hP hD hS => ?_)
  have hP : va_P (dC, dI) vwCl [(g0, .inr (1, [.int (nI 2), .null]))] H := hP
  have hD : va_D A [(g0, .inr (1, [.int (nI 2), .null]))] := hD
  refine lv_aload_n hx hb dX1_init_9 rfl (lv_at hl 0 rfl) ?_
  refine lv_sipush (v := nI 300) hx hb dX1_init_10 (by decide +kernel) ?_
  refine va_newa (atype := .int) (ty := .int) (N' := 300) (a0 := (300, .inl (fun _ => 0))) hx hb (hts _ q45) rfl hK hP hD hS hA (fun cA => rfl) (by decide +kernel) (by decide +kernel) (by decide +kernel) (Nat.le_of_ble_eq_true rfl) (Nat.le_of_ble_eq_true rfl) dX1_init_13 (fun gt d2 H hK hP hD hS => ?_)
  have hK : va_K (dC, dI) vwCl [(d2, .int)] s := hK
  have hP : va_P (dC, dI) vwCl [(g0, .inr (1, [.int (nI 2), .null])), (gt, .inl (d2, 300, .inl (fun _ => 0)))] H := hP
  have hD : va_D A [(g0, .inr (1, [.int (nI 2), .null])), (gt, .inl (d2, 300, .inl (fun _ => 0)))] := hD
  refine va_putF (D := (dC, dI)) (ci := 1) (v := .ref gt) (ty := .array .int) (C := RX1) (T := TX1) (N := 2) hx hb hts in_X1 tyX1 tyX1_ok nmX1 hown hK hP hD hS 0 rfl rfl 1 (by decide) (hts _ q102) (fun _ h9 => h9) rfl hin rfl (by decide +kernel) rfl rfl (Nat.le_of_ble_eq_true rfl) dX1_init_15 (fun H locs hP hD hS => ?_)
  have hP : va_P (dC, dI) vwCl [(g0, .inr (1, [.int (nI 2), .ref gt])), (gt, .inl (d2, 300, .inl (fun _ => 0)))] H := hP
  have hD : va_D A [(g0, .inr (1, [.int (nI 2), .ref gt])), (gt, .inl (d2, 300, .inl (fun _ => 0)))] := hD
  refine W.widen (k := 1) (n := 300) (Nat.le_of_ble_eq_true rfl) (Nat.le_of_ble_eq_true rfl) ?_
  exact W.vret hx hb hr (fun t ht hW => ⟨⟨(gt, d2), rfl, trivial, by rw [ht]; exact hP, va_K.moved hW.alike hK, hD⟩, hS.F ht⟩) hS.2.2 dX1_init_18
end
section
-- ===== end of PART A; then your names; then what follows =====
/-! THE CLAIM OUT OF ONE WALK OF THE LAW'S BODY. Your part is whole_start (and what it stands on); all else here is the same for every law, but numbers. -/
def R_law : String := "SquareDeskLaw"
def lw_P (b : Addr) (xs : List Int32) (args : Array Value) (s : State) : Prop := args = #[.ref b] ∧ s.IntsAt b xs ∧ xs.length ≤ 192 ∧ (Jvm.Cond.and given_1 narrow_1).before args s = true
def lw_Q (_ : Array Value) (s : State) (o : Outcome) (t : State) : Prop := o = .returned (some (.int 1)) ∧ Framed s o t [] 600000 7290000
def lw_Z (below : List Frame) (a : Array Value) (s : State) : State → Prop := fun t => ∃ o, t.status = .running ∧ Ended t below o ∧ lw_Q a s o t
/-- the law's own end, with 1 on the stack, nothing written that was there before, its room as the claim has it -/
theorem lw_ret {p : Program} {l : Launch} {e : Env} {s : State} {m : MethodId} {below : List Frame} {meth : Method} {c : Code} {b : Nat} (hx : p.tables.exec = Jvm.exec) (hb : c.code = code) (hr : meth.sig.returnType = ret) (hlocks : meth.locks = false) {pc : Nat} {H : Heap} {ls : Array Slot} (hdg : decode code pc = .ok (.ireturn, 1)) : W p l e room_1 s m #[Value.ref b] below meth c H [] 600000 7290000 (lw_Z below #[Value.ref b] s) (F0 m pc ls [.int 1]) := by
  intro T hT X
  obtain ⟨fs, hret, hrun, hended, hW, hframe⟩ := X.leave (v := some (.int 1)) (hlocks := hlocks) (fun h => by rw [hr] at h; cases h)
  have hmeth' : T.vm.method? m = some meth := X.method'
  refine ⟨T.setFrames fs, ?_, .returned (some (.int 1)), hrun, hended, rfl, ⟨_, rfl⟩, hW, hframe⟩
  jvm_step X.here [X.here.top, hx, hb, hdg, hmeth', hr, ret, narrow_b1]
  (try refine ⟨rfl, ?_⟩); (try refine ⟨rfl, ?_⟩)
  first | (intro acts; rw [hret _ acts rfl rfl rfl]) | rw [hret _ _ rfl rfl rfl]
  exact Steps.refl _
/-- what holds at the law's entry: the machine, the code, the tables' words (any of lw_tbl by 'hts w (by decide +kernel)'), the script of L ints xs at the cell b, what the Statement gives of the start (any of its parts by flat_of_before) -/
def lw_At (p : Program) (s : State) (m : MethodId) (meth : Method) (c : Code) (b L : Nat) (xs : Nat → Int32) : Prop :=
  p.tables.exec = Jvm.exec ∧ c.code = code ∧ meth.sig.returnType = ret ∧ c.maxLocals = 4 ∧ s.vm.findClass R_law = some m.cls ∧ (∀ w ∈ lw_tbl, w.before #[Value.ref b] s = true) ∧ va_X b L xs s s.heap ∧ b < s.heap.size ∧ meth.locks = false ∧ (Jvm.Cond.and given_1 narrow_1).before #[Value.ref b] s = true
end
section
set_option maxHeartbeats 8000000 in
set_option maxRecDepth 100000 in
/-- THE LAW, from its entry -/
theorem whole_start {p : Program} {e : Env} {s : State} {m : MethodId} {below : List Frame} {meth : Method} {c : Code} (l : Launch) {b L : Nat} {xs : Nat → Int32} (hL : L ≤ 192) (C0 : lw_At p s m meth c b L xs) : W p l e room_1 s m #[Value.ref b] below meth c s.heap [] 0 0 (lw_Z below #[Value.ref b] s) (entryFrame m ([Value.ref b] : List Value).toArray 4) := by
  obtain ⟨hx, hb, hr, hml, hown, hts0, hX, hbl, hlocks, hgv⟩ := id C0
  have hts : ∀ w ∈ lw_all, w.before #[Value.ref b] s = true := fun w h => hts0 w (lw_all_tbl h)
  obtain ⟨A, hAd⟩ : ∃ A : Nat → Prop, A = fun q : Nat => s.heap.size ≤ q := ⟨_, rfl⟩
  have hA : ∀ q : Nat, s.heap.size ≤ q → A q := fun q h => by rw [hAd]; exact h
  have hA2 : ∀ q : Nat, A q → s.heap.size ≤ q := fun q h => by rw [hAd] at h; exact h
  have hbA : ¬ A b := fun h => absurd (hA2 b h) (Nat.not_le.mpr hbl)
  obtain ⟨c0_, iS0, hKn0⟩ := u_known (C := RX0) (T := TX0) (N := 5) (n := 5) hts0 (fun w h => lw_all_tbl (in_X0 w h)) (hts _ q14)
  obtain ⟨c1_, iS1, hKn1⟩ := u_known (C := RX1) (T := TX1) (N := 2) (n := 2) hts0 (fun w h => lw_all_tbl (in_X1 w h)) (hts _ q96)
  obtain ⟨dC, dI, hKc⟩ : ∃ (dC : Nat → ClassId) (dI : Nat → Nat → Nat), ∀ (k : Nat) (q : vw_C), vwCl[k]? = some q → u_Kn s q.1 q.2.1 q.2.2 (dC k) (dI k) := by
    refine ⟨fun k => if k = 0 then c0_ else c1_, fun k => if k = 0 then iS0 else iS1, ?_⟩
    intro k q hq
    match k, hq with
    | 0, hq => cases hq; exact hKn0
    | 1, hq => cases hq; exact hKn1
    | k + 2, hq => simp [vwCl] at hq
  have hS : va_S A s.heap s.heap [] := va_S.rf
  have hK : va_K (dC, dI) vwCl [] s := ⟨hKc, fun k q h => by simp at h⟩
  have hP : va_P (dC, dI) vwCl [] s.heap := fun k q h => by simp at h
  have hD : va_D A [] := ⟨fun i j p q h => by simp at h, fun k q h => by simp at h⟩
  have hl := lv_entry ([.ref b]) (n := 4) (Nat.le_of_ble_eq_true rfl)
  rw [lg_entry_eq]
  generalize (lg_sl ([.ref b]) ++ List.replicate (4 - (lg_sl ([.ref b])).length) Slot.unset).toArray = ls at hl ⊢
  have hl : lv_has ls 4 [(0, .ref b)] := hl
  refine va_new (ci := 0) (fs := [.int 0, .int 0, .null, .int 0, .null]) (C := RX0) (T := TX0) (N := 5) hx hb hts in_X0 tyX0 tyX0_ok hown (hts _ q13) (hts _ q14) (hts _ q11) hK hP hD hS hA rfl (fun j hj => by rcases (show j = 0 ∨ j = 1 ∨ j = 2 ∨ j = 3 ∨ j = 4 by omega) with rfl | rfl | rfl | rfl | rfl <;> rfl) (Nat.le_of_ble_eq_true rfl) (Nat.le_of_ble_eq_true rfl) dL_law_0 (fun h0 H hP hD hS => ?_)
  have hP : va_P (dC, dI) vwCl [(h0, .inr (0, [.int 0, .int 0, .null, .int 0, .null]))] H := hP
  have hD : va_D A [(h0, .inr (0, [.int 0, .int 0, .null, .int 0, .null]))] := hD
  refine lv_dup hx hb dL_law_3 rfl ?_
  have hPc := hP.sub (ws' := [(h0, .inr (0, [.int 0, .int 0, .null, .int 0, .null]))]) [0] rfl
  have hDc := hD.sub (ws' := [(h0, .inr (0, [.int 0, .int 0, .null, .int 0, .null]))]) [0] (by decide) rfl
  have hKc' := hK.sub (tys' := []) [] rfl
  have hFc := va_free (wc := [(h0, .inr (0, [.int 0, .int 0, .null, .int 0, .null]))]) hD hS hA [0] rfl
  refine va_callv (va_runI (As := []) (rest := [.ref h0]) ⟨hx, hb, hml, hown, hts⟩ (metX0_init l dC dI H.size h0) (cwI 0 hts (lw_meth q17) rfl rfl rfl (hts _ q11) (hts _ q15) (hts _ q16) rfl (by decide +kernel) ⟨Nat.le_of_ble_eq_true rfl, Nat.le_of_ble_eq_true rfl⟩) ⟨fun a U g mk q => by obtain ⟨q0, q1, qP, qK, qD⟩ := q; exact ⟨q0, q1, qP, va_K.moved (u := U) (U := U.calling g mk a) (Vm.Alike.refl U.vm) qK, qD⟩, fun U hU hW => ⟨rfl, by rw [hU], by rw [hU]; exact hPc, va_K.moved hW.alike hKc', hDc.weaken (fun _ _ _ _ => trivial)⟩⟩ rfl rfl hl.1 rfl (lv_room (Nat.le_of_ble_eq_true rfl)) dL_law_4 ⟨Nat.le_of_ble_eq_true rfl, Nat.le_of_ble_eq_true rfl⟩) hS (fun q _ h => hFc q h) hFc (fun u t H1 locs ht hvm hw hB hz1 hk1 hS => ?_)
  obtain ⟨tA, yA, d0, d1, aT0⟩ := u
  obtain ⟨hP1, hK1, hD1⟩ := hB
  rw [ht] at hP1
  have hK1 := va_K.moved hvm.symm hK1
  obtain ⟨hP, hD⟩ := va_join (wr := []) (w1 := [(h0, .inr (0, [.int (nI 2), .int (nI 1), .ref tA, .int 0, .ref yA])), (tA, .inl (d0, 64, .inl aT0)), (yA, .inl (d1, 64, .inl (fun _ => 0)))]) hP hD [0] [] rfl rfl (by decide) (by decide) hk1 hFc hP1 hD1
  have hK := (hK.sub (tys' := []) [] rfl).app hK1
  generalize H1 = H at hP hS ⊢
  have hP : va_P (dC, dI) vwCl [(h0, .inr (0, [.int (nI 2), .int (nI 1), .ref tA, .int 0, .ref yA])), (tA, .inl (d0, 64, .inl aT0)), (yA, .inl (d1, 64, .inl (fun _ => 0)))] H := hP
  have hD : va_D A [(h0, .inr (0, [.int (nI 2), .int (nI 1), .ref tA, .int 0, .ref yA])), (tA, .inl (d0, 64, .inl aT0)), (yA, .inl (d1, 64, .inl (fun _ => 0)))] := hD
  have hK : va_K (dC, dI) vwCl [(d0, .int), (d1, .int)] s := hK
  refine W.widen (k := 3) (n := 133) (Nat.le_of_ble_eq_true rfl) (Nat.le_of_ble_eq_true rfl) ?_
  have hrow0 : ∀ i, i ≤ 1 → aT0 i = nI (sq_t 1 2 i) := hw
  refine lv_astore_n (lv' := [(1, .ref h0), (0, .ref b)]) hx hb dL_law_7 rfl hl (by decide) rfl (fun ls hl => ?_)
  refine va_new (ci := 1) (fs := [.int 0, .null]) (C := RX1) (T := TX1) (N := 2) hx hb hts in_X1 tyX1 tyX1_ok hown (hts _ q95) (hts _ q96) (hts _ q12) hK hP hD hS hA rfl (fun j hj => by rcases (show j = 0 ∨ j = 1 by omega) with rfl | rfl <;> rfl) (Nat.le_of_ble_eq_true rfl) (Nat.le_of_ble_eq_true rfl) dL_law_8 (fun g0 H hP hD hS => ?_)
  have hP : va_P (dC, dI) vwCl [(h0, .inr (0, [.int (nI 2), .int (nI 1), .ref tA, .int 0, .ref yA])), (tA, .inl (d0, 64, .inl aT0)), (yA, .inl (d1, 64, .inl (fun _ => 0))), (g0, .inr (1, [.int 0, .null]))] H := hP
  have hD : va_D A [(h0, .inr (0, [.int (nI 2), .int (nI 1), .ref tA, .int 0, .ref yA])), (tA, .inl (d0, 64, .inl aT0)), (yA, .inl (d1, 64, .inl (fun _ => 0))), (g0, .inr (1, [.int 0, .null]))] := hD
  refine lv_dup hx hb dL_law_11 rfl ?_
  have hPc := hP.sub (ws' := [(g0, .inr (1, [.int 0, .null]))]) [3] rfl
  have hDc := hD.sub (ws' := [(g0, .inr (1, [.int 0, .null]))]) [3] (by decide) rfl
  have hKc' := hK.sub (tys' := []) [] rfl
  have hFc := va_free (wc := [(g0, .inr (1, [.int 0, .null]))]) hD hS hA [3] rfl
  refine va_callv (va_runI (As := []) (rest := [.ref g0]) ⟨hx, hb, hml, hown, hts⟩ (metX1_init l dC dI H.size g0) (cwI 0 hts (lw_meth q99) rfl rfl rfl (hts _ q12) (hts _ q97) (hts _ q98) rfl (by decide +kernel) ⟨Nat.le_of_ble_eq_true rfl, Nat.le_of_ble_eq_true rfl⟩) ⟨fun a U g mk q => by obtain ⟨q0, q1, qP, qK, qD⟩ := q; exact ⟨q0, q1, qP, va_K.moved (u := U) (U := U.calling g mk a) (Vm.Alike.refl U.vm) qK, qD⟩, fun U hU hW => ⟨rfl, by rw [hU], by rw [hU]; exact hPc, va_K.moved hW.alike hKc', hDc.weaken (fun _ _ _ _ => trivial)⟩⟩ rfl rfl hl.1 rfl (lv_room (Nat.le_of_ble_eq_true rfl)) dL_law_12 ⟨Nat.le_of_ble_eq_true rfl, Nat.le_of_ble_eq_true rfl⟩) hS (fun q _ h => hFc q h) hFc (fun u t H1 locs ht hvm hw hB hz1 hk1 hS => ?_)
  obtain ⟨gt, d2⟩ := u
  obtain ⟨hP1, hK1, hD1⟩ := hB
  rw [ht] at hP1
  have hK1 := va_K.moved hvm.symm hK1
  obtain ⟨hP, hD⟩ := va_join (wr := [(h0, .inr (0, [.int (nI 2), .int (nI 1), .ref tA, .int 0, .ref yA])), (tA, .inl (d0, 64, .inl aT0)), (yA, .inl (d1, 64, .inl (fun _ => 0)))]) (w1 := [(g0, .inr (1, [.int (nI 2), .ref gt])), (gt, .inl (d2, 300, .inl (fun _ => 0)))]) hP hD [3] [0, 1, 2] rfl rfl (by decide) (by decide) hk1 hFc hP1 hD1
  have hK := (hK.sub (tys' := [(d0, .int), (d1, .int)]) [0, 1] rfl).app hK1
  generalize H1 = H at hP hS ⊢
  have hP : va_P (dC, dI) vwCl [(h0, .inr (0, [.int (nI 2), .int (nI 1), .ref tA, .int 0, .ref yA])), (tA, .inl (d0, 64, .inl aT0)), (yA, .inl (d1, 64, .inl (fun _ => 0))), (g0, .inr (1, [.int (nI 2), .ref gt])), (gt, .inl (d2, 300, .inl (fun _ => 0)))] H := hP
  have hD : va_D A [(h0, .inr (0, [.int (nI 2), .int (nI 1), .ref tA, .int 0, .ref yA])), (tA, .inl (d0, 64, .inl aT0)), (yA, .inl (d1, 64, .inl (fun _ => 0))), (g0, .inr (1, [.int (nI 2), .ref gt])), (gt, .inl (d2, 300, .inl (fun _ => 0)))] := hD
  have hK : va_K (dC, dI) vwCl [(d0, .int), (d1, .int), (d2, .int)] s := hK
  refine W.widen (k := 5) (n := 435) (Nat.le_of_ble_eq_true rfl) (Nat.le_of_ble_eq_true rfl) ?_
  have loop : ∀ (k : Nat) (i : Nat) (n : Nat) (r : Nat) (P : Nat) (fv : Int32) (aT : Nat → Int32) (aY : Nat → Int32) (bT : Nat → Int32) (H : Heap) (locs : List Loc), (L - i < k) → (i ≤ L) → (sq_OK r n P) → (∀ i, i ≤ P → aT i = nI (sq_t r n i)) → va_P (dC, dI) vwCl [(h0, .inr (0, [.int (nI n), .int (nI P), .ref tA, .int fv, .ref yA])), (tA, .inl (d0, 64, .inl aT)), (yA, .inl (d1, 64, .inl aY)), (g0, .inr (1, [.int (nI n), .ref gt])), (gt, .inl (d2, 300, .inl bT))] H → va_D A [(h0, .inr (0, [.int (nI n), .int (nI P), .ref tA, .int fv, .ref yA])), (tA, .inl (d0, 64, .inl aT)), (yA, .inl (d1, 64, .inl aY)), (g0, .inr (1, [.int (nI n), .ref gt])), (gt, .inl (d2, 300, .inl bT))] → va_S A s.heap H locs → ∀ (ls : Array Slot), lv_has ls 4 [(0, .ref b), (1, .ref h0), (2, .ref g0), (3, .int (nI i))] → W p l e room_1 s m #[Value.ref b] below meth c H locs 5 435 (lw_Z below #[Value.ref b] s) (F0 m 18 ls []) := by
    intro k
    induction k with
    | zero =>
      intro i n r P fv aT aY bT H locs hk
      exact absurd hk (Nat.not_lt_zero _)
    | succ k ih =>
      intro i n r P fv aT aY bT H locs hk hi hOK hrow hP hD hS ls hl
      obtain ⟨hA0, K, cc, hB0, hC0⟩ := id hOK
      refine lv_iload_n hx hb dL_law_18 rfl (lv_at hl 3 rfl) ?_
      refine lv_aload_n hx hb dL_law_19 rfl (lv_at hl 0 rfl) ?_
      refine va_slen hx hb hX hbl hbA hS dL_law_20 ?_
      refine sx_i (y := nI L) (rfl) ?_
      refine lv_iconst (v := nI 3) hx hb dL_law_21 (by decide +kernel) ?_
      refine lv_isub hx hb dL_law_22 ?_
      refine sx_i (y := iI ((L : Int) - 3)) (by rw [← iI_nat, ← iI_nat]; exact (Int32.ofInt_sub _ _).symm) ?_
      refine lv_icmp_gt (tgt := 273) hx hb dL_law_23 (by decide) (fun c23 => ?_) (fun c23 => ?_)
      · refine lv_iconst (v := nI 1) hx hb dL_law_273 (by decide +kernel) ?_
        refine sx_i (y := 1) rfl ?_
        refine va_forget (fun q hq => hA2 _ (hS.2.2 q hq)) ?_
        refine W.widen (k := 600000) (n := 7290000) (Nat.le_of_ble_eq_true rfl) (Nat.le_of_ble_eq_true rfl) ?_
        exact lw_ret hx hb hr hlocks dL_law_274
      · have hi3 : i + 3 ≤ L := by
          have h := sx_nltI c23
          rw [nI_toInt (by omega), iI_toInt (by omega) (by omega)] at h
          omega
        obtain ⟨sw, hsw1, hsw⟩ := pk_andE (xs i) (m := nI 7) 3 (by decide)
        refine lv_aload_n hx hb dL_law_26 rfl (lv_at hl 0 rfl) ?_
        refine lv_iload_n hx hb dL_law_27 rfl (lv_at hl 3 rfl) ?_
        refine va_sld hx hb hX hbl hbA hS (vp_in_nI (show i < L by omega) (by omega)) dL_law_28 ?_
        refine sx_i (y := xs i) (by rw [sx_clamp (show i < 2147483648 by omega)]) ?_
        refine lv_bipush (v := nI 7) hx hb dL_law_29 (by decide +kernel) ?_
        refine lv_iand hx hb dL_law_31 ?_
        refine sx_i (y := nI sw) (hsw) ?_
        rcases (show sw = 0 ∨ sw = 1 ∨ sw = 2 ∨ sw = 3 ∨ sw = 4 ∨ sw = 5 ∨ sw = 6 ∨ sw = 7 by omega) with rfl | rfl | rfl | rfl | rfl | rfl | rfl | rfl
        · refine lv_tableIn (off := 44) (tgt := 76) hx hb dL_law_32 (by decide) (by decide) (by decide) (by decide) ?_
          refine lv_aload_n hx hb dL_law_76 rfl (lv_at hl 1 rfl) ?_
          refine lv_aload_n hx hb dL_law_77 rfl (lv_at hl 0 rfl) ?_
          refine lv_iload_n hx hb dL_law_78 rfl (lv_at hl 3 rfl) ?_
          refine lv_iconst (v := nI 1) hx hb dL_law_79 (by decide +kernel) ?_
          refine lv_iadd hx hb dL_law_80 ?_
          refine sx_i (y := nI (i + 1)) (nI_add _ _) ?_
          refine va_sld hx hb hX hbl hbA hS (vp_in_nI (show i + 1 < L by omega) (by omega)) dL_law_81 ?_
          refine sx_i (y := xs (i + 1)) (by rw [sx_clamp (show i + 1 < 2147483648 by omega)]) ?_
          have hPc := hP.sub (ws' := [(h0, .inr (0, [.int (nI n), .int (nI P), .ref tA, .int fv, .ref yA])), (tA, .inl (d0, 64, .inl aT)), (yA, .inl (d1, 64, .inl aY))]) [0, 1, 2] rfl
          have hKc := hK.sub (tys' := [(d0, .int), (d1, .int)]) [0, 1] rfl
          have hDc := hD.sub (ws' := [(h0, .inr (0, [.int (nI n), .int (nI P), .ref tA, .int fv, .ref yA])), (tA, .inl (d0, 64, .inl aT)), (yA, .inl (d1, 64, .inl aY))]) [0, 1, 2] (by decide) rfl
          have hFc := va_free (wc := [(h0, .inr (0, [.int (nI n), .int (nI P), .ref tA, .int fv, .ref yA])), (tA, .inl (d0, 64, .inl aT)), (yA, .inl (d1, 64, .inl aY))]) hD hS hA [0, 1, 2] rfl
          refine va_calli (va_runV (As := [.int (xs (i + 1))]) (rest := []) ⟨hx, hb, hml, hown, hts⟩ (metX0_set l dC dI H.size h0 tA yA d0 d1 aT aY n fv r P hOK hrow (xs (i + 1))) (cwV 1 hts (lw_V q46 q47 q48 q11 q49) rfl rfl rfl (by decide +kernel) ⟨Nat.le_of_ble_eq_true rfl, Nat.le_of_ble_eq_true rfl⟩) ⟨fun a U g mk q => by obtain ⟨q0, q1, qP, qK, qD⟩ := q; exact ⟨q0, q1, qP, va_K.moved (u := U) (U := U.calling g mk a) (Vm.Alike.refl U.vm) qK, qD⟩, va_recv hKc hPc (ci := 0) (q0 := 0) rfl rfl, fun U hU hW => ⟨rfl, by rw [hU], by rw [hU]; exact hPc, va_K.moved hW.alike hKc, hDc.weaken (fun _ _ _ _ => trivial)⟩⟩ rfl rfl hl.1 rfl (lv_room (Nat.le_of_ble_eq_true rfl)) dL_law_82 ⟨Nat.le_of_ble_eq_true rfl, Nat.le_of_ble_eq_true rfl⟩) hS (fun q _ h => hFc q h) hFc (fun ra u t H1 locs ht hvm hw1 hB hz1 hk1 hS => ?_)
          obtain ⟨n1, r1, P1, aT1⟩ := u
          obtain ⟨hP1, hD1⟩ := hB
          rw [ht] at hP1
          obtain ⟨hP, hD⟩ := va_join (wr := [(g0, .inr (1, [.int (nI n), .ref gt])), (gt, .inl (d2, 300, .inl bT))]) (w1 := [(h0, .inr (0, [.int (nI n1), .int (nI P1), .ref tA, .int fv, .ref yA])), (tA, .inl (d0, 64, .inl aT1)), (yA, .inl (d1, 64, .inl aY))]) hP hD [0, 1, 2] [3, 4] rfl rfl (by decide) (by decide) hk1 hFc hP1 hD1
          generalize H1 = H at hP hS ⊢
          have hP := hP.sub (ws' := [(h0, .inr (0, [.int (nI n1), .int (nI P1), .ref tA, .int fv, .ref yA])), (tA, .inl (d0, 64, .inl aT1)), (yA, .inl (d1, 64, .inl aY)), (g0, .inr (1, [.int (nI n), .ref gt])), (gt, .inl (d2, 300, .inl bT))]) [2, 3, 4, 0, 1] rfl
          have hD := hD.sub (ws' := [(h0, .inr (0, [.int (nI n1), .int (nI P1), .ref tA, .int fv, .ref yA])), (tA, .inl (d0, 64, .inl aT1)), (yA, .inl (d1, 64, .inl aY)), (g0, .inr (1, [.int (nI n), .ref gt])), (gt, .inl (d2, 300, .inl bT))]) [2, 3, 4, 0, 1] (by decide) rfl
          have hP : va_P (dC, dI) vwCl [(h0, .inr (0, [.int (nI n1), .int (nI P1), .ref tA, .int fv, .ref yA])), (tA, .inl (d0, 64, .inl aT1)), (yA, .inl (d1, 64, .inl aY)), (g0, .inr (1, [.int (nI n), .ref gt])), (gt, .inl (d2, 300, .inl bT))] H := hP
          have hD : va_D A [(h0, .inr (0, [.int (nI n1), .int (nI P1), .ref tA, .int fv, .ref yA])), (tA, .inl (d0, 64, .inl aT1)), (yA, .inl (d1, 64, .inl aY)), (g0, .inr (1, [.int (nI n), .ref gt])), (gt, .inl (d2, 300, .inl bT))] := hD
          refine lv_aload_n hx hb dL_law_85 rfl (lv_at hl 2 rfl) ?_
          refine lv_aload_n hx hb dL_law_86 rfl (lv_at hl 0 rfl) ?_
          refine lv_iload_n hx hb dL_law_87 rfl (lv_at hl 3 rfl) ?_
          refine lv_iconst (v := nI 1) hx hb dL_law_88 (by decide +kernel) ?_
          refine lv_iadd hx hb dL_law_89 ?_
          refine sx_i (y := nI (i + 1)) (nI_add _ _) ?_
          refine va_sld hx hb hX hbl hbA hS (vp_in_nI (show i + 1 < L by omega) (by omega)) dL_law_90 ?_
          refine sx_i (y := xs (i + 1)) (by rw [sx_clamp (show i + 1 < 2147483648 by omega)]) ?_
          have hPc := hP.sub (ws' := [(g0, .inr (1, [.int (nI n), .ref gt])), (gt, .inl (d2, 300, .inl bT))]) [3, 4] rfl
          have hKc := hK.sub (tys' := [(d2, .int)]) [2] rfl
          have hDc := hD.sub (ws' := [(g0, .inr (1, [.int (nI n), .ref gt])), (gt, .inl (d2, 300, .inl bT))]) [3, 4] (by decide) rfl
          have hFc := va_free (wc := [(g0, .inr (1, [.int (nI n), .ref gt])), (gt, .inl (d2, 300, .inl bT))]) hD hS hA [3, 4] rfl
          refine va_calli (va_runV (As := [.int (xs (i + 1))]) (rest := [.int ra]) ⟨hx, hb, hml, hown, hts⟩ (metX1_set l dC dI H.size g0 gt d2 bT n (xs (i + 1))) (cwV 1 hts (lw_V q108 q109 q110 q12 q111) rfl rfl rfl (by decide +kernel) ⟨Nat.le_of_ble_eq_true rfl, Nat.le_of_ble_eq_true rfl⟩) ⟨fun a U g mk q => by obtain ⟨q0, q1, qP, qK, qD⟩ := q; exact ⟨q0, q1, qP, va_K.moved (u := U) (U := U.calling g mk a) (Vm.Alike.refl U.vm) qK, qD⟩, va_recv hKc hPc (ci := 1) (q0 := 0) rfl rfl, fun U hU hW => ⟨rfl, by rw [hU], by rw [hU]; exact hPc, va_K.moved hW.alike hKc, hDc.weaken (fun _ _ _ _ => trivial)⟩⟩ rfl rfl hl.1 rfl (lv_room (Nat.le_of_ble_eq_true rfl)) dL_law_91 ⟨Nat.le_of_ble_eq_true rfl, Nat.le_of_ble_eq_true rfl⟩) hS (fun q _ h => hFc q h) hFc (fun rb n2 t H1 locs ht hvm hw2 hB hz1 hk1 hS => ?_)
          obtain ⟨hP1, hD1⟩ := hB
          rw [ht] at hP1
          obtain ⟨hP, hD⟩ := va_join (wr := [(h0, .inr (0, [.int (nI n1), .int (nI P1), .ref tA, .int fv, .ref yA])), (tA, .inl (d0, 64, .inl aT1)), (yA, .inl (d1, 64, .inl aY))]) (w1 := [(g0, .inr (1, [.int (nI n2), .ref gt])), (gt, .inl (d2, 300, .inl bT))]) hP hD [3, 4] [0, 1, 2] rfl rfl (by decide) (by decide) hk1 hFc hP1 hD1
          generalize H1 = H at hP hS ⊢
          have hP := hP.sub (ws' := [(h0, .inr (0, [.int (nI n1), .int (nI P1), .ref tA, .int fv, .ref yA])), (tA, .inl (d0, 64, .inl aT1)), (yA, .inl (d1, 64, .inl aY)), (g0, .inr (1, [.int (nI n2), .ref gt])), (gt, .inl (d2, 300, .inl bT))]) [0, 1, 2, 3, 4] rfl
          have hD := hD.sub (ws' := [(h0, .inr (0, [.int (nI n1), .int (nI P1), .ref tA, .int fv, .ref yA])), (tA, .inl (d0, 64, .inl aT1)), (yA, .inl (d1, 64, .inl aY)), (g0, .inr (1, [.int (nI n2), .ref gt])), (gt, .inl (d2, 300, .inl bT))]) [0, 1, 2, 3, 4] (by decide) rfl
          have hP : va_P (dC, dI) vwCl [(h0, .inr (0, [.int (nI n1), .int (nI P1), .ref tA, .int fv, .ref yA])), (tA, .inl (d0, 64, .inl aT1)), (yA, .inl (d1, 64, .inl aY)), (g0, .inr (1, [.int (nI n2), .ref gt])), (gt, .inl (d2, 300, .inl bT))] H := hP
          have hD : va_D A [(h0, .inr (0, [.int (nI n1), .int (nI P1), .ref tA, .int fv, .ref yA])), (tA, .inl (d0, 64, .inl aT1)), (yA, .inl (d1, 64, .inl aY)), (g0, .inr (1, [.int (nI n2), .ref gt])), (gt, .inl (d2, 300, .inl bT))] := hD
          obtain ⟨hwa, hwb, hwc⟩ := hw1
          obtain ⟨hu1, hu2⟩ := sp_set_u hwa hw2
          refine lv_icmp_eq (tgt := 267) hx hb dL_law_94 (by decide) (fun c94 => ?_) (fun c94 => False.elim (c94 hu1))
          have hu2 : n1 = n2 := hu2
          rw [← hu2] at hP hD
          refine lv_iinc (v := nI (i + 3)) (lv' := [(3, .int (nI (i + 3))), (0, .ref b), (1, .ref h0), (2, .ref g0)]) hx hb dL_law_267 hl (k := 3) rfl (sx_inc3 _) (by decide) rfl (fun ls hl => ?_)
          refine lv_goto (tgt := 18) hx hb dL_law_270 (by decide) ?_
          exact ih (i + 3) n1 r1 P1 fv aT1 aY bT _ _ (by omega) (by omega) (hwb) (hwc) hP hD hS ls (lv_sub hl [1, 2, 3, 0] rfl)
        · refine lv_tableIn (off := 67) (tgt := 99) hx hb dL_law_32 (by decide) (by decide) (by decide) (by decide) ?_
          refine lv_aload_n hx hb dL_law_99 rfl (lv_at hl 1 rfl) ?_
          refine lv_aload_n hx hb dL_law_100 rfl (lv_at hl 0 rfl) ?_
          refine lv_iload_n hx hb dL_law_101 rfl (lv_at hl 3 rfl) ?_
          refine lv_iconst (v := nI 1) hx hb dL_law_102 (by decide +kernel) ?_
          refine lv_iadd hx hb dL_law_103 ?_
          refine sx_i (y := nI (i + 1)) (nI_add _ _) ?_
          refine va_sld hx hb hX hbl hbA hS (vp_in_nI (show i + 1 < L by omega) (by omega)) dL_law_104 ?_
          refine sx_i (y := xs (i + 1)) (by rw [sx_clamp (show i + 1 < 2147483648 by omega)]) ?_
          have hPc := hP.sub (ws' := [(h0, .inr (0, [.int (nI n), .int (nI P), .ref tA, .int fv, .ref yA])), (tA, .inl (d0, 64, .inl aT)), (yA, .inl (d1, 64, .inl aY))]) [0, 1, 2] rfl
          have hKc := hK.sub (tys' := [(d0, .int), (d1, .int)]) [0, 1] rfl
          have hFc := sx_fr hA hS
          refine va_calli (va_runV (As := [.int (xs (i + 1))]) (rest := []) ⟨hx, hb, hml, hown, hts⟩ (metX0_term l dC dI H.size h0 tA yA d0 d1 aT aY n fv r P hA0 hrow (xs (i + 1))) (cwV 1 hts (lw_V q50 q51 q52 q11 q53) rfl rfl rfl (by decide +kernel) ⟨Nat.le_of_ble_eq_true rfl, Nat.le_of_ble_eq_true rfl⟩) ⟨fun a U g mk q => by obtain ⟨q0, q1, qP, qK⟩ := q; exact ⟨q0, q1, qP, va_K.moved (u := U) (U := U.calling g mk a) (Vm.Alike.refl U.vm) qK⟩, va_recv hKc hPc (ci := 0) (q0 := 0) rfl rfl, fun U hU hW => ⟨rfl, by rw [hU], by rw [hU]; exact hPc, va_K.moved hW.alike hKc⟩⟩ rfl rfl hl.1 rfl (lv_room (Nat.le_of_ble_eq_true rfl)) dL_law_105 ⟨Nat.le_of_ble_eq_true rfl, Nat.le_of_ble_eq_true rfl⟩) hS (fun q _ h => hFc q h) hFc (fun ra u t H1 locs ht hvm hw1 hB hz1 hk1 hS => ?_)
          have hP := sx_keep hP hk1
          generalize H1 = H at hP hS ⊢
          refine lv_aload_n hx hb dL_law_108 rfl (lv_at hl 2 rfl) ?_
          refine lv_aload_n hx hb dL_law_109 rfl (lv_at hl 0 rfl) ?_
          refine lv_iload_n hx hb dL_law_110 rfl (lv_at hl 3 rfl) ?_
          refine lv_iconst (v := nI 1) hx hb dL_law_111 (by decide +kernel) ?_
          refine lv_iadd hx hb dL_law_112 ?_
          refine sx_i (y := nI (i + 1)) (nI_add _ _) ?_
          refine va_sld hx hb hX hbl hbA hS (vp_in_nI (show i + 1 < L by omega) (by omega)) dL_law_113 ?_
          refine sx_i (y := xs (i + 1)) (by rw [sx_clamp (show i + 1 < 2147483648 by omega)]) ?_
          have hPc := hP.sub (ws' := [(g0, .inr (1, [.int (nI n), .ref gt])), (gt, .inl (d2, 300, .inl bT))]) [3, 4] rfl
          have hKc := hK.sub (tys' := [(d2, .int)]) [2] rfl
          have hDc := hD.sub (ws' := [(g0, .inr (1, [.int (nI n), .ref gt])), (gt, .inl (d2, 300, .inl bT))]) [3, 4] (by decide) rfl
          have hFc := va_free (wc := [(g0, .inr (1, [.int (nI n), .ref gt])), (gt, .inl (d2, 300, .inl bT))]) hD hS hA [3, 4] rfl
          refine va_calli (va_runV (As := [.int (xs (i + 1))]) (rest := [.int ra]) ⟨hx, hb, hml, hown, hts⟩ (metX1_term l dC dI H.size g0 gt d2 bT n r P hA0 (xs (i + 1))) (cwV 1 hts (lw_V q119 q120 q121 q12 q122) rfl rfl rfl (by decide +kernel) ⟨Nat.le_of_ble_eq_true rfl, Nat.le_of_ble_eq_true rfl⟩) ⟨fun a U g mk q => by obtain ⟨q0, q1, qP, qK, qD⟩ := q; exact ⟨q0, q1, qP, va_K.moved (u := U) (U := U.calling g mk a) (Vm.Alike.refl U.vm) qK, qD⟩, va_recv hKc hPc (ci := 1) (q0 := 0) rfl rfl, fun U hU hW => ⟨rfl, by rw [hU], by rw [hU]; exact hPc, va_K.moved hW.alike hKc, hDc.weaken (fun _ _ _ _ => trivial)⟩⟩ rfl rfl hl.1 rfl (lv_room (Nat.le_of_ble_eq_true rfl)) dL_law_114 ⟨Nat.le_of_ble_eq_true rfl, Nat.le_of_ble_eq_true rfl⟩) hS (fun q _ h => hFc q h) hFc (fun rb b2 t H1 locs ht hvm hw2 hB hz1 hk1 hS => ?_)
          obtain ⟨hP1, hD1⟩ := hB
          rw [ht] at hP1
          obtain ⟨hP, hD⟩ := va_join (wr := [(h0, .inr (0, [.int (nI n), .int (nI P), .ref tA, .int fv, .ref yA])), (tA, .inl (d0, 64, .inl aT)), (yA, .inl (d1, 64, .inl aY))]) (w1 := [(g0, .inr (1, [.int (nI n), .ref gt])), (gt, .inl (d2, 300, .inl b2))]) hP hD [3, 4] [0, 1, 2] rfl rfl (by decide) (by decide) hk1 hFc hP1 hD1
          generalize H1 = H at hP hS ⊢
          have hP := hP.sub (ws' := [(h0, .inr (0, [.int (nI n), .int (nI P), .ref tA, .int fv, .ref yA])), (tA, .inl (d0, 64, .inl aT)), (yA, .inl (d1, 64, .inl aY)), (g0, .inr (1, [.int (nI n), .ref gt])), (gt, .inl (d2, 300, .inl b2))]) [0, 1, 2, 3, 4] rfl
          have hD := hD.sub (ws' := [(h0, .inr (0, [.int (nI n), .int (nI P), .ref tA, .int fv, .ref yA])), (tA, .inl (d0, 64, .inl aT)), (yA, .inl (d1, 64, .inl aY)), (g0, .inr (1, [.int (nI n), .ref gt])), (gt, .inl (d2, 300, .inl b2))]) [0, 1, 2, 3, 4] (by decide) rfl
          have hP : va_P (dC, dI) vwCl [(h0, .inr (0, [.int (nI n), .int (nI P), .ref tA, .int fv, .ref yA])), (tA, .inl (d0, 64, .inl aT)), (yA, .inl (d1, 64, .inl aY)), (g0, .inr (1, [.int (nI n), .ref gt])), (gt, .inl (d2, 300, .inl b2))] H := hP
          have hD : va_D A [(h0, .inr (0, [.int (nI n), .int (nI P), .ref tA, .int fv, .ref yA])), (tA, .inl (d0, 64, .inl aT)), (yA, .inl (d1, 64, .inl aY)), (g0, .inr (1, [.int (nI n), .ref gt])), (gt, .inl (d2, 300, .inl b2))] := hD
          refine lv_icmp_eq (tgt := 267) hx hb dL_law_117 (by decide) (fun c117 => ?_) (fun c117 => False.elim (c117 (sp_term_u hw1 hw2)))
          refine lv_iinc (v := nI (i + 3)) (lv' := [(3, .int (nI (i + 3))), (0, .ref b), (1, .ref h0), (2, .ref g0)]) hx hb dL_law_267 hl (k := 3) rfl (sx_inc3 _) (by decide) rfl (fun ls hl => ?_)
          refine lv_goto (tgt := 18) hx hb dL_law_270 (by decide) ?_
          exact ih (i + 3) n r P fv aT aY b2 _ _ (by omega) (by omega) (hOK) (hrow) hP hD hS ls (lv_sub hl [1, 2, 3, 0] rfl)
        · refine lv_tableIn (off := 90) (tgt := 122) hx hb dL_law_32 (by decide) (by decide) (by decide) (by decide) ?_
          refine lv_aload_n hx hb dL_law_122 rfl (lv_at hl 1 rfl) ?_
          have hPc := hP.sub (ws' := [(h0, .inr (0, [.int (nI n), .int (nI P), .ref tA, .int fv, .ref yA])), (tA, .inl (d0, 64, .inl aT)), (yA, .inl (d1, 64, .inl aY))]) [0, 1, 2] rfl
          have hKc := hK.sub (tys' := [(d0, .int), (d1, .int)]) [0, 1] rfl
          have hFc := sx_fr hA hS
          refine va_calli (va_runV (As := []) (rest := []) ⟨hx, hb, hml, hown, hts⟩ (metX0_period l dC dI H.size h0 tA yA d0 d1 aT aY n fv P) (cwV 0 hts (lw_V q58 q59 q60 q11 q61) rfl rfl rfl (by decide +kernel) ⟨Nat.le_of_ble_eq_true rfl, Nat.le_of_ble_eq_true rfl⟩) ⟨fun a U g mk q => by obtain ⟨q0, q1, qP, qK⟩ := q; exact ⟨q0, q1, qP, va_K.moved (u := U) (U := U.calling g mk a) (Vm.Alike.refl U.vm) qK⟩, va_recv hKc hPc (ci := 0) (q0 := 0) rfl rfl, fun U hU hW => ⟨rfl, by rw [hU], by rw [hU]; exact hPc, va_K.moved hW.alike hKc⟩⟩ rfl rfl hl.1 rfl (lv_room (Nat.le_of_ble_eq_true rfl)) dL_law_123 ⟨Nat.le_of_ble_eq_true rfl, Nat.le_of_ble_eq_true rfl⟩) hS (fun q _ h => hFc q h) hFc (fun ra u t H1 locs ht hvm hw1 hB hz1 hk1 hS => ?_)
          have hP := sx_keep hP hk1
          generalize H1 = H at hP hS ⊢
          refine lv_aload_n hx hb dL_law_126 rfl (lv_at hl 2 rfl) ?_
          have hPc := hP.sub (ws' := [(g0, .inr (1, [.int (nI n), .ref gt])), (gt, .inl (d2, 300, .inl bT))]) [3, 4] rfl
          have hKc := hK.sub (tys' := [(d2, .int)]) [2] rfl
          have hDc := hD.sub (ws' := [(g0, .inr (1, [.int (nI n), .ref gt])), (gt, .inl (d2, 300, .inl bT))]) [3, 4] (by decide) rfl
          have hFc := va_free (wc := [(g0, .inr (1, [.int (nI n), .ref gt])), (gt, .inl (d2, 300, .inl bT))]) hD hS hA [3, 4] rfl
          refine va_calli (va_runV (As := []) (rest := [.int ra]) ⟨hx, hb, hml, hown, hts⟩ (metX1_period l dC dI H.size g0 gt d2 bT n r P hA0) (cwV 0 hts (lw_V q127 q128 q129 q12 q130) rfl rfl rfl (by decide +kernel) ⟨Nat.le_of_ble_eq_true rfl, Nat.le_of_ble_eq_true rfl⟩) ⟨fun a U g mk q => by obtain ⟨q0, q1, qP, qK, qD⟩ := q; exact ⟨q0, q1, qP, va_K.moved (u := U) (U := U.calling g mk a) (Vm.Alike.refl U.vm) qK, qD⟩, va_recv hKc hPc (ci := 1) (q0 := 0) rfl rfl, fun U hU hW => ⟨rfl, by rw [hU], by rw [hU]; exact hPc, va_K.moved hW.alike hKc, hDc.weaken (fun _ _ _ _ => trivial)⟩⟩ rfl rfl hl.1 rfl (lv_room (Nat.le_of_ble_eq_true rfl)) dL_law_127 ⟨Nat.le_of_ble_eq_true rfl, Nat.le_of_ble_eq_true rfl⟩) hS (fun q _ h => hFc q h) hFc (fun rb b2 t H1 locs ht hvm hw2 hB hz1 hk1 hS => ?_)
          obtain ⟨hP1, hD1⟩ := hB
          rw [ht] at hP1
          obtain ⟨hP, hD⟩ := va_join (wr := [(h0, .inr (0, [.int (nI n), .int (nI P), .ref tA, .int fv, .ref yA])), (tA, .inl (d0, 64, .inl aT)), (yA, .inl (d1, 64, .inl aY))]) (w1 := [(g0, .inr (1, [.int (nI n), .ref gt])), (gt, .inl (d2, 300, .inl b2))]) hP hD [3, 4] [0, 1, 2] rfl rfl (by decide) (by decide) hk1 hFc hP1 hD1
          generalize H1 = H at hP hS ⊢
          have hP := hP.sub (ws' := [(h0, .inr (0, [.int (nI n), .int (nI P), .ref tA, .int fv, .ref yA])), (tA, .inl (d0, 64, .inl aT)), (yA, .inl (d1, 64, .inl aY)), (g0, .inr (1, [.int (nI n), .ref gt])), (gt, .inl (d2, 300, .inl b2))]) [0, 1, 2, 3, 4] rfl
          have hD := hD.sub (ws' := [(h0, .inr (0, [.int (nI n), .int (nI P), .ref tA, .int fv, .ref yA])), (tA, .inl (d0, 64, .inl aT)), (yA, .inl (d1, 64, .inl aY)), (g0, .inr (1, [.int (nI n), .ref gt])), (gt, .inl (d2, 300, .inl b2))]) [0, 1, 2, 3, 4] (by decide) rfl
          have hP : va_P (dC, dI) vwCl [(h0, .inr (0, [.int (nI n), .int (nI P), .ref tA, .int fv, .ref yA])), (tA, .inl (d0, 64, .inl aT)), (yA, .inl (d1, 64, .inl aY)), (g0, .inr (1, [.int (nI n), .ref gt])), (gt, .inl (d2, 300, .inl b2))] H := hP
          have hD : va_D A [(h0, .inr (0, [.int (nI n), .int (nI P), .ref tA, .int fv, .ref yA])), (tA, .inl (d0, 64, .inl aT)), (yA, .inl (d1, 64, .inl aY)), (g0, .inr (1, [.int (nI n), .ref gt])), (gt, .inl (d2, 300, .inl b2))] := hD
          refine lv_icmp_eq (tgt := 267) hx hb dL_law_130 (by decide) (fun c130 => ?_) (fun c130 => False.elim (c130 (hw1.trans hw2.symm)))
          refine lv_iinc (v := nI (i + 3)) (lv' := [(3, .int (nI (i + 3))), (0, .ref b), (1, .ref h0), (2, .ref g0)]) hx hb dL_law_267 hl (k := 3) rfl (sx_inc3 _) (by decide) rfl (fun ls hl => ?_)
          refine lv_goto (tgt := 18) hx hb dL_law_270 (by decide) ?_
          exact ih (i + 3) n r P fv aT aY b2 _ _ (by omega) (by omega) (hOK) (hrow) hP hD hS ls (lv_sub hl [1, 2, 3, 0] rfl)
        · refine lv_tableIn (off := 103) (tgt := 135) hx hb dL_law_32 (by decide) (by decide) (by decide) (by decide) ?_
          refine lv_aload_n hx hb dL_law_135 rfl (lv_at hl 1 rfl) ?_
          refine lv_aload_n hx hb dL_law_136 rfl (lv_at hl 0 rfl) ?_
          refine lv_iload_n hx hb dL_law_137 rfl (lv_at hl 3 rfl) ?_
          refine lv_iconst (v := nI 1) hx hb dL_law_138 (by decide +kernel) ?_
          refine lv_iadd hx hb dL_law_139 ?_
          refine sx_i (y := nI (i + 1)) (nI_add _ _) ?_
          refine va_sld hx hb hX hbl hbA hS (vp_in_nI (show i + 1 < L by omega) (by omega)) dL_law_140 ?_
          refine sx_i (y := xs (i + 1)) (by rw [sx_clamp (show i + 1 < 2147483648 by omega)]) ?_
          refine lv_aload_n hx hb dL_law_141 rfl (lv_at hl 0 rfl) ?_
          refine lv_iload_n hx hb dL_law_142 rfl (lv_at hl 3 rfl) ?_
          refine lv_iconst (v := nI 2) hx hb dL_law_143 (by decide +kernel) ?_
          refine lv_iadd hx hb dL_law_144 ?_
          refine sx_i (y := nI (i + 2)) (nI_add _ _) ?_
          refine va_sld hx hb hX hbl hbA hS (vp_in_nI (show i + 2 < L by omega) (by omega)) dL_law_145 ?_
          refine sx_i (y := xs (i + 2)) (by rw [sx_clamp (show i + 2 < 2147483648 by omega)]) ?_
          have hPc := hP.sub (ws' := [(h0, .inr (0, [.int (nI n), .int (nI P), .ref tA, .int fv, .ref yA])), (tA, .inl (d0, 64, .inl aT)), (yA, .inl (d1, 64, .inl aY))]) [0, 1, 2] rfl
          have hKc := hK.sub (tys' := [(d0, .int), (d1, .int)]) [0, 1] rfl
          have hDc := hD.sub (ws' := [(h0, .inr (0, [.int (nI n), .int (nI P), .ref tA, .int fv, .ref yA])), (tA, .inl (d0, 64, .inl aT)), (yA, .inl (d1, 64, .inl aY))]) [0, 1, 2] (by decide) rfl
          have hFc := va_free (wc := [(h0, .inr (0, [.int (nI n), .int (nI P), .ref tA, .int fv, .ref yA])), (tA, .inl (d0, 64, .inl aT)), (yA, .inl (d1, 64, .inl aY))]) hD hS hA [0, 1, 2] rfl
          refine va_calli (va_runV (As := [.int (xs (i + 1)), .int (xs (i + 2))]) (rest := []) ⟨hx, hb, hml, hown, hts⟩ (metX0_solutions l dC dI H.size h0 tA yA d0 d1 aT aY n fv r P K cc hA0 hB0 hC0 hrow (xs (i + 1)) (xs (i + 2))) (cwV 2 hts (lw_V q62 q63 q64 q11 q65) rfl rfl rfl (by decide +kernel) ⟨Nat.le_of_ble_eq_true rfl, Nat.le_of_ble_eq_true rfl⟩) ⟨fun a U g mk q => by obtain ⟨q0, q1, qP, qK, qD⟩ := q; exact ⟨q0, q1, qP, va_K.moved (u := U) (U := U.calling g mk a) (Vm.Alike.refl U.vm) qK, qD⟩, va_recv hKc hPc (ci := 0) (q0 := 0) rfl rfl, fun U hU hW => ⟨rfl, by rw [hU], by rw [hU]; exact hPc, va_K.moved hW.alike hKc, hDc.weaken (fun _ _ _ _ => trivial)⟩⟩ rfl rfl hl.1 rfl (lv_room (Nat.le_of_ble_eq_true rfl)) dL_law_146 ⟨Nat.le_of_ble_eq_true rfl, Nat.le_of_ble_eq_true rfl⟩) hS (fun q _ h => hFc q h) hFc (fun ra u t H1 locs ht hvm hw1 hB hz1 hk1 hS => ?_)
          obtain ⟨fv1, aY1⟩ := u
          obtain ⟨hP1, hD1⟩ := hB
          rw [ht] at hP1
          obtain ⟨hP, hD⟩ := va_join (wr := [(g0, .inr (1, [.int (nI n), .ref gt])), (gt, .inl (d2, 300, .inl bT))]) (w1 := [(h0, .inr (0, [.int (nI n), .int (nI P), .ref tA, .int fv1, .ref yA])), (tA, .inl (d0, 64, .inl aT)), (yA, .inl (d1, 64, .inl aY1))]) hP hD [0, 1, 2] [3, 4] rfl rfl (by decide) (by decide) hk1 hFc hP1 hD1
          generalize H1 = H at hP hS ⊢
          have hP := hP.sub (ws' := [(h0, .inr (0, [.int (nI n), .int (nI P), .ref tA, .int fv1, .ref yA])), (tA, .inl (d0, 64, .inl aT)), (yA, .inl (d1, 64, .inl aY1)), (g0, .inr (1, [.int (nI n), .ref gt])), (gt, .inl (d2, 300, .inl bT))]) [2, 3, 4, 0, 1] rfl
          have hD := hD.sub (ws' := [(h0, .inr (0, [.int (nI n), .int (nI P), .ref tA, .int fv1, .ref yA])), (tA, .inl (d0, 64, .inl aT)), (yA, .inl (d1, 64, .inl aY1)), (g0, .inr (1, [.int (nI n), .ref gt])), (gt, .inl (d2, 300, .inl bT))]) [2, 3, 4, 0, 1] (by decide) rfl
          have hP : va_P (dC, dI) vwCl [(h0, .inr (0, [.int (nI n), .int (nI P), .ref tA, .int fv1, .ref yA])), (tA, .inl (d0, 64, .inl aT)), (yA, .inl (d1, 64, .inl aY1)), (g0, .inr (1, [.int (nI n), .ref gt])), (gt, .inl (d2, 300, .inl bT))] H := hP
          have hD : va_D A [(h0, .inr (0, [.int (nI n), .int (nI P), .ref tA, .int fv1, .ref yA])), (tA, .inl (d0, 64, .inl aT)), (yA, .inl (d1, 64, .inl aY1)), (g0, .inr (1, [.int (nI n), .ref gt])), (gt, .inl (d2, 300, .inl bT))] := hD
          refine lv_aload_n hx hb dL_law_149 rfl (lv_at hl 2 rfl) ?_
          refine lv_aload_n hx hb dL_law_150 rfl (lv_at hl 0 rfl) ?_
          refine lv_iload_n hx hb dL_law_151 rfl (lv_at hl 3 rfl) ?_
          refine lv_iconst (v := nI 1) hx hb dL_law_152 (by decide +kernel) ?_
          refine lv_iadd hx hb dL_law_153 ?_
          refine sx_i (y := nI (i + 1)) (nI_add _ _) ?_
          refine va_sld hx hb hX hbl hbA hS (vp_in_nI (show i + 1 < L by omega) (by omega)) dL_law_154 ?_
          refine sx_i (y := xs (i + 1)) (by rw [sx_clamp (show i + 1 < 2147483648 by omega)]) ?_
          refine lv_aload_n hx hb dL_law_155 rfl (lv_at hl 0 rfl) ?_
          refine lv_iload_n hx hb dL_law_156 rfl (lv_at hl 3 rfl) ?_
          refine lv_iconst (v := nI 2) hx hb dL_law_157 (by decide +kernel) ?_
          refine lv_iadd hx hb dL_law_158 ?_
          refine sx_i (y := nI (i + 2)) (nI_add _ _) ?_
          refine va_sld hx hb hX hbl hbA hS (vp_in_nI (show i + 2 < L by omega) (by omega)) dL_law_159 ?_
          refine sx_i (y := xs (i + 2)) (by rw [sx_clamp (show i + 2 < 2147483648 by omega)]) ?_
          have hPc := hP.sub (ws' := [(g0, .inr (1, [.int (nI n), .ref gt])), (gt, .inl (d2, 300, .inl bT))]) [3, 4] rfl
          have hKc := hK.sub (tys' := [(d2, .int)]) [2] rfl
          have hFc := sx_fr hA hS
          refine va_calli (va_runV (As := [.int (xs (i + 1)), .int (xs (i + 2))]) (rest := [.int ra]) ⟨hx, hb, hml, hown, hts⟩ (metX1_solutions l dC dI H.size g0 gt d2 bT n (xs (i + 1)) (xs (i + 2)) hA0.1.2.1) (cwV 2 hts (lw_V q135 q136 q137 q12 q138) rfl rfl rfl (by decide +kernel) ⟨Nat.le_of_ble_eq_true rfl, Nat.le_of_ble_eq_true rfl⟩) ⟨fun a U g mk q => by obtain ⟨q0, q1, qP, qK⟩ := q; exact ⟨q0, q1, qP, va_K.moved (u := U) (U := U.calling g mk a) (Vm.Alike.refl U.vm) qK⟩, va_recv hKc hPc (ci := 1) (q0 := 0) rfl rfl, fun U hU hW => ⟨rfl, by rw [hU], by rw [hU]; exact hPc, va_K.moved hW.alike hKc⟩⟩ rfl rfl hl.1 rfl (lv_room (Nat.le_of_ble_eq_true rfl)) dL_law_160 ⟨Nat.le_of_ble_eq_true rfl, Nat.le_of_ble_eq_true rfl⟩) hS (fun q _ h => hFc q h) hFc (fun rb u t H1 locs ht hvm hw2 hB hz1 hk1 hS => ?_)
          have hP := sx_keep hP hk1
          generalize H1 = H at hP hS ⊢
          refine lv_icmp_eq (tgt := 267) hx hb dL_law_163 (by decide) (fun c163 => ?_) (fun c163 => False.elim (c163 (sp_4_u sp_Fc_u hw1 hw2)))
          refine lv_iinc (v := nI (i + 3)) (lv' := [(3, .int (nI (i + 3))), (0, .ref b), (1, .ref h0), (2, .ref g0)]) hx hb dL_law_267 hl (k := 3) rfl (sx_inc3 _) (by decide) rfl (fun ls hl => ?_)
          refine lv_goto (tgt := 18) hx hb dL_law_270 (by decide) ?_
          exact ih (i + 3) n r P fv1 aT aY1 bT _ _ (by omega) (by omega) (hOK) (hrow) hP hD hS ls (lv_sub hl [1, 2, 3, 0] rfl)
        · refine lv_tableIn (off := 136) (tgt := 168) hx hb dL_law_32 (by decide) (by decide) (by decide) (by decide) ?_
          refine lv_aload_n hx hb dL_law_168 rfl (lv_at hl 1 rfl) ?_
          refine lv_aload_n hx hb dL_law_169 rfl (lv_at hl 0 rfl) ?_
          refine lv_iload_n hx hb dL_law_170 rfl (lv_at hl 3 rfl) ?_
          refine lv_iconst (v := nI 1) hx hb dL_law_171 (by decide +kernel) ?_
          refine lv_iadd hx hb dL_law_172 ?_
          refine sx_i (y := nI (i + 1)) (nI_add _ _) ?_
          refine va_sld hx hb hX hbl hbA hS (vp_in_nI (show i + 1 < L by omega) (by omega)) dL_law_173 ?_
          refine sx_i (y := xs (i + 1)) (by rw [sx_clamp (show i + 1 < 2147483648 by omega)]) ?_
          refine lv_aload_n hx hb dL_law_174 rfl (lv_at hl 0 rfl) ?_
          refine lv_iload_n hx hb dL_law_175 rfl (lv_at hl 3 rfl) ?_
          refine lv_iconst (v := nI 2) hx hb dL_law_176 (by decide +kernel) ?_
          refine lv_iadd hx hb dL_law_177 ?_
          refine sx_i (y := nI (i + 2)) (nI_add _ _) ?_
          refine va_sld hx hb hX hbl hbA hS (vp_in_nI (show i + 2 < L by omega) (by omega)) dL_law_178 ?_
          refine sx_i (y := xs (i + 2)) (by rw [sx_clamp (show i + 2 < 2147483648 by omega)]) ?_
          have hPc := hP.sub (ws' := [(h0, .inr (0, [.int (nI n), .int (nI P), .ref tA, .int fv, .ref yA])), (tA, .inl (d0, 64, .inl aT)), (yA, .inl (d1, 64, .inl aY))]) [0, 1, 2] rfl
          have hKc := hK.sub (tys' := [(d0, .int), (d1, .int)]) [0, 1] rfl
          have hDc := hD.sub (ws' := [(h0, .inr (0, [.int (nI n), .int (nI P), .ref tA, .int fv, .ref yA])), (tA, .inl (d0, 64, .inl aT)), (yA, .inl (d1, 64, .inl aY))]) [0, 1, 2] (by decide) rfl
          have hFc := va_free (wc := [(h0, .inr (0, [.int (nI n), .int (nI P), .ref tA, .int fv, .ref yA])), (tA, .inl (d0, 64, .inl aT)), (yA, .inl (d1, 64, .inl aY))]) hD hS hA [0, 1, 2] rfl
          refine va_calli (va_runV (As := [.int (xs (i + 1)), .int (xs (i + 2))]) (rest := []) ⟨hx, hb, hml, hown, hts⟩ (metX0_next l dC dI H.size h0 tA yA d0 d1 aT aY n fv r P K cc hA0 hB0 hC0 hrow (xs (i + 1)) (xs (i + 2))) (cwV 2 hts (lw_V q83 q84 q85 q11 q86) rfl rfl rfl (by decide +kernel) ⟨Nat.le_of_ble_eq_true rfl, Nat.le_of_ble_eq_true rfl⟩) ⟨fun a U g mk q => by obtain ⟨q0, q1, qP, qK, qD⟩ := q; exact ⟨q0, q1, qP, va_K.moved (u := U) (U := U.calling g mk a) (Vm.Alike.refl U.vm) qK, qD⟩, va_recv hKc hPc (ci := 0) (q0 := 0) rfl rfl, fun U hU hW => ⟨rfl, by rw [hU], by rw [hU]; exact hPc, va_K.moved hW.alike hKc, hDc.weaken (fun _ _ _ _ => trivial)⟩⟩ rfl rfl hl.1 rfl (lv_room (Nat.le_of_ble_eq_true rfl)) dL_law_179 ⟨Nat.le_of_ble_eq_true rfl, Nat.le_of_ble_eq_true rfl⟩) hS (fun q _ h => hFc q h) hFc (fun ra u t H1 locs ht hvm hw1 hB hz1 hk1 hS => ?_)
          obtain ⟨fv1, aY1⟩ := u
          obtain ⟨hP1, hD1⟩ := hB
          rw [ht] at hP1
          obtain ⟨hP, hD⟩ := va_join (wr := [(g0, .inr (1, [.int (nI n), .ref gt])), (gt, .inl (d2, 300, .inl bT))]) (w1 := [(h0, .inr (0, [.int (nI n), .int (nI P), .ref tA, .int fv1, .ref yA])), (tA, .inl (d0, 64, .inl aT)), (yA, .inl (d1, 64, .inl aY1))]) hP hD [0, 1, 2] [3, 4] rfl rfl (by decide) (by decide) hk1 hFc hP1 hD1
          generalize H1 = H at hP hS ⊢
          have hP := hP.sub (ws' := [(h0, .inr (0, [.int (nI n), .int (nI P), .ref tA, .int fv1, .ref yA])), (tA, .inl (d0, 64, .inl aT)), (yA, .inl (d1, 64, .inl aY1)), (g0, .inr (1, [.int (nI n), .ref gt])), (gt, .inl (d2, 300, .inl bT))]) [2, 3, 4, 0, 1] rfl
          have hD := hD.sub (ws' := [(h0, .inr (0, [.int (nI n), .int (nI P), .ref tA, .int fv1, .ref yA])), (tA, .inl (d0, 64, .inl aT)), (yA, .inl (d1, 64, .inl aY1)), (g0, .inr (1, [.int (nI n), .ref gt])), (gt, .inl (d2, 300, .inl bT))]) [2, 3, 4, 0, 1] (by decide) rfl
          have hP : va_P (dC, dI) vwCl [(h0, .inr (0, [.int (nI n), .int (nI P), .ref tA, .int fv1, .ref yA])), (tA, .inl (d0, 64, .inl aT)), (yA, .inl (d1, 64, .inl aY1)), (g0, .inr (1, [.int (nI n), .ref gt])), (gt, .inl (d2, 300, .inl bT))] H := hP
          have hD : va_D A [(h0, .inr (0, [.int (nI n), .int (nI P), .ref tA, .int fv1, .ref yA])), (tA, .inl (d0, 64, .inl aT)), (yA, .inl (d1, 64, .inl aY1)), (g0, .inr (1, [.int (nI n), .ref gt])), (gt, .inl (d2, 300, .inl bT))] := hD
          refine lv_aload_n hx hb dL_law_182 rfl (lv_at hl 2 rfl) ?_
          refine lv_aload_n hx hb dL_law_183 rfl (lv_at hl 0 rfl) ?_
          refine lv_iload_n hx hb dL_law_184 rfl (lv_at hl 3 rfl) ?_
          refine lv_iconst (v := nI 1) hx hb dL_law_185 (by decide +kernel) ?_
          refine lv_iadd hx hb dL_law_186 ?_
          refine sx_i (y := nI (i + 1)) (nI_add _ _) ?_
          refine va_sld hx hb hX hbl hbA hS (vp_in_nI (show i + 1 < L by omega) (by omega)) dL_law_187 ?_
          refine sx_i (y := xs (i + 1)) (by rw [sx_clamp (show i + 1 < 2147483648 by omega)]) ?_
          refine lv_aload_n hx hb dL_law_188 rfl (lv_at hl 0 rfl) ?_
          refine lv_iload_n hx hb dL_law_189 rfl (lv_at hl 3 rfl) ?_
          refine lv_iconst (v := nI 2) hx hb dL_law_190 (by decide +kernel) ?_
          refine lv_iadd hx hb dL_law_191 ?_
          refine sx_i (y := nI (i + 2)) (nI_add _ _) ?_
          refine va_sld hx hb hX hbl hbA hS (vp_in_nI (show i + 2 < L by omega) (by omega)) dL_law_192 ?_
          refine sx_i (y := xs (i + 2)) (by rw [sx_clamp (show i + 2 < 2147483648 by omega)]) ?_
          have hPc := hP.sub (ws' := [(g0, .inr (1, [.int (nI n), .ref gt])), (gt, .inl (d2, 300, .inl bT))]) [3, 4] rfl
          have hKc := hK.sub (tys' := [(d2, .int)]) [2] rfl
          have hFc := sx_fr hA hS
          refine va_calli (va_runV (As := [.int (xs (i + 1)), .int (xs (i + 2))]) (rest := [.int ra]) ⟨hx, hb, hml, hown, hts⟩ (metX1_next l dC dI H.size g0 gt d2 bT n (xs (i + 1)) (xs (i + 2)) hA0.1.2.1) (cwV 2 hts (lw_V q147 q148 q149 q12 q150) rfl rfl rfl (by decide +kernel) ⟨Nat.le_of_ble_eq_true rfl, Nat.le_of_ble_eq_true rfl⟩) ⟨fun a U g mk q => by obtain ⟨q0, q1, qP, qK⟩ := q; exact ⟨q0, q1, qP, va_K.moved (u := U) (U := U.calling g mk a) (Vm.Alike.refl U.vm) qK⟩, va_recv hKc hPc (ci := 1) (q0 := 0) rfl rfl, fun U hU hW => ⟨rfl, by rw [hU], by rw [hU]; exact hPc, va_K.moved hW.alike hKc⟩⟩ rfl rfl hl.1 rfl (lv_room (Nat.le_of_ble_eq_true rfl)) dL_law_193 ⟨Nat.le_of_ble_eq_true rfl, Nat.le_of_ble_eq_true rfl⟩) hS (fun q _ h => hFc q h) hFc (fun rb u t H1 locs ht hvm hw2 hB hz1 hk1 hS => ?_)
          have hP := sx_keep hP hk1
          generalize H1 = H at hP hS ⊢
          refine lv_icmp_eq (tgt := 267) hx hb dL_law_196 (by decide) (fun c196 => ?_) (fun c196 => False.elim (c196 (sp_4_u sp_Fn_u hw1 hw2)))
          refine lv_iinc (v := nI (i + 3)) (lv' := [(3, .int (nI (i + 3))), (0, .ref b), (1, .ref h0), (2, .ref g0)]) hx hb dL_law_267 hl (k := 3) rfl (sx_inc3 _) (by decide) rfl (fun ls hl => ?_)
          refine lv_goto (tgt := 18) hx hb dL_law_270 (by decide) ?_
          exact ih (i + 3) n r P fv1 aT aY1 bT _ _ (by omega) (by omega) (hOK) (hrow) hP hD hS ls (lv_sub hl [1, 2, 3, 0] rfl)
        · refine lv_tableIn (off := 169) (tgt := 201) hx hb dL_law_32 (by decide) (by decide) (by decide) (by decide) ?_
          refine lv_aload_n hx hb dL_law_201 rfl (lv_at hl 1 rfl) ?_
          refine lv_aload_n hx hb dL_law_202 rfl (lv_at hl 0 rfl) ?_
          refine lv_iload_n hx hb dL_law_203 rfl (lv_at hl 3 rfl) ?_
          refine lv_iconst (v := nI 1) hx hb dL_law_204 (by decide +kernel) ?_
          refine lv_iadd hx hb dL_law_205 ?_
          refine sx_i (y := nI (i + 1)) (nI_add _ _) ?_
          refine va_sld hx hb hX hbl hbA hS (vp_in_nI (show i + 1 < L by omega) (by omega)) dL_law_206 ?_
          refine sx_i (y := xs (i + 1)) (by rw [sx_clamp (show i + 1 < 2147483648 by omega)]) ?_
          refine lv_aload_n hx hb dL_law_207 rfl (lv_at hl 0 rfl) ?_
          refine lv_iload_n hx hb dL_law_208 rfl (lv_at hl 3 rfl) ?_
          refine lv_iconst (v := nI 2) hx hb dL_law_209 (by decide +kernel) ?_
          refine lv_iadd hx hb dL_law_210 ?_
          refine sx_i (y := nI (i + 2)) (nI_add _ _) ?_
          refine va_sld hx hb hX hbl hbA hS (vp_in_nI (show i + 2 < L by omega) (by omega)) dL_law_211 ?_
          refine sx_i (y := xs (i + 2)) (by rw [sx_clamp (show i + 2 < 2147483648 by omega)]) ?_
          have hPc := hP.sub (ws' := [(h0, .inr (0, [.int (nI n), .int (nI P), .ref tA, .int fv, .ref yA])), (tA, .inl (d0, 64, .inl aT)), (yA, .inl (d1, 64, .inl aY))]) [0, 1, 2] rfl
          have hKc := hK.sub (tys' := [(d0, .int), (d1, .int)]) [0, 1] rfl
          have hDc := hD.sub (ws' := [(h0, .inr (0, [.int (nI n), .int (nI P), .ref tA, .int fv, .ref yA])), (tA, .inl (d0, 64, .inl aT)), (yA, .inl (d1, 64, .inl aY))]) [0, 1, 2] (by decide) rfl
          have hFc := va_free (wc := [(h0, .inr (0, [.int (nI n), .int (nI P), .ref tA, .int fv, .ref yA])), (tA, .inl (d0, 64, .inl aT)), (yA, .inl (d1, 64, .inl aY))]) hD hS hA [0, 1, 2] rfl
          refine va_calli (va_runV (As := [.int (xs (i + 1)), .int (xs (i + 2))]) (rest := []) ⟨hx, hb, hml, hown, hts⟩ (metX0_root l dC dI H.size h0 tA yA d0 d1 aT aY n fv r P K cc hA0 hB0 hC0 hrow (xs (i + 1)) (xs (i + 2))) (cwV 2 hts (lw_V q87 q88 q89 q11 q90) rfl rfl rfl (by decide +kernel) ⟨Nat.le_of_ble_eq_true rfl, Nat.le_of_ble_eq_true rfl⟩) ⟨fun a U g mk q => by obtain ⟨q0, q1, qP, qK, qD⟩ := q; exact ⟨q0, q1, qP, va_K.moved (u := U) (U := U.calling g mk a) (Vm.Alike.refl U.vm) qK, qD⟩, va_recv hKc hPc (ci := 0) (q0 := 0) rfl rfl, fun U hU hW => ⟨rfl, by rw [hU], by rw [hU]; exact hPc, va_K.moved hW.alike hKc, hDc.weaken (fun _ _ _ _ => trivial)⟩⟩ rfl rfl hl.1 rfl (lv_room (Nat.le_of_ble_eq_true rfl)) dL_law_212 ⟨Nat.le_of_ble_eq_true rfl, Nat.le_of_ble_eq_true rfl⟩) hS (fun q _ h => hFc q h) hFc (fun ra u t H1 locs ht hvm hw1 hB hz1 hk1 hS => ?_)
          obtain ⟨fv1, aY1⟩ := u
          obtain ⟨hP1, hD1⟩ := hB
          rw [ht] at hP1
          obtain ⟨hP, hD⟩ := va_join (wr := [(g0, .inr (1, [.int (nI n), .ref gt])), (gt, .inl (d2, 300, .inl bT))]) (w1 := [(h0, .inr (0, [.int (nI n), .int (nI P), .ref tA, .int fv1, .ref yA])), (tA, .inl (d0, 64, .inl aT)), (yA, .inl (d1, 64, .inl aY1))]) hP hD [0, 1, 2] [3, 4] rfl rfl (by decide) (by decide) hk1 hFc hP1 hD1
          generalize H1 = H at hP hS ⊢
          have hP := hP.sub (ws' := [(h0, .inr (0, [.int (nI n), .int (nI P), .ref tA, .int fv1, .ref yA])), (tA, .inl (d0, 64, .inl aT)), (yA, .inl (d1, 64, .inl aY1)), (g0, .inr (1, [.int (nI n), .ref gt])), (gt, .inl (d2, 300, .inl bT))]) [2, 3, 4, 0, 1] rfl
          have hD := hD.sub (ws' := [(h0, .inr (0, [.int (nI n), .int (nI P), .ref tA, .int fv1, .ref yA])), (tA, .inl (d0, 64, .inl aT)), (yA, .inl (d1, 64, .inl aY1)), (g0, .inr (1, [.int (nI n), .ref gt])), (gt, .inl (d2, 300, .inl bT))]) [2, 3, 4, 0, 1] (by decide) rfl
          have hP : va_P (dC, dI) vwCl [(h0, .inr (0, [.int (nI n), .int (nI P), .ref tA, .int fv1, .ref yA])), (tA, .inl (d0, 64, .inl aT)), (yA, .inl (d1, 64, .inl aY1)), (g0, .inr (1, [.int (nI n), .ref gt])), (gt, .inl (d2, 300, .inl bT))] H := hP
          have hD : va_D A [(h0, .inr (0, [.int (nI n), .int (nI P), .ref tA, .int fv1, .ref yA])), (tA, .inl (d0, 64, .inl aT)), (yA, .inl (d1, 64, .inl aY1)), (g0, .inr (1, [.int (nI n), .ref gt])), (gt, .inl (d2, 300, .inl bT))] := hD
          refine lv_aload_n hx hb dL_law_215 rfl (lv_at hl 2 rfl) ?_
          refine lv_aload_n hx hb dL_law_216 rfl (lv_at hl 0 rfl) ?_
          refine lv_iload_n hx hb dL_law_217 rfl (lv_at hl 3 rfl) ?_
          refine lv_iconst (v := nI 1) hx hb dL_law_218 (by decide +kernel) ?_
          refine lv_iadd hx hb dL_law_219 ?_
          refine sx_i (y := nI (i + 1)) (nI_add _ _) ?_
          refine va_sld hx hb hX hbl hbA hS (vp_in_nI (show i + 1 < L by omega) (by omega)) dL_law_220 ?_
          refine sx_i (y := xs (i + 1)) (by rw [sx_clamp (show i + 1 < 2147483648 by omega)]) ?_
          refine lv_aload_n hx hb dL_law_221 rfl (lv_at hl 0 rfl) ?_
          refine lv_iload_n hx hb dL_law_222 rfl (lv_at hl 3 rfl) ?_
          refine lv_iconst (v := nI 2) hx hb dL_law_223 (by decide +kernel) ?_
          refine lv_iadd hx hb dL_law_224 ?_
          refine sx_i (y := nI (i + 2)) (nI_add _ _) ?_
          refine va_sld hx hb hX hbl hbA hS (vp_in_nI (show i + 2 < L by omega) (by omega)) dL_law_225 ?_
          refine sx_i (y := xs (i + 2)) (by rw [sx_clamp (show i + 2 < 2147483648 by omega)]) ?_
          have hPc := hP.sub (ws' := [(g0, .inr (1, [.int (nI n), .ref gt])), (gt, .inl (d2, 300, .inl bT))]) [3, 4] rfl
          have hKc := hK.sub (tys' := [(d2, .int)]) [2] rfl
          have hFc := sx_fr hA hS
          refine va_calli (va_runV (As := [.int (xs (i + 1)), .int (xs (i + 2))]) (rest := [.int ra]) ⟨hx, hb, hml, hown, hts⟩ (metX1_root l dC dI H.size g0 gt d2 bT n (xs (i + 1)) (xs (i + 2)) hA0.1.2.1) (cwV 2 hts (lw_V q151 q152 q153 q12 q154) rfl rfl rfl (by decide +kernel) ⟨Nat.le_of_ble_eq_true rfl, Nat.le_of_ble_eq_true rfl⟩) ⟨fun a U g mk q => by obtain ⟨q0, q1, qP, qK⟩ := q; exact ⟨q0, q1, qP, va_K.moved (u := U) (U := U.calling g mk a) (Vm.Alike.refl U.vm) qK⟩, va_recv hKc hPc (ci := 1) (q0 := 0) rfl rfl, fun U hU hW => ⟨rfl, by rw [hU], by rw [hU]; exact hPc, va_K.moved hW.alike hKc⟩⟩ rfl rfl hl.1 rfl (lv_room (Nat.le_of_ble_eq_true rfl)) dL_law_226 ⟨Nat.le_of_ble_eq_true rfl, Nat.le_of_ble_eq_true rfl⟩) hS (fun q _ h => hFc q h) hFc (fun rb u t H1 locs ht hvm hw2 hB hz1 hk1 hS => ?_)
          have hP := sx_keep hP hk1
          generalize H1 = H at hP hS ⊢
          refine lv_icmp_eq (tgt := 267) hx hb dL_law_229 (by decide) (fun c229 => ?_) (fun c229 => False.elim (c229 (sp_4_u sp_Fr_u hw1 hw2)))
          refine lv_iinc (v := nI (i + 3)) (lv' := [(3, .int (nI (i + 3))), (0, .ref b), (1, .ref h0), (2, .ref g0)]) hx hb dL_law_267 hl (k := 3) rfl (sx_inc3 _) (by decide) rfl (fun ls hl => ?_)
          refine lv_goto (tgt := 18) hx hb dL_law_270 (by decide) ?_
          exact ih (i + 3) n r P fv1 aT aY1 bT _ _ (by omega) (by omega) (hOK) (hrow) hP hD hS ls (lv_sub hl [1, 2, 3, 0] rfl)
        · refine lv_tableIn (off := 202) (tgt := 234) hx hb dL_law_32 (by decide) (by decide) (by decide) (by decide) ?_
          refine lv_aload_n hx hb dL_law_234 rfl (lv_at hl 1 rfl) ?_
          refine lv_aload_n hx hb dL_law_235 rfl (lv_at hl 0 rfl) ?_
          refine lv_iload_n hx hb dL_law_236 rfl (lv_at hl 3 rfl) ?_
          refine lv_iconst (v := nI 1) hx hb dL_law_237 (by decide +kernel) ?_
          refine lv_iadd hx hb dL_law_238 ?_
          refine sx_i (y := nI (i + 1)) (nI_add _ _) ?_
          refine va_sld hx hb hX hbl hbA hS (vp_in_nI (show i + 1 < L by omega) (by omega)) dL_law_239 ?_
          refine sx_i (y := xs (i + 1)) (by rw [sx_clamp (show i + 1 < 2147483648 by omega)]) ?_
          refine lv_aload_n hx hb dL_law_240 rfl (lv_at hl 0 rfl) ?_
          refine lv_iload_n hx hb dL_law_241 rfl (lv_at hl 3 rfl) ?_
          refine lv_iconst (v := nI 2) hx hb dL_law_242 (by decide +kernel) ?_
          refine lv_iadd hx hb dL_law_243 ?_
          refine sx_i (y := nI (i + 2)) (nI_add _ _) ?_
          refine va_sld hx hb hX hbl hbA hS (vp_in_nI (show i + 2 < L by omega) (by omega)) dL_law_244 ?_
          refine sx_i (y := xs (i + 2)) (by rw [sx_clamp (show i + 2 < 2147483648 by omega)]) ?_
          have hPc := hP.sub (ws' := [(h0, .inr (0, [.int (nI n), .int (nI P), .ref tA, .int fv, .ref yA])), (tA, .inl (d0, 64, .inl aT)), (yA, .inl (d1, 64, .inl aY))]) [0, 1, 2] rfl
          have hKc := hK.sub (tys' := [(d0, .int), (d1, .int)]) [0, 1] rfl
          have hDc := hD.sub (ws' := [(h0, .inr (0, [.int (nI n), .int (nI P), .ref tA, .int fv, .ref yA])), (tA, .inl (d0, 64, .inl aT)), (yA, .inl (d1, 64, .inl aY))]) [0, 1, 2] (by decide) rfl
          have hFc := va_free (wc := [(h0, .inr (0, [.int (nI n), .int (nI P), .ref tA, .int fv, .ref yA])), (tA, .inl (d0, 64, .inl aT)), (yA, .inl (d1, 64, .inl aY))]) hD hS hA [0, 1, 2] rfl
          refine va_calli (va_runV (As := [.int (xs (i + 1)), .int (xs (i + 2))]) (rest := []) ⟨hx, hb, hml, hown, hts⟩ (metX0_sum l dC dI H.size h0 tA yA d0 d1 aT aY n fv r P K cc hA0 hB0 hC0 hrow (xs (i + 1)) (xs (i + 2))) (cwV 2 hts (lw_V q91 q92 q93 q11 q94) rfl rfl rfl (by decide +kernel) ⟨Nat.le_of_ble_eq_true rfl, Nat.le_of_ble_eq_true rfl⟩) ⟨fun a U g mk q => by obtain ⟨q0, q1, qP, qK, qD⟩ := q; exact ⟨q0, q1, qP, va_K.moved (u := U) (U := U.calling g mk a) (Vm.Alike.refl U.vm) qK, qD⟩, va_recv hKc hPc (ci := 0) (q0 := 0) rfl rfl, fun U hU hW => ⟨rfl, by rw [hU], by rw [hU]; exact hPc, va_K.moved hW.alike hKc, hDc.weaken (fun _ _ _ _ => trivial)⟩⟩ rfl rfl hl.1 rfl (lv_room (Nat.le_of_ble_eq_true rfl)) dL_law_245 ⟨Nat.le_of_ble_eq_true rfl, Nat.le_of_ble_eq_true rfl⟩) hS (fun q _ h => hFc q h) hFc (fun ra u t H1 locs ht hvm hw1 hB hz1 hk1 hS => ?_)
          obtain ⟨fv1, aY1⟩ := u
          obtain ⟨hP1, hD1⟩ := hB
          rw [ht] at hP1
          obtain ⟨hP, hD⟩ := va_join (wr := [(g0, .inr (1, [.int (nI n), .ref gt])), (gt, .inl (d2, 300, .inl bT))]) (w1 := [(h0, .inr (0, [.int (nI n), .int (nI P), .ref tA, .int fv1, .ref yA])), (tA, .inl (d0, 64, .inl aT)), (yA, .inl (d1, 64, .inl aY1))]) hP hD [0, 1, 2] [3, 4] rfl rfl (by decide) (by decide) hk1 hFc hP1 hD1
          generalize H1 = H at hP hS ⊢
          have hP := hP.sub (ws' := [(h0, .inr (0, [.int (nI n), .int (nI P), .ref tA, .int fv1, .ref yA])), (tA, .inl (d0, 64, .inl aT)), (yA, .inl (d1, 64, .inl aY1)), (g0, .inr (1, [.int (nI n), .ref gt])), (gt, .inl (d2, 300, .inl bT))]) [2, 3, 4, 0, 1] rfl
          have hD := hD.sub (ws' := [(h0, .inr (0, [.int (nI n), .int (nI P), .ref tA, .int fv1, .ref yA])), (tA, .inl (d0, 64, .inl aT)), (yA, .inl (d1, 64, .inl aY1)), (g0, .inr (1, [.int (nI n), .ref gt])), (gt, .inl (d2, 300, .inl bT))]) [2, 3, 4, 0, 1] (by decide) rfl
          have hP : va_P (dC, dI) vwCl [(h0, .inr (0, [.int (nI n), .int (nI P), .ref tA, .int fv1, .ref yA])), (tA, .inl (d0, 64, .inl aT)), (yA, .inl (d1, 64, .inl aY1)), (g0, .inr (1, [.int (nI n), .ref gt])), (gt, .inl (d2, 300, .inl bT))] H := hP
          have hD : va_D A [(h0, .inr (0, [.int (nI n), .int (nI P), .ref tA, .int fv1, .ref yA])), (tA, .inl (d0, 64, .inl aT)), (yA, .inl (d1, 64, .inl aY1)), (g0, .inr (1, [.int (nI n), .ref gt])), (gt, .inl (d2, 300, .inl bT))] := hD
          refine lv_aload_n hx hb dL_law_248 rfl (lv_at hl 2 rfl) ?_
          refine lv_aload_n hx hb dL_law_249 rfl (lv_at hl 0 rfl) ?_
          refine lv_iload_n hx hb dL_law_250 rfl (lv_at hl 3 rfl) ?_
          refine lv_iconst (v := nI 1) hx hb dL_law_251 (by decide +kernel) ?_
          refine lv_iadd hx hb dL_law_252 ?_
          refine sx_i (y := nI (i + 1)) (nI_add _ _) ?_
          refine va_sld hx hb hX hbl hbA hS (vp_in_nI (show i + 1 < L by omega) (by omega)) dL_law_253 ?_
          refine sx_i (y := xs (i + 1)) (by rw [sx_clamp (show i + 1 < 2147483648 by omega)]) ?_
          refine lv_aload_n hx hb dL_law_254 rfl (lv_at hl 0 rfl) ?_
          refine lv_iload_n hx hb dL_law_255 rfl (lv_at hl 3 rfl) ?_
          refine lv_iconst (v := nI 2) hx hb dL_law_256 (by decide +kernel) ?_
          refine lv_iadd hx hb dL_law_257 ?_
          refine sx_i (y := nI (i + 2)) (nI_add _ _) ?_
          refine va_sld hx hb hX hbl hbA hS (vp_in_nI (show i + 2 < L by omega) (by omega)) dL_law_258 ?_
          refine sx_i (y := xs (i + 2)) (by rw [sx_clamp (show i + 2 < 2147483648 by omega)]) ?_
          have hPc := hP.sub (ws' := [(g0, .inr (1, [.int (nI n), .ref gt])), (gt, .inl (d2, 300, .inl bT))]) [3, 4] rfl
          have hKc := hK.sub (tys' := [(d2, .int)]) [2] rfl
          have hFc := sx_fr hA hS
          refine va_calli (va_runV (As := [.int (xs (i + 1)), .int (xs (i + 2))]) (rest := [.int ra]) ⟨hx, hb, hml, hown, hts⟩ (metX1_sum l dC dI H.size g0 gt d2 bT n (xs (i + 1)) (xs (i + 2)) hA0.1.2.1) (cwV 2 hts (lw_V q155 q156 q157 q12 q158) rfl rfl rfl (by decide +kernel) ⟨Nat.le_of_ble_eq_true rfl, Nat.le_of_ble_eq_true rfl⟩) ⟨fun a U g mk q => by obtain ⟨q0, q1, qP, qK⟩ := q; exact ⟨q0, q1, qP, va_K.moved (u := U) (U := U.calling g mk a) (Vm.Alike.refl U.vm) qK⟩, va_recv hKc hPc (ci := 1) (q0 := 0) rfl rfl, fun U hU hW => ⟨rfl, by rw [hU], by rw [hU]; exact hPc, va_K.moved hW.alike hKc⟩⟩ rfl rfl hl.1 rfl (lv_room (Nat.le_of_ble_eq_true rfl)) dL_law_259 ⟨Nat.le_of_ble_eq_true rfl, Nat.le_of_ble_eq_true rfl⟩) hS (fun q _ h => hFc q h) hFc (fun rb u t H1 locs ht hvm hw2 hB hz1 hk1 hS => ?_)
          have hP := sx_keep hP hk1
          generalize H1 = H at hP hS ⊢
          refine lv_icmp_eq (tgt := 267) hx hb dL_law_262 (by decide) (fun c262 => ?_) (fun c262 => False.elim (c262 (sp_4_u sp_Fc_u hw1 hw2)))
          refine lv_iinc (v := nI (i + 3)) (lv' := [(3, .int (nI (i + 3))), (0, .ref b), (1, .ref h0), (2, .ref g0)]) hx hb dL_law_267 hl (k := 3) rfl (sx_inc3 _) (by decide) rfl (fun ls hl => ?_)
          refine lv_goto (tgt := 18) hx hb dL_law_270 (by decide) ?_
          exact ih (i + 3) n r P fv1 aT aY1 bT _ _ (by omega) (by omega) (hOK) (hrow) hP hD hS ls (lv_sub hl [1, 2, 3, 0] rfl)
        · refine lv_tableOut (tgt := 267) hx hb dL_law_32 (Or.inr (by decide)) (by decide) ?_
          refine lv_iinc (v := nI (i + 3)) (lv' := [(3, .int (nI (i + 3))), (0, .ref b), (1, .ref h0), (2, .ref g0)]) hx hb dL_law_267 hl (k := 3) rfl (sx_inc3 _) (by decide) rfl (fun ls hl => ?_)
          refine lv_goto (tgt := 18) hx hb dL_law_270 (by decide) ?_
          exact ih (i + 3) n r P fv aT aY bT _ _ (by omega) (by omega) (hOK) (hrow) hP hD hS ls (lv_sub hl [1, 2, 3, 0] rfl)
  refine lv_astore_n (lv' := [(2, .ref g0), (1, .ref h0), (0, .ref b)]) hx hb dL_law_15 rfl hl (by decide) rfl (fun ls hl => ?_)
  refine lv_iconst (v := nI 0) hx hb dL_law_16 (by decide +kernel) ?_
  refine lv_istore_n (lv' := [(3, .int (nI 0)), (2, .ref g0), (1, .ref h0), (0, .ref b)]) hx hb dL_law_17 rfl hl (by decide) rfl (fun ls hl => ?_)
  exact loop (L + 1) 0 2 1 1 0 aT0 (fun _ => 0) (fun _ => 0) _ _ (by omega) (by omega) (sn_2) (hrow0) hP hD hS ls (lv_sub hl [3, 2, 1, 0] rfl)
end
section
-- ===== YOUR PART ENDS =====
set_option maxHeartbeats 4000000 in
theorem lw_walk (l : Launch) (b : Addr) (xs : List Int32) : MetFree l x (headSpec (Jvm.Cond.code x code maxLocals ret :: tables_1) room_1) (lw_P b xs) (fun _ _ _ _ _ => True) lw_Q := by
  refine MetFree.of_bodyS (code := code) (maxLocals := maxLocals) (ret := ret) (by decide) ?_ ?_
  · intro args s m h hn
    obtain ⟨meth, c, h1, h2, h3, h4, h5, h6, -, -⟩ := Cond.code_spec hn (atoms_spec (ws := Jvm.Cond.code x code maxLocals ret :: tables_1) h _ List.mem_cons_self)
    exact ⟨meth, c, h1, h2, h3, h4, h5, h6⟩
  · intro p e s m args below meth c s₁ B hml0 hP _
    obtain ⟨rfl, hx, hbd, hgv⟩ := hP
    obtain ⟨scr, harrAt, hlist, hof, hsmall⟩ := hx
    obtain ⟨hcb, hkn, -, -⟩ := State.arrayAt?_spec harrAt
    have hown : s.vm.findClass R_law = some m.cls := findClass_of_methodNamed B.named
    have hts0 : ∀ c ∈ (Jvm.Cond.code x code maxLocals ret :: tables_1), c.before #[Value.ref b] s = true := atoms_spec (ws := Jvm.Cond.code x code maxLocals ret :: tables_1) B.pre
    have hts : ∀ w ∈ lw_tbl, w.before #[Value.ref b] s = true := k2_hts_sels lw_privs (fun w hw => hts0 w (List.mem_cons_of_mem _ hw)) lw_privs_ok
    have hml : c.maxLocals = 4 := B.maxLocals_eq (hts0 _ List.mem_cons_self)
    have X₀ : Stand p l e room_1 s m #[Value.ref b] below meth c s₁ [] 0 0 := Stand.of_body B
    have hh0 : s₁.heap = s.heap := by rw [B.state]; rfl
    have hsz : scr.slots.size = xs.length := by rw [← Array.length_toList, hlist, List.length_map]
    have hval : ∀ j : Nat, j < xs.length → scr.slots[j]? = some (.int (xs.getD j 0)) := fun j hj => by
      rw [← Array.getElem?_toList, hlist]
      simp [hj]
    have hbl : b < s.heap.size := (Array.getElem?_eq_some_iff.mp hcb).1
    have hX : va_X b xs.length (fun j => xs.getD j 0) s s.heap := ⟨scr, hcb, hof, hkn, hsz, hval⟩
    have K : W p l e room_1 s m #[Value.ref b] below meth c s₁.heap [] 0 0 (lw_Z below #[Value.ref b] s) (entryFrame m ([Value.ref b] : List Value).toArray 4) := by
      rw [hh0]
      exact whole_start l hbd ⟨B.exec, B.bytes, B.returns, hml, hown, hts, hX, hbl, B.notSynchronized, hgv⟩
    obtain ⟨t, a1, o, b1, b2, b3⟩ := K s₁ rfl X₀
    exact ⟨t, o, a1, b1, b2, b3⟩
theorem lw_pre_spec {args : Array Value} {s : State} (h : (Jvm.Cond.and given_1 narrow_1).before args s = true) (hr : rest_1_c.before args s = true) : ∃ (b : Addr) (xs : List Int32), lw_P b xs args s := by
  have hs := flat_of_before _ h
  have hq := flat_of_before _ hr
  have hc : (Cond.count 1).before args s = true := hs _ (by decide +kernel)
  have harr : (Cond.arrayOf (.arg 0) .int).before args s = true := hs _ (by decide +kernel)
  have hle : (Cond.le (.length (.arg 0)) (.int 192)).before args s = true := hs _ (by decide +kernel)
  have hlen : (Cond.isInt (.length (.arg 0))).before args s = true := hq _ (by decide +kernel)
  have hall : (Cond.all (.arg 0) (.isInt (.elem (.arg 0) (.index 0)))).before args s = true := hq _ (by decide +kernel)
  obtain ⟨b, xs, hb, hx⟩ := State.ints_of_pre rfl harr hlen hall
  have hsm : xs.length < 2 ^ 31 := hx.choose_spec.2.2.2
  have hev : (Term.length (.arg 0)).eval args s none [] s = some (.int xs.length.toInt32) := hx.length_eval hb
  have hv := Cond.le_ints hev (show (Term.int 192).eval args s none [] s = some (.int 192) from rfl)
  have hd : xs.length.toInt32 ≤ 192 := by
    simpa [Cond.before, Cond.holds, hv] using hle
  have hN : xs.length ≤ 192 := (Int32.ofNat_le_ofNat hsm (by decide)).mp (show Int32.ofNat xs.length ≤ Int32.ofNat 192 from hd)
  exact ⟨b, xs, Cond.one_arg hc (show args[0]? = some (.ref b) from hb), hx, hN, h⟩
theorem lw_comes (l : Launch) : Comes l x (Jvm.Cond.code x code maxLocals ret :: tables_1) room_1 (fun tb e args s => Calls_1 tb e args s ∧ rest_1 tb e args s ∧ Pre_1 tb e args s)
    (fun _ _ args s o t => lw_Q args s o t) := by
  intro p e ha hc hk s m args below hf hfit hheap happ hpre
  obtain ⟨b, xs, hP⟩ := lw_pre_spec hpre.2.2 hpre.2.1
  obtain ⟨k, o, h1, h2, h3, hQ⟩ := lw_walk l b xs p e ha hc hk s m args below hf ((Spec.applies_iff_loose hf).mp happ).1 hP trivial
  exact ⟨k, o, h1, h2, h3, hQ⟩
theorem lw_frame {s t : State} {o : Outcome} {args : Array Value} (h : Framed s o t [] 600000 7290000) :
    Framed s o t (fieldLocs frame_1_writes args s ++ arrayLocs frame_1_arrays args s ++ staticLocs frame_1_statics s) 600000 7290000 := h
theorem lw_limb (L : Cond) (hL : ∀ (args : Array Value) (s t : State), L.after args s (.returned (some (.int 1))) t = true) :
    ArmFor flags0 classFile x code maxLocals ret World_1 tables_1 room_1 Calls_1 rest_1 Pre_1
      (fun tb e a s o t => postC L tb e a s o t ∧ Framed s o t (fieldLocs frame_1_writes a s ++ arrayLocs frame_1_arrays a s ++ staticLocs frame_1_statics s) 600000 7290000) := by
  intro l _ _ _ p e ha hc hk s m args below hf hfit hheap happ hpre
  obtain ⟨k, o, h1, h2, h3, rfl, hF⟩ := lw_comes l p e ha hc hk s m args below hf hfit hheap happ hpre
  exact ⟨k, _, h1, h2, h3, hL args s _, lw_frame hF⟩
theorem i_vc : Claimed_1_1 ∧ Claimed_1_2 := ⟨lw_limb limb_1_1 (fun args s t => by simp [limb_1_1, Cond.after, Cond.holds, Cond.value]), lw_limb limb_1_2 (fun args s t => Cond.after_iff.mpr (by
  first | (rw [show limb_1_2 = Cond.eq .result (.int 1) from rfl, Cond.eq_ints (x := 1) (y := 1) rfl rfl]; simp; done) | (simp [limb_1_2, Cond.value, Term.eval]; done)))⟩
end
