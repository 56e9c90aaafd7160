section
def lw_okq (q : MethodName × Nat) : Prop := (q.1.cls ≠ "java/lang/invoke/MethodHandle" ∧ q.1.cls ≠ "java/lang/invoke/VarHandle") ∧ Cond.instantiable q.1.cls q.2 ∈ tables_1 ∧ Cond.privateMethod q.1 ∈ tables_1 ∧ Cond.instanceMethod q.1 ∈ tables_1
set_option maxRecDepth 100000
theorem lw_t1 {w : Cond} (h : w ∈ tables_1_1) : w ∈ tables_1 := List.mem_append_left _ h
theorem lw_t2 {w : Cond} (h : w ∈ tables_1_2) : w ∈ tables_1 := List.mem_append_right _ h
theorem lw_p0 : lw_okq (⟨"BranchLengths", "item", "(II)I"⟩, 12) := ⟨⟨by decide +kernel, by decide +kernel⟩, lw_t1 (List.mem_of_getElem? (i := 6) rfl), lw_t1 (List.mem_of_getElem? (i := 86) rfl), lw_t1 (List.mem_of_getElem? (i := 87) rfl)⟩
theorem lw_p1 : lw_okq (⟨"BranchLengths", "look", "(I)V"⟩, 12) := ⟨⟨by decide +kernel, by decide +kernel⟩, lw_t1 (List.mem_of_getElem? (i := 6) rfl), lw_t1 (List.mem_of_getElem? (i := 131) rfl), lw_t1 (List.mem_of_getElem? (i := 132) rfl)⟩
theorem lw_p2 : lw_okq (⟨"BranchLengths", "reaches", "(I)Z"⟩, 12) := ⟨⟨by decide +kernel, by decide +kernel⟩, lw_t1 (List.mem_of_getElem? (i := 6) rfl), lw_t1 (List.mem_of_getElem? (i := 135) rfl), lw_t1 (List.mem_of_getElem? (i := 136) rfl)⟩
theorem lw_p3 : lw_okq (⟨"BranchLengths", "isItem", "(I)Z"⟩, 12) := ⟨⟨by decide +kernel, by decide +kernel⟩, lw_t1 (List.mem_of_getElem? (i := 6) rfl), lw_t1 (List.mem_of_getElem? (i := 151) rfl), lw_t1 (List.mem_of_getElem? (i := 152) rfl)⟩
theorem lw_p4 : lw_okq (⟨"BranchLengthsModel", "item", "(II)I"⟩, 10) := ⟨⟨by decide +kernel, by decide +kernel⟩, lw_t1 (List.mem_of_getElem? (i := 175) rfl), lw_t1 (List.mem_of_getElem? (i := 216) rfl), lw_t1 (List.mem_of_getElem? (i := 217) rfl)⟩
theorem lw_p5 : lw_okq (⟨"BranchLengthsModel", "addUp", "()V"⟩, 10) := ⟨⟨by decide +kernel, by decide +kernel⟩, lw_t1 (List.mem_of_getElem? (i := 175) rfl), lw_t1 (List.mem_of_getElem? (i := 237) rfl), lw_t1 (List.mem_of_getElem? (i := 238) rfl)⟩
theorem lw_p6 : lw_okq (⟨"BranchLengthsModel", "reaches", "(I)Z"⟩, 10) := ⟨⟨by decide +kernel, by decide +kernel⟩, lw_t1 (List.mem_of_getElem? (i := 175) rfl), lw_t2 (List.mem_of_getElem? (i := 1) rfl), lw_t2 (List.mem_of_getElem? (i := 2) rfl)⟩
def lw_privs_1 : List (MethodName × Nat) := [(⟨"BranchLengths", "item", "(II)I"⟩, 12), (⟨"BranchLengths", "look", "(I)V"⟩, 12), (⟨"BranchLengths", "reaches", "(I)Z"⟩, 12), (⟨"BranchLengths", "isItem", "(I)Z"⟩, 12), (⟨"BranchLengthsModel", "item", "(II)I"⟩, 10), (⟨"BranchLengthsModel", "addUp", "()V"⟩, 10), (⟨"BranchLengthsModel", "reaches", "(I)Z"⟩, 10)]
theorem lw_r1 : ∀ q ∈ lw_privs_1, lw_okq q := List.forall_mem_cons.mpr ⟨lw_p0, List.forall_mem_cons.mpr ⟨lw_p1, List.forall_mem_cons.mpr ⟨lw_p2, List.forall_mem_cons.mpr ⟨lw_p3, List.forall_mem_cons.mpr ⟨lw_p4, List.forall_mem_cons.mpr ⟨lw_p5, List.forall_mem_cons.mpr ⟨lw_p6, fun _ h => absurd h List.not_mem_nil⟩⟩⟩⟩⟩⟩⟩
def lw_privs : List (MethodName × Nat) := lw_privs_1
def lw_tbl : List Cond := k2_sels lw_privs ++ tables_1
theorem lw_privs_ok : ∀ q ∈ lw_privs, lw_okq q := lw_r1
-- ===== ONE list of words for every method: the tables' words that hold all through a run =====
def lw_all : List Cond := lw_tbl.filter goodWord
/-- a word of the tables by its place: claim/WORDS.tsv -/
theorem lw_w {w : Cond} (i : Nat) (h : lw_tbl[i]? = some w) (g : goodWord w = true) : w ∈ lw_all := List.mem_filter.mpr ⟨List.mem_of_getElem? h, g⟩
theorem lw_all_tbl {w : Cond} (h : w ∈ lw_all) : w ∈ lw_tbl := (List.mem_filter.mp h).1
theorem lw_self : GoodIn lw_all lw_all := fun w h => ⟨h, good_of_word (List.mem_filter.mp h).2⟩
theorem lw_in (ws : List Cond) (ps : List Nat) (hp : ws = ps.filterMap (fun i => lw_tbl[i]?)) (hg : ws.all goodWord = true) : ∀ w ∈ ws, w ∈ lw_all := by
  intro w h
  have h1 := List.all_eq_true.mp hg w h
  rw [hp] at h
  obtain ⟨i, -, hi⟩ := List.mem_filterMap.mp h
  exact lw_w i hi h1
/-- the words of a contract for the method y with code b, L locals, answer r -/
abbrev ws_ (y : MethodName) (b : ByteArray) (L : Nat) (r : Option FieldType) : List Cond := Cond.code y b L r :: lw_all
theorem lw_meth {y : MethodName} {b : ByteArray} {L : Nat} {r : Option FieldType} (h : Cond.code y b L r ∈ lw_all) : GoodIn lw_all (ws_ y b L r) := by
  intro w hw
  rcases List.mem_cons.mp hw with e | e
  · rw [e]
    exact lw_self _ h
  · exact lw_self _ e
theorem lw_app {a c : List Cond} (ha : ∀ w ∈ a, w ∈ lw_all) (hc : GoodIn lw_all c) : GoodIn lw_all (a ++ c) := by
  intro w hw
  rcases List.mem_append.mp hw with e | e
  · exact lw_self w (ha w e)
  · exact hc w e
/-- what a call through an object asks: cwV n hts (lw_V ..) -/
theorem lw_V {own : String} {idx : Nat} {C : String} {y : MethodName} {b : ByteArray} {L : Nat} {r : Option FieldType} (h1 : Cond.methodLink own idx y ∈ lw_all) (h2 : Cond.instanceMethod y ∈ lw_all) (h3 : Cond.selects C y y ∈ lw_all) (h4 : Cond.initialized C ∈ lw_all) (h5 : Cond.code y b L r ∈ lw_all) : GoodIn lw_all (wsV own idx C y (ws_ y b L r)) := by
  refine lw_app ?_ (lw_meth h5)
  intro w hw
  simp only [List.mem_cons, List.not_mem_nil, or_false] at hw
  rcases hw with e | e | e | e
  · rw [e]; exact h1
  · rw [e]; exact h2
  · rw [e]; exact h3
  · rw [e]; exact h4
/-- what a static call asks: va_cwS n hts (lw_S ..) -/
theorem lw_S {own : String} {idx : Nat} {y : MethodName} {b : ByteArray} {L : Nat} {r : Option FieldType} (h1 : Cond.methodLink own idx y ∈ lw_all) (h2 : Cond.static y ∈ lw_all) (h3 : Cond.initialized y.cls ∈ lw_all) (h4 : Cond.code y b L r ∈ lw_all) : GoodIn lw_all (va_wsS own idx y (ws_ y b L r)) := by
  refine lw_app ?_ (lw_meth h4)
  intro w hw
  simp only [List.mem_cons, List.not_mem_nil, or_false] at hw
  rcases hw with e | e | e
  · rw [e]; exact h1
  · rw [e]; exact h2
  · rw [e]; exact h3
/-- the words of a contract for a method WITH HANDLERS (hh: its table) -/
abbrev wsW_ (y : MethodName) (b : ByteArray) (L : Nat) (r : Option FieldType) (hh : List (Nat × Nat × Nat × Nat)) : List Cond := Cond.codeWith y b L r hh :: lw_all
theorem lw_methW {y : MethodName} {b : ByteArray} {L : Nat} {r : Option FieldType} {hh : List (Nat × Nat × Nat × Nat)} (h : Cond.codeWith y b L r hh ∈ lw_all) : GoodIn lw_all (wsW_ y b L r hh) := by
  intro w hw
  rcases List.mem_cons.mp hw with e | e
  · rw [e]
    exact lw_self _ h
  · exact lw_self _ e
/-- any list of words by their places (lw_in), good -/
theorem lw_good {ws : List Cond} (h : ∀ w ∈ ws, w ∈ lw_all) : GoodIn lw_all ws := fun w hw => lw_self w (h w hw)
/-- what a call of a method with handlers asks: vx_cwVW n hts (lw_VW ..), vx_cwSW n hts (lw_SW ..) -/
theorem lw_VW {own : String} {idx : Nat} {C : String} {y : MethodName} {b : ByteArray} {L : Nat} {r : Option FieldType} {hh : List (Nat × Nat × Nat × Nat)} (h1 : Cond.methodLink own idx y ∈ lw_all) (h2 : Cond.instanceMethod y ∈ lw_all) (h3 : Cond.selects C y y ∈ lw_all) (h4 : Cond.initialized C ∈ lw_all) (h5 : Cond.codeWith y b L r hh ∈ lw_all) : GoodIn lw_all (wsV own idx C y (wsW_ y b L r hh)) := by
  refine lw_app ?_ (lw_methW h5)
  intro w hw
  simp only [List.mem_cons, List.not_mem_nil, or_false] at hw
  rcases hw with e | e | e | e
  · rw [e]; exact h1
  · rw [e]; exact h2
  · rw [e]; exact h3
  · rw [e]; exact h4
theorem lw_SW {own : String} {idx : Nat} {y : MethodName} {b : ByteArray} {L : Nat} {r : Option FieldType} {hh : List (Nat × Nat × Nat × Nat)} (h1 : Cond.methodLink own idx y ∈ lw_all) (h2 : Cond.static y ∈ lw_all) (h3 : Cond.initialized y.cls ∈ lw_all) (h4 : Cond.codeWith y b L r hh ∈ lw_all) : GoodIn lw_all (va_wsS own idx y (wsW_ y b L r hh)) := by
  refine lw_app ?_ (lw_methW h4)
  intro w hw
  simp only [List.mem_cons, List.not_mem_nil, or_false] at hw
  rcases hw with e | e | e
  · rw [e]; exact h1
  · rw [e]; exact h2
  · rw [e]; exact h3
/-- a word by its place in its run of the tables -/
theorem lw_at {r : List Cond} (hr : ∀ w ∈ r, w ∈ lw_tbl) {w : Cond} (i : Nat) (h : r[i]? = some w) : w ∈ lw_tbl := hr w (List.mem_of_getElem? h)
theorem lw_g {w : Cond} (h : w ∈ lw_tbl) (g : goodWord w = true) : w ∈ lw_all := List.mem_filter.mpr ⟨h, g⟩
theorem lw_ms : ∀ w ∈ k2_sels lw_privs, w ∈ lw_tbl := fun w h => show w ∈ k2_sels lw_privs ++ tables_1 from List.mem_append_left _ h
theorem lw_m1 : ∀ w ∈ tables_1_1, w ∈ lw_tbl := fun w h => show w ∈ k2_sels lw_privs ++ tables_1 from List.mem_append_right (k2_sels lw_privs) (show w ∈ tables_1 from List.mem_append_left _ h)
theorem lw_m2 : ∀ w ∈ tables_1_2, w ∈ lw_tbl := fun w h => show w ∈ k2_sels lw_privs ++ tables_1 from List.mem_append_right (k2_sels lw_privs) (show w ∈ tables_1 from List.mem_append_right _ h)
theorem qs0 : (Cond.selects "BranchLengths" ⟨"BranchLengths", "item", "(II)I"⟩ ⟨"BranchLengths", "item", "(II)I"⟩) ∈ lw_all := lw_g (lw_at lw_ms 0 rfl) rfl
theorem qs1 : (Cond.selects "BranchLengths" ⟨"BranchLengths", "look", "(I)V"⟩ ⟨"BranchLengths", "look", "(I)V"⟩) ∈ lw_all := lw_g (lw_at lw_ms 1 rfl) rfl
theorem qs2 : (Cond.selects "BranchLengths" ⟨"BranchLengths", "reaches", "(I)Z"⟩ ⟨"BranchLengths", "reaches", "(I)Z"⟩) ∈ lw_all := lw_g (lw_at lw_ms 2 rfl) rfl
theorem qs3 : (Cond.selects "BranchLengths" ⟨"BranchLengths", "isItem", "(I)Z"⟩ ⟨"BranchLengths", "isItem", "(I)Z"⟩) ∈ lw_all := lw_g (lw_at lw_ms 3 rfl) rfl
theorem qs4 : (Cond.selects "BranchLengthsModel" ⟨"BranchLengthsModel", "item", "(II)I"⟩ ⟨"BranchLengthsModel", "item", "(II)I"⟩) ∈ lw_all := lw_g (lw_at lw_ms 4 rfl) rfl
theorem qs5 : (Cond.selects "BranchLengthsModel" ⟨"BranchLengthsModel", "addUp", "()V"⟩ ⟨"BranchLengthsModel", "addUp", "()V"⟩) ∈ lw_all := lw_g (lw_at lw_ms 5 rfl) rfl
theorem qs6 : (Cond.selects "BranchLengthsModel" ⟨"BranchLengthsModel", "reaches", "(I)Z"⟩ ⟨"BranchLengthsModel", "reaches", "(I)Z"⟩) ∈ lw_all := lw_g (lw_at lw_ms 6 rfl) rfl
end
section
/-! java/lang/Object -/
set_option maxRecDepth 100000
def RJ0 : String := "java/lang/Object"
abbrev cJ0_init : ByteArray := object_method_1_code
def yJ0_init : MethodName := ⟨RJ0, "<init>", "()V"⟩
theorem dJ0_init_0 : decode cJ0_init 0 = .ok (.return_, 1) := by decide +kernel
theorem q18 : (Jvm.Cond.instanceMethod ({ cls := "java/lang/Object", name := "<init>", desc := "()V" } : Jvm.MethodName)) ∈ lw_all := lw_g (lw_at lw_m1 11 rfl) rfl
theorem q19 : (Jvm.Cond.code ({ cls := "java/lang/Object", name := "<init>", desc := "()V" } : Jvm.MethodName) object_method_1_code (1 : Nat) (Option.none : Option Jvm.ClassFile.FieldType)) ∈ lw_all := lw_g (lw_at lw_m1 12 rfl) rfl
/-! BranchLengths$Sums -/
set_option maxRecDepth 100000
def RX1 : String := "BranchLengths$Sums"
def TX1 : u_T := fun k => match k with
  | _ => ("BranchLengths$Sums", "tree", "[I", true)
def tyX1 : Nat → FieldType := fun k => match k with
  | _ => .array .int
abbrev wsX10 : List Cond := u_ws RX1 TX1 1
theorem nmX1 : ∀ a, a < 1 → ∀ b, b < 1 → a ≠ b → (TX1 a).2.1 ≠ (TX1 b).2.1 := by decide +kernel
theorem tyX1_ok : ∀ k, k < 1 → parseFieldDescriptor (TX1 k).2.2.1 = some (tyX1 k) := by decide +kernel
abbrev cX1_init : ByteArray := prog_3_method_1_code
def yX1_init : MethodName := ⟨RX1, "<init>", "()V"⟩
theorem dX1_init_0 : decode cX1_init 0 = .ok (.aload_n 0, 1) := by decide +kernel
theorem dX1_init_1 : decode cX1_init 1 = .ok (.invokespecial 3, 3) := by decide +kernel
theorem dX1_init_4 : decode cX1_init 4 = .ok (.aload_n 0, 1) := by decide +kernel
theorem dX1_init_5 : decode cX1_init 5 = .ok (.sipush 2001, 3) := by decide +kernel
theorem dX1_init_8 : decode cX1_init 8 = .ok (.newarray .int, 2) := by decide +kernel
theorem dX1_init_10 : decode cX1_init 10 = .ok (.putfield 9, 3) := by decide +kernel
theorem dX1_init_13 : decode cX1_init 13 = .ok (.return_, 1) := by decide +kernel
abbrev cX1_clear : ByteArray := prog_3_method_2_code
def yX1_clear : MethodName := ⟨RX1, "clear", "()V"⟩
theorem dX1_clear_0 : decode cX1_clear 0 = .ok (.iconst 0, 1) := by decide +kernel
theorem dX1_clear_1 : decode cX1_clear 1 = .ok (.istore_n 1, 1) := by decide +kernel
theorem dX1_clear_2 : decode cX1_clear 2 = .ok (.iload_n 1, 1) := by decide +kernel
theorem dX1_clear_3 : decode cX1_clear 3 = .ok (.aload_n 0, 1) := by decide +kernel
theorem dX1_clear_4 : decode cX1_clear 4 = .ok (.getfield 9, 3) := by decide +kernel
theorem dX1_clear_7 : decode cX1_clear 7 = .ok (.arraylength, 1) := by decide +kernel
theorem dX1_clear_8 : decode cX1_clear 8 = .ok (.if_icmp .ge 16, 3) := by decide +kernel
theorem dX1_clear_11 : decode cX1_clear 11 = .ok (.aload_n 0, 1) := by decide +kernel
theorem dX1_clear_12 : decode cX1_clear 12 = .ok (.getfield 9, 3) := by decide +kernel
theorem dX1_clear_15 : decode cX1_clear 15 = .ok (.iload_n 1, 1) := by decide +kernel
theorem dX1_clear_16 : decode cX1_clear 16 = .ok (.iconst 0, 1) := by decide +kernel
theorem dX1_clear_17 : decode cX1_clear 17 = .ok (.iastore, 1) := by decide +kernel
theorem dX1_clear_18 : decode cX1_clear 18 = .ok (.iinc 1 1, 3) := by decide +kernel
theorem dX1_clear_21 : decode cX1_clear 21 = .ok (.goto (-19), 3) := by decide +kernel
theorem dX1_clear_24 : decode cX1_clear 24 = .ok (.return_, 1) := by decide +kernel
abbrev cX1_add : ByteArray := prog_3_method_3_code
def yX1_add : MethodName := ⟨RX1, "add", "(II)V"⟩
theorem dX1_add_0 : decode cX1_add 0 = .ok (.iload_n 1, 1) := by decide +kernel
theorem dX1_add_1 : decode cX1_add 1 = .ok (.iconst 1, 1) := by decide +kernel
theorem dX1_add_2 : decode cX1_add 2 = .ok (.iadd, 1) := by decide +kernel
theorem dX1_add_3 : decode cX1_add 3 = .ok (.istore_n 3, 1) := by decide +kernel
theorem dX1_add_4 : decode cX1_add 4 = .ok (.iload_n 3, 1) := by decide +kernel
theorem dX1_add_5 : decode cX1_add 5 = .ok (.aload_n 0, 1) := by decide +kernel
theorem dX1_add_6 : decode cX1_add 6 = .ok (.getfield 9, 3) := by decide +kernel
theorem dX1_add_9 : decode cX1_add 9 = .ok (.arraylength, 1) := by decide +kernel
theorem dX1_add_10 : decode cX1_add 10 = .ok (.if_icmp .ge 23, 3) := by decide +kernel
theorem dX1_add_13 : decode cX1_add 13 = .ok (.aload_n 0, 1) := by decide +kernel
theorem dX1_add_14 : decode cX1_add 14 = .ok (.getfield 9, 3) := by decide +kernel
theorem dX1_add_17 : decode cX1_add 17 = .ok (.iload_n 3, 1) := by decide +kernel
theorem dX1_add_18 : decode cX1_add 18 = .ok (.dup2, 1) := by decide +kernel
theorem dX1_add_19 : decode cX1_add 19 = .ok (.iaload, 1) := by decide +kernel
theorem dX1_add_20 : decode cX1_add 20 = .ok (.iload_n 2, 1) := by decide +kernel
theorem dX1_add_21 : decode cX1_add 21 = .ok (.iadd, 1) := by decide +kernel
theorem dX1_add_22 : decode cX1_add 22 = .ok (.iastore, 1) := by decide +kernel
theorem dX1_add_23 : decode cX1_add 23 = .ok (.iload_n 3, 1) := by decide +kernel
theorem dX1_add_24 : decode cX1_add 24 = .ok (.iload_n 3, 1) := by decide +kernel
theorem dX1_add_25 : decode cX1_add 25 = .ok (.iload_n 3, 1) := by decide +kernel
theorem dX1_add_26 : decode cX1_add 26 = .ok (.ineg, 1) := by decide +kernel
theorem dX1_add_27 : decode cX1_add 27 = .ok (.iand, 1) := by decide +kernel
theorem dX1_add_28 : decode cX1_add 28 = .ok (.iadd, 1) := by decide +kernel
theorem dX1_add_29 : decode cX1_add 29 = .ok (.istore_n 3, 1) := by decide +kernel
theorem dX1_add_30 : decode cX1_add 30 = .ok (.goto (-26), 3) := by decide +kernel
theorem dX1_add_33 : decode cX1_add 33 = .ok (.return_, 1) := by decide +kernel
abbrev cX1_before : ByteArray := prog_3_method_4_code
def yX1_before : MethodName := ⟨RX1, "before", "(I)I"⟩
theorem dX1_before_0 : decode cX1_before 0 = .ok (.iconst 0, 1) := by decide +kernel
theorem dX1_before_1 : decode cX1_before 1 = .ok (.istore_n 2, 1) := by decide +kernel
theorem dX1_before_2 : decode cX1_before 2 = .ok (.iload_n 1, 1) := by decide +kernel
theorem dX1_before_3 : decode cX1_before 3 = .ok (.istore_n 3, 1) := by decide +kernel
theorem dX1_before_4 : decode cX1_before 4 = .ok (.iload_n 3, 1) := by decide +kernel
theorem dX1_before_5 : decode cX1_before 5 = .ok (.ifCond .le 22, 3) := by decide +kernel
theorem dX1_before_8 : decode cX1_before 8 = .ok (.iload_n 2, 1) := by decide +kernel
theorem dX1_before_9 : decode cX1_before 9 = .ok (.aload_n 0, 1) := by decide +kernel
theorem dX1_before_10 : decode cX1_before 10 = .ok (.getfield 9, 3) := by decide +kernel
theorem dX1_before_13 : decode cX1_before 13 = .ok (.iload_n 3, 1) := by decide +kernel
theorem dX1_before_14 : decode cX1_before 14 = .ok (.iaload, 1) := by decide +kernel
theorem dX1_before_15 : decode cX1_before 15 = .ok (.iadd, 1) := by decide +kernel
theorem dX1_before_16 : decode cX1_before 16 = .ok (.istore_n 2, 1) := by decide +kernel
theorem dX1_before_17 : decode cX1_before 17 = .ok (.iload_n 3, 1) := by decide +kernel
theorem dX1_before_18 : decode cX1_before 18 = .ok (.iload_n 3, 1) := by decide +kernel
theorem dX1_before_19 : decode cX1_before 19 = .ok (.iload_n 3, 1) := by decide +kernel
theorem dX1_before_20 : decode cX1_before 20 = .ok (.ineg, 1) := by decide +kernel
theorem dX1_before_21 : decode cX1_before 21 = .ok (.iand, 1) := by decide +kernel
theorem dX1_before_22 : decode cX1_before 22 = .ok (.isub, 1) := by decide +kernel
theorem dX1_before_23 : decode cX1_before 23 = .ok (.istore_n 3, 1) := by decide +kernel
theorem dX1_before_24 : decode cX1_before 24 = .ok (.goto (-20), 3) := by decide +kernel
theorem dX1_before_27 : decode cX1_before 27 = .ok (.iload_n 2, 1) := by decide +kernel
theorem dX1_before_28 : decode cX1_before 28 = .ok (.ireturn, 1) := by decide +kernel
theorem q9 : (Jvm.Cond.initialized "BranchLengths$Sums") ∈ lw_all := lw_g (lw_at lw_m1 2 rfl) rfl
theorem q21 : (Jvm.Cond.instantiable "BranchLengths$Sums" (1 : Nat)) ∈ lw_all := lw_g (lw_at lw_m1 14 rfl) rfl
theorem q23 : (Jvm.Cond.instanceMethod ({ cls := "BranchLengths$Sums", name := "<init>", desc := "()V" } : Jvm.MethodName)) ∈ lw_all := lw_g (lw_at lw_m1 16 rfl) rfl
theorem q24 : (Jvm.Cond.code ({ cls := "BranchLengths$Sums", name := "<init>", desc := "()V" } : Jvm.MethodName) prog_3_method_1_code (1 : Nat) (Option.none : Option Jvm.ClassFile.FieldType)) ∈ lw_all := lw_g (lw_at lw_m1 17 rfl) rfl
theorem q25 : (Jvm.Cond.methodLink "BranchLengths$Sums" (3 : Nat) ({ cls := "java/lang/Object", name := "<init>", desc := "()V" } : Jvm.MethodName)) ∈ lw_all := lw_g (lw_at lw_m1 18 rfl) rfl
theorem q26 : (Jvm.Cond.fieldLink "BranchLengths$Sums" (9 : Nat) "BranchLengths$Sums" "tree" "[I") ∈ lw_all := lw_g (lw_at lw_m1 19 rfl) rfl
theorem q27 : (Jvm.Cond.laysFinal "BranchLengths$Sums" "BranchLengths$Sums" "tree" "[I") ∈ lw_all := lw_g (lw_at lw_m1 20 rfl) rfl
theorem q28 : (Jvm.Cond.soleField "BranchLengths$Sums" "tree") ∈ lw_all := lw_g (lw_at lw_m1 21 rfl) rfl
theorem q29 : (Jvm.Cond.superclass "BranchLengths$Sums" "java/lang/Object") ∈ lw_all := lw_g (lw_at lw_m1 22 rfl) rfl
theorem q114 : (Jvm.Cond.instanceMethod ({ cls := "BranchLengths$Sums", name := "clear", desc := "()V" } : Jvm.MethodName)) ∈ lw_all := lw_g (lw_at lw_m1 107 rfl) rfl
theorem q115 : (Jvm.Cond.selects "BranchLengths$Sums" ({ cls := "BranchLengths$Sums", name := "clear", desc := "()V" } : Jvm.MethodName) ({ cls := "BranchLengths$Sums", name := "clear", desc := "()V" } : Jvm.MethodName)) ∈ lw_all := lw_g (lw_at lw_m1 108 rfl) rfl
theorem q116 : (Jvm.Cond.code ({ cls := "BranchLengths$Sums", name := "clear", desc := "()V" } : Jvm.MethodName) prog_3_method_2_code (2 : Nat) (Option.none : Option Jvm.ClassFile.FieldType)) ∈ lw_all := lw_g (lw_at lw_m1 109 rfl) rfl
theorem q122 : (Jvm.Cond.instanceMethod ({ cls := "BranchLengths$Sums", name := "add", desc := "(II)V" } : Jvm.MethodName)) ∈ lw_all := lw_g (lw_at lw_m1 115 rfl) rfl
theorem q123 : (Jvm.Cond.selects "BranchLengths$Sums" ({ cls := "BranchLengths$Sums", name := "add", desc := "(II)V" } : Jvm.MethodName) ({ cls := "BranchLengths$Sums", name := "add", desc := "(II)V" } : Jvm.MethodName)) ∈ lw_all := lw_g (lw_at lw_m1 116 rfl) rfl
theorem q124 : (Jvm.Cond.code ({ cls := "BranchLengths$Sums", name := "add", desc := "(II)V" } : Jvm.MethodName) prog_3_method_3_code (4 : Nat) (Option.none : Option Jvm.ClassFile.FieldType)) ∈ lw_all := lw_g (lw_at lw_m1 117 rfl) rfl
theorem q146 : (Jvm.Cond.instanceMethod ({ cls := "BranchLengths$Sums", name := "before", desc := "(I)I" } : Jvm.MethodName)) ∈ lw_all := lw_g (lw_at lw_m1 139 rfl) rfl
theorem q147 : (Jvm.Cond.selects "BranchLengths$Sums" ({ cls := "BranchLengths$Sums", name := "before", desc := "(I)I" } : Jvm.MethodName) ({ cls := "BranchLengths$Sums", name := "before", desc := "(I)I" } : Jvm.MethodName)) ∈ lw_all := lw_g (lw_at lw_m1 140 rfl) rfl
theorem q148 : (Jvm.Cond.code ({ cls := "BranchLengths$Sums", name := "before", desc := "(I)I" } : Jvm.MethodName) prog_3_method_4_code (4 : Nat) (Option.some Jvm.ClassFile.FieldType.int)) ∈ lw_all := lw_g (lw_at lw_m1 141 rfl) rfl
theorem in_X1 : ∀ w ∈ wsX10, w ∈ lw_all := lw_in wsX10 [27] (by decide +kernel) (by decide +kernel)
/-! BranchLengths$Ring -/
set_option maxRecDepth 100000
def RX2 : String := "BranchLengths$Ring"
def TX2 : u_T := fun k => match k with
  | 0 => ("BranchLengths$Ring", "row", "[I", true)
  | 1 => ("BranchLengths$Ring", "isIn", "[Z", true)
  | 2 => ("BranchLengths$Ring", "from", "I", false)
  | _ => ("BranchLengths$Ring", "count", "I", false)
def tyX2 : Nat → FieldType := fun k => match k with
  | 0 => .array .int
  | 1 => .array .boolean
  | 2 => .int
  | _ => .int
abbrev wsX20 : List Cond := u_ws RX2 TX2 4
theorem nmX2 : ∀ a, a < 4 → ∀ b, b < 4 → a ≠ b → (TX2 a).2.1 ≠ (TX2 b).2.1 := by decide +kernel
theorem tyX2_ok : ∀ k, k < 4 → parseFieldDescriptor (TX2 k).2.2.1 = some (tyX2 k) := by decide +kernel
abbrev cX2_init : ByteArray := prog_2_method_1_code
def yX2_init : MethodName := ⟨RX2, "<init>", "()V"⟩
theorem dX2_init_0 : decode cX2_init 0 = .ok (.aload_n 0, 1) := by decide +kernel
theorem dX2_init_1 : decode cX2_init 1 = .ok (.invokespecial 3, 3) := by decide +kernel
theorem dX2_init_4 : decode cX2_init 4 = .ok (.aload_n 0, 1) := by decide +kernel
theorem dX2_init_5 : decode cX2_init 5 = .ok (.sipush 2000, 3) := by decide +kernel
theorem dX2_init_8 : decode cX2_init 8 = .ok (.newarray .int, 2) := by decide +kernel
theorem dX2_init_10 : decode cX2_init 10 = .ok (.putfield 9, 3) := by decide +kernel
theorem dX2_init_13 : decode cX2_init 13 = .ok (.aload_n 0, 1) := by decide +kernel
theorem dX2_init_14 : decode cX2_init 14 = .ok (.sipush 2000, 3) := by decide +kernel
theorem dX2_init_17 : decode cX2_init 17 = .ok (.newarray .boolean, 2) := by decide +kernel
theorem dX2_init_19 : decode cX2_init 19 = .ok (.putfield 15, 3) := by decide +kernel
theorem dX2_init_22 : decode cX2_init 22 = .ok (.return_, 1) := by decide +kernel
abbrev cX2_clear : ByteArray := prog_2_method_2_code
def yX2_clear : MethodName := ⟨RX2, "clear", "()V"⟩
theorem dX2_clear_0 : decode cX2_clear 0 = .ok (.aload_n 0, 1) := by decide +kernel
theorem dX2_clear_1 : decode cX2_clear 1 = .ok (.iconst 0, 1) := by decide +kernel
theorem dX2_clear_2 : decode cX2_clear 2 = .ok (.putfield 19, 3) := by decide +kernel
theorem dX2_clear_5 : decode cX2_clear 5 = .ok (.aload_n 0, 1) := by decide +kernel
theorem dX2_clear_6 : decode cX2_clear 6 = .ok (.iconst 0, 1) := by decide +kernel
theorem dX2_clear_7 : decode cX2_clear 7 = .ok (.putfield 23, 3) := by decide +kernel
theorem dX2_clear_10 : decode cX2_clear 10 = .ok (.iconst 0, 1) := by decide +kernel
theorem dX2_clear_11 : decode cX2_clear 11 = .ok (.istore_n 1, 1) := by decide +kernel
theorem dX2_clear_12 : decode cX2_clear 12 = .ok (.iload_n 1, 1) := by decide +kernel
theorem dX2_clear_13 : decode cX2_clear 13 = .ok (.sipush 2000, 3) := by decide +kernel
theorem dX2_clear_16 : decode cX2_clear 16 = .ok (.if_icmp .ge 16, 3) := by decide +kernel
theorem dX2_clear_19 : decode cX2_clear 19 = .ok (.aload_n 0, 1) := by decide +kernel
theorem dX2_clear_20 : decode cX2_clear 20 = .ok (.getfield 15, 3) := by decide +kernel
theorem dX2_clear_23 : decode cX2_clear 23 = .ok (.iload_n 1, 1) := by decide +kernel
theorem dX2_clear_24 : decode cX2_clear 24 = .ok (.iconst 0, 1) := by decide +kernel
theorem dX2_clear_25 : decode cX2_clear 25 = .ok (.bastore, 1) := by decide +kernel
theorem dX2_clear_26 : decode cX2_clear 26 = .ok (.iinc 1 1, 3) := by decide +kernel
theorem dX2_clear_29 : decode cX2_clear 29 = .ok (.goto (-17), 3) := by decide +kernel
theorem dX2_clear_32 : decode cX2_clear 32 = .ok (.return_, 1) := by decide +kernel
abbrev cX2_put : ByteArray := prog_2_method_3_code
def yX2_put : MethodName := ⟨RX2, "put", "(I)V"⟩
theorem dX2_put_0 : decode cX2_put 0 = .ok (.aload_n 0, 1) := by decide +kernel
theorem dX2_put_1 : decode cX2_put 1 = .ok (.getfield 15, 3) := by decide +kernel
theorem dX2_put_4 : decode cX2_put 4 = .ok (.iload_n 1, 1) := by decide +kernel
theorem dX2_put_5 : decode cX2_put 5 = .ok (.baload, 1) := by decide +kernel
theorem dX2_put_6 : decode cX2_put 6 = .ok (.ifCond .eq 4, 3) := by decide +kernel
theorem dX2_put_9 : decode cX2_put 9 = .ok (.return_, 1) := by decide +kernel
theorem dX2_put_10 : decode cX2_put 10 = .ok (.aload_n 0, 1) := by decide +kernel
theorem dX2_put_11 : decode cX2_put 11 = .ok (.getfield 15, 3) := by decide +kernel
theorem dX2_put_14 : decode cX2_put 14 = .ok (.iload_n 1, 1) := by decide +kernel
theorem dX2_put_15 : decode cX2_put 15 = .ok (.iconst 1, 1) := by decide +kernel
theorem dX2_put_16 : decode cX2_put 16 = .ok (.bastore, 1) := by decide +kernel
theorem dX2_put_17 : decode cX2_put 17 = .ok (.aload_n 0, 1) := by decide +kernel
theorem dX2_put_18 : decode cX2_put 18 = .ok (.getfield 9, 3) := by decide +kernel
theorem dX2_put_21 : decode cX2_put 21 = .ok (.aload_n 0, 1) := by decide +kernel
theorem dX2_put_22 : decode cX2_put 22 = .ok (.getfield 19, 3) := by decide +kernel
theorem dX2_put_25 : decode cX2_put 25 = .ok (.aload_n 0, 1) := by decide +kernel
theorem dX2_put_26 : decode cX2_put 26 = .ok (.getfield 23, 3) := by decide +kernel
theorem dX2_put_29 : decode cX2_put 29 = .ok (.iadd, 1) := by decide +kernel
theorem dX2_put_30 : decode cX2_put 30 = .ok (.sipush 2000, 3) := by decide +kernel
theorem dX2_put_33 : decode cX2_put 33 = .ok (.irem, 1) := by decide +kernel
theorem dX2_put_34 : decode cX2_put 34 = .ok (.iload_n 1, 1) := by decide +kernel
theorem dX2_put_35 : decode cX2_put 35 = .ok (.iastore, 1) := by decide +kernel
theorem dX2_put_36 : decode cX2_put 36 = .ok (.aload_n 0, 1) := by decide +kernel
theorem dX2_put_37 : decode cX2_put 37 = .ok (.dup, 1) := by decide +kernel
theorem dX2_put_38 : decode cX2_put 38 = .ok (.getfield 23, 3) := by decide +kernel
theorem dX2_put_41 : decode cX2_put 41 = .ok (.iconst 1, 1) := by decide +kernel
theorem dX2_put_42 : decode cX2_put 42 = .ok (.iadd, 1) := by decide +kernel
theorem dX2_put_43 : decode cX2_put 43 = .ok (.putfield 23, 3) := by decide +kernel
theorem dX2_put_46 : decode cX2_put 46 = .ok (.return_, 1) := by decide +kernel
abbrev cX2_isEmpty : ByteArray := prog_2_method_4_code
def yX2_isEmpty : MethodName := ⟨RX2, "isEmpty", "()Z"⟩
theorem dX2_isEmpty_0 : decode cX2_isEmpty 0 = .ok (.aload_n 0, 1) := by decide +kernel
theorem dX2_isEmpty_1 : decode cX2_isEmpty 1 = .ok (.getfield 23, 3) := by decide +kernel
theorem dX2_isEmpty_4 : decode cX2_isEmpty 4 = .ok (.ifCond .ne 7, 3) := by decide +kernel
theorem dX2_isEmpty_7 : decode cX2_isEmpty 7 = .ok (.iconst 1, 1) := by decide +kernel
theorem dX2_isEmpty_8 : decode cX2_isEmpty 8 = .ok (.goto 4, 3) := by decide +kernel
theorem dX2_isEmpty_11 : decode cX2_isEmpty 11 = .ok (.iconst 0, 1) := by decide +kernel
theorem dX2_isEmpty_12 : decode cX2_isEmpty 12 = .ok (.ireturn, 1) := by decide +kernel
abbrev cX2_take : ByteArray := prog_2_method_5_code
def yX2_take : MethodName := ⟨RX2, "take", "()I"⟩
theorem dX2_take_0 : decode cX2_take 0 = .ok (.aload_n 0, 1) := by decide +kernel
theorem dX2_take_1 : decode cX2_take 1 = .ok (.getfield 9, 3) := by decide +kernel
theorem dX2_take_4 : decode cX2_take 4 = .ok (.aload_n 0, 1) := by decide +kernel
theorem dX2_take_5 : decode cX2_take 5 = .ok (.getfield 19, 3) := by decide +kernel
theorem dX2_take_8 : decode cX2_take 8 = .ok (.iaload, 1) := by decide +kernel
theorem dX2_take_9 : decode cX2_take 9 = .ok (.istore_n 1, 1) := by decide +kernel
theorem dX2_take_10 : decode cX2_take 10 = .ok (.aload_n 0, 1) := by decide +kernel
theorem dX2_take_11 : decode cX2_take 11 = .ok (.aload_n 0, 1) := by decide +kernel
theorem dX2_take_12 : decode cX2_take 12 = .ok (.getfield 19, 3) := by decide +kernel
theorem dX2_take_15 : decode cX2_take 15 = .ok (.iconst 1, 1) := by decide +kernel
theorem dX2_take_16 : decode cX2_take 16 = .ok (.iadd, 1) := by decide +kernel
theorem dX2_take_17 : decode cX2_take 17 = .ok (.sipush 2000, 3) := by decide +kernel
theorem dX2_take_20 : decode cX2_take 20 = .ok (.irem, 1) := by decide +kernel
theorem dX2_take_21 : decode cX2_take 21 = .ok (.putfield 19, 3) := by decide +kernel
theorem dX2_take_24 : decode cX2_take 24 = .ok (.aload_n 0, 1) := by decide +kernel
theorem dX2_take_25 : decode cX2_take 25 = .ok (.dup, 1) := by decide +kernel
theorem dX2_take_26 : decode cX2_take 26 = .ok (.getfield 23, 3) := by decide +kernel
theorem dX2_take_29 : decode cX2_take 29 = .ok (.iconst 1, 1) := by decide +kernel
theorem dX2_take_30 : decode cX2_take 30 = .ok (.isub, 1) := by decide +kernel
theorem dX2_take_31 : decode cX2_take 31 = .ok (.putfield 23, 3) := by decide +kernel
theorem dX2_take_34 : decode cX2_take 34 = .ok (.aload_n 0, 1) := by decide +kernel
theorem dX2_take_35 : decode cX2_take 35 = .ok (.getfield 15, 3) := by decide +kernel
theorem dX2_take_38 : decode cX2_take 38 = .ok (.iload_n 1, 1) := by decide +kernel
theorem dX2_take_39 : decode cX2_take 39 = .ok (.iconst 0, 1) := by decide +kernel
theorem dX2_take_40 : decode cX2_take 40 = .ok (.bastore, 1) := by decide +kernel
theorem dX2_take_41 : decode cX2_take 41 = .ok (.iload_n 1, 1) := by decide +kernel
theorem dX2_take_42 : decode cX2_take 42 = .ok (.ireturn, 1) := by decide +kernel
theorem q10 : (Jvm.Cond.initialized "BranchLengths$Ring") ∈ lw_all := lw_g (lw_at lw_m1 3 rfl) rfl
theorem q33 : (Jvm.Cond.instantiable "BranchLengths$Ring" (4 : Nat)) ∈ lw_all := lw_g (lw_at lw_m1 26 rfl) rfl
theorem q35 : (Jvm.Cond.instanceMethod ({ cls := "BranchLengths$Ring", name := "<init>", desc := "()V" } : Jvm.MethodName)) ∈ lw_all := lw_g (lw_at lw_m1 28 rfl) rfl
theorem q36 : (Jvm.Cond.code ({ cls := "BranchLengths$Ring", name := "<init>", desc := "()V" } : Jvm.MethodName) prog_2_method_1_code (1 : Nat) (Option.none : Option Jvm.ClassFile.FieldType)) ∈ lw_all := lw_g (lw_at lw_m1 29 rfl) rfl
theorem q37 : (Jvm.Cond.methodLink "BranchLengths$Ring" (3 : Nat) ({ cls := "java/lang/Object", name := "<init>", desc := "()V" } : Jvm.MethodName)) ∈ lw_all := lw_g (lw_at lw_m1 30 rfl) rfl
theorem q38 : (Jvm.Cond.fieldLink "BranchLengths$Ring" (9 : Nat) "BranchLengths$Ring" "row" "[I") ∈ lw_all := lw_g (lw_at lw_m1 31 rfl) rfl
theorem q39 : (Jvm.Cond.fieldLink "BranchLengths$Ring" (15 : Nat) "BranchLengths$Ring" "isIn" "[Z") ∈ lw_all := lw_g (lw_at lw_m1 32 rfl) rfl
theorem q40 : (Jvm.Cond.fieldLink "BranchLengths$Ring" (19 : Nat) "BranchLengths$Ring" "from" "I") ∈ lw_all := lw_g (lw_at lw_m1 33 rfl) rfl
theorem q41 : (Jvm.Cond.fieldLink "BranchLengths$Ring" (23 : Nat) "BranchLengths$Ring" "count" "I") ∈ lw_all := lw_g (lw_at lw_m1 34 rfl) rfl
theorem q42 : (Jvm.Cond.laysFinal "BranchLengths$Ring" "BranchLengths$Ring" "row" "[I") ∈ lw_all := lw_g (lw_at lw_m1 35 rfl) rfl
theorem q43 : (Jvm.Cond.soleField "BranchLengths$Ring" "row") ∈ lw_all := lw_g (lw_at lw_m1 36 rfl) rfl
theorem q44 : (Jvm.Cond.laysFinal "BranchLengths$Ring" "BranchLengths$Ring" "isIn" "[Z") ∈ lw_all := lw_g (lw_at lw_m1 37 rfl) rfl
theorem q45 : (Jvm.Cond.soleField "BranchLengths$Ring" "isIn") ∈ lw_all := lw_g (lw_at lw_m1 38 rfl) rfl
theorem q46 : (Jvm.Cond.lays "BranchLengths$Ring" "BranchLengths$Ring" "from" "I") ∈ lw_all := lw_g (lw_at lw_m1 39 rfl) rfl
theorem q47 : (Jvm.Cond.soleField "BranchLengths$Ring" "from") ∈ lw_all := lw_g (lw_at lw_m1 40 rfl) rfl
theorem q48 : (Jvm.Cond.lays "BranchLengths$Ring" "BranchLengths$Ring" "count" "I") ∈ lw_all := lw_g (lw_at lw_m1 41 rfl) rfl
theorem q49 : (Jvm.Cond.soleField "BranchLengths$Ring" "count") ∈ lw_all := lw_g (lw_at lw_m1 42 rfl) rfl
theorem q50 : (Jvm.Cond.superclass "BranchLengths$Ring" "java/lang/Object") ∈ lw_all := lw_g (lw_at lw_m1 43 rfl) rfl
theorem q118 : (Jvm.Cond.instanceMethod ({ cls := "BranchLengths$Ring", name := "clear", desc := "()V" } : Jvm.MethodName)) ∈ lw_all := lw_g (lw_at lw_m1 111 rfl) rfl
theorem q119 : (Jvm.Cond.selects "BranchLengths$Ring" ({ cls := "BranchLengths$Ring", name := "clear", desc := "()V" } : Jvm.MethodName) ({ cls := "BranchLengths$Ring", name := "clear", desc := "()V" } : Jvm.MethodName)) ∈ lw_all := lw_g (lw_at lw_m1 112 rfl) rfl
theorem q120 : (Jvm.Cond.code ({ cls := "BranchLengths$Ring", name := "clear", desc := "()V" } : Jvm.MethodName) prog_2_method_2_code (2 : Nat) (Option.none : Option Jvm.ClassFile.FieldType)) ∈ lw_all := lw_g (lw_at lw_m1 113 rfl) rfl
theorem q126 : (Jvm.Cond.instanceMethod ({ cls := "BranchLengths$Ring", name := "put", desc := "(I)V" } : Jvm.MethodName)) ∈ lw_all := lw_g (lw_at lw_m1 119 rfl) rfl
theorem q127 : (Jvm.Cond.selects "BranchLengths$Ring" ({ cls := "BranchLengths$Ring", name := "put", desc := "(I)V" } : Jvm.MethodName) ({ cls := "BranchLengths$Ring", name := "put", desc := "(I)V" } : Jvm.MethodName)) ∈ lw_all := lw_g (lw_at lw_m1 120 rfl) rfl
theorem q128 : (Jvm.Cond.code ({ cls := "BranchLengths$Ring", name := "put", desc := "(I)V" } : Jvm.MethodName) prog_2_method_3_code (2 : Nat) (Option.none : Option Jvm.ClassFile.FieldType)) ∈ lw_all := lw_g (lw_at lw_m1 121 rfl) rfl
theorem q130 : (Jvm.Cond.instanceMethod ({ cls := "BranchLengths$Ring", name := "isEmpty", desc := "()Z" } : Jvm.MethodName)) ∈ lw_all := lw_g (lw_at lw_m1 123 rfl) rfl
theorem q131 : (Jvm.Cond.selects "BranchLengths$Ring" ({ cls := "BranchLengths$Ring", name := "isEmpty", desc := "()Z" } : Jvm.MethodName) ({ cls := "BranchLengths$Ring", name := "isEmpty", desc := "()Z" } : Jvm.MethodName)) ∈ lw_all := lw_g (lw_at lw_m1 124 rfl) rfl
theorem q132 : (Jvm.Cond.code ({ cls := "BranchLengths$Ring", name := "isEmpty", desc := "()Z" } : Jvm.MethodName) prog_2_method_4_code (1 : Nat) (Option.some Jvm.ClassFile.FieldType.boolean)) ∈ lw_all := lw_g (lw_at lw_m1 125 rfl) rfl
theorem q134 : (Jvm.Cond.instanceMethod ({ cls := "BranchLengths$Ring", name := "take", desc := "()I" } : Jvm.MethodName)) ∈ lw_all := lw_g (lw_at lw_m1 127 rfl) rfl
theorem q135 : (Jvm.Cond.selects "BranchLengths$Ring" ({ cls := "BranchLengths$Ring", name := "take", desc := "()I" } : Jvm.MethodName) ({ cls := "BranchLengths$Ring", name := "take", desc := "()I" } : Jvm.MethodName)) ∈ lw_all := lw_g (lw_at lw_m1 128 rfl) rfl
theorem q136 : (Jvm.Cond.code ({ cls := "BranchLengths$Ring", name := "take", desc := "()I" } : Jvm.MethodName) prog_2_method_5_code (2 : Nat) (Option.some Jvm.ClassFile.FieldType.int)) ∈ lw_all := lw_g (lw_at lw_m1 129 rfl) rfl
theorem in_X2 : ∀ w ∈ wsX20, w ∈ lw_all := lw_in wsX20 [42, 44, 46, 48] (by decide +kernel) (by decide +kernel)
theorem q30 : (Jvm.Cond.arrayClass Jvm.ClassFile.FieldType.int) ∈ lw_all := lw_g (lw_at lw_m1 23 rfl) rfl
set_option maxRecDepth 100000
theorem q31 : (Jvm.Cond.arrayClass Jvm.ClassFile.FieldType.boolean) ∈ lw_all := lw_g (lw_at lw_m1 24 rfl) rfl
end
section
/-! BranchLengths -/
set_option maxRecDepth 100000
def RX0 : String := "BranchLengths"
def TX0 : u_T := fun k => match k with
  | 0 => ("BranchLengths", "kind", "[I", true)
  | 1 => ("BranchLengths", "number", "[I", true)
  | 2 => ("BranchLengths", "isLong", "[Z", true)
  | 3 => ("BranchLengths", "markAt", "[I", true)
  | 4 => ("BranchLengths", "sums", "LBranchLengths$Sums;", true)
  | 5 => ("BranchLengths", "ring", "LBranchLengths$Ring;", true)
  | 6 => ("BranchLengths", "items", "I", false)
  | 7 => ("BranchLengths", "marks", "I", false)
  | 8 => ("BranchLengths", "longs", "I", false)
  | 9 => ("BranchLengths", "least", "I", false)
  | 10 => ("BranchLengths", "reach", "I", false)
  | _ => ("BranchLengths", "isLaid", "Z", false)
def tyX0 : Nat → FieldType := fun k => match k with
  | 0 => .array .int
  | 1 => .array .int
  | 2 => .array .boolean
  | 3 => .array .int
  | 4 => .object "BranchLengths$Sums"
  | 5 => .object "BranchLengths$Ring"
  | 6 => .int
  | 7 => .int
  | 8 => .int
  | 9 => .int
  | 10 => .int
  | _ => .boolean
abbrev wsX00 : List Cond := u_ws RX0 TX0 12
theorem nmX0 : ∀ a, a < 12 → ∀ b, b < 12 → a ≠ b → (TX0 a).2.1 ≠ (TX0 b).2.1 := by decide +kernel
theorem tyX0_ok : ∀ k, k < 12 → parseFieldDescriptor (TX0 k).2.2.1 = some (tyX0 k) := by decide +kernel
abbrev cX0_init : ByteArray := prog_1_method_1_code
def yX0_init : MethodName := ⟨RX0, "<init>", "()V"⟩
theorem dX0_init_0 : decode cX0_init 0 = .ok (.aload_n 0, 1) := by decide +kernel
theorem dX0_init_1 : decode cX0_init 1 = .ok (.invokespecial 1, 3) := by decide +kernel
theorem dX0_init_4 : decode cX0_init 4 = .ok (.aload_n 0, 1) := by decide +kernel
theorem dX0_init_5 : decode cX0_init 5 = .ok (.sipush 2000, 3) := by decide +kernel
theorem dX0_init_8 : decode cX0_init 8 = .ok (.newarray .int, 2) := by decide +kernel
theorem dX0_init_10 : decode cX0_init 10 = .ok (.putfield 9, 3) := by decide +kernel
theorem dX0_init_13 : decode cX0_init 13 = .ok (.aload_n 0, 1) := by decide +kernel
theorem dX0_init_14 : decode cX0_init 14 = .ok (.sipush 2000, 3) := by decide +kernel
theorem dX0_init_17 : decode cX0_init 17 = .ok (.newarray .int, 2) := by decide +kernel
theorem dX0_init_19 : decode cX0_init 19 = .ok (.putfield 13, 3) := by decide +kernel
theorem dX0_init_22 : decode cX0_init 22 = .ok (.aload_n 0, 1) := by decide +kernel
theorem dX0_init_23 : decode cX0_init 23 = .ok (.sipush 2000, 3) := by decide +kernel
theorem dX0_init_26 : decode cX0_init 26 = .ok (.newarray .boolean, 2) := by decide +kernel
theorem dX0_init_28 : decode cX0_init 28 = .ok (.putfield 16, 3) := by decide +kernel
theorem dX0_init_31 : decode cX0_init 31 = .ok (.aload_n 0, 1) := by decide +kernel
theorem dX0_init_32 : decode cX0_init 32 = .ok (.sipush 2000, 3) := by decide +kernel
theorem dX0_init_35 : decode cX0_init 35 = .ok (.newarray .int, 2) := by decide +kernel
theorem dX0_init_37 : decode cX0_init 37 = .ok (.putfield 20, 3) := by decide +kernel
theorem dX0_init_40 : decode cX0_init 40 = .ok (.aload_n 0, 1) := by decide +kernel
theorem dX0_init_41 : decode cX0_init 41 = .ok (.new 23, 3) := by decide +kernel
theorem dX0_init_44 : decode cX0_init 44 = .ok (.dup, 1) := by decide +kernel
theorem dX0_init_45 : decode cX0_init 45 = .ok (.invokespecial 25, 3) := by decide +kernel
theorem dX0_init_48 : decode cX0_init 48 = .ok (.putfield 26, 3) := by decide +kernel
theorem dX0_init_51 : decode cX0_init 51 = .ok (.aload_n 0, 1) := by decide +kernel
theorem dX0_init_52 : decode cX0_init 52 = .ok (.new 30, 3) := by decide +kernel
theorem dX0_init_55 : decode cX0_init 55 = .ok (.dup, 1) := by decide +kernel
theorem dX0_init_56 : decode cX0_init 56 = .ok (.invokespecial 32, 3) := by decide +kernel
theorem dX0_init_59 : decode cX0_init 59 = .ok (.putfield 33, 3) := by decide +kernel
theorem dX0_init_62 : decode cX0_init 62 = .ok (.aload_n 0, 1) := by decide +kernel
theorem dX0_init_63 : decode cX0_init 63 = .ok (.iconst (-1), 1) := by decide +kernel
theorem dX0_init_64 : decode cX0_init 64 = .ok (.putfield 37, 3) := by decide +kernel
theorem dX0_init_67 : decode cX0_init 67 = .ok (.aload_n 0, 1) := by decide +kernel
theorem dX0_init_68 : decode cX0_init 68 = .ok (.sipush 1000, 3) := by decide +kernel
theorem dX0_init_71 : decode cX0_init 71 = .ok (.putfield 41, 3) := by decide +kernel
theorem dX0_init_74 : decode cX0_init 74 = .ok (.return_, 1) := by decide +kernel
abbrev cX0_stretch : ByteArray := prog_1_method_3_code
def yX0_stretch : MethodName := ⟨RX0, "stretch", "(I)I"⟩
theorem dX0_stretch_0 : decode cX0_stretch 0 = .ok (.iload_n 1, 1) := by decide +kernel
theorem dX0_stretch_1 : decode cX0_stretch 1 = .ok (.ifCond .lt 20, 3) := by decide +kernel
theorem dX0_stretch_4 : decode cX0_stretch 4 = .ok (.iload_n 1, 1) := by decide +kernel
theorem dX0_stretch_5 : decode cX0_stretch 5 = .ok (.sipush 4000, 3) := by decide +kernel
theorem dX0_stretch_8 : decode cX0_stretch 8 = .ok (.if_icmp .gt 13, 3) := by decide +kernel
theorem dX0_stretch_11 : decode cX0_stretch 11 = .ok (.aload_n 0, 1) := by decide +kernel
theorem dX0_stretch_12 : decode cX0_stretch 12 = .ok (.getfield 44, 3) := by decide +kernel
theorem dX0_stretch_15 : decode cX0_stretch 15 = .ok (.sipush 2000, 3) := by decide +kernel
theorem dX0_stretch_18 : decode cX0_stretch 18 = .ok (.if_icmp .ne 7, 3) := by decide +kernel
theorem dX0_stretch_21 : decode cX0_stretch 21 = .ok (.iconst (-1), 1) := by decide +kernel
theorem dX0_stretch_22 : decode cX0_stretch 22 = .ok (.goto 9, 3) := by decide +kernel
theorem dX0_stretch_25 : decode cX0_stretch 25 = .ok (.aload_n 0, 1) := by decide +kernel
theorem dX0_stretch_26 : decode cX0_stretch 26 = .ok (.iconst 0, 1) := by decide +kernel
theorem dX0_stretch_27 : decode cX0_stretch 27 = .ok (.iload_n 1, 1) := by decide +kernel
theorem dX0_stretch_28 : decode cX0_stretch 28 = .ok (.invokevirtual 51, 3) := by decide +kernel
theorem dX0_stretch_31 : decode cX0_stretch 31 = .ok (.ireturn, 1) := by decide +kernel
abbrev cX0_item : ByteArray := prog_1_method_2_code
def yX0_item : MethodName := ⟨RX0, "item", "(II)I"⟩
theorem dX0_item_0 : decode cX0_item 0 = .ok (.aload_n 0, 1) := by decide +kernel
theorem dX0_item_1 : decode cX0_item 1 = .ok (.getfield 9, 3) := by decide +kernel
theorem dX0_item_4 : decode cX0_item 4 = .ok (.aload_n 0, 1) := by decide +kernel
theorem dX0_item_5 : decode cX0_item 5 = .ok (.getfield 44, 3) := by decide +kernel
theorem dX0_item_8 : decode cX0_item 8 = .ok (.iload_n 1, 1) := by decide +kernel
theorem dX0_item_9 : decode cX0_item 9 = .ok (.iastore, 1) := by decide +kernel
theorem dX0_item_10 : decode cX0_item 10 = .ok (.aload_n 0, 1) := by decide +kernel
theorem dX0_item_11 : decode cX0_item 11 = .ok (.getfield 13, 3) := by decide +kernel
theorem dX0_item_14 : decode cX0_item 14 = .ok (.aload_n 0, 1) := by decide +kernel
theorem dX0_item_15 : decode cX0_item 15 = .ok (.getfield 44, 3) := by decide +kernel
theorem dX0_item_18 : decode cX0_item 18 = .ok (.iload_n 2, 1) := by decide +kernel
theorem dX0_item_19 : decode cX0_item 19 = .ok (.iastore, 1) := by decide +kernel
theorem dX0_item_20 : decode cX0_item 20 = .ok (.aload_n 0, 1) := by decide +kernel
theorem dX0_item_21 : decode cX0_item 21 = .ok (.iconst 0, 1) := by decide +kernel
theorem dX0_item_22 : decode cX0_item 22 = .ok (.putfield 47, 3) := by decide +kernel
theorem dX0_item_25 : decode cX0_item 25 = .ok (.aload_n 0, 1) := by decide +kernel
theorem dX0_item_26 : decode cX0_item 26 = .ok (.dup, 1) := by decide +kernel
theorem dX0_item_27 : decode cX0_item 27 = .ok (.getfield 44, 3) := by decide +kernel
theorem dX0_item_30 : decode cX0_item 30 = .ok (.iconst 1, 1) := by decide +kernel
theorem dX0_item_31 : decode cX0_item 31 = .ok (.iadd, 1) := by decide +kernel
theorem dX0_item_32 : decode cX0_item 32 = .ok (.putfield 44, 3) := by decide +kernel
theorem dX0_item_35 : decode cX0_item 35 = .ok (.aload_n 0, 1) := by decide +kernel
theorem dX0_item_36 : decode cX0_item 36 = .ok (.getfield 44, 3) := by decide +kernel
theorem dX0_item_39 : decode cX0_item 39 = .ok (.iconst 1, 1) := by decide +kernel
theorem dX0_item_40 : decode cX0_item 40 = .ok (.isub, 1) := by decide +kernel
theorem dX0_item_41 : decode cX0_item 41 = .ok (.ireturn, 1) := by decide +kernel
abbrev cX0_mark : ByteArray := prog_1_method_4_code
def yX0_mark : MethodName := ⟨RX0, "mark", "()I"⟩
theorem dX0_mark_0 : decode cX0_mark 0 = .ok (.aload_n 0, 1) := by decide +kernel
theorem dX0_mark_1 : decode cX0_mark 1 = .ok (.getfield 44, 3) := by decide +kernel
theorem dX0_mark_4 : decode cX0_mark 4 = .ok (.sipush 2000, 3) := by decide +kernel
theorem dX0_mark_7 : decode cX0_mark 7 = .ok (.if_icmp .ne 5, 3) := by decide +kernel
theorem dX0_mark_10 : decode cX0_mark 10 = .ok (.iconst (-1), 1) := by decide +kernel
theorem dX0_mark_11 : decode cX0_mark 11 = .ok (.ireturn, 1) := by decide +kernel
theorem dX0_mark_12 : decode cX0_mark 12 = .ok (.aload_n 0, 1) := by decide +kernel
theorem dX0_mark_13 : decode cX0_mark 13 = .ok (.getfield 20, 3) := by decide +kernel
theorem dX0_mark_16 : decode cX0_mark 16 = .ok (.aload_n 0, 1) := by decide +kernel
theorem dX0_mark_17 : decode cX0_mark 17 = .ok (.getfield 55, 3) := by decide +kernel
theorem dX0_mark_20 : decode cX0_mark 20 = .ok (.aload_n 0, 1) := by decide +kernel
theorem dX0_mark_21 : decode cX0_mark 21 = .ok (.getfield 44, 3) := by decide +kernel
theorem dX0_mark_24 : decode cX0_mark 24 = .ok (.iastore, 1) := by decide +kernel
theorem dX0_mark_25 : decode cX0_mark 25 = .ok (.aload_n 0, 1) := by decide +kernel
theorem dX0_mark_26 : decode cX0_mark 26 = .ok (.dup, 1) := by decide +kernel
theorem dX0_mark_27 : decode cX0_mark 27 = .ok (.getfield 55, 3) := by decide +kernel
theorem dX0_mark_30 : decode cX0_mark 30 = .ok (.iconst 1, 1) := by decide +kernel
theorem dX0_mark_31 : decode cX0_mark 31 = .ok (.iadd, 1) := by decide +kernel
theorem dX0_mark_32 : decode cX0_mark 32 = .ok (.putfield 55, 3) := by decide +kernel
theorem dX0_mark_35 : decode cX0_mark 35 = .ok (.aload_n 0, 1) := by decide +kernel
theorem dX0_mark_36 : decode cX0_mark 36 = .ok (.iconst 1, 1) := by decide +kernel
theorem dX0_mark_37 : decode cX0_mark 37 = .ok (.iconst 0, 1) := by decide +kernel
theorem dX0_mark_38 : decode cX0_mark 38 = .ok (.invokevirtual 51, 3) := by decide +kernel
theorem dX0_mark_41 : decode cX0_mark 41 = .ok (.ireturn, 1) := by decide +kernel
abbrev cX0_branch : ByteArray := prog_1_method_5_code
def yX0_branch : MethodName := ⟨RX0, "branch", "(I)I"⟩
theorem dX0_branch_0 : decode cX0_branch 0 = .ok (.iload_n 1, 1) := by decide +kernel
theorem dX0_branch_1 : decode cX0_branch 1 = .ok (.ifCond .lt 13, 3) := by decide +kernel
theorem dX0_branch_4 : decode cX0_branch 4 = .ok (.aload_n 0, 1) := by decide +kernel
theorem dX0_branch_5 : decode cX0_branch 5 = .ok (.getfield 44, 3) := by decide +kernel
theorem dX0_branch_8 : decode cX0_branch 8 = .ok (.sipush 2000, 3) := by decide +kernel
theorem dX0_branch_11 : decode cX0_branch 11 = .ok (.if_icmp .ne 7, 3) := by decide +kernel
theorem dX0_branch_14 : decode cX0_branch 14 = .ok (.iconst (-1), 1) := by decide +kernel
theorem dX0_branch_15 : decode cX0_branch 15 = .ok (.goto 9, 3) := by decide +kernel
theorem dX0_branch_18 : decode cX0_branch 18 = .ok (.aload_n 0, 1) := by decide +kernel
theorem dX0_branch_19 : decode cX0_branch 19 = .ok (.iconst 2, 1) := by decide +kernel
theorem dX0_branch_20 : decode cX0_branch 20 = .ok (.iload_n 1, 1) := by decide +kernel
theorem dX0_branch_21 : decode cX0_branch 21 = .ok (.invokevirtual 51, 3) := by decide +kernel
theorem dX0_branch_24 : decode cX0_branch 24 = .ok (.ireturn, 1) := by decide +kernel
abbrev cX0_reach : ByteArray := prog_1_method_6_code
def yX0_reach : MethodName := ⟨RX0, "reach", "(I)Z"⟩
theorem dX0_reach_0 : decode cX0_reach 0 = .ok (.iload_n 1, 1) := by decide +kernel
theorem dX0_reach_1 : decode cX0_reach 1 = .ok (.iconst 1, 1) := by decide +kernel
theorem dX0_reach_2 : decode cX0_reach 2 = .ok (.if_icmp .lt 9, 3) := by decide +kernel
theorem dX0_reach_5 : decode cX0_reach 5 = .ok (.iload_n 1, 1) := by decide +kernel
theorem dX0_reach_6 : decode cX0_reach 6 = .ok (.ldc 58, 2) := by decide +kernel
theorem dX0_reach_8 : decode cX0_reach 8 = .ok (.if_icmp .le 5, 3) := by decide +kernel
theorem dX0_reach_11 : decode cX0_reach 11 = .ok (.iconst 0, 1) := by decide +kernel
theorem dX0_reach_12 : decode cX0_reach 12 = .ok (.ireturn, 1) := by decide +kernel
theorem dX0_reach_13 : decode cX0_reach 13 = .ok (.aload_n 0, 1) := by decide +kernel
theorem dX0_reach_14 : decode cX0_reach 14 = .ok (.iload_n 1, 1) := by decide +kernel
theorem dX0_reach_15 : decode cX0_reach 15 = .ok (.putfield 41, 3) := by decide +kernel
theorem dX0_reach_18 : decode cX0_reach 18 = .ok (.aload_n 0, 1) := by decide +kernel
theorem dX0_reach_19 : decode cX0_reach 19 = .ok (.iconst 0, 1) := by decide +kernel
theorem dX0_reach_20 : decode cX0_reach 20 = .ok (.putfield 47, 3) := by decide +kernel
theorem dX0_reach_23 : decode cX0_reach 23 = .ok (.iconst 1, 1) := by decide +kernel
theorem dX0_reach_24 : decode cX0_reach 24 = .ok (.ireturn, 1) := by decide +kernel
abbrev cX0_lay : ByteArray := prog_1_method_7_code
def yX0_lay : MethodName := ⟨RX0, "lay", "()I"⟩
theorem dX0_lay_0 : decode cX0_lay 0 = .ok (.aload_n 0, 1) := by decide +kernel
theorem dX0_lay_1 : decode cX0_lay 1 = .ok (.iconst 0, 1) := by decide +kernel
theorem dX0_lay_2 : decode cX0_lay 2 = .ok (.putfield 47, 3) := by decide +kernel
theorem dX0_lay_5 : decode cX0_lay 5 = .ok (.aload_n 0, 1) := by decide +kernel
theorem dX0_lay_6 : decode cX0_lay 6 = .ok (.iconst (-1), 1) := by decide +kernel
theorem dX0_lay_7 : decode cX0_lay 7 = .ok (.putfield 37, 3) := by decide +kernel
theorem dX0_lay_10 : decode cX0_lay 10 = .ok (.iconst 0, 1) := by decide +kernel
theorem dX0_lay_11 : decode cX0_lay 11 = .ok (.istore_n 1, 1) := by decide +kernel
theorem dX0_lay_12 : decode cX0_lay 12 = .ok (.iload_n 1, 1) := by decide +kernel
theorem dX0_lay_13 : decode cX0_lay 13 = .ok (.aload_n 0, 1) := by decide +kernel
theorem dX0_lay_14 : decode cX0_lay 14 = .ok (.getfield 44, 3) := by decide +kernel
theorem dX0_lay_17 : decode cX0_lay 17 = .ok (.if_icmp .ge 44, 3) := by decide +kernel
theorem dX0_lay_20 : decode cX0_lay 20 = .ok (.aload_n 0, 1) := by decide +kernel
theorem dX0_lay_21 : decode cX0_lay 21 = .ok (.getfield 37, 3) := by decide +kernel
theorem dX0_lay_24 : decode cX0_lay 24 = .ok (.ifCond .ge 37, 3) := by decide +kernel
theorem dX0_lay_27 : decode cX0_lay 27 = .ok (.aload_n 0, 1) := by decide +kernel
theorem dX0_lay_28 : decode cX0_lay 28 = .ok (.getfield 9, 3) := by decide +kernel
theorem dX0_lay_31 : decode cX0_lay 31 = .ok (.iload_n 1, 1) := by decide +kernel
theorem dX0_lay_32 : decode cX0_lay 32 = .ok (.iaload, 1) := by decide +kernel
theorem dX0_lay_33 : decode cX0_lay 33 = .ok (.iconst 2, 1) := by decide +kernel
theorem dX0_lay_34 : decode cX0_lay 34 = .ok (.if_icmp .ne 21, 3) := by decide +kernel
theorem dX0_lay_37 : decode cX0_lay 37 = .ok (.aload_n 0, 1) := by decide +kernel
theorem dX0_lay_38 : decode cX0_lay 38 = .ok (.getfield 13, 3) := by decide +kernel
theorem dX0_lay_41 : decode cX0_lay 41 = .ok (.iload_n 1, 1) := by decide +kernel
theorem dX0_lay_42 : decode cX0_lay 42 = .ok (.iaload, 1) := by decide +kernel
theorem dX0_lay_43 : decode cX0_lay 43 = .ok (.aload_n 0, 1) := by decide +kernel
theorem dX0_lay_44 : decode cX0_lay 44 = .ok (.getfield 55, 3) := by decide +kernel
theorem dX0_lay_47 : decode cX0_lay 47 = .ok (.if_icmp .lt 8, 3) := by decide +kernel
theorem dX0_lay_50 : decode cX0_lay 50 = .ok (.aload_n 0, 1) := by decide +kernel
theorem dX0_lay_51 : decode cX0_lay 51 = .ok (.iload_n 1, 1) := by decide +kernel
theorem dX0_lay_52 : decode cX0_lay 52 = .ok (.putfield 37, 3) := by decide +kernel
theorem dX0_lay_55 : decode cX0_lay 55 = .ok (.iinc 1 1, 3) := by decide +kernel
theorem dX0_lay_58 : decode cX0_lay 58 = .ok (.goto (-46), 3) := by decide +kernel
theorem dX0_lay_61 : decode cX0_lay 61 = .ok (.aload_n 0, 1) := by decide +kernel
theorem dX0_lay_62 : decode cX0_lay 62 = .ok (.getfield 37, 3) := by decide +kernel
theorem dX0_lay_65 : decode cX0_lay 65 = .ok (.ifCond .lt 5, 3) := by decide +kernel
theorem dX0_lay_68 : decode cX0_lay 68 = .ok (.iconst (-1), 1) := by decide +kernel
theorem dX0_lay_69 : decode cX0_lay 69 = .ok (.ireturn, 1) := by decide +kernel
theorem dX0_lay_70 : decode cX0_lay 70 = .ok (.aload_n 0, 1) := by decide +kernel
theorem dX0_lay_71 : decode cX0_lay 71 = .ok (.getfield 26, 3) := by decide +kernel
theorem dX0_lay_74 : decode cX0_lay 74 = .ok (.invokevirtual 59, 3) := by decide +kernel
theorem dX0_lay_77 : decode cX0_lay 77 = .ok (.aload_n 0, 1) := by decide +kernel
theorem dX0_lay_78 : decode cX0_lay 78 = .ok (.getfield 33, 3) := by decide +kernel
theorem dX0_lay_81 : decode cX0_lay 81 = .ok (.invokevirtual 62, 3) := by decide +kernel
theorem dX0_lay_84 : decode cX0_lay 84 = .ok (.aload_n 0, 1) := by decide +kernel
theorem dX0_lay_85 : decode cX0_lay 85 = .ok (.iconst 0, 1) := by decide +kernel
theorem dX0_lay_86 : decode cX0_lay 86 = .ok (.putfield 63, 3) := by decide +kernel
theorem dX0_lay_89 : decode cX0_lay 89 = .ok (.iconst 0, 1) := by decide +kernel
theorem dX0_lay_90 : decode cX0_lay 90 = .ok (.istore_n 1, 1) := by decide +kernel
theorem dX0_lay_91 : decode cX0_lay 91 = .ok (.iload_n 1, 1) := by decide +kernel
theorem dX0_lay_92 : decode cX0_lay 92 = .ok (.aload_n 0, 1) := by decide +kernel
theorem dX0_lay_93 : decode cX0_lay 93 = .ok (.getfield 44, 3) := by decide +kernel
theorem dX0_lay_96 : decode cX0_lay 96 = .ok (.if_icmp .ge 66, 3) := by decide +kernel
theorem dX0_lay_99 : decode cX0_lay 99 = .ok (.aload_n 0, 1) := by decide +kernel
theorem dX0_lay_100 : decode cX0_lay 100 = .ok (.getfield 16, 3) := by decide +kernel
theorem dX0_lay_103 : decode cX0_lay 103 = .ok (.iload_n 1, 1) := by decide +kernel
theorem dX0_lay_104 : decode cX0_lay 104 = .ok (.iconst 0, 1) := by decide +kernel
theorem dX0_lay_105 : decode cX0_lay 105 = .ok (.bastore, 1) := by decide +kernel
theorem dX0_lay_106 : decode cX0_lay 106 = .ok (.aload_n 0, 1) := by decide +kernel
theorem dX0_lay_107 : decode cX0_lay 107 = .ok (.getfield 9, 3) := by decide +kernel
theorem dX0_lay_110 : decode cX0_lay 110 = .ok (.iload_n 1, 1) := by decide +kernel
theorem dX0_lay_111 : decode cX0_lay 111 = .ok (.iaload, 1) := by decide +kernel
theorem dX0_lay_112 : decode cX0_lay 112 = .ok (.ifCond .ne 17, 3) := by decide +kernel
theorem dX0_lay_115 : decode cX0_lay 115 = .ok (.aload_n 0, 1) := by decide +kernel
theorem dX0_lay_116 : decode cX0_lay 116 = .ok (.getfield 26, 3) := by decide +kernel
theorem dX0_lay_119 : decode cX0_lay 119 = .ok (.iload_n 1, 1) := by decide +kernel
theorem dX0_lay_120 : decode cX0_lay 120 = .ok (.aload_n 0, 1) := by decide +kernel
theorem dX0_lay_121 : decode cX0_lay 121 = .ok (.getfield 13, 3) := by decide +kernel
theorem dX0_lay_124 : decode cX0_lay 124 = .ok (.iload_n 1, 1) := by decide +kernel
theorem dX0_lay_125 : decode cX0_lay 125 = .ok (.iaload, 1) := by decide +kernel
theorem dX0_lay_126 : decode cX0_lay 126 = .ok (.invokevirtual 66, 3) := by decide +kernel
theorem dX0_lay_129 : decode cX0_lay 129 = .ok (.aload_n 0, 1) := by decide +kernel
theorem dX0_lay_130 : decode cX0_lay 130 = .ok (.getfield 9, 3) := by decide +kernel
theorem dX0_lay_133 : decode cX0_lay 133 = .ok (.iload_n 1, 1) := by decide +kernel
theorem dX0_lay_134 : decode cX0_lay 134 = .ok (.iaload, 1) := by decide +kernel
theorem dX0_lay_135 : decode cX0_lay 135 = .ok (.iconst 2, 1) := by decide +kernel
theorem dX0_lay_136 : decode cX0_lay 136 = .ok (.if_icmp .ne 20, 3) := by decide +kernel
theorem dX0_lay_139 : decode cX0_lay 139 = .ok (.aload_n 0, 1) := by decide +kernel
theorem dX0_lay_140 : decode cX0_lay 140 = .ok (.getfield 26, 3) := by decide +kernel
theorem dX0_lay_143 : decode cX0_lay 143 = .ok (.iload_n 1, 1) := by decide +kernel
theorem dX0_lay_144 : decode cX0_lay 144 = .ok (.iconst 1, 1) := by decide +kernel
theorem dX0_lay_145 : decode cX0_lay 145 = .ok (.invokevirtual 66, 3) := by decide +kernel
theorem dX0_lay_148 : decode cX0_lay 148 = .ok (.aload_n 0, 1) := by decide +kernel
theorem dX0_lay_149 : decode cX0_lay 149 = .ok (.getfield 33, 3) := by decide +kernel
theorem dX0_lay_152 : decode cX0_lay 152 = .ok (.iload_n 1, 1) := by decide +kernel
theorem dX0_lay_153 : decode cX0_lay 153 = .ok (.invokevirtual 70, 3) := by decide +kernel
theorem dX0_lay_156 : decode cX0_lay 156 = .ok (.iinc 1 1, 3) := by decide +kernel
theorem dX0_lay_159 : decode cX0_lay 159 = .ok (.goto (-68), 3) := by decide +kernel
theorem dX0_lay_162 : decode cX0_lay 162 = .ok (.aload_n 0, 1) := by decide +kernel
theorem dX0_lay_163 : decode cX0_lay 163 = .ok (.getfield 33, 3) := by decide +kernel
theorem dX0_lay_166 : decode cX0_lay 166 = .ok (.invokevirtual 74, 3) := by decide +kernel
theorem dX0_lay_169 : decode cX0_lay 169 = .ok (.ifCond .ne 17, 3) := by decide +kernel
theorem dX0_lay_172 : decode cX0_lay 172 = .ok (.aload_n 0, 1) := by decide +kernel
theorem dX0_lay_173 : decode cX0_lay 173 = .ok (.aload_n 0, 1) := by decide +kernel
theorem dX0_lay_174 : decode cX0_lay 174 = .ok (.getfield 33, 3) := by decide +kernel
theorem dX0_lay_177 : decode cX0_lay 177 = .ok (.invokevirtual 78, 3) := by decide +kernel
theorem dX0_lay_180 : decode cX0_lay 180 = .ok (.invokevirtual 82, 3) := by decide +kernel
theorem dX0_lay_183 : decode cX0_lay 183 = .ok (.goto (-21), 3) := by decide +kernel
theorem dX0_lay_186 : decode cX0_lay 186 = .ok (.aload_n 0, 1) := by decide +kernel
theorem dX0_lay_187 : decode cX0_lay 187 = .ok (.iconst 1, 1) := by decide +kernel
theorem dX0_lay_188 : decode cX0_lay 188 = .ok (.putfield 47, 3) := by decide +kernel
theorem dX0_lay_191 : decode cX0_lay 191 = .ok (.aload_n 0, 1) := by decide +kernel
theorem dX0_lay_192 : decode cX0_lay 192 = .ok (.getfield 26, 3) := by decide +kernel
theorem dX0_lay_195 : decode cX0_lay 195 = .ok (.aload_n 0, 1) := by decide +kernel
theorem dX0_lay_196 : decode cX0_lay 196 = .ok (.getfield 44, 3) := by decide +kernel
theorem dX0_lay_199 : decode cX0_lay 199 = .ok (.invokevirtual 85, 3) := by decide +kernel
theorem dX0_lay_202 : decode cX0_lay 202 = .ok (.ireturn, 1) := by decide +kernel
abbrev cX0_look : ByteArray := prog_1_method_8_code
def yX0_look : MethodName := ⟨RX0, "look", "(I)V"⟩
theorem dX0_look_0 : decode cX0_look 0 = .ok (.aload_n 0, 1) := by decide +kernel
theorem dX0_look_1 : decode cX0_look 1 = .ok (.getfield 16, 3) := by decide +kernel
theorem dX0_look_4 : decode cX0_look 4 = .ok (.iload_n 1, 1) := by decide +kernel
theorem dX0_look_5 : decode cX0_look 5 = .ok (.baload, 1) := by decide +kernel
theorem dX0_look_6 : decode cX0_look 6 = .ok (.ifCond .ne 11, 3) := by decide +kernel
theorem dX0_look_9 : decode cX0_look 9 = .ok (.aload_n 0, 1) := by decide +kernel
theorem dX0_look_10 : decode cX0_look 10 = .ok (.iload_n 1, 1) := by decide +kernel
theorem dX0_look_11 : decode cX0_look 11 = .ok (.invokevirtual 89, 3) := by decide +kernel
theorem dX0_look_14 : decode cX0_look 14 = .ok (.ifCond .eq 4, 3) := by decide +kernel
theorem dX0_look_17 : decode cX0_look 17 = .ok (.return_, 1) := by decide +kernel
theorem dX0_look_18 : decode cX0_look 18 = .ok (.aload_n 0, 1) := by decide +kernel
theorem dX0_look_19 : decode cX0_look 19 = .ok (.getfield 16, 3) := by decide +kernel
theorem dX0_look_22 : decode cX0_look 22 = .ok (.iload_n 1, 1) := by decide +kernel
theorem dX0_look_23 : decode cX0_look 23 = .ok (.iconst 1, 1) := by decide +kernel
theorem dX0_look_24 : decode cX0_look 24 = .ok (.bastore, 1) := by decide +kernel
theorem dX0_look_25 : decode cX0_look 25 = .ok (.aload_n 0, 1) := by decide +kernel
theorem dX0_look_26 : decode cX0_look 26 = .ok (.dup, 1) := by decide +kernel
theorem dX0_look_27 : decode cX0_look 27 = .ok (.getfield 63, 3) := by decide +kernel
theorem dX0_look_30 : decode cX0_look 30 = .ok (.iconst 1, 1) := by decide +kernel
theorem dX0_look_31 : decode cX0_look 31 = .ok (.iadd, 1) := by decide +kernel
theorem dX0_look_32 : decode cX0_look 32 = .ok (.putfield 63, 3) := by decide +kernel
theorem dX0_look_35 : decode cX0_look 35 = .ok (.aload_n 0, 1) := by decide +kernel
theorem dX0_look_36 : decode cX0_look 36 = .ok (.getfield 26, 3) := by decide +kernel
theorem dX0_look_39 : decode cX0_look 39 = .ok (.iload_n 1, 1) := by decide +kernel
theorem dX0_look_40 : decode cX0_look 40 = .ok (.iconst 1, 1) := by decide +kernel
theorem dX0_look_41 : decode cX0_look 41 = .ok (.invokevirtual 66, 3) := by decide +kernel
theorem dX0_look_44 : decode cX0_look 44 = .ok (.iconst 0, 1) := by decide +kernel
theorem dX0_look_45 : decode cX0_look 45 = .ok (.istore_n 2, 1) := by decide +kernel
theorem dX0_look_46 : decode cX0_look 46 = .ok (.iload_n 2, 1) := by decide +kernel
theorem dX0_look_47 : decode cX0_look 47 = .ok (.aload_n 0, 1) := by decide +kernel
theorem dX0_look_48 : decode cX0_look 48 = .ok (.getfield 44, 3) := by decide +kernel
theorem dX0_look_51 : decode cX0_look 51 = .ok (.if_icmp .ge 71, 3) := by decide +kernel
theorem dX0_look_54 : decode cX0_look 54 = .ok (.aload_n 0, 1) := by decide +kernel
theorem dX0_look_55 : decode cX0_look 55 = .ok (.getfield 9, 3) := by decide +kernel
theorem dX0_look_58 : decode cX0_look 58 = .ok (.iload_n 2, 1) := by decide +kernel
theorem dX0_look_59 : decode cX0_look 59 = .ok (.iaload, 1) := by decide +kernel
theorem dX0_look_60 : decode cX0_look 60 = .ok (.iconst 2, 1) := by decide +kernel
theorem dX0_look_61 : decode cX0_look 61 = .ok (.if_icmp .ne 55, 3) := by decide +kernel
theorem dX0_look_64 : decode cX0_look 64 = .ok (.aload_n 0, 1) := by decide +kernel
theorem dX0_look_65 : decode cX0_look 65 = .ok (.getfield 16, 3) := by decide +kernel
theorem dX0_look_68 : decode cX0_look 68 = .ok (.iload_n 2, 1) := by decide +kernel
theorem dX0_look_69 : decode cX0_look 69 = .ok (.baload, 1) := by decide +kernel
theorem dX0_look_70 : decode cX0_look 70 = .ok (.ifCond .eq 6, 3) := by decide +kernel
theorem dX0_look_73 : decode cX0_look 73 = .ok (.goto 43, 3) := by decide +kernel
theorem dX0_look_76 : decode cX0_look 76 = .ok (.aload_n 0, 1) := by decide +kernel
theorem dX0_look_77 : decode cX0_look 77 = .ok (.getfield 20, 3) := by decide +kernel
theorem dX0_look_80 : decode cX0_look 80 = .ok (.aload_n 0, 1) := by decide +kernel
theorem dX0_look_81 : decode cX0_look 81 = .ok (.getfield 13, 3) := by decide +kernel
theorem dX0_look_84 : decode cX0_look 84 = .ok (.iload_n 2, 1) := by decide +kernel
theorem dX0_look_85 : decode cX0_look 85 = .ok (.iaload, 1) := by decide +kernel
theorem dX0_look_86 : decode cX0_look 86 = .ok (.iaload, 1) := by decide +kernel
theorem dX0_look_87 : decode cX0_look 87 = .ok (.istore_n 3, 1) := by decide +kernel
theorem dX0_look_88 : decode cX0_look 88 = .ok (.iload_n 2, 1) := by decide +kernel
theorem dX0_look_89 : decode cX0_look 89 = .ok (.iload_n 1, 1) := by decide +kernel
theorem dX0_look_90 : decode cX0_look 90 = .ok (.if_icmp .gt 8, 3) := by decide +kernel
theorem dX0_look_93 : decode cX0_look 93 = .ok (.iload_n 1, 1) := by decide +kernel
theorem dX0_look_94 : decode cX0_look 94 = .ok (.iload_n 3, 1) := by decide +kernel
theorem dX0_look_95 : decode cX0_look 95 = .ok (.if_icmp .lt 13, 3) := by decide +kernel
theorem dX0_look_98 : decode cX0_look 98 = .ok (.iload_n 3, 1) := by decide +kernel
theorem dX0_look_99 : decode cX0_look 99 = .ok (.iload_n 1, 1) := by decide +kernel
theorem dX0_look_100 : decode cX0_look 100 = .ok (.if_icmp .ge 16, 3) := by decide +kernel
theorem dX0_look_103 : decode cX0_look 103 = .ok (.iload_n 1, 1) := by decide +kernel
theorem dX0_look_104 : decode cX0_look 104 = .ok (.iload_n 2, 1) := by decide +kernel
theorem dX0_look_105 : decode cX0_look 105 = .ok (.if_icmp .ge 11, 3) := by decide +kernel
theorem dX0_look_108 : decode cX0_look 108 = .ok (.aload_n 0, 1) := by decide +kernel
theorem dX0_look_109 : decode cX0_look 109 = .ok (.getfield 33, 3) := by decide +kernel
theorem dX0_look_112 : decode cX0_look 112 = .ok (.iload_n 2, 1) := by decide +kernel
theorem dX0_look_113 : decode cX0_look 113 = .ok (.invokevirtual 70, 3) := by decide +kernel
theorem dX0_look_116 : decode cX0_look 116 = .ok (.iinc 2 1, 3) := by decide +kernel
theorem dX0_look_119 : decode cX0_look 119 = .ok (.goto (-73), 3) := by decide +kernel
theorem dX0_look_122 : decode cX0_look 122 = .ok (.return_, 1) := by decide +kernel
abbrev cX0_reaches : ByteArray := prog_1_method_9_code
def yX0_reaches : MethodName := ⟨RX0, "reaches", "(I)Z"⟩
theorem dX0_reaches_0 : decode cX0_reaches 0 = .ok (.aload_n 0, 1) := by decide +kernel
theorem dX0_reaches_1 : decode cX0_reaches 1 = .ok (.getfield 26, 3) := by decide +kernel
theorem dX0_reaches_4 : decode cX0_reaches 4 = .ok (.aload_n 0, 1) := by decide +kernel
theorem dX0_reaches_5 : decode cX0_reaches 5 = .ok (.getfield 20, 3) := by decide +kernel
theorem dX0_reaches_8 : decode cX0_reaches 8 = .ok (.aload_n 0, 1) := by decide +kernel
theorem dX0_reaches_9 : decode cX0_reaches 9 = .ok (.getfield 13, 3) := by decide +kernel
theorem dX0_reaches_12 : decode cX0_reaches 12 = .ok (.iload_n 1, 1) := by decide +kernel
theorem dX0_reaches_13 : decode cX0_reaches 13 = .ok (.iaload, 1) := by decide +kernel
theorem dX0_reaches_14 : decode cX0_reaches 14 = .ok (.iaload, 1) := by decide +kernel
theorem dX0_reaches_15 : decode cX0_reaches 15 = .ok (.invokevirtual 85, 3) := by decide +kernel
theorem dX0_reaches_18 : decode cX0_reaches 18 = .ok (.aload_n 0, 1) := by decide +kernel
theorem dX0_reaches_19 : decode cX0_reaches 19 = .ok (.getfield 26, 3) := by decide +kernel
theorem dX0_reaches_22 : decode cX0_reaches 22 = .ok (.iload_n 1, 1) := by decide +kernel
theorem dX0_reaches_23 : decode cX0_reaches 23 = .ok (.invokevirtual 85, 3) := by decide +kernel
theorem dX0_reaches_26 : decode cX0_reaches 26 = .ok (.isub, 1) := by decide +kernel
theorem dX0_reaches_27 : decode cX0_reaches 27 = .ok (.istore_n 2, 1) := by decide +kernel
theorem dX0_reaches_28 : decode cX0_reaches 28 = .ok (.iload_n 2, 1) := by decide +kernel
theorem dX0_reaches_29 : decode cX0_reaches 29 = .ok (.aload_n 0, 1) := by decide +kernel
theorem dX0_reaches_30 : decode cX0_reaches 30 = .ok (.getfield 41, 3) := by decide +kernel
theorem dX0_reaches_33 : decode cX0_reaches 33 = .ok (.ineg, 1) := by decide +kernel
theorem dX0_reaches_34 : decode cX0_reaches 34 = .ok (.if_icmp .lt 15, 3) := by decide +kernel
theorem dX0_reaches_37 : decode cX0_reaches 37 = .ok (.iload_n 2, 1) := by decide +kernel
theorem dX0_reaches_38 : decode cX0_reaches 38 = .ok (.aload_n 0, 1) := by decide +kernel
theorem dX0_reaches_39 : decode cX0_reaches 39 = .ok (.getfield 41, 3) := by decide +kernel
theorem dX0_reaches_42 : decode cX0_reaches 42 = .ok (.if_icmp .gt 7, 3) := by decide +kernel
theorem dX0_reaches_45 : decode cX0_reaches 45 = .ok (.iconst 1, 1) := by decide +kernel
theorem dX0_reaches_46 : decode cX0_reaches 46 = .ok (.goto 4, 3) := by decide +kernel
theorem dX0_reaches_49 : decode cX0_reaches 49 = .ok (.iconst 0, 1) := by decide +kernel
theorem dX0_reaches_50 : decode cX0_reaches 50 = .ok (.ireturn, 1) := by decide +kernel
abbrev cX0_least : ByteArray := prog_1_method_10_code
def yX0_least : MethodName := ⟨RX0, "least", "()I"⟩
theorem dX0_least_0 : decode cX0_least 0 = .ok (.aload_n 0, 1) := by decide +kernel
theorem dX0_least_1 : decode cX0_least 1 = .ok (.getfield 37, 3) := by decide +kernel
theorem dX0_least_4 : decode cX0_least 4 = .ok (.ireturn, 1) := by decide +kernel
abbrev cX0_place : ByteArray := prog_1_method_12_code
def yX0_place : MethodName := ⟨RX0, "place", "(I)I"⟩
theorem dX0_place_0 : decode cX0_place 0 = .ok (.aload_n 0, 1) := by decide +kernel
theorem dX0_place_1 : decode cX0_place 1 = .ok (.iload_n 1, 1) := by decide +kernel
theorem dX0_place_2 : decode cX0_place 2 = .ok (.invokevirtual 93, 3) := by decide +kernel
theorem dX0_place_5 : decode cX0_place 5 = .ok (.ifCond .eq 14, 3) := by decide +kernel
theorem dX0_place_8 : decode cX0_place 8 = .ok (.aload_n 0, 1) := by decide +kernel
theorem dX0_place_9 : decode cX0_place 9 = .ok (.getfield 26, 3) := by decide +kernel
theorem dX0_place_12 : decode cX0_place 12 = .ok (.iload_n 1, 1) := by decide +kernel
theorem dX0_place_13 : decode cX0_place 13 = .ok (.invokevirtual 85, 3) := by decide +kernel
theorem dX0_place_16 : decode cX0_place 16 = .ok (.goto 4, 3) := by decide +kernel
theorem dX0_place_19 : decode cX0_place 19 = .ok (.iconst (-1), 1) := by decide +kernel
theorem dX0_place_20 : decode cX0_place 20 = .ok (.ireturn, 1) := by decide +kernel
abbrev cX0_isItem : ByteArray := prog_1_method_11_code
def yX0_isItem : MethodName := ⟨RX0, "isItem", "(I)Z"⟩
theorem dX0_isItem_0 : decode cX0_isItem 0 = .ok (.aload_n 0, 1) := by decide +kernel
theorem dX0_isItem_1 : decode cX0_isItem 1 = .ok (.getfield 47, 3) := by decide +kernel
theorem dX0_isItem_4 : decode cX0_isItem 4 = .ok (.ifCond .eq 19, 3) := by decide +kernel
theorem dX0_isItem_7 : decode cX0_isItem 7 = .ok (.iload_n 1, 1) := by decide +kernel
theorem dX0_isItem_8 : decode cX0_isItem 8 = .ok (.ifCond .lt 15, 3) := by decide +kernel
theorem dX0_isItem_11 : decode cX0_isItem 11 = .ok (.iload_n 1, 1) := by decide +kernel
theorem dX0_isItem_12 : decode cX0_isItem 12 = .ok (.aload_n 0, 1) := by decide +kernel
theorem dX0_isItem_13 : decode cX0_isItem 13 = .ok (.getfield 44, 3) := by decide +kernel
theorem dX0_isItem_16 : decode cX0_isItem 16 = .ok (.if_icmp .ge 7, 3) := by decide +kernel
theorem dX0_isItem_19 : decode cX0_isItem 19 = .ok (.iconst 1, 1) := by decide +kernel
theorem dX0_isItem_20 : decode cX0_isItem 20 = .ok (.goto 4, 3) := by decide +kernel
theorem dX0_isItem_23 : decode cX0_isItem 23 = .ok (.iconst 0, 1) := by decide +kernel
theorem dX0_isItem_24 : decode cX0_isItem 24 = .ok (.ireturn, 1) := by decide +kernel
abbrev cX0_isLong : ByteArray := prog_1_method_13_code
def yX0_isLong : MethodName := ⟨RX0, "isLong", "(I)Z"⟩
theorem dX0_isLong_0 : decode cX0_isLong 0 = .ok (.aload_n 0, 1) := by decide +kernel
theorem dX0_isLong_1 : decode cX0_isLong 1 = .ok (.iload_n 1, 1) := by decide +kernel
theorem dX0_isLong_2 : decode cX0_isLong 2 = .ok (.invokevirtual 93, 3) := by decide +kernel
theorem dX0_isLong_5 : decode cX0_isLong 5 = .ok (.ifCond .eq 16, 3) := by decide +kernel
theorem dX0_isLong_8 : decode cX0_isLong 8 = .ok (.aload_n 0, 1) := by decide +kernel
theorem dX0_isLong_9 : decode cX0_isLong 9 = .ok (.getfield 16, 3) := by decide +kernel
theorem dX0_isLong_12 : decode cX0_isLong 12 = .ok (.iload_n 1, 1) := by decide +kernel
theorem dX0_isLong_13 : decode cX0_isLong 13 = .ok (.baload, 1) := by decide +kernel
theorem dX0_isLong_14 : decode cX0_isLong 14 = .ok (.ifCond .eq 7, 3) := by decide +kernel
theorem dX0_isLong_17 : decode cX0_isLong 17 = .ok (.iconst 1, 1) := by decide +kernel
theorem dX0_isLong_18 : decode cX0_isLong 18 = .ok (.goto 4, 3) := by decide +kernel
theorem dX0_isLong_21 : decode cX0_isLong 21 = .ok (.iconst 0, 1) := by decide +kernel
theorem dX0_isLong_22 : decode cX0_isLong 22 = .ok (.ireturn, 1) := by decide +kernel
abbrev cX0_longs : ByteArray := prog_1_method_14_code
def yX0_longs : MethodName := ⟨RX0, "longs", "()I"⟩
theorem dX0_longs_0 : decode cX0_longs 0 = .ok (.aload_n 0, 1) := by decide +kernel
theorem dX0_longs_1 : decode cX0_longs 1 = .ok (.getfield 47, 3) := by decide +kernel
theorem dX0_longs_4 : decode cX0_longs 4 = .ok (.ifCond .eq 10, 3) := by decide +kernel
theorem dX0_longs_7 : decode cX0_longs 7 = .ok (.aload_n 0, 1) := by decide +kernel
theorem dX0_longs_8 : decode cX0_longs 8 = .ok (.getfield 63, 3) := by decide +kernel
theorem dX0_longs_11 : decode cX0_longs 11 = .ok (.goto 4, 3) := by decide +kernel
theorem dX0_longs_14 : decode cX0_longs 14 = .ok (.iconst (-1), 1) := by decide +kernel
theorem dX0_longs_15 : decode cX0_longs 15 = .ok (.ireturn, 1) := by decide +kernel
abbrev cX0_clear : ByteArray := prog_1_method_15_code
def yX0_clear : MethodName := ⟨RX0, "clear", "()V"⟩
theorem dX0_clear_0 : decode cX0_clear 0 = .ok (.aload_n 0, 1) := by decide +kernel
theorem dX0_clear_1 : decode cX0_clear 1 = .ok (.iconst 0, 1) := by decide +kernel
theorem dX0_clear_2 : decode cX0_clear 2 = .ok (.putfield 44, 3) := by decide +kernel
theorem dX0_clear_5 : decode cX0_clear 5 = .ok (.aload_n 0, 1) := by decide +kernel
theorem dX0_clear_6 : decode cX0_clear 6 = .ok (.iconst 0, 1) := by decide +kernel
theorem dX0_clear_7 : decode cX0_clear 7 = .ok (.putfield 55, 3) := by decide +kernel
theorem dX0_clear_10 : decode cX0_clear 10 = .ok (.aload_n 0, 1) := by decide +kernel
theorem dX0_clear_11 : decode cX0_clear 11 = .ok (.iconst 0, 1) := by decide +kernel
theorem dX0_clear_12 : decode cX0_clear 12 = .ok (.putfield 47, 3) := by decide +kernel
theorem dX0_clear_15 : decode cX0_clear 15 = .ok (.return_, 1) := by decide +kernel
abbrev cX0_items : ByteArray := prog_1_method_16_code
def yX0_items : MethodName := ⟨RX0, "items", "()I"⟩
theorem dX0_items_0 : decode cX0_items 0 = .ok (.aload_n 0, 1) := by decide +kernel
theorem dX0_items_1 : decode cX0_items 1 = .ok (.getfield 44, 3) := by decide +kernel
theorem dX0_items_4 : decode cX0_items 4 = .ok (.ireturn, 1) := by decide +kernel
abbrev cX0_marks : ByteArray := prog_1_method_17_code
def yX0_marks : MethodName := ⟨RX0, "marks", "()I"⟩
theorem dX0_marks_0 : decode cX0_marks 0 = .ok (.aload_n 0, 1) := by decide +kernel
theorem dX0_marks_1 : decode cX0_marks 1 = .ok (.getfield 55, 3) := by decide +kernel
theorem dX0_marks_4 : decode cX0_marks 4 = .ok (.ireturn, 1) := by decide +kernel
theorem q8 : (Jvm.Cond.initialized "BranchLengths") ∈ lw_all := lw_g (lw_at lw_m1 1 rfl) rfl
theorem q13 : (Jvm.Cond.instantiable "BranchLengths" (12 : Nat)) ∈ lw_all := lw_g (lw_at lw_m1 6 rfl) rfl
theorem q15 : (Jvm.Cond.instanceMethod ({ cls := "BranchLengths", name := "<init>", desc := "()V" } : Jvm.MethodName)) ∈ lw_all := lw_g (lw_at lw_m1 8 rfl) rfl
theorem q16 : (Jvm.Cond.code ({ cls := "BranchLengths", name := "<init>", desc := "()V" } : Jvm.MethodName) prog_1_method_1_code (1 : Nat) (Option.none : Option Jvm.ClassFile.FieldType)) ∈ lw_all := lw_g (lw_at lw_m1 9 rfl) rfl
theorem q17 : (Jvm.Cond.methodLink "BranchLengths" (1 : Nat) ({ cls := "java/lang/Object", name := "<init>", desc := "()V" } : Jvm.MethodName)) ∈ lw_all := lw_g (lw_at lw_m1 10 rfl) rfl
theorem q20 : (Jvm.Cond.classLink "BranchLengths" (23 : Nat) "BranchLengths$Sums") ∈ lw_all := lw_g (lw_at lw_m1 13 rfl) rfl
theorem q22 : (Jvm.Cond.methodLinkNest "BranchLengths" (25 : Nat) ({ cls := "BranchLengths$Sums", name := "<init>", desc := "()V" } : Jvm.MethodName) "BranchLengths") ∈ lw_tbl := lw_at lw_m1 15 rfl
theorem q32 : (Jvm.Cond.classLink "BranchLengths" (30 : Nat) "BranchLengths$Ring") ∈ lw_all := lw_g (lw_at lw_m1 25 rfl) rfl
theorem q34 : (Jvm.Cond.methodLinkNest "BranchLengths" (32 : Nat) ({ cls := "BranchLengths$Ring", name := "<init>", desc := "()V" } : Jvm.MethodName) "BranchLengths") ∈ lw_tbl := lw_at lw_m1 27 rfl
theorem q51 : (Jvm.Cond.fieldLink "BranchLengths" (9 : Nat) "BranchLengths" "kind" "[I") ∈ lw_all := lw_g (lw_at lw_m1 44 rfl) rfl
theorem q52 : (Jvm.Cond.fieldLink "BranchLengths" (13 : Nat) "BranchLengths" "number" "[I") ∈ lw_all := lw_g (lw_at lw_m1 45 rfl) rfl
theorem q53 : (Jvm.Cond.fieldLink "BranchLengths" (16 : Nat) "BranchLengths" "isLong" "[Z") ∈ lw_all := lw_g (lw_at lw_m1 46 rfl) rfl
theorem q54 : (Jvm.Cond.fieldLink "BranchLengths" (20 : Nat) "BranchLengths" "markAt" "[I") ∈ lw_all := lw_g (lw_at lw_m1 47 rfl) rfl
theorem q55 : (Jvm.Cond.fieldLink "BranchLengths" (26 : Nat) "BranchLengths" "sums" "LBranchLengths$Sums;") ∈ lw_all := lw_g (lw_at lw_m1 48 rfl) rfl
theorem q56 : (Jvm.Cond.fieldLink "BranchLengths" (33 : Nat) "BranchLengths" "ring" "LBranchLengths$Ring;") ∈ lw_all := lw_g (lw_at lw_m1 49 rfl) rfl
theorem q57 : (Jvm.Cond.fieldLink "BranchLengths" (44 : Nat) "BranchLengths" "items" "I") ∈ lw_all := lw_g (lw_at lw_m1 50 rfl) rfl
theorem q58 : (Jvm.Cond.fieldLink "BranchLengths" (55 : Nat) "BranchLengths" "marks" "I") ∈ lw_all := lw_g (lw_at lw_m1 51 rfl) rfl
theorem q59 : (Jvm.Cond.fieldLink "BranchLengths" (63 : Nat) "BranchLengths" "longs" "I") ∈ lw_all := lw_g (lw_at lw_m1 52 rfl) rfl
theorem q60 : (Jvm.Cond.fieldLink "BranchLengths" (37 : Nat) "BranchLengths" "least" "I") ∈ lw_all := lw_g (lw_at lw_m1 53 rfl) rfl
theorem q61 : (Jvm.Cond.fieldLink "BranchLengths" (41 : Nat) "BranchLengths" "reach" "I") ∈ lw_all := lw_g (lw_at lw_m1 54 rfl) rfl
theorem q62 : (Jvm.Cond.fieldLink "BranchLengths" (47 : Nat) "BranchLengths" "isLaid" "Z") ∈ lw_all := lw_g (lw_at lw_m1 55 rfl) rfl
theorem q63 : (Jvm.Cond.laysFinal "BranchLengths" "BranchLengths" "kind" "[I") ∈ lw_all := lw_g (lw_at lw_m1 56 rfl) rfl
theorem q64 : (Jvm.Cond.soleField "BranchLengths" "kind") ∈ lw_all := lw_g (lw_at lw_m1 57 rfl) rfl
theorem q65 : (Jvm.Cond.laysFinal "BranchLengths" "BranchLengths" "number" "[I") ∈ lw_all := lw_g (lw_at lw_m1 58 rfl) rfl
theorem q66 : (Jvm.Cond.soleField "BranchLengths" "number") ∈ lw_all := lw_g (lw_at lw_m1 59 rfl) rfl
theorem q67 : (Jvm.Cond.laysFinal "BranchLengths" "BranchLengths" "isLong" "[Z") ∈ lw_all := lw_g (lw_at lw_m1 60 rfl) rfl
theorem q68 : (Jvm.Cond.soleField "BranchLengths" "isLong") ∈ lw_all := lw_g (lw_at lw_m1 61 rfl) rfl
theorem q69 : (Jvm.Cond.laysFinal "BranchLengths" "BranchLengths" "markAt" "[I") ∈ lw_all := lw_g (lw_at lw_m1 62 rfl) rfl
theorem q70 : (Jvm.Cond.soleField "BranchLengths" "markAt") ∈ lw_all := lw_g (lw_at lw_m1 63 rfl) rfl
theorem q71 : (Jvm.Cond.laysFinal "BranchLengths" "BranchLengths" "sums" "LBranchLengths$Sums;") ∈ lw_all := lw_g (lw_at lw_m1 64 rfl) rfl
theorem q72 : (Jvm.Cond.soleField "BranchLengths" "sums") ∈ lw_all := lw_g (lw_at lw_m1 65 rfl) rfl
theorem q73 : (Jvm.Cond.laysFinal "BranchLengths" "BranchLengths" "ring" "LBranchLengths$Ring;") ∈ lw_all := lw_g (lw_at lw_m1 66 rfl) rfl
theorem q74 : (Jvm.Cond.soleField "BranchLengths" "ring") ∈ lw_all := lw_g (lw_at lw_m1 67 rfl) rfl
theorem q75 : (Jvm.Cond.lays "BranchLengths" "BranchLengths" "items" "I") ∈ lw_all := lw_g (lw_at lw_m1 68 rfl) rfl
theorem q76 : (Jvm.Cond.soleField "BranchLengths" "items") ∈ lw_all := lw_g (lw_at lw_m1 69 rfl) rfl
theorem q77 : (Jvm.Cond.lays "BranchLengths" "BranchLengths" "marks" "I") ∈ lw_all := lw_g (lw_at lw_m1 70 rfl) rfl
theorem q78 : (Jvm.Cond.soleField "BranchLengths" "marks") ∈ lw_all := lw_g (lw_at lw_m1 71 rfl) rfl
theorem q79 : (Jvm.Cond.lays "BranchLengths" "BranchLengths" "longs" "I") ∈ lw_all := lw_g (lw_at lw_m1 72 rfl) rfl
theorem q80 : (Jvm.Cond.soleField "BranchLengths" "longs") ∈ lw_all := lw_g (lw_at lw_m1 73 rfl) rfl
theorem q81 : (Jvm.Cond.lays "BranchLengths" "BranchLengths" "least" "I") ∈ lw_all := lw_g (lw_at lw_m1 74 rfl) rfl
theorem q82 : (Jvm.Cond.soleField "BranchLengths" "least") ∈ lw_all := lw_g (lw_at lw_m1 75 rfl) rfl
theorem q83 : (Jvm.Cond.lays "BranchLengths" "BranchLengths" "reach" "I") ∈ lw_all := lw_g (lw_at lw_m1 76 rfl) rfl
theorem q84 : (Jvm.Cond.soleField "BranchLengths" "reach") ∈ lw_all := lw_g (lw_at lw_m1 77 rfl) rfl
theorem q85 : (Jvm.Cond.lays "BranchLengths" "BranchLengths" "isLaid" "Z") ∈ lw_all := lw_g (lw_at lw_m1 78 rfl) rfl
theorem q86 : (Jvm.Cond.soleField "BranchLengths" "isLaid") ∈ lw_all := lw_g (lw_at lw_m1 79 rfl) rfl
theorem q87 : (Jvm.Cond.superclass "BranchLengths" "java/lang/Object") ∈ lw_all := lw_g (lw_at lw_m1 80 rfl) rfl
theorem q89 : (Jvm.Cond.instanceMethod ({ cls := "BranchLengths", name := "stretch", desc := "(I)I" } : Jvm.MethodName)) ∈ lw_all := lw_g (lw_at lw_m1 82 rfl) rfl
theorem q90 : (Jvm.Cond.selects "BranchLengths" ({ cls := "BranchLengths", name := "stretch", desc := "(I)I" } : Jvm.MethodName) ({ cls := "BranchLengths", name := "stretch", desc := "(I)I" } : Jvm.MethodName)) ∈ lw_all := lw_g (lw_at lw_m1 83 rfl) rfl
theorem q91 : (Jvm.Cond.code ({ cls := "BranchLengths", name := "stretch", desc := "(I)I" } : Jvm.MethodName) prog_1_method_3_code (2 : Nat) (Option.some Jvm.ClassFile.FieldType.int)) ∈ lw_all := lw_g (lw_at lw_m1 84 rfl) rfl
theorem q92 : (Jvm.Cond.methodLink "BranchLengths" (51 : Nat) ({ cls := "BranchLengths", name := "item", desc := "(II)I" } : Jvm.MethodName)) ∈ lw_all := lw_g (lw_at lw_m1 85 rfl) rfl
theorem q93 : (Jvm.Cond.privateMethod ({ cls := "BranchLengths", name := "item", desc := "(II)I" } : Jvm.MethodName)) ∈ lw_tbl := lw_at lw_m1 86 rfl
theorem q94 : (Jvm.Cond.instanceMethod ({ cls := "BranchLengths", name := "item", desc := "(II)I" } : Jvm.MethodName)) ∈ lw_all := lw_g (lw_at lw_m1 87 rfl) rfl
theorem q95 : (Jvm.Cond.code ({ cls := "BranchLengths", name := "item", desc := "(II)I" } : Jvm.MethodName) prog_1_method_2_code (3 : Nat) (Option.some Jvm.ClassFile.FieldType.int)) ∈ lw_all := lw_g (lw_at lw_m1 88 rfl) rfl
theorem q97 : (Jvm.Cond.instanceMethod ({ cls := "BranchLengths", name := "mark", desc := "()I" } : Jvm.MethodName)) ∈ lw_all := lw_g (lw_at lw_m1 90 rfl) rfl
theorem q98 : (Jvm.Cond.selects "BranchLengths" ({ cls := "BranchLengths", name := "mark", desc := "()I" } : Jvm.MethodName) ({ cls := "BranchLengths", name := "mark", desc := "()I" } : Jvm.MethodName)) ∈ lw_all := lw_g (lw_at lw_m1 91 rfl) rfl
theorem q99 : (Jvm.Cond.code ({ cls := "BranchLengths", name := "mark", desc := "()I" } : Jvm.MethodName) prog_1_method_4_code (1 : Nat) (Option.some Jvm.ClassFile.FieldType.int)) ∈ lw_all := lw_g (lw_at lw_m1 92 rfl) rfl
theorem q101 : (Jvm.Cond.instanceMethod ({ cls := "BranchLengths", name := "branch", desc := "(I)I" } : Jvm.MethodName)) ∈ lw_all := lw_g (lw_at lw_m1 94 rfl) rfl
theorem q102 : (Jvm.Cond.selects "BranchLengths" ({ cls := "BranchLengths", name := "branch", desc := "(I)I" } : Jvm.MethodName) ({ cls := "BranchLengths", name := "branch", desc := "(I)I" } : Jvm.MethodName)) ∈ lw_all := lw_g (lw_at lw_m1 95 rfl) rfl
theorem q103 : (Jvm.Cond.code ({ cls := "BranchLengths", name := "branch", desc := "(I)I" } : Jvm.MethodName) prog_1_method_5_code (2 : Nat) (Option.some Jvm.ClassFile.FieldType.int)) ∈ lw_all := lw_g (lw_at lw_m1 96 rfl) rfl
theorem q105 : (Jvm.Cond.instanceMethod ({ cls := "BranchLengths", name := "reach", desc := "(I)Z" } : Jvm.MethodName)) ∈ lw_all := lw_g (lw_at lw_m1 98 rfl) rfl
theorem q106 : (Jvm.Cond.selects "BranchLengths" ({ cls := "BranchLengths", name := "reach", desc := "(I)Z" } : Jvm.MethodName) ({ cls := "BranchLengths", name := "reach", desc := "(I)Z" } : Jvm.MethodName)) ∈ lw_all := lw_g (lw_at lw_m1 99 rfl) rfl
theorem q107 : (Jvm.Cond.code ({ cls := "BranchLengths", name := "reach", desc := "(I)Z" } : Jvm.MethodName) prog_1_method_6_code (2 : Nat) (Option.some Jvm.ClassFile.FieldType.boolean)) ∈ lw_all := lw_g (lw_at lw_m1 100 rfl) rfl
theorem q108 : (Jvm.Cond.constant "BranchLengths" (58 : Nat) (100000 : Int32)) ∈ lw_all := lw_g (lw_at lw_m1 101 rfl) rfl
theorem q110 : (Jvm.Cond.instanceMethod ({ cls := "BranchLengths", name := "lay", desc := "()I" } : Jvm.MethodName)) ∈ lw_all := lw_g (lw_at lw_m1 103 rfl) rfl
theorem q111 : (Jvm.Cond.selects "BranchLengths" ({ cls := "BranchLengths", name := "lay", desc := "()I" } : Jvm.MethodName) ({ cls := "BranchLengths", name := "lay", desc := "()I" } : Jvm.MethodName)) ∈ lw_all := lw_g (lw_at lw_m1 104 rfl) rfl
theorem q112 : (Jvm.Cond.code ({ cls := "BranchLengths", name := "lay", desc := "()I" } : Jvm.MethodName) prog_1_method_7_code (2 : Nat) (Option.some Jvm.ClassFile.FieldType.int)) ∈ lw_all := lw_g (lw_at lw_m1 105 rfl) rfl
theorem q113 : (Jvm.Cond.methodLink "BranchLengths" (59 : Nat) ({ cls := "BranchLengths$Sums", name := "clear", desc := "()V" } : Jvm.MethodName)) ∈ lw_all := lw_g (lw_at lw_m1 106 rfl) rfl
theorem q117 : (Jvm.Cond.methodLink "BranchLengths" (62 : Nat) ({ cls := "BranchLengths$Ring", name := "clear", desc := "()V" } : Jvm.MethodName)) ∈ lw_all := lw_g (lw_at lw_m1 110 rfl) rfl
theorem q121 : (Jvm.Cond.methodLink "BranchLengths" (66 : Nat) ({ cls := "BranchLengths$Sums", name := "add", desc := "(II)V" } : Jvm.MethodName)) ∈ lw_all := lw_g (lw_at lw_m1 114 rfl) rfl
theorem q125 : (Jvm.Cond.methodLink "BranchLengths" (70 : Nat) ({ cls := "BranchLengths$Ring", name := "put", desc := "(I)V" } : Jvm.MethodName)) ∈ lw_all := lw_g (lw_at lw_m1 118 rfl) rfl
theorem q129 : (Jvm.Cond.methodLink "BranchLengths" (74 : Nat) ({ cls := "BranchLengths$Ring", name := "isEmpty", desc := "()Z" } : Jvm.MethodName)) ∈ lw_all := lw_g (lw_at lw_m1 122 rfl) rfl
theorem q133 : (Jvm.Cond.methodLink "BranchLengths" (78 : Nat) ({ cls := "BranchLengths$Ring", name := "take", desc := "()I" } : Jvm.MethodName)) ∈ lw_all := lw_g (lw_at lw_m1 126 rfl) rfl
theorem q137 : (Jvm.Cond.methodLink "BranchLengths" (82 : Nat) ({ cls := "BranchLengths", name := "look", desc := "(I)V" } : Jvm.MethodName)) ∈ lw_all := lw_g (lw_at lw_m1 130 rfl) rfl
theorem q138 : (Jvm.Cond.privateMethod ({ cls := "BranchLengths", name := "look", desc := "(I)V" } : Jvm.MethodName)) ∈ lw_tbl := lw_at lw_m1 131 rfl
theorem q139 : (Jvm.Cond.instanceMethod ({ cls := "BranchLengths", name := "look", desc := "(I)V" } : Jvm.MethodName)) ∈ lw_all := lw_g (lw_at lw_m1 132 rfl) rfl
theorem q140 : (Jvm.Cond.code ({ cls := "BranchLengths", name := "look", desc := "(I)V" } : Jvm.MethodName) prog_1_method_8_code (4 : Nat) (Option.none : Option Jvm.ClassFile.FieldType)) ∈ lw_all := lw_g (lw_at lw_m1 133 rfl) rfl
theorem q141 : (Jvm.Cond.methodLink "BranchLengths" (89 : Nat) ({ cls := "BranchLengths", name := "reaches", desc := "(I)Z" } : Jvm.MethodName)) ∈ lw_all := lw_g (lw_at lw_m1 134 rfl) rfl
theorem q142 : (Jvm.Cond.privateMethod ({ cls := "BranchLengths", name := "reaches", desc := "(I)Z" } : Jvm.MethodName)) ∈ lw_tbl := lw_at lw_m1 135 rfl
theorem q143 : (Jvm.Cond.instanceMethod ({ cls := "BranchLengths", name := "reaches", desc := "(I)Z" } : Jvm.MethodName)) ∈ lw_all := lw_g (lw_at lw_m1 136 rfl) rfl
theorem q144 : (Jvm.Cond.code ({ cls := "BranchLengths", name := "reaches", desc := "(I)Z" } : Jvm.MethodName) prog_1_method_9_code (3 : Nat) (Option.some Jvm.ClassFile.FieldType.boolean)) ∈ lw_all := lw_g (lw_at lw_m1 137 rfl) rfl
theorem q145 : (Jvm.Cond.methodLink "BranchLengths" (85 : Nat) ({ cls := "BranchLengths$Sums", name := "before", desc := "(I)I" } : Jvm.MethodName)) ∈ lw_all := lw_g (lw_at lw_m1 138 rfl) rfl
theorem q150 : (Jvm.Cond.instanceMethod ({ cls := "BranchLengths", name := "least", desc := "()I" } : Jvm.MethodName)) ∈ lw_all := lw_g (lw_at lw_m1 143 rfl) rfl
theorem q151 : (Jvm.Cond.selects "BranchLengths" ({ cls := "BranchLengths", name := "least", desc := "()I" } : Jvm.MethodName) ({ cls := "BranchLengths", name := "least", desc := "()I" } : Jvm.MethodName)) ∈ lw_all := lw_g (lw_at lw_m1 144 rfl) rfl
theorem q152 : (Jvm.Cond.code ({ cls := "BranchLengths", name := "least", desc := "()I" } : Jvm.MethodName) prog_1_method_10_code (1 : Nat) (Option.some Jvm.ClassFile.FieldType.int)) ∈ lw_all := lw_g (lw_at lw_m1 145 rfl) rfl
theorem q154 : (Jvm.Cond.instanceMethod ({ cls := "BranchLengths", name := "place", desc := "(I)I" } : Jvm.MethodName)) ∈ lw_all := lw_g (lw_at lw_m1 147 rfl) rfl
theorem q155 : (Jvm.Cond.selects "BranchLengths" ({ cls := "BranchLengths", name := "place", desc := "(I)I" } : Jvm.MethodName) ({ cls := "BranchLengths", name := "place", desc := "(I)I" } : Jvm.MethodName)) ∈ lw_all := lw_g (lw_at lw_m1 148 rfl) rfl
theorem q156 : (Jvm.Cond.code ({ cls := "BranchLengths", name := "place", desc := "(I)I" } : Jvm.MethodName) prog_1_method_12_code (2 : Nat) (Option.some Jvm.ClassFile.FieldType.int)) ∈ lw_all := lw_g (lw_at lw_m1 149 rfl) rfl
theorem q157 : (Jvm.Cond.methodLink "BranchLengths" (93 : Nat) ({ cls := "BranchLengths", name := "isItem", desc := "(I)Z" } : Jvm.MethodName)) ∈ lw_all := lw_g (lw_at lw_m1 150 rfl) rfl
theorem q158 : (Jvm.Cond.privateMethod ({ cls := "BranchLengths", name := "isItem", desc := "(I)Z" } : Jvm.MethodName)) ∈ lw_tbl := lw_at lw_m1 151 rfl
theorem q159 : (Jvm.Cond.instanceMethod ({ cls := "BranchLengths", name := "isItem", desc := "(I)Z" } : Jvm.MethodName)) ∈ lw_all := lw_g (lw_at lw_m1 152 rfl) rfl
theorem q160 : (Jvm.Cond.code ({ cls := "BranchLengths", name := "isItem", desc := "(I)Z" } : Jvm.MethodName) prog_1_method_11_code (2 : Nat) (Option.some Jvm.ClassFile.FieldType.boolean)) ∈ lw_all := lw_g (lw_at lw_m1 153 rfl) rfl
theorem q162 : (Jvm.Cond.instanceMethod ({ cls := "BranchLengths", name := "isLong", desc := "(I)Z" } : Jvm.MethodName)) ∈ lw_all := lw_g (lw_at lw_m1 155 rfl) rfl
theorem q163 : (Jvm.Cond.selects "BranchLengths" ({ cls := "BranchLengths", name := "isLong", desc := "(I)Z" } : Jvm.MethodName) ({ cls := "BranchLengths", name := "isLong", desc := "(I)Z" } : Jvm.MethodName)) ∈ lw_all := lw_g (lw_at lw_m1 156 rfl) rfl
theorem q164 : (Jvm.Cond.code ({ cls := "BranchLengths", name := "isLong", desc := "(I)Z" } : Jvm.MethodName) prog_1_method_13_code (2 : Nat) (Option.some Jvm.ClassFile.FieldType.boolean)) ∈ lw_all := lw_g (lw_at lw_m1 157 rfl) rfl
theorem q166 : (Jvm.Cond.instanceMethod ({ cls := "BranchLengths", name := "longs", desc := "()I" } : Jvm.MethodName)) ∈ lw_all := lw_g (lw_at lw_m1 159 rfl) rfl
theorem q167 : (Jvm.Cond.selects "BranchLengths" ({ cls := "BranchLengths", name := "longs", desc := "()I" } : Jvm.MethodName) ({ cls := "BranchLengths", name := "longs", desc := "()I" } : Jvm.MethodName)) ∈ lw_all := lw_g (lw_at lw_m1 160 rfl) rfl
theorem q168 : (Jvm.Cond.code ({ cls := "BranchLengths", name := "longs", desc := "()I" } : Jvm.MethodName) prog_1_method_14_code (1 : Nat) (Option.some Jvm.ClassFile.FieldType.int)) ∈ lw_all := lw_g (lw_at lw_m1 161 rfl) rfl
theorem q170 : (Jvm.Cond.instanceMethod ({ cls := "BranchLengths", name := "clear", desc := "()V" } : Jvm.MethodName)) ∈ lw_all := lw_g (lw_at lw_m1 163 rfl) rfl
theorem q171 : (Jvm.Cond.selects "BranchLengths" ({ cls := "BranchLengths", name := "clear", desc := "()V" } : Jvm.MethodName) ({ cls := "BranchLengths", name := "clear", desc := "()V" } : Jvm.MethodName)) ∈ lw_all := lw_g (lw_at lw_m1 164 rfl) rfl
theorem q172 : (Jvm.Cond.code ({ cls := "BranchLengths", name := "clear", desc := "()V" } : Jvm.MethodName) prog_1_method_15_code (1 : Nat) (Option.none : Option Jvm.ClassFile.FieldType)) ∈ lw_all := lw_g (lw_at lw_m1 165 rfl) rfl
theorem q174 : (Jvm.Cond.instanceMethod ({ cls := "BranchLengths", name := "items", desc := "()I" } : Jvm.MethodName)) ∈ lw_all := lw_g (lw_at lw_m1 167 rfl) rfl
theorem q175 : (Jvm.Cond.selects "BranchLengths" ({ cls := "BranchLengths", name := "items", desc := "()I" } : Jvm.MethodName) ({ cls := "BranchLengths", name := "items", desc := "()I" } : Jvm.MethodName)) ∈ lw_all := lw_g (lw_at lw_m1 168 rfl) rfl
theorem q176 : (Jvm.Cond.code ({ cls := "BranchLengths", name := "items", desc := "()I" } : Jvm.MethodName) prog_1_method_16_code (1 : Nat) (Option.some Jvm.ClassFile.FieldType.int)) ∈ lw_all := lw_g (lw_at lw_m1 169 rfl) rfl
theorem q178 : (Jvm.Cond.instanceMethod ({ cls := "BranchLengths", name := "marks", desc := "()I" } : Jvm.MethodName)) ∈ lw_all := lw_g (lw_at lw_m1 171 rfl) rfl
theorem q179 : (Jvm.Cond.selects "BranchLengths" ({ cls := "BranchLengths", name := "marks", desc := "()I" } : Jvm.MethodName) ({ cls := "BranchLengths", name := "marks", desc := "()I" } : Jvm.MethodName)) ∈ lw_all := lw_g (lw_at lw_m1 172 rfl) rfl
theorem q180 : (Jvm.Cond.code ({ cls := "BranchLengths", name := "marks", desc := "()I" } : Jvm.MethodName) prog_1_method_17_code (1 : Nat) (Option.some Jvm.ClassFile.FieldType.int)) ∈ lw_all := lw_g (lw_at lw_m1 173 rfl) rfl
theorem in_X0 : ∀ w ∈ wsX00, w ∈ lw_all := lw_in wsX00 [63, 65, 67, 69, 71, 73, 75, 77, 79, 81, 83, 85] (by decide +kernel) (by decide +kernel)
end
section
/-! BranchLengthsModel -/
set_option maxRecDepth 100000
def RX3 : String := "BranchLengthsModel"
def TX3 : u_T := fun k => match k with
  | 0 => ("BranchLengthsModel", "kinds", "[I", true)
  | 1 => ("BranchLengthsModel", "numbers", "[I", true)
  | 2 => ("BranchLengthsModel", "longOnes", "[Z", true)
  | 3 => ("BranchLengthsModel", "places", "[I", true)
  | 4 => ("BranchLengthsModel", "markItems", "[I", true)
  | 5 => ("BranchLengthsModel", "items", "I", false)
  | 6 => ("BranchLengthsModel", "marks", "I", false)
  | 7 => ("BranchLengthsModel", "reach", "I", false)
  | 8 => ("BranchLengthsModel", "least", "I", false)
  | _ => ("BranchLengthsModel", "laid", "Z", false)
def tyX3 : Nat → FieldType := fun k => match k with
  | 0 => .array .int
  | 1 => .array .int
  | 2 => .array .boolean
  | 3 => .array .int
  | 4 => .array .int
  | 5 => .int
  | 6 => .int
  | 7 => .int
  | 8 => .int
  | _ => .boolean
abbrev wsX30 : List Cond := u_ws RX3 TX3 10
theorem nmX3 : ∀ a, a < 10 → ∀ b, b < 10 → a ≠ b → (TX3 a).2.1 ≠ (TX3 b).2.1 := by decide +kernel
theorem tyX3_ok : ∀ k, k < 10 → parseFieldDescriptor (TX3 k).2.2.1 = some (tyX3 k) := by decide +kernel
abbrev cX3_init : ByteArray := prog_5_method_1_code
def yX3_init : MethodName := ⟨RX3, "<init>", "()V"⟩
theorem dX3_init_0 : decode cX3_init 0 = .ok (.aload_n 0, 1) := by decide +kernel
theorem dX3_init_1 : decode cX3_init 1 = .ok (.invokespecial 1, 3) := by decide +kernel
theorem dX3_init_4 : decode cX3_init 4 = .ok (.aload_n 0, 1) := by decide +kernel
theorem dX3_init_5 : decode cX3_init 5 = .ok (.sipush 2000, 3) := by decide +kernel
theorem dX3_init_8 : decode cX3_init 8 = .ok (.newarray .int, 2) := by decide +kernel
theorem dX3_init_10 : decode cX3_init 10 = .ok (.putfield 9, 3) := by decide +kernel
theorem dX3_init_13 : decode cX3_init 13 = .ok (.aload_n 0, 1) := by decide +kernel
theorem dX3_init_14 : decode cX3_init 14 = .ok (.sipush 2000, 3) := by decide +kernel
theorem dX3_init_17 : decode cX3_init 17 = .ok (.newarray .int, 2) := by decide +kernel
theorem dX3_init_19 : decode cX3_init 19 = .ok (.putfield 13, 3) := by decide +kernel
theorem dX3_init_22 : decode cX3_init 22 = .ok (.aload_n 0, 1) := by decide +kernel
theorem dX3_init_23 : decode cX3_init 23 = .ok (.sipush 2000, 3) := by decide +kernel
theorem dX3_init_26 : decode cX3_init 26 = .ok (.newarray .boolean, 2) := by decide +kernel
theorem dX3_init_28 : decode cX3_init 28 = .ok (.putfield 16, 3) := by decide +kernel
theorem dX3_init_31 : decode cX3_init 31 = .ok (.aload_n 0, 1) := by decide +kernel
theorem dX3_init_32 : decode cX3_init 32 = .ok (.sipush 2001, 3) := by decide +kernel
theorem dX3_init_35 : decode cX3_init 35 = .ok (.newarray .int, 2) := by decide +kernel
theorem dX3_init_37 : decode cX3_init 37 = .ok (.putfield 20, 3) := by decide +kernel
theorem dX3_init_40 : decode cX3_init 40 = .ok (.aload_n 0, 1) := by decide +kernel
theorem dX3_init_41 : decode cX3_init 41 = .ok (.sipush 2000, 3) := by decide +kernel
theorem dX3_init_44 : decode cX3_init 44 = .ok (.newarray .int, 2) := by decide +kernel
theorem dX3_init_46 : decode cX3_init 46 = .ok (.putfield 23, 3) := by decide +kernel
theorem dX3_init_49 : decode cX3_init 49 = .ok (.aload_n 0, 1) := by decide +kernel
theorem dX3_init_50 : decode cX3_init 50 = .ok (.sipush 1000, 3) := by decide +kernel
theorem dX3_init_53 : decode cX3_init 53 = .ok (.putfield 26, 3) := by decide +kernel
theorem dX3_init_56 : decode cX3_init 56 = .ok (.aload_n 0, 1) := by decide +kernel
theorem dX3_init_57 : decode cX3_init 57 = .ok (.iconst (-1), 1) := by decide +kernel
theorem dX3_init_58 : decode cX3_init 58 = .ok (.putfield 30, 3) := by decide +kernel
theorem dX3_init_61 : decode cX3_init 61 = .ok (.return_, 1) := by decide +kernel
abbrev cX3_stretch : ByteArray := prog_5_method_4_code
def yX3_stretch : MethodName := ⟨RX3, "stretch", "(I)I"⟩
theorem dX3_stretch_0 : decode cX3_stretch 0 = .ok (.iload_n 1, 1) := by decide +kernel
theorem dX3_stretch_1 : decode cX3_stretch 1 = .ok (.ifCond .lt 10, 3) := by decide +kernel
theorem dX3_stretch_4 : decode cX3_stretch 4 = .ok (.iload_n 1, 1) := by decide +kernel
theorem dX3_stretch_5 : decode cX3_stretch 5 = .ok (.sipush 4000, 3) := by decide +kernel
theorem dX3_stretch_8 : decode cX3_stretch 8 = .ok (.if_icmp .le 7, 3) := by decide +kernel
theorem dX3_stretch_11 : decode cX3_stretch 11 = .ok (.iconst (-1), 1) := by decide +kernel
theorem dX3_stretch_12 : decode cX3_stretch 12 = .ok (.goto 9, 3) := by decide +kernel
theorem dX3_stretch_15 : decode cX3_stretch 15 = .ok (.aload_n 0, 1) := by decide +kernel
theorem dX3_stretch_16 : decode cX3_stretch 16 = .ok (.iconst 0, 1) := by decide +kernel
theorem dX3_stretch_17 : decode cX3_stretch 17 = .ok (.iload_n 1, 1) := by decide +kernel
theorem dX3_stretch_18 : decode cX3_stretch 18 = .ok (.invokevirtual 40, 3) := by decide +kernel
theorem dX3_stretch_21 : decode cX3_stretch 21 = .ok (.ireturn, 1) := by decide +kernel
abbrev cX3_item : ByteArray := prog_5_method_3_code
def yX3_item : MethodName := ⟨RX3, "item", "(II)I"⟩
theorem dX3_item_0 : decode cX3_item 0 = .ok (.aload_n 0, 1) := by decide +kernel
theorem dX3_item_1 : decode cX3_item 1 = .ok (.getfield 33, 3) := by decide +kernel
theorem dX3_item_4 : decode cX3_item 4 = .ok (.sipush 2000, 3) := by decide +kernel
theorem dX3_item_7 : decode cX3_item 7 = .ok (.if_icmp .ne 5, 3) := by decide +kernel
theorem dX3_item_10 : decode cX3_item 10 = .ok (.iconst (-1), 1) := by decide +kernel
theorem dX3_item_11 : decode cX3_item 11 = .ok (.ireturn, 1) := by decide +kernel
theorem dX3_item_12 : decode cX3_item 12 = .ok (.aload_n 0, 1) := by decide +kernel
theorem dX3_item_13 : decode cX3_item 13 = .ok (.getfield 9, 3) := by decide +kernel
theorem dX3_item_16 : decode cX3_item 16 = .ok (.aload_n 0, 1) := by decide +kernel
theorem dX3_item_17 : decode cX3_item 17 = .ok (.getfield 33, 3) := by decide +kernel
theorem dX3_item_20 : decode cX3_item 20 = .ok (.iload_n 1, 1) := by decide +kernel
theorem dX3_item_21 : decode cX3_item 21 = .ok (.iastore, 1) := by decide +kernel
theorem dX3_item_22 : decode cX3_item 22 = .ok (.aload_n 0, 1) := by decide +kernel
theorem dX3_item_23 : decode cX3_item 23 = .ok (.getfield 13, 3) := by decide +kernel
theorem dX3_item_26 : decode cX3_item 26 = .ok (.aload_n 0, 1) := by decide +kernel
theorem dX3_item_27 : decode cX3_item 27 = .ok (.getfield 33, 3) := by decide +kernel
theorem dX3_item_30 : decode cX3_item 30 = .ok (.iload_n 2, 1) := by decide +kernel
theorem dX3_item_31 : decode cX3_item 31 = .ok (.iastore, 1) := by decide +kernel
theorem dX3_item_32 : decode cX3_item 32 = .ok (.aload_n 0, 1) := by decide +kernel
theorem dX3_item_33 : decode cX3_item 33 = .ok (.iconst 0, 1) := by decide +kernel
theorem dX3_item_34 : decode cX3_item 34 = .ok (.putfield 36, 3) := by decide +kernel
theorem dX3_item_37 : decode cX3_item 37 = .ok (.aload_n 0, 1) := by decide +kernel
theorem dX3_item_38 : decode cX3_item 38 = .ok (.dup, 1) := by decide +kernel
theorem dX3_item_39 : decode cX3_item 39 = .ok (.getfield 33, 3) := by decide +kernel
theorem dX3_item_42 : decode cX3_item 42 = .ok (.iconst 1, 1) := by decide +kernel
theorem dX3_item_43 : decode cX3_item 43 = .ok (.iadd, 1) := by decide +kernel
theorem dX3_item_44 : decode cX3_item 44 = .ok (.putfield 33, 3) := by decide +kernel
theorem dX3_item_47 : decode cX3_item 47 = .ok (.aload_n 0, 1) := by decide +kernel
theorem dX3_item_48 : decode cX3_item 48 = .ok (.getfield 33, 3) := by decide +kernel
theorem dX3_item_51 : decode cX3_item 51 = .ok (.iconst 1, 1) := by decide +kernel
theorem dX3_item_52 : decode cX3_item 52 = .ok (.isub, 1) := by decide +kernel
theorem dX3_item_53 : decode cX3_item 53 = .ok (.ireturn, 1) := by decide +kernel
abbrev cX3_mark : ByteArray := prog_5_method_5_code
def yX3_mark : MethodName := ⟨RX3, "mark", "()I"⟩
theorem dX3_mark_0 : decode cX3_mark 0 = .ok (.aload_n 0, 1) := by decide +kernel
theorem dX3_mark_1 : decode cX3_mark 1 = .ok (.iconst 1, 1) := by decide +kernel
theorem dX3_mark_2 : decode cX3_mark 2 = .ok (.iconst 0, 1) := by decide +kernel
theorem dX3_mark_3 : decode cX3_mark 3 = .ok (.invokevirtual 40, 3) := by decide +kernel
theorem dX3_mark_6 : decode cX3_mark 6 = .ok (.istore_n 1, 1) := by decide +kernel
theorem dX3_mark_7 : decode cX3_mark 7 = .ok (.iload_n 1, 1) := by decide +kernel
theorem dX3_mark_8 : decode cX3_mark 8 = .ok (.ifCond .ge 5, 3) := by decide +kernel
theorem dX3_mark_11 : decode cX3_mark 11 = .ok (.iconst (-1), 1) := by decide +kernel
theorem dX3_mark_12 : decode cX3_mark 12 = .ok (.ireturn, 1) := by decide +kernel
theorem dX3_mark_13 : decode cX3_mark 13 = .ok (.aload_n 0, 1) := by decide +kernel
theorem dX3_mark_14 : decode cX3_mark 14 = .ok (.getfield 23, 3) := by decide +kernel
theorem dX3_mark_17 : decode cX3_mark 17 = .ok (.aload_n 0, 1) := by decide +kernel
theorem dX3_mark_18 : decode cX3_mark 18 = .ok (.getfield 44, 3) := by decide +kernel
theorem dX3_mark_21 : decode cX3_mark 21 = .ok (.iload_n 1, 1) := by decide +kernel
theorem dX3_mark_22 : decode cX3_mark 22 = .ok (.iastore, 1) := by decide +kernel
theorem dX3_mark_23 : decode cX3_mark 23 = .ok (.aload_n 0, 1) := by decide +kernel
theorem dX3_mark_24 : decode cX3_mark 24 = .ok (.dup, 1) := by decide +kernel
theorem dX3_mark_25 : decode cX3_mark 25 = .ok (.getfield 44, 3) := by decide +kernel
theorem dX3_mark_28 : decode cX3_mark 28 = .ok (.iconst 1, 1) := by decide +kernel
theorem dX3_mark_29 : decode cX3_mark 29 = .ok (.iadd, 1) := by decide +kernel
theorem dX3_mark_30 : decode cX3_mark 30 = .ok (.putfield 44, 3) := by decide +kernel
theorem dX3_mark_33 : decode cX3_mark 33 = .ok (.iload_n 1, 1) := by decide +kernel
theorem dX3_mark_34 : decode cX3_mark 34 = .ok (.ireturn, 1) := by decide +kernel
abbrev cX3_branch : ByteArray := prog_5_method_6_code
def yX3_branch : MethodName := ⟨RX3, "branch", "(I)I"⟩
theorem dX3_branch_0 : decode cX3_branch 0 = .ok (.iload_n 1, 1) := by decide +kernel
theorem dX3_branch_1 : decode cX3_branch 1 = .ok (.ifCond .ge 7, 3) := by decide +kernel
theorem dX3_branch_4 : decode cX3_branch 4 = .ok (.iconst (-1), 1) := by decide +kernel
theorem dX3_branch_5 : decode cX3_branch 5 = .ok (.goto 9, 3) := by decide +kernel
theorem dX3_branch_8 : decode cX3_branch 8 = .ok (.aload_n 0, 1) := by decide +kernel
theorem dX3_branch_9 : decode cX3_branch 9 = .ok (.iconst 2, 1) := by decide +kernel
theorem dX3_branch_10 : decode cX3_branch 10 = .ok (.iload_n 1, 1) := by decide +kernel
theorem dX3_branch_11 : decode cX3_branch 11 = .ok (.invokevirtual 40, 3) := by decide +kernel
theorem dX3_branch_14 : decode cX3_branch 14 = .ok (.ireturn, 1) := by decide +kernel
abbrev cX3_reach : ByteArray := prog_5_method_7_code
def yX3_reach : MethodName := ⟨RX3, "reach", "(I)Z"⟩
theorem dX3_reach_0 : decode cX3_reach 0 = .ok (.iload_n 1, 1) := by decide +kernel
theorem dX3_reach_1 : decode cX3_reach 1 = .ok (.iconst 1, 1) := by decide +kernel
theorem dX3_reach_2 : decode cX3_reach 2 = .ok (.if_icmp .lt 9, 3) := by decide +kernel
theorem dX3_reach_5 : decode cX3_reach 5 = .ok (.iload_n 1, 1) := by decide +kernel
theorem dX3_reach_6 : decode cX3_reach 6 = .ok (.ldc 47, 2) := by decide +kernel
theorem dX3_reach_8 : decode cX3_reach 8 = .ok (.if_icmp .le 5, 3) := by decide +kernel
theorem dX3_reach_11 : decode cX3_reach 11 = .ok (.iconst 0, 1) := by decide +kernel
theorem dX3_reach_12 : decode cX3_reach 12 = .ok (.ireturn, 1) := by decide +kernel
theorem dX3_reach_13 : decode cX3_reach 13 = .ok (.aload_n 0, 1) := by decide +kernel
theorem dX3_reach_14 : decode cX3_reach 14 = .ok (.iload_n 1, 1) := by decide +kernel
theorem dX3_reach_15 : decode cX3_reach 15 = .ok (.putfield 26, 3) := by decide +kernel
theorem dX3_reach_18 : decode cX3_reach 18 = .ok (.aload_n 0, 1) := by decide +kernel
theorem dX3_reach_19 : decode cX3_reach 19 = .ok (.iconst 0, 1) := by decide +kernel
theorem dX3_reach_20 : decode cX3_reach 20 = .ok (.putfield 36, 3) := by decide +kernel
theorem dX3_reach_23 : decode cX3_reach 23 = .ok (.iconst 1, 1) := by decide +kernel
theorem dX3_reach_24 : decode cX3_reach 24 = .ok (.ireturn, 1) := by decide +kernel
abbrev cX3_lay : ByteArray := prog_5_method_10_code
def yX3_lay : MethodName := ⟨RX3, "lay", "()I"⟩
theorem dX3_lay_0 : decode cX3_lay 0 = .ok (.aload_n 0, 1) := by decide +kernel
theorem dX3_lay_1 : decode cX3_lay 1 = .ok (.iconst 0, 1) := by decide +kernel
theorem dX3_lay_2 : decode cX3_lay 2 = .ok (.putfield 36, 3) := by decide +kernel
theorem dX3_lay_5 : decode cX3_lay 5 = .ok (.aload_n 0, 1) := by decide +kernel
theorem dX3_lay_6 : decode cX3_lay 6 = .ok (.iconst (-1), 1) := by decide +kernel
theorem dX3_lay_7 : decode cX3_lay 7 = .ok (.putfield 30, 3) := by decide +kernel
theorem dX3_lay_10 : decode cX3_lay 10 = .ok (.iconst 0, 1) := by decide +kernel
theorem dX3_lay_11 : decode cX3_lay 11 = .ok (.istore_n 1, 1) := by decide +kernel
theorem dX3_lay_12 : decode cX3_lay 12 = .ok (.iload_n 1, 1) := by decide +kernel
theorem dX3_lay_13 : decode cX3_lay 13 = .ok (.aload_n 0, 1) := by decide +kernel
theorem dX3_lay_14 : decode cX3_lay 14 = .ok (.getfield 33, 3) := by decide +kernel
theorem dX3_lay_17 : decode cX3_lay 17 = .ok (.if_icmp .ge 44, 3) := by decide +kernel
theorem dX3_lay_20 : decode cX3_lay 20 = .ok (.aload_n 0, 1) := by decide +kernel
theorem dX3_lay_21 : decode cX3_lay 21 = .ok (.getfield 30, 3) := by decide +kernel
theorem dX3_lay_24 : decode cX3_lay 24 = .ok (.ifCond .ge 37, 3) := by decide +kernel
theorem dX3_lay_27 : decode cX3_lay 27 = .ok (.aload_n 0, 1) := by decide +kernel
theorem dX3_lay_28 : decode cX3_lay 28 = .ok (.getfield 9, 3) := by decide +kernel
theorem dX3_lay_31 : decode cX3_lay 31 = .ok (.iload_n 1, 1) := by decide +kernel
theorem dX3_lay_32 : decode cX3_lay 32 = .ok (.iaload, 1) := by decide +kernel
theorem dX3_lay_33 : decode cX3_lay 33 = .ok (.iconst 2, 1) := by decide +kernel
theorem dX3_lay_34 : decode cX3_lay 34 = .ok (.if_icmp .ne 21, 3) := by decide +kernel
theorem dX3_lay_37 : decode cX3_lay 37 = .ok (.aload_n 0, 1) := by decide +kernel
theorem dX3_lay_38 : decode cX3_lay 38 = .ok (.getfield 13, 3) := by decide +kernel
theorem dX3_lay_41 : decode cX3_lay 41 = .ok (.iload_n 1, 1) := by decide +kernel
theorem dX3_lay_42 : decode cX3_lay 42 = .ok (.iaload, 1) := by decide +kernel
theorem dX3_lay_43 : decode cX3_lay 43 = .ok (.aload_n 0, 1) := by decide +kernel
theorem dX3_lay_44 : decode cX3_lay 44 = .ok (.getfield 44, 3) := by decide +kernel
theorem dX3_lay_47 : decode cX3_lay 47 = .ok (.if_icmp .lt 8, 3) := by decide +kernel
theorem dX3_lay_50 : decode cX3_lay 50 = .ok (.aload_n 0, 1) := by decide +kernel
theorem dX3_lay_51 : decode cX3_lay 51 = .ok (.iload_n 1, 1) := by decide +kernel
theorem dX3_lay_52 : decode cX3_lay 52 = .ok (.putfield 30, 3) := by decide +kernel
theorem dX3_lay_55 : decode cX3_lay 55 = .ok (.iinc 1 1, 3) := by decide +kernel
theorem dX3_lay_58 : decode cX3_lay 58 = .ok (.goto (-46), 3) := by decide +kernel
theorem dX3_lay_61 : decode cX3_lay 61 = .ok (.aload_n 0, 1) := by decide +kernel
theorem dX3_lay_62 : decode cX3_lay 62 = .ok (.getfield 30, 3) := by decide +kernel
theorem dX3_lay_65 : decode cX3_lay 65 = .ok (.ifCond .lt 5, 3) := by decide +kernel
theorem dX3_lay_68 : decode cX3_lay 68 = .ok (.iconst (-1), 1) := by decide +kernel
theorem dX3_lay_69 : decode cX3_lay 69 = .ok (.ireturn, 1) := by decide +kernel
theorem dX3_lay_70 : decode cX3_lay 70 = .ok (.iconst 0, 1) := by decide +kernel
theorem dX3_lay_71 : decode cX3_lay 71 = .ok (.istore_n 1, 1) := by decide +kernel
theorem dX3_lay_72 : decode cX3_lay 72 = .ok (.iload_n 1, 1) := by decide +kernel
theorem dX3_lay_73 : decode cX3_lay 73 = .ok (.aload_n 0, 1) := by decide +kernel
theorem dX3_lay_74 : decode cX3_lay 74 = .ok (.getfield 33, 3) := by decide +kernel
theorem dX3_lay_77 : decode cX3_lay 77 = .ok (.if_icmp .ge 16, 3) := by decide +kernel
theorem dX3_lay_80 : decode cX3_lay 80 = .ok (.aload_n 0, 1) := by decide +kernel
theorem dX3_lay_81 : decode cX3_lay 81 = .ok (.getfield 16, 3) := by decide +kernel
theorem dX3_lay_84 : decode cX3_lay 84 = .ok (.iload_n 1, 1) := by decide +kernel
theorem dX3_lay_85 : decode cX3_lay 85 = .ok (.iconst 0, 1) := by decide +kernel
theorem dX3_lay_86 : decode cX3_lay 86 = .ok (.bastore, 1) := by decide +kernel
theorem dX3_lay_87 : decode cX3_lay 87 = .ok (.iinc 1 1, 3) := by decide +kernel
theorem dX3_lay_90 : decode cX3_lay 90 = .ok (.goto (-18), 3) := by decide +kernel
theorem dX3_lay_93 : decode cX3_lay 93 = .ok (.iconst 1, 1) := by decide +kernel
theorem dX3_lay_94 : decode cX3_lay 94 = .ok (.istore_n 1, 1) := by decide +kernel
theorem dX3_lay_95 : decode cX3_lay 95 = .ok (.iload_n 1, 1) := by decide +kernel
theorem dX3_lay_96 : decode cX3_lay 96 = .ok (.ifCond .eq 58, 3) := by decide +kernel
theorem dX3_lay_99 : decode cX3_lay 99 = .ok (.aload_n 0, 1) := by decide +kernel
theorem dX3_lay_100 : decode cX3_lay 100 = .ok (.invokevirtual 48, 3) := by decide +kernel
theorem dX3_lay_103 : decode cX3_lay 103 = .ok (.iconst 0, 1) := by decide +kernel
theorem dX3_lay_104 : decode cX3_lay 104 = .ok (.istore_n 1, 1) := by decide +kernel
theorem dX3_lay_105 : decode cX3_lay 105 = .ok (.iconst 0, 1) := by decide +kernel
theorem dX3_lay_106 : decode cX3_lay 106 = .ok (.istore_n 2, 1) := by decide +kernel
theorem dX3_lay_107 : decode cX3_lay 107 = .ok (.iload_n 2, 1) := by decide +kernel
theorem dX3_lay_108 : decode cX3_lay 108 = .ok (.aload_n 0, 1) := by decide +kernel
theorem dX3_lay_109 : decode cX3_lay 109 = .ok (.getfield 33, 3) := by decide +kernel
theorem dX3_lay_112 : decode cX3_lay 112 = .ok (.if_icmp .ge 39, 3) := by decide +kernel
theorem dX3_lay_115 : decode cX3_lay 115 = .ok (.aload_n 0, 1) := by decide +kernel
theorem dX3_lay_116 : decode cX3_lay 116 = .ok (.getfield 9, 3) := by decide +kernel
theorem dX3_lay_119 : decode cX3_lay 119 = .ok (.iload_n 2, 1) := by decide +kernel
theorem dX3_lay_120 : decode cX3_lay 120 = .ok (.iaload, 1) := by decide +kernel
theorem dX3_lay_121 : decode cX3_lay 121 = .ok (.iconst 2, 1) := by decide +kernel
theorem dX3_lay_122 : decode cX3_lay 122 = .ok (.if_icmp .ne 23, 3) := by decide +kernel
theorem dX3_lay_125 : decode cX3_lay 125 = .ok (.aload_n 0, 1) := by decide +kernel
theorem dX3_lay_126 : decode cX3_lay 126 = .ok (.iload_n 2, 1) := by decide +kernel
theorem dX3_lay_127 : decode cX3_lay 127 = .ok (.invokevirtual 51, 3) := by decide +kernel
theorem dX3_lay_130 : decode cX3_lay 130 = .ok (.ifCond .eq 6, 3) := by decide +kernel
theorem dX3_lay_133 : decode cX3_lay 133 = .ok (.goto 12, 3) := by decide +kernel
theorem dX3_lay_136 : decode cX3_lay 136 = .ok (.aload_n 0, 1) := by decide +kernel
theorem dX3_lay_137 : decode cX3_lay 137 = .ok (.getfield 16, 3) := by decide +kernel
theorem dX3_lay_140 : decode cX3_lay 140 = .ok (.iload_n 2, 1) := by decide +kernel
theorem dX3_lay_141 : decode cX3_lay 141 = .ok (.iconst 1, 1) := by decide +kernel
theorem dX3_lay_142 : decode cX3_lay 142 = .ok (.bastore, 1) := by decide +kernel
theorem dX3_lay_143 : decode cX3_lay 143 = .ok (.iconst 1, 1) := by decide +kernel
theorem dX3_lay_144 : decode cX3_lay 144 = .ok (.istore_n 1, 1) := by decide +kernel
theorem dX3_lay_145 : decode cX3_lay 145 = .ok (.iinc 2 1, 3) := by decide +kernel
theorem dX3_lay_148 : decode cX3_lay 148 = .ok (.goto (-41), 3) := by decide +kernel
theorem dX3_lay_151 : decode cX3_lay 151 = .ok (.goto (-56), 3) := by decide +kernel
theorem dX3_lay_154 : decode cX3_lay 154 = .ok (.aload_n 0, 1) := by decide +kernel
theorem dX3_lay_155 : decode cX3_lay 155 = .ok (.iconst 1, 1) := by decide +kernel
theorem dX3_lay_156 : decode cX3_lay 156 = .ok (.putfield 36, 3) := by decide +kernel
theorem dX3_lay_159 : decode cX3_lay 159 = .ok (.aload_n 0, 1) := by decide +kernel
theorem dX3_lay_160 : decode cX3_lay 160 = .ok (.getfield 20, 3) := by decide +kernel
theorem dX3_lay_163 : decode cX3_lay 163 = .ok (.aload_n 0, 1) := by decide +kernel
theorem dX3_lay_164 : decode cX3_lay 164 = .ok (.getfield 33, 3) := by decide +kernel
theorem dX3_lay_167 : decode cX3_lay 167 = .ok (.iaload, 1) := by decide +kernel
theorem dX3_lay_168 : decode cX3_lay 168 = .ok (.ireturn, 1) := by decide +kernel
abbrev cX3_addUp : ByteArray := prog_5_method_8_code
def yX3_addUp : MethodName := ⟨RX3, "addUp", "()V"⟩
theorem dX3_addUp_0 : decode cX3_addUp 0 = .ok (.aload_n 0, 1) := by decide +kernel
theorem dX3_addUp_1 : decode cX3_addUp 1 = .ok (.getfield 20, 3) := by decide +kernel
theorem dX3_addUp_4 : decode cX3_addUp 4 = .ok (.iconst 0, 1) := by decide +kernel
theorem dX3_addUp_5 : decode cX3_addUp 5 = .ok (.iconst 0, 1) := by decide +kernel
theorem dX3_addUp_6 : decode cX3_addUp 6 = .ok (.iastore, 1) := by decide +kernel
theorem dX3_addUp_7 : decode cX3_addUp 7 = .ok (.iconst 0, 1) := by decide +kernel
theorem dX3_addUp_8 : decode cX3_addUp 8 = .ok (.istore_n 1, 1) := by decide +kernel
theorem dX3_addUp_9 : decode cX3_addUp 9 = .ok (.iload_n 1, 1) := by decide +kernel
theorem dX3_addUp_10 : decode cX3_addUp 10 = .ok (.aload_n 0, 1) := by decide +kernel
theorem dX3_addUp_11 : decode cX3_addUp 11 = .ok (.getfield 33, 3) := by decide +kernel
theorem dX3_addUp_14 : decode cX3_addUp 14 = .ok (.if_icmp .ge 70, 3) := by decide +kernel
theorem dX3_addUp_17 : decode cX3_addUp 17 = .ok (.aload_n 0, 1) := by decide +kernel
theorem dX3_addUp_18 : decode cX3_addUp 18 = .ok (.getfield 20, 3) := by decide +kernel
theorem dX3_addUp_21 : decode cX3_addUp 21 = .ok (.iload_n 1, 1) := by decide +kernel
theorem dX3_addUp_22 : decode cX3_addUp 22 = .ok (.iconst 1, 1) := by decide +kernel
theorem dX3_addUp_23 : decode cX3_addUp 23 = .ok (.iadd, 1) := by decide +kernel
theorem dX3_addUp_24 : decode cX3_addUp 24 = .ok (.aload_n 0, 1) := by decide +kernel
theorem dX3_addUp_25 : decode cX3_addUp 25 = .ok (.getfield 20, 3) := by decide +kernel
theorem dX3_addUp_28 : decode cX3_addUp 28 = .ok (.iload_n 1, 1) := by decide +kernel
theorem dX3_addUp_29 : decode cX3_addUp 29 = .ok (.iaload, 1) := by decide +kernel
theorem dX3_addUp_30 : decode cX3_addUp 30 = .ok (.aload_n 0, 1) := by decide +kernel
theorem dX3_addUp_31 : decode cX3_addUp 31 = .ok (.getfield 9, 3) := by decide +kernel
theorem dX3_addUp_34 : decode cX3_addUp 34 = .ok (.iload_n 1, 1) := by decide +kernel
theorem dX3_addUp_35 : decode cX3_addUp 35 = .ok (.iaload, 1) := by decide +kernel
theorem dX3_addUp_36 : decode cX3_addUp 36 = .ok (.ifCond .ne 12, 3) := by decide +kernel
theorem dX3_addUp_39 : decode cX3_addUp 39 = .ok (.aload_n 0, 1) := by decide +kernel
theorem dX3_addUp_40 : decode cX3_addUp 40 = .ok (.getfield 13, 3) := by decide +kernel
theorem dX3_addUp_43 : decode cX3_addUp 43 = .ok (.iload_n 1, 1) := by decide +kernel
theorem dX3_addUp_44 : decode cX3_addUp 44 = .ok (.iaload, 1) := by decide +kernel
theorem dX3_addUp_45 : decode cX3_addUp 45 = .ok (.goto 31, 3) := by decide +kernel
theorem dX3_addUp_48 : decode cX3_addUp 48 = .ok (.aload_n 0, 1) := by decide +kernel
theorem dX3_addUp_49 : decode cX3_addUp 49 = .ok (.getfield 9, 3) := by decide +kernel
theorem dX3_addUp_52 : decode cX3_addUp 52 = .ok (.iload_n 1, 1) := by decide +kernel
theorem dX3_addUp_53 : decode cX3_addUp 53 = .ok (.iaload, 1) := by decide +kernel
theorem dX3_addUp_54 : decode cX3_addUp 54 = .ok (.iconst 1, 1) := by decide +kernel
theorem dX3_addUp_55 : decode cX3_addUp 55 = .ok (.if_icmp .ne 7, 3) := by decide +kernel
theorem dX3_addUp_58 : decode cX3_addUp 58 = .ok (.iconst 0, 1) := by decide +kernel
theorem dX3_addUp_59 : decode cX3_addUp 59 = .ok (.goto 17, 3) := by decide +kernel
theorem dX3_addUp_62 : decode cX3_addUp 62 = .ok (.aload_n 0, 1) := by decide +kernel
theorem dX3_addUp_63 : decode cX3_addUp 63 = .ok (.getfield 16, 3) := by decide +kernel
theorem dX3_addUp_66 : decode cX3_addUp 66 = .ok (.iload_n 1, 1) := by decide +kernel
theorem dX3_addUp_67 : decode cX3_addUp 67 = .ok (.baload, 1) := by decide +kernel
theorem dX3_addUp_68 : decode cX3_addUp 68 = .ok (.ifCond .eq 7, 3) := by decide +kernel
theorem dX3_addUp_71 : decode cX3_addUp 71 = .ok (.iconst 2, 1) := by decide +kernel
theorem dX3_addUp_72 : decode cX3_addUp 72 = .ok (.goto 4, 3) := by decide +kernel
theorem dX3_addUp_75 : decode cX3_addUp 75 = .ok (.iconst 1, 1) := by decide +kernel
theorem dX3_addUp_76 : decode cX3_addUp 76 = .ok (.iadd, 1) := by decide +kernel
theorem dX3_addUp_77 : decode cX3_addUp 77 = .ok (.iastore, 1) := by decide +kernel
theorem dX3_addUp_78 : decode cX3_addUp 78 = .ok (.iinc 1 1, 3) := by decide +kernel
theorem dX3_addUp_81 : decode cX3_addUp 81 = .ok (.goto (-72), 3) := by decide +kernel
theorem dX3_addUp_84 : decode cX3_addUp 84 = .ok (.return_, 1) := by decide +kernel
abbrev cX3_reaches : ByteArray := prog_5_method_9_code
def yX3_reaches : MethodName := ⟨RX3, "reaches", "(I)Z"⟩
theorem dX3_reaches_0 : decode cX3_reaches 0 = .ok (.aload_n 0, 1) := by decide +kernel
theorem dX3_reaches_1 : decode cX3_reaches 1 = .ok (.getfield 20, 3) := by decide +kernel
theorem dX3_reaches_4 : decode cX3_reaches 4 = .ok (.aload_n 0, 1) := by decide +kernel
theorem dX3_reaches_5 : decode cX3_reaches 5 = .ok (.getfield 23, 3) := by decide +kernel
theorem dX3_reaches_8 : decode cX3_reaches 8 = .ok (.aload_n 0, 1) := by decide +kernel
theorem dX3_reaches_9 : decode cX3_reaches 9 = .ok (.getfield 13, 3) := by decide +kernel
theorem dX3_reaches_12 : decode cX3_reaches 12 = .ok (.iload_n 1, 1) := by decide +kernel
theorem dX3_reaches_13 : decode cX3_reaches 13 = .ok (.iaload, 1) := by decide +kernel
theorem dX3_reaches_14 : decode cX3_reaches 14 = .ok (.iaload, 1) := by decide +kernel
theorem dX3_reaches_15 : decode cX3_reaches 15 = .ok (.iaload, 1) := by decide +kernel
theorem dX3_reaches_16 : decode cX3_reaches 16 = .ok (.aload_n 0, 1) := by decide +kernel
theorem dX3_reaches_17 : decode cX3_reaches 17 = .ok (.getfield 20, 3) := by decide +kernel
theorem dX3_reaches_20 : decode cX3_reaches 20 = .ok (.iload_n 1, 1) := by decide +kernel
theorem dX3_reaches_21 : decode cX3_reaches 21 = .ok (.iaload, 1) := by decide +kernel
theorem dX3_reaches_22 : decode cX3_reaches 22 = .ok (.isub, 1) := by decide +kernel
theorem dX3_reaches_23 : decode cX3_reaches 23 = .ok (.istore_n 2, 1) := by decide +kernel
theorem dX3_reaches_24 : decode cX3_reaches 24 = .ok (.aload_n 0, 1) := by decide +kernel
theorem dX3_reaches_25 : decode cX3_reaches 25 = .ok (.getfield 16, 3) := by decide +kernel
theorem dX3_reaches_28 : decode cX3_reaches 28 = .ok (.iload_n 1, 1) := by decide +kernel
theorem dX3_reaches_29 : decode cX3_reaches 29 = .ok (.baload, 1) := by decide +kernel
theorem dX3_reaches_30 : decode cX3_reaches 30 = .ok (.ifCond .ne 20, 3) := by decide +kernel
theorem dX3_reaches_33 : decode cX3_reaches 33 = .ok (.iload_n 2, 1) := by decide +kernel
theorem dX3_reaches_34 : decode cX3_reaches 34 = .ok (.aload_n 0, 1) := by decide +kernel
theorem dX3_reaches_35 : decode cX3_reaches 35 = .ok (.getfield 26, 3) := by decide +kernel
theorem dX3_reaches_38 : decode cX3_reaches 38 = .ok (.ineg, 1) := by decide +kernel
theorem dX3_reaches_39 : decode cX3_reaches 39 = .ok (.if_icmp .lt 15, 3) := by decide +kernel
theorem dX3_reaches_42 : decode cX3_reaches 42 = .ok (.iload_n 2, 1) := by decide +kernel
theorem dX3_reaches_43 : decode cX3_reaches 43 = .ok (.aload_n 0, 1) := by decide +kernel
theorem dX3_reaches_44 : decode cX3_reaches 44 = .ok (.getfield 26, 3) := by decide +kernel
theorem dX3_reaches_47 : decode cX3_reaches 47 = .ok (.if_icmp .gt 7, 3) := by decide +kernel
theorem dX3_reaches_50 : decode cX3_reaches 50 = .ok (.iconst 1, 1) := by decide +kernel
theorem dX3_reaches_51 : decode cX3_reaches 51 = .ok (.goto 4, 3) := by decide +kernel
theorem dX3_reaches_54 : decode cX3_reaches 54 = .ok (.iconst 0, 1) := by decide +kernel
theorem dX3_reaches_55 : decode cX3_reaches 55 = .ok (.ireturn, 1) := by decide +kernel
abbrev cX3_least : ByteArray := prog_5_method_11_code
def yX3_least : MethodName := ⟨RX3, "least", "()I"⟩
theorem dX3_least_0 : decode cX3_least 0 = .ok (.aload_n 0, 1) := by decide +kernel
theorem dX3_least_1 : decode cX3_least 1 = .ok (.getfield 30, 3) := by decide +kernel
theorem dX3_least_4 : decode cX3_least 4 = .ok (.ireturn, 1) := by decide +kernel
abbrev cX3_place : ByteArray := prog_5_method_12_code
def yX3_place : MethodName := ⟨RX3, "place", "(I)I"⟩
theorem dX3_place_0 : decode cX3_place 0 = .ok (.aload_n 0, 1) := by decide +kernel
theorem dX3_place_1 : decode cX3_place 1 = .ok (.getfield 36, 3) := by decide +kernel
theorem dX3_place_4 : decode cX3_place 4 = .ok (.ifCond .eq 24, 3) := by decide +kernel
theorem dX3_place_7 : decode cX3_place 7 = .ok (.iload_n 1, 1) := by decide +kernel
theorem dX3_place_8 : decode cX3_place 8 = .ok (.ifCond .lt 20, 3) := by decide +kernel
theorem dX3_place_11 : decode cX3_place 11 = .ok (.iload_n 1, 1) := by decide +kernel
theorem dX3_place_12 : decode cX3_place 12 = .ok (.aload_n 0, 1) := by decide +kernel
theorem dX3_place_13 : decode cX3_place 13 = .ok (.getfield 33, 3) := by decide +kernel
theorem dX3_place_16 : decode cX3_place 16 = .ok (.if_icmp .ge 12, 3) := by decide +kernel
theorem dX3_place_19 : decode cX3_place 19 = .ok (.aload_n 0, 1) := by decide +kernel
theorem dX3_place_20 : decode cX3_place 20 = .ok (.getfield 20, 3) := by decide +kernel
theorem dX3_place_23 : decode cX3_place 23 = .ok (.iload_n 1, 1) := by decide +kernel
theorem dX3_place_24 : decode cX3_place 24 = .ok (.iaload, 1) := by decide +kernel
theorem dX3_place_25 : decode cX3_place 25 = .ok (.goto 4, 3) := by decide +kernel
theorem dX3_place_28 : decode cX3_place 28 = .ok (.iconst (-1), 1) := by decide +kernel
theorem dX3_place_29 : decode cX3_place 29 = .ok (.ireturn, 1) := by decide +kernel
abbrev cX3_isLong : ByteArray := prog_5_method_13_code
def yX3_isLong : MethodName := ⟨RX3, "isLong", "(I)Z"⟩
theorem dX3_isLong_0 : decode cX3_isLong 0 = .ok (.aload_n 0, 1) := by decide +kernel
theorem dX3_isLong_1 : decode cX3_isLong 1 = .ok (.getfield 36, 3) := by decide +kernel
theorem dX3_isLong_4 : decode cX3_isLong 4 = .ok (.ifCond .eq 38, 3) := by decide +kernel
theorem dX3_isLong_7 : decode cX3_isLong 7 = .ok (.iload_n 1, 1) := by decide +kernel
theorem dX3_isLong_8 : decode cX3_isLong 8 = .ok (.ifCond .lt 34, 3) := by decide +kernel
theorem dX3_isLong_11 : decode cX3_isLong 11 = .ok (.iload_n 1, 1) := by decide +kernel
theorem dX3_isLong_12 : decode cX3_isLong 12 = .ok (.aload_n 0, 1) := by decide +kernel
theorem dX3_isLong_13 : decode cX3_isLong 13 = .ok (.getfield 33, 3) := by decide +kernel
theorem dX3_isLong_16 : decode cX3_isLong 16 = .ok (.if_icmp .ge 26, 3) := by decide +kernel
theorem dX3_isLong_19 : decode cX3_isLong 19 = .ok (.aload_n 0, 1) := by decide +kernel
theorem dX3_isLong_20 : decode cX3_isLong 20 = .ok (.getfield 9, 3) := by decide +kernel
theorem dX3_isLong_23 : decode cX3_isLong 23 = .ok (.iload_n 1, 1) := by decide +kernel
theorem dX3_isLong_24 : decode cX3_isLong 24 = .ok (.iaload, 1) := by decide +kernel
theorem dX3_isLong_25 : decode cX3_isLong 25 = .ok (.iconst 2, 1) := by decide +kernel
theorem dX3_isLong_26 : decode cX3_isLong 26 = .ok (.if_icmp .ne 16, 3) := by decide +kernel
theorem dX3_isLong_29 : decode cX3_isLong 29 = .ok (.aload_n 0, 1) := by decide +kernel
theorem dX3_isLong_30 : decode cX3_isLong 30 = .ok (.getfield 16, 3) := by decide +kernel
theorem dX3_isLong_33 : decode cX3_isLong 33 = .ok (.iload_n 1, 1) := by decide +kernel
theorem dX3_isLong_34 : decode cX3_isLong 34 = .ok (.baload, 1) := by decide +kernel
theorem dX3_isLong_35 : decode cX3_isLong 35 = .ok (.ifCond .eq 7, 3) := by decide +kernel
theorem dX3_isLong_38 : decode cX3_isLong 38 = .ok (.iconst 1, 1) := by decide +kernel
theorem dX3_isLong_39 : decode cX3_isLong 39 = .ok (.goto 4, 3) := by decide +kernel
theorem dX3_isLong_42 : decode cX3_isLong 42 = .ok (.iconst 0, 1) := by decide +kernel
theorem dX3_isLong_43 : decode cX3_isLong 43 = .ok (.ireturn, 1) := by decide +kernel
abbrev cX3_longs : ByteArray := prog_5_method_14_code
def yX3_longs : MethodName := ⟨RX3, "longs", "()I"⟩
theorem dX3_longs_0 : decode cX3_longs 0 = .ok (.aload_n 0, 1) := by decide +kernel
theorem dX3_longs_1 : decode cX3_longs 1 = .ok (.getfield 36, 3) := by decide +kernel
theorem dX3_longs_4 : decode cX3_longs 4 = .ok (.ifCond .ne 5, 3) := by decide +kernel
theorem dX3_longs_7 : decode cX3_longs 7 = .ok (.iconst (-1), 1) := by decide +kernel
theorem dX3_longs_8 : decode cX3_longs 8 = .ok (.ireturn, 1) := by decide +kernel
theorem dX3_longs_9 : decode cX3_longs 9 = .ok (.iconst 0, 1) := by decide +kernel
theorem dX3_longs_10 : decode cX3_longs 10 = .ok (.istore_n 1, 1) := by decide +kernel
theorem dX3_longs_11 : decode cX3_longs 11 = .ok (.iconst 0, 1) := by decide +kernel
theorem dX3_longs_12 : decode cX3_longs 12 = .ok (.istore_n 2, 1) := by decide +kernel
theorem dX3_longs_13 : decode cX3_longs 13 = .ok (.iload_n 2, 1) := by decide +kernel
theorem dX3_longs_14 : decode cX3_longs 14 = .ok (.aload_n 0, 1) := by decide +kernel
theorem dX3_longs_15 : decode cX3_longs 15 = .ok (.getfield 33, 3) := by decide +kernel
theorem dX3_longs_18 : decode cX3_longs 18 = .ok (.if_icmp .ge 31, 3) := by decide +kernel
theorem dX3_longs_21 : decode cX3_longs 21 = .ok (.aload_n 0, 1) := by decide +kernel
theorem dX3_longs_22 : decode cX3_longs 22 = .ok (.getfield 9, 3) := by decide +kernel
theorem dX3_longs_25 : decode cX3_longs 25 = .ok (.iload_n 2, 1) := by decide +kernel
theorem dX3_longs_26 : decode cX3_longs 26 = .ok (.iaload, 1) := by decide +kernel
theorem dX3_longs_27 : decode cX3_longs 27 = .ok (.iconst 2, 1) := by decide +kernel
theorem dX3_longs_28 : decode cX3_longs 28 = .ok (.if_icmp .ne 15, 3) := by decide +kernel
theorem dX3_longs_31 : decode cX3_longs 31 = .ok (.aload_n 0, 1) := by decide +kernel
theorem dX3_longs_32 : decode cX3_longs 32 = .ok (.getfield 16, 3) := by decide +kernel
theorem dX3_longs_35 : decode cX3_longs 35 = .ok (.iload_n 2, 1) := by decide +kernel
theorem dX3_longs_36 : decode cX3_longs 36 = .ok (.baload, 1) := by decide +kernel
theorem dX3_longs_37 : decode cX3_longs 37 = .ok (.ifCond .eq 6, 3) := by decide +kernel
theorem dX3_longs_40 : decode cX3_longs 40 = .ok (.iinc 1 1, 3) := by decide +kernel
theorem dX3_longs_43 : decode cX3_longs 43 = .ok (.iinc 2 1, 3) := by decide +kernel
theorem dX3_longs_46 : decode cX3_longs 46 = .ok (.goto (-33), 3) := by decide +kernel
theorem dX3_longs_49 : decode cX3_longs 49 = .ok (.iload_n 1, 1) := by decide +kernel
theorem dX3_longs_50 : decode cX3_longs 50 = .ok (.ireturn, 1) := by decide +kernel
abbrev cX3_clear : ByteArray := prog_5_method_15_code
def yX3_clear : MethodName := ⟨RX3, "clear", "()V"⟩
theorem dX3_clear_0 : decode cX3_clear 0 = .ok (.aload_n 0, 1) := by decide +kernel
theorem dX3_clear_1 : decode cX3_clear 1 = .ok (.iconst 0, 1) := by decide +kernel
theorem dX3_clear_2 : decode cX3_clear 2 = .ok (.putfield 33, 3) := by decide +kernel
theorem dX3_clear_5 : decode cX3_clear 5 = .ok (.aload_n 0, 1) := by decide +kernel
theorem dX3_clear_6 : decode cX3_clear 6 = .ok (.iconst 0, 1) := by decide +kernel
theorem dX3_clear_7 : decode cX3_clear 7 = .ok (.putfield 44, 3) := by decide +kernel
theorem dX3_clear_10 : decode cX3_clear 10 = .ok (.aload_n 0, 1) := by decide +kernel
theorem dX3_clear_11 : decode cX3_clear 11 = .ok (.iconst 0, 1) := by decide +kernel
theorem dX3_clear_12 : decode cX3_clear 12 = .ok (.putfield 36, 3) := by decide +kernel
theorem dX3_clear_15 : decode cX3_clear 15 = .ok (.return_, 1) := by decide +kernel
abbrev cX3_items : ByteArray := prog_5_method_16_code
def yX3_items : MethodName := ⟨RX3, "items", "()I"⟩
theorem dX3_items_0 : decode cX3_items 0 = .ok (.aload_n 0, 1) := by decide +kernel
theorem dX3_items_1 : decode cX3_items 1 = .ok (.getfield 33, 3) := by decide +kernel
theorem dX3_items_4 : decode cX3_items 4 = .ok (.ireturn, 1) := by decide +kernel
abbrev cX3_marks : ByteArray := prog_5_method_17_code
def yX3_marks : MethodName := ⟨RX3, "marks", "()I"⟩
theorem dX3_marks_0 : decode cX3_marks 0 = .ok (.aload_n 0, 1) := by decide +kernel
theorem dX3_marks_1 : decode cX3_marks 1 = .ok (.getfield 44, 3) := by decide +kernel
theorem dX3_marks_4 : decode cX3_marks 4 = .ok (.ireturn, 1) := by decide +kernel
theorem q11 : (Jvm.Cond.initialized "BranchLengthsModel") ∈ lw_all := lw_g (lw_at lw_m1 4 rfl) rfl
theorem q182 : (Jvm.Cond.instantiable "BranchLengthsModel" (10 : Nat)) ∈ lw_all := lw_g (lw_at lw_m1 175 rfl) rfl
theorem q184 : (Jvm.Cond.instanceMethod ({ cls := "BranchLengthsModel", name := "<init>", desc := "()V" } : Jvm.MethodName)) ∈ lw_all := lw_g (lw_at lw_m1 177 rfl) rfl
theorem q185 : (Jvm.Cond.code ({ cls := "BranchLengthsModel", name := "<init>", desc := "()V" } : Jvm.MethodName) prog_5_method_1_code (1 : Nat) (Option.none : Option Jvm.ClassFile.FieldType)) ∈ lw_all := lw_g (lw_at lw_m1 178 rfl) rfl
theorem q186 : (Jvm.Cond.methodLink "BranchLengthsModel" (1 : Nat) ({ cls := "java/lang/Object", name := "<init>", desc := "()V" } : Jvm.MethodName)) ∈ lw_all := lw_g (lw_at lw_m1 179 rfl) rfl
theorem q187 : (Jvm.Cond.fieldLink "BranchLengthsModel" (9 : Nat) "BranchLengthsModel" "kinds" "[I") ∈ lw_all := lw_g (lw_at lw_m1 180 rfl) rfl
theorem q188 : (Jvm.Cond.fieldLink "BranchLengthsModel" (13 : Nat) "BranchLengthsModel" "numbers" "[I") ∈ lw_all := lw_g (lw_at lw_m1 181 rfl) rfl
theorem q189 : (Jvm.Cond.fieldLink "BranchLengthsModel" (16 : Nat) "BranchLengthsModel" "longOnes" "[Z") ∈ lw_all := lw_g (lw_at lw_m1 182 rfl) rfl
theorem q190 : (Jvm.Cond.fieldLink "BranchLengthsModel" (20 : Nat) "BranchLengthsModel" "places" "[I") ∈ lw_all := lw_g (lw_at lw_m1 183 rfl) rfl
theorem q191 : (Jvm.Cond.fieldLink "BranchLengthsModel" (23 : Nat) "BranchLengthsModel" "markItems" "[I") ∈ lw_all := lw_g (lw_at lw_m1 184 rfl) rfl
theorem q192 : (Jvm.Cond.fieldLink "BranchLengthsModel" (33 : Nat) "BranchLengthsModel" "items" "I") ∈ lw_all := lw_g (lw_at lw_m1 185 rfl) rfl
theorem q193 : (Jvm.Cond.fieldLink "BranchLengthsModel" (44 : Nat) "BranchLengthsModel" "marks" "I") ∈ lw_all := lw_g (lw_at lw_m1 186 rfl) rfl
theorem q194 : (Jvm.Cond.fieldLink "BranchLengthsModel" (26 : Nat) "BranchLengthsModel" "reach" "I") ∈ lw_all := lw_g (lw_at lw_m1 187 rfl) rfl
theorem q195 : (Jvm.Cond.fieldLink "BranchLengthsModel" (30 : Nat) "BranchLengthsModel" "least" "I") ∈ lw_all := lw_g (lw_at lw_m1 188 rfl) rfl
theorem q196 : (Jvm.Cond.fieldLink "BranchLengthsModel" (36 : Nat) "BranchLengthsModel" "laid" "Z") ∈ lw_all := lw_g (lw_at lw_m1 189 rfl) rfl
theorem q197 : (Jvm.Cond.laysFinal "BranchLengthsModel" "BranchLengthsModel" "kinds" "[I") ∈ lw_all := lw_g (lw_at lw_m1 190 rfl) rfl
theorem q198 : (Jvm.Cond.soleField "BranchLengthsModel" "kinds") ∈ lw_all := lw_g (lw_at lw_m1 191 rfl) rfl
theorem q199 : (Jvm.Cond.laysFinal "BranchLengthsModel" "BranchLengthsModel" "numbers" "[I") ∈ lw_all := lw_g (lw_at lw_m1 192 rfl) rfl
theorem q200 : (Jvm.Cond.soleField "BranchLengthsModel" "numbers") ∈ lw_all := lw_g (lw_at lw_m1 193 rfl) rfl
theorem q201 : (Jvm.Cond.laysFinal "BranchLengthsModel" "BranchLengthsModel" "longOnes" "[Z") ∈ lw_all := lw_g (lw_at lw_m1 194 rfl) rfl
theorem q202 : (Jvm.Cond.soleField "BranchLengthsModel" "longOnes") ∈ lw_all := lw_g (lw_at lw_m1 195 rfl) rfl
theorem q203 : (Jvm.Cond.laysFinal "BranchLengthsModel" "BranchLengthsModel" "places" "[I") ∈ lw_all := lw_g (lw_at lw_m1 196 rfl) rfl
theorem q204 : (Jvm.Cond.soleField "BranchLengthsModel" "places") ∈ lw_all := lw_g (lw_at lw_m1 197 rfl) rfl
theorem q205 : (Jvm.Cond.laysFinal "BranchLengthsModel" "BranchLengthsModel" "markItems" "[I") ∈ lw_all := lw_g (lw_at lw_m1 198 rfl) rfl
theorem q206 : (Jvm.Cond.soleField "BranchLengthsModel" "markItems") ∈ lw_all := lw_g (lw_at lw_m1 199 rfl) rfl
theorem q207 : (Jvm.Cond.lays "BranchLengthsModel" "BranchLengthsModel" "items" "I") ∈ lw_all := lw_g (lw_at lw_m1 200 rfl) rfl
theorem q208 : (Jvm.Cond.soleField "BranchLengthsModel" "items") ∈ lw_all := lw_g (lw_at lw_m1 201 rfl) rfl
theorem q209 : (Jvm.Cond.lays "BranchLengthsModel" "BranchLengthsModel" "marks" "I") ∈ lw_all := lw_g (lw_at lw_m1 202 rfl) rfl
theorem q210 : (Jvm.Cond.soleField "BranchLengthsModel" "marks") ∈ lw_all := lw_g (lw_at lw_m1 203 rfl) rfl
theorem q211 : (Jvm.Cond.lays "BranchLengthsModel" "BranchLengthsModel" "reach" "I") ∈ lw_all := lw_g (lw_at lw_m1 204 rfl) rfl
theorem q212 : (Jvm.Cond.soleField "BranchLengthsModel" "reach") ∈ lw_all := lw_g (lw_at lw_m1 205 rfl) rfl
theorem q213 : (Jvm.Cond.lays "BranchLengthsModel" "BranchLengthsModel" "least" "I") ∈ lw_all := lw_g (lw_at lw_m1 206 rfl) rfl
theorem q214 : (Jvm.Cond.soleField "BranchLengthsModel" "least") ∈ lw_all := lw_g (lw_at lw_m1 207 rfl) rfl
theorem q215 : (Jvm.Cond.lays "BranchLengthsModel" "BranchLengthsModel" "laid" "Z") ∈ lw_all := lw_g (lw_at lw_m1 208 rfl) rfl
theorem q216 : (Jvm.Cond.soleField "BranchLengthsModel" "laid") ∈ lw_all := lw_g (lw_at lw_m1 209 rfl) rfl
theorem q217 : (Jvm.Cond.superclass "BranchLengthsModel" "java/lang/Object") ∈ lw_all := lw_g (lw_at lw_m1 210 rfl) rfl
theorem q219 : (Jvm.Cond.instanceMethod ({ cls := "BranchLengthsModel", name := "stretch", desc := "(I)I" } : Jvm.MethodName)) ∈ lw_all := lw_g (lw_at lw_m1 212 rfl) rfl
theorem q220 : (Jvm.Cond.selects "BranchLengthsModel" ({ cls := "BranchLengthsModel", name := "stretch", desc := "(I)I" } : Jvm.MethodName) ({ cls := "BranchLengthsModel", name := "stretch", desc := "(I)I" } : Jvm.MethodName)) ∈ lw_all := lw_g (lw_at lw_m1 213 rfl) rfl
theorem q221 : (Jvm.Cond.code ({ cls := "BranchLengthsModel", name := "stretch", desc := "(I)I" } : Jvm.MethodName) prog_5_method_4_code (2 : Nat) (Option.some Jvm.ClassFile.FieldType.int)) ∈ lw_all := lw_g (lw_at lw_m1 214 rfl) rfl
theorem q222 : (Jvm.Cond.methodLink "BranchLengthsModel" (40 : Nat) ({ cls := "BranchLengthsModel", name := "item", desc := "(II)I" } : Jvm.MethodName)) ∈ lw_all := lw_g (lw_at lw_m1 215 rfl) rfl
theorem q223 : (Jvm.Cond.privateMethod ({ cls := "BranchLengthsModel", name := "item", desc := "(II)I" } : Jvm.MethodName)) ∈ lw_tbl := lw_at lw_m1 216 rfl
theorem q224 : (Jvm.Cond.instanceMethod ({ cls := "BranchLengthsModel", name := "item", desc := "(II)I" } : Jvm.MethodName)) ∈ lw_all := lw_g (lw_at lw_m1 217 rfl) rfl
theorem q225 : (Jvm.Cond.code ({ cls := "BranchLengthsModel", name := "item", desc := "(II)I" } : Jvm.MethodName) prog_5_method_3_code (3 : Nat) (Option.some Jvm.ClassFile.FieldType.int)) ∈ lw_all := lw_g (lw_at lw_m1 218 rfl) rfl
theorem q227 : (Jvm.Cond.instanceMethod ({ cls := "BranchLengthsModel", name := "mark", desc := "()I" } : Jvm.MethodName)) ∈ lw_all := lw_g (lw_at lw_m1 220 rfl) rfl
theorem q228 : (Jvm.Cond.selects "BranchLengthsModel" ({ cls := "BranchLengthsModel", name := "mark", desc := "()I" } : Jvm.MethodName) ({ cls := "BranchLengthsModel", name := "mark", desc := "()I" } : Jvm.MethodName)) ∈ lw_all := lw_g (lw_at lw_m1 221 rfl) rfl
theorem q229 : (Jvm.Cond.code ({ cls := "BranchLengthsModel", name := "mark", desc := "()I" } : Jvm.MethodName) prog_5_method_5_code (2 : Nat) (Option.some Jvm.ClassFile.FieldType.int)) ∈ lw_all := lw_g (lw_at lw_m1 222 rfl) rfl
theorem q231 : (Jvm.Cond.instanceMethod ({ cls := "BranchLengthsModel", name := "branch", desc := "(I)I" } : Jvm.MethodName)) ∈ lw_all := lw_g (lw_at lw_m1 224 rfl) rfl
theorem q232 : (Jvm.Cond.selects "BranchLengthsModel" ({ cls := "BranchLengthsModel", name := "branch", desc := "(I)I" } : Jvm.MethodName) ({ cls := "BranchLengthsModel", name := "branch", desc := "(I)I" } : Jvm.MethodName)) ∈ lw_all := lw_g (lw_at lw_m1 225 rfl) rfl
theorem q233 : (Jvm.Cond.code ({ cls := "BranchLengthsModel", name := "branch", desc := "(I)I" } : Jvm.MethodName) prog_5_method_6_code (2 : Nat) (Option.some Jvm.ClassFile.FieldType.int)) ∈ lw_all := lw_g (lw_at lw_m1 226 rfl) rfl
theorem q235 : (Jvm.Cond.instanceMethod ({ cls := "BranchLengthsModel", name := "reach", desc := "(I)Z" } : Jvm.MethodName)) ∈ lw_all := lw_g (lw_at lw_m1 228 rfl) rfl
theorem q236 : (Jvm.Cond.selects "BranchLengthsModel" ({ cls := "BranchLengthsModel", name := "reach", desc := "(I)Z" } : Jvm.MethodName) ({ cls := "BranchLengthsModel", name := "reach", desc := "(I)Z" } : Jvm.MethodName)) ∈ lw_all := lw_g (lw_at lw_m1 229 rfl) rfl
theorem q237 : (Jvm.Cond.code ({ cls := "BranchLengthsModel", name := "reach", desc := "(I)Z" } : Jvm.MethodName) prog_5_method_7_code (2 : Nat) (Option.some Jvm.ClassFile.FieldType.boolean)) ∈ lw_all := lw_g (lw_at lw_m1 230 rfl) rfl
theorem q238 : (Jvm.Cond.constant "BranchLengthsModel" (47 : Nat) (100000 : Int32)) ∈ lw_all := lw_g (lw_at lw_m1 231 rfl) rfl
theorem q240 : (Jvm.Cond.instanceMethod ({ cls := "BranchLengthsModel", name := "lay", desc := "()I" } : Jvm.MethodName)) ∈ lw_all := lw_g (lw_at lw_m1 233 rfl) rfl
theorem q241 : (Jvm.Cond.selects "BranchLengthsModel" ({ cls := "BranchLengthsModel", name := "lay", desc := "()I" } : Jvm.MethodName) ({ cls := "BranchLengthsModel", name := "lay", desc := "()I" } : Jvm.MethodName)) ∈ lw_all := lw_g (lw_at lw_m1 234 rfl) rfl
theorem q242 : (Jvm.Cond.code ({ cls := "BranchLengthsModel", name := "lay", desc := "()I" } : Jvm.MethodName) prog_5_method_10_code (3 : Nat) (Option.some Jvm.ClassFile.FieldType.int)) ∈ lw_all := lw_g (lw_at lw_m1 235 rfl) rfl
theorem q243 : (Jvm.Cond.methodLink "BranchLengthsModel" (48 : Nat) ({ cls := "BranchLengthsModel", name := "addUp", desc := "()V" } : Jvm.MethodName)) ∈ lw_all := lw_g (lw_at lw_m1 236 rfl) rfl
theorem q244 : (Jvm.Cond.privateMethod ({ cls := "BranchLengthsModel", name := "addUp", desc := "()V" } : Jvm.MethodName)) ∈ lw_tbl := lw_at lw_m1 237 rfl
theorem q245 : (Jvm.Cond.instanceMethod ({ cls := "BranchLengthsModel", name := "addUp", desc := "()V" } : Jvm.MethodName)) ∈ lw_all := lw_g (lw_at lw_m1 238 rfl) rfl
theorem q246 : (Jvm.Cond.code ({ cls := "BranchLengthsModel", name := "addUp", desc := "()V" } : Jvm.MethodName) prog_5_method_8_code (2 : Nat) (Option.none : Option Jvm.ClassFile.FieldType)) ∈ lw_all := lw_g (lw_at lw_m1 239 rfl) rfl
theorem q247 : (Jvm.Cond.methodLink "BranchLengthsModel" (51 : Nat) ({ cls := "BranchLengthsModel", name := "reaches", desc := "(I)Z" } : Jvm.MethodName)) ∈ lw_all := lw_g (lw_at lw_m2 0 rfl) rfl
theorem q248 : (Jvm.Cond.privateMethod ({ cls := "BranchLengthsModel", name := "reaches", desc := "(I)Z" } : Jvm.MethodName)) ∈ lw_tbl := lw_at lw_m2 1 rfl
theorem q249 : (Jvm.Cond.instanceMethod ({ cls := "BranchLengthsModel", name := "reaches", desc := "(I)Z" } : Jvm.MethodName)) ∈ lw_all := lw_g (lw_at lw_m2 2 rfl) rfl
theorem q250 : (Jvm.Cond.code ({ cls := "BranchLengthsModel", name := "reaches", desc := "(I)Z" } : Jvm.MethodName) prog_5_method_9_code (3 : Nat) (Option.some Jvm.ClassFile.FieldType.boolean)) ∈ lw_all := lw_g (lw_at lw_m2 3 rfl) rfl
theorem q252 : (Jvm.Cond.instanceMethod ({ cls := "BranchLengthsModel", name := "least", desc := "()I" } : Jvm.MethodName)) ∈ lw_all := lw_g (lw_at lw_m2 5 rfl) rfl
theorem q253 : (Jvm.Cond.selects "BranchLengthsModel" ({ cls := "BranchLengthsModel", name := "least", desc := "()I" } : Jvm.MethodName) ({ cls := "BranchLengthsModel", name := "least", desc := "()I" } : Jvm.MethodName)) ∈ lw_all := lw_g (lw_at lw_m2 6 rfl) rfl
theorem q254 : (Jvm.Cond.code ({ cls := "BranchLengthsModel", name := "least", desc := "()I" } : Jvm.MethodName) prog_5_method_11_code (1 : Nat) (Option.some Jvm.ClassFile.FieldType.int)) ∈ lw_all := lw_g (lw_at lw_m2 7 rfl) rfl
theorem q256 : (Jvm.Cond.instanceMethod ({ cls := "BranchLengthsModel", name := "place", desc := "(I)I" } : Jvm.MethodName)) ∈ lw_all := lw_g (lw_at lw_m2 9 rfl) rfl
theorem q257 : (Jvm.Cond.selects "BranchLengthsModel" ({ cls := "BranchLengthsModel", name := "place", desc := "(I)I" } : Jvm.MethodName) ({ cls := "BranchLengthsModel", name := "place", desc := "(I)I" } : Jvm.MethodName)) ∈ lw_all := lw_g (lw_at lw_m2 10 rfl) rfl
theorem q258 : (Jvm.Cond.code ({ cls := "BranchLengthsModel", name := "place", desc := "(I)I" } : Jvm.MethodName) prog_5_method_12_code (2 : Nat) (Option.some Jvm.ClassFile.FieldType.int)) ∈ lw_all := lw_g (lw_at lw_m2 11 rfl) rfl
theorem q260 : (Jvm.Cond.instanceMethod ({ cls := "BranchLengthsModel", name := "isLong", desc := "(I)Z" } : Jvm.MethodName)) ∈ lw_all := lw_g (lw_at lw_m2 13 rfl) rfl
theorem q261 : (Jvm.Cond.selects "BranchLengthsModel" ({ cls := "BranchLengthsModel", name := "isLong", desc := "(I)Z" } : Jvm.MethodName) ({ cls := "BranchLengthsModel", name := "isLong", desc := "(I)Z" } : Jvm.MethodName)) ∈ lw_all := lw_g (lw_at lw_m2 14 rfl) rfl
theorem q262 : (Jvm.Cond.code ({ cls := "BranchLengthsModel", name := "isLong", desc := "(I)Z" } : Jvm.MethodName) prog_5_method_13_code (2 : Nat) (Option.some Jvm.ClassFile.FieldType.boolean)) ∈ lw_all := lw_g (lw_at lw_m2 15 rfl) rfl
theorem q264 : (Jvm.Cond.instanceMethod ({ cls := "BranchLengthsModel", name := "longs", desc := "()I" } : Jvm.MethodName)) ∈ lw_all := lw_g (lw_at lw_m2 17 rfl) rfl
theorem q265 : (Jvm.Cond.selects "BranchLengthsModel" ({ cls := "BranchLengthsModel", name := "longs", desc := "()I" } : Jvm.MethodName) ({ cls := "BranchLengthsModel", name := "longs", desc := "()I" } : Jvm.MethodName)) ∈ lw_all := lw_g (lw_at lw_m2 18 rfl) rfl
theorem q266 : (Jvm.Cond.code ({ cls := "BranchLengthsModel", name := "longs", desc := "()I" } : Jvm.MethodName) prog_5_method_14_code (3 : Nat) (Option.some Jvm.ClassFile.FieldType.int)) ∈ lw_all := lw_g (lw_at lw_m2 19 rfl) rfl
theorem q268 : (Jvm.Cond.instanceMethod ({ cls := "BranchLengthsModel", name := "clear", desc := "()V" } : Jvm.MethodName)) ∈ lw_all := lw_g (lw_at lw_m2 21 rfl) rfl
theorem q269 : (Jvm.Cond.selects "BranchLengthsModel" ({ cls := "BranchLengthsModel", name := "clear", desc := "()V" } : Jvm.MethodName) ({ cls := "BranchLengthsModel", name := "clear", desc := "()V" } : Jvm.MethodName)) ∈ lw_all := lw_g (lw_at lw_m2 22 rfl) rfl
theorem q270 : (Jvm.Cond.code ({ cls := "BranchLengthsModel", name := "clear", desc := "()V" } : Jvm.MethodName) prog_5_method_15_code (1 : Nat) (Option.none : Option Jvm.ClassFile.FieldType)) ∈ lw_all := lw_g (lw_at lw_m2 23 rfl) rfl
theorem q272 : (Jvm.Cond.instanceMethod ({ cls := "BranchLengthsModel", name := "items", desc := "()I" } : Jvm.MethodName)) ∈ lw_all := lw_g (lw_at lw_m2 25 rfl) rfl
theorem q273 : (Jvm.Cond.selects "BranchLengthsModel" ({ cls := "BranchLengthsModel", name := "items", desc := "()I" } : Jvm.MethodName) ({ cls := "BranchLengthsModel", name := "items", desc := "()I" } : Jvm.MethodName)) ∈ lw_all := lw_g (lw_at lw_m2 26 rfl) rfl
theorem q274 : (Jvm.Cond.code ({ cls := "BranchLengthsModel", name := "items", desc := "()I" } : Jvm.MethodName) prog_5_method_16_code (1 : Nat) (Option.some Jvm.ClassFile.FieldType.int)) ∈ lw_all := lw_g (lw_at lw_m2 27 rfl) rfl
theorem q276 : (Jvm.Cond.instanceMethod ({ cls := "BranchLengthsModel", name := "marks", desc := "()I" } : Jvm.MethodName)) ∈ lw_all := lw_g (lw_at lw_m2 29 rfl) rfl
theorem q277 : (Jvm.Cond.selects "BranchLengthsModel" ({ cls := "BranchLengthsModel", name := "marks", desc := "()I" } : Jvm.MethodName) ({ cls := "BranchLengthsModel", name := "marks", desc := "()I" } : Jvm.MethodName)) ∈ lw_all := lw_g (lw_at lw_m2 30 rfl) rfl
theorem q278 : (Jvm.Cond.code ({ cls := "BranchLengthsModel", name := "marks", desc := "()I" } : Jvm.MethodName) prog_5_method_17_code (1 : Nat) (Option.some Jvm.ClassFile.FieldType.int)) ∈ lw_all := lw_g (lw_at lw_m2 31 rfl) rfl
theorem in_X3 : ∀ w ∈ wsX30, w ∈ lw_all := lw_in wsX30 [197, 199, 201, 203, 205, 207, 209, 211, 213, 215] (by decide +kernel) (by decide +kernel)
end
section
/-! the law's own entry -/
set_option maxRecDepth 100000
abbrev cL_law : ByteArray := code
theorem dL_law_0 : decode cL_law 0 = .ok (.new 7, 3) := by decide +kernel
theorem dL_law_3 : decode cL_law 3 = .ok (.dup, 1) := by decide +kernel
theorem dL_law_4 : decode cL_law 4 = .ok (.invokespecial 9, 3) := by decide +kernel
theorem dL_law_7 : decode cL_law 7 = .ok (.astore_n 1, 1) := by decide +kernel
theorem dL_law_8 : decode cL_law 8 = .ok (.new 10, 3) := by decide +kernel
theorem dL_law_11 : decode cL_law 11 = .ok (.dup, 1) := by decide +kernel
theorem dL_law_12 : decode cL_law 12 = .ok (.invokespecial 12, 3) := by decide +kernel
theorem dL_law_15 : decode cL_law 15 = .ok (.astore_n 2, 1) := by decide +kernel
theorem dL_law_16 : decode cL_law 16 = .ok (.iconst 0, 1) := by decide +kernel
theorem dL_law_17 : decode cL_law 17 = .ok (.istore_n 3, 1) := by decide +kernel
theorem dL_law_18 : decode cL_law 18 = .ok (.iload_n 3, 1) := by decide +kernel
theorem dL_law_19 : decode cL_law 19 = .ok (.aload_n 0, 1) := by decide +kernel
theorem dL_law_20 : decode cL_law 20 = .ok (.arraylength, 1) := by decide +kernel
theorem dL_law_21 : decode cL_law 21 = .ok (.iconst 2, 1) := by decide +kernel
theorem dL_law_22 : decode cL_law 22 = .ok (.isub, 1) := by decide +kernel
theorem dL_law_23 : decode cL_law 23 = .ok (.if_icmp .gt 283, 3) := by decide +kernel
theorem dL_law_26 : decode cL_law 26 = .ok (.aload_n 0, 1) := by decide +kernel
theorem dL_law_27 : decode cL_law 27 = .ok (.iload_n 3, 1) := by decide +kernel
theorem dL_law_28 : decode cL_law 28 = .ok (.iaload, 1) := by decide +kernel
theorem dL_law_29 : decode cL_law 29 = .ok (.bipush 15, 2) := by decide +kernel
theorem dL_law_31 : decode cL_law 31 = .ok (.iand, 1) := by decide +kernel
theorem dL_law_32 : decode cL_law 32 = .ok (.tableswitch 268 0 11 #[64, 87, 100, 123, 146, 159, 172, 195, 218, 231, 242, 255], 64) := by decide +kernel
theorem dL_law_96 : decode cL_law 96 = .ok (.aload_n 1, 1) := by decide +kernel
theorem dL_law_97 : decode cL_law 97 = .ok (.aload_n 0, 1) := by decide +kernel
theorem dL_law_98 : decode cL_law 98 = .ok (.iload_n 3, 1) := by decide +kernel
theorem dL_law_99 : decode cL_law 99 = .ok (.iconst 1, 1) := by decide +kernel
theorem dL_law_100 : decode cL_law 100 = .ok (.iadd, 1) := by decide +kernel
theorem dL_law_101 : decode cL_law 101 = .ok (.iaload, 1) := by decide +kernel
theorem dL_law_102 : decode cL_law 102 = .ok (.invokevirtual 13, 3) := by decide +kernel
theorem dL_law_105 : decode cL_law 105 = .ok (.aload_n 2, 1) := by decide +kernel
theorem dL_law_106 : decode cL_law 106 = .ok (.aload_n 0, 1) := by decide +kernel
theorem dL_law_107 : decode cL_law 107 = .ok (.iload_n 3, 1) := by decide +kernel
theorem dL_law_108 : decode cL_law 108 = .ok (.iconst 1, 1) := by decide +kernel
theorem dL_law_109 : decode cL_law 109 = .ok (.iadd, 1) := by decide +kernel
theorem dL_law_110 : decode cL_law 110 = .ok (.iaload, 1) := by decide +kernel
theorem dL_law_111 : decode cL_law 111 = .ok (.invokevirtual 17, 3) := by decide +kernel
theorem dL_law_114 : decode cL_law 114 = .ok (.if_icmp .eq 186, 3) := by decide +kernel
theorem dL_law_117 : decode cL_law 117 = .ok (.iconst 0, 1) := by decide +kernel
theorem dL_law_118 : decode cL_law 118 = .ok (.ireturn, 1) := by decide +kernel
theorem dL_law_119 : decode cL_law 119 = .ok (.aload_n 1, 1) := by decide +kernel
theorem dL_law_120 : decode cL_law 120 = .ok (.invokevirtual 18, 3) := by decide +kernel
theorem dL_law_123 : decode cL_law 123 = .ok (.aload_n 2, 1) := by decide +kernel
theorem dL_law_124 : decode cL_law 124 = .ok (.invokevirtual 22, 3) := by decide +kernel
theorem dL_law_127 : decode cL_law 127 = .ok (.if_icmp .eq 173, 3) := by decide +kernel
theorem dL_law_130 : decode cL_law 130 = .ok (.iconst 0, 1) := by decide +kernel
theorem dL_law_131 : decode cL_law 131 = .ok (.ireturn, 1) := by decide +kernel
theorem dL_law_132 : decode cL_law 132 = .ok (.aload_n 1, 1) := by decide +kernel
theorem dL_law_133 : decode cL_law 133 = .ok (.aload_n 0, 1) := by decide +kernel
theorem dL_law_134 : decode cL_law 134 = .ok (.iload_n 3, 1) := by decide +kernel
theorem dL_law_135 : decode cL_law 135 = .ok (.iconst 1, 1) := by decide +kernel
theorem dL_law_136 : decode cL_law 136 = .ok (.iadd, 1) := by decide +kernel
theorem dL_law_137 : decode cL_law 137 = .ok (.iaload, 1) := by decide +kernel
theorem dL_law_138 : decode cL_law 138 = .ok (.invokevirtual 23, 3) := by decide +kernel
theorem dL_law_141 : decode cL_law 141 = .ok (.aload_n 2, 1) := by decide +kernel
theorem dL_law_142 : decode cL_law 142 = .ok (.aload_n 0, 1) := by decide +kernel
theorem dL_law_143 : decode cL_law 143 = .ok (.iload_n 3, 1) := by decide +kernel
theorem dL_law_144 : decode cL_law 144 = .ok (.iconst 1, 1) := by decide +kernel
theorem dL_law_145 : decode cL_law 145 = .ok (.iadd, 1) := by decide +kernel
theorem dL_law_146 : decode cL_law 146 = .ok (.iaload, 1) := by decide +kernel
theorem dL_law_147 : decode cL_law 147 = .ok (.invokevirtual 26, 3) := by decide +kernel
theorem dL_law_150 : decode cL_law 150 = .ok (.if_icmp .eq 150, 3) := by decide +kernel
theorem dL_law_153 : decode cL_law 153 = .ok (.iconst 0, 1) := by decide +kernel
theorem dL_law_154 : decode cL_law 154 = .ok (.ireturn, 1) := by decide +kernel
theorem dL_law_155 : decode cL_law 155 = .ok (.aload_n 1, 1) := by decide +kernel
theorem dL_law_156 : decode cL_law 156 = .ok (.aload_n 0, 1) := by decide +kernel
theorem dL_law_157 : decode cL_law 157 = .ok (.iload_n 3, 1) := by decide +kernel
theorem dL_law_158 : decode cL_law 158 = .ok (.iconst 1, 1) := by decide +kernel
theorem dL_law_159 : decode cL_law 159 = .ok (.iadd, 1) := by decide +kernel
theorem dL_law_160 : decode cL_law 160 = .ok (.iaload, 1) := by decide +kernel
theorem dL_law_161 : decode cL_law 161 = .ok (.invokevirtual 27, 3) := by decide +kernel
theorem dL_law_164 : decode cL_law 164 = .ok (.aload_n 2, 1) := by decide +kernel
theorem dL_law_165 : decode cL_law 165 = .ok (.aload_n 0, 1) := by decide +kernel
theorem dL_law_166 : decode cL_law 166 = .ok (.iload_n 3, 1) := by decide +kernel
theorem dL_law_167 : decode cL_law 167 = .ok (.iconst 1, 1) := by decide +kernel
theorem dL_law_168 : decode cL_law 168 = .ok (.iadd, 1) := by decide +kernel
theorem dL_law_169 : decode cL_law 169 = .ok (.iaload, 1) := by decide +kernel
theorem dL_law_170 : decode cL_law 170 = .ok (.invokevirtual 31, 3) := by decide +kernel
theorem dL_law_173 : decode cL_law 173 = .ok (.if_icmp .eq 127, 3) := by decide +kernel
theorem dL_law_176 : decode cL_law 176 = .ok (.iconst 0, 1) := by decide +kernel
theorem dL_law_177 : decode cL_law 177 = .ok (.ireturn, 1) := by decide +kernel
theorem dL_law_178 : decode cL_law 178 = .ok (.aload_n 1, 1) := by decide +kernel
theorem dL_law_179 : decode cL_law 179 = .ok (.invokevirtual 32, 3) := by decide +kernel
theorem dL_law_182 : decode cL_law 182 = .ok (.aload_n 2, 1) := by decide +kernel
theorem dL_law_183 : decode cL_law 183 = .ok (.invokevirtual 35, 3) := by decide +kernel
theorem dL_law_186 : decode cL_law 186 = .ok (.if_icmp .eq 114, 3) := by decide +kernel
theorem dL_law_189 : decode cL_law 189 = .ok (.iconst 0, 1) := by decide +kernel
theorem dL_law_190 : decode cL_law 190 = .ok (.ireturn, 1) := by decide +kernel
theorem dL_law_191 : decode cL_law 191 = .ok (.aload_n 1, 1) := by decide +kernel
theorem dL_law_192 : decode cL_law 192 = .ok (.invokevirtual 36, 3) := by decide +kernel
theorem dL_law_195 : decode cL_law 195 = .ok (.aload_n 2, 1) := by decide +kernel
theorem dL_law_196 : decode cL_law 196 = .ok (.invokevirtual 39, 3) := by decide +kernel
theorem dL_law_199 : decode cL_law 199 = .ok (.if_icmp .eq 101, 3) := by decide +kernel
theorem dL_law_202 : decode cL_law 202 = .ok (.iconst 0, 1) := by decide +kernel
theorem dL_law_203 : decode cL_law 203 = .ok (.ireturn, 1) := by decide +kernel
theorem dL_law_204 : decode cL_law 204 = .ok (.aload_n 1, 1) := by decide +kernel
theorem dL_law_205 : decode cL_law 205 = .ok (.aload_n 0, 1) := by decide +kernel
theorem dL_law_206 : decode cL_law 206 = .ok (.iload_n 3, 1) := by decide +kernel
theorem dL_law_207 : decode cL_law 207 = .ok (.iconst 1, 1) := by decide +kernel
theorem dL_law_208 : decode cL_law 208 = .ok (.iadd, 1) := by decide +kernel
theorem dL_law_209 : decode cL_law 209 = .ok (.iaload, 1) := by decide +kernel
theorem dL_law_210 : decode cL_law 210 = .ok (.invokevirtual 40, 3) := by decide +kernel
theorem dL_law_213 : decode cL_law 213 = .ok (.aload_n 2, 1) := by decide +kernel
theorem dL_law_214 : decode cL_law 214 = .ok (.aload_n 0, 1) := by decide +kernel
theorem dL_law_215 : decode cL_law 215 = .ok (.iload_n 3, 1) := by decide +kernel
theorem dL_law_216 : decode cL_law 216 = .ok (.iconst 1, 1) := by decide +kernel
theorem dL_law_217 : decode cL_law 217 = .ok (.iadd, 1) := by decide +kernel
theorem dL_law_218 : decode cL_law 218 = .ok (.iaload, 1) := by decide +kernel
theorem dL_law_219 : decode cL_law 219 = .ok (.invokevirtual 43, 3) := by decide +kernel
theorem dL_law_222 : decode cL_law 222 = .ok (.if_icmp .eq 78, 3) := by decide +kernel
theorem dL_law_225 : decode cL_law 225 = .ok (.iconst 0, 1) := by decide +kernel
theorem dL_law_226 : decode cL_law 226 = .ok (.ireturn, 1) := by decide +kernel
theorem dL_law_227 : decode cL_law 227 = .ok (.aload_n 1, 1) := by decide +kernel
theorem dL_law_228 : decode cL_law 228 = .ok (.aload_n 0, 1) := by decide +kernel
theorem dL_law_229 : decode cL_law 229 = .ok (.iload_n 3, 1) := by decide +kernel
theorem dL_law_230 : decode cL_law 230 = .ok (.iconst 1, 1) := by decide +kernel
theorem dL_law_231 : decode cL_law 231 = .ok (.iadd, 1) := by decide +kernel
theorem dL_law_232 : decode cL_law 232 = .ok (.iaload, 1) := by decide +kernel
theorem dL_law_233 : decode cL_law 233 = .ok (.invokevirtual 44, 3) := by decide +kernel
theorem dL_law_236 : decode cL_law 236 = .ok (.aload_n 2, 1) := by decide +kernel
theorem dL_law_237 : decode cL_law 237 = .ok (.aload_n 0, 1) := by decide +kernel
theorem dL_law_238 : decode cL_law 238 = .ok (.iload_n 3, 1) := by decide +kernel
theorem dL_law_239 : decode cL_law 239 = .ok (.iconst 1, 1) := by decide +kernel
theorem dL_law_240 : decode cL_law 240 = .ok (.iadd, 1) := by decide +kernel
theorem dL_law_241 : decode cL_law 241 = .ok (.iaload, 1) := by decide +kernel
theorem dL_law_242 : decode cL_law 242 = .ok (.invokevirtual 47, 3) := by decide +kernel
theorem dL_law_245 : decode cL_law 245 = .ok (.if_icmp .eq 55, 3) := by decide +kernel
theorem dL_law_248 : decode cL_law 248 = .ok (.iconst 0, 1) := by decide +kernel
theorem dL_law_249 : decode cL_law 249 = .ok (.ireturn, 1) := by decide +kernel
theorem dL_law_250 : decode cL_law 250 = .ok (.aload_n 1, 1) := by decide +kernel
theorem dL_law_251 : decode cL_law 251 = .ok (.invokevirtual 48, 3) := by decide +kernel
theorem dL_law_254 : decode cL_law 254 = .ok (.aload_n 2, 1) := by decide +kernel
theorem dL_law_255 : decode cL_law 255 = .ok (.invokevirtual 51, 3) := by decide +kernel
theorem dL_law_258 : decode cL_law 258 = .ok (.if_icmp .eq 42, 3) := by decide +kernel
theorem dL_law_261 : decode cL_law 261 = .ok (.iconst 0, 1) := by decide +kernel
theorem dL_law_262 : decode cL_law 262 = .ok (.ireturn, 1) := by decide +kernel
theorem dL_law_263 : decode cL_law 263 = .ok (.aload_n 1, 1) := by decide +kernel
theorem dL_law_264 : decode cL_law 264 = .ok (.invokevirtual 52, 3) := by decide +kernel
theorem dL_law_267 : decode cL_law 267 = .ok (.aload_n 2, 1) := by decide +kernel
theorem dL_law_268 : decode cL_law 268 = .ok (.invokevirtual 55, 3) := by decide +kernel
theorem dL_law_271 : decode cL_law 271 = .ok (.goto 29, 3) := by decide +kernel
theorem dL_law_274 : decode cL_law 274 = .ok (.aload_n 1, 1) := by decide +kernel
theorem dL_law_275 : decode cL_law 275 = .ok (.invokevirtual 56, 3) := by decide +kernel
theorem dL_law_278 : decode cL_law 278 = .ok (.aload_n 2, 1) := by decide +kernel
theorem dL_law_279 : decode cL_law 279 = .ok (.invokevirtual 59, 3) := by decide +kernel
theorem dL_law_282 : decode cL_law 282 = .ok (.if_icmp .eq 18, 3) := by decide +kernel
theorem dL_law_285 : decode cL_law 285 = .ok (.iconst 0, 1) := by decide +kernel
theorem dL_law_286 : decode cL_law 286 = .ok (.ireturn, 1) := by decide +kernel
theorem dL_law_287 : decode cL_law 287 = .ok (.aload_n 1, 1) := by decide +kernel
theorem dL_law_288 : decode cL_law 288 = .ok (.invokevirtual 60, 3) := by decide +kernel
theorem dL_law_291 : decode cL_law 291 = .ok (.aload_n 2, 1) := by decide +kernel
theorem dL_law_292 : decode cL_law 292 = .ok (.invokevirtual 63, 3) := by decide +kernel
theorem dL_law_295 : decode cL_law 295 = .ok (.if_icmp .eq 5, 3) := by decide +kernel
theorem dL_law_298 : decode cL_law 298 = .ok (.iconst 0, 1) := by decide +kernel
theorem dL_law_299 : decode cL_law 299 = .ok (.ireturn, 1) := by decide +kernel
theorem dL_law_300 : decode cL_law 300 = .ok (.iinc 3 2, 3) := by decide +kernel
theorem dL_law_303 : decode cL_law 303 = .ok (.goto (-285), 3) := by decide +kernel
theorem dL_law_306 : decode cL_law 306 = .ok (.iconst 1, 1) := by decide +kernel
theorem dL_law_307 : decode cL_law 307 = .ok (.ireturn, 1) := by decide +kernel
theorem q7 : (Jvm.Cond.initialized "BranchLengthsLaw") ∈ lw_all := lw_g (lw_at lw_m1 0 rfl) rfl
set_option maxRecDepth 100000
theorem q12 : (Jvm.Cond.classLink "BranchLengthsLaw" (7 : Nat) "BranchLengths") ∈ lw_all := lw_g (lw_at lw_m1 5 rfl) rfl
theorem q14 : (Jvm.Cond.methodLink "BranchLengthsLaw" (9 : Nat) ({ cls := "BranchLengths", name := "<init>", desc := "()V" } : Jvm.MethodName)) ∈ lw_all := lw_g (lw_at lw_m1 7 rfl) rfl
theorem q88 : (Jvm.Cond.methodLink "BranchLengthsLaw" (13 : Nat) ({ cls := "BranchLengths", name := "stretch", desc := "(I)I" } : Jvm.MethodName)) ∈ lw_all := lw_g (lw_at lw_m1 81 rfl) rfl
theorem q96 : (Jvm.Cond.methodLink "BranchLengthsLaw" (18 : Nat) ({ cls := "BranchLengths", name := "mark", desc := "()I" } : Jvm.MethodName)) ∈ lw_all := lw_g (lw_at lw_m1 89 rfl) rfl
theorem q100 : (Jvm.Cond.methodLink "BranchLengthsLaw" (23 : Nat) ({ cls := "BranchLengths", name := "branch", desc := "(I)I" } : Jvm.MethodName)) ∈ lw_all := lw_g (lw_at lw_m1 93 rfl) rfl
theorem q104 : (Jvm.Cond.methodLink "BranchLengthsLaw" (27 : Nat) ({ cls := "BranchLengths", name := "reach", desc := "(I)Z" } : Jvm.MethodName)) ∈ lw_all := lw_g (lw_at lw_m1 97 rfl) rfl
theorem q109 : (Jvm.Cond.methodLink "BranchLengthsLaw" (32 : Nat) ({ cls := "BranchLengths", name := "lay", desc := "()I" } : Jvm.MethodName)) ∈ lw_all := lw_g (lw_at lw_m1 102 rfl) rfl
theorem q149 : (Jvm.Cond.methodLink "BranchLengthsLaw" (36 : Nat) ({ cls := "BranchLengths", name := "least", desc := "()I" } : Jvm.MethodName)) ∈ lw_all := lw_g (lw_at lw_m1 142 rfl) rfl
theorem q153 : (Jvm.Cond.methodLink "BranchLengthsLaw" (40 : Nat) ({ cls := "BranchLengths", name := "place", desc := "(I)I" } : Jvm.MethodName)) ∈ lw_all := lw_g (lw_at lw_m1 146 rfl) rfl
theorem q161 : (Jvm.Cond.methodLink "BranchLengthsLaw" (44 : Nat) ({ cls := "BranchLengths", name := "isLong", desc := "(I)Z" } : Jvm.MethodName)) ∈ lw_all := lw_g (lw_at lw_m1 154 rfl) rfl
theorem q165 : (Jvm.Cond.methodLink "BranchLengthsLaw" (48 : Nat) ({ cls := "BranchLengths", name := "longs", desc := "()I" } : Jvm.MethodName)) ∈ lw_all := lw_g (lw_at lw_m1 158 rfl) rfl
theorem q169 : (Jvm.Cond.methodLink "BranchLengthsLaw" (52 : Nat) ({ cls := "BranchLengths", name := "clear", desc := "()V" } : Jvm.MethodName)) ∈ lw_all := lw_g (lw_at lw_m1 162 rfl) rfl
theorem q173 : (Jvm.Cond.methodLink "BranchLengthsLaw" (56 : Nat) ({ cls := "BranchLengths", name := "items", desc := "()I" } : Jvm.MethodName)) ∈ lw_all := lw_g (lw_at lw_m1 166 rfl) rfl
theorem q177 : (Jvm.Cond.methodLink "BranchLengthsLaw" (60 : Nat) ({ cls := "BranchLengths", name := "marks", desc := "()I" } : Jvm.MethodName)) ∈ lw_all := lw_g (lw_at lw_m1 170 rfl) rfl
theorem q181 : (Jvm.Cond.classLink "BranchLengthsLaw" (10 : Nat) "BranchLengthsModel") ∈ lw_all := lw_g (lw_at lw_m1 174 rfl) rfl
theorem q183 : (Jvm.Cond.methodLink "BranchLengthsLaw" (12 : Nat) ({ cls := "BranchLengthsModel", name := "<init>", desc := "()V" } : Jvm.MethodName)) ∈ lw_all := lw_g (lw_at lw_m1 176 rfl) rfl
theorem q218 : (Jvm.Cond.methodLink "BranchLengthsLaw" (17 : Nat) ({ cls := "BranchLengthsModel", name := "stretch", desc := "(I)I" } : Jvm.MethodName)) ∈ lw_all := lw_g (lw_at lw_m1 211 rfl) rfl
theorem q226 : (Jvm.Cond.methodLink "BranchLengthsLaw" (22 : Nat) ({ cls := "BranchLengthsModel", name := "mark", desc := "()I" } : Jvm.MethodName)) ∈ lw_all := lw_g (lw_at lw_m1 219 rfl) rfl
theorem q230 : (Jvm.Cond.methodLink "BranchLengthsLaw" (26 : Nat) ({ cls := "BranchLengthsModel", name := "branch", desc := "(I)I" } : Jvm.MethodName)) ∈ lw_all := lw_g (lw_at lw_m1 223 rfl) rfl
theorem q234 : (Jvm.Cond.methodLink "BranchLengthsLaw" (31 : Nat) ({ cls := "BranchLengthsModel", name := "reach", desc := "(I)Z" } : Jvm.MethodName)) ∈ lw_all := lw_g (lw_at lw_m1 227 rfl) rfl
theorem q239 : (Jvm.Cond.methodLink "BranchLengthsLaw" (35 : Nat) ({ cls := "BranchLengthsModel", name := "lay", desc := "()I" } : Jvm.MethodName)) ∈ lw_all := lw_g (lw_at lw_m1 232 rfl) rfl
theorem q251 : (Jvm.Cond.methodLink "BranchLengthsLaw" (39 : Nat) ({ cls := "BranchLengthsModel", name := "least", desc := "()I" } : Jvm.MethodName)) ∈ lw_all := lw_g (lw_at lw_m2 4 rfl) rfl
theorem q255 : (Jvm.Cond.methodLink "BranchLengthsLaw" (43 : Nat) ({ cls := "BranchLengthsModel", name := "place", desc := "(I)I" } : Jvm.MethodName)) ∈ lw_all := lw_g (lw_at lw_m2 8 rfl) rfl
theorem q259 : (Jvm.Cond.methodLink "BranchLengthsLaw" (47 : Nat) ({ cls := "BranchLengthsModel", name := "isLong", desc := "(I)Z" } : Jvm.MethodName)) ∈ lw_all := lw_g (lw_at lw_m2 12 rfl) rfl
theorem q263 : (Jvm.Cond.methodLink "BranchLengthsLaw" (51 : Nat) ({ cls := "BranchLengthsModel", name := "longs", desc := "()I" } : Jvm.MethodName)) ∈ lw_all := lw_g (lw_at lw_m2 16 rfl) rfl
theorem q267 : (Jvm.Cond.methodLink "BranchLengthsLaw" (55 : Nat) ({ cls := "BranchLengthsModel", name := "clear", desc := "()V" } : Jvm.MethodName)) ∈ lw_all := lw_g (lw_at lw_m2 20 rfl) rfl
theorem q271 : (Jvm.Cond.methodLink "BranchLengthsLaw" (59 : Nat) ({ cls := "BranchLengthsModel", name := "items", desc := "()I" } : Jvm.MethodName)) ∈ lw_all := lw_g (lw_at lw_m2 24 rfl) rfl
theorem q275 : (Jvm.Cond.methodLink "BranchLengthsLaw" (63 : Nat) ({ cls := "BranchLengthsModel", name := "marks", desc := "()I" } : Jvm.MethodName)) ∈ lw_all := lw_g (lw_at lw_m2 28 rfl) rfl
end
section
abbrev vwCl : List vw_C := [(RX0, TX0, 12), (RX1, TX1, 1), (RX2, TX2, 4), (RX3, TX3, 10)]
/-- what is fixed through a method's body -/
def ZC (p : Program) (s : State) (m : MethodId) (args : Array Value) (c : Code) (cc : ByteArray) (nL : Nat) (own : String) (D : va_G) (tys : List (ClassId × FieldType)) (A : Nat → Prop) : Prop :=
  (p.tables.exec = Jvm.exec ∧ c.code = cc ∧ c.maxLocals = nL ∧ s.vm.findClass own = some m.cls ∧ ∀ w ∈ lw_all, w.before args s = true) ∧ va_K D vwCl tys s ∧ ∀ q : Nat, s.heap.size ≤ q → A q
/-- from any heap that holds the cells ws, with locals that hold lv -/
def Z (p : Program) (l : Launch) (e : Env) (R : Room) (s : State) (m : MethodId) (args : Array Value) (below : List Frame) (meth : Method) (c : Code) (D : va_G) (A : Nat → Prop) (nL : Nat) (Q : State → Prop) (cells slots : Nat) (ws : va_W) (pc : Nat) (lv : List (Nat × Value)) (st : List Value) : Prop :=
  ∀ (H : Heap) (locs : List Loc) (ls : Array Slot), va_P D vwCl ws H → va_D A ws → va_S A s.heap H locs → lv_has ls nL lv → W p l e R s m args below meth c H locs cells slots Q (F0 m pc ls st)
def zlk : List (Nat × Value) → Nat → Option Value
  | [], _ => none
  | q :: t, k => if q.1 = k then some q.2 else zlk t k
theorem zlk_mem : ∀ (lv : List (Nat × Value)) (k : Nat) (v : Value), zlk lv k = some v → (k, v) ∈ lv
  | [], _, _, h => by simp [zlk] at h
  | (a, w) :: t, k, v, h => by
    by_cases e1 : a = k
    · have h2 : some w = some v := by simpa [zlk, e1] using h
      rw [← e1, ← Option.some.inj h2]
      exact List.mem_cons_self
    · have h2 : zlk t k = some v := by simpa [zlk, e1] using h
      exact List.mem_cons_of_mem _ (zlk_mem t k v h2)
theorem zlk_at {ls : Array Slot} {nL : Nat} {lv : List (Nat × Value)} {k : Nat} {v : Value} (h : lv_has ls nL lv) (hk : zlk lv k = some v) : ls[k]? = some (.val v) := h.2.2 (k, v) (zlk_mem lv k v hk)
theorem zl_pick {ls : Array Slot} {nL : Nat} {lv lv' : List (Nat × Value)} (h : lv_has ls nL lv) (hm : lv'.map (fun q => zlk lv q.1) = lv'.map (fun q => some q.2)) : lv_has ls nL lv' := by
  refine ⟨h.1, h.2.1, fun q hq => ?_⟩
  have h1 : zlk lv q.1 = some q.2 := List.map_inj_left.mp hm q hq
  exact zlk_at h h1
theorem zl_sto {i : Nat} {v : Value} {lv lv' : List (Nat × Value)} {ls : Array Slot} {nL : Nat} (h : lv_has ls nL ((i, v) :: lv.filter (fun q => !(q.1 == i) && !(q.1 + 1 == i && q.2.category == 2)))) (hm : lv'.map (fun q => zlk ((i, v) :: lv) q.1) = lv'.map (fun q => some q.2)) (hc : lv'.map (fun q => q.2.category) = lv'.map (fun _ => 1)) : lv_has ls nL lv' := by
  refine ⟨h.1, h.2.1, fun q hq => h.2.2 q ?_⟩
  have h1 : zlk ((i, v) :: lv) q.1 = some q.2 := List.map_inj_left.mp hm q hq
  have h2 : q.2.category = 1 := List.map_inj_left.mp hc q hq
  obtain ⟨k, w⟩ := q
  by_cases e1 : i = k
  · have h3 : some v = some w := by simpa [zlk, e1] using h1
    rw [← e1, ← Option.some.inj h3]
    exact List.mem_cons_self
  · have h3 : zlk lv k = some w := by simpa [zlk, e1] using h1
    refine List.mem_cons_of_mem _ (List.mem_filter.mpr ⟨zlk_mem lv k w h3, ?_⟩)
    have e2 : ¬ k = i := fun h => e1 h.symm
    have h4 : w.category = 1 := h2
    simp [e2, h4]
theorem z_fm : ∀ (is : List Nat) (ws wc : va_W), is.map (fun i => ws[i]?) = wc.map some → is.filterMap (fun i => ws[i]?) = wc
  | [], _, [], _ => rfl
  | [], _, _ :: _, h => by simp at h
  | _ :: _, _, [], h => by simp at h
  | i :: is, ws, q :: wc, h => by
    simp only [List.map_cons, List.cons.injEq] at h
    rw [List.filterMap_cons, h.1, z_fm is ws wc h.2]
section ZL
variable {p : Program} {l : Launch} {e : Env} {R : Room} {s : State} {m : MethodId} {args : Array Value} {below : List Frame} {meth : Method} {c : Code} {Q : State → Prop} {cc : ByteArray} {nL : Nat} {own : String} {D : va_G} {tys : List (ClassId × FieldType)} {A : Nat → Prop} {cells slots pc : Nat} {ws : va_W} {lv : List (Nat × Value)} {st : List Value}
theorem ZC.w (C : ZC p s m args c cc nL own D tys A) {w : Cond} (h : w ∈ lw_all) : w.before args s = true := C.1.2.2.2.2 w h
/-- other locals, a part of those that are there -/
theorem z_lv {lv' : List (Nat × Value)} (hm : lv'.map (fun q => zlk lv q.1) = lv'.map (fun q => some q.2)) (kk : Z p l e R s m args below meth c D A nL Q cells slots ws pc lv' st) : Z p l e R s m args below meth c D A nL Q cells slots ws pc lv st :=
  fun H locs ls hP hD hS hl => kk H locs ls hP hD hS (zl_pick hl hm)
theorem z_eq {ws' : va_W} {lv' : List (Nat × Value)} {st' : List Value} (h1 : ws = ws') (h2 : lv = lv') (h3 : st = st') (kk : Z p l e R s m args below meth c D A nL Q cells slots ws' pc lv' st') : Z p l e R s m args below meth c D A nL Q cells slots ws pc lv st := by
  subst h1; subst h2; subst h3; exact kk
theorem z_widen {k n : Nat} (h1 : cells ≤ k) (h2 : slots ≤ n) (kk : Z p l e R s m args below meth c D A nL Q k n ws pc lv st) : Z p l e R s m args below meth c D A nL Q cells slots ws pc lv st :=
  fun H locs ls hP hD hS hl => W.widen h1 h2 (kk H locs ls hP hD hS hl)
theorem z_aload (C : ZC p s m args c cc nL own D tys A) {k : Fin 4} {x : Nat} (hd : decode cc pc = .ok (.aload_n k, 1)) (hx : zlk lv (k : Nat) = some (.ref x)) (kk : Z p l e R s m args below meth c D A nL Q cells slots ws (pc + 1) lv (.ref x :: st)) : Z p l e R s m args below meth c D A nL Q cells slots ws pc lv st :=
  fun H locs ls hP hD hS hl => lv_aload_n C.1.1 C.1.2.1 hd rfl (zlk_at hl hx) (kk H locs ls hP hD hS hl)
theorem z_iload (C : ZC p s m args c cc nL own D tys A) {k : Fin 4} {x : Int32} (hd : decode cc pc = .ok (.iload_n k, 1)) (hx : zlk lv (k : Nat) = some (.int x)) (kk : Z p l e R s m args below meth c D A nL Q cells slots ws (pc + 1) lv (.int x :: st)) : Z p l e R s m args below meth c D A nL Q cells slots ws pc lv st :=
  fun H locs ls hP hD hS hl => lv_iload_n C.1.1 C.1.2.1 hd rfl (zlk_at hl hx) (kk H locs ls hP hD hS hl)
theorem z_istore (C : ZC p s m args c cc nL own D tys A) {k : Fin 4} {x : Int32} {lv' : List (Nat × Value)} (hd : decode cc pc = .ok (.istore_n k, 1)) (hn : (k : Nat) < nL) (hm : lv'.map (fun q => zlk (((k : Nat), Value.int x) :: lv) q.1) = lv'.map (fun q => some q.2)) (hc : lv'.map (fun q => q.2.category) = lv'.map (fun _ => 1)) (kk : Z p l e R s m args below meth c D A nL Q cells slots ws (pc + 1) lv' st) : Z p l e R s m args below meth c D A nL Q cells slots ws pc lv (.int x :: st) :=
  fun H locs ls hP hD hS hl => lv_istore_n C.1.1 C.1.2.1 hd rfl hl hn rfl (fun ls' h' => kk H locs ls' hP hD hS (zl_sto h' hm hc))
theorem z_astore (C : ZC p s m args c cc nL own D tys A) {k : Fin 4} {x : Nat} {lv' : List (Nat × Value)} (hd : decode cc pc = .ok (.astore_n k, 1)) (hn : (k : Nat) < nL) (hm : lv'.map (fun q => zlk (((k : Nat), Value.ref x) :: lv) q.1) = lv'.map (fun q => some q.2)) (hc : lv'.map (fun q => q.2.category) = lv'.map (fun _ => 1)) (kk : Z p l e R s m args below meth c D A nL Q cells slots ws (pc + 1) lv' st) : Z p l e R s m args below meth c D A nL Q cells slots ws pc lv (.ref x :: st) :=
  fun H locs ls hP hD hS hl => lv_astore_n C.1.1 C.1.2.1 hd rfl hl hn rfl (fun ls' h' => kk H locs ls' hP hD hS (zl_sto h' hm hc))
theorem z_iinc (C : ZC p s m args c cc nL own D tys A) {i j : Nat} {n : Int} {x v : Int32} {lv' : List (Nat × Value)} (hd : decode cc pc = .ok (.iinc i n, 3)) (j0 : lv[j]? = some (i, .int x)) (hv : x + Int32.ofInt n = v) (hn : i < nL) (hm : lv'.map (fun q => zlk ((i, Value.int v) :: lv) q.1) = lv'.map (fun q => some q.2)) (hc : lv'.map (fun q => q.2.category) = lv'.map (fun _ => 1)) (kk : Z p l e R s m args below meth c D A nL Q cells slots ws (pc + 3) lv' st) : Z p l e R s m args below meth c D A nL Q cells slots ws pc lv st :=
  fun H locs ls hP hD hS hl => lv_iinc C.1.1 C.1.2.1 hd hl j0 hv hn rfl (fun ls' h' => kk H locs ls' hP hD hS (zl_sto h' hm hc))
theorem z_iconst (C : ZC p s m args c cc nL own D tys A) {n : Int} {v : Int32} (hd : decode cc pc = .ok (.iconst n, 1)) (hv : Int32.ofInt n = v) (kk : Z p l e R s m args below meth c D A nL Q cells slots ws (pc + 1) lv (.int v :: st)) : Z p l e R s m args below meth c D A nL Q cells slots ws pc lv st :=
  fun H locs ls hP hD hS hl => lv_iconst C.1.1 C.1.2.1 hd hv (kk H locs ls hP hD hS hl)
theorem z_bipush (C : ZC p s m args c cc nL own D tys A) {n : Int} {v : Int32} (hd : decode cc pc = .ok (.bipush n, 2)) (hv : (Int8.ofInt n).toInt32 = v) (kk : Z p l e R s m args below meth c D A nL Q cells slots ws (pc + 2) lv (.int v :: st)) : Z p l e R s m args below meth c D A nL Q cells slots ws pc lv st :=
  fun H locs ls hP hD hS hl => lv_bipush C.1.1 C.1.2.1 hd hv (kk H locs ls hP hD hS hl)
theorem z_sipush (C : ZC p s m args c cc nL own D tys A) {n : Int} {v : Int32} (hd : decode cc pc = .ok (.sipush n, 3)) (hv : (Int16.ofInt n).toInt32 = v) (kk : Z p l e R s m args below meth c D A nL Q cells slots ws (pc + 3) lv (.int v :: st)) : Z p l e R s m args below meth c D A nL Q cells slots ws pc lv st :=
  fun H locs ls hP hD hS hl => lv_sipush C.1.1 C.1.2.1 hd hv (kk H locs ls hP hD hS hl)
theorem z_ldc (C : ZC p s m args c cc nL own D tys A) {index : Nat} {v : Int32} (hw : Jvm.Cond.constant own index v ∈ lw_all) (hd : decode cc pc = .ok (.ldc index, 2)) (kk : Z p l e R s m args below meth c D A nL Q cells slots ws (pc + 2) lv (.int v :: st)) : Z p l e R s m args below meth c D A nL Q cells slots ws pc lv st :=
  fun H locs ls hP hD hS hl => lv_ldc C.1.1 C.1.2.1 C.1.2.2.2.1 (C.w hw) hd (kk H locs ls hP hD hS hl)
theorem z_dup (C : ZC p s m args c cc nL own D tys A) {va : Value} (hd : decode cc pc = .ok (.dup, 1)) (hva : va.category = 1) (kk : Z p l e R s m args below meth c D A nL Q cells slots ws (pc + 1) lv (va :: va :: st)) : Z p l e R s m args below meth c D A nL Q cells slots ws pc lv (va :: st) :=
  fun H locs ls hP hD hS hl => lv_dup C.1.1 C.1.2.1 hd hva (kk H locs ls hP hD hS hl)
theorem z_dup2 (C : ZC p s m args c cc nL own D tys A) {va vb : Value} (hd : decode cc pc = .ok (.dup2, 1)) (hva : va.category = 1) (hvb : vb.category = 1) (kk : Z p l e R s m args below meth c D A nL Q cells slots ws (pc + 1) lv (va :: vb :: va :: vb :: st)) : Z p l e R s m args below meth c D A nL Q cells slots ws pc lv (va :: vb :: st) :=
  fun H locs ls hP hD hS hl => lv_dup2_11 C.1.1 C.1.2.1 hd hva hvb (kk H locs ls hP hD hS hl)
theorem z_top {x y : Int32} (h : x = y) (kk : Z p l e R s m args below meth c D A nL Q cells slots ws pc lv (.int y :: st)) : Z p l e R s m args below meth c D A nL Q cells slots ws pc lv (.int x :: st) := h ▸ kk
theorem z_iadd (C : ZC p s m args c cc nL own D tys A) {x y v : Int32} (hd : decode cc pc = .ok (.iadd, 1)) (hv : x + y = v) (kk : Z p l e R s m args below meth c D A nL Q cells slots ws (pc + 1) lv (.int v :: st)) : Z p l e R s m args below meth c D A nL Q cells slots ws pc lv (.int y :: .int x :: st) :=
  fun H locs ls hP hD hS hl => lv_iadd C.1.1 C.1.2.1 hd (hv ▸ kk H locs ls hP hD hS hl)
theorem z_isub (C : ZC p s m args c cc nL own D tys A) {x y v : Int32} (hd : decode cc pc = .ok (.isub, 1)) (hv : x - y = v) (kk : Z p l e R s m args below meth c D A nL Q cells slots ws (pc + 1) lv (.int v :: st)) : Z p l e R s m args below meth c D A nL Q cells slots ws pc lv (.int y :: .int x :: st) :=
  fun H locs ls hP hD hS hl => lv_isub C.1.1 C.1.2.1 hd (hv ▸ kk H locs ls hP hD hS hl)
theorem z_iand (C : ZC p s m args c cc nL own D tys A) {x y v : Int32} (hd : decode cc pc = .ok (.iand, 1)) (hv : x &&& y = v) (kk : Z p l e R s m args below meth c D A nL Q cells slots ws (pc + 1) lv (.int v :: st)) : Z p l e R s m args below meth c D A nL Q cells slots ws pc lv (.int y :: .int x :: st) :=
  fun H locs ls hP hD hS hl => lv_iand C.1.1 C.1.2.1 hd (hv ▸ kk H locs ls hP hD hS hl)
theorem z_ineg (C : ZC p s m args c cc nL own D tys A) {x v : Int32} (hd : decode cc pc = .ok (.ineg, 1)) (hv : -x = v) (kk : Z p l e R s m args below meth c D A nL Q cells slots ws (pc + 1) lv (.int v :: st)) : Z p l e R s m args below meth c D A nL Q cells slots ws pc lv (.int x :: st) :=
  fun H locs ls hP hD hS hl => lv_ineg C.1.1 C.1.2.1 hd (hv ▸ kk H locs ls hP hD hS hl)
theorem z_irem (C : ZC p s m args c cc nL own D tys A) {x y v : Int32} (hd : decode cc pc = .ok (.irem, 1)) (hne : ¬ y = 0) (hv : x - x / y * y = v) (kk : Z p l e R s m args below meth c D A nL Q cells slots ws (pc + 1) lv (.int v :: st)) : Z p l e R s m args below meth c D A nL Q cells slots ws pc lv (.int y :: .int x :: st) :=
  fun H locs ls hP hD hS hl => lv_irem C.1.1 C.1.2.1 hd hne (hv ▸ kk H locs ls hP hD hS hl)
theorem z_goto (C : ZC p s m args c cc nL own D tys A) {off : Int} {tgt : Nat} (hd : decode cc pc = .ok (.goto off, 3)) (ht : (pc : Int) + off = (tgt : Int)) (kk : Z p l e R s m args below meth c D A nL Q cells slots ws tgt lv st) : Z p l e R s m args below meth c D A nL Q cells slots ws pc lv st :=
  fun H locs ls hP hD hS hl => lv_goto C.1.1 C.1.2.1 hd ht (kk H locs ls hP hD hS hl)
theorem z_if_eq (C : ZC p s m args c cc nL own D tys A) {x : Int32} {off : Int} {tgt : Nat} (hd : decode cc pc = .ok (.ifCond .eq off, 3)) (ht : (pc : Int) + off = (tgt : Int)) (kt : x = 0 → Z p l e R s m args below meth c D A nL Q cells slots ws tgt lv st) (kf : ¬ x = 0 → Z p l e R s m args below meth c D A nL Q cells slots ws (pc + 3) lv st) : Z p l e R s m args below meth c D A nL Q cells slots ws pc lv (.int x :: st) :=
  fun H locs ls hP hD hS hl => lv_if_eq C.1.1 C.1.2.1 hd ht (fun h => kt h H locs ls hP hD hS hl) (fun h => kf h H locs ls hP hD hS hl)
theorem z_if_ne (C : ZC p s m args c cc nL own D tys A) {x : Int32} {off : Int} {tgt : Nat} (hd : decode cc pc = .ok (.ifCond .ne off, 3)) (ht : (pc : Int) + off = (tgt : Int)) (kt : ¬ x = 0 → Z p l e R s m args below meth c D A nL Q cells slots ws tgt lv st) (kf : x = 0 → Z p l e R s m args below meth c D A nL Q cells slots ws (pc + 3) lv st) : Z p l e R s m args below meth c D A nL Q cells slots ws pc lv (.int x :: st) :=
  fun H locs ls hP hD hS hl => lv_if_ne C.1.1 C.1.2.1 hd ht (fun h => kt h H locs ls hP hD hS hl) (fun h => kf h H locs ls hP hD hS hl)
theorem z_if_lt (C : ZC p s m args c cc nL own D tys A) {x : Int32} {off : Int} {tgt : Nat} (hd : decode cc pc = .ok (.ifCond .lt off, 3)) (ht : (pc : Int) + off = (tgt : Int)) (kt : x < 0 → Z p l e R s m args below meth c D A nL Q cells slots ws tgt lv st) (kf : ¬ x < 0 → Z p l e R s m args below meth c D A nL Q cells slots ws (pc + 3) lv st) : Z p l e R s m args below meth c D A nL Q cells slots ws pc lv (.int x :: st) :=
  fun H locs ls hP hD hS hl => lv_if_lt C.1.1 C.1.2.1 hd ht (fun h => kt h H locs ls hP hD hS hl) (fun h => kf h H locs ls hP hD hS hl)
theorem z_if_ge (C : ZC p s m args c cc nL own D tys A) {x : Int32} {off : Int} {tgt : Nat} (hd : decode cc pc = .ok (.ifCond .ge off, 3)) (ht : (pc : Int) + off = (tgt : Int)) (kt : 0 ≤ x → Z p l e R s m args below meth c D A nL Q cells slots ws tgt lv st) (kf : ¬ 0 ≤ x → Z p l e R s m args below meth c D A nL Q cells slots ws (pc + 3) lv st) : Z p l e R s m args below meth c D A nL Q cells slots ws pc lv (.int x :: st) :=
  fun H locs ls hP hD hS hl => lv_if_ge C.1.1 C.1.2.1 hd ht (fun h => kt h H locs ls hP hD hS hl) (fun h => kf h H locs ls hP hD hS hl)
theorem z_if_le (C : ZC p s m args c cc nL own D tys A) {x : Int32} {off : Int} {tgt : Nat} (hd : decode cc pc = .ok (.ifCond .le off, 3)) (ht : (pc : Int) + off = (tgt : Int)) (kt : x ≤ 0 → Z p l e R s m args below meth c D A nL Q cells slots ws tgt lv st) (kf : ¬ x ≤ 0 → Z p l e R s m args below meth c D A nL Q cells slots ws (pc + 3) lv st) : Z p l e R s m args below meth c D A nL Q cells slots ws pc lv (.int x :: st) :=
  fun H locs ls hP hD hS hl => lv_if_le C.1.1 C.1.2.1 hd ht (fun h => kt h H locs ls hP hD hS hl) (fun h => kf h H locs ls hP hD hS hl)
theorem z_cmp_eq (C : ZC p s m args c cc nL own D tys A) {x y : Int32} {off : Int} {tgt : Nat} (hd : decode cc pc = .ok (.if_icmp .eq off, 3)) (ht : (pc : Int) + off = (tgt : Int)) (kt : x = y → Z p l e R s m args below meth c D A nL Q cells slots ws tgt lv st) (kf : ¬ x = y → Z p l e R s m args below meth c D A nL Q cells slots ws (pc + 3) lv st) : Z p l e R s m args below meth c D A nL Q cells slots ws pc lv (.int y :: .int x :: st) :=
  fun H locs ls hP hD hS hl => lv_icmp_eq C.1.1 C.1.2.1 hd ht (fun h => kt h H locs ls hP hD hS hl) (fun h => kf h H locs ls hP hD hS hl)
theorem z_cmp_ne (C : ZC p s m args c cc nL own D tys A) {x y : Int32} {off : Int} {tgt : Nat} (hd : decode cc pc = .ok (.if_icmp .ne off, 3)) (ht : (pc : Int) + off = (tgt : Int)) (kt : ¬ x = y → Z p l e R s m args below meth c D A nL Q cells slots ws tgt lv st) (kf : x = y → Z p l e R s m args below meth c D A nL Q cells slots ws (pc + 3) lv st) : Z p l e R s m args below meth c D A nL Q cells slots ws pc lv (.int y :: .int x :: st) :=
  fun H locs ls hP hD hS hl => lv_icmp_ne C.1.1 C.1.2.1 hd ht (fun h => kt h H locs ls hP hD hS hl) (fun h => kf h H locs ls hP hD hS hl)
theorem z_cmp_lt (C : ZC p s m args c cc nL own D tys A) {x y : Int32} {off : Int} {tgt : Nat} (hd : decode cc pc = .ok (.if_icmp .lt off, 3)) (ht : (pc : Int) + off = (tgt : Int)) (kt : x < y → Z p l e R s m args below meth c D A nL Q cells slots ws tgt lv st) (kf : ¬ x < y → Z p l e R s m args below meth c D A nL Q cells slots ws (pc + 3) lv st) : Z p l e R s m args below meth c D A nL Q cells slots ws pc lv (.int y :: .int x :: st) :=
  fun H locs ls hP hD hS hl => lv_icmp_lt C.1.1 C.1.2.1 hd ht (fun h => kt h H locs ls hP hD hS hl) (fun h => kf h H locs ls hP hD hS hl)
theorem z_cmp_ge (C : ZC p s m args c cc nL own D tys A) {x y : Int32} {off : Int} {tgt : Nat} (hd : decode cc pc = .ok (.if_icmp .ge off, 3)) (ht : (pc : Int) + off = (tgt : Int)) (kt : y ≤ x → Z p l e R s m args below meth c D A nL Q cells slots ws tgt lv st) (kf : ¬ y ≤ x → Z p l e R s m args below meth c D A nL Q cells slots ws (pc + 3) lv st) : Z p l e R s m args below meth c D A nL Q cells slots ws pc lv (.int y :: .int x :: st) :=
  fun H locs ls hP hD hS hl => lv_icmp_ge C.1.1 C.1.2.1 hd ht (fun h => kt h H locs ls hP hD hS hl) (fun h => kf h H locs ls hP hD hS hl)
theorem z_cmp_gt (C : ZC p s m args c cc nL own D tys A) {x y : Int32} {off : Int} {tgt : Nat} (hd : decode cc pc = .ok (.if_icmp .gt off, 3)) (ht : (pc : Int) + off = (tgt : Int)) (kt : y < x → Z p l e R s m args below meth c D A nL Q cells slots ws tgt lv st) (kf : ¬ y < x → Z p l e R s m args below meth c D A nL Q cells slots ws (pc + 3) lv st) : Z p l e R s m args below meth c D A nL Q cells slots ws pc lv (.int y :: .int x :: st) :=
  fun H locs ls hP hD hS hl => lv_icmp_gt C.1.1 C.1.2.1 hd ht (fun h => kt h H locs ls hP hD hS hl) (fun h => kf h H locs ls hP hD hS hl)
theorem z_cmp_le (C : ZC p s m args c cc nL own D tys A) {x y : Int32} {off : Int} {tgt : Nat} (hd : decode cc pc = .ok (.if_icmp .le off, 3)) (ht : (pc : Int) + off = (tgt : Int)) (kt : x ≤ y → Z p l e R s m args below meth c D A nL Q cells slots ws tgt lv st) (kf : ¬ x ≤ y → Z p l e R s m args below meth c D A nL Q cells slots ws (pc + 3) lv st) : Z p l e R s m args below meth c D A nL Q cells slots ws pc lv (.int y :: .int x :: st) :=
  fun H locs ls hP hD hS hl => lv_icmp_le C.1.1 C.1.2.1 hd ht (fun h => kt h H locs ls hP hD hS hl) (fun h => kf h H locs ls hP hD hS hl)
theorem z_cmpN_eq (C : ZC p s m args c cc nL own D tys A) {a b : Nat} {off : Int} {tgt : Nat} (hd : decode cc pc = .ok (.if_icmp .eq off, 3)) (ht : (pc : Int) + off = (tgt : Int)) (ha : a < 2 ^ 31) (hb : b < 2 ^ 31) (kt : a = b → Z p l e R s m args below meth c D A nL Q cells slots ws tgt lv st) (kf : ¬ a = b → Z p l e R s m args below meth c D A nL Q cells slots ws (pc + 3) lv st) : Z p l e R s m args below meth c D A nL Q cells slots ws pc lv (.int (nI b) :: .int (nI a) :: st) :=
  z_cmp_eq C hd ht (fun h => kt ((nI_eq ha hb).mp h)) (fun h => kf (fun h2 => h ((nI_eq ha hb).mpr h2)))
theorem z_cmpN_ne (C : ZC p s m args c cc nL own D tys A) {a b : Nat} {off : Int} {tgt : Nat} (hd : decode cc pc = .ok (.if_icmp .ne off, 3)) (ht : (pc : Int) + off = (tgt : Int)) (ha : a < 2 ^ 31) (hb : b < 2 ^ 31) (kt : ¬ a = b → Z p l e R s m args below meth c D A nL Q cells slots ws tgt lv st) (kf : a = b → Z p l e R s m args below meth c D A nL Q cells slots ws (pc + 3) lv st) : Z p l e R s m args below meth c D A nL Q cells slots ws pc lv (.int (nI b) :: .int (nI a) :: st) :=
  z_cmp_ne C hd ht (fun h => kt (fun h2 => h ((nI_eq ha hb).mpr h2))) (fun h => kf ((nI_eq ha hb).mp h))
theorem z_cmpN_lt (C : ZC p s m args c cc nL own D tys A) {a b : Nat} {off : Int} {tgt : Nat} (hd : decode cc pc = .ok (.if_icmp .lt off, 3)) (ht : (pc : Int) + off = (tgt : Int)) (ha : a < 2 ^ 31) (hb : b < 2 ^ 31) (kt : a < b → Z p l e R s m args below meth c D A nL Q cells slots ws tgt lv st) (kf : b ≤ a → Z p l e R s m args below meth c D A nL Q cells slots ws (pc + 3) lv st) : Z p l e R s m args below meth c D A nL Q cells slots ws pc lv (.int (nI b) :: .int (nI a) :: st) :=
  z_cmp_lt C hd ht (fun h => kt ((nI_ltI ha hb).mp h)) (fun h => kf (Nat.not_lt.mp (fun q => h ((nI_ltI ha hb).mpr q))))
theorem z_cmpN_ge (C : ZC p s m args c cc nL own D tys A) {a b : Nat} {off : Int} {tgt : Nat} (hd : decode cc pc = .ok (.if_icmp .ge off, 3)) (ht : (pc : Int) + off = (tgt : Int)) (ha : a < 2 ^ 31) (hb : b < 2 ^ 31) (kt : b ≤ a → Z p l e R s m args below meth c D A nL Q cells slots ws tgt lv st) (kf : a < b → Z p l e R s m args below meth c D A nL Q cells slots ws (pc + 3) lv st) : Z p l e R s m args below meth c D A nL Q cells slots ws pc lv (.int (nI b) :: .int (nI a) :: st) :=
  z_cmp_ge C hd ht (fun h => kt ((nI_leI hb ha).mp h)) (fun h => kf (Nat.not_le.mp (fun q => h ((nI_leI hb ha).mpr q))))
theorem z_cmpN_gt (C : ZC p s m args c cc nL own D tys A) {a b : Nat} {off : Int} {tgt : Nat} (hd : decode cc pc = .ok (.if_icmp .gt off, 3)) (ht : (pc : Int) + off = (tgt : Int)) (ha : a < 2 ^ 31) (hb : b < 2 ^ 31) (kt : b < a → Z p l e R s m args below meth c D A nL Q cells slots ws tgt lv st) (kf : a ≤ b → Z p l e R s m args below meth c D A nL Q cells slots ws (pc + 3) lv st) : Z p l e R s m args below meth c D A nL Q cells slots ws pc lv (.int (nI b) :: .int (nI a) :: st) :=
  z_cmp_gt C hd ht (fun h => kt ((nI_ltI hb ha).mp h)) (fun h => kf (Nat.not_lt.mp (fun q => h ((nI_ltI hb ha).mpr q))))
theorem z_cmpN_le (C : ZC p s m args c cc nL own D tys A) {a b : Nat} {off : Int} {tgt : Nat} (hd : decode cc pc = .ok (.if_icmp .le off, 3)) (ht : (pc : Int) + off = (tgt : Int)) (ha : a < 2 ^ 31) (hb : b < 2 ^ 31) (kt : a ≤ b → Z p l e R s m args below meth c D A nL Q cells slots ws tgt lv st) (kf : b < a → Z p l e R s m args below meth c D A nL Q cells slots ws (pc + 3) lv st) : Z p l e R s m args below meth c D A nL Q cells slots ws pc lv (.int (nI b) :: .int (nI a) :: st) :=
  z_cmp_le C hd ht (fun h => kt ((nI_leI ha hb).mp h)) (fun h => kf (Nat.not_le.mp (fun q => h ((nI_leI ha hb).mpr q))))

theorem z_get (C : ZC p s m args c cc nL own D tys A) {ref Cn : String} {T : u_T} {N ci index : Nat} (hin : ∀ w ∈ u_ws Cn T N, w ∈ lw_all) (q0 : Nat) {a : Nat} {fs : List Value} (he : ws[q0]? = some (a, .inr (ci, fs))) (hc : vwCl[ci]? = some (Cn, T, N)) (k : Nat) (hk : k < N) (hlink : Cond.fieldLink own index ref (T k).2.1 (T k).2.2.1 ∈ lw_all) (hsame : (T k).1 = ref) {v : Value} (hv : fs[k]? = some v) (hd : decode cc pc = .ok (.getfield index, 3)) (kk : Z p l e R s m args below meth c D A nL Q cells slots ws (pc + 3) lv (v :: st)) : Z p l e R s m args below meth c D A nL Q cells slots ws pc lv (.ref a :: st) :=
  fun H locs ls hP hD hS hl => va_get C.1.1 C.1.2.1 C.1.2.2.2.2 hin C.1.2.2.2.1 C.2.1 hP q0 he hc k hk (C.w hlink) (fun _ h => hsame ▸ h) hv hd (kk H locs ls hP hD hS hl)
theorem z_put (C : ZC p s m args c cc nL own D tys A) {ref Cn : String} {T : u_T} {N ci index : Nat} (hin : ∀ w ∈ u_ws Cn T N, w ∈ lw_all) (ty0 : Nat → FieldType) (hty : ∀ k, k < N → parseFieldDescriptor (T k).2.2.1 = some (ty0 k)) (hnm : ∀ a, a < N → ∀ b, b < N → a ≠ b → (T a).2.1 ≠ (T b).2.1) (q0 : Nat) {a : Nat} {fs : List Value} {v : Value} {ws' : va_W} (he : ws[q0]? = some (a, .inr (ci, fs))) (hc : vwCl[ci]? = some (Cn, T, N)) (k : Nat) (hk : k < N) (hlink : Cond.fieldLink own index ref (T k).2.1 (T k).2.2.1 ∈ lw_all) (hsame : (T k).1 = ref) (hfin : (T k).2.2.2 = false) (hn : narrow (ty0 k) v = v) (hfit : fits (ty0 k) v = true) (hl0 : k < fs.length) (hd : decode cc pc = .ok (.putfield index, 3)) (hw : ws.set q0 (a, .inr (ci, fs.set k v)) = ws') (kk : Z p l e R s m args below meth c D A nL Q cells slots ws' (pc + 3) lv st) : Z p l e R s m args below meth c D A nL Q cells slots ws pc lv (v :: .ref a :: st) := by
  subst hw
  exact fun H locs ls hP hD hS hl => va_put C.1.1 C.1.2.1 C.1.2.2.2.2 hin ty0 hty hnm C.1.2.2.2.1 C.2.1 hP hD hS q0 he hc k hk (C.w hlink) (fun _ h => hsame ▸ h) hfin (hty k hk) hn hfit hl0 hd (fun H1 locs1 hP1 hD1 hS1 => kk H1 locs1 ls hP1 hD1 hS1 hl)
theorem z_putF (C : ZC p s m args c cc nL own D tys A) {ref Cn : String} {T : u_T} {N ci index : Nat} (hin : ∀ w ∈ u_ws Cn T N, w ∈ lw_all) (ty0 : Nat → FieldType) (hty : ∀ k, k < N → parseFieldDescriptor (T k).2.2.1 = some (ty0 k)) (hnm : ∀ a, a < N → ∀ b, b < N → a ≠ b → (T a).2.1 ≠ (T b).2.1) (q0 : Nat) {a : Nat} {fs : List Value} {v : Value} {ws' : va_W} (he : ws[q0]? = some (a, .inr (ci, fs))) (hc : vwCl[ci]? = some (Cn, T, N)) (k : Nat) (hk : k < N) (hlink : Cond.fieldLink own index ref (T k).2.1 (T k).2.2.1 ∈ lw_all) (hsame : (T k).1 = ref) (hfin : (T k).2.2.2 = true) (hin2 : meth.name = "<init>") (hdecl : (T k).1 = own) (hn : narrow (ty0 k) v = v) (hfit : fits (ty0 k) v = true) (hl0 : k < fs.length) (hd : decode cc pc = .ok (.putfield index, 3)) (hw : ws.set q0 (a, .inr (ci, fs.set k v)) = ws') (kk : Z p l e R s m args below meth c D A nL Q cells slots ws' (pc + 3) lv st) : Z p l e R s m args below meth c D A nL Q cells slots ws pc lv (v :: .ref a :: st) := by
  subst hw
  exact fun H locs ls hP hD hS hl => va_putF C.1.1 C.1.2.1 C.1.2.2.2.2 hin ty0 hty hnm C.1.2.2.2.1 C.2.1 hP hD hS q0 he hc k hk (C.w hlink) (fun _ h => hsame ▸ h) hfin hin2 hdecl (hty k hk) hn hfit hl0 hd (fun H1 locs1 hP1 hD1 hS1 => kk H1 locs1 ls hP1 hD1 hS1 hl)
theorem z_iald (C : ZC p s m args c cc nL own D tys A) (q0 t0 : Nat) {a k n : Nat} {cA : ClassId} {f : Nat → Int32} (ha : ws[q0]? = some (a, .inl (cA, n, .inl f))) (ht : tys[t0]? = some (cA, .int)) (hk : k < n) (hn : n < 2 ^ 31) (hd : decode cc pc = .ok (.iaload, 1)) (kk : Z p l e R s m args below meth c D A nL Q cells slots ws (pc + 1) lv (.int (f k) :: st)) : Z p l e R s m args below meth c D A nL Q cells slots ws pc lv (.int (nI k) :: .ref a :: st) :=
  fun H locs ls hP hD hS hl => va_iald C.1.1 C.1.2.1 C.2.1 hP q0 t0 ha ht (vp_in_nI hk hn) hd (by rw [nI_clamp (Nat.lt_trans hk hn)]; exact kk H locs ls hP hD hS hl)
theorem z_zald (C : ZC p s m args c cc nL own D tys A) (q0 t0 : Nat) {a k n : Nat} {cA : ClassId} {f : Nat → Int32} (ha : ws[q0]? = some (a, .inl (cA, n, .inl f))) (ht : tys[t0]? = some (cA, .boolean)) (hk : k < n) (hn : n < 2 ^ 31) (hd : decode cc pc = .ok (.baload, 1)) (kk : Z p l e R s m args below meth c D A nL Q cells slots ws (pc + 1) lv (.int (f k) :: st)) : Z p l e R s m args below meth c D A nL Q cells slots ws pc lv (.int (nI k) :: .ref a :: st) :=
  fun H locs ls hP hD hS hl => va_zald C.1.1 C.1.2.1 C.2.1 hP q0 t0 ha ht (vp_in_nI hk hn) hd (by rw [nI_clamp (Nat.lt_trans hk hn)]; exact kk H locs ls hP hD hS hl)
theorem z_iast (C : ZC p s m args c cc nL own D tys A) (q0 t0 : Nat) {a k n : Nat} {cA : ClassId} {f : Nat → Int32} {x : Int32} {ws' : va_W} (ha : ws[q0]? = some (a, .inl (cA, n, .inl f))) (ht : tys[t0]? = some (cA, .int)) (hk : k < n) (hn : n < 2 ^ 31) (hd : decode cc pc = .ok (.iastore, 1)) (hw : ws.set q0 (a, .inl (cA, n, .inl (upd f k x))) = ws') (kk : Z p l e R s m args below meth c D A nL Q cells slots ws' (pc + 1) lv st) : Z p l e R s m args below meth c D A nL Q cells slots ws pc lv (.int x :: .int (nI k) :: .ref a :: st) := by
  subst hw
  have e1 : (nI k).toNatClampNeg = k := nI_clamp (Nat.lt_trans hk hn)
  exact fun H locs ls hP hD hS hl => va_iast C.1.1 C.1.2.1 C.2.1 hP hD hS q0 t0 ha ht (vp_in_nI hk hn) hd (fun H1 locs1 hP1 hD1 hS1 => kk H1 locs1 ls (e1 ▸ hP1) (e1 ▸ hD1) hS1 hl)
theorem z_zast (C : ZC p s m args c cc nL own D tys A) (q0 t0 : Nat) {a k n : Nat} {cA : ClassId} {f : Nat → Int32} {x y : Int32} {ws' : va_W} (ha : ws[q0]? = some (a, .inl (cA, n, .inl f))) (ht : tys[t0]? = some (cA, .boolean)) (hk : k < n) (hn : n < 2 ^ 31) (hd : decode cc pc = .ok (.bastore, 1)) (hx : vp_nar .boolean x = y) (hw : ws.set q0 (a, .inl (cA, n, .inl (upd f k y))) = ws') (kk : Z p l e R s m args below meth c D A nL Q cells slots ws' (pc + 1) lv st) : Z p l e R s m args below meth c D A nL Q cells slots ws pc lv (.int x :: .int (nI k) :: .ref a :: st) := by
  subst hw; subst hx
  have e1 : (nI k).toNatClampNeg = k := nI_clamp (Nat.lt_trans hk hn)
  exact fun H locs ls hP hD hS hl => va_zast C.1.1 C.1.2.1 C.2.1 hP hD hS q0 t0 ha ht (vp_in_nI hk hn) hd (fun H1 locs1 hP1 hD1 hS1 => kk H1 locs1 ls (e1 ▸ hP1) (e1 ▸ hD1) hS1 hl)
theorem z_alen (C : ZC p s m args c cc nL own D tys A) (q0 t0 : Nat) {a n : Nat} {cA : ClassId} {f : Nat → Int32} {ty : FieldType} (ha : ws[q0]? = some (a, .inl (cA, n, .inl f))) (ht : tys[t0]? = some (cA, ty)) (hd : decode cc pc = .ok (.arraylength, 1)) (kk : Z p l e R s m args below meth c D A nL Q cells slots ws (pc + 1) lv (.int (nI n) :: st)) : Z p l e R s m args below meth c D A nL Q cells slots ws pc lv (.ref a :: st) :=
  fun H locs ls hP hD hS hl => va_alen C.1.1 C.1.2.1 C.2.1 hP q0 t0 ha ht rfl hd (kk H locs ls hP hD hS hl)
theorem z_newa (C : ZC p s m args c cc nL own D tys A) {atype : ArrayType} {ty : FieldType} {N : Nat} (hty : newarray.typeOf atype = ty) (harr : Cond.arrayClass ty ∈ lw_all) (ha : ∀ cA : ClassId, vp_cell cA (N, .inl fun _ => 0) = arrV cA N (fun _ => defaultValue ty)) (hn : N < 2 ^ 31) (hbytes : N * componentBytes ty ≤ 536870912) (hcells : cells + 1 ≤ R.cells) (hslots : slots + N ≤ R.slots) (hd : decode cc pc = .ok (.newarray atype, 2))
    (kk : ∀ (q : Nat) (cA : ClassId), ZC p s m args c cc nL own D (tys ++ [(cA, ty)]) A → Z p l e R s m args below meth c D A nL Q (cells + 1) (slots + N) (ws ++ [(q, .inl (cA, N, .inl fun _ => 0))]) (pc + 2) lv (.ref q :: st)) : Z p l e R s m args below meth c D A nL Q cells slots ws pc lv (.int (nI N) :: st) := by
  subst hty
  exact fun H locs ls hP hD hS hl => va_newa C.1.1 C.1.2.1 (C.w harr) rfl C.2.1 hP hD hS C.2.2 ha (nI_pos hn) (nI_clamp hn) hbytes hcells hslots hd (fun q cA H1 hK1 hP1 hD1 hS1 => kk q cA ⟨C.1, hK1, C.2.2⟩ H1 locs ls hP1 hD1 hS1 hl)
theorem z_new (C : ZC p s m args c cc nL own D tys A) {Cn : String} {T : u_T} {N ci index : Nat} (hin : ∀ w ∈ u_ws Cn T N, w ∈ lw_all) (ty : Nat → FieldType) (hty : ∀ k, k < N → parseFieldDescriptor (T k).2.2.1 = some (ty k)) (hcl : Cond.classLink own index Cn ∈ lw_all) (hinst : Cond.instantiable Cn N ∈ lw_all) (hini : Cond.initialized Cn ∈ lw_all) (hc : vwCl[ci]? = some (Cn, T, N)) {fs : List Value} (hfs : ∀ j, j < N → defaultValue (ty j) = vp_V fs j) (hcells : cells + 1 ≤ R.cells) (hslots : slots + N ≤ R.slots) (hd : decode cc pc = .ok (.new index, 3))
    (kk : ∀ q : Nat, Z p l e R s m args below meth c D A nL Q (cells + 1) (slots + N) (ws ++ [(q, .inr (ci, fs))]) (pc + 3) lv (.ref q :: st)) : Z p l e R s m args below meth c D A nL Q cells slots ws pc lv st :=
  fun H locs ls hP hD hS hl => va_new C.1.1 C.1.2.1 C.1.2.2.2.2 hin ty hty C.1.2.2.2.1 (C.w hcl) (C.w hinst) (C.w hini) C.2.1 hP hD hS C.2.2 hc hfs hcells hslots hd (fun q H1 hP1 hD1 hS1 => kk q H1 locs ls hP1 hD1 hS1 hl)
theorem z_objInit (C : ZC p s m args c cc nL own D tys A) {idx a : Nat} (hlink : Cond.methodLink own idx Lib.objectInit ∈ lw_all) (hd : decode cc pc = .ok (.invokespecial idx, 3)) (hframes : 1 ≤ R.frames) (hlocals : (st.map fun v => v.category).sum + 12 ≤ R.locals) (kk : Z p l e R s m args below meth c D A nL Q cells slots ws (pc + 3) lv st) : Z p l e R s m args below meth c D A nL Q cells slots ws pc lv (.ref a :: st) :=
  fun H locs ls hP hD hS hl => W.objInit C.1.1 C.1.2.1 C.1.2.2.2.1 (C.w hlink) (C.w q18) (C.w q19) rfl (by rw [C.1.2.2.1]; exact hl.1) rfl hd hframes (show 2 * 0 + _ + 12 ≤ _ by omega) (kk H locs ls hP hD hS hl)
/-- a loop, or any recursion of the walk: a measure that falls -/
theorem z_loop {ι : Type} (μ : ι → Nat) (I : ι → Prop) (wsf : ι → va_W) (lvf : ι → List (Nat × Value)) (step : ∀ i, I i → (∀ j, I j → μ j < μ i → Z p l e R s m args below meth c D A nL Q cells slots (wsf j) pc (lvf j) st) → Z p l e R s m args below meth c D A nL Q cells slots (wsf i) pc (lvf i) st) (i : ι) (h : I i) : Z p l e R s m args below meth c D A nL Q cells slots (wsf i) pc (lvf i) st := by
  have H : ∀ (n : Nat) (i : ι), μ i < n → I i → Z p l e R s m args below meth c D A nL Q cells slots (wsf i) pc (lvf i) st := by
    intro n
    induction n with
    | zero => intro i h1; exact absurd h1 (Nat.not_lt_zero _)
    | succ n ih => intro i h1 h2; exact step i h2 (fun j h3 h4 => ih j (by omega) h3)
  exact H (μ i + 1) i (Nat.lt_succ_self _) h
/-- ways that meet: what is behind the meeting is walked once -/
theorem z_join {ι : Type} (pc2 : Nat) (I : ι → Prop) (wsf : ι → va_W) (lvf : ι → List (Nat × Value)) (k1 : ∀ i, I i → Z p l e R s m args below meth c D A nL Q cells slots (wsf i) pc2 (lvf i) []) (k2 : (∀ i, I i → Z p l e R s m args below meth c D A nL Q cells slots (wsf i) pc2 (lvf i) []) → Z p l e R s m args below meth c D A nL Q cells slots ws pc lv st) : Z p l e R s m args below meth c D A nL Q cells slots ws pc lv st := k2 k1
end ZL
/-- a contract's start and ends -/
def zPre (D : va_G) (tc : List (ClassId × FieldType)) (av : List Value) (wc : va_W) (sz : Nat) : Array Value → State → Prop := va_Pc av (fun U => U.heap.size = sz ∧ va_P D vwCl wc U.heap ∧ va_K D vwCl tc U ∧ va_D (fun _ => True) wc)
def zQi {S : Type} (D : va_G) (t1 : S → List (ClassId × FieldType)) (post : Int32 → S → Prop) (w1 : S → va_W) (A : Nat → Prop) : Array Value → State → Outcome → State → Prop := va_Qi post (fun (u : S) (t : State) => va_P D vwCl (w1 u) t.heap ∧ va_K D vwCl (t1 u) t ∧ va_D A (w1 u)) A
def zQv {S : Type} (D : va_G) (t1 : S → List (ClassId × FieldType)) (post : S → Prop) (w1 : S → va_W) (A : Nat → Prop) : Array Value → State → Outcome → State → Prop := va_Qv post (fun (u : S) (t : State) => va_P D vwCl (w1 u) t.heap ∧ va_K D vwCl (t1 u) t ∧ va_D A (w1 u)) A
def ZM (l : Launch) (y : MethodName) (cb : ByteArray) (L : Nat) (ret : Option FieldType) (rm : Room) (D : va_G) (tc : List (ClassId × FieldType)) (av : List Value) (wc : va_W) (Qc : (Nat → Prop) → Array Value → State → Outcome → State → Prop) : Prop :=
  ∀ sz : Nat, Met l y (ws_ y cb L ret) rm (zPre D tc av wc sz) (Qc (va_A wc sz)) rm.cells rm.slots (va_A wc sz)
def ZR (meth : Method) (y : MethodName) (ret : Option FieldType) : Prop := meth.sig.returnType = ret ∧ meth.locks = false ∧ meth.name = y.name
theorem z_met {l : Launch} {own : String} {y : MethodName} {cb : ByteArray} {L : Nat} {ret : Option FieldType} {rm : Room} {D : va_G} {tc : List (ClassId × FieldType)} {av : List Value} {wc : va_W} {Qc : (Nat → Prop) → Array Value → State → Outcome → State → Prop} (ho : y.cls = own) (hy : plainName y.cls = true) (hL : (lg_sl av).length ≤ L)
    (body : ∀ (p : Program) (e : Env) (s : State) (m : MethodId) (below : List Frame) (meth : Method) (c : Code) (A : Nat → Prop), ZC p s m av.toArray c cb L own D tc A → ZR meth y ret → Z p l e rm s m av.toArray below meth c D A L (MQ below (Qc A) av.toArray s rm.cells rm.slots A) 0 0 wc 0 (lv_args 0 av) []) : ZM l y cb L ret rm D tc av wc Qc := by
  subst ho
  intro sz
  refine Met.ofW (cc := cb) (maxL := L) (ret := ret) hy rfl ?_
  intro p e s m args below meth c s₁ B hml hv
  obtain ⟨rfl, hsz, hP, hK, hD0⟩ := hv
  have hts := atoms_spec (ws := ws_ y cb L ret) B.pre
  have hlk := B.notSynchronized
  subst hsz
  have hl := lv_entry av (n := L) hL
  rw [lg_entry_eq]
  exact body p e s m below meth c (va_A wc s.heap.size) ⟨⟨B.exec, B.bytes, hml, findClass_of_methodNamed B.named, fun w h => hts w (List.mem_cons_of_mem _ h)⟩, hK, fun q h => Or.inr h⟩ ⟨B.returns, hlk, (name_of_methodNamed B.named B.method).1⟩ s.heap [] _ hP hD0.self va_S.rf hl
section ZE
variable {p : Program} {l : Launch} {e : Env} {R : Room} {s : State} {m : MethodId} {args : Array Value} {below : List Frame} {meth : Method} {c : Code} {Q : State → Prop} {cc : ByteArray} {nL : Nat} {own : String} {D : va_G} {tys : List (ClassId × FieldType)} {A : Nat → Prop} {cells slots pc : Nat} {ws : va_W} {lv : List (Nat × Value)} {st : List Value}
variable {S : Type} {y : MethodName} {t1 : S → List (ClassId × FieldType)} {w1 : S → va_W}
theorem z_iret (C : ZC p s m args c cc nL own D tys A) {post : Int32 → S → Prop} {v : Int32} (hr : ZR meth y (some .int)) (hd : decode cc pc = .ok (.ireturn, 1)) (u : S) (hq : post v u) (hw : ws = w1 u) (ht : tys = t1 u) : Z p l e R s m args below meth c D A nL (MQ below (zQi D t1 post w1 A) args s cells slots A) cells slots ws pc lv [.int v] := by
  subst hw
  subst ht
  have hlk := hr.2.1
  exact fun H locs ls hP hD hS hl => W.iret C.1.1 C.1.2.1 hr.1 (fun t ht hW => ⟨⟨v, u, rfl, hq, by rw [ht]; exact hP, va_K.moved hW.alike C.2.1, hD⟩, hS.F ht⟩) hS.2.2 hd
theorem z_zret (C : ZC p s m args c cc nL own D tys A) {post : Int32 → S → Prop} {v : Int32} (hr : ZR meth y (some .boolean)) (hd : decode cc pc = .ok (.ireturn, 1)) (hn : narrow .boolean (.int v) = .int v) (u : S) (hq : post v u) (hw : ws = w1 u) (ht : tys = t1 u) : Z p l e R s m args below meth c D A nL (MQ below (zQi D t1 post w1 A) args s cells slots A) cells slots ws pc lv [.int v] := by
  subst hw
  subst ht
  have hlk := hr.2.1
  exact fun H locs ls hP hD hS hl => W.zret C.1.1 C.1.2.1 hr.1 hn (fun t ht hW => ⟨⟨v, u, rfl, hq, by rw [ht]; exact hP, va_K.moved hW.alike C.2.1, hD⟩, hS.F ht⟩) hS.2.2 hd
theorem z_vret (C : ZC p s m args c cc nL own D tys A) {post : S → Prop} (hr : ZR meth y none) (hd : decode cc pc = .ok (.return_, 1)) (u : S) (hq : post u) (hw : ws = w1 u) (ht : tys = t1 u) : Z p l e R s m args below meth c D A nL (MQ below (zQv D t1 post w1 A) args s cells slots A) cells slots ws pc lv [] := by
  subst hw
  subst ht
  have hlk := hr.2.1
  exact fun H locs ls hP hD hS hl => W.vret C.1.1 C.1.2.1 hr.1 (fun t ht hW => ⟨⟨u, rfl, hq, by rw [ht]; exact hP, va_K.moved hW.alike C.2.1, hD⟩, hS.F ht⟩) hS.2.2 hd
theorem zPre_blind {D : va_G} {tc : List (ClassId × FieldType)} {av : List Value} {wc : va_W} {sz : Nat} : FrameBlind (zPre D tc av wc sz) := fun a U g mk q => by
  obtain ⟨q0, q1, qP, qK, qD⟩ := q
  exact ⟨q0, q1, qP, va_K.moved (u := U) (U := U.calling g mk a) (Vm.Alike.refl U.vm) qK, qD⟩
variable {cb : ByteArray} {L index ci q0 b : Nat} {ret : Option FieldType} {rm : Room} {tc : List (ClassId × FieldType)} {As : List Value} {wc : va_W} {q : vw_C} {fs : List Value}
/-- a call through an object, its answer an int; the world behind it: wn u -/
theorem z_calli (C : ZC p s m args c cc nL own D tys A) {post : Int32 → S → Prop} (hM : ZM l y cb L ret rm D tc (.ref b :: As) wc (zQi D t1 post w1)) (n : Nat) (hn : As.length = n) (hG : GoodIn lw_all (wsV own index q.1 y (ws_ y cb L ret))) (hd0 : y.cls = q.1 ∧ y.cls ≠ "java/lang/invoke/MethodHandle" ∧ y.cls ≠ "java/lang/invoke/VarHandle" ∧ (parseMethodDescriptor y.desc).map (fun d => d.parameters.length) = some n) (hR : rm.frames + 1 ≤ R.frames ∧ 8 + (L + 11) + rm.locals ≤ R.locals)
    (hc : vwCl[ci]? = some q) (he : wc[q0]? = some (b, .inr (ci, fs))) (hst : (st.map fun v => v.category).sum ≤ 8) (hd : decode cc pc = .ok (.invokevirtual index, 3)) (hz : rm.cells = 0 ∧ rm.slots = 0) (hf : cells + rm.cells ≤ R.cells ∧ slots + rm.slots ≤ R.slots)
    (isC isR isN isT : List Nat) (hC : isC.map (fun i => ws[i]?) = wc.map some) (hcn : va_nd isC = true) (hW : isR.map (fun i => ws[i]?) = (isR.filterMap (fun i => ws[i]?)).map some) (hrn : va_nd isR = true) (hdis : ∀ i ∈ isR, i ∉ isC) (hT : isT.filterMap (fun i => tys[i]?) = tc) (wn : S → va_W) (hN : ∀ u, isN.map (fun i => (isR.filterMap (fun i => ws[i]?) ++ w1 u)[i]?) = (wn u).map some) (hnn : va_nd isN = true)
    (kk : ∀ (r : Int32) (u : S), post r u → Z p l e R s m args below meth c D A nL Q cells slots (wn u) (pc + 3) lv (.int r :: st)) : Z p l e R s m args below meth c D A nL Q cells slots ws pc lv (As.reverse ++ .ref b :: st) := by
  intro H locs ls hP hD hS hl
  have hPc := hP.sub isC (z_fm isC ws wc hC)
  have hDc := hD.sub isC hcn hC
  have hKc := C.2.1.sub isT hT
  have hFc := va_free (wc := wc) hD hS C.2.2 isC hC
  refine va_calli (va_runV (As := As) (rest := st) C.1 (hM H.size) (cwV n C.1.2.2.2.2 hG rfl rfl rfl hd0 hR) ⟨zPre_blind, va_recv hKc hPc (ci := ci) (q0 := q0) hc he, fun U hU hW => ⟨rfl, by rw [hU], by rw [hU]; exact hPc, va_K.moved hW.alike hKc, hDc.weaken (fun _ _ _ _ => trivial)⟩⟩ rfl hn hl.1 rfl (lv_room hst) hd hf) hS (fun q _ h => hFc q h) hFc (fun r u t H1 locs1 ht hvm hw hB hz1 hk1 hS1 => ?_)
  obtain ⟨hP1, hK1, hD1⟩ := hB
  rw [ht] at hP1
  obtain ⟨hP2, hD2⟩ := va_join (wr := isR.filterMap (fun i => ws[i]?)) (w1 := w1 u) hP hD isC isR hC hW hrn hdis hk1 hFc hP1 hD1
  rw [hz.1, hz.2]
  exact kk r u hw H1 locs1 ls (hP2.sub isN (z_fm isN _ _ (hN u))) (hD2.sub isN hnn (hN u)) hS1 hl
theorem z_callv (C : ZC p s m args c cc nL own D tys A) {post : S → Prop} (hM : ZM l y cb L ret rm D tc (.ref b :: As) wc (zQv D t1 post w1)) (n : Nat) (hn : As.length = n) (hG : GoodIn lw_all (wsV own index q.1 y (ws_ y cb L ret))) (hd0 : y.cls = q.1 ∧ y.cls ≠ "java/lang/invoke/MethodHandle" ∧ y.cls ≠ "java/lang/invoke/VarHandle" ∧ (parseMethodDescriptor y.desc).map (fun d => d.parameters.length) = some n) (hR : rm.frames + 1 ≤ R.frames ∧ 8 + (L + 11) + rm.locals ≤ R.locals)
    (hc : vwCl[ci]? = some q) (he : wc[q0]? = some (b, .inr (ci, fs))) (hst : (st.map fun v => v.category).sum ≤ 8) (hd : decode cc pc = .ok (.invokevirtual index, 3)) (hz : rm.cells = 0 ∧ rm.slots = 0) (hf : cells + rm.cells ≤ R.cells ∧ slots + rm.slots ≤ R.slots)
    (isC isR isN isT : List Nat) (hC : isC.map (fun i => ws[i]?) = wc.map some) (hcn : va_nd isC = true) (hW : isR.map (fun i => ws[i]?) = (isR.filterMap (fun i => ws[i]?)).map some) (hrn : va_nd isR = true) (hdis : ∀ i ∈ isR, i ∉ isC) (hT : isT.filterMap (fun i => tys[i]?) = tc) (wn : S → va_W) (hN : ∀ u, isN.map (fun i => (isR.filterMap (fun i => ws[i]?) ++ w1 u)[i]?) = (wn u).map some) (hnn : va_nd isN = true)
    (kk : ∀ (u : S), post u → Z p l e R s m args below meth c D A nL Q cells slots (wn u) (pc + 3) lv st) : Z p l e R s m args below meth c D A nL Q cells slots ws pc lv (As.reverse ++ .ref b :: st) := by
  intro H locs ls hP hD hS hl
  have hPc := hP.sub isC (z_fm isC ws wc hC)
  have hDc := hD.sub isC hcn hC
  have hKc := C.2.1.sub isT hT
  have hFc := va_free (wc := wc) hD hS C.2.2 isC hC
  refine va_callv (va_runV (As := As) (rest := st) C.1 (hM H.size) (cwV n C.1.2.2.2.2 hG rfl rfl rfl hd0 hR) ⟨zPre_blind, va_recv hKc hPc (ci := ci) (q0 := q0) hc he, fun U hU hW => ⟨rfl, by rw [hU], by rw [hU]; exact hPc, va_K.moved hW.alike hKc, hDc.weaken (fun _ _ _ _ => trivial)⟩⟩ rfl hn hl.1 rfl (lv_room hst) hd hf) hS (fun q _ h => hFc q h) hFc (fun u t H1 locs1 ht hvm hw hB hz1 hk1 hS1 => ?_)
  obtain ⟨hP1, hK1, hD1⟩ := hB
  rw [ht] at hP1
  obtain ⟨hP2, hD2⟩ := va_join (wr := isR.filterMap (fun i => ws[i]?)) (w1 := w1 u) hP hD isC isR hC hW hrn hdis hk1 hFc hP1 hD1
  rw [hz.1, hz.2]
  exact kk u hw H1 locs1 ls (hP2.sub isN (z_fm isN _ _ (hN u))) (hD2.sub isN hnn (hN u)) hS1 hl
/-- a constructor's call; new array classes come -/
theorem z_callI (C : ZC p s m args c cc nL own D tys A) {post : S → Prop} (hM : ZM l y cb L none rm D tc (.ref b :: As) wc (zQv D t1 post w1)) (n : Nat) (hn : As.length = n) (hcw : Cond.code y cb L none ∈ lw_all) (hini : Cond.initialized y.cls ∈ lw_all) (hlk : Cond.methodLink own index y ∈ lw_all) (him : Cond.instanceMethod y ∈ lw_all) (hy1 : y.name = "<init>") (hd0 : y.cls ≠ "java/lang/invoke/MethodHandle" ∧ y.cls ≠ "java/lang/invoke/VarHandle" ∧ (parseMethodDescriptor y.desc).map (fun d => d.parameters.length) = some n) (hR : rm.frames + 1 ≤ R.frames ∧ 8 + (L + 11) + rm.locals ≤ R.locals)
    (hst : (st.map fun v => v.category).sum ≤ 8) (hd : decode cc pc = .ok (.invokespecial index, 3)) (hf : cells + rm.cells ≤ R.cells ∧ slots + rm.slots ≤ R.slots)
    (isC isR isN isT : List Nat) (hC : isC.map (fun i => ws[i]?) = wc.map some) (hcn : va_nd isC = true) (hW : isR.map (fun i => ws[i]?) = (isR.filterMap (fun i => ws[i]?)).map some) (hrn : va_nd isR = true) (hdis : ∀ i ∈ isR, i ∉ isC) (hT : isT.filterMap (fun i => tys[i]?) = tc) (wn : S → va_W) (hN : ∀ u, isN.map (fun i => (isR.filterMap (fun i => ws[i]?) ++ w1 u)[i]?) = (wn u).map some) (hnn : va_nd isN = true)
    (kk : ∀ (u : S), post u → ZC p s m args c cc nL own D (tys ++ t1 u) A → Z p l e R s m args below meth c D A nL Q (cells + rm.cells) (slots + rm.slots) (wn u) (pc + 3) lv st) : Z p l e R s m args below meth c D A nL Q cells slots ws pc lv (As.reverse ++ .ref b :: st) := by
  intro H locs ls hP hD hS hl
  have hPc := hP.sub isC (z_fm isC ws wc hC)
  have hDc := hD.sub isC hcn hC
  have hKc := C.2.1.sub isT hT
  have hFc := va_free (wc := wc) hD hS C.2.2 isC hC
  refine va_callv (va_runI (As := As) (rest := st) C.1 (hM H.size) (cwI n C.1.2.2.2.2 (lw_meth hcw) rfl rfl rfl (C.w hini) (C.w hlk) (C.w him) hy1 hd0 hR) ⟨zPre_blind, fun U hU hW => ⟨rfl, by rw [hU], by rw [hU]; exact hPc, va_K.moved hW.alike hKc, hDc.weaken (fun _ _ _ _ => trivial)⟩⟩ rfl hn hl.1 rfl (lv_room hst) hd hf) hS (fun q _ h => hFc q h) hFc (fun u t H1 locs1 ht hvm hw hB hz1 hk1 hS1 => ?_)
  obtain ⟨hP1, hK1, hD1⟩ := hB
  rw [ht] at hP1
  have hK1 := va_K.moved hvm.symm hK1
  obtain ⟨hP2, hD2⟩ := va_join (wr := isR.filterMap (fun i => ws[i]?)) (w1 := w1 u) hP hD isC isR hC hW hrn hdis hk1 hFc hP1 hD1
  exact kk u hw ⟨C.1, C.2.1.app hK1, C.2.2⟩ H1 locs1 ls (hP2.sub isN (z_fm isN _ _ (hN u))) (hD2.sub isN hnn (hN u)) hS1 hl
/-- a nest mate's constructor's call -/
theorem z_callIN (C : ZC p s m args c cc nL own D tys A) {host : String} {post : S → Prop} (hM : ZM l y cb L none rm D tc (.ref b :: As) wc (zQv D t1 post w1)) (n : Nat) (hn : As.length = n) (hcw : Cond.code y cb L none ∈ lw_all) (hini : Cond.initialized y.cls ∈ lw_all) (hlk : va_Nw (.methodLinkNest own index y host) s) (him : Cond.instanceMethod y ∈ lw_all) (hy1 : y.name = "<init>") (hd0 : y.cls ≠ "java/lang/invoke/MethodHandle" ∧ y.cls ≠ "java/lang/invoke/VarHandle" ∧ (parseMethodDescriptor y.desc).map (fun d => d.parameters.length) = some n) (hR : rm.frames + 1 ≤ R.frames ∧ 8 + (L + 11) + rm.locals ≤ R.locals)
    (hst : (st.map fun v => v.category).sum ≤ 8) (hd : decode cc pc = .ok (.invokespecial index, 3)) (hf : cells + rm.cells ≤ R.cells ∧ slots + rm.slots ≤ R.slots)
    (isC isR isN isT : List Nat) (hC : isC.map (fun i => ws[i]?) = wc.map some) (hcn : va_nd isC = true) (hW : isR.map (fun i => ws[i]?) = (isR.filterMap (fun i => ws[i]?)).map some) (hrn : va_nd isR = true) (hdis : ∀ i ∈ isR, i ∉ isC) (hT : isT.filterMap (fun i => tys[i]?) = tc) (wn : S → va_W) (hN : ∀ u, isN.map (fun i => (isR.filterMap (fun i => ws[i]?) ++ w1 u)[i]?) = (wn u).map some) (hnn : va_nd isN = true)
    (kk : ∀ (u : S), post u → ZC p s m args c cc nL own D (tys ++ t1 u) A → Z p l e R s m args below meth c D A nL Q (cells + rm.cells) (slots + rm.slots) (wn u) (pc + 3) lv st) : Z p l e R s m args below meth c D A nL Q cells slots ws pc lv (As.reverse ++ .ref b :: st) := by
  intro H locs ls hP hD hS hl
  have hPc := hP.sub isC (z_fm isC ws wc hC)
  have hDc := hD.sub isC hcn hC
  have hKc := C.2.1.sub isT hT
  have hFc := va_free (wc := wc) hD hS C.2.2 isC hC
  refine va_callv (va_runIN (As := As) (rest := st) C.1 (hM H.size) ⟨va_cnB n C.1.2.2.2.2 (lw_meth hcw) rfl rfl rfl hlk (C.w hini) hd0 hR, hy1, C.w him⟩ ⟨zPre_blind, fun U hU hW => ⟨rfl, by rw [hU], by rw [hU]; exact hPc, va_K.moved hW.alike hKc, hDc.weaken (fun _ _ _ _ => trivial)⟩⟩ rfl hn hl.1 rfl (lv_room hst) hd hf) hS (fun q _ h => hFc q h) hFc (fun u t H1 locs1 ht hvm hw hB hz1 hk1 hS1 => ?_)
  obtain ⟨hP1, hK1, hD1⟩ := hB
  rw [ht] at hP1
  have hK1 := va_K.moved hvm.symm hK1
  obtain ⟨hP2, hD2⟩ := va_join (wr := isR.filterMap (fun i => ws[i]?)) (w1 := w1 u) hP hD isC isR hC hW hrn hdis hk1 hFc hP1 hD1
  exact kk u hw ⟨C.1, C.2.1.app hK1, C.2.2⟩ H1 locs1 ls (hP2.sub isN (z_fm isN _ _ (hN u))) (hD2.sub isN hnn (hN u)) hS1 hl
end ZE
/-- two array types' names that are the same stand for the same thing -/
theorem z_cls {D : va_G} {tys : List (ClassId × FieldType)} {U : State} (h : va_K D vwCl tys U) {i j : Nat} {a b : ClassId} {ty : FieldType} (ht : ty = .int ∨ ty = .boolean) (hi : tys[i]? = some (a, ty)) (hj : tys[j]? = some (b, ty)) : a = b := by
  have h1 := (h.2 i _ hi).2
  have h2 := (h.2 j _ hj).2
  rcases ht with rfl | rfl
  · have h3 : U.vm.findClass ("[" ++ FieldType.int.toString) = some a := h1
    have h4 : U.vm.findClass ("[" ++ FieldType.int.toString) = some b := h2
    rw [h3] at h4
    exact Option.some.inj h4
  · have h3 : U.vm.findClass ("[" ++ FieldType.boolean.toString) = some a := h1
    have h4 : U.vm.findClass ("[" ++ FieldType.boolean.toString) = some b := h2
    rw [h3] at h4
    exact Option.some.inj h4
end
section
/-! PURE ROWS: the tree of sums -/
/-- the lowest bit -/
def lb (k : Nat) : Nat := k - (k &&& (k - 1))
theorem lb_pos {k : Nat} (h : 0 < k) : 0 < lb k := by
  have h1 : k &&& (k - 1) ≤ k - 1 := Nat.and_le_right
  unfold lb
  omega
theorem lb_le (k : Nat) : lb k ≤ k := Nat.sub_le _ _
set_option maxRecDepth 100000 in
theorem lb_all : ((List.range 2001).all fun k => decide (nI k &&& (-(nI k)) = nI (lb k))) = true := by decide +kernel
theorem lb_ok {k : Nat} (h : k < 2001) : nI k &&& (-(nI k)) = nI (lb k) := of_decide_eq_true (List.all_eq_true.mp lb_all k (List.mem_range.mpr h))
/-- the sum that before(k) makes, by fuel -/
def qsF (t : Nat → Int32) : Nat → Nat → Int32
  | 0, _ => 0
  | f + 1, k => if k = 0 then 0 else t k + qsF t f (k - lb k)
def qs (t : Nat → Int32) (k : Nat) : Int32 := qsF t k k
theorem qsF_0 (t : Nat → Int32) (f : Nat) : qsF t f 0 = 0 := by
  cases f with
  | zero => rfl
  | succ f => simp [qsF]
theorem qsF_fuel (t : Nat → Int32) : ∀ (f j : Nat), j ≤ f → qsF t f j = qs t j := by
  intro f
  induction f using Nat.strongRecOn with
  | ind f ih =>
    intro j hj
    cases j with
    | zero => rw [qsF_0]; rfl
    | succ i =>
      cases f with
      | zero => omega
      | succ g =>
        have h1 := lb_pos (k := i + 1) (by omega)
        have e1 : qsF t (g + 1) (i + 1) = t (i + 1) + qsF t g (i + 1 - lb (i + 1)) := by simp [qsF]
        have e2 : qs t (i + 1) = t (i + 1) + qsF t i (i + 1 - lb (i + 1)) := by simp [qs, qsF]
        rw [e1, e2, ih g (by omega) _ (by omega), ih i (by omega) _ (by omega)]
theorem qs_0 (t : Nat → Int32) : qs t 0 = 0 := rfl
theorem qs_s (t : Nat → Int32) {k : Nat} (h : 0 < k) : qs t k = t k + qs t (k - lb k) := by
  cases k with
  | zero => omega
  | succ i =>
    have h1 := lb_pos (k := i + 1) (by omega)
    have e2 : qs t (i + 1) = t (i + 1) + qsF t i (i + 1 - lb (i + 1)) := by simp [qs, qsF]
    rw [e2, qsF_fuel t i _ (by omega)]
/-- the tree behind add -/
def ad (v : Int32) : Nat → (Nat → Int32) → Nat → (Nat → Int32)
  | 0, t, _ => t
  | f + 1, t, k => if 2001 ≤ k then t else ad v f (upd t k (t k + v)) (k + lb k)
theorem ad_out {v : Int32} {f k : Nat} {t : Nat → Int32} (h : 2001 ≤ k) : ad v f t k = t := by
  cases f with
  | zero => rfl
  | succ f => simp [ad, h]
theorem ad_in {v : Int32} {f k : Nat} {t : Nat → Int32} (h : k < 2001) : ad v (f + 1) t k = ad v f (upd t k (t k + v)) (k + lb k) := by
  have h1 : ¬ 2001 ≤ k := by omega
  simp [ad, h1]
def ap : Nat → Nat → List Nat
  | 0, _ => []
  | f + 1, k => if 2001 ≤ k then [] else k :: ap f (k + lb k)
theorem ap_ge : ∀ (f k i : Nat), i ∈ ap f k → k ≤ i := by
  intro f
  induction f with
  | zero => intro k i h; simp [ap] at h
  | succ f ih =>
    intro k i h
    by_cases h1 : 2001 ≤ k
    · simp [ap, h1] at h
    · simp only [ap, h1, if_false, List.mem_cons] at h
      rcases h with h | h
      · omega
      · have := ih _ _ h
        omega
theorem ad_at : ∀ (f : Nat) (v : Int32) (t : Nat → Int32) (k i : Nat), 0 < k → ad v f t k i = if i ∈ ap f k then t i + v else t i := by
  intro f
  induction f with
  | zero => intro v t k i _; simp [ad, ap]
  | succ f ih =>
    intro v t k i hk
    by_cases h1 : 2001 ≤ k
    · rw [ad_out h1]; simp [ap, h1]
    · have hl := lb_pos hk
      rw [ad_in (by omega), ih v _ _ i (by omega)]
      have e1 : ap (f + 1) k = k :: ap f (k + lb k) := by simp [ap, h1]
      rw [e1]
      by_cases h2 : i = k
      · subst h2
        have h3 : ¬ i ∈ ap f (i + lb i) := fun h => by have := ap_ge _ _ _ h; omega
        simp [h3, upd]
      · simp [h2, upd]
def qp : Nat → Nat → List Nat
  | 0, _ => []
  | f + 1, k => if k = 0 then [] else k :: qp f (k - lb k)
def smL (t : Nat → Int32) : List Nat → Int32
  | [] => 0
  | i :: r => t i + smL t r
theorem qsF_path (t : Nat → Int32) : ∀ (f k : Nat), qsF t f k = smL t (qp f k) := by
  intro f
  induction f with
  | zero => intro k; rfl
  | succ f ih =>
    intro k
    by_cases h : k = 0
    · simp [qsF, qp, h, smL]
    · simp [qsF, qp, h, smL, ih]
def cntL (P : List Nat) : List Nat → Nat
  | [] => 0
  | i :: r => (if P.contains i then 1 else 0) + cntL P r
theorem smL_0 (t : Nat → Int32) (v : Int32) (P : List Nat) : ∀ (r : List Nat), cntL P r = 0 → smL (fun i => if i ∈ P then t i + v else t i) r = smL t r := by
  intro r
  induction r with
  | nil => intro _; rfl
  | cons i r ih =>
    intro h
    by_cases h1 : i ∈ P
    · simp [cntL, h1] at h
    · have h2 : cntL P r = 0 := by simpa [cntL, h1] using h
      simp [smL, h1, ih h2]
theorem smL_1 (t : Nat → Int32) (v : Int32) (P : List Nat) : ∀ (r : List Nat), cntL P r = 1 → smL (fun i => if i ∈ P then t i + v else t i) r = smL t r + v := by
  intro r
  induction r with
  | nil => intro h; simp [cntL] at h
  | cons i r ih =>
    intro h
    by_cases h1 : i ∈ P
    · have h2 : cntL P r = 0 := by
        simp [cntL, h1] at h
        omega
      simp only [smL, h1, if_true, smL_0 t v P r h2]
      grind
    · have h2 : cntL P r = 1 := by simpa [cntL, h1] using h
      simp only [smL, h1, if_false, ih h2]
      grind
set_option maxRecDepth 100000 in
theorem fen_all : ((List.range 64).all fun u => (List.range 65).all fun q => decide (cntL (ap 2001 (u + 1)) (qp q q) = if u < q then 1 else 0)) = true := by decide +kernel
theorem fen_ok {u q : Nat} (hu : u < 64) (hq : q ≤ 64) : cntL (ap 2001 (u + 1)) (qp q q) = if u < q then 1 else 0 :=
  of_decide_eq_true (List.all_eq_true.mp (List.all_eq_true.mp fen_all u (List.mem_range.mpr hu)) q (List.mem_range.mpr (by omega)))
theorem qs_ad (t : Nat → Int32) (v : Int32) {u q : Nat} (hu : u < 64) (hq : q ≤ 64) : qs (ad v 2001 t (u + 1)) q = if u < q then qs t q + v else qs t q := by
  have e1 : ad v 2001 t (u + 1) = fun i => if i ∈ ap 2001 (u + 1) then t i + v else t i := funext (fun i => ad_at 2001 v t (u + 1) i (by omega))
  have h := fen_ok hu hq
  unfold qs
  rw [qsF_path, qsF_path, e1]
  by_cases h1 : u < q
  · rw [if_pos h1] at h ⊢
    exact smL_1 t v _ _ h
  · rw [if_neg h1] at h ⊢
    exact smL_0 t v _ _ h
/-- the sum of the first k -/
def ps (w : Nat → Nat) : Nat → Nat
  | 0 => 0
  | k + 1 => ps w k + w k
theorem ps_le {w : Nat → Nat} {M : Nat} (h : ∀ k, w k ≤ M) : ∀ k, ps w k ≤ M * k := by
  intro k
  induction k with
  | zero => simp [ps]
  | succ k ih =>
    have := h k
    simp only [ps, Nat.mul_add, Nat.mul_one]
    omega
theorem ps_mono {w : Nat → Nat} : ∀ (a b : Nat), a ≤ b → ps w a ≤ ps w b := by
  intro a b h
  induction b with
  | zero => have : a = 0 := by omega
            subst this; exact Nat.le_refl _
  | succ b ih =>
    by_cases e : a = b + 1
    · subst e; exact Nat.le_refl _
    · have := ih (by omega)
      simp only [ps]
      omega
theorem ps_add (w : Nat → Nat) (u d : Nat) : ∀ q, ps (fun j => if j = u then w j + d else w j) q = ps w q + if u < q then d else 0 := by
  intro q
  induction q with
  | zero => simp [ps]
  | succ q ih =>
    simp only [ps, ih]
    by_cases h1 : q = u
    · subst h1
      simp
      omega
    · by_cases h2 : u < q
      · have h3 : u < q + 1 := by omega
        simp [h1, h2, h3]
        omega
      · have h3 : ¬ u < q + 1 := by omega
        simp [h1, h2, h3]
/-- the tree t holds the numbers w -/
def TRep (t : Nat → Int32) (w : Nat → Nat) : Prop := ∀ q, q ≤ 64 → qs t q = nI (ps w q)
theorem TRep_add {t : Nat → Int32} {w : Nat → Nat} {u : Nat} (d : Nat) (h : TRep t w) (hu : u < 64) : TRep (ad (nI d) 2001 t (u + 1)) (fun j => if j = u then w j + d else w j) := by
  intro q hq
  rw [qs_ad t (nI d) hu hq, ps_add, h q hq]
  by_cases h1 : u < q
  · simp only [h1, if_true]
    exact nI_add _ _
  · simp [h1]
theorem ps_0 : ∀ q, ps (fun _ => 0) q = 0 := by
  intro q
  induction q with
  | zero => rfl
  | succ q ih => simp [ps, ih]
theorem qs_zero {t : Nat → Int32} (h : ∀ i, i < 2001 → t i = 0) : ∀ q, q < 2001 → qs t q = 0 := by
  intro q
  induction q using Nat.strongRecOn with
  | ind q ih =>
    intro hq
    by_cases h0 : q = 0
    · subst h0; rfl
    · have hl := lb_pos (k := q) (by omega)
      rw [qs_s t (by omega), h q hq, ih (q - lb q) (by omega) (by omega)]
      rfl
theorem TRep_0 {t : Nat → Int32} (h : ∀ i, i < 2001 → t i = 0) : TRep t (fun _ => 0) := fun q hq => by
  rw [qs_zero h q (by omega), ps_0]
  exact nI_0.symm
/-! the ring: a queue without doubles -/
def RRep (ro ii : Nat → Int32) (fr : Nat) (Q : List Nat) : Prop :=
  fr < 2000 ∧ Q.Nodup ∧ (∀ k ∈ Q, k < 2000) ∧ (∀ i k, Q[i]? = some k → ro ((fr + i) % 2000) = nI k) ∧ ∀ k, k < 2000 → ii k = if k ∈ Q then 1 else 0
def rput (Q : List Nat) (k : Nat) : List Nat := if k ∈ Q then Q else Q ++ [k]
theorem rput_mem {Q : List Nat} {k j : Nat} : j ∈ rput Q k ↔ j ∈ Q ∨ j = k := by
  unfold rput
  by_cases h : k ∈ Q
  · rw [if_pos h]
    constructor
    · exact Or.inl
    · rintro (h1 | h1)
      · exact h1
      · rw [h1]; exact h
  · rw [if_neg h]; simp
theorem RRep_0 {ro ii : Nat → Int32} (h : ∀ i, i < 2000 → ii i = 0) : RRep ro ii 0 [] :=
  ⟨by omega, List.nodup_nil, (fun k h => absurd h List.not_mem_nil), (fun i k h => by simp at h), (fun k hk => by simp [h k hk])⟩
theorem RRep_put {ro ii : Nat → Int32} {fr k : Nat} {Q : List Nat} (h : RRep ro ii fr Q) (hk : k < 2000) (hn : k ∉ Q) (hl : Q.length < 2000) : RRep (upd ro ((fr + Q.length) % 2000) (nI k)) (upd ii k 1) fr (Q ++ [k]) := by
  obtain ⟨h1, h2, h3, h4, h5⟩ := h
  refine ⟨h1, ?_, ?_, ?_, ?_⟩
  · refine List.nodup_append.mpr ⟨h2, by simp, ?_⟩
    intro a ha b hb hab
    have e : b = k := by simpa using hb
    rw [hab, e] at ha
    exact hn ha
  · intro j hj
    rcases List.mem_append.mp hj with h | h
    · exact h3 j h
    · have : j = k := by simpa using h
      omega
  · intro i j hij
    by_cases hi : i < Q.length
    · rw [List.getElem?_append_left hi] at hij
      have e1 : (fr + i) % 2000 ≠ (fr + Q.length) % 2000 := by omega
      rw [pk_un e1]
      exact h4 i j hij
    · have hi2 : i = Q.length := by
        have := (List.getElem?_eq_some_iff.mp hij).1
        simp at this
        omega
      subst hi2
      have : k = j := by simpa using hij
      subst this
      exact pk_us
  · intro j hj
    by_cases e : j = k
    · subst e
      rw [pk_us]; simp
    · rw [pk_un e, h5 j hj]
      simp [e]
theorem RRep_take {ro ii : Nat → Int32} {fr k : Nat} {Q : List Nat} (h : RRep ro ii fr (k :: Q)) : ro fr = nI k ∧ k < 2000 ∧ RRep ro (upd ii k 0) ((fr + 1) % 2000) Q := by
  obtain ⟨h1, h2, h3, h4, h5⟩ := h
  have hk : k < 2000 := h3 k List.mem_cons_self
  have hn := List.nodup_cons.mp h2
  refine ⟨?_, hk, by omega, hn.2, fun j hj => h3 j (List.mem_cons_of_mem _ hj), ?_, ?_⟩
  · have := h4 0 k rfl
    have e : (fr + 0) % 2000 = fr := by omega
    rwa [e] at this
  · intro i j hij
    have := h4 (i + 1) j (by simpa using hij)
    have e : (fr + (i + 1)) % 2000 = ((fr + 1) % 2000 + i) % 2000 := by omega
    rwa [e] at this
  · intro j hj
    by_cases e : j = k
    · subst e
      rw [pk_us]; simp [hn.1]
    · rw [pk_un e, h5 j hj]
      simp [e]
/-- a list of different numbers below n has at most n of them -/
theorem pig : ∀ (n : Nat) (Q : List Nat), Q.Nodup → (∀ k ∈ Q, k < n) → Q.length ≤ n := by
  intro n
  induction n with
  | zero =>
    intro Q _ h
    cases Q with
    | nil => simp
    | cons a t => exact absurd (h a List.mem_cons_self) (by omega)
  | succ n ih =>
    intro Q h1 h2
    have h3 : (Q.filter (fun k => decide (k ≠ n))).length ≤ n := by
      refine ih _ (h1.filter _) (fun k hk => ?_)
      have h4 := List.mem_filter.mp hk
      have h5 : k ≠ n := of_decide_eq_true h4.2
      have := h2 k h4.1
      omega
    have h6 : ∀ (Q : List Nat), Q.Nodup → Q.length ≤ (Q.filter (fun k => decide (k ≠ n))).length + 1 := by
      intro Q
      induction Q with
      | nil => intro _; simp
      | cons a t ih2 =>
        intro h
        have hn := List.nodup_cons.mp h
        by_cases e : a = n
        · subst e
          have h7 : t.filter (fun k => decide (k ≠ a)) = t := by
            refine List.filter_eq_self.mpr (fun k hk => ?_)
            have : k ≠ a := fun h => hn.1 (h ▸ hk)
            simpa using this
          rw [List.filter_cons_of_neg (by simp), h7]
          exact Nat.le_refl _
        · have := ih2 hn.2
          rw [List.filter_cons_of_pos (by simpa using e), List.length_cons, List.length_cons]
          omega
    have := h6 Q h1
    omega
end
section
/-! PURE ROWS: which branches become long -/
def bI (b : Bool) : Int32 := if b then 1 else 0
/-- the words of item k, if L says which are long -/
def wt (n : Nat) (kd nb : Nat → Int32) (L : Nat → Bool) (k : Nat) : Nat :=
  if k < n then (if kd k = 0 then (nb k).toNatClampNeg else if kd k = 2 then (if L k then 2 else 1) else 0) else 0
/-- the item that branch k goes to -/
def toN (nb ma : Nat → Int32) (k : Nat) : Nat := (ma (nb k).toNatClampNeg).toNatClampNeg
/-- branch k reaches -/
def okL (n r : Nat) (kd nb ma : Nat → Int32) (L : Nat → Bool) (k : Nat) : Prop :=
  ps (wt n kd nb L) (toN nb ma k) ≤ ps (wt n kd nb L) k + r ∧ ps (wt n kd nb L) k ≤ ps (wt n kd nb L) (toN nb ma k) + r
def clL (n r : Nat) (kd nb ma : Nat → Int32) (L : Nat → Bool) : Prop := ∀ k, k < n → kd k = 2 → L k = true ∨ okL n r kd nb ma L k
def sdL (n r : Nat) (kd nb ma : Nat → Int32) (L : Nat → Bool) : Prop := ∀ L', clL n r kd nb ma L' → ∀ k, k < n → L k = true → L' k = true
/-- the items are fit to be laid: branches go to marks -/
def fitL (n mk : Nat) (kd nb ma : Nat → Int32) : Prop :=
  ∀ k, k < n → kd k = 2 → (nb k).toNatClampNeg < mk ∧ nb k = nI (nb k).toNatClampNeg ∧ toN nb ma k < n ∧ ma (nb k).toNatClampNeg = nI (toN nb ma k) ∧ kd (toN nb ma k) = 1
theorem wt_mono {n : Nat} {kd nb : Nat → Int32} {L L' : Nat → Bool} (h : ∀ k, k < n → L k = true → L' k = true) (k : Nat) : wt n kd nb L k ≤ wt n kd nb L' k := by
  unfold wt
  by_cases h1 : k < n
  · simp only [h1, if_true]
    by_cases h2 : kd k = 0
    · simp [h2]
    · by_cases h3 : kd k = 2
      · simp only [h2, h3, if_true, if_false]
        cases h4 : L k with
        | true => simp [h k h1 h4]
        | false =>
          cases L' k <;> simp
      · simp [h2, h3]
  · simp [h1]
theorem ps_diff {w w' : Nat → Nat} (h : ∀ k, w k ≤ w' k) : ∀ (a b : Nat), a ≤ b → ps w b + ps w' a ≤ ps w' b + ps w a := by
  intro a b hab
  induction b with
  | zero => have : a = 0 := by omega
            subst this; omega
  | succ b ih =>
    by_cases e : a = b + 1
    · subst e; omega
    · have h1 := ih (by omega)
      have h2 := h b
      simp only [ps]
      omega
/-- what doesn't reach with fewer long ones doesn't with more -/
theorem okL_mono {n r : Nat} {kd nb ma : Nat → Int32} {L L' : Nat → Bool} (h : ∀ k, k < n → L k = true → L' k = true) {k : Nat} (hk : ¬ okL n r kd nb ma L k) : ¬ okL n r kd nb ma L' k := by
  intro h1
  apply hk
  obtain ⟨a1, a2⟩ := h1
  have hw := wt_mono (kd := kd) (nb := nb) h
  rcases Nat.le_total (toN nb ma k) k with e | e
  · have d1 := ps_diff hw _ _ e
    have d2 := ps_mono (w := wt n kd nb L) _ _ e
    have d3 := ps_mono (w := wt n kd nb L') _ _ e
    exact ⟨by omega, by omega⟩
  · have d1 := ps_diff hw _ _ e
    have d2 := ps_mono (w := wt n kd nb L) _ _ e
    have d3 := ps_mono (w := wt n kd nb L') _ _ e
    exact ⟨by omega, by omega⟩
def updB (L : Nat → Bool) (k : Nat) (b : Bool) : Nat → Bool := fun j => if j = k then b else L j
theorem updB_s (L : Nat → Bool) (k : Nat) (b : Bool) : updB L k b k = b := by simp [updB]
theorem updB_n {L : Nat → Bool} {k j : Nat} {b : Bool} (h : j ≠ k) : updB L k b j = L j := by simp [updB, h]
/-- a branch that doesn't reach under L0 (sound) may be made long -/
theorem sdL_add {n r : Nat} {kd nb ma : Nat → Int32} {L0 L : Nat → Bool} (h0 : sdL n r kd nb ma L0) (h : sdL n r kd nb ma L) {k : Nat} (hk : k < n) (h2 : kd k = 2) (hno : ¬ okL n r kd nb ma L0 k) : sdL n r kd nb ma (updB L k true) := by
  intro L' hL' j hj hjt
  by_cases e : j = k
  · subst e
    rcases hL' j hj h2 with q | q
    · exact q
    · exact absurd q (okL_mono (fun i hi => h0 L' hL' i hi) hno)
  · rw [updB_n e] at hjt
    exact h L' hL' j hj hjt
theorem sdL_0 {n r : Nat} {kd nb ma : Nat → Int32} {L : Nat → Bool} (h : ∀ k, k < n → L k = false) : sdL n r kd nb ma L := fun L' _ k hk hkt => by rw [h k hk] at hkt; cases hkt
/-- the least closed set -/
noncomputable def LF (n r : Nat) (kd nb ma : Nat → Int32) : Nat → Bool := fun k => @decide (∀ L, clL n r kd nb ma L → L k = true) (Classical.propDecidable _)
theorem LF_eq {n r : Nat} {kd nb ma : Nat → Int32} {L : Nat → Bool} (h1 : sdL n r kd nb ma L) (h2 : clL n r kd nb ma L) {k : Nat} (hk : k < n) : L k = LF n r kd nb ma k := by
  cases h : L k with
  | true => exact (@decide_eq_true _ (Classical.propDecidable _) (fun L' hL' => h1 L' hL' k hk h)).symm
  | false =>
    refine (@decide_eq_false _ (Classical.propDecidable _) (fun q => ?_)).symm
    rw [q L h2] at h
    cases h
theorem wt_congr {n : Nat} {kd nb : Nat → Int32} {L L' : Nat → Bool} (h : ∀ k, k < n → L k = L' k) : wt n kd nb L = wt n kd nb L' := by
  funext k
  unfold wt
  by_cases h1 : k < n
  · rw [h k h1]
  · simp [h1]
/-- one more long branch: one more word -/
theorem wt_add {n : Nat} {kd nb : Nat → Int32} {L : Nat → Bool} {k : Nat} (hk : k < n) (h2 : kd k = 2) (hf : L k = false) : wt n kd nb (updB L k true) = fun j => if j = k then wt n kd nb L j + 1 else wt n kd nb L j := by
  funext j
  by_cases e : j = k
  · subst e
    have h0 : ¬ kd j = 0 := by rw [h2]; decide
    simp [wt, hk, h2, hf, updB_s]
  · simp [wt, updB_n e, e]
/-- a branch over which k doesn't lie keeps its distance -/
theorem okL_keep {n r : Nat} {kd nb ma : Nat → Int32} {L : Nat → Bool} {k j : Nat} (hk : k < n) (h2 : kd k = 2) (hf : L k = false) (hto : kd (toN nb ma j) = 1) (hjk : j ≠ k) (hs : ¬ ((j ≤ k ∧ k < toN nb ma j) ∨ (toN nb ma j < k ∧ k < j))) (h : okL n r kd nb ma L j) : okL n r kd nb ma (updB L k true) j := by
  have hne : toN nb ma j ≠ k := by
    intro e
    rw [e, h2] at hto
    exact absurd hto (by decide)
  unfold okL at h ⊢
  rw [wt_add hk h2 hf, ps_add, ps_add]
  by_cases a : k < toN nb ma j
  · have b : k < j := by omega
    simp only [a, b, if_true]
    omega
  · have b : ¬ k < j := by omega
    simp only [a, b, if_false]
    omega
/-- how many are long -/
def cnL (kd : Nat → Int32) (L : Nat → Bool) : Nat → Nat
  | 0 => 0
  | k + 1 => cnL kd L k + if kd k = 2 ∧ L k = true then 1 else 0
theorem cnL_le (kd : Nat → Int32) (L : Nat → Bool) : ∀ n, cnL kd L n ≤ n := by
  intro n
  induction n with
  | zero => exact Nat.le_refl _
  | succ n ih =>
    simp only [cnL]
    by_cases h : kd n = 2 ∧ L n = true
    · simp [h]; omega
    · simp [h]; omega
theorem cnL_congr {kd : Nat → Int32} {L L' : Nat → Bool} : ∀ n, (∀ k, k < n → L k = L' k) → cnL kd L n = cnL kd L' n := by
  intro n
  induction n with
  | zero => intro _; rfl
  | succ n ih =>
    intro h
    simp only [cnL, ih (fun k hk => h k (by omega)), h n (by omega)]
theorem cnL_add {kd : Nat → Int32} {L : Nat → Bool} {k : Nat} (h2 : kd k = 2) (hf : L k = false) : ∀ n, cnL kd (updB L k true) n = cnL kd L n + if k < n then 1 else 0 := by
  intro n
  induction n with
  | zero => simp [cnL]
  | succ n ih =>
    simp only [cnL, ih]
    by_cases e : n = k
    · subst e
      simp [h2, hf, updB_s]
    · rw [updB_n e]
      by_cases h1 : k < n
      · have h3 : k < n + 1 := by omega
        simp only [h1, h3, if_true]
        omega
      · have h3 : ¬ k < n + 1 := by omega
        simp only [h1, h3, if_false]
        omega
theorem cnL_lt {kd : Nat → Int32} {L : Nat → Bool} {k n : Nat} (hk : k < n) (h2 : kd k = 2) (hf : L k = false) : cnL kd L n < n := by
  have h1 := cnL_add h2 hf n
  have h3 := cnL_le kd (updB L k true) n
  rw [h1, if_pos hk] at h3
  omega
theorem cnL_0 {kd : Nat → Int32} {L : Nat → Bool} : ∀ n, (∀ k, k < n → L k = false) → cnL kd L n = 0 := by
  intro n
  induction n with
  | zero => intro _; rfl
  | succ n ih =>
    intro h
    simp [cnL, ih (fun k hk => h k (by omega)), h n (by omega)]
theorem wt_le {n : Nat} {kd nb : Nat → Int32} {L : Nat → Bool} (h : ∀ k, k < n → kd k = 0 → (nb k).toNatClampNeg ≤ 4000) (k : Nat) : wt n kd nb L k ≤ 4000 := by
  unfold wt
  by_cases h1 : k < n
  · simp only [h1, if_true]
    by_cases h2 : kd k = 0
    · simp only [h2, if_true]; exact h k h1 h2
    · by_cases h3 : kd k = 2
      · simp only [h2, h3, if_true, if_false]
        cases L k <;> simp
      · simp [h2, h3]
  · simp [h1]
theorem psw_le {n : Nat} {kd nb : Nat → Int32} {L : Nat → Bool} (h : ∀ k, k < n → kd k = 0 → (nb k).toNatClampNeg ≤ 4000) {q : Nat} (hq : q ≤ 64) : ps (wt n kd nb L) q ≤ 256000 := by
  have := ps_le (wt_le (L := L) h) q
  omega
/-- the two compares of 'reaches' -/
theorem rc_lo {a b r : Nat} (ha : a ≤ 256000) (hb : b ≤ 256000) (hr : r ≤ 100000) : nI a - nI b < -(nI r) ↔ a + r < b := by
  rw [Int32.lt_iff_toInt_lt, pk_sub_toInt (by omega) (by omega), sb_negT (by omega)]
  omega
theorem rc_hi {a b r : Nat} (ha : a ≤ 256000) (hb : b ≤ 256000) (hr : r ≤ 100000) : nI r < nI a - nI b ↔ b + r < a := by
  rw [Int32.lt_iff_toInt_lt, pk_sub_toInt (by omega) (by omega), nI_toInt (by omega)]
  omega
/-- what the items of BranchLengths and of its reference share -/
def KOK (n mk r : Nat) (kd nb ma : Nat → Int32) : Prop :=
  n ≤ 64 ∧ mk ≤ n ∧ 1 ≤ r ∧ r ≤ 100000 ∧ (∀ k, k < n → (kd k = 0 ∧ ∃ x, x ≤ 4000 ∧ nb k = nI x) ∨ kd k = 1 ∨ (kd k = 2 ∧ ∃ x, x < 2 ^ 31 ∧ nb k = nI x)) ∧ ∀ j, j < mk → ∃ q, q < n ∧ ma j = nI q ∧ kd q = 1
/-- item k is a branch to no mark -/
def badL (mk : Nat) (kd nb : Nat → Int32) (k : Nat) : Prop := kd k = 2 ∧ nI mk ≤ nb k
theorem KOK_words {n mk r : Nat} {kd nb ma : Nat → Int32} (h : KOK n mk r kd nb ma) : ∀ k, k < n → kd k = 0 → (nb k).toNatClampNeg ≤ 4000 := by
  intro k hk h0
  rcases h.2.2.2.2.1 k hk with ⟨-, x, hx, e⟩ | h1 | ⟨h1, -⟩
  · rw [e, nI_clamp (by omega)]; exact hx
  · rw [h0] at h1; exact absurd h1 (by decide)
  · rw [h0] at h1; exact absurd h1 (by decide)
theorem KOK_fit {n mk r : Nat} {kd nb ma : Nat → Int32} (h : KOK n mk r kd nb ma) (hb : ∀ k, k < n → ¬ badL mk kd nb k) : fitL n mk kd nb ma := by
  intro k hk h2
  obtain ⟨h64, hmk, -, -, hks, hms⟩ := h
  rcases hks k hk with ⟨h1, -⟩ | h1 | ⟨h1, x, hx, e⟩
  · rw [h2] at h1; exact absurd h1 (by decide)
  · rw [h2] at h1; exact absurd h1 (by decide)
  · have hxm : x < mk := by
      rcases Nat.lt_or_ge x mk with q | q
      · exact q
      · exact absurd ⟨h2, by rw [e]; exact nI_le q hx⟩ (hb k hk)
    have ec : (nb k).toNatClampNeg = x := by rw [e, nI_clamp hx]
    obtain ⟨q, hq, eq, hkq⟩ := hms x hxm
    have et : toN nb ma k = q := by unfold toN; rw [ec, eq, nI_clamp (by omega)]
    rw [et, ec]
    exact ⟨hxm, e, hq, eq, hkq⟩
end
section
/-! the cells of the objects -/
def wS (a b : Nat) (cI : ClassId) (tr : Nat → Int32) : va_W := [(a, .inr (1, [.ref b])), (b, .inl (cI, 2001, .inl tr))]
def wR (a b d : Nat) (cI cZ : ClassId) (ro ii : Nat → Int32) (fr co : Int32) : va_W := [(a, .inr (2, [.ref b, .ref d, .int fr, .int co])), (b, .inl (cI, 2000, .inl ro)), (d, .inl (cZ, 2000, .inl ii))]
/-- kind, number, isLong, markAt, tree, row, isIn; items, marks, longs, least, reach, isLaid, from, count -/
abbrev XS : Type := (Nat → Int32) × (Nat → Int32) × (Nat → Int32) × (Nat → Int32) × (Nat → Int32) × (Nat → Int32) × (Nat → Int32) × Int32 × Int32 × Int32 × Int32 × Int32 × Int32 × Int32 × Int32
def wX (h : Nat → Nat) (cI cZ : ClassId) (u : XS) : va_W := match u with
  | (kd, nb, il, ma, tr, ro, ii, it, mk_, lo, le, re, la, fr, co) => [(h 0, .inr (0, [.ref (h 1), .ref (h 2), .ref (h 3), .ref (h 4), .ref (h 5), .ref (h 7), .int it, .int mk_, .int lo, .int le, .int re, .int la])), (h 1, .inl (cI, 2000, .inl kd)), (h 2, .inl (cI, 2000, .inl nb)), (h 3, .inl (cZ, 2000, .inl il)), (h 4, .inl (cI, 2000, .inl ma)), (h 5, .inr (1, [.ref (h 6)])), (h 6, .inl (cI, 2001, .inl tr)), (h 7, .inr (2, [.ref (h 8), .ref (h 9), .int fr, .int co])), (h 8, .inl (cI, 2000, .inl ro)), (h 9, .inl (cZ, 2000, .inl ii))]
/-- kinds, numbers, longOnes, places, markItems; items, marks, reach, least, laid -/
abbrev MS : Type := (Nat → Int32) × (Nat → Int32) × (Nat → Int32) × (Nat → Int32) × (Nat → Int32) × Int32 × Int32 × Int32 × Int32 × Int32
def wM (h : Nat → Nat) (cI cZ : ClassId) (u : MS) : va_W := match u with
  | (kd, nb, lg, pl, ma, it, mk_, re, le, la) => [(h 0, .inr (3, [.ref (h 1), .ref (h 2), .ref (h 3), .ref (h 4), .ref (h 5), .int it, .int mk_, .int re, .int le, .int la])), (h 1, .inl (cI, 2000, .inl kd)), (h 2, .inl (cI, 2000, .inl nb)), (h 3, .inl (cZ, 2000, .inl lg)), (h 4, .inl (cI, 2001, .inl pl)), (h 5, .inl (cI, 2000, .inl ma))]
/-- the array classes in use -/
abbrev tIZ (cI cZ : ClassId) : List (ClassId × FieldType) := [(cI, .int), (cZ, .boolean)]
abbrev rmZ : Room := { frames := 0, cells := 0, slots := 0, locals := 0 }
end
section
set_option maxHeartbeats 1000000 in
set_option maxRecDepth 100000 in
/-- Sums(): a tree of noughts -/
theorem mX1_init (l : Launch) (D : va_G) (a : Nat) : ZM l yX1_init cX1_init 1 none ({ frames := 1, cells := 1, slots := 2001, locals := 12 }) D [] [.ref a] [(a, .inr (1, [.null]))] (zQv D (fun u : Nat × ClassId => [(u.2, .int)]) (fun _ => True) (fun u : Nat × ClassId => wS a u.1 u.2 (fun _ => 0))) := by
  refine z_met (own := "BranchLengths$Sums") rfl (by decide) (Nat.le_of_ble_eq_true rfl) ?_
  intro p e s m below meth c A C hr
  refine z_aload C dX1_init_0 rfl ?_
  refine z_objInit C q25 dX1_init_1 (by decide) (by decide) ?_
  refine z_aload C dX1_init_4 rfl ?_
  refine z_sipush (v := nI 2001) C dX1_init_5 (by decide) ?_
  refine z_newa (atype := .int) (ty := .int) C rfl q30 (fun _ => rfl) (by decide) (by decide) (by decide) (by decide) dX1_init_8 (fun q cA C => ?_)
  refine z_putF (T := TX1) (N := 1) (ws' := wS a q cA (fun _ => 0)) C in_X1 tyX1 tyX1_ok nmX1 0 rfl rfl 0 (by decide) q26 rfl rfl hr.2.2 rfl rfl rfl (Nat.le_of_ble_eq_true rfl) dX1_init_10 rfl ?_
  exact z_vret C hr dX1_init_13 (q, cA) trivial rfl rfl
set_option maxHeartbeats 1000000 in
set_option maxRecDepth 100000 in
/-- Sums.clear(): noughts -/
theorem mX1_clear (l : Launch) (D : va_G) (a b : Nat) (cI : ClassId) (tr : Nat → Int32) : ZM l yX1_clear cX1_clear 2 none rmZ D [(cI, .int)] [.ref a] (wS a b cI tr) (zQv D (fun _ => [(cI, .int)]) (fun t : Nat → Int32 => ∀ i, i < 2001 → t i = 0) (fun t => wS a b cI t)) := by
  refine z_met (own := "BranchLengths$Sums") rfl (by decide) (Nat.le_of_ble_eq_true rfl) ?_
  intro p e s m below meth c A C hr
  refine z_iconst (v := (nI 0)) C dX1_clear_0 (by decide) ?_
  refine z_istore (lv' := [(0, .ref a), (1, .int (nI 0))]) C dX1_clear_1 (by decide) rfl rfl ?_
  refine z_loop (ι := Nat × (Nat → Int32)) (fun i => 2001 - i.1) (fun i => i.1 ≤ 2001 ∧ ∀ j, j < i.1 → i.2 j = 0) (fun i => wS a b cI i.2) (fun i => [(0, .ref a), (1, .int (nI i.1))]) ?_ (0, tr) ⟨Nat.zero_le _, fun j hj => absurd hj (Nat.not_lt_zero _)⟩
  rintro ⟨k, t⟩ ⟨hk, ht⟩ ih
  dsimp only at hk ht ih ⊢
  refine z_iload C dX1_clear_2 rfl ?_
  refine z_aload C dX1_clear_3 rfl ?_
  refine z_get (T := TX1) (N := 1) C in_X1 0 rfl rfl 0 (by decide) q26 rfl rfl dX1_clear_4 ?_
  refine z_alen C 1 0 rfl rfl dX1_clear_7 ?_
  refine z_cmpN_ge (tgt := 24) C dX1_clear_8 (by decide) (by omega) (by decide) (fun hc => ?_) (fun hc => ?_)
  · exact z_vret C hr dX1_clear_24 t (fun i hi => ht i (by omega)) rfl rfl
  · skip
    refine z_aload C dX1_clear_11 rfl ?_
    refine z_get (T := TX1) (N := 1) C in_X1 0 rfl rfl 0 (by decide) q26 rfl rfl dX1_clear_12 ?_
    refine z_iload C dX1_clear_15 rfl ?_
    refine z_iconst (v := 0) C dX1_clear_16 (by decide) ?_
    refine z_iast (ws' := wS a b cI (upd t k 0)) C 1 0 rfl rfl hc (by decide) dX1_clear_17 rfl ?_
    refine z_iinc (j := 1) (v := (nI (k + 1))) (lv' := [(0, .ref a), (1, .int (nI (k + 1)))]) C dX1_clear_18 rfl (nI_1 k) (by decide) rfl rfl ?_
    refine z_goto (tgt := 2) C dX1_clear_21 (by decide) ?_
    refine ih (k + 1, upd t k 0) ⟨hc, fun j hj => ?_⟩ (by dsimp only; omega)
    by_cases ej : j = k
    · rw [ej]; exact pk_us
    · exact (pk_un ej).trans (ht j (by dsimp only at hj; omega))
set_option maxHeartbeats 1000000 in
set_option maxRecDepth 100000 in
/-- Sums.add(k, v) -/
theorem mX1_add (l : Launch) (D : va_G) (a b : Nat) (cI : ClassId) (tr : Nat → Int32) (k : Nat) (v : Int32) (hk : k < 2000) : ZM l yX1_add cX1_add 4 none rmZ D [(cI, .int)] [.ref a, .int (nI k), .int v] (wS a b cI tr) (zQv D (fun _ => [(cI, .int)]) (fun _ : Unit => True) (fun _ => wS a b cI (ad v 2001 tr (k + 1)))) := by
  refine z_met (own := "BranchLengths$Sums") rfl (by decide) (Nat.le_of_ble_eq_true rfl) ?_
  intro p e s m below meth c A C hr
  refine z_iload C dX1_add_0 rfl ?_
  refine z_iconst (v := 1) C dX1_add_1 (by decide) ?_
  refine z_iadd C dX1_add_2 (nI_1 k) ?_
  refine z_istore (lv' := [(0, .ref a), (2, .int v), (3, .int (nI (k + 1)))]) C dX1_add_3 (by decide) rfl rfl ?_
  refine z_loop (ι := Nat × Nat × (Nat → Int32)) (fun i => i.1) (fun i => 0 < i.2.1 ∧ i.2.1 ≤ 4000 ∧ 2001 ≤ i.2.1 + i.1 ∧ ad v i.1 i.2.2 i.2.1 = ad v 2001 tr (k + 1)) (fun i => wS a b cI i.2.2) (fun i => [(0, .ref a), (2, .int v), (3, .int (nI i.2.1))]) ?_ (2001, k + 1, tr) ⟨Nat.succ_pos k, (by dsimp only; omega), (by dsimp only; omega), rfl⟩
  rintro ⟨f, j, t⟩ ⟨h0, h1, h2, h3⟩ ih
  dsimp only at h0 h1 h2 h3 ih ⊢
  refine z_iload C dX1_add_4 rfl ?_
  refine z_aload C dX1_add_5 rfl ?_
  refine z_get (T := TX1) (N := 1) C in_X1 0 rfl rfl 0 (by decide) q26 rfl rfl dX1_add_6 ?_
  refine z_alen C 1 0 rfl rfl dX1_add_9 ?_
  refine z_cmpN_ge (tgt := 33) C dX1_add_10 (by decide) (by omega) (by decide) (fun hc => ?_) (fun hc => ?_)
  · exact z_vret C hr dX1_add_33 () trivial (by rw [← h3, ad_out hc]) rfl
  · skip
    obtain ⟨g, rfl⟩ : ∃ g, f = g + 1 := ⟨f - 1, by omega⟩
    refine z_aload C dX1_add_13 rfl ?_
    refine z_get (T := TX1) (N := 1) C in_X1 0 rfl rfl 0 (by decide) q26 rfl rfl dX1_add_14 ?_
    refine z_iload C dX1_add_17 rfl ?_
    refine z_dup2 C dX1_add_18 rfl rfl ?_
    refine z_iald C 1 0 rfl rfl hc (by decide) dX1_add_19 ?_
    refine z_iload C dX1_add_20 rfl ?_
    refine z_iadd C dX1_add_21 rfl ?_
    refine z_iast (ws' := wS a b cI (upd t j (t j + v))) C 1 0 rfl rfl hc (by decide) dX1_add_22 rfl ?_
    refine z_iload C dX1_add_23 rfl ?_
    refine z_iload C dX1_add_24 rfl ?_
    refine z_iload C dX1_add_25 rfl ?_
    refine z_ineg C dX1_add_26 rfl ?_
    refine z_iand C dX1_add_27 (lb_ok hc) ?_
    refine z_iadd C dX1_add_28 (nI_add _ _) ?_
    refine z_istore (lv' := [(0, .ref a), (2, .int v), (3, .int (nI (j + lb j)))]) C dX1_add_29 (by decide) rfl rfl ?_
    refine z_goto (tgt := 4) C dX1_add_30 (by decide) ?_
    have hl1 := lb_pos h0
    have hl2 := lb_le j
    exact ih (g, j + lb j, upd t j (t j + v)) ⟨by dsimp only; omega, by dsimp only; omega, by dsimp only; omega, (ad_in hc).symm.trans h3⟩ (by dsimp only; omega)
set_option maxHeartbeats 1000000 in
set_option maxRecDepth 100000 in
/-- Sums.before(k) -/
theorem mX1_before (l : Launch) (D : va_G) (a b : Nat) (cI : ClassId) (tr : Nat → Int32) (k : Nat) (hk : k < 2001) : ZM l yX1_before cX1_before 4 (some .int) rmZ D [(cI, .int)] [.ref a, .int (nI k)] (wS a b cI tr) (zQi D (fun _ => [(cI, .int)]) (fun (r : Int32) (_ : Unit) => r = qs tr k) (fun _ => wS a b cI tr)) := by
  refine z_met (own := "BranchLengths$Sums") rfl (by decide) (Nat.le_of_ble_eq_true rfl) ?_
  intro p e s m below meth c A C hr
  refine z_iconst (v := 0) C dX1_before_0 (by decide) ?_
  refine z_istore (lv' := [(0, .ref a), (1, .int (nI k)), (2, .int 0)]) C dX1_before_1 (by decide) rfl rfl ?_
  refine z_iload C dX1_before_2 rfl ?_
  refine z_istore (lv' := [(0, .ref a), (2, .int 0), (3, .int (nI k))]) C dX1_before_3 (by decide) rfl rfl ?_
  refine z_loop (ι := Nat × Int32) (fun i => i.1) (fun i => i.1 < 2001 ∧ i.2 + qs tr i.1 = qs tr k) (fun _ => wS a b cI tr) (fun i => [(0, .ref a), (2, .int i.2), (3, .int (nI i.1))]) ?_ (k, 0) ⟨hk, Int32.zero_add _⟩
  rintro ⟨j, x⟩ ⟨h1, h2⟩ ih
  dsimp only at h1 h2 ih ⊢
  refine z_iload C dX1_before_4 rfl ?_
  refine z_if_le (tgt := 27) C dX1_before_5 (by decide) (fun hc => ?_) (fun hc => ?_)
  · skip
    have hj : j = 0 := by
      rcases Nat.eq_zero_or_pos j with q | q
      · exact q
      · exact absurd hc (nI_nle q (by omega))
    subst hj
    refine z_iload C dX1_before_27 rfl ?_
    exact z_iret C hr dX1_before_28 () (by rw [← h2, qs_0, Int32.add_zero]) rfl rfl
  · skip
    have hj : 0 < j := by
      rcases Nat.eq_zero_or_pos j with q | q
      · subst q; exact absurd (by decide) hc
      · exact q
    refine z_iload C dX1_before_8 rfl ?_
    refine z_aload C dX1_before_9 rfl ?_
    refine z_get (T := TX1) (N := 1) C in_X1 0 rfl rfl 0 (by decide) q26 rfl rfl dX1_before_10 ?_
    refine z_iload C dX1_before_13 rfl ?_
    refine z_iald C 1 0 rfl rfl h1 (by decide) dX1_before_14 ?_
    refine z_iadd C dX1_before_15 rfl ?_
    refine z_istore (lv' := [(0, .ref a), (2, .int (x + tr j)), (3, .int (nI j))]) C dX1_before_16 (by decide) rfl rfl ?_
    refine z_iload C dX1_before_17 rfl ?_
    refine z_iload C dX1_before_18 rfl ?_
    refine z_iload C dX1_before_19 rfl ?_
    refine z_ineg C dX1_before_20 rfl ?_
    refine z_iand C dX1_before_21 (lb_ok h1) ?_
    refine z_isub C dX1_before_22 (pk_sub (lb_le j)) ?_
    refine z_istore (lv' := [(0, .ref a), (2, .int (x + tr j)), (3, .int (nI (j - lb j)))]) C dX1_before_23 (by decide) rfl rfl ?_
    refine z_goto (tgt := 4) C dX1_before_24 (by decide) ?_
    have hl1 := lb_pos hj
    have hl2 := lb_le j
    refine ih (j - lb j, x + tr j) ⟨by dsimp only; omega, ?_⟩ (by dsimp only; omega)
    rw [← h2, qs_s tr hj]
    exact Int32.add_assoc _ _ _
end
section
set_option maxHeartbeats 1000000 in
set_option maxRecDepth 100000 in
/-- Ring(): empty arrays -/
theorem mX2_init (l : Launch) (D : va_G) (a : Nat) : ZM l yX2_init cX2_init 1 none ({ frames := 1, cells := 2, slots := 4000, locals := 12 }) D [] [.ref a] [(a, .inr (2, [.null, .null, .int 0, .int 0]))] (zQv D (fun u : Nat × Nat × ClassId × ClassId => tIZ u.2.2.1 u.2.2.2) (fun _ => True) (fun u : Nat × Nat × ClassId × ClassId => wR a u.1 u.2.1 u.2.2.1 u.2.2.2 (fun _ => 0) (fun _ => 0) 0 0)) := by
  refine z_met (own := "BranchLengths$Ring") rfl (by decide) (Nat.le_of_ble_eq_true rfl) ?_
  intro p e s m below meth c A C hr
  refine z_aload C dX2_init_0 rfl ?_
  refine z_objInit C q37 dX2_init_1 (by decide) (by decide) ?_
  refine z_aload C dX2_init_4 rfl ?_
  refine z_sipush (v := nI 2000) C dX2_init_5 (by decide) ?_
  refine z_newa (atype := .int) (ty := .int) C rfl q30 (fun _ => rfl) (by decide) (by decide) (by decide) (by decide) dX2_init_8 (fun b cI C => ?_)
  refine z_putF (T := TX2) (N := 4) (ws' := [(a, .inr (2, [.ref b, .null, .int 0, .int 0])), (b, .inl (cI, 2000, .inl (fun _ => 0)))]) C in_X2 tyX2 tyX2_ok nmX2 0 rfl rfl 0 (by decide) q38 rfl rfl hr.2.2 rfl rfl rfl (Nat.le_of_ble_eq_true rfl) dX2_init_10 rfl ?_
  refine z_aload C dX2_init_13 rfl ?_
  refine z_sipush (v := nI 2000) C dX2_init_14 (by decide) ?_
  refine z_newa (atype := .boolean) (ty := .boolean) C rfl q31 (fun _ => rfl) (by decide) (by decide) (by decide) (by decide) dX2_init_17 (fun d cZ C => ?_)
  refine z_putF (T := TX2) (N := 4) (ws' := wR a b d cI cZ (fun _ => 0) (fun _ => 0) 0 0) C in_X2 tyX2 tyX2_ok nmX2 0 rfl rfl 1 (by decide) q39 rfl rfl hr.2.2 rfl rfl rfl (Nat.le_of_ble_eq_true rfl) dX2_init_19 rfl ?_
  exact z_vret C hr dX2_init_22 (b, d, cI, cZ) trivial rfl rfl
set_option maxHeartbeats 1000000 in
set_option maxRecDepth 100000 in
/-- Ring.clear() -/
theorem mX2_clear (l : Launch) (D : va_G) (a b d : Nat) (cI cZ : ClassId) (ro ii : Nat → Int32) (fr co : Int32) : ZM l yX2_clear cX2_clear 2 none rmZ D (tIZ cI cZ) [.ref a] (wR a b d cI cZ ro ii fr co) (zQv D (fun _ => tIZ cI cZ) (fun t : Nat → Int32 => ∀ i, i < 2000 → t i = 0) (fun t => wR a b d cI cZ ro t 0 0)) := by
  refine z_met (own := "BranchLengths$Ring") rfl (by decide) (Nat.le_of_ble_eq_true rfl) ?_
  intro p e s m below meth c A C hr
  refine z_aload C dX2_clear_0 rfl ?_
  refine z_iconst (v := 0) C dX2_clear_1 (by decide) ?_
  refine z_put (T := TX2) (N := 4) (ws' := wR a b d cI cZ ro ii 0 co) C in_X2 tyX2 tyX2_ok nmX2 0 rfl rfl 2 (by decide) q40 rfl rfl rfl rfl (Nat.le_of_ble_eq_true rfl) dX2_clear_2 rfl ?_
  refine z_aload C dX2_clear_5 rfl ?_
  refine z_iconst (v := 0) C dX2_clear_6 (by decide) ?_
  refine z_put (T := TX2) (N := 4) (ws' := wR a b d cI cZ ro ii 0 0) C in_X2 tyX2 tyX2_ok nmX2 0 rfl rfl 3 (by decide) q41 rfl rfl rfl rfl (Nat.le_of_ble_eq_true rfl) dX2_clear_7 rfl ?_
  refine z_iconst (v := (nI 0)) C dX2_clear_10 (by decide) ?_
  refine z_istore (lv' := [(0, .ref a), (1, .int (nI 0))]) C dX2_clear_11 (by decide) rfl rfl ?_
  refine z_loop (ι := Nat × (Nat → Int32)) (fun i => 2000 - i.1) (fun i => i.1 ≤ 2000 ∧ ∀ j, j < i.1 → i.2 j = 0) (fun i => wR a b d cI cZ ro i.2 0 0) (fun i => [(0, .ref a), (1, .int (nI i.1))]) ?_ (0, ii) ⟨Nat.zero_le _, fun j hj => absurd hj (Nat.not_lt_zero _)⟩
  rintro ⟨k, t⟩ ⟨hk, ht⟩ ih
  dsimp only at hk ht ih ⊢
  refine z_iload C dX2_clear_12 rfl ?_
  refine z_sipush (v := nI 2000) C dX2_clear_13 (by decide) ?_
  refine z_cmpN_ge (tgt := 32) C dX2_clear_16 (by decide) (by omega) (by decide) (fun hc => ?_) (fun hc => ?_)
  · exact z_vret C hr dX2_clear_32 t (fun i hi => ht i (by omega)) rfl rfl
  · skip
    refine z_aload C dX2_clear_19 rfl ?_
    refine z_get (T := TX2) (N := 4) C in_X2 0 rfl rfl 1 (by decide) q39 rfl rfl dX2_clear_20 ?_
    refine z_iload C dX2_clear_23 rfl ?_
    refine z_iconst (v := 0) C dX2_clear_24 (by decide) ?_
    refine z_zast (y := 0) (ws' := wR a b d cI cZ ro (upd t k 0) 0 0) C 2 1 rfl rfl hc (by decide) dX2_clear_25 rfl rfl ?_
    refine z_iinc (j := 1) (v := (nI (k + 1))) (lv' := [(0, .ref a), (1, .int (nI (k + 1)))]) C dX2_clear_26 rfl (nI_1 k) (by decide) rfl rfl ?_
    refine z_goto (tgt := 12) C dX2_clear_29 (by decide) ?_
    refine ih (k + 1, upd t k 0) ⟨hc, fun j hj => ?_⟩ (by dsimp only; omega)
    by_cases ej : j = k
    · rw [ej]; exact pk_us
    · exact (pk_un ej).trans (ht j (by dsimp only at hj; omega))
set_option maxHeartbeats 1000000 in
set_option maxRecDepth 100000 in
/-- Ring.put(k): k comes last, if it isn't in -/
theorem mX2_put (l : Launch) (D : va_G) (a b d : Nat) (cI cZ : ClassId) (ro ii : Nat → Int32) (fr : Nat) (Q : List Nat) (k : Nat) (hR : RRep ro ii fr Q) (hk : k < 2000) (hl : Q.length < 2000) : ZM l yX2_put cX2_put 2 none rmZ D (tIZ cI cZ) [.ref a, .int (nI k)] (wR a b d cI cZ ro ii (nI fr) (nI Q.length)) (zQv D (fun _ => tIZ cI cZ) (fun u : (Nat → Int32) × (Nat → Int32) => RRep u.1 u.2 fr (rput Q k)) (fun u => wR a b d cI cZ u.1 u.2 (nI fr) (nI (rput Q k).length))) := by
  refine z_met (own := "BranchLengths$Ring") rfl (by decide) (Nat.le_of_ble_eq_true rfl) ?_
  intro p e s m below meth c A C hr
  refine z_aload C dX2_put_0 rfl ?_
  refine z_get (T := TX2) (N := 4) C in_X2 0 rfl rfl 1 (by decide) q39 rfl rfl dX2_put_1 ?_
  refine z_iload C dX2_put_4 rfl ?_
  refine z_zald C 2 1 rfl rfl hk (by decide) dX2_put_5 ?_
  have hii := hR.2.2.2.2 k hk
  refine z_if_eq (tgt := 10) C dX2_put_6 (by decide) (fun hc => ?_) (fun hc => ?_)
  · skip
    have hn : k ∉ Q := fun h => by
      rw [if_pos h] at hii
      rw [hii] at hc
      exact absurd hc (by decide)
    have hrp : rput Q k = Q ++ [k] := if_neg hn
    have hfr : fr < 2000 := hR.1
    refine z_aload C dX2_put_10 rfl ?_
    refine z_get (T := TX2) (N := 4) C in_X2 0 rfl rfl 1 (by decide) q39 rfl rfl dX2_put_11 ?_
    refine z_iload C dX2_put_14 rfl ?_
    refine z_iconst (v := 1) C dX2_put_15 (by decide) ?_
    refine z_zast (y := 1) (ws' := wR a b d cI cZ ro (upd ii k 1) (nI fr) (nI Q.length)) C 2 1 rfl rfl hk (by decide) dX2_put_16 rfl rfl ?_
    refine z_aload C dX2_put_17 rfl ?_
    refine z_get (T := TX2) (N := 4) C in_X2 0 rfl rfl 0 (by decide) q38 rfl rfl dX2_put_18 ?_
    refine z_aload C dX2_put_21 rfl ?_
    refine z_get (T := TX2) (N := 4) C in_X2 0 rfl rfl 2 (by decide) q40 rfl rfl dX2_put_22 ?_
    refine z_aload C dX2_put_25 rfl ?_
    refine z_get (T := TX2) (N := 4) C in_X2 0 rfl rfl 3 (by decide) q41 rfl rfl dX2_put_26 ?_
    refine z_iadd C dX2_put_29 (nI_add _ _) ?_
    refine z_sipush (v := nI 2000) C dX2_put_30 (by decide) ?_
    refine z_irem C dX2_put_33 (by decide) (pk_rem (by omega) (by decide) (by decide)) ?_
    refine z_iload C dX2_put_34 rfl ?_
    refine z_iast (ws' := wR a b d cI cZ (upd ro ((fr + Q.length) % 2000) (nI k)) (upd ii k 1) (nI fr) (nI Q.length)) C 1 0 rfl rfl (Nat.mod_lt _ (by decide)) (by decide) dX2_put_35 rfl ?_
    refine z_aload C dX2_put_36 rfl ?_
    refine z_dup C dX2_put_37 rfl ?_
    refine z_get (T := TX2) (N := 4) C in_X2 0 rfl rfl 3 (by decide) q41 rfl rfl dX2_put_38 ?_
    refine z_iconst (v := 1) C dX2_put_41 (by decide) ?_
    refine z_iadd C dX2_put_42 (nI_1 _) ?_
    refine z_put (T := TX2) (N := 4) (ws' := wR a b d cI cZ (upd ro ((fr + Q.length) % 2000) (nI k)) (upd ii k 1) (nI fr) (nI (Q.length + 1))) C in_X2 tyX2 tyX2_ok nmX2 0 rfl rfl 3 (by decide) q41 rfl rfl rfl rfl (Nat.le_of_ble_eq_true rfl) dX2_put_43 rfl ?_
    refine z_vret C hr dX2_put_46 (upd ro ((fr + Q.length) % 2000) (nI k), upd ii k 1) ?_ ?_ rfl
    · rw [hrp]; exact RRep_put hR hk hn hl
    · rw [hrp, List.length_append]; rfl
  · skip
    have hn : k ∈ Q := Classical.byContradiction fun h => by
      rw [if_neg h] at hii
      exact hc hii
    have hrp : rput Q k = Q := if_pos hn
    refine z_vret C hr dX2_put_9 (ro, ii) ?_ ?_ rfl
    · rw [hrp]; exact hR
    · rw [hrp]
set_option maxHeartbeats 1000000 in
set_option maxRecDepth 100000 in
/-- Ring.isEmpty() -/
theorem mX2_isEmpty (l : Launch) (D : va_G) (a b d : Nat) (cI cZ : ClassId) (ro ii : Nat → Int32) (fr : Int32) (n : Nat) (hn : n < 2 ^ 31) : ZM l yX2_isEmpty cX2_isEmpty 1 (some .boolean) rmZ D (tIZ cI cZ) [.ref a] (wR a b d cI cZ ro ii fr (nI n)) (zQi D (fun _ => tIZ cI cZ) (fun (r : Int32) (_ : Unit) => (r = 1 ∧ n = 0) ∨ (r = 0 ∧ 0 < n)) (fun _ => wR a b d cI cZ ro ii fr (nI n))) := by
  refine z_met (own := "BranchLengths$Ring") rfl (by decide) (Nat.le_of_ble_eq_true rfl) ?_
  intro p e s m below meth c A C hr
  refine z_aload C dX2_isEmpty_0 rfl ?_
  refine z_get (T := TX2) (N := 4) C in_X2 0 rfl rfl 3 (by decide) q41 rfl rfl dX2_isEmpty_1 ?_
  refine z_if_ne (tgt := 11) C dX2_isEmpty_4 (by decide) (fun hc => ?_) (fun hc => ?_)
  · skip
    refine z_iconst (v := 0) C dX2_isEmpty_11 (by decide) ?_
    refine z_zret C hr dX2_isEmpty_12 rfl () (Or.inr ⟨rfl, ?_⟩) rfl rfl
    rcases Nat.eq_zero_or_pos n with q | q
    · subst q; exact absurd nI_0 hc
    · exact q
  · skip
    refine z_iconst (v := 1) C dX2_isEmpty_7 (by decide) ?_
    refine z_goto (tgt := 12) C dX2_isEmpty_8 (by decide) ?_
    refine z_zret C hr dX2_isEmpty_12 rfl () (Or.inl ⟨rfl, ?_⟩) rfl rfl
    rcases Nat.eq_zero_or_pos n with q | q
    · exact q
    · exact absurd hc (nI_ne0 q hn)
set_option maxHeartbeats 1000000 in
set_option maxRecDepth 100000 in
/-- Ring.take(): the first goes -/
theorem mX2_take (l : Launch) (D : va_G) (a b d : Nat) (cI cZ : ClassId) (ro ii : Nat → Int32) (fr : Nat) (k : Nat) (Q : List Nat) (hR : RRep ro ii fr (k :: Q)) : ZM l yX2_take cX2_take 2 (some .int) rmZ D (tIZ cI cZ) [.ref a] (wR a b d cI cZ ro ii (nI fr) (nI (Q.length + 1))) (zQi D (fun _ => tIZ cI cZ) (fun (r : Int32) (_ : Unit) => r = nI k) (fun _ => wR a b d cI cZ ro (upd ii k 0) (nI ((fr + 1) % 2000)) (nI Q.length))) := by
  refine z_met (own := "BranchLengths$Ring") rfl (by decide) (Nat.le_of_ble_eq_true rfl) ?_
  intro p e s m below meth c A C hr
  obtain ⟨e1, hk, -⟩ := RRep_take hR
  have hfr : fr < 2000 := hR.1
  refine z_aload C dX2_take_0 rfl ?_
  refine z_get (T := TX2) (N := 4) C in_X2 0 rfl rfl 0 (by decide) q38 rfl rfl dX2_take_1 ?_
  refine z_aload C dX2_take_4 rfl ?_
  refine z_get (T := TX2) (N := 4) C in_X2 0 rfl rfl 2 (by decide) q40 rfl rfl dX2_take_5 ?_
  refine z_iald C 1 0 rfl rfl hfr (by decide) dX2_take_8 ?_
  refine z_top e1 ?_
  refine z_istore (lv' := [(0, .ref a), (1, .int (nI k))]) C dX2_take_9 (by decide) rfl rfl ?_
  refine z_aload C dX2_take_10 rfl ?_
  refine z_aload C dX2_take_11 rfl ?_
  refine z_get (T := TX2) (N := 4) C in_X2 0 rfl rfl 2 (by decide) q40 rfl rfl dX2_take_12 ?_
  refine z_iconst (v := 1) C dX2_take_15 (by decide) ?_
  refine z_iadd C dX2_take_16 (nI_1 _) ?_
  refine z_sipush (v := nI 2000) C dX2_take_17 (by decide) ?_
  refine z_irem C dX2_take_20 (by decide) (pk_rem (by omega) (by decide) (by decide)) ?_
  refine z_put (T := TX2) (N := 4) (ws' := wR a b d cI cZ ro ii (nI ((fr + 1) % 2000)) (nI (Q.length + 1))) C in_X2 tyX2 tyX2_ok nmX2 0 rfl rfl 2 (by decide) q40 rfl rfl rfl rfl (Nat.le_of_ble_eq_true rfl) dX2_take_21 rfl ?_
  refine z_aload C dX2_take_24 rfl ?_
  refine z_dup C dX2_take_25 rfl ?_
  refine z_get (T := TX2) (N := 4) C in_X2 0 rfl rfl 3 (by decide) q41 rfl rfl dX2_take_26 ?_
  refine z_iconst (v := 1) C dX2_take_29 (by decide) ?_
  refine z_isub C dX2_take_30 (nI_pred _) ?_
  refine z_put (T := TX2) (N := 4) (ws' := wR a b d cI cZ ro ii (nI ((fr + 1) % 2000)) (nI Q.length)) C in_X2 tyX2 tyX2_ok nmX2 0 rfl rfl 3 (by decide) q41 rfl rfl rfl rfl (Nat.le_of_ble_eq_true rfl) dX2_take_31 rfl ?_
  refine z_aload C dX2_take_34 rfl ?_
  refine z_get (T := TX2) (N := 4) C in_X2 0 rfl rfl 1 (by decide) q39 rfl rfl dX2_take_35 ?_
  refine z_iload C dX2_take_38 rfl ?_
  refine z_iconst (v := 0) C dX2_take_39 (by decide) ?_
  refine z_zast (y := 0) (ws' := wR a b d cI cZ ro (upd ii k 0) (nI ((fr + 1) % 2000)) (nI Q.length)) C 2 1 rfl rfl hk (by decide) dX2_take_40 rfl rfl ?_
  refine z_iload C dX2_take_41 rfl ?_
  exact z_iret C hr dX2_take_42 () rfl rfl rfl
end
section
set_option maxHeartbeats 1000000 in
set_option maxRecDepth 100000 in
/-- item(w, x) -/
theorem mX0_item (l : Launch) (D : va_G) (h : Nat → Nat) (cI cZ : ClassId) (kd nb il ma tr ro ii : Nat → Int32) (mk lo le re la fr co : Int32) (n : Nat) (w x : Int32) (hn : n < 2000) : ZM l yX0_item cX0_item 3 (some .int) rmZ D (tIZ cI cZ) [.ref (h 0), .int w, .int x] (wX h cI cZ (kd, nb, il, ma, tr, ro, ii, nI n, mk, lo, le, re, la, fr, co)) (zQi D (fun _ => tIZ cI cZ) (fun (r : Int32) (_ : Unit) => r = nI n) (fun _ => wX h cI cZ (upd kd n w, upd nb n x, il, ma, tr, ro, ii, nI (n + 1), mk, lo, le, re, 0, fr, co))) := by
  refine z_met (own := "BranchLengths") rfl (by decide) (Nat.le_of_ble_eq_true rfl) ?_
  intro p e s m below meth c A C hr
  refine z_aload C dX0_item_0 rfl ?_
  refine z_get (T := TX0) (N := 12) C in_X0 0 rfl rfl 0 (by decide) q51 rfl rfl dX0_item_1 ?_
  refine z_aload C dX0_item_4 rfl ?_
  refine z_get (T := TX0) (N := 12) C in_X0 0 rfl rfl 6 (by decide) q57 rfl rfl dX0_item_5 ?_
  refine z_iload C dX0_item_8 rfl ?_
  refine z_iast (ws' := wX h cI cZ (upd kd n w, nb, il, ma, tr, ro, ii, nI n, mk, lo, le, re, la, fr, co)) C 1 0 rfl rfl hn (by decide) dX0_item_9 rfl ?_
  refine z_aload C dX0_item_10 rfl ?_
  refine z_get (T := TX0) (N := 12) C in_X0 0 rfl rfl 1 (by decide) q52 rfl rfl dX0_item_11 ?_
  refine z_aload C dX0_item_14 rfl ?_
  refine z_get (T := TX0) (N := 12) C in_X0 0 rfl rfl 6 (by decide) q57 rfl rfl dX0_item_15 ?_
  refine z_iload C dX0_item_18 rfl ?_
  refine z_iast (ws' := wX h cI cZ (upd kd n w, upd nb n x, il, ma, tr, ro, ii, nI n, mk, lo, le, re, la, fr, co)) C 2 0 rfl rfl hn (by decide) dX0_item_19 rfl ?_
  refine z_aload C dX0_item_20 rfl ?_
  refine z_iconst (v := 0) C dX0_item_21 (by decide) ?_
  refine z_put (T := TX0) (N := 12) (ws' := wX h cI cZ (upd kd n w, upd nb n x, il, ma, tr, ro, ii, nI n, mk, lo, le, re, 0, fr, co)) C in_X0 tyX0 tyX0_ok nmX0 0 rfl rfl 11 (by decide) q62 rfl rfl rfl rfl (Nat.le_of_ble_eq_true rfl) dX0_item_22 rfl ?_
  refine z_aload C dX0_item_25 rfl ?_
  refine z_dup C dX0_item_26 rfl ?_
  refine z_get (T := TX0) (N := 12) C in_X0 0 rfl rfl 6 (by decide) q57 rfl rfl dX0_item_27 ?_
  refine z_iconst (v := 1) C dX0_item_30 (by decide) ?_
  refine z_iadd C dX0_item_31 (nI_1 _) ?_
  refine z_put (T := TX0) (N := 12) (ws' := wX h cI cZ (upd kd n w, upd nb n x, il, ma, tr, ro, ii, nI (n + 1), mk, lo, le, re, 0, fr, co)) C in_X0 tyX0 tyX0_ok nmX0 0 rfl rfl 6 (by decide) q57 rfl rfl rfl rfl (Nat.le_of_ble_eq_true rfl) dX0_item_32 rfl ?_
  refine z_aload C dX0_item_35 rfl ?_
  refine z_get (T := TX0) (N := 12) C in_X0 0 rfl rfl 6 (by decide) q57 rfl rfl dX0_item_36 ?_
  refine z_iconst (v := 1) C dX0_item_39 (by decide) ?_
  refine z_isub C dX0_item_40 (nI_pred _) ?_
  exact z_iret C hr dX0_item_41 () rfl rfl rfl
set_option maxHeartbeats 1000000 in
set_option maxRecDepth 100000 in
/-- stretch(x) -/
theorem mX0_stretch (l : Launch) (D : va_G) (h : Nat → Nat) (cI cZ : ClassId) (kd nb il ma tr ro ii : Nat → Int32) (mk lo le re la fr co : Int32) (n : Nat) (x : Int32) (hn : n < 2000) : ZM l yX0_stretch cX0_stretch 2 (some .int) ({ frames := 1, cells := 0, slots := 0, locals := 22 }) D (tIZ cI cZ) [.ref (h 0), .int x] (wX h cI cZ (kd, nb, il, ma, tr, ro, ii, nI n, mk, lo, le, re, la, fr, co)) (zQi D (fun _ => tIZ cI cZ) (fun (r : Int32) (u : XS) => ((x < 0 ∨ nI 4000 < x) ∧ r = -1 ∧ u = (kd, nb, il, ma, tr, ro, ii, nI n, mk, lo, le, re, la, fr, co)) ∨ (¬ (x < 0 ∨ nI 4000 < x) ∧ r = nI n ∧ u = (upd kd n 0, upd nb n x, il, ma, tr, ro, ii, nI (n + 1), mk, lo, le, re, 0, fr, co))) (fun u => wX h cI cZ u)) := by
  refine z_met (own := "BranchLengths") rfl (by decide) (Nat.le_of_ble_eq_true rfl) ?_
  intro p e s m below meth c A C hr
  refine z_iload C dX0_stretch_0 rfl ?_
  refine z_if_lt (tgt := 21) C dX0_stretch_1 (by decide) (fun hc1 => ?_) (fun hc1 => ?_)
  · skip
    refine z_iconst (v := (-1)) C dX0_stretch_21 (by decide) ?_
    refine z_goto (tgt := 31) C dX0_stretch_22 (by decide) ?_
    exact z_iret C hr dX0_stretch_31 (kd, nb, il, ma, tr, ro, ii, nI n, mk, lo, le, re, la, fr, co) (Or.inl ⟨Or.inl hc1, rfl, rfl⟩) rfl rfl
  · skip
    refine z_iload C dX0_stretch_4 rfl ?_
    refine z_sipush (v := nI 4000) C dX0_stretch_5 (by decide) ?_
    refine z_cmp_gt (tgt := 21) C dX0_stretch_8 (by decide) (fun hc2 => ?_) (fun hc2 => ?_)
    · skip
      refine z_iconst (v := (-1)) C dX0_stretch_21 (by decide) ?_
      refine z_goto (tgt := 31) C dX0_stretch_22 (by decide) ?_
      exact z_iret C hr dX0_stretch_31 (kd, nb, il, ma, tr, ro, ii, nI n, mk, lo, le, re, la, fr, co) (Or.inl ⟨Or.inr hc2, rfl, rfl⟩) rfl rfl
    · skip
      refine z_aload C dX0_stretch_11 rfl ?_
      refine z_get (T := TX0) (N := 12) C in_X0 0 rfl rfl 6 (by decide) q57 rfl rfl dX0_stretch_12 ?_
      refine z_sipush (v := nI 2000) C dX0_stretch_15 (by decide) ?_
      refine z_cmpN_ne (tgt := 25) C dX0_stretch_18 (by decide) (by omega) (by decide) (fun hc3 => ?_) (fun hc3 => ?_)
      · skip
        refine z_aload C dX0_stretch_25 rfl ?_
        refine z_iconst (v := 0) C dX0_stretch_26 (by decide) ?_
        refine z_iload C dX0_stretch_27 rfl ?_
        refine z_calli (st := []) (q := (RX0, TX0, 12)) (ci := 0) (q0 := 0) C (mX0_item l D h cI cZ kd nb il ma tr ro ii mk lo le re la fr co n 0 x hn) 2 rfl (lw_V q92 q94 qs0 q8 q95) (by decide +kernel) (by decide) rfl rfl (Nat.le_of_ble_eq_true rfl) dX0_stretch_28 ⟨rfl, rfl⟩ (by decide) [0, 1, 2, 3, 4, 5, 6, 7, 8, 9] [] [0, 1, 2, 3, 4, 5, 6, 7, 8, 9] [0, 1] rfl rfl rfl rfl (by decide) rfl (fun _ => wX h cI cZ (upd kd n 0, upd nb n x, il, ma, tr, ro, ii, nI (n + 1), mk, lo, le, re, 0, fr, co)) (fun _ => rfl) rfl (fun r _ er => ?_)
        exact z_iret C hr dX0_stretch_31 (upd kd n 0, upd nb n x, il, ma, tr, ro, ii, nI (n + 1), mk, lo, le, re, 0, fr, co) (Or.inr ⟨fun q => q.elim hc1 hc2, er, rfl⟩) rfl rfl
      · exact absurd hc3 (by omega)
set_option maxHeartbeats 1000000 in
set_option maxRecDepth 100000 in
/-- mark() -/
theorem mX0_mark (l : Launch) (D : va_G) (h : Nat → Nat) (cI cZ : ClassId) (kd nb il ma tr ro ii : Nat → Int32) (lo le re la fr co : Int32) (n mk : Nat) (hn : n < 2000) (hm : mk < 2000) : ZM l yX0_mark cX0_mark 1 (some .int) ({ frames := 1, cells := 0, slots := 0, locals := 22 }) D (tIZ cI cZ) [.ref (h 0)] (wX h cI cZ (kd, nb, il, ma, tr, ro, ii, nI n, nI mk, lo, le, re, la, fr, co)) (zQi D (fun _ => tIZ cI cZ) (fun (r : Int32) (_ : Unit) => r = nI n) (fun _ => wX h cI cZ (upd kd n 1, upd nb n 0, il, upd ma mk (nI n), tr, ro, ii, nI (n + 1), nI (mk + 1), lo, le, re, 0, fr, co))) := by
  refine z_met (own := "BranchLengths") rfl (by decide) (Nat.le_of_ble_eq_true rfl) ?_
  intro p e s m below meth c A C hr
  refine z_aload C dX0_mark_0 rfl ?_
  refine z_get (T := TX0) (N := 12) C in_X0 0 rfl rfl 6 (by decide) q57 rfl rfl dX0_mark_1 ?_
  refine z_sipush (v := nI 2000) C dX0_mark_4 (by decide) ?_
  refine z_cmpN_ne (tgt := 12) C dX0_mark_7 (by decide) (by omega) (by decide) (fun hc => ?_) (fun hc => ?_)
  · skip
    refine z_aload C dX0_mark_12 rfl ?_
    refine z_get (T := TX0) (N := 12) C in_X0 0 rfl rfl 3 (by decide) q54 rfl rfl dX0_mark_13 ?_
    refine z_aload C dX0_mark_16 rfl ?_
    refine z_get (T := TX0) (N := 12) C in_X0 0 rfl rfl 7 (by decide) q58 rfl rfl dX0_mark_17 ?_
    refine z_aload C dX0_mark_20 rfl ?_
    refine z_get (T := TX0) (N := 12) C in_X0 0 rfl rfl 6 (by decide) q57 rfl rfl dX0_mark_21 ?_
    refine z_iast (ws' := wX h cI cZ (kd, nb, il, upd ma mk (nI n), tr, ro, ii, nI n, nI mk, lo, le, re, la, fr, co)) C 4 0 rfl rfl hm (by decide) dX0_mark_24 rfl ?_
    refine z_aload C dX0_mark_25 rfl ?_
    refine z_dup C dX0_mark_26 rfl ?_
    refine z_get (T := TX0) (N := 12) C in_X0 0 rfl rfl 7 (by decide) q58 rfl rfl dX0_mark_27 ?_
    refine z_iconst (v := 1) C dX0_mark_30 (by decide) ?_
    refine z_iadd C dX0_mark_31 (nI_1 _) ?_
    refine z_put (T := TX0) (N := 12) (ws' := wX h cI cZ (kd, nb, il, upd ma mk (nI n), tr, ro, ii, nI n, nI (mk + 1), lo, le, re, la, fr, co)) C in_X0 tyX0 tyX0_ok nmX0 0 rfl rfl 7 (by decide) q58 rfl rfl rfl rfl (Nat.le_of_ble_eq_true rfl) dX0_mark_32 rfl ?_
    refine z_aload C dX0_mark_35 rfl ?_
    refine z_iconst (v := 1) C dX0_mark_36 (by decide) ?_
    refine z_iconst (v := 0) C dX0_mark_37 (by decide) ?_
    refine z_calli (st := []) (q := (RX0, TX0, 12)) (ci := 0) (q0 := 0) C (mX0_item l D h cI cZ kd nb il (upd ma mk (nI n)) tr ro ii (nI (mk + 1)) lo le re la fr co n 1 0 hn) 2 rfl (lw_V q92 q94 qs0 q8 q95) (by decide +kernel) (by decide) rfl rfl (Nat.le_of_ble_eq_true rfl) dX0_mark_38 ⟨rfl, rfl⟩ (by decide) [0, 1, 2, 3, 4, 5, 6, 7, 8, 9] [] [0, 1, 2, 3, 4, 5, 6, 7, 8, 9] [0, 1] rfl rfl rfl rfl (by decide) rfl (fun _ => wX h cI cZ (upd kd n 1, upd nb n 0, il, (upd ma mk (nI n)), tr, ro, ii, nI (n + 1), (nI (mk + 1)), lo, le, re, 0, fr, co)) (fun _ => rfl) rfl (fun r _ er => ?_)
    exact z_iret C hr dX0_mark_41 () er rfl rfl
  · exact absurd hc (by omega)
set_option maxHeartbeats 1000000 in
set_option maxRecDepth 100000 in
/-- branch(x) -/
theorem mX0_branch (l : Launch) (D : va_G) (h : Nat → Nat) (cI cZ : ClassId) (kd nb il ma tr ro ii : Nat → Int32) (mk lo le re la fr co : Int32) (n : Nat) (x : Int32) (hn : n < 2000) : ZM l yX0_branch cX0_branch 2 (some .int) ({ frames := 1, cells := 0, slots := 0, locals := 22 }) D (tIZ cI cZ) [.ref (h 0), .int x] (wX h cI cZ (kd, nb, il, ma, tr, ro, ii, nI n, mk, lo, le, re, la, fr, co)) (zQi D (fun _ => tIZ cI cZ) (fun (r : Int32) (u : XS) => (x < 0 ∧ r = -1 ∧ u = (kd, nb, il, ma, tr, ro, ii, nI n, mk, lo, le, re, la, fr, co)) ∨ (¬ x < 0 ∧ r = nI n ∧ u = (upd kd n 2, upd nb n x, il, ma, tr, ro, ii, nI (n + 1), mk, lo, le, re, 0, fr, co))) (fun u => wX h cI cZ u)) := by
  refine z_met (own := "BranchLengths") rfl (by decide) (Nat.le_of_ble_eq_true rfl) ?_
  intro p e s m below meth c A C hr
  refine z_iload C dX0_branch_0 rfl ?_
  refine z_if_lt (tgt := 14) C dX0_branch_1 (by decide) (fun hc1 => ?_) (fun hc1 => ?_)
  · skip
    refine z_iconst (v := (-1)) C dX0_branch_14 (by decide) ?_
    refine z_goto (tgt := 24) C dX0_branch_15 (by decide) ?_
    exact z_iret C hr dX0_branch_24 (kd, nb, il, ma, tr, ro, ii, nI n, mk, lo, le, re, la, fr, co) (Or.inl ⟨hc1, rfl, rfl⟩) rfl rfl
  · skip
    refine z_aload C dX0_branch_4 rfl ?_
    refine z_get (T := TX0) (N := 12) C in_X0 0 rfl rfl 6 (by decide) q57 rfl rfl dX0_branch_5 ?_
    refine z_sipush (v := nI 2000) C dX0_branch_8 (by decide) ?_
    refine z_cmpN_ne (tgt := 18) C dX0_branch_11 (by decide) (by omega) (by decide) (fun hc3 => ?_) (fun hc3 => ?_)
    · skip
      refine z_aload C dX0_branch_18 rfl ?_
      refine z_iconst (v := 2) C dX0_branch_19 (by decide) ?_
      refine z_iload C dX0_branch_20 rfl ?_
      refine z_calli (st := []) (q := (RX0, TX0, 12)) (ci := 0) (q0 := 0) C (mX0_item l D h cI cZ kd nb il ma tr ro ii mk lo le re la fr co n 2 x hn) 2 rfl (lw_V q92 q94 qs0 q8 q95) (by decide +kernel) (by decide) rfl rfl (Nat.le_of_ble_eq_true rfl) dX0_branch_21 ⟨rfl, rfl⟩ (by decide) [0, 1, 2, 3, 4, 5, 6, 7, 8, 9] [] [0, 1, 2, 3, 4, 5, 6, 7, 8, 9] [0, 1] rfl rfl rfl rfl (by decide) rfl (fun _ => wX h cI cZ (upd kd n 2, upd nb n x, il, ma, tr, ro, ii, nI (n + 1), mk, lo, le, re, 0, fr, co)) (fun _ => rfl) rfl (fun r _ er => ?_)
      exact z_iret C hr dX0_branch_24 (upd kd n 2, upd nb n x, il, ma, tr, ro, ii, nI (n + 1), mk, lo, le, re, 0, fr, co) (Or.inr ⟨hc1, er, rfl⟩) rfl rfl
    · exact absurd hc3 (by omega)
set_option maxHeartbeats 1000000 in
set_option maxRecDepth 100000 in
/-- reach(x) -/
theorem mX0_reach (l : Launch) (D : va_G) (h : Nat → Nat) (cI cZ : ClassId) (kd nb il ma tr ro ii : Nat → Int32) (it mk lo le re la fr co : Int32) (x : Int32) : ZM l yX0_reach cX0_reach 2 (some .boolean) rmZ D (tIZ cI cZ) [.ref (h 0), .int x] (wX h cI cZ (kd, nb, il, ma, tr, ro, ii, it, mk, lo, le, re, la, fr, co)) (zQi D (fun _ => tIZ cI cZ) (fun (r : Int32) (u : XS) => ((x < 1 ∨ 100000 < x) ∧ r = 0 ∧ u = (kd, nb, il, ma, tr, ro, ii, it, mk, lo, le, re, la, fr, co)) ∨ (¬ (x < 1 ∨ 100000 < x) ∧ r = 1 ∧ u = (kd, nb, il, ma, tr, ro, ii, it, mk, lo, le, x, 0, fr, co))) (fun u => wX h cI cZ u)) := by
  refine z_met (own := "BranchLengths") rfl (by decide) (Nat.le_of_ble_eq_true rfl) ?_
  intro p e s m below meth c A C hr
  refine z_iload C dX0_reach_0 rfl ?_
  refine z_iconst (v := 1) C dX0_reach_1 (by decide) ?_
  refine z_cmp_lt (tgt := 11) C dX0_reach_2 (by decide) (fun hc1 => ?_) (fun hc1 => ?_)
  · skip
    refine z_iconst (v := 0) C dX0_reach_11 (by decide) ?_
    exact z_zret C hr dX0_reach_12 rfl (kd, nb, il, ma, tr, ro, ii, it, mk, lo, le, re, la, fr, co) (Or.inl ⟨Or.inl hc1, rfl, rfl⟩) rfl rfl
  · skip
    refine z_iload C dX0_reach_5 rfl ?_
    refine z_ldc C q108 dX0_reach_6 ?_
    refine z_cmp_le (tgt := 13) C dX0_reach_8 (by decide) (fun hc2 => ?_) (fun hc2 => ?_)
    · skip
      refine z_aload C dX0_reach_13 rfl ?_
      refine z_iload C dX0_reach_14 rfl ?_
      refine z_put (T := TX0) (N := 12) (ws' := wX h cI cZ (kd, nb, il, ma, tr, ro, ii, it, mk, lo, le, x, la, fr, co)) C in_X0 tyX0 tyX0_ok nmX0 0 rfl rfl 10 (by decide) q61 rfl rfl rfl rfl (Nat.le_of_ble_eq_true rfl) dX0_reach_15 rfl ?_
      refine z_aload C dX0_reach_18 rfl ?_
      refine z_iconst (v := 0) C dX0_reach_19 (by decide) ?_
      refine z_put (T := TX0) (N := 12) (ws' := wX h cI cZ (kd, nb, il, ma, tr, ro, ii, it, mk, lo, le, x, 0, fr, co)) C in_X0 tyX0 tyX0_ok nmX0 0 rfl rfl 11 (by decide) q62 rfl rfl rfl rfl (Nat.le_of_ble_eq_true rfl) dX0_reach_20 rfl ?_
      refine z_iconst (v := 1) C dX0_reach_23 (by decide) ?_
      exact z_zret C hr dX0_reach_24 rfl (kd, nb, il, ma, tr, ro, ii, it, mk, lo, le, x, 0, fr, co) (Or.inr ⟨fun q => q.elim hc1 (Int32.not_lt.mpr hc2), rfl, rfl⟩) rfl rfl
    · skip
      refine z_iconst (v := 0) C dX0_reach_11 (by decide) ?_
      exact z_zret C hr dX0_reach_12 rfl (kd, nb, il, ma, tr, ro, ii, it, mk, lo, le, re, la, fr, co) (Or.inl ⟨Or.inr (Int32.not_le.mp hc2), rfl, rfl⟩) rfl rfl
set_option maxHeartbeats 1000000 in
set_option maxRecDepth 100000 in
theorem mX0_least (l : Launch) (D : va_G) (h : Nat → Nat) (cI cZ : ClassId) (kd nb il ma tr ro ii : Nat → Int32) (it mk lo le re la fr co : Int32) : ZM l yX0_least cX0_least 1 (some .int) rmZ D (tIZ cI cZ) [.ref (h 0)] (wX h cI cZ (kd, nb, il, ma, tr, ro, ii, it, mk, lo, le, re, la, fr, co)) (zQi D (fun _ => tIZ cI cZ) (fun (r : Int32) (_ : Unit) => r = le) (fun _ => wX h cI cZ (kd, nb, il, ma, tr, ro, ii, it, mk, lo, le, re, la, fr, co))) := by
  refine z_met (own := "BranchLengths") rfl (by decide) (Nat.le_of_ble_eq_true rfl) ?_
  intro p e s m below meth c A C hr
  refine z_aload C dX0_least_0 rfl ?_
  refine z_get (T := TX0) (N := 12) C in_X0 0 rfl rfl 9 (by decide) q60 rfl rfl dX0_least_1 ?_
  exact z_iret C hr dX0_least_4 () rfl rfl rfl
set_option maxHeartbeats 1000000 in
set_option maxRecDepth 100000 in
theorem mX0_items (l : Launch) (D : va_G) (h : Nat → Nat) (cI cZ : ClassId) (kd nb il ma tr ro ii : Nat → Int32) (it mk lo le re la fr co : Int32) : ZM l yX0_items cX0_items 1 (some .int) rmZ D (tIZ cI cZ) [.ref (h 0)] (wX h cI cZ (kd, nb, il, ma, tr, ro, ii, it, mk, lo, le, re, la, fr, co)) (zQi D (fun _ => tIZ cI cZ) (fun (r : Int32) (_ : Unit) => r = it) (fun _ => wX h cI cZ (kd, nb, il, ma, tr, ro, ii, it, mk, lo, le, re, la, fr, co))) := by
  refine z_met (own := "BranchLengths") rfl (by decide) (Nat.le_of_ble_eq_true rfl) ?_
  intro p e s m below meth c A C hr
  refine z_aload C dX0_items_0 rfl ?_
  refine z_get (T := TX0) (N := 12) C in_X0 0 rfl rfl 6 (by decide) q57 rfl rfl dX0_items_1 ?_
  exact z_iret C hr dX0_items_4 () rfl rfl rfl
set_option maxHeartbeats 1000000 in
set_option maxRecDepth 100000 in
theorem mX0_marks (l : Launch) (D : va_G) (h : Nat → Nat) (cI cZ : ClassId) (kd nb il ma tr ro ii : Nat → Int32) (it mk lo le re la fr co : Int32) : ZM l yX0_marks cX0_marks 1 (some .int) rmZ D (tIZ cI cZ) [.ref (h 0)] (wX h cI cZ (kd, nb, il, ma, tr, ro, ii, it, mk, lo, le, re, la, fr, co)) (zQi D (fun _ => tIZ cI cZ) (fun (r : Int32) (_ : Unit) => r = mk) (fun _ => wX h cI cZ (kd, nb, il, ma, tr, ro, ii, it, mk, lo, le, re, la, fr, co))) := by
  refine z_met (own := "BranchLengths") rfl (by decide) (Nat.le_of_ble_eq_true rfl) ?_
  intro p e s m below meth c A C hr
  refine z_aload C dX0_marks_0 rfl ?_
  refine z_get (T := TX0) (N := 12) C in_X0 0 rfl rfl 7 (by decide) q58 rfl rfl dX0_marks_1 ?_
  exact z_iret C hr dX0_marks_4 () rfl rfl rfl
set_option maxHeartbeats 1000000 in
set_option maxRecDepth 100000 in
theorem mX0_longs (l : Launch) (D : va_G) (h : Nat → Nat) (cI cZ : ClassId) (kd nb il ma tr ro ii : Nat → Int32) (it mk lo le re la fr co : Int32) : ZM l yX0_longs cX0_longs 1 (some .int) rmZ D (tIZ cI cZ) [.ref (h 0)] (wX h cI cZ (kd, nb, il, ma, tr, ro, ii, it, mk, lo, le, re, la, fr, co)) (zQi D (fun _ => tIZ cI cZ) (fun (r : Int32) (_ : Unit) => (la = 0 ∧ r = -1) ∨ (¬ la = 0 ∧ r = lo)) (fun _ => wX h cI cZ (kd, nb, il, ma, tr, ro, ii, it, mk, lo, le, re, la, fr, co))) := by
  refine z_met (own := "BranchLengths") rfl (by decide) (Nat.le_of_ble_eq_true rfl) ?_
  intro p e s m below meth c A C hr
  refine z_aload C dX0_longs_0 rfl ?_
  refine z_get (T := TX0) (N := 12) C in_X0 0 rfl rfl 11 (by decide) q62 rfl rfl dX0_longs_1 ?_
  refine z_if_eq (tgt := 14) C dX0_longs_4 (by decide) (fun hc => ?_) (fun hc => ?_)
  · skip
    refine z_iconst (v := (-1)) C dX0_longs_14 (by decide) ?_
    exact z_iret C hr dX0_longs_15 () (Or.inl ⟨hc, rfl⟩) rfl rfl
  · skip
    refine z_aload C dX0_longs_7 rfl ?_
    refine z_get (T := TX0) (N := 12) C in_X0 0 rfl rfl 8 (by decide) q59 rfl rfl dX0_longs_8 ?_
    refine z_goto (tgt := 15) C dX0_longs_11 (by decide) ?_
    exact z_iret C hr dX0_longs_15 () (Or.inr ⟨hc, rfl⟩) rfl rfl
set_option maxHeartbeats 1000000 in
set_option maxRecDepth 100000 in
theorem mX0_clear (l : Launch) (D : va_G) (h : Nat → Nat) (cI cZ : ClassId) (kd nb il ma tr ro ii : Nat → Int32) (it mk lo le re la fr co : Int32) : ZM l yX0_clear cX0_clear 1 none rmZ D (tIZ cI cZ) [.ref (h 0)] (wX h cI cZ (kd, nb, il, ma, tr, ro, ii, it, mk, lo, le, re, la, fr, co)) (zQv D (fun _ => tIZ cI cZ) (fun _ : Unit => True) (fun _ => wX h cI cZ (kd, nb, il, ma, tr, ro, ii, 0, 0, lo, le, re, 0, fr, co))) := by
  refine z_met (own := "BranchLengths") rfl (by decide) (Nat.le_of_ble_eq_true rfl) ?_
  intro p e s m below meth c A C hr
  refine z_aload C dX0_clear_0 rfl ?_
  refine z_iconst (v := 0) C dX0_clear_1 (by decide) ?_
  refine z_put (T := TX0) (N := 12) (ws' := wX h cI cZ (kd, nb, il, ma, tr, ro, ii, 0, mk, lo, le, re, la, fr, co)) C in_X0 tyX0 tyX0_ok nmX0 0 rfl rfl 6 (by decide) q57 rfl rfl rfl rfl (Nat.le_of_ble_eq_true rfl) dX0_clear_2 rfl ?_
  refine z_aload C dX0_clear_5 rfl ?_
  refine z_iconst (v := 0) C dX0_clear_6 (by decide) ?_
  refine z_put (T := TX0) (N := 12) (ws' := wX h cI cZ (kd, nb, il, ma, tr, ro, ii, 0, 0, lo, le, re, la, fr, co)) C in_X0 tyX0 tyX0_ok nmX0 0 rfl rfl 7 (by decide) q58 rfl rfl rfl rfl (Nat.le_of_ble_eq_true rfl) dX0_clear_7 rfl ?_
  refine z_aload C dX0_clear_10 rfl ?_
  refine z_iconst (v := 0) C dX0_clear_11 (by decide) ?_
  refine z_put (T := TX0) (N := 12) (ws' := wX h cI cZ (kd, nb, il, ma, tr, ro, ii, 0, 0, lo, le, re, 0, fr, co)) C in_X0 tyX0 tyX0_ok nmX0 0 rfl rfl 11 (by decide) q62 rfl rfl rfl rfl (Nat.le_of_ble_eq_true rfl) dX0_clear_12 rfl ?_
  exact z_vret C hr dX0_clear_15 () trivial rfl rfl
set_option maxHeartbeats 1000000 in
set_option maxRecDepth 100000 in
theorem mX0_isItem (l : Launch) (D : va_G) (h : Nat → Nat) (cI cZ : ClassId) (kd nb il ma tr ro ii : Nat → Int32) (it mk lo le re la fr co : Int32) (x : Int32) : ZM l yX0_isItem cX0_isItem 2 (some .boolean) rmZ D (tIZ cI cZ) [.ref (h 0), .int x] (wX h cI cZ (kd, nb, il, ma, tr, ro, ii, it, mk, lo, le, re, la, fr, co)) (zQi D (fun _ => tIZ cI cZ) (fun (r : Int32) (_ : Unit) => ((la = 0 ∨ x < 0 ∨ it ≤ x) ∧ r = 0) ∨ (¬ (la = 0 ∨ x < 0 ∨ it ≤ x) ∧ r = 1)) (fun _ => wX h cI cZ (kd, nb, il, ma, tr, ro, ii, it, mk, lo, le, re, la, fr, co))) := by
  refine z_met (own := "BranchLengths") rfl (by decide) (Nat.le_of_ble_eq_true rfl) ?_
  intro p e s m below meth c A C hr
  refine z_aload C dX0_isItem_0 rfl ?_
  refine z_get (T := TX0) (N := 12) C in_X0 0 rfl rfl 11 (by decide) q62 rfl rfl dX0_isItem_1 ?_
  refine z_if_eq (tgt := 23) C dX0_isItem_4 (by decide) (fun hc1 => ?_) (fun hc1 => ?_)
  · skip
    refine z_iconst (v := 0) C dX0_isItem_23 (by decide) ?_
    exact z_zret C hr dX0_isItem_24 rfl () (Or.inl ⟨Or.inl hc1, rfl⟩) rfl rfl
  · skip
    refine z_iload C dX0_isItem_7 rfl ?_
    refine z_if_lt (tgt := 23) C dX0_isItem_8 (by decide) (fun hc2 => ?_) (fun hc2 => ?_)
    · skip
      refine z_iconst (v := 0) C dX0_isItem_23 (by decide) ?_
      exact z_zret C hr dX0_isItem_24 rfl () (Or.inl ⟨Or.inr (Or.inl hc2), rfl⟩) rfl rfl
    · skip
      refine z_iload C dX0_isItem_11 rfl ?_
      refine z_aload C dX0_isItem_12 rfl ?_
      refine z_get (T := TX0) (N := 12) C in_X0 0 rfl rfl 6 (by decide) q57 rfl rfl dX0_isItem_13 ?_
      refine z_cmp_ge (tgt := 23) C dX0_isItem_16 (by decide) (fun hc3 => ?_) (fun hc3 => ?_)
      · skip
        refine z_iconst (v := 0) C dX0_isItem_23 (by decide) ?_
        exact z_zret C hr dX0_isItem_24 rfl () (Or.inl ⟨Or.inr (Or.inr hc3), rfl⟩) rfl rfl
      · skip
        refine z_iconst (v := 1) C dX0_isItem_19 (by decide) ?_
        refine z_goto (tgt := 24) C dX0_isItem_20 (by decide) ?_
        exact z_zret C hr dX0_isItem_24 rfl () (Or.inr ⟨fun q => q.elim hc1 (fun q => q.elim hc2 hc3), rfl⟩) rfl rfl
set_option maxHeartbeats 1000000 in
set_option maxRecDepth 100000 in
theorem mX0_place (l : Launch) (D : va_G) (h : Nat → Nat) (cI cZ : ClassId) (kd nb il ma tr ro ii : Nat → Int32) (mk lo le re la fr co : Int32) (n : Nat) (x : Int32) (hn : n ≤ 64) : ZM l yX0_place cX0_place 2 (some .int) ({ frames := 1, cells := 0, slots := 0, locals := 23 }) D (tIZ cI cZ) [.ref (h 0), .int x] (wX h cI cZ (kd, nb, il, ma, tr, ro, ii, nI n, mk, lo, le, re, la, fr, co)) (zQi D (fun _ => tIZ cI cZ) (fun (r : Int32) (_ : Unit) => ((la = 0 ∨ x < 0 ∨ nI n ≤ x) ∧ r = -1) ∨ (¬ (la = 0 ∨ x < 0 ∨ nI n ≤ x) ∧ ∃ k, k < n ∧ x = nI k ∧ r = qs tr k)) (fun _ => wX h cI cZ (kd, nb, il, ma, tr, ro, ii, nI n, mk, lo, le, re, la, fr, co))) := by
  refine z_met (own := "BranchLengths") rfl (by decide) (Nat.le_of_ble_eq_true rfl) ?_
  intro p e s m below meth c A C hr
  refine z_aload C dX0_place_0 rfl ?_
  refine z_iload C dX0_place_1 rfl ?_
  refine z_calli (st := []) (q := (RX0, TX0, 12)) (ci := 0) (q0 := 0) C (mX0_isItem l D h cI cZ kd nb il ma tr ro ii (nI n) mk lo le re la fr co x) 1 rfl (lw_V q157 q159 qs3 q8 q160) (by decide +kernel) (by decide) rfl rfl (Nat.le_of_ble_eq_true rfl) dX0_place_2 ⟨rfl, rfl⟩ (by decide) [0, 1, 2, 3, 4, 5, 6, 7, 8, 9] [] [0, 1, 2, 3, 4, 5, 6, 7, 8, 9] [0, 1] rfl rfl rfl rfl (by decide) rfl (fun _ => wX h cI cZ (kd, nb, il, ma, tr, ro, ii, nI n, mk, lo, le, re, la, fr, co)) (fun _ => rfl) rfl (fun r _ er => ?_)
  refine z_if_eq (tgt := 19) C dX0_place_5 (by decide) (fun hc => ?_) (fun hc => ?_)
  · skip
    have hb : la = 0 ∨ x < 0 ∨ nI n ≤ x := by
      rcases er with ⟨q, -⟩ | ⟨-, q⟩
      · exact q
      · rw [q] at hc; exact absurd hc (by decide)
    refine z_iconst (v := (-1)) C dX0_place_19 (by decide) ?_
    exact z_iret C hr dX0_place_20 () (Or.inl ⟨hb, rfl⟩) rfl rfl
  · skip
    have hb : ¬ (la = 0 ∨ x < 0 ∨ nI n ≤ x) := by
      rcases er with ⟨-, q⟩ | ⟨q, -⟩
      · exact absurd q hc
      · exact q
    obtain ⟨k, hk, rfl⟩ : ∃ k, k < n ∧ x = nI k := by
      rcases pk_ix x (n := n) (by omega) with q | q | q
      · exact absurd (Or.inr (Or.inl q)) hb
      · exact absurd (Or.inr (Or.inr q)) hb
      · exact q
    refine z_aload C dX0_place_8 rfl ?_
    refine z_get (T := TX0) (N := 12) C in_X0 0 rfl rfl 4 (by decide) q55 rfl rfl dX0_place_9 ?_
    refine z_iload C dX0_place_12 rfl ?_
    refine z_calli (st := []) (q := (RX1, TX1, 1)) (ci := 1) (q0 := 0) C (mX1_before l D (h 5) (h 6) cI tr k (by omega)) 1 rfl (lw_V q145 q146 q147 q9 q148) (by decide +kernel) (by decide) rfl rfl (Nat.le_of_ble_eq_true rfl) dX0_place_13 ⟨rfl, rfl⟩ (by decide) [5, 6] [0, 1, 2, 3, 4, 7, 8, 9] [0, 1, 2, 3, 4, 8, 9, 5, 6, 7] [0] rfl rfl rfl rfl (by decide) rfl (fun _ => wX h cI cZ (kd, nb, il, ma, tr, ro, ii, nI n, mk, lo, le, re, la, fr, co)) (fun _ => rfl) rfl (fun r2 _ er2 => ?_)
    refine z_goto (tgt := 20) C dX0_place_16 (by decide) ?_
    exact z_iret C hr dX0_place_20 () (Or.inr ⟨hb, k, hk, rfl, er2⟩) rfl rfl
set_option maxHeartbeats 1000000 in
set_option maxRecDepth 100000 in
theorem mX0_isLong (l : Launch) (D : va_G) (h : Nat → Nat) (cI cZ : ClassId) (kd nb il ma tr ro ii : Nat → Int32) (mk lo le re la fr co : Int32) (n : Nat) (x : Int32) (hn : n ≤ 64) : ZM l yX0_isLong cX0_isLong 2 (some .boolean) ({ frames := 1, cells := 0, slots := 0, locals := 21 }) D (tIZ cI cZ) [.ref (h 0), .int x] (wX h cI cZ (kd, nb, il, ma, tr, ro, ii, nI n, mk, lo, le, re, la, fr, co)) (zQi D (fun _ => tIZ cI cZ) (fun (r : Int32) (_ : Unit) => ((la = 0 ∨ x < 0 ∨ nI n ≤ x) ∧ r = 0) ∨ (¬ (la = 0 ∨ x < 0 ∨ nI n ≤ x) ∧ ∃ k, k < n ∧ x = nI k ∧ r = if il k = 0 then 0 else 1)) (fun _ => wX h cI cZ (kd, nb, il, ma, tr, ro, ii, nI n, mk, lo, le, re, la, fr, co))) := by
  refine z_met (own := "BranchLengths") rfl (by decide) (Nat.le_of_ble_eq_true rfl) ?_
  intro p e s m below meth c A C hr
  refine z_aload C dX0_isLong_0 rfl ?_
  refine z_iload C dX0_isLong_1 rfl ?_
  refine z_calli (st := []) (q := (RX0, TX0, 12)) (ci := 0) (q0 := 0) C (mX0_isItem l D h cI cZ kd nb il ma tr ro ii (nI n) mk lo le re la fr co x) 1 rfl (lw_V q157 q159 qs3 q8 q160) (by decide +kernel) (by decide) rfl rfl (Nat.le_of_ble_eq_true rfl) dX0_isLong_2 ⟨rfl, rfl⟩ (by decide) [0, 1, 2, 3, 4, 5, 6, 7, 8, 9] [] [0, 1, 2, 3, 4, 5, 6, 7, 8, 9] [0, 1] rfl rfl rfl rfl (by decide) rfl (fun _ => wX h cI cZ (kd, nb, il, ma, tr, ro, ii, nI n, mk, lo, le, re, la, fr, co)) (fun _ => rfl) rfl (fun r _ er => ?_)
  refine z_if_eq (tgt := 21) C dX0_isLong_5 (by decide) (fun hc => ?_) (fun hc => ?_)
  · skip
    have hb : la = 0 ∨ x < 0 ∨ nI n ≤ x := by
      rcases er with ⟨q, -⟩ | ⟨-, q⟩
      · exact q
      · rw [q] at hc; exact absurd hc (by decide)
    refine z_iconst (v := 0) C dX0_isLong_21 (by decide) ?_
    exact z_zret C hr dX0_isLong_22 rfl () (Or.inl ⟨hb, rfl⟩) rfl rfl
  · skip
    have hb : ¬ (la = 0 ∨ x < 0 ∨ nI n ≤ x) := by
      rcases er with ⟨-, q⟩ | ⟨q, -⟩
      · exact absurd q hc
      · exact q
    obtain ⟨k, hk, rfl⟩ : ∃ k, k < n ∧ x = nI k := by
      rcases pk_ix x (n := n) (by omega) with q | q | q
      · exact absurd (Or.inr (Or.inl q)) hb
      · exact absurd (Or.inr (Or.inr q)) hb
      · exact q
    refine z_aload C dX0_isLong_8 rfl ?_
    refine z_get (T := TX0) (N := 12) C in_X0 0 rfl rfl 2 (by decide) q53 rfl rfl dX0_isLong_9 ?_
    refine z_iload C dX0_isLong_12 rfl ?_
    refine z_zald C 3 1 rfl rfl (by omega) (by decide) dX0_isLong_13 ?_
    refine z_if_eq (tgt := 21) C dX0_isLong_14 (by decide) (fun hc2 => ?_) (fun hc2 => ?_)
    · skip
      refine z_iconst (v := 0) C dX0_isLong_21 (by decide) ?_
      exact z_zret C hr dX0_isLong_22 rfl () (Or.inr ⟨hb, k, hk, rfl, (if_pos hc2).symm⟩) rfl rfl
    · skip
      refine z_iconst (v := 1) C dX0_isLong_17 (by decide) ?_
      refine z_goto (tgt := 22) C dX0_isLong_18 (by decide) ?_
      exact z_zret C hr dX0_isLong_22 rfl () (Or.inr ⟨hb, k, hk, rfl, (if_neg hc2).symm⟩) rfl rfl
end
section
set_option maxHeartbeats 1000000 in
set_option maxRecDepth 100000 in
/-- reaches(k) -/
theorem mX0_reaches (l : Launch) (D : va_G) (h : Nat → Nat) (cI cZ : ClassId) (kd nb il ma tr ro ii : Nat → Int32) (mk lo le la fr co : Int32) (n r mq : Nat) (L : Nat → Bool) (k : Nat) (hn : n ≤ 64) (hmq : mq ≤ n) (hr0 : r ≤ 100000) (hw : ∀ k, k < n → kd k = 0 → (nb k).toNatClampNeg ≤ 4000) (hf : fitL n mq kd nb ma) (hT : TRep tr (wt n kd nb L)) (hk : k < n) (h2 : kd k = 2) : ZM l yX0_reaches cX0_reaches 3 (some .boolean) ({ frames := 1, cells := 0, slots := 0, locals := 23 }) D (tIZ cI cZ) [.ref (h 0), .int (nI k)] (wX h cI cZ (kd, nb, il, ma, tr, ro, ii, nI n, mk, lo, le, nI r, la, fr, co)) (zQi D (fun _ => tIZ cI cZ) (fun (z : Int32) (_ : Unit) => (z = 1 ∧ okL n r kd nb ma L k) ∨ (z = 0 ∧ ¬ okL n r kd nb ma L k)) (fun _ => wX h cI cZ (kd, nb, il, ma, tr, ro, ii, nI n, mk, lo, le, nI r, la, fr, co))) := by
  refine z_met (own := "BranchLengths") rfl (by decide) (Nat.le_of_ble_eq_true rfl) ?_
  intro p e s m below meth c A C hr
  obtain ⟨f1, f2, f3, f4, f5⟩ := hf k hk h2
  have ba := psw_le (L := L) hw (q := toN nb ma k) (by omega)
  have bb := psw_le (L := L) hw (q := k) (by omega)
  refine z_aload C dX0_reaches_0 rfl ?_
  refine z_get (T := TX0) (N := 12) C in_X0 0 rfl rfl 4 (by decide) q55 rfl rfl dX0_reaches_1 ?_
  refine z_aload C dX0_reaches_4 rfl ?_
  refine z_get (T := TX0) (N := 12) C in_X0 0 rfl rfl 3 (by decide) q54 rfl rfl dX0_reaches_5 ?_
  refine z_aload C dX0_reaches_8 rfl ?_
  refine z_get (T := TX0) (N := 12) C in_X0 0 rfl rfl 1 (by decide) q52 rfl rfl dX0_reaches_9 ?_
  refine z_iload C dX0_reaches_12 rfl ?_
  refine z_iald C 2 0 rfl rfl (by omega) (by decide) dX0_reaches_13 ?_
  refine z_top f2 ?_
  refine z_iald C 4 0 rfl rfl (by omega) (by decide) dX0_reaches_14 ?_
  refine z_top f4 ?_
  refine z_calli (st := []) (q := (RX1, TX1, 1)) (ci := 1) (q0 := 0) C (mX1_before l D (h 5) (h 6) cI tr (toN nb ma k) (by omega)) 1 rfl (lw_V q145 q146 q147 q9 q148) (by decide +kernel) (by decide) rfl rfl (Nat.le_of_ble_eq_true rfl) dX0_reaches_15 ⟨rfl, rfl⟩ (by decide) [5, 6] [0, 1, 2, 3, 4, 7, 8, 9] [0, 1, 2, 3, 4, 8, 9, 5, 6, 7] [0] rfl rfl rfl rfl (by decide) rfl (fun _ => wX h cI cZ (kd, nb, il, ma, tr, ro, ii, nI n, mk, lo, le, nI r, la, fr, co)) (fun _ => rfl) rfl (fun r1 _ er1 => ?_)
  obtain rfl : r1 = nI (ps (wt n kd nb L) (toN nb ma k)) := er1.trans (hT _ (by omega))
  refine z_aload C dX0_reaches_18 rfl ?_
  refine z_get (T := TX0) (N := 12) C in_X0 0 rfl rfl 4 (by decide) q55 rfl rfl dX0_reaches_19 ?_
  refine z_iload C dX0_reaches_22 rfl ?_
  refine z_calli (st := [.int (nI (ps (wt n kd nb L) (toN nb ma k)))]) (q := (RX1, TX1, 1)) (ci := 1) (q0 := 0) C (mX1_before l D (h 5) (h 6) cI tr k (by omega)) 1 rfl (lw_V q145 q146 q147 q9 q148) (by decide +kernel) (by decide) rfl rfl (Nat.le_of_ble_eq_true rfl) dX0_reaches_23 ⟨rfl, rfl⟩ (by decide) [5, 6] [0, 1, 2, 3, 4, 7, 8, 9] [0, 1, 2, 3, 4, 8, 9, 5, 6, 7] [0] rfl rfl rfl rfl (by decide) rfl (fun _ => wX h cI cZ (kd, nb, il, ma, tr, ro, ii, nI n, mk, lo, le, nI r, la, fr, co)) (fun _ => rfl) rfl (fun r1 _ er2 => ?_)
  obtain rfl : r1 = nI (ps (wt n kd nb L) k) := er2.trans (hT _ (by omega))
  refine z_isub C dX0_reaches_26 rfl ?_
  refine z_istore (lv' := [(0, .ref (h 0)), (2, .int (nI (ps (wt n kd nb L) (toN nb ma k)) - nI (ps (wt n kd nb L) k)))]) C dX0_reaches_27 (by decide) rfl rfl ?_
  refine z_iload C dX0_reaches_28 rfl ?_
  refine z_aload C dX0_reaches_29 rfl ?_
  refine z_get (T := TX0) (N := 12) C in_X0 0 rfl rfl 10 (by decide) q61 rfl rfl dX0_reaches_30 ?_
  refine z_ineg C dX0_reaches_33 rfl ?_
  refine z_cmp_lt (tgt := 49) C dX0_reaches_34 (by decide) (fun hc1 => ?_) (fun hc1 => ?_)
  · skip
    have hc1 := (rc_lo ba bb hr0).mp hc1
    refine z_iconst (v := 0) C dX0_reaches_49 (by decide) ?_
    exact z_zret C hr dX0_reaches_50 rfl () (Or.inr ⟨rfl, fun q => by have := q.2; omega⟩) rfl rfl
  · skip
    have hc1 := Nat.not_lt.mp (fun q => hc1 ((rc_lo ba bb hr0).mpr q))
    refine z_iload C dX0_reaches_37 rfl ?_
    refine z_aload C dX0_reaches_38 rfl ?_
    refine z_get (T := TX0) (N := 12) C in_X0 0 rfl rfl 10 (by decide) q61 rfl rfl dX0_reaches_39 ?_
    refine z_cmp_gt (tgt := 49) C dX0_reaches_42 (by decide) (fun hc2 => ?_) (fun hc2 => ?_)
    · skip
      have hc2 := (rc_hi ba bb hr0).mp hc2
      refine z_iconst (v := 0) C dX0_reaches_49 (by decide) ?_
      exact z_zret C hr dX0_reaches_50 rfl () (Or.inr ⟨rfl, fun q => by have := q.1; omega⟩) rfl rfl
    · skip
      have hc2 := Nat.not_lt.mp (fun q => hc2 ((rc_hi ba bb hr0).mpr q))
      refine z_iconst (v := 1) C dX0_reaches_45 (by decide) ?_
      refine z_goto (tgt := 50) C dX0_reaches_46 (by decide) ?_
      exact z_zret C hr dX0_reaches_50 rfl () (Or.inl ⟨rfl, ⟨by omega, by omega⟩⟩) rfl rfl
/-- branch i lies over k -/
def spL (nb ma : Nat → Int32) (k i : Nat) : Prop := (i ≤ k ∧ k < toN nb ma i) ∨ (toN nb ma i < k ∧ k < i)
theorem bI_0 {b : Bool} (h : bI b = 0) : b = false := by
  cases b with
  | false => rfl
  | true => exact absurd h (by decide)
theorem bI_1 {b : Bool} (h : ¬ bI b = 0) : b = true := by
  cases b with
  | true => rfl
  | false => exact absurd rfl h
theorem bI_upd {il : Nat → Int32} {L : Nat → Bool} {n k : Nat} (h : ∀ j, j < n → il j = bI (L j)) : ∀ j, j < n → upd il k 1 j = bI (updB L k true j) := by
  intro j hj
  by_cases e : j = k
  · subst e; rw [pk_us, updB_s]; rfl
  · rw [pk_un e, updB_n e, h j hj]
set_option maxHeartbeats 1000000 in
set_option maxRecDepth 100000 in
/-- look(k) -/
theorem mX0_look (l : Launch) (D : va_G) (h : Nat → Nat) (cI cZ : ClassId) (kd nb il ma tr ro ii : Nat → Int32) (mk le la : Int32) (n r mq lo fr : Nat) (L : Nat → Bool) (Q : List Nat) (k : Nat) (hn : n ≤ 64) (hmq : mq ≤ n) (hr0 : r ≤ 100000) (hw : ∀ k, k < n → kd k = 0 → (nb k).toNatClampNeg ≤ 4000) (hf : fitL n mq kd nb ma) (hT : TRep tr (wt n kd nb L)) (hil : ∀ j, j < n → il j = bI (L j)) (hR : RRep ro ii fr Q) (hQ : ∀ j ∈ Q, j < n) (hk : k < n) (h2 : kd k = 2) : ZM l yX0_look cX0_look 4 none ({ frames := 2, cells := 0, slots := 0, locals := 45 }) D (tIZ cI cZ) [.ref (h 0), .int (nI k)] (wX h cI cZ (kd, nb, il, ma, tr, ro, ii, nI n, mk, nI lo, le, nI r, la, nI fr, nI Q.length)) (zQv D (fun _ => tIZ cI cZ) (fun (u : XS) => ((L k = true ∨ okL n r kd nb ma L k) ∧ u = (kd, nb, il, ma, tr, ro, ii, nI n, mk, nI lo, le, nI r, la, nI fr, nI Q.length)) ∨ (L k = false ∧ ¬ okL n r kd nb ma L k ∧ ∃ (ro2 ii2 : Nat → Int32) (Q2 : List Nat), u = (kd, nb, upd il k 1, ma, ad (nI 1) 2001 tr (k + 1), ro2, ii2, nI n, mk, nI (lo + 1), le, nI r, la, nI fr, nI Q2.length) ∧ RRep ro2 ii2 fr Q2 ∧ (∀ j ∈ Q2, j < n) ∧ ∀ i, i ∈ Q2 ↔ i ∈ Q ∨ (i < n ∧ kd i = 2 ∧ updB L k true i = false ∧ spL nb ma k i))) (fun u => wX h cI cZ u)) := by
  refine z_met (own := "BranchLengths") rfl (by decide) (Nat.le_of_ble_eq_true rfl) ?_
  intro p e s m below meth c A C hr
  refine z_aload C dX0_look_0 rfl ?_
  refine z_get (T := TX0) (N := 12) C in_X0 0 rfl rfl 2 (by decide) q53 rfl rfl dX0_look_1 ?_
  refine z_iload C dX0_look_4 rfl ?_
  refine z_zald C 3 1 rfl rfl (by omega) (by decide) dX0_look_5 ?_
  refine z_top (hil k hk) ?_
  refine z_if_ne (tgt := 17) C dX0_look_6 (by decide) (fun hc1 => ?_) (fun hc1 => ?_)
  · exact z_vret C hr dX0_look_17 (kd, nb, il, ma, tr, ro, ii, nI n, mk, nI lo, le, nI r, la, nI fr, nI Q.length) (Or.inl ⟨Or.inl (bI_1 hc1), rfl⟩) rfl rfl
  have hc1 := bI_0 hc1
  refine z_aload C dX0_look_9 rfl ?_
  refine z_iload C dX0_look_10 rfl ?_
  refine z_calli (st := []) (q := (RX0, TX0, 12)) (ci := 0) (q0 := 0) C (mX0_reaches l D h cI cZ kd nb il ma tr ro ii mk (nI lo) le la (nI fr) (nI Q.length) n r mq L k hn hmq hr0 hw hf hT hk h2) 1 rfl (lw_V q141 q143 qs2 q8 q144) (by decide +kernel) (by decide) rfl rfl (Nat.le_of_ble_eq_true rfl) dX0_look_11 ⟨rfl, rfl⟩ (by decide) [0, 1, 2, 3, 4, 5, 6, 7, 8, 9] [] [0, 1, 2, 3, 4, 5, 6, 7, 8, 9] [0, 1] rfl rfl rfl rfl (by decide) rfl (fun _ => wX h cI cZ (kd, nb, il, ma, tr, ro, ii, nI n, mk, nI lo, le, nI r, la, nI fr, nI Q.length)) (fun _ => rfl) rfl (fun z _ ez => ?_)
  refine z_if_eq (tgt := 18) C dX0_look_14 (by decide) (fun hc2 => ?_) (fun hc2 => ?_)
  rotate_left
  · have hok : okL n r kd nb ma L k := by
      rcases ez with ⟨-, q⟩ | ⟨q, -⟩
      · exact q
      · exact absurd q hc2
    exact z_vret C hr dX0_look_17 (kd, nb, il, ma, tr, ro, ii, nI n, mk, nI lo, le, nI r, la, nI fr, nI Q.length) (Or.inl ⟨Or.inr hok, rfl⟩) rfl rfl
  have hno : ¬ okL n r kd nb ma L k := by
    rcases ez with ⟨q, -⟩ | ⟨-, q⟩
    · rw [q] at hc2; exact absurd hc2 (by decide)
    · exact q
  refine z_aload C dX0_look_18 rfl ?_
  refine z_get (T := TX0) (N := 12) C in_X0 0 rfl rfl 2 (by decide) q53 rfl rfl dX0_look_19 ?_
  refine z_iload C dX0_look_22 rfl ?_
  refine z_iconst (v := 1) C dX0_look_23 (by decide) ?_
  refine z_zast (y := 1) (ws' := wX h cI cZ (kd, nb, upd il k 1, ma, tr, ro, ii, nI n, mk, nI lo, le, nI r, la, nI fr, nI Q.length)) C 3 1 rfl rfl (by omega) (by decide) dX0_look_24 rfl rfl ?_
  refine z_aload C dX0_look_25 rfl ?_
  refine z_dup C dX0_look_26 rfl ?_
  refine z_get (T := TX0) (N := 12) C in_X0 0 rfl rfl 8 (by decide) q59 rfl rfl dX0_look_27 ?_
  refine z_iconst (v := 1) C dX0_look_30 (by decide) ?_
  refine z_iadd C dX0_look_31 (nI_1 _) ?_
  refine z_put (T := TX0) (N := 12) (ws' := wX h cI cZ (kd, nb, upd il k 1, ma, tr, ro, ii, nI n, mk, nI (lo + 1), le, nI r, la, nI fr, nI Q.length)) C in_X0 tyX0 tyX0_ok nmX0 0 rfl rfl 8 (by decide) q59 rfl rfl rfl rfl (Nat.le_of_ble_eq_true rfl) dX0_look_32 rfl ?_
  refine z_aload C dX0_look_35 rfl ?_
  refine z_get (T := TX0) (N := 12) C in_X0 0 rfl rfl 4 (by decide) q55 rfl rfl dX0_look_36 ?_
  refine z_iload C dX0_look_39 rfl ?_
  refine z_iconst (v := (nI 1)) C dX0_look_40 (by decide) ?_
  refine z_callv (st := []) (q := (RX1, TX1, 1)) (ci := 1) (q0 := 0) C (mX1_add l D (h 5) (h 6) cI tr k (nI 1) (by omega)) 2 rfl (lw_V q121 q122 q123 q9 q124) (by decide +kernel) (by decide) rfl rfl (Nat.le_of_ble_eq_true rfl) dX0_look_41 ⟨rfl, rfl⟩ (by decide) [5, 6] [0, 1, 2, 3, 4, 7, 8, 9] [0, 1, 2, 3, 4, 8, 9, 5, 6, 7] [0] rfl rfl rfl rfl (by decide) rfl (fun _ => wX h cI cZ (kd, nb, upd il k 1, ma, ad (nI 1) 2001 tr (k + 1), ro, ii, nI n, mk, nI (lo + 1), le, nI r, la, nI fr, nI Q.length)) (fun _ => rfl) rfl (fun _ _ => ?_)
  refine z_iconst (v := (nI 0)) C dX0_look_44 (by decide) ?_
  refine z_istore (lv' := [(0, .ref (h 0)), (1, .int (nI k)), (2, .int (nI 0))]) C dX0_look_45 (by decide) rfl rfl ?_
  have hil2 := bI_upd (k := k) hil
  refine z_loop (ι := Nat × List Nat × (Nat → Int32) × (Nat → Int32)) (fun i => n - i.1) (fun x => x.1 ≤ n ∧ RRep x.2.2.1 x.2.2.2 fr x.2.1 ∧ (∀ i ∈ x.2.1, i < n) ∧ ∀ i, i ∈ x.2.1 ↔ i ∈ Q ∨ (i < x.1 ∧ kd i = 2 ∧ updB L k true i = false ∧ spL nb ma k i)) (fun i => wX h cI cZ (kd, nb, upd il k 1, ma, ad (nI 1) 2001 tr (k + 1), i.2.2.1, i.2.2.2, nI n, mk, nI (lo + 1), le, nI r, la, nI fr, nI (i.2.1).length)) (fun i => [(0, .ref (h 0)), (1, .int (nI k)), (2, .int (nI i.1))]) ?_ (0, Q, ro, ii) ⟨Nat.zero_le _, hR, hQ, fun i => ⟨Or.inl, fun q => q.elim id (fun q => absurd q.1 (Nat.not_lt_zero _))⟩⟩
  rintro ⟨j, Q1, ro1, ii1⟩ ⟨hj, hR1, hQ1, hm1⟩ ih
  dsimp only at hj hR1 hQ1 hm1 ih ⊢
  refine z_iload C dX0_look_46 rfl ?_
  refine z_aload C dX0_look_47 rfl ?_
  refine z_get (T := TX0) (N := 12) C in_X0 0 rfl rfl 6 (by decide) q57 rfl rfl dX0_look_48 ?_
  refine z_cmpN_ge (tgt := 122) C dX0_look_51 (by decide) (by omega) (by omega) (fun hc3 => ?_) (fun hc3 => ?_)
  · obtain rfl : j = n := by omega
    exact z_vret C hr dX0_look_122 (kd, nb, upd il k 1, ma, ad (nI 1) 2001 tr (k + 1), ro1, ii1, nI j, mk, nI (lo + 1), le, nI r, la, nI fr, nI Q1.length) (Or.inr ⟨hc1, hno, ro1, ii1, Q1, rfl, hR1, hQ1, hm1⟩) rfl rfl
  refine z_join (ι := List Nat × (Nat → Int32) × (Nat → Int32)) 116 (fun x => j + 1 ≤ n ∧ RRep x.2.1 x.2.2 fr x.1 ∧ (∀ i ∈ x.1, i < n) ∧ ∀ i, i ∈ x.1 ↔ i ∈ Q ∨ (i < j + 1 ∧ kd i = 2 ∧ updB L k true i = false ∧ spL nb ma k i)) (fun i => wX h cI cZ (kd, nb, upd il k 1, ma, ad (nI 1) 2001 tr (k + 1), i.2.1, i.2.2, nI n, mk, nI (lo + 1), le, nI r, la, nI fr, nI (i.1).length)) (fun _ => [(0, .ref (h 0)), (1, .int (nI k)), (2, .int (nI j))]) ?_ ?_
  · rintro ⟨Q2, ro2, ii2⟩ hi
    dsimp only at hi ⊢
    refine z_iinc (j := 2) (v := (nI (j + 1))) (lv' := [(0, .ref (h 0)), (1, .int (nI k)), (2, .int (nI (j + 1)))]) C dX0_look_116 rfl (nI_1 j) (by decide) rfl rfl ?_
    refine z_goto (tgt := 46) C dX0_look_119 (by decide) ?_
    exact ih (j + 1, Q2, ro2, ii2) hi (by dsimp only; omega)
  intro k116
  have skip : ¬ (kd j = 2 ∧ updB L k true j = false ∧ spL nb ma k j) → j + 1 ≤ n ∧ RRep ro1 ii1 fr Q1 ∧ (∀ i ∈ Q1, i < n) ∧ ∀ i, i ∈ Q1 ↔ i ∈ Q ∨ (i < j + 1 ∧ kd i = 2 ∧ updB L k true i = false ∧ spL nb ma k i) := by
    intro hno2
    refine ⟨hc3, hR1, hQ1, fun i => (hm1 i).trans ⟨fun q => q.elim Or.inl (fun q => Or.inr ⟨by omega, q.2⟩), fun q => q.elim Or.inl (fun q => ?_)⟩⟩
    by_cases e : i = j
    · subst e; exact absurd q.2 hno2
    · exact Or.inr ⟨by omega, q.2⟩
  refine z_aload C dX0_look_54 rfl ?_
  refine z_get (T := TX0) (N := 12) C in_X0 0 rfl rfl 0 (by decide) q51 rfl rfl dX0_look_55 ?_
  refine z_iload C dX0_look_58 rfl ?_
  refine z_iald C 1 0 rfl rfl (by omega) (by decide) dX0_look_59 ?_
  refine z_iconst (v := 2) C dX0_look_60 (by decide) ?_
  refine z_cmp_ne (tgt := 116) C dX0_look_61 (by decide) (fun hc4 => ?_) (fun hc4 => ?_)
  · exact k116 (Q1, ro1, ii1) (skip (fun q => hc4 q.1))
  refine z_aload C dX0_look_64 rfl ?_
  refine z_get (T := TX0) (N := 12) C in_X0 0 rfl rfl 2 (by decide) q53 rfl rfl dX0_look_65 ?_
  refine z_iload C dX0_look_68 rfl ?_
  refine z_zald C 3 1 rfl rfl (by omega) (by decide) dX0_look_69 ?_
  refine z_top (hil2 j hc3) ?_
  refine z_if_eq (tgt := 76) C dX0_look_70 (by decide) (fun hc5 => ?_) (fun hc5 => ?_)
  rotate_left
  · skip
    refine z_goto (tgt := 116) C dX0_look_73 (by decide) ?_
    exact k116 (Q1, ro1, ii1) (skip (fun q => hc5 (by rw [q.2.1]; rfl)))
  have hc5 := bI_0 hc5
  obtain ⟨f1, f2, f3, f4, f5⟩ := hf j hc3 hc4
  refine z_aload C dX0_look_76 rfl ?_
  refine z_get (T := TX0) (N := 12) C in_X0 0 rfl rfl 3 (by decide) q54 rfl rfl dX0_look_77 ?_
  refine z_aload C dX0_look_80 rfl ?_
  refine z_get (T := TX0) (N := 12) C in_X0 0 rfl rfl 1 (by decide) q52 rfl rfl dX0_look_81 ?_
  refine z_iload C dX0_look_84 rfl ?_
  refine z_iald C 2 0 rfl rfl (by omega) (by decide) dX0_look_85 ?_
  refine z_top f2 ?_
  refine z_iald C 4 0 rfl rfl (by omega) (by decide) dX0_look_86 ?_
  refine z_top f4 ?_
  refine z_istore (lv' := [(0, .ref (h 0)), (1, .int (nI k)), (2, .int (nI j)), (3, .int (nI (toN nb ma j)))]) C dX0_look_87 (by decide) rfl rfl ?_
  refine z_join (ι := Unit) 108 (fun _ => spL nb ma k j) (fun _ => wX h cI cZ (kd, nb, upd il k 1, ma, ad (nI 1) 2001 tr (k + 1), ro1, ii1, nI n, mk, nI (lo + 1), le, nI r, la, nI fr, nI (Q1).length)) (fun _ => [(0, .ref (h 0)), (1, .int (nI k)), (2, .int (nI j)), (3, .int (nI (toN nb ma j)))]) ?_ ?_
  · intro _ hsp
    have hlen : Q1.length ≤ n := pig n Q1 hR1.2.1 hQ1
    refine z_aload C dX0_look_108 rfl ?_
    refine z_get (T := TX0) (N := 12) C in_X0 0 rfl rfl 5 (by decide) q56 rfl rfl dX0_look_109 ?_
    refine z_iload C dX0_look_112 rfl ?_
    refine z_callv (st := []) (q := (RX2, TX2, 4)) (ci := 2) (q0 := 0) C (mX2_put l D (h 7) (h 8) (h 9) cI cZ ro1 ii1 fr Q1 j hR1 (by omega) (by omega)) 1 rfl (lw_V q125 q126 q127 q10 q128) (by decide +kernel) (by decide) rfl rfl (Nat.le_of_ble_eq_true rfl) dX0_look_113 ⟨rfl, rfl⟩ (by decide) [7, 8, 9] [0, 1, 2, 3, 4, 5, 6] [0, 1, 2, 3, 4, 5, 6, 7, 8, 9] [0, 1] rfl rfl rfl rfl (by decide) rfl (fun u : (Nat → Int32) × (Nat → Int32) => wX h cI cZ (kd, nb, upd il k 1, ma, ad (nI 1) 2001 tr (k + 1), u.1, u.2, nI n, mk, nI (lo + 1), le, nI r, la, nI fr, nI (rput Q1 j).length)) (fun _ => rfl) rfl (fun u hu => ?_)
    refine z_lv (lv' := [(0, .ref (h 0)), (1, .int (nI k)), (2, .int (nI j))]) rfl ?_
    refine k116 (rput Q1 j, u.1, u.2) ⟨hc3, hu, fun i hi => ?_, fun i => rput_mem.trans ⟨fun q => ?_, fun q => ?_⟩⟩
    · rcases rput_mem.mp hi with q | q
      · exact hQ1 i q
      · rw [q]; exact hc3
    · rcases q with q | q
      · rcases (hm1 i).mp q with q | q
        · exact Or.inl q
        · exact Or.inr ⟨by omega, q.2⟩
      · subst q; exact Or.inr ⟨Nat.lt_succ_self _, hc4, hc5, hsp⟩
    · by_cases e : i = j
      · exact Or.inr e
      · exact Or.inl ((hm1 i).mpr (q.elim Or.inl (fun q => Or.inr ⟨by omega, q.2⟩)))
  intro k108
  refine z_join (ι := Unit) 98 (fun _ => ¬ (j ≤ k ∧ k < toN nb ma j)) (fun _ => wX h cI cZ (kd, nb, upd il k 1, ma, ad (nI 1) 2001 tr (k + 1), ro1, ii1, nI n, mk, nI (lo + 1), le, nI r, la, nI fr, nI (Q1).length)) (fun _ => [(0, .ref (h 0)), (1, .int (nI k)), (2, .int (nI j)), (3, .int (nI (toN nb ma j)))]) ?_ ?_
  · intro _ hsp
    refine z_iload C dX0_look_98 rfl ?_
    refine z_iload C dX0_look_99 rfl ?_
    refine z_cmpN_ge (tgt := 116) C dX0_look_100 (by decide) (by omega) (by omega) (fun hc6 => ?_) (fun hc6 => ?_)
    · refine z_lv (lv' := [(0, .ref (h 0)), (1, .int (nI k)), (2, .int (nI j))]) rfl ?_
      exact k116 (Q1, ro1, ii1) (skip (fun q => by rcases q.2.2 with q | q <;> omega))
    refine z_iload C dX0_look_103 rfl ?_
    refine z_iload C dX0_look_104 rfl ?_
    refine z_cmpN_ge (tgt := 116) C dX0_look_105 (by decide) (by omega) (by omega) (fun hc7 => ?_) (fun hc7 => ?_)
    · refine z_lv (lv' := [(0, .ref (h 0)), (1, .int (nI k)), (2, .int (nI j))]) rfl ?_
      exact k116 (Q1, ro1, ii1) (skip (fun q => by rcases q.2.2 with q | q <;> omega))
    exact k108 () (Or.inr ⟨hc6, hc7⟩)
  intro k98
  refine z_iload C dX0_look_88 rfl ?_
  refine z_iload C dX0_look_89 rfl ?_
  refine z_cmpN_gt (tgt := 98) C dX0_look_90 (by decide) (by omega) (by omega) (fun hc6 => ?_) (fun hc6 => ?_)
  · exact k98 () (by omega)
  refine z_iload C dX0_look_93 rfl ?_
  refine z_iload C dX0_look_94 rfl ?_
  refine z_cmpN_lt (tgt := 108) C dX0_look_95 (by decide) (by omega) (by omega) (fun hc7 => ?_) (fun hc7 => ?_)
  · exact k108 () (Or.inl ⟨hc6, hc7⟩)
  exact k98 () (by omega)
end
section
/-- one item more -/
theorem wt_out {n : Nat} {kd nb : Nat → Int32} {L : Nat → Bool} : wt n kd nb L n = 0 := by
  unfold wt
  rw [if_neg (Nat.lt_irrefl n)]
theorem wt_lt {k j : Nat} {kd nb : Nat → Int32} {L : Nat → Bool} (h : j ≠ k) : wt (k + 1) kd nb L j = wt k kd nb L j := by
  unfold wt
  by_cases h1 : j < k
  · have h2 : j < k + 1 := by omega
    simp only [h1, h2, if_true]
  · have h2 : ¬ j < k + 1 := by omega
    simp only [h1, h2, if_false]
theorem wt_s0 {k x : Nat} {kd nb : Nat → Int32} {L : Nat → Bool} (h : kd k = 0) (hx : (nb k).toNatClampNeg = x) : wt (k + 1) kd nb L = fun j => if j = k then wt k kd nb L j + x else wt k kd nb L j := by
  funext j
  by_cases e : j = k
  · subst e
    rw [if_pos rfl, wt_out]
    unfold wt
    rw [if_pos (Nat.lt_succ_self j), if_pos h, hx, Nat.zero_add]
  · rw [if_neg e, wt_lt e]
theorem wt_s1 {k : Nat} {kd nb : Nat → Int32} {L : Nat → Bool} (h : kd k = 1) : wt (k + 1) kd nb L = wt k kd nb L := by
  funext j
  by_cases e : j = k
  · subst e
    rw [wt_out]
    unfold wt
    rw [if_pos (Nat.lt_succ_self j), if_neg (by rw [h]; decide), if_neg (by rw [h]; decide)]
  · rw [wt_lt e]
theorem wt_s2 {k : Nat} {kd nb : Nat → Int32} {L : Nat → Bool} (h : kd k = 2) (hL : L k = false) : wt (k + 1) kd nb L = fun j => if j = k then wt k kd nb L j + 1 else wt k kd nb L j := by
  funext j
  by_cases e : j = k
  · subst e
    rw [if_pos rfl, wt_out]
    unfold wt
    rw [if_pos (Nat.lt_succ_self j), if_neg (by rw [h]; decide), if_pos h, hL]
    rfl
  · rw [if_neg e, wt_lt e]
/-- the first item that is a branch to no mark is le, or there is none -/
def fbL (n mk : Nat) (kd nb : Nat → Int32) (le : Int32) : Prop := (le = -1 ∧ ∀ j, j < n → ¬ badL mk kd nb j) ∨ (∃ k0, k0 < n ∧ le = nI k0 ∧ badL mk kd nb k0 ∧ ∀ j, j < k0 → ¬ badL mk kd nb j)
/-- how the search stands at k -/
def fsL (n mk : Nat) (kd nb : Nat → Int32) (k : Nat) (le : Int32) : Prop := k ≤ n ∧ ((le = -1 ∧ ∀ j, j < k → ¬ badL mk kd nb j) ∨ (∃ k0, k0 < n ∧ le = nI k0 ∧ badL mk kd nb k0 ∧ ∀ j, j < k0 → ¬ badL mk kd nb j))
theorem fsL_skip {n mk : Nat} {kd nb : Nat → Int32} {k : Nat} {le : Int32} (h : fsL n mk kd nb k le) (hl : ¬ 0 ≤ le) (hk : k < n) (hb : ¬ badL mk kd nb k) : fsL n mk kd nb (k + 1) le := by
  refine ⟨hk, ?_⟩
  rcases h.2 with ⟨h1, h2⟩ | h1
  · refine Or.inl ⟨h1, fun j hj => ?_⟩
    by_cases e : j = k
    · subst e; exact hb
    · exact h2 j (by omega)
  · exact Or.inr h1
theorem fsL_hit {n mk : Nat} {kd nb : Nat → Int32} {k : Nat} {le : Int32} (h : fsL n mk kd nb k le) (hn : n ≤ 64) (hl : ¬ 0 ≤ le) (hk : k < n) (hb : badL mk kd nb k) : fsL n mk kd nb (k + 1) (nI k) := by
  refine ⟨hk, ?_⟩
  rcases h.2 with ⟨h1, h2⟩ | ⟨k0, h1, h2, -⟩
  · exact Or.inr ⟨k, hk, rfl, hb, h2⟩
  · exact absurd (by rw [h2]; exact nI_pos' (by omega)) hl
theorem fsL_end {n mk : Nat} {kd nb : Nat → Int32} {k : Nat} {le : Int32} (h : fsL n mk kd nb k le) (hk : n ≤ k) : fbL n mk kd nb le := by
  rcases h.2 with ⟨h1, h2⟩ | h1
  · exact Or.inl ⟨h1, fun j hj => h2 j (by omega)⟩
  · exact Or.inr h1
theorem fsL_end2 {n mk : Nat} {kd nb : Nat → Int32} {k : Nat} {le : Int32} (h : fsL n mk kd nb k le) (hk : 0 ≤ le) : fbL n mk kd nb le := by
  rcases h.2 with ⟨h1, h2⟩ | h1
  · rw [h1] at hk; exact absurd hk (by decide)
  · exact Or.inr h1
/-- where the ring's work stands: L long, Q to be looked at -/
def rgL (n r : Nat) (kd nb ma : Nat → Int32) (L : Nat → Bool) (Q : List Nat) : Prop := sdL n r kd nb ma L ∧ (∀ k, k < n → kd k = 2 → L k = false → k ∈ Q ∨ okL n r kd nb ma L k) ∧ (∀ k ∈ Q, k < n ∧ kd k = 2) ∧ ∀ k, k < n → L k = true → kd k = 2
theorem rgL_skip {n r : Nat} {kd nb ma : Nat → Int32} {L : Nat → Bool} {Q : List Nat} {k : Nat} (h : rgL n r kd nb ma L (k :: Q)) (hk : L k = true ∨ okL n r kd nb ma L k) : rgL n r kd nb ma L Q := by
  obtain ⟨h1, h2, h3, h4⟩ := h
  refine ⟨h1, fun j hj hj2 hjf => ?_, fun j hj => h3 j (List.mem_cons_of_mem _ hj), h4⟩
  rcases h2 j hj hj2 hjf with q | q
  · rcases List.mem_cons.mp q with e | e
    · subst e
      rcases hk with q2 | q2
      · rw [hjf] at q2; cases q2
      · exact Or.inr q2
    · exact Or.inl e
  · exact Or.inr q
theorem rgL_hit {n r mk : Nat} {kd nb ma : Nat → Int32} {L : Nat → Bool} {Q Q2 : List Nat} {k : Nat} (hf : fitL n mk kd nb ma) (h : rgL n r kd nb ma L (k :: Q)) (hk : L k = false) (hno : ¬ okL n r kd nb ma L k) (hQ : ∀ i, i ∈ Q2 ↔ i ∈ Q ∨ (i < n ∧ kd i = 2 ∧ updB L k true i = false ∧ spL nb ma k i)) : rgL n r kd nb ma (updB L k true) Q2 := by
  obtain ⟨h1, h2, h3, h4⟩ := h
  obtain ⟨hkn, hk2⟩ := h3 k List.mem_cons_self
  refine ⟨sdL_add h1 h1 hkn hk2 hno, fun j hj hj2 hjf => ?_, fun j hj => ?_, fun j hj hjt => ?_⟩
  · have hjk : j ≠ k := fun e => by rw [e, updB_s] at hjf; cases hjf
    have hjf' := hjf
    rw [updB_n hjk] at hjf'
    by_cases hsp : spL nb ma k j
    · exact Or.inl ((hQ j).mpr (Or.inr ⟨hj, hj2, hjf, hsp⟩))
    · rcases h2 j hj hj2 hjf' with q | q
      · rcases List.mem_cons.mp q with e | e
        · exact absurd e hjk
        · exact Or.inl ((hQ j).mpr (Or.inl e))
      · exact Or.inr (okL_keep hkn hk2 hk (hf j hj hj2).2.2.2.2 hjk hsp q)
  · rcases (hQ j).mp hj with q | q
    · exact h3 j (List.mem_cons_of_mem _ q)
    · exact ⟨q.1, q.2.1⟩
  · by_cases e : j = k
    · subst e; exact hk2
    · rw [updB_n e] at hjt; exact h4 j hj hjt
theorem rgL_mu {n c q q2 : Nat} (hc : c < n) (hq : q2 ≤ n) : (n - (c + 1)) * (n + 1) + q2 < (n - c) * (n + 1) + (q + 1) := by
  have e : n - c = (n - (c + 1)) + 1 := by omega
  rw [e, Nat.succ_mul]
  omega
/-- what lay() leaves, if all branches go to marks -/
def layX (n mk r : Nat) (kd nb ma il tr : Nat → Int32) (lo : Int32) : Prop := (∀ k, k < n → il k = bI (LF n r kd nb ma k)) ∧ TRep tr (wt n kd nb (LF n r kd nb ma)) ∧ lo = nI (cnL kd (LF n r kd nb ma) n) ∧ ∀ k, k < n → LF n r kd nb ma k = true → kd k = 2
set_option maxHeartbeats 1000000 in
set_option maxRecDepth 100000 in
/-- lay() -/
theorem mX0_lay (l : Launch) (D : va_G) (h : Nat → Nat) (cI cZ : ClassId) (kd nb il ma tr ro ii : Nat → Int32) (lo le la fr co : Int32) (n mk r : Nat) (hK : KOK n mk r kd nb ma) : ZM l yX0_lay cX0_lay 2 (some .int) ({ frames := 3, cells := 0, slots := 0, locals := 68 }) D (tIZ cI cZ) [.ref (h 0)] (wX h cI cZ (kd, nb, il, ma, tr, ro, ii, nI n, nI mk, lo, le, nI r, la, fr, co)) (zQi D (fun _ => tIZ cI cZ) (fun (z : Int32) (u : XS) => (∃ k0, k0 < n ∧ badL mk kd nb k0 ∧ (∀ j, j < k0 → ¬ badL mk kd nb j) ∧ z = -1 ∧ u = (kd, nb, il, ma, tr, ro, ii, nI n, nI mk, lo, nI k0, nI r, 0, fr, co)) ∨ ((∀ j, j < n → ¬ badL mk kd nb j) ∧ z = nI (ps (wt n kd nb (LF n r kd nb ma)) n) ∧ ∃ (il2 tr2 ro2 ii2 : Nat → Int32) (lo2 fr2 co2 : Int32), u = (kd, nb, il2, ma, tr2, ro2, ii2, nI n, nI mk, lo2, -1, nI r, 1, fr2, co2) ∧ layX n mk r kd nb ma il2 tr2 lo2)) (fun u => wX h cI cZ u)) := by
  refine z_met (own := "BranchLengths") rfl (by decide) (Nat.le_of_ble_eq_true rfl) ?_
  intro p e s m below meth c A C hr
  obtain ⟨hn, hmk, hr1, hr0, hkinds, hmarks⟩ := id hK
  have hw := KOK_words hK
  refine z_aload C dX0_lay_0 rfl ?_
  refine z_iconst (v := 0) C dX0_lay_1 (by decide) ?_
  refine z_put (T := TX0) (N := 12) (ws' := wX h cI cZ (kd, nb, il, ma, tr, ro, ii, nI n, nI mk, lo, le, nI r, 0, fr, co)) C in_X0 tyX0 tyX0_ok nmX0 0 rfl rfl 11 (by decide) q62 rfl rfl rfl rfl (Nat.le_of_ble_eq_true rfl) dX0_lay_2 rfl ?_
  refine z_aload C dX0_lay_5 rfl ?_
  refine z_iconst (v := (-1)) C dX0_lay_6 (by decide) ?_
  refine z_put (T := TX0) (N := 12) (ws' := wX h cI cZ (kd, nb, il, ma, tr, ro, ii, nI n, nI mk, lo, -1, nI r, 0, fr, co)) C in_X0 tyX0 tyX0_ok nmX0 0 rfl rfl 9 (by decide) q60 rfl rfl rfl rfl (Nat.le_of_ble_eq_true rfl) dX0_lay_7 rfl ?_
  refine z_iconst (v := (nI 0)) C dX0_lay_10 (by decide) ?_
  refine z_istore (lv' := [(0, .ref (h 0)), (1, .int (nI 0))]) C dX0_lay_11 (by decide) rfl rfl ?_
  refine z_join (ι := Int32) 61 (fun le => fbL n mk kd nb le) (fun le => wX h cI cZ (kd, nb, il, ma, tr, ro, ii, nI n, nI mk, lo, le, nI r, 0, fr, co)) (fun _ => [(0, .ref (h 0))]) ?_ ?_
  rotate_left
  · intro k61
    refine z_loop (ι := Nat × Int32) (fun i => n - i.1) (fun i => fsL n mk kd nb i.1 i.2) (fun i => wX h cI cZ (kd, nb, il, ma, tr, ro, ii, nI n, nI mk, lo, i.2, nI r, 0, fr, co)) (fun i => [(0, .ref (h 0)), (1, .int (nI i.1))]) ?_ (0, -1) ⟨Nat.zero_le _, Or.inl ⟨rfl, fun j hj => absurd hj (Nat.not_lt_zero _)⟩⟩
    rintro ⟨k, le⟩ hi ih
    dsimp only at hi ih ⊢
    have hkn := hi.1
    refine z_iload C dX0_lay_12 rfl ?_
    refine z_aload C dX0_lay_13 rfl ?_
    refine z_get (T := TX0) (N := 12) C in_X0 0 rfl rfl 6 (by decide) q57 rfl rfl dX0_lay_14 ?_
    refine z_cmpN_ge (tgt := 61) C dX0_lay_17 (by decide) (by omega) (by omega) (fun hc1 => ?_) (fun hc1 => ?_)
    · refine z_lv (lv' := [(0, .ref (h 0))]) rfl ?_
      exact k61 le (fsL_end hi hc1)
    refine z_aload C dX0_lay_20 rfl ?_
    refine z_get (T := TX0) (N := 12) C in_X0 0 rfl rfl 9 (by decide) q60 rfl rfl dX0_lay_21 ?_
    refine z_if_ge (tgt := 61) C dX0_lay_24 (by decide) (fun hc2 => ?_) (fun hc2 => ?_)
    · refine z_lv (lv' := [(0, .ref (h 0))]) rfl ?_
      exact k61 le (fsL_end2 hi hc2)
    refine z_aload C dX0_lay_27 rfl ?_
    refine z_get (T := TX0) (N := 12) C in_X0 0 rfl rfl 0 (by decide) q51 rfl rfl dX0_lay_28 ?_
    refine z_iload C dX0_lay_31 rfl ?_
    refine z_iald C 1 0 rfl rfl (by omega) (by decide) dX0_lay_32 ?_
    refine z_iconst (v := 2) C dX0_lay_33 (by decide) ?_
    refine z_cmp_ne (tgt := 55) C dX0_lay_34 (by decide) (fun hc3 => ?_) (fun hc3 => ?_)
    · skip
      refine z_iinc (j := 1) (v := (nI (k + 1))) (lv' := [(0, .ref (h 0)), (1, .int (nI (k + 1)))]) C dX0_lay_55 rfl (nI_1 k) (by decide) rfl rfl ?_
      refine z_goto (tgt := 12) C dX0_lay_58 (by decide) ?_
      exact ih (k + 1, le) (fsL_skip hi hc2 hc1 (fun q => hc3 q.1)) (by dsimp only; omega)
    refine z_aload C dX0_lay_37 rfl ?_
    refine z_get (T := TX0) (N := 12) C in_X0 0 rfl rfl 1 (by decide) q52 rfl rfl dX0_lay_38 ?_
    refine z_iload C dX0_lay_41 rfl ?_
    refine z_iald C 2 0 rfl rfl (by omega) (by decide) dX0_lay_42 ?_
    refine z_aload C dX0_lay_43 rfl ?_
    refine z_get (T := TX0) (N := 12) C in_X0 0 rfl rfl 7 (by decide) q58 rfl rfl dX0_lay_44 ?_
    refine z_cmp_lt (tgt := 55) C dX0_lay_47 (by decide) (fun hc4 => ?_) (fun hc4 => ?_)
    · skip
      refine z_iinc (j := 1) (v := (nI (k + 1))) (lv' := [(0, .ref (h 0)), (1, .int (nI (k + 1)))]) C dX0_lay_55 rfl (nI_1 k) (by decide) rfl rfl ?_
      refine z_goto (tgt := 12) C dX0_lay_58 (by decide) ?_
      exact ih (k + 1, le) (fsL_skip hi hc2 hc1 (fun q => Int32.not_lt.mpr q.2 hc4)) (by dsimp only; omega)
    refine z_aload C dX0_lay_50 rfl ?_
    refine z_iload C dX0_lay_51 rfl ?_
    refine z_put (T := TX0) (N := 12) (ws' := wX h cI cZ (kd, nb, il, ma, tr, ro, ii, nI n, nI mk, lo, nI k, nI r, 0, fr, co)) C in_X0 tyX0 tyX0_ok nmX0 0 rfl rfl 9 (by decide) q60 rfl rfl rfl rfl (Nat.le_of_ble_eq_true rfl) dX0_lay_52 rfl ?_
    refine z_iinc (j := 1) (v := (nI (k + 1))) (lv' := [(0, .ref (h 0)), (1, .int (nI (k + 1)))]) C dX0_lay_55 rfl (nI_1 k) (by decide) rfl rfl ?_
    refine z_goto (tgt := 12) C dX0_lay_58 (by decide) ?_
    exact ih (k + 1, nI k) (fsL_hit hi hn hc2 hc1 ⟨hc3, Int32.not_lt.mp hc4⟩) (by dsimp only; omega)
  intro le hfb
  dsimp only
  refine z_aload C dX0_lay_61 rfl ?_
  refine z_get (T := TX0) (N := 12) C in_X0 0 rfl rfl 9 (by decide) q60 rfl rfl dX0_lay_62 ?_
  refine z_if_lt (tgt := 70) C dX0_lay_65 (by decide) (fun hc1 => ?_) (fun hc1 => ?_)
  rotate_left
  · skip
    rcases hfb with ⟨q, -⟩ | ⟨k0, g1, g2, g3, g4⟩
    · rw [q] at hc1; exact absurd (by decide) hc1
    subst g2
    refine z_iconst (v := (-1)) C dX0_lay_68 (by decide) ?_
    exact z_iret C hr dX0_lay_69 (kd, nb, il, ma, tr, ro, ii, nI n, nI mk, lo, nI k0, nI r, 0, fr, co) (Or.inl ⟨k0, g1, g3, g4, rfl, rfl⟩) rfl rfl
  have hnb : le = -1 ∧ ∀ j, j < n → ¬ badL mk kd nb j := by
    rcases hfb with q | ⟨k0, g1, g2, -⟩
    · exact q
    · rw [g2] at hc1; exact absurd hc1 (nI_pos (by omega))
  obtain ⟨rfl, hnb⟩ := hnb
  have hf := KOK_fit hK hnb
  refine z_aload C dX0_lay_70 rfl ?_
  refine z_get (T := TX0) (N := 12) C in_X0 0 rfl rfl 4 (by decide) q55 rfl rfl dX0_lay_71 ?_
  refine z_callv (st := []) (q := (RX1, TX1, 1)) (ci := 1) (q0 := 0) C (mX1_clear l D (h 5) (h 6) cI tr) 0 rfl (lw_V q113 q114 q115 q9 q116) (by decide +kernel) (by decide) rfl rfl (Nat.le_of_ble_eq_true rfl) dX0_lay_74 ⟨rfl, rfl⟩ (by decide) [5, 6] [0, 1, 2, 3, 4, 7, 8, 9] [0, 1, 2, 3, 4, 8, 9, 5, 6, 7] [0] rfl rfl rfl rfl (by decide) rfl (fun tr : Nat → Int32 => wX h cI cZ (kd, nb, il, ma, tr, ro, ii, nI n, nI mk, lo, -1, nI r, 0, fr, co)) (fun _ => rfl) rfl (fun tr ht0 => ?_)
  refine z_aload C dX0_lay_77 rfl ?_
  refine z_get (T := TX0) (N := 12) C in_X0 0 rfl rfl 5 (by decide) q56 rfl rfl dX0_lay_78 ?_
  refine z_callv (st := []) (q := (RX2, TX2, 4)) (ci := 2) (q0 := 0) C (mX2_clear l D (h 7) (h 8) (h 9) cI cZ ro ii fr co) 0 rfl (lw_V q117 q118 q119 q10 q120) (by decide +kernel) (by decide) rfl rfl (Nat.le_of_ble_eq_true rfl) dX0_lay_81 ⟨rfl, rfl⟩ (by decide) [7, 8, 9] [0, 1, 2, 3, 4, 5, 6] [0, 1, 2, 3, 4, 5, 6, 7, 8, 9] [0, 1] rfl rfl rfl rfl (by decide) rfl (fun ii : Nat → Int32 => wX h cI cZ (kd, nb, il, ma, tr, ro, ii, nI n, nI mk, lo, -1, nI r, 0, 0, 0)) (fun _ => rfl) rfl (fun ii hi0 => ?_)
  refine z_aload C dX0_lay_84 rfl ?_
  refine z_iconst (v := 0) C dX0_lay_85 (by decide) ?_
  refine z_put (T := TX0) (N := 12) (ws' := wX h cI cZ (kd, nb, il, ma, tr, ro, ii, nI n, nI mk, 0, -1, nI r, 0, 0, 0)) C in_X0 tyX0 tyX0_ok nmX0 0 rfl rfl 8 (by decide) q59 rfl rfl rfl rfl (Nat.le_of_ble_eq_true rfl) dX0_lay_86 rfl ?_
  refine z_iconst (v := (nI 0)) C dX0_lay_89 (by decide) ?_
  refine z_istore (lv' := [(0, .ref (h 0)), (1, .int (nI 0))]) C dX0_lay_90 (by decide) rfl rfl ?_
  refine z_join (ι := (Nat → Bool) × List Nat × (Nat → Int32) × (Nat → Int32) × (Nat → Int32) × (Nat → Int32) × Nat) 162 (fun x => (∀ j, j < n → x.2.2.1 j = bI (x.1 j)) ∧ TRep x.2.2.2.1 (wt n kd nb x.1) ∧ RRep x.2.2.2.2.1 x.2.2.2.2.2.1 x.2.2.2.2.2.2 x.2.1 ∧ rgL n r kd nb ma x.1 x.2.1) (fun x => wX h cI cZ (kd, nb, x.2.2.1, ma, x.2.2.2.1, x.2.2.2.2.1, x.2.2.2.2.2.1, nI n, nI mk, nI (cnL kd x.1 n), -1, nI r, 0, nI x.2.2.2.2.2.2, nI (x.2.1).length)) (fun _ => [(0, .ref (h 0))]) ?_ ?_
  rotate_left
  · intro k162
    refine z_loop (ι := Nat × List Nat × (Nat → Int32) × (Nat → Int32) × (Nat → Int32) × (Nat → Int32)) (fun x => n - x.1) (fun x => x.1 ≤ n ∧ (∀ j, j < x.1 → x.2.2.1 j = 0) ∧ TRep x.2.2.2.1 (wt x.1 kd nb (fun _ => false)) ∧ RRep x.2.2.2.2.1 x.2.2.2.2.2 0 x.2.1 ∧ ∀ j, j ∈ x.2.1 ↔ j < x.1 ∧ kd j = 2) (fun x => wX h cI cZ (kd, nb, x.2.2.1, ma, x.2.2.2.1, x.2.2.2.2.1, x.2.2.2.2.2, nI n, nI mk, 0, -1, nI r, 0, nI 0, nI (x.2.1).length)) (fun x => [(0, .ref (h 0)), (1, .int (nI x.1))]) ?_ (0, [], il, tr, ro, ii) ⟨Nat.zero_le _, fun j hj => absurd hj (Nat.not_lt_zero _), ?_, RRep_0 hi0, fun j => ⟨fun q => absurd q List.not_mem_nil, fun q => absurd q.1 (Nat.not_lt_zero _)⟩⟩
    rotate_left
    · exact TRep_0 ht0
    rintro ⟨k, Q, il, tr, ro, ii⟩ ⟨hk, hil, hT, hR, hQ⟩ ih
    dsimp only at hk hil hT hR hQ ih ⊢
    refine z_iload C dX0_lay_91 rfl ?_
    refine z_aload C dX0_lay_92 rfl ?_
    refine z_get (T := TX0) (N := 12) C in_X0 0 rfl rfl 6 (by decide) q57 rfl rfl dX0_lay_93 ?_
    refine z_cmpN_ge (tgt := 162) C dX0_lay_96 (by decide) (by omega) (by omega) (fun hc2 => ?_) (fun hc2 => ?_)
    · obtain rfl : k = n := by omega
      refine z_lv (lv' := [(0, .ref (h 0))]) rfl ?_
      have ec : (0 : Int32) = nI (cnL kd (fun _ => false) k) := by rw [cnL_0 k (fun _ _ => rfl)]; rfl
      refine z_eq (congrArg (fun z => wX h cI cZ (kd, nb, il, ma, tr, ro, ii, nI k, nI mk, z, -1, nI r, 0, nI 0, nI Q.length)) ec) rfl rfl ?_
      exact k162 (fun _ => false, Q, il, tr, ro, ii, 0) ⟨fun j hj => hil j hj, hT, hR, sdL_0 (fun _ _ => rfl), fun j hj hj2 _ => Or.inl ((hQ j).mpr ⟨hj, hj2⟩), fun j hj => (hQ j).mp hj, fun j _ hj => absurd hj (by simp)⟩
    refine z_aload C dX0_lay_99 rfl ?_
    refine z_get (T := TX0) (N := 12) C in_X0 0 rfl rfl 2 (by decide) q53 rfl rfl dX0_lay_100 ?_
    refine z_iload C dX0_lay_103 rfl ?_
    refine z_iconst (v := 0) C dX0_lay_104 (by decide) ?_
    refine z_zast (y := 0) (ws' := wX h cI cZ (kd, nb, upd il k 0, ma, tr, ro, ii, nI n, nI mk, 0, -1, nI r, 0, nI 0, nI (Q).length)) C 3 1 rfl rfl (by omega) (by decide) dX0_lay_105 rfl rfl ?_
    have hil2 : ∀ j, j < k + 1 → upd il k 0 j = 0 := by
      intro j hj
      by_cases e : j = k
      · rw [e]; exact pk_us
      · exact (pk_un e).trans (hil j (by omega))
    refine z_aload C dX0_lay_106 rfl ?_
    refine z_get (T := TX0) (N := 12) C in_X0 0 rfl rfl 0 (by decide) q51 rfl rfl dX0_lay_107 ?_
    refine z_iload C dX0_lay_110 rfl ?_
    refine z_iald C 1 0 rfl rfl (by omega) (by decide) dX0_lay_111 ?_
    rcases hkinds k hc2 with ⟨e0, x, hx, ex⟩ | e1 | ⟨e2, -⟩
    · skip
      refine z_if_ne (tgt := 129) C dX0_lay_112 (by decide) (fun hc3 => ?_) (fun hc3 => ?_)
      · exact absurd e0 hc3
      refine z_aload C dX0_lay_115 rfl ?_
      refine z_get (T := TX0) (N := 12) C in_X0 0 rfl rfl 4 (by decide) q55 rfl rfl dX0_lay_116 ?_
      refine z_iload C dX0_lay_119 rfl ?_
      refine z_aload C dX0_lay_120 rfl ?_
      refine z_get (T := TX0) (N := 12) C in_X0 0 rfl rfl 1 (by decide) q52 rfl rfl dX0_lay_121 ?_
      refine z_iload C dX0_lay_124 rfl ?_
      refine z_iald C 2 0 rfl rfl (by omega) (by decide) dX0_lay_125 ?_
      refine z_top ex ?_
      refine z_callv (st := []) (q := (RX1, TX1, 1)) (ci := 1) (q0 := 0) C (mX1_add l D (h 5) (h 6) cI tr k (nI x) (by omega)) 2 rfl (lw_V q121 q122 q123 q9 q124) (by decide +kernel) (by decide) rfl rfl (Nat.le_of_ble_eq_true rfl) dX0_lay_126 ⟨rfl, rfl⟩ (by decide) [5, 6] [0, 1, 2, 3, 4, 7, 8, 9] [0, 1, 2, 3, 4, 8, 9, 5, 6, 7] [0] rfl rfl rfl rfl (by decide) rfl (fun _ => wX h cI cZ (kd, nb, upd il k 0, ma, ad (nI x) 2001 tr (k + 1), ro, ii, nI n, nI mk, 0, -1, nI r, 0, nI 0, nI (Q).length)) (fun _ => rfl) rfl (fun _ _ => ?_)
      refine z_aload C dX0_lay_129 rfl ?_
      refine z_get (T := TX0) (N := 12) C in_X0 0 rfl rfl 0 (by decide) q51 rfl rfl dX0_lay_130 ?_
      refine z_iload C dX0_lay_133 rfl ?_
      refine z_iald C 1 0 rfl rfl (by omega) (by decide) dX0_lay_134 ?_
      refine z_iconst (v := 2) C dX0_lay_135 (by decide) ?_
      refine z_cmp_ne (tgt := 156) C dX0_lay_136 (by decide) (fun hc4 => ?_) (fun hc4 => ?_)
      rotate_left
      · exact absurd (e0.symm.trans hc4) (by decide)
      have hT2 := TRep_add x hT (show k < 64 by omega)
      rw [← wt_s0 e0 (by rw [ex]; exact nI_clamp (by omega))] at hT2
      refine z_iinc (j := 1) (v := (nI (k + 1))) (lv' := [(0, .ref (h 0)), (1, .int (nI (k + 1)))]) C dX0_lay_156 rfl (nI_1 k) (by decide) rfl rfl ?_
      refine z_goto (tgt := 91) C dX0_lay_159 (by decide) ?_
      exact ih (k + 1, Q, upd il k 0, ad (nI x) 2001 tr (k + 1), ro, ii) ⟨hc2, hil2, hT2, hR, fun j => (hQ j).trans ⟨fun q => ⟨by omega, q.2⟩, fun q => ⟨by by_cases e : j = k; (· rw [e] at q; exact absurd q.2 (by rw [e0]; decide)); (· omega), q.2⟩⟩⟩ (by dsimp only; omega)
    · skip
      refine z_if_ne (tgt := 129) C dX0_lay_112 (by decide) (fun hc3 => ?_) (fun hc3 => ?_)
      rotate_left
      · exact absurd (e1.symm.trans hc3) (by decide)
      refine z_aload C dX0_lay_129 rfl ?_
      refine z_get (T := TX0) (N := 12) C in_X0 0 rfl rfl 0 (by decide) q51 rfl rfl dX0_lay_130 ?_
      refine z_iload C dX0_lay_133 rfl ?_
      refine z_iald C 1 0 rfl rfl (by omega) (by decide) dX0_lay_134 ?_
      refine z_iconst (v := 2) C dX0_lay_135 (by decide) ?_
      refine z_cmp_ne (tgt := 156) C dX0_lay_136 (by decide) (fun hc4 => ?_) (fun hc4 => ?_)
      rotate_left
      · exact absurd (e1.symm.trans hc4) (by decide)
      refine z_iinc (j := 1) (v := (nI (k + 1))) (lv' := [(0, .ref (h 0)), (1, .int (nI (k + 1)))]) C dX0_lay_156 rfl (nI_1 k) (by decide) rfl rfl ?_
      refine z_goto (tgt := 91) C dX0_lay_159 (by decide) ?_
      exact ih (k + 1, Q, upd il k 0, tr, ro, ii) ⟨hc2, hil2, (by rw [wt_s1 e1]; exact hT), hR, fun j => (hQ j).trans ⟨fun q => ⟨by omega, q.2⟩, fun q => ⟨by by_cases e : j = k; (· rw [e] at q; exact absurd q.2 (by rw [e1]; decide)); (· omega), q.2⟩⟩⟩ (by dsimp only; omega)
    · skip
      refine z_if_ne (tgt := 129) C dX0_lay_112 (by decide) (fun hc3 => ?_) (fun hc3 => ?_)
      rotate_left
      · exact absurd (e2.symm.trans hc3) (by decide)
      refine z_aload C dX0_lay_129 rfl ?_
      refine z_get (T := TX0) (N := 12) C in_X0 0 rfl rfl 0 (by decide) q51 rfl rfl dX0_lay_130 ?_
      refine z_iload C dX0_lay_133 rfl ?_
      refine z_iald C 1 0 rfl rfl (by omega) (by decide) dX0_lay_134 ?_
      refine z_iconst (v := 2) C dX0_lay_135 (by decide) ?_
      refine z_cmp_ne (tgt := 156) C dX0_lay_136 (by decide) (fun hc4 => ?_) (fun hc4 => ?_)
      · exact absurd e2 hc4
      refine z_aload C dX0_lay_139 rfl ?_
      refine z_get (T := TX0) (N := 12) C in_X0 0 rfl rfl 4 (by decide) q55 rfl rfl dX0_lay_140 ?_
      refine z_iload C dX0_lay_143 rfl ?_
      refine z_iconst (v := (nI 1)) C dX0_lay_144 (by decide) ?_
      refine z_callv (st := []) (q := (RX1, TX1, 1)) (ci := 1) (q0 := 0) C (mX1_add l D (h 5) (h 6) cI tr k (nI 1) (by omega)) 2 rfl (lw_V q121 q122 q123 q9 q124) (by decide +kernel) (by decide) rfl rfl (Nat.le_of_ble_eq_true rfl) dX0_lay_145 ⟨rfl, rfl⟩ (by decide) [5, 6] [0, 1, 2, 3, 4, 7, 8, 9] [0, 1, 2, 3, 4, 8, 9, 5, 6, 7] [0] rfl rfl rfl rfl (by decide) rfl (fun _ => wX h cI cZ (kd, nb, upd il k 0, ma, ad (nI 1) 2001 tr (k + 1), ro, ii, nI n, nI mk, 0, -1, nI r, 0, nI 0, nI (Q).length)) (fun _ => rfl) rfl (fun _ _ => ?_)
      have hkQ : k ∉ Q := fun q => absurd ((hQ k).mp q).1 (Nat.lt_irrefl k)
      have hlen : Q.length ≤ n := pig n Q hR.2.1 (fun j hj => Nat.lt_of_lt_of_le ((hQ j).mp hj).1 hk)
      refine z_aload C dX0_lay_148 rfl ?_
      refine z_get (T := TX0) (N := 12) C in_X0 0 rfl rfl 5 (by decide) q56 rfl rfl dX0_lay_149 ?_
      refine z_iload C dX0_lay_152 rfl ?_
      refine z_callv (st := []) (q := (RX2, TX2, 4)) (ci := 2) (q0 := 0) C (mX2_put l D (h 7) (h 8) (h 9) cI cZ ro ii 0 Q k hR (by omega) (by omega)) 1 rfl (lw_V q125 q126 q127 q10 q128) (by decide +kernel) (by decide) rfl rfl (Nat.le_of_ble_eq_true rfl) dX0_lay_153 ⟨rfl, rfl⟩ (by decide) [7, 8, 9] [0, 1, 2, 3, 4, 5, 6] [0, 1, 2, 3, 4, 5, 6, 7, 8, 9] [0, 1] rfl rfl rfl rfl (by decide) rfl (fun u : (Nat → Int32) × (Nat → Int32) => wX h cI cZ (kd, nb, upd il k 0, ma, ad (nI 1) 2001 tr (k + 1), u.1, u.2, nI n, nI mk, 0, -1, nI r, 0, nI 0, nI (rput Q k).length)) (fun _ => rfl) rfl (fun u hu => ?_)
      have hT2 := TRep_add 1 hT (show k < 64 by omega)
      rw [← wt_s2 e2 rfl] at hT2
      have hQ2 : ∀ j, j ∈ rput Q k ↔ j < k + 1 ∧ kd j = 2 := by
        intro j
        rw [rput_mem, hQ j]
        constructor
        · rintro (q | q)
          · exact ⟨by omega, q.2⟩
          · rw [q]; exact ⟨Nat.lt_succ_self _, e2⟩
        · intro q
          by_cases e : j = k
          · exact Or.inr e
          · exact Or.inl ⟨by omega, q.2⟩
      refine z_iinc (j := 1) (v := (nI (k + 1))) (lv' := [(0, .ref (h 0)), (1, .int (nI (k + 1)))]) C dX0_lay_156 rfl (nI_1 k) (by decide) rfl rfl ?_
      refine z_goto (tgt := 91) C dX0_lay_159 (by decide) ?_
      exact ih (k + 1, rput Q k, upd il k 0, ad (nI 1) 2001 tr (k + 1), u.1, u.2) ⟨hc2, hil2, hT2, hu, hQ2⟩ (by dsimp only; omega)
  intro x0 hx0
  refine z_loop (ι := (Nat → Bool) × List Nat × (Nat → Int32) × (Nat → Int32) × (Nat → Int32) × (Nat → Int32) × Nat) (fun x => (n - cnL kd x.1 n) * (n + 1) + x.2.1.length) (fun x => (∀ j, j < n → x.2.2.1 j = bI (x.1 j)) ∧ TRep x.2.2.2.1 (wt n kd nb x.1) ∧ RRep x.2.2.2.2.1 x.2.2.2.2.2.1 x.2.2.2.2.2.2 x.2.1 ∧ rgL n r kd nb ma x.1 x.2.1) (fun x => wX h cI cZ (kd, nb, x.2.2.1, ma, x.2.2.2.1, x.2.2.2.2.1, x.2.2.2.2.2.1, nI n, nI mk, nI (cnL kd x.1 n), -1, nI r, 0, nI x.2.2.2.2.2.2, nI (x.2.1).length)) (fun _ => [(0, .ref (h 0))]) ?_ x0 hx0
  clear x0 hx0
  rintro ⟨L, Q, il, tr, ro, ii, fr⟩ ⟨hil, hT, hR, hG⟩ ih
  dsimp only at hil hT hR hG ih ⊢
  have hQn : ∀ j ∈ Q, j < n := fun j hj => (hG.2.2.1 j hj).1
  have hlen : Q.length ≤ n := pig n Q hR.2.1 hQn
  refine z_aload C dX0_lay_162 rfl ?_
  refine z_get (T := TX0) (N := 12) C in_X0 0 rfl rfl 5 (by decide) q56 rfl rfl dX0_lay_163 ?_
  refine z_calli (st := []) (q := (RX2, TX2, 4)) (ci := 2) (q0 := 0) C (mX2_isEmpty l D (h 7) (h 8) (h 9) cI cZ ro ii (nI fr) Q.length (by omega)) 0 rfl (lw_V q129 q130 q131 q10 q132) (by decide +kernel) (by decide) rfl rfl (Nat.le_of_ble_eq_true rfl) dX0_lay_166 ⟨rfl, rfl⟩ (by decide) [7, 8, 9] [0, 1, 2, 3, 4, 5, 6] [0, 1, 2, 3, 4, 5, 6, 7, 8, 9] [0, 1] rfl rfl rfl rfl (by decide) rfl (fun _ => wX h cI cZ (kd, nb, il, ma, tr, ro, ii, nI n, nI mk, nI (cnL kd L n), -1, nI r, 0, nI fr, nI (Q).length)) (fun _ => rfl) rfl (fun z _ ez => ?_)
  refine z_if_ne (tgt := 186) C dX0_lay_169 (by decide) (fun hc2 => ?_) (fun hc2 => ?_)
  · skip
    have hQ0 : Q = [] := by
      rcases ez with ⟨-, q⟩ | ⟨q, -⟩
      · exact List.eq_nil_of_length_eq_zero q
      · exact absurd q hc2
    subst hQ0
    have hcl : clL n r kd nb ma L := by
      intro k hk hk2
      cases e : L k with
      | true => exact Or.inl rfl
      | false => exact Or.inr ((hG.2.1 k hk hk2 e).elim (fun q => absurd q List.not_mem_nil) id)
    have hLF : ∀ k, k < n → L k = LF n r kd nb ma k := fun k hk => LF_eq hG.1 hcl hk
    rw [wt_congr hLF] at hT
    refine z_aload C dX0_lay_186 rfl ?_
    refine z_iconst (v := 1) C dX0_lay_187 (by decide) ?_
    refine z_put (T := TX0) (N := 12) (ws' := wX h cI cZ (kd, nb, il, ma, tr, ro, ii, nI n, nI mk, nI (cnL kd L n), -1, nI r, 1, nI fr, nI ([] : List Nat).length)) C in_X0 tyX0 tyX0_ok nmX0 0 rfl rfl 11 (by decide) q62 rfl rfl rfl rfl (Nat.le_of_ble_eq_true rfl) dX0_lay_188 rfl ?_
    refine z_aload C dX0_lay_191 rfl ?_
    refine z_get (T := TX0) (N := 12) C in_X0 0 rfl rfl 4 (by decide) q55 rfl rfl dX0_lay_192 ?_
    refine z_aload C dX0_lay_195 rfl ?_
    refine z_get (T := TX0) (N := 12) C in_X0 0 rfl rfl 6 (by decide) q57 rfl rfl dX0_lay_196 ?_
    refine z_calli (st := []) (q := (RX1, TX1, 1)) (ci := 1) (q0 := 0) C (mX1_before l D (h 5) (h 6) cI tr n (by omega)) 1 rfl (lw_V q145 q146 q147 q9 q148) (by decide +kernel) (by decide) rfl rfl (Nat.le_of_ble_eq_true rfl) dX0_lay_199 ⟨rfl, rfl⟩ (by decide) [5, 6] [0, 1, 2, 3, 4, 7, 8, 9] [0, 1, 2, 3, 4, 8, 9, 5, 6, 7] [0] rfl rfl rfl rfl (by decide) rfl (fun _ => wX h cI cZ (kd, nb, il, ma, tr, ro, ii, nI n, nI mk, nI (cnL kd L n), -1, nI r, 1, nI fr, nI ([] : List Nat).length)) (fun _ => rfl) rfl (fun z2 _ ez2 => ?_)
    refine z_iret C hr dX0_lay_202 (kd, nb, il, ma, tr, ro, ii, nI n, nI mk, nI (cnL kd L n), -1, nI r, 1, nI fr, nI ([] : List Nat).length) (Or.inr ⟨hnb, ez2.trans (hT n hn), il, tr, ro, ii, _, _, _, rfl, fun k hk => ?_, hT, ?_, fun k hk hk2 => ?_⟩) rfl rfl
    · rw [hil k hk, hLF k hk]
    · rw [cnL_congr n hLF]
    · exact hG.2.2.2 k hk (by rw [hLF k hk]; exact hk2)
  have hpos : 0 < Q.length := by
    rcases ez with ⟨q, -⟩ | ⟨-, q⟩
    · rw [q] at hc2; exact absurd hc2 (by decide)
    · exact q
  obtain ⟨k, Q1, rfl⟩ : ∃ k Q1, Q = k :: Q1 := by
    cases Q with
    | nil => exact absurd hpos (by decide)
    | cons k Q1 => exact ⟨k, Q1, rfl⟩
  obtain ⟨hkn, hk2⟩ := hG.2.2.1 k List.mem_cons_self
  obtain ⟨-, -, hR1⟩ := RRep_take hR
  have hQ1n : ∀ j ∈ Q1, j < n := fun j hj => hQn j (List.mem_cons_of_mem _ hj)
  refine z_aload C dX0_lay_172 rfl ?_
  refine z_aload C dX0_lay_173 rfl ?_
  refine z_get (T := TX0) (N := 12) C in_X0 0 rfl rfl 5 (by decide) q56 rfl rfl dX0_lay_174 ?_
  refine z_calli (st := [.ref (h 0)]) (q := (RX2, TX2, 4)) (ci := 2) (q0 := 0) C (mX2_take l D (h 7) (h 8) (h 9) cI cZ ro ii fr k Q1 hR) 0 rfl (lw_V q133 q134 q135 q10 q136) (by decide +kernel) (by decide) rfl rfl (Nat.le_of_ble_eq_true rfl) dX0_lay_177 ⟨rfl, rfl⟩ (by decide) [7, 8, 9] [0, 1, 2, 3, 4, 5, 6] [0, 1, 2, 3, 4, 5, 6, 7, 8, 9] [0, 1] rfl rfl rfl rfl (by decide) rfl (fun _ => wX h cI cZ (kd, nb, il, ma, tr, ro, upd ii k 0, nI n, nI mk, nI (cnL kd L n), -1, nI r, 0, nI ((fr + 1) % 2000), nI (Q1).length)) (fun _ => rfl) rfl (fun z3 _ ez3 => ?_)
  subst ez3
  refine z_callv (st := []) (q := (RX0, TX0, 12)) (ci := 0) (q0 := 0) C (mX0_look l D h cI cZ kd nb il ma tr ro (upd ii k 0) (nI mk) (-1) 0 n r mk (cnL kd L n) ((fr + 1) % 2000) L Q1 k hn hmk hr0 hw hf hT hil hR1 hQ1n hkn hk2) 1 rfl (lw_V q137 q139 qs1 q8 q140) (by decide +kernel) (by decide) rfl rfl (Nat.le_of_ble_eq_true rfl) dX0_lay_180 ⟨rfl, rfl⟩ (by decide) [0, 1, 2, 3, 4, 5, 6, 7, 8, 9] [] [0, 1, 2, 3, 4, 5, 6, 7, 8, 9] [0, 1] rfl rfl rfl rfl (by decide) rfl (fun u => wX h cI cZ u) (fun _ => rfl) rfl (fun u hu => ?_)
  refine z_goto (tgt := 162) C dX0_lay_183 (by decide) ?_
  rcases hu with ⟨hs, rfl⟩ | ⟨hs1, hs2, ro2, ii2, Q2, rfl, hR2, hQ2n, hQ2⟩
  · exact ih (L, Q1, il, tr, ro, upd ii k 0, (fr + 1) % 2000) ⟨hil, hT, hR1, rgL_skip hG hs⟩ (by dsimp only [List.length_cons]; omega)
  have hT2 := TRep_add 1 hT (show k < 64 by omega)
  rw [← wt_add hkn hk2 hs1] at hT2
  have hcn : cnL kd (updB L k true) n = cnL kd L n + 1 := by rw [cnL_add hk2 hs1, if_pos hkn]
  refine z_eq (congrArg (fun z => wX h cI cZ (kd, nb, upd il k 1, ma, ad (nI 1) 2001 tr (k + 1), ro2, ii2, nI n, nI mk, z, -1, nI r, 0, nI ((fr + 1) % 2000), nI Q2.length)) (congrArg nI hcn.symm)) rfl rfl ?_
  refine ih (updB L k true, Q2, upd il k 1, ad (nI 1) 2001 tr (k + 1), ro2, ii2, (fr + 1) % 2000) ⟨bI_upd hil, hT2, hR2, rgL_hit hf hG hs1 hs2 hQ2⟩ ?_
  dsimp only [List.length_cons]
  rw [hcn]
  exact rgL_mu (cnL_lt hkn hk2 hs1) (pig n Q2 hR2.2.1 hQ2n)
end
section
theorem ZC.sub {p : Program} {s : State} {m : MethodId} {args : Array Value} {c : Code} {cc : ByteArray} {nL : Nat} {own : String} {D : va_G} {tys tys' : List (ClassId × FieldType)} {A : Nat → Prop} (C : ZC p s m args c cc nL own D tys A) {isT : List Nat} (h : isT.filterMap (fun i => tys[i]?) = tys') : ZC p s m args c cc nL own D tys' A := ⟨C.1, C.2.1.sub isT h, C.2.2⟩
/-- the two words of the nest that BranchLengths() needs -/
abbrev nw1 : Cond := .methodLinkNest "BranchLengths" 25 yX1_init "BranchLengths"
abbrev nw2 : Cond := .methodLinkNest "BranchLengths" 32 yX2_init "BranchLengths"
def zPreN (D : va_G) (tc : List (ClassId × FieldType)) (av : List Value) (wc : va_W) (sz : Nat) : Array Value → State → Prop := va_Pc av (fun U => U.heap.size = sz ∧ va_P D vwCl wc U.heap ∧ va_K D vwCl tc U ∧ va_D (fun _ => True) wc ∧ va_Nw nw1 U ∧ va_Nw nw2 U)
def ZMN (l : Launch) (y : MethodName) (cb : ByteArray) (L : Nat) (ret : Option FieldType) (rm : Room) (D : va_G) (tc : List (ClassId × FieldType)) (av : List Value) (wc : va_W) (Qc : (Nat → Prop) → Array Value → State → Outcome → State → Prop) : Prop :=
  ∀ sz : Nat, Met l y (ws_ y cb L ret) rm (zPreN D tc av wc sz) (Qc (va_A wc sz)) rm.cells rm.slots (va_A wc sz)
theorem z_metN {l : Launch} {own : String} {y : MethodName} {cb : ByteArray} {L : Nat} {ret : Option FieldType} {rm : Room} {D : va_G} {tc : List (ClassId × FieldType)} {av : List Value} {wc : va_W} {Qc : (Nat → Prop) → Array Value → State → Outcome → State → Prop} (ho : y.cls = own) (hy : plainName y.cls = true) (hL : (lg_sl av).length ≤ L)
    (body : ∀ (p : Program) (e : Env) (s : State) (m : MethodId) (below : List Frame) (meth : Method) (c : Code) (A : Nat → Prop), ZC p s m av.toArray c cb L own D tc A → va_Nw nw1 s → va_Nw nw2 s → ZR meth y ret → Z p l e rm s m av.toArray below meth c D A L (MQ below (Qc A) av.toArray s rm.cells rm.slots A) 0 0 wc 0 (lv_args 0 av) []) : ZMN l y cb L ret rm D tc av wc Qc := by
  subst ho
  intro sz
  refine Met.ofW (cc := cb) (maxL := L) (ret := ret) hy rfl ?_
  intro p e s m args below meth c s₁ B hml hv
  obtain ⟨rfl, hsz, hP, hK, hD0, hn1, hn2⟩ := hv
  have hts := atoms_spec (ws := ws_ y cb L ret) B.pre
  have hlk := B.notSynchronized
  subst hsz
  have hl := lv_entry av (n := L) hL
  rw [lg_entry_eq]
  exact body p e s m below meth c (va_A wc s.heap.size) ⟨⟨B.exec, B.bytes, hml, findClass_of_methodNamed B.named, fun w h => hts w (List.mem_cons_of_mem _ h)⟩, hK, fun q h => Or.inr h⟩ hn1 hn2 ⟨B.returns, hlk, (name_of_methodNamed B.named B.method).1⟩ s.heap [] _ hP hD0.self va_S.rf hl
theorem zPreN_blind {D : va_G} {tc : List (ClassId × FieldType)} {av : List Value} {wc : va_W} {sz : Nat} : FrameBlind (zPreN D tc av wc sz) := fun a U g mk q => by
  obtain ⟨q0, q1, qP, qK, qD, n1, n2⟩ := q
  exact ⟨q0, q1, qP, va_K.moved (u := U) (U := U.calling g mk a) (Vm.Alike.refl U.vm) qK, qD, va_Nw.same rfl (rfl : U.vm = (U.calling g mk a).vm) n1, va_Nw.same rfl (rfl : U.vm = (U.calling g mk a).vm) n2⟩
section ZE2
variable {p : Program} {l : Launch} {e : Env} {R : Room} {s : State} {m : MethodId} {args : Array Value} {below : List Frame} {meth : Method} {c : Code} {Q : State → Prop} {cc : ByteArray} {nL : Nat} {own : String} {D : va_G} {tys : List (ClassId × FieldType)} {A : Nat → Prop} {cells slots pc : Nat} {ws : va_W} {lv : List (Nat × Value)} {st : List Value}
variable {S : Type} {y : MethodName} {t1 : S → List (ClassId × FieldType)} {w1 : S → va_W}
variable {cb : ByteArray} {L index ci q0 b : Nat} {ret : Option FieldType} {rm : Room} {tc : List (ClassId × FieldType)} {As : List Value} {wc : va_W} {q : vw_C} {fs : List Value}
theorem z_callIX (C : ZC p s m args c cc nL own D tys A) {post : S → Prop} (hM : ZMN l y cb L none rm D tc (.ref b :: As) wc (zQv D t1 post w1)) (n : Nat) (hn : As.length = n) (hn1 : va_Nw nw1 s) (hn2 : va_Nw nw2 s) (hcw : Cond.code y cb L none ∈ lw_all) (hini : Cond.initialized y.cls ∈ lw_all) (hlk : Cond.methodLink own index y ∈ lw_all) (him : Cond.instanceMethod y ∈ lw_all) (hy1 : y.name = "<init>") (hd0 : y.cls ≠ "java/lang/invoke/MethodHandle" ∧ y.cls ≠ "java/lang/invoke/VarHandle" ∧ (parseMethodDescriptor y.desc).map (fun d => d.parameters.length) = some n) (hR : rm.frames + 1 ≤ R.frames ∧ 8 + (L + 11) + rm.locals ≤ R.locals)
    (hst : (st.map fun v => v.category).sum ≤ 8) (hd : decode cc pc = .ok (.invokespecial index, 3)) (hf : cells + rm.cells ≤ R.cells ∧ slots + rm.slots ≤ R.slots)
    (isC isR isN isT : List Nat) (hC : isC.map (fun i => ws[i]?) = wc.map some) (hcn : va_nd isC = true) (hW : isR.map (fun i => ws[i]?) = (isR.filterMap (fun i => ws[i]?)).map some) (hrn : va_nd isR = true) (hdis : ∀ i ∈ isR, i ∉ isC) (hT : isT.filterMap (fun i => tys[i]?) = tc) (wn : S → va_W) (hN : ∀ u, isN.map (fun i => (isR.filterMap (fun i => ws[i]?) ++ w1 u)[i]?) = (wn u).map some) (hnn : va_nd isN = true)
    (kk : ∀ (u : S), post u → ZC p s m args c cc nL own D (tys ++ t1 u) A → Z p l e R s m args below meth c D A nL Q (cells + rm.cells) (slots + rm.slots) (wn u) (pc + 3) lv st) : Z p l e R s m args below meth c D A nL Q cells slots ws pc lv (As.reverse ++ .ref b :: st) := by
  intro H locs ls hP hD hS hl
  have hPc := hP.sub isC (z_fm isC ws wc hC)
  have hDc := hD.sub isC hcn hC
  have hKc := C.2.1.sub isT hT
  have hFc := va_free (wc := wc) hD hS C.2.2 isC hC
  refine va_callv (va_runI (As := As) (rest := st) C.1 (hM H.size) (cwI n C.1.2.2.2.2 (lw_meth hcw) rfl rfl rfl (C.w hini) (C.w hlk) (C.w him) hy1 hd0 hR) ⟨zPreN_blind, fun U hU hW => ⟨rfl, by rw [hU], by rw [hU]; exact hPc, va_K.moved hW.alike hKc, hDc.weaken (fun _ _ _ _ => trivial), va_Nw.warmM hW hn1, va_Nw.warmM hW hn2⟩⟩ rfl hn hl.1 rfl (lv_room hst) hd hf) hS (fun q _ h => hFc q h) hFc (fun u t H1 locs1 ht hvm hw hB hz1 hk1 hS1 => ?_)
  obtain ⟨hP1, hK1, hD1⟩ := hB
  rw [ht] at hP1
  have hK1 := va_K.moved hvm.symm hK1
  obtain ⟨hP2, hD2⟩ := va_join (wr := isR.filterMap (fun i => ws[i]?)) (w1 := w1 u) hP hD isC isR hC hW hrn hdis hk1 hFc hP1 hD1
  exact kk u hw ⟨C.1, C.2.1.app hK1, C.2.2⟩ H1 locs1 ls (hP2.sub isN (z_fm isN _ _ (hN u))) (hD2.sub isN hnn (hN u)) hS1 hl
end ZE2
set_option maxHeartbeats 1000000 in
set_option maxRecDepth 100000 in
/-- BranchLengths() -/
theorem mX0_init (l : Launch) (D : va_G) (a : Nat) : ZMN l yX0_init cX0_init 1 none ({ frames := 2, cells := 9, slots := 14006, locals := 32 }) D [] [.ref a] [(a, .inr (0, [.null, .null, .null, .null, .null, .null, .int 0, .int 0, .int 0, .int 0, .int 0, .int 0]))] (zQv D (fun u : (Nat → Nat) × ClassId × ClassId => tIZ u.2.1 u.2.2) (fun u => u.1 0 = a) (fun u : (Nat → Nat) × ClassId × ClassId => wX u.1 u.2.1 u.2.2 (fun _ => 0, fun _ => 0, fun _ => 0, fun _ => 0, fun _ => 0, fun _ => 0, fun _ => 0, 0, 0, 0, -1, nI 1000, 0, 0, 0))) := by
  refine z_metN (own := "BranchLengths") rfl (by decide) (Nat.le_of_ble_eq_true rfl) ?_
  intro p e s m below meth c A C hn1 hn2 hr
  refine z_aload C dX0_init_0 rfl ?_
  refine z_objInit C q17 dX0_init_1 (by decide) (by decide) ?_
  refine z_aload C dX0_init_4 rfl ?_
  refine z_sipush (v := nI 2000) C dX0_init_5 (by decide) ?_
  refine z_newa (atype := .int) (ty := .int) C rfl q30 (fun _ => rfl) (by decide) (by decide) (by decide) (by decide) dX0_init_8 (fun q1 c1 C => ?_)
  refine z_putF (T := TX0) (N := 12) (ws' := [(a, .inr (0, [.ref q1, .null, .null, .null, .null, .null, .int 0, .int 0, .int 0, .int 0, .int 0, .int 0])), (q1, .inl (c1, 2000, .inl (fun _ => 0)))]) C in_X0 tyX0 tyX0_ok nmX0 0 rfl rfl 0 (by decide) q51 rfl rfl hr.2.2 rfl rfl rfl (Nat.le_of_ble_eq_true rfl) dX0_init_10 rfl ?_
  refine z_aload C dX0_init_13 rfl ?_
  refine z_sipush (v := nI 2000) C dX0_init_14 (by decide) ?_
  refine z_newa (atype := .int) (ty := .int) C rfl q30 (fun _ => rfl) (by decide) (by decide) (by decide) (by decide) dX0_init_17 (fun q2 c2 C => ?_)
  refine z_putF (T := TX0) (N := 12) (ws' := [(a, .inr (0, [.ref q1, .ref q2, .null, .null, .null, .null, .int 0, .int 0, .int 0, .int 0, .int 0, .int 0])), (q1, .inl (c1, 2000, .inl (fun _ => 0))), (q2, .inl (c2, 2000, .inl (fun _ => 0)))]) C in_X0 tyX0 tyX0_ok nmX0 0 rfl rfl 1 (by decide) q52 rfl rfl hr.2.2 rfl rfl rfl (Nat.le_of_ble_eq_true rfl) dX0_init_19 rfl ?_
  refine z_aload C dX0_init_22 rfl ?_
  refine z_sipush (v := nI 2000) C dX0_init_23 (by decide) ?_
  refine z_newa (atype := .boolean) (ty := .boolean) C rfl q31 (fun _ => rfl) (by decide) (by decide) (by decide) (by decide) dX0_init_26 (fun q3 c3 C => ?_)
  refine z_putF (T := TX0) (N := 12) (ws' := [(a, .inr (0, [.ref q1, .ref q2, .ref q3, .null, .null, .null, .int 0, .int 0, .int 0, .int 0, .int 0, .int 0])), (q1, .inl (c1, 2000, .inl (fun _ => 0))), (q2, .inl (c2, 2000, .inl (fun _ => 0))), (q3, .inl (c3, 2000, .inl (fun _ => 0)))]) C in_X0 tyX0 tyX0_ok nmX0 0 rfl rfl 2 (by decide) q53 rfl rfl hr.2.2 rfl rfl rfl (Nat.le_of_ble_eq_true rfl) dX0_init_28 rfl ?_
  refine z_aload C dX0_init_31 rfl ?_
  refine z_sipush (v := nI 2000) C dX0_init_32 (by decide) ?_
  refine z_newa (atype := .int) (ty := .int) C rfl q30 (fun _ => rfl) (by decide) (by decide) (by decide) (by decide) dX0_init_35 (fun q4 c4 C => ?_)
  refine z_putF (T := TX0) (N := 12) (ws' := [(a, .inr (0, [.ref q1, .ref q2, .ref q3, .ref q4, .null, .null, .int 0, .int 0, .int 0, .int 0, .int 0, .int 0])), (q1, .inl (c1, 2000, .inl (fun _ => 0))), (q2, .inl (c2, 2000, .inl (fun _ => 0))), (q3, .inl (c3, 2000, .inl (fun _ => 0))), (q4, .inl (c4, 2000, .inl (fun _ => 0)))]) C in_X0 tyX0 tyX0_ok nmX0 0 rfl rfl 3 (by decide) q54 rfl rfl hr.2.2 rfl rfl rfl (Nat.le_of_ble_eq_true rfl) dX0_init_37 rfl ?_
  refine z_aload C dX0_init_40 rfl ?_
  refine z_new (ci := 1) (T := TX1) (N := 1) (fs := [.null]) C in_X1 tyX1 tyX1_ok q20 q21 q9 rfl (fun j hj => by rcases (show j = 0 by omega) with rfl; rfl) (by decide) (by decide) dX0_init_41 (fun q5 => ?_)
  refine z_dup C dX0_init_44 rfl ?_
  refine z_callIN (st := [.ref q5, .ref a]) (As := []) C (mX1_init l D q5) 0 rfl q24 q9 hn1 q23 rfl (by decide +kernel) (by decide) (Nat.le_of_ble_eq_true rfl) dX0_init_45 (by decide) [5] [0, 1, 2, 3, 4] [0, 1, 2, 3, 4, 5, 6] [] rfl rfl rfl rfl (by decide) rfl (fun u => [(a, .inr (0, [.ref q1, .ref q2, .ref q3, .ref q4, .null, .null, .int 0, .int 0, .int 0, .int 0, .int 0, .int 0])), (q1, .inl (c1, 2000, .inl (fun _ => 0))), (q2, .inl (c2, 2000, .inl (fun _ => 0))), (q3, .inl (c3, 2000, .inl (fun _ => 0))), (q4, .inl (c4, 2000, .inl (fun _ => 0))), (q5, .inr (1, [.ref u.1])), (u.1, .inl (u.2, 2001, .inl (fun _ => 0)))]) (fun _ => rfl) rfl (fun u _ C => ?_)
  obtain ⟨q6, c5⟩ := u
  dsimp only at C ⊢
  refine z_putF (T := TX0) (N := 12) (ws' := [(a, .inr (0, [.ref q1, .ref q2, .ref q3, .ref q4, .ref q5, .null, .int 0, .int 0, .int 0, .int 0, .int 0, .int 0])), (q1, .inl (c1, 2000, .inl (fun _ => 0))), (q2, .inl (c2, 2000, .inl (fun _ => 0))), (q3, .inl (c3, 2000, .inl (fun _ => 0))), (q4, .inl (c4, 2000, .inl (fun _ => 0))), (q5, .inr (1, [.ref q6])), (q6, .inl (c5, 2001, .inl (fun _ => 0)))]) C in_X0 tyX0 tyX0_ok nmX0 0 rfl rfl 4 (by decide) q55 rfl rfl hr.2.2 rfl rfl rfl (Nat.le_of_ble_eq_true rfl) dX0_init_48 rfl ?_
  refine z_aload C dX0_init_51 rfl ?_
  refine z_new (ci := 2) (T := TX2) (N := 4) (fs := [.null, .null, .int 0, .int 0]) C in_X2 tyX2 tyX2_ok q32 q33 q10 rfl (fun j hj => by rcases (show j = 0 ∨ j = 1 ∨ j = 2 ∨ j = 3 by omega) with rfl | rfl | rfl | rfl <;> rfl) (by decide) (by decide) dX0_init_52 (fun q7 => ?_)
  refine z_dup C dX0_init_55 rfl ?_
  refine z_callIN (st := [.ref q7, .ref a]) (As := []) C (mX2_init l D q7) 0 rfl q36 q10 hn2 q35 rfl (by decide +kernel) (by decide) (Nat.le_of_ble_eq_true rfl) dX0_init_56 (by decide) [7] [0, 1, 2, 3, 4, 5, 6] [0, 1, 2, 3, 4, 5, 6, 7, 8, 9] [] rfl rfl rfl rfl (by decide) rfl (fun u => [(a, .inr (0, [.ref q1, .ref q2, .ref q3, .ref q4, .ref q5, .null, .int 0, .int 0, .int 0, .int 0, .int 0, .int 0])), (q1, .inl (c1, 2000, .inl (fun _ => 0))), (q2, .inl (c2, 2000, .inl (fun _ => 0))), (q3, .inl (c3, 2000, .inl (fun _ => 0))), (q4, .inl (c4, 2000, .inl (fun _ => 0))), (q5, .inr (1, [.ref q6])), (q6, .inl (c5, 2001, .inl (fun _ => 0))), (q7, .inr (2, [.ref u.1, .ref u.2.1, .int 0, .int 0])), (u.1, .inl (u.2.2.1, 2000, .inl (fun _ => 0))), (u.2.1, .inl (u.2.2.2, 2000, .inl (fun _ => 0)))]) (fun _ => rfl) rfl (fun u _ C => ?_)
  obtain ⟨q8, q9_, c6, c7⟩ := u
  dsimp only at C ⊢
  refine z_putF (T := TX0) (N := 12) (ws' := [(a, .inr (0, [.ref q1, .ref q2, .ref q3, .ref q4, .ref q5, .ref q7, .int 0, .int 0, .int 0, .int 0, .int 0, .int 0])), (q1, .inl (c1, 2000, .inl (fun _ => 0))), (q2, .inl (c2, 2000, .inl (fun _ => 0))), (q3, .inl (c3, 2000, .inl (fun _ => 0))), (q4, .inl (c4, 2000, .inl (fun _ => 0))), (q5, .inr (1, [.ref q6])), (q6, .inl (c5, 2001, .inl (fun _ => 0))), (q7, .inr (2, [.ref q8, .ref q9_, .int 0, .int 0])), (q8, .inl (c6, 2000, .inl (fun _ => 0))), (q9_, .inl (c7, 2000, .inl (fun _ => 0)))]) C in_X0 tyX0 tyX0_ok nmX0 0 rfl rfl 5 (by decide) q56 rfl rfl hr.2.2 rfl rfl rfl (Nat.le_of_ble_eq_true rfl) dX0_init_59 rfl ?_
  refine z_aload C dX0_init_62 rfl ?_
  refine z_iconst (v := (-1)) C dX0_init_63 (by decide) ?_
  refine z_put (T := TX0) (N := 12) (ws' := [(a, .inr (0, [.ref q1, .ref q2, .ref q3, .ref q4, .ref q5, .ref q7, .int 0, .int 0, .int 0, .int (-1), .int 0, .int 0])), (q1, .inl (c1, 2000, .inl (fun _ => 0))), (q2, .inl (c2, 2000, .inl (fun _ => 0))), (q3, .inl (c3, 2000, .inl (fun _ => 0))), (q4, .inl (c4, 2000, .inl (fun _ => 0))), (q5, .inr (1, [.ref q6])), (q6, .inl (c5, 2001, .inl (fun _ => 0))), (q7, .inr (2, [.ref q8, .ref q9_, .int 0, .int 0])), (q8, .inl (c6, 2000, .inl (fun _ => 0))), (q9_, .inl (c7, 2000, .inl (fun _ => 0)))]) C in_X0 tyX0 tyX0_ok nmX0 0 rfl rfl 9 (by decide) q60 rfl rfl rfl rfl (Nat.le_of_ble_eq_true rfl) dX0_init_64 rfl ?_
  refine z_aload C dX0_init_67 rfl ?_
  refine z_sipush (v := nI 1000) C dX0_init_68 (by decide) ?_
  refine z_put (T := TX0) (N := 12) (ws' := [(a, .inr (0, [.ref q1, .ref q2, .ref q3, .ref q4, .ref q5, .ref q7, .int 0, .int 0, .int 0, .int (-1), .int (nI 1000), .int 0])), (q1, .inl (c1, 2000, .inl (fun _ => 0))), (q2, .inl (c2, 2000, .inl (fun _ => 0))), (q3, .inl (c3, 2000, .inl (fun _ => 0))), (q4, .inl (c4, 2000, .inl (fun _ => 0))), (q5, .inr (1, [.ref q6])), (q6, .inl (c5, 2001, .inl (fun _ => 0))), (q7, .inr (2, [.ref q8, .ref q9_, .int 0, .int 0])), (q8, .inl (c6, 2000, .inl (fun _ => 0))), (q9_, .inl (c7, 2000, .inl (fun _ => 0)))]) C in_X0 tyX0 tyX0_ok nmX0 0 rfl rfl 10 (by decide) q61 rfl rfl rfl rfl (Nat.le_of_ble_eq_true rfl) dX0_init_71 rfl ?_
  obtain rfl := z_cls C.2.1 (i := 1) (j := 0) (Or.inl rfl) rfl rfl
  obtain rfl := z_cls C.2.1 (i := 3) (j := 1) (Or.inl rfl) rfl rfl
  obtain rfl := z_cls C.2.1 (i := 4) (j := 1) (Or.inl rfl) rfl rfl
  obtain rfl := z_cls C.2.1 (i := 5) (j := 1) (Or.inl rfl) rfl rfl
  obtain rfl := z_cls C.2.1 (i := 6) (j := 2) (Or.inr rfl) rfl rfl
  refine z_widen (k := 9) (n := 14006) (by decide) (by decide) ?_
  have C := ZC.sub C (isT := [0, 2]) (tys' := tIZ _ _) rfl
  exact z_vret C hr dX0_init_74 (fun k => match k with | 0 => a | 1 => q1 | 2 => q2 | 3 => q3 | 4 => q4 | 5 => q5 | 6 => q6 | 7 => q7 | 8 => q8 | _ => q9_, _, _) rfl rfl rfl
end
section
set_option maxHeartbeats 1000000 in
set_option maxRecDepth 100000 in
/-- BranchLengthsModel() -/
theorem mX3_init (l : Launch) (D : va_G) (a : Nat) : ZM l yX3_init cX3_init 1 none ({ frames := 1, cells := 5, slots := 10001, locals := 12 }) D [] [.ref a] [(a, .inr (3, [.null, .null, .null, .null, .null, .int 0, .int 0, .int 0, .int 0, .int 0]))] (zQv D (fun u : (Nat → Nat) × ClassId × ClassId => tIZ u.2.1 u.2.2) (fun u => u.1 0 = a) (fun u : (Nat → Nat) × ClassId × ClassId => wM u.1 u.2.1 u.2.2 (fun _ => 0, fun _ => 0, fun _ => 0, fun _ => 0, fun _ => 0, 0, 0, nI 1000, -1, 0))) := by
  refine z_met (own := "BranchLengthsModel") rfl (by decide) (Nat.le_of_ble_eq_true rfl) ?_
  intro p e s m below meth c A C hr
  refine z_aload C dX3_init_0 rfl ?_
  refine z_objInit C q186 dX3_init_1 (by decide) (by decide) ?_
  refine z_aload C dX3_init_4 rfl ?_
  refine z_sipush (v := nI 2000) C dX3_init_5 (by decide) ?_
  refine z_newa (atype := .int) (ty := .int) C rfl q30 (fun _ => rfl) (by decide) (by decide) (by decide) (by decide) dX3_init_8 (fun q1 c1 C => ?_)
  refine z_putF (T := TX3) (N := 10) (ws' := [(a, .inr (3, [.ref q1, .null, .null, .null, .null, .int 0, .int 0, .int 0, .int 0, .int 0])), (q1, .inl (c1, 2000, .inl (fun _ => 0)))]) C in_X3 tyX3 tyX3_ok nmX3 0 rfl rfl 0 (by decide) q187 rfl rfl hr.2.2 rfl rfl rfl (Nat.le_of_ble_eq_true rfl) dX3_init_10 rfl ?_
  refine z_aload C dX3_init_13 rfl ?_
  refine z_sipush (v := nI 2000) C dX3_init_14 (by decide) ?_
  refine z_newa (atype := .int) (ty := .int) C rfl q30 (fun _ => rfl) (by decide) (by decide) (by decide) (by decide) dX3_init_17 (fun q2 c2 C => ?_)
  refine z_putF (T := TX3) (N := 10) (ws' := [(a, .inr (3, [.ref q1, .ref q2, .null, .null, .null, .int 0, .int 0, .int 0, .int 0, .int 0])), (q1, .inl (c1, 2000, .inl (fun _ => 0))), (q2, .inl (c2, 2000, .inl (fun _ => 0)))]) C in_X3 tyX3 tyX3_ok nmX3 0 rfl rfl 1 (by decide) q188 rfl rfl hr.2.2 rfl rfl rfl (Nat.le_of_ble_eq_true rfl) dX3_init_19 rfl ?_
  refine z_aload C dX3_init_22 rfl ?_
  refine z_sipush (v := nI 2000) C dX3_init_23 (by decide) ?_
  refine z_newa (atype := .boolean) (ty := .boolean) C rfl q31 (fun _ => rfl) (by decide) (by decide) (by decide) (by decide) dX3_init_26 (fun q3 c3 C => ?_)
  refine z_putF (T := TX3) (N := 10) (ws' := [(a, .inr (3, [.ref q1, .ref q2, .ref q3, .null, .null, .int 0, .int 0, .int 0, .int 0, .int 0])), (q1, .inl (c1, 2000, .inl (fun _ => 0))), (q2, .inl (c2, 2000, .inl (fun _ => 0))), (q3, .inl (c3, 2000, .inl (fun _ => 0)))]) C in_X3 tyX3 tyX3_ok nmX3 0 rfl rfl 2 (by decide) q189 rfl rfl hr.2.2 rfl rfl rfl (Nat.le_of_ble_eq_true rfl) dX3_init_28 rfl ?_
  refine z_aload C dX3_init_31 rfl ?_
  refine z_sipush (v := nI 2001) C dX3_init_32 (by decide) ?_
  refine z_newa (atype := .int) (ty := .int) C rfl q30 (fun _ => rfl) (by decide) (by decide) (by decide) (by decide) dX3_init_35 (fun q4 c4 C => ?_)
  refine z_putF (T := TX3) (N := 10) (ws' := [(a, .inr (3, [.ref q1, .ref q2, .ref q3, .ref q4, .null, .int 0, .int 0, .int 0, .int 0, .int 0])), (q1, .inl (c1, 2000, .inl (fun _ => 0))), (q2, .inl (c2, 2000, .inl (fun _ => 0))), (q3, .inl (c3, 2000, .inl (fun _ => 0))), (q4, .inl (c4, 2001, .inl (fun _ => 0)))]) C in_X3 tyX3 tyX3_ok nmX3 0 rfl rfl 3 (by decide) q190 rfl rfl hr.2.2 rfl rfl rfl (Nat.le_of_ble_eq_true rfl) dX3_init_37 rfl ?_
  refine z_aload C dX3_init_40 rfl ?_
  refine z_sipush (v := nI 2000) C dX3_init_41 (by decide) ?_
  refine z_newa (atype := .int) (ty := .int) C rfl q30 (fun _ => rfl) (by decide) (by decide) (by decide) (by decide) dX3_init_44 (fun q5 c5 C => ?_)
  refine z_putF (T := TX3) (N := 10) (ws' := [(a, .inr (3, [.ref q1, .ref q2, .ref q3, .ref q4, .ref q5, .int 0, .int 0, .int 0, .int 0, .int 0])), (q1, .inl (c1, 2000, .inl (fun _ => 0))), (q2, .inl (c2, 2000, .inl (fun _ => 0))), (q3, .inl (c3, 2000, .inl (fun _ => 0))), (q4, .inl (c4, 2001, .inl (fun _ => 0))), (q5, .inl (c5, 2000, .inl (fun _ => 0)))]) C in_X3 tyX3 tyX3_ok nmX3 0 rfl rfl 4 (by decide) q191 rfl rfl hr.2.2 rfl rfl rfl (Nat.le_of_ble_eq_true rfl) dX3_init_46 rfl ?_
  refine z_aload C dX3_init_49 rfl ?_
  refine z_sipush (v := nI 1000) C dX3_init_50 (by decide) ?_
  refine z_put (T := TX3) (N := 10) (ws' := [(a, .inr (3, [.ref q1, .ref q2, .ref q3, .ref q4, .ref q5, .int 0, .int 0, .int (nI 1000), .int 0, .int 0])), (q1, .inl (c1, 2000, .inl (fun _ => 0))), (q2, .inl (c2, 2000, .inl (fun _ => 0))), (q3, .inl (c3, 2000, .inl (fun _ => 0))), (q4, .inl (c4, 2001, .inl (fun _ => 0))), (q5, .inl (c5, 2000, .inl (fun _ => 0)))]) C in_X3 tyX3 tyX3_ok nmX3 0 rfl rfl 7 (by decide) q194 rfl rfl rfl rfl (Nat.le_of_ble_eq_true rfl) dX3_init_53 rfl ?_
  refine z_aload C dX3_init_56 rfl ?_
  refine z_iconst (v := (-1)) C dX3_init_57 (by decide) ?_
  refine z_put (T := TX3) (N := 10) (ws' := [(a, .inr (3, [.ref q1, .ref q2, .ref q3, .ref q4, .ref q5, .int 0, .int 0, .int (nI 1000), .int (-1), .int 0])), (q1, .inl (c1, 2000, .inl (fun _ => 0))), (q2, .inl (c2, 2000, .inl (fun _ => 0))), (q3, .inl (c3, 2000, .inl (fun _ => 0))), (q4, .inl (c4, 2001, .inl (fun _ => 0))), (q5, .inl (c5, 2000, .inl (fun _ => 0)))]) C in_X3 tyX3 tyX3_ok nmX3 0 rfl rfl 8 (by decide) q195 rfl rfl rfl rfl (Nat.le_of_ble_eq_true rfl) dX3_init_58 rfl ?_
  obtain rfl := z_cls C.2.1 (i := 1) (j := 0) (Or.inl rfl) rfl rfl
  obtain rfl := z_cls C.2.1 (i := 3) (j := 1) (Or.inl rfl) rfl rfl
  obtain rfl := z_cls C.2.1 (i := 4) (j := 1) (Or.inl rfl) rfl rfl
  refine z_widen (k := 5) (n := 10001) (by decide) (by decide) ?_
  have C := ZC.sub C (isT := [0, 2]) (tys' := tIZ _ _) rfl
  exact z_vret C hr dX3_init_61 (fun k => match k with | 0 => a | 1 => q1 | 2 => q2 | 3 => q3 | 4 => q4 | _ => q5, _, _) rfl rfl rfl
set_option maxHeartbeats 1000000 in
set_option maxRecDepth 100000 in
/-- item(w, x) of the reference -/
theorem mX3_item (l : Launch) (D : va_G) (h : Nat → Nat) (cI cZ : ClassId) (kd nb lg pl ma : Nat → Int32) (mk re le la : Int32) (n : Nat) (w x : Int32) (hn : n < 2000) : ZM l yX3_item cX3_item 3 (some .int) rmZ D (tIZ cI cZ) [.ref (h 0), .int w, .int x] (wM h cI cZ (kd, nb, lg, pl, ma, nI n, mk, re, le, la)) (zQi D (fun _ => tIZ cI cZ) (fun (r : Int32) (_ : Unit) => r = nI n) (fun _ => wM h cI cZ (upd kd n w, upd nb n x, lg, pl, ma, nI (n + 1), mk, re, le, 0))) := by
  refine z_met (own := "BranchLengthsModel") rfl (by decide) (Nat.le_of_ble_eq_true rfl) ?_
  intro p e s m below meth c A C hr
  refine z_aload C dX3_item_0 rfl ?_
  refine z_get (T := TX3) (N := 10) C in_X3 0 rfl rfl 5 (by decide) q192 rfl rfl dX3_item_1 ?_
  refine z_sipush (v := nI 2000) C dX3_item_4 (by decide) ?_
  refine z_cmpN_ne (tgt := 12) C dX3_item_7 (by decide) (by omega) (by decide) (fun hc => ?_) (fun hc => ?_)
  rotate_left
  · exact absurd hc (by omega)
  refine z_aload C dX3_item_12 rfl ?_
  refine z_get (T := TX3) (N := 10) C in_X3 0 rfl rfl 0 (by decide) q187 rfl rfl dX3_item_13 ?_
  refine z_aload C dX3_item_16 rfl ?_
  refine z_get (T := TX3) (N := 10) C in_X3 0 rfl rfl 5 (by decide) q192 rfl rfl dX3_item_17 ?_
  refine z_iload C dX3_item_20 rfl ?_
  refine z_iast (ws' := wM h cI cZ (upd kd n w, nb, lg, pl, ma, nI n, mk, re, le, la)) C 1 0 rfl rfl hn (by decide) dX3_item_21 rfl ?_
  refine z_aload C dX3_item_22 rfl ?_
  refine z_get (T := TX3) (N := 10) C in_X3 0 rfl rfl 1 (by decide) q188 rfl rfl dX3_item_23 ?_
  refine z_aload C dX3_item_26 rfl ?_
  refine z_get (T := TX3) (N := 10) C in_X3 0 rfl rfl 5 (by decide) q192 rfl rfl dX3_item_27 ?_
  refine z_iload C dX3_item_30 rfl ?_
  refine z_iast (ws' := wM h cI cZ (upd kd n w, upd nb n x, lg, pl, ma, nI n, mk, re, le, la)) C 2 0 rfl rfl hn (by decide) dX3_item_31 rfl ?_
  refine z_aload C dX3_item_32 rfl ?_
  refine z_iconst (v := 0) C dX3_item_33 (by decide) ?_
  refine z_put (T := TX3) (N := 10) (ws' := wM h cI cZ (upd kd n w, upd nb n x, lg, pl, ma, nI n, mk, re, le, 0)) C in_X3 tyX3 tyX3_ok nmX3 0 rfl rfl 9 (by decide) q196 rfl rfl rfl rfl (Nat.le_of_ble_eq_true rfl) dX3_item_34 rfl ?_
  refine z_aload C dX3_item_37 rfl ?_
  refine z_dup C dX3_item_38 rfl ?_
  refine z_get (T := TX3) (N := 10) C in_X3 0 rfl rfl 5 (by decide) q192 rfl rfl dX3_item_39 ?_
  refine z_iconst (v := 1) C dX3_item_42 (by decide) ?_
  refine z_iadd C dX3_item_43 (nI_1 _) ?_
  refine z_put (T := TX3) (N := 10) (ws' := wM h cI cZ (upd kd n w, upd nb n x, lg, pl, ma, nI (n + 1), mk, re, le, 0)) C in_X3 tyX3 tyX3_ok nmX3 0 rfl rfl 5 (by decide) q192 rfl rfl rfl rfl (Nat.le_of_ble_eq_true rfl) dX3_item_44 rfl ?_
  refine z_aload C dX3_item_47 rfl ?_
  refine z_get (T := TX3) (N := 10) C in_X3 0 rfl rfl 5 (by decide) q192 rfl rfl dX3_item_48 ?_
  refine z_iconst (v := 1) C dX3_item_51 (by decide) ?_
  refine z_isub C dX3_item_52 (nI_pred _) ?_
  exact z_iret C hr dX3_item_53 () rfl rfl rfl
set_option maxHeartbeats 1000000 in
set_option maxRecDepth 100000 in
theorem mX3_stretch (l : Launch) (D : va_G) (h : Nat → Nat) (cI cZ : ClassId) (kd nb lg pl ma : Nat → Int32) (mk re le la : Int32) (n : Nat) (x : Int32) (hn : n < 2000) : ZM l yX3_stretch cX3_stretch 2 (some .int) ({ frames := 1, cells := 0, slots := 0, locals := 22 }) D (tIZ cI cZ) [.ref (h 0), .int x] (wM h cI cZ (kd, nb, lg, pl, ma, nI n, mk, re, le, la)) (zQi D (fun _ => tIZ cI cZ) (fun (r : Int32) (u : MS) => ((x < 0 ∨ nI 4000 < x) ∧ r = -1 ∧ u = (kd, nb, lg, pl, ma, nI n, mk, re, le, la)) ∨ (¬ (x < 0 ∨ nI 4000 < x) ∧ r = nI n ∧ u = (upd kd n 0, upd nb n x, lg, pl, ma, nI (n + 1), mk, re, le, 0))) (fun u => wM h cI cZ u)) := by
  refine z_met (own := "BranchLengthsModel") rfl (by decide) (Nat.le_of_ble_eq_true rfl) ?_
  intro p e s m below meth c A C hr
  refine z_iload C dX3_stretch_0 rfl ?_
  refine z_if_lt (tgt := 11) C dX3_stretch_1 (by decide) (fun hc1 => ?_) (fun hc1 => ?_)
  · skip
    refine z_iconst (v := (-1)) C dX3_stretch_11 (by decide) ?_
    refine z_goto (tgt := 21) C dX3_stretch_12 (by decide) ?_
    exact z_iret C hr dX3_stretch_21 (kd, nb, lg, pl, ma, nI n, mk, re, le, la) (Or.inl ⟨Or.inl hc1, rfl, rfl⟩) rfl rfl
  refine z_iload C dX3_stretch_4 rfl ?_
  refine z_sipush (v := nI 4000) C dX3_stretch_5 (by decide) ?_
  refine z_cmp_le (tgt := 15) C dX3_stretch_8 (by decide) (fun hc2 => ?_) (fun hc2 => ?_)
  rotate_left
  · skip
    refine z_iconst (v := (-1)) C dX3_stretch_11 (by decide) ?_
    refine z_goto (tgt := 21) C dX3_stretch_12 (by decide) ?_
    exact z_iret C hr dX3_stretch_21 (kd, nb, lg, pl, ma, nI n, mk, re, le, la) (Or.inl ⟨Or.inr (Int32.not_le.mp hc2), rfl, rfl⟩) rfl rfl
  refine z_aload C dX3_stretch_15 rfl ?_
  refine z_iconst (v := 0) C dX3_stretch_16 (by decide) ?_
  refine z_iload C dX3_stretch_17 rfl ?_
  refine z_calli (st := []) (q := (RX3, TX3, 10)) (ci := 3) (q0 := 0) C (mX3_item l D h cI cZ kd nb lg pl ma mk re le la n 0 x hn) 2 rfl (lw_V q222 q224 qs4 q11 q225) (by decide +kernel) (by decide) rfl rfl (Nat.le_of_ble_eq_true rfl) dX3_stretch_18 ⟨rfl, rfl⟩ (by decide) [0, 1, 2, 3, 4, 5] [] [0, 1, 2, 3, 4, 5] [0, 1] rfl rfl rfl rfl (by decide) rfl (fun _ => wM h cI cZ (upd kd n 0, upd nb n x, lg, pl, ma, nI (n + 1), mk, re, le, 0)) (fun _ => rfl) rfl (fun r _ er => ?_)
  exact z_iret C hr dX3_stretch_21 (upd kd n 0, upd nb n x, lg, pl, ma, nI (n + 1), mk, re, le, 0) (Or.inr ⟨fun q => q.elim hc1 (Int32.not_lt.mpr hc2), er, rfl⟩) rfl rfl
set_option maxHeartbeats 1000000 in
set_option maxRecDepth 100000 in
theorem mX3_mark (l : Launch) (D : va_G) (h : Nat → Nat) (cI cZ : ClassId) (kd nb lg pl ma : Nat → Int32) (re le la : Int32) (n mk : Nat) (hn : n < 2000) (hm : mk < 2000) : ZM l yX3_mark cX3_mark 2 (some .int) ({ frames := 1, cells := 0, slots := 0, locals := 22 }) D (tIZ cI cZ) [.ref (h 0)] (wM h cI cZ (kd, nb, lg, pl, ma, nI n, nI mk, re, le, la)) (zQi D (fun _ => tIZ cI cZ) (fun (r : Int32) (_ : Unit) => r = nI n) (fun _ => wM h cI cZ (upd kd n 1, upd nb n 0, lg, pl, upd ma mk (nI n), nI (n + 1), nI (mk + 1), re, le, 0))) := by
  refine z_met (own := "BranchLengthsModel") rfl (by decide) (Nat.le_of_ble_eq_true rfl) ?_
  intro p e s m below meth c A C hr
  refine z_aload C dX3_mark_0 rfl ?_
  refine z_iconst (v := 1) C dX3_mark_1 (by decide) ?_
  refine z_iconst (v := 0) C dX3_mark_2 (by decide) ?_
  refine z_calli (st := []) (q := (RX3, TX3, 10)) (ci := 3) (q0 := 0) C (mX3_item l D h cI cZ kd nb lg pl ma (nI mk) re le la n 1 0 hn) 2 rfl (lw_V q222 q224 qs4 q11 q225) (by decide +kernel) (by decide) rfl rfl (Nat.le_of_ble_eq_true rfl) dX3_mark_3 ⟨rfl, rfl⟩ (by decide) [0, 1, 2, 3, 4, 5] [] [0, 1, 2, 3, 4, 5] [0, 1] rfl rfl rfl rfl (by decide) rfl (fun _ => wM h cI cZ (upd kd n 1, upd nb n 0, lg, pl, ma, nI (n + 1), (nI mk), re, le, 0)) (fun _ => rfl) rfl (fun r _ er => ?_)
  subst er
  refine z_istore (lv' := [(0, .ref (h 0)), (1, .int (nI n))]) C dX3_mark_6 (by decide) rfl rfl ?_
  refine z_iload C dX3_mark_7 rfl ?_
  refine z_if_ge (tgt := 13) C dX3_mark_8 (by decide) (fun hc => ?_) (fun hc => ?_)
  rotate_left
  · exact absurd (nI_pos' (by omega)) hc
  refine z_aload C dX3_mark_13 rfl ?_
  refine z_get (T := TX3) (N := 10) C in_X3 0 rfl rfl 4 (by decide) q191 rfl rfl dX3_mark_14 ?_
  refine z_aload C dX3_mark_17 rfl ?_
  refine z_get (T := TX3) (N := 10) C in_X3 0 rfl rfl 6 (by decide) q193 rfl rfl dX3_mark_18 ?_
  refine z_iload C dX3_mark_21 rfl ?_
  refine z_iast (ws' := wM h cI cZ (upd kd n 1, upd nb n 0, lg, pl, upd ma mk (nI n), nI (n + 1), nI mk, re, le, 0)) C 5 0 rfl rfl hm (by decide) dX3_mark_22 rfl ?_
  refine z_aload C dX3_mark_23 rfl ?_
  refine z_dup C dX3_mark_24 rfl ?_
  refine z_get (T := TX3) (N := 10) C in_X3 0 rfl rfl 6 (by decide) q193 rfl rfl dX3_mark_25 ?_
  refine z_iconst (v := 1) C dX3_mark_28 (by decide) ?_
  refine z_iadd C dX3_mark_29 (nI_1 _) ?_
  refine z_put (T := TX3) (N := 10) (ws' := wM h cI cZ (upd kd n 1, upd nb n 0, lg, pl, upd ma mk (nI n), nI (n + 1), nI (mk + 1), re, le, 0)) C in_X3 tyX3 tyX3_ok nmX3 0 rfl rfl 6 (by decide) q193 rfl rfl rfl rfl (Nat.le_of_ble_eq_true rfl) dX3_mark_30 rfl ?_
  refine z_iload C dX3_mark_33 rfl ?_
  exact z_iret C hr dX3_mark_34 () rfl rfl rfl
set_option maxHeartbeats 1000000 in
set_option maxRecDepth 100000 in
theorem mX3_branch (l : Launch) (D : va_G) (h : Nat → Nat) (cI cZ : ClassId) (kd nb lg pl ma : Nat → Int32) (mk re le la : Int32) (n : Nat) (x : Int32) (hn : n < 2000) : ZM l yX3_branch cX3_branch 2 (some .int) ({ frames := 1, cells := 0, slots := 0, locals := 22 }) D (tIZ cI cZ) [.ref (h 0), .int x] (wM h cI cZ (kd, nb, lg, pl, ma, nI n, mk, re, le, la)) (zQi D (fun _ => tIZ cI cZ) (fun (r : Int32) (u : MS) => (x < 0 ∧ r = -1 ∧ u = (kd, nb, lg, pl, ma, nI n, mk, re, le, la)) ∨ (¬ x < 0 ∧ r = nI n ∧ u = (upd kd n 2, upd nb n x, lg, pl, ma, nI (n + 1), mk, re, le, 0))) (fun u => wM h cI cZ u)) := by
  refine z_met (own := "BranchLengthsModel") rfl (by decide) (Nat.le_of_ble_eq_true rfl) ?_
  intro p e s m below meth c A C hr
  refine z_iload C dX3_branch_0 rfl ?_
  refine z_if_ge (tgt := 8) C dX3_branch_1 (by decide) (fun hc1 => ?_) (fun hc1 => ?_)
  rotate_left
  · skip
    refine z_iconst (v := (-1)) C dX3_branch_4 (by decide) ?_
    refine z_goto (tgt := 14) C dX3_branch_5 (by decide) ?_
    exact z_iret C hr dX3_branch_14 (kd, nb, lg, pl, ma, nI n, mk, re, le, la) (Or.inl ⟨Int32.not_le.mp hc1, rfl, rfl⟩) rfl rfl
  refine z_aload C dX3_branch_8 rfl ?_
  refine z_iconst (v := 2) C dX3_branch_9 (by decide) ?_
  refine z_iload C dX3_branch_10 rfl ?_
  refine z_calli (st := []) (q := (RX3, TX3, 10)) (ci := 3) (q0 := 0) C (mX3_item l D h cI cZ kd nb lg pl ma mk re le la n 2 x hn) 2 rfl (lw_V q222 q224 qs4 q11 q225) (by decide +kernel) (by decide) rfl rfl (Nat.le_of_ble_eq_true rfl) dX3_branch_11 ⟨rfl, rfl⟩ (by decide) [0, 1, 2, 3, 4, 5] [] [0, 1, 2, 3, 4, 5] [0, 1] rfl rfl rfl rfl (by decide) rfl (fun _ => wM h cI cZ (upd kd n 2, upd nb n x, lg, pl, ma, nI (n + 1), mk, re, le, 0)) (fun _ => rfl) rfl (fun r _ er => ?_)
  exact z_iret C hr dX3_branch_14 (upd kd n 2, upd nb n x, lg, pl, ma, nI (n + 1), mk, re, le, 0) (Or.inr ⟨Int32.not_lt.mpr hc1, er, rfl⟩) rfl rfl
set_option maxHeartbeats 1000000 in
set_option maxRecDepth 100000 in
theorem mX3_reach (l : Launch) (D : va_G) (h : Nat → Nat) (cI cZ : ClassId) (kd nb lg pl ma : Nat → Int32) (it mk re le la : Int32) (x : Int32) : ZM l yX3_reach cX3_reach 2 (some .boolean) rmZ D (tIZ cI cZ) [.ref (h 0), .int x] (wM h cI cZ (kd, nb, lg, pl, ma, it, mk, re, le, la)) (zQi D (fun _ => tIZ cI cZ) (fun (r : Int32) (u : MS) => ((x < 1 ∨ 100000 < x) ∧ r = 0 ∧ u = (kd, nb, lg, pl, ma, it, mk, re, le, la)) ∨ (¬ (x < 1 ∨ 100000 < x) ∧ r = 1 ∧ u = (kd, nb, lg, pl, ma, it, mk, x, le, 0))) (fun u => wM h cI cZ u)) := by
  refine z_met (own := "BranchLengthsModel") rfl (by decide) (Nat.le_of_ble_eq_true rfl) ?_
  intro p e s m below meth c A C hr
  refine z_iload C dX3_reach_0 rfl ?_
  refine z_iconst (v := 1) C dX3_reach_1 (by decide) ?_
  refine z_cmp_lt (tgt := 11) C dX3_reach_2 (by decide) (fun hc1 => ?_) (fun hc1 => ?_)
  · skip
    refine z_iconst (v := 0) C dX3_reach_11 (by decide) ?_
    exact z_zret C hr dX3_reach_12 rfl (kd, nb, lg, pl, ma, it, mk, re, le, la) (Or.inl ⟨Or.inl hc1, rfl, rfl⟩) rfl rfl
  refine z_iload C dX3_reach_5 rfl ?_
  refine z_ldc C q238 dX3_reach_6 ?_
  refine z_cmp_le (tgt := 13) C dX3_reach_8 (by decide) (fun hc2 => ?_) (fun hc2 => ?_)
  rotate_left
  · skip
    refine z_iconst (v := 0) C dX3_reach_11 (by decide) ?_
    exact z_zret C hr dX3_reach_12 rfl (kd, nb, lg, pl, ma, it, mk, re, le, la) (Or.inl ⟨Or.inr (Int32.not_le.mp hc2), rfl, rfl⟩) rfl rfl
  refine z_aload C dX3_reach_13 rfl ?_
  refine z_iload C dX3_reach_14 rfl ?_
  refine z_put (T := TX3) (N := 10) (ws' := wM h cI cZ (kd, nb, lg, pl, ma, it, mk, x, le, la)) C in_X3 tyX3 tyX3_ok nmX3 0 rfl rfl 7 (by decide) q194 rfl rfl rfl rfl (Nat.le_of_ble_eq_true rfl) dX3_reach_15 rfl ?_
  refine z_aload C dX3_reach_18 rfl ?_
  refine z_iconst (v := 0) C dX3_reach_19 (by decide) ?_
  refine z_put (T := TX3) (N := 10) (ws' := wM h cI cZ (kd, nb, lg, pl, ma, it, mk, x, le, 0)) C in_X3 tyX3 tyX3_ok nmX3 0 rfl rfl 9 (by decide) q196 rfl rfl rfl rfl (Nat.le_of_ble_eq_true rfl) dX3_reach_20 rfl ?_
  refine z_iconst (v := 1) C dX3_reach_23 (by decide) ?_
  exact z_zret C hr dX3_reach_24 rfl (kd, nb, lg, pl, ma, it, mk, x, le, 0) (Or.inr ⟨fun q => q.elim hc1 (Int32.not_lt.mpr hc2), rfl, rfl⟩) rfl rfl
set_option maxHeartbeats 1000000 in
set_option maxRecDepth 100000 in
theorem mX3_least (l : Launch) (D : va_G) (h : Nat → Nat) (cI cZ : ClassId) (kd nb lg pl ma : Nat → Int32) (it mk re le la : Int32) : ZM l yX3_least cX3_least 1 (some .int) rmZ D (tIZ cI cZ) [.ref (h 0)] (wM h cI cZ (kd, nb, lg, pl, ma, it, mk, re, le, la)) (zQi D (fun _ => tIZ cI cZ) (fun (r : Int32) (_ : Unit) => r = le) (fun _ => wM h cI cZ (kd, nb, lg, pl, ma, it, mk, re, le, la))) := by
  refine z_met (own := "BranchLengthsModel") rfl (by decide) (Nat.le_of_ble_eq_true rfl) ?_
  intro p e s m below meth c A C hr
  refine z_aload C dX3_least_0 rfl ?_
  refine z_get (T := TX3) (N := 10) C in_X3 0 rfl rfl 8 (by decide) q195 rfl rfl dX3_least_1 ?_
  exact z_iret C hr dX3_least_4 () rfl rfl rfl
set_option maxHeartbeats 1000000 in
set_option maxRecDepth 100000 in
theorem mX3_items (l : Launch) (D : va_G) (h : Nat → Nat) (cI cZ : ClassId) (kd nb lg pl ma : Nat → Int32) (it mk re le la : Int32) : ZM l yX3_items cX3_items 1 (some .int) rmZ D (tIZ cI cZ) [.ref (h 0)] (wM h cI cZ (kd, nb, lg, pl, ma, it, mk, re, le, la)) (zQi D (fun _ => tIZ cI cZ) (fun (r : Int32) (_ : Unit) => r = it) (fun _ => wM h cI cZ (kd, nb, lg, pl, ma, it, mk, re, le, la))) := by
  refine z_met (own := "BranchLengthsModel") rfl (by decide) (Nat.le_of_ble_eq_true rfl) ?_
  intro p e s m below meth c A C hr
  refine z_aload C dX3_items_0 rfl ?_
  refine z_get (T := TX3) (N := 10) C in_X3 0 rfl rfl 5 (by decide) q192 rfl rfl dX3_items_1 ?_
  exact z_iret C hr dX3_items_4 () rfl rfl rfl
set_option maxHeartbeats 1000000 in
set_option maxRecDepth 100000 in
theorem mX3_marks (l : Launch) (D : va_G) (h : Nat → Nat) (cI cZ : ClassId) (kd nb lg pl ma : Nat → Int32) (it mk re le la : Int32) : ZM l yX3_marks cX3_marks 1 (some .int) rmZ D (tIZ cI cZ) [.ref (h 0)] (wM h cI cZ (kd, nb, lg, pl, ma, it, mk, re, le, la)) (zQi D (fun _ => tIZ cI cZ) (fun (r : Int32) (_ : Unit) => r = mk) (fun _ => wM h cI cZ (kd, nb, lg, pl, ma, it, mk, re, le, la))) := by
  refine z_met (own := "BranchLengthsModel") rfl (by decide) (Nat.le_of_ble_eq_true rfl) ?_
  intro p e s m below meth c A C hr
  refine z_aload C dX3_marks_0 rfl ?_
  refine z_get (T := TX3) (N := 10) C in_X3 0 rfl rfl 6 (by decide) q193 rfl rfl dX3_marks_1 ?_
  exact z_iret C hr dX3_marks_4 () rfl rfl rfl
set_option maxHeartbeats 1000000 in
set_option maxRecDepth 100000 in
theorem mX3_clear (l : Launch) (D : va_G) (h : Nat → Nat) (cI cZ : ClassId) (kd nb lg pl ma : Nat → Int32) (it mk re le la : Int32) : ZM l yX3_clear cX3_clear 1 none rmZ D (tIZ cI cZ) [.ref (h 0)] (wM h cI cZ (kd, nb, lg, pl, ma, it, mk, re, le, la)) (zQv D (fun _ => tIZ cI cZ) (fun _ : Unit => True) (fun _ => wM h cI cZ (kd, nb, lg, pl, ma, 0, 0, re, le, 0))) := by
  refine z_met (own := "BranchLengthsModel") rfl (by decide) (Nat.le_of_ble_eq_true rfl) ?_
  intro p e s m below meth c A C hr
  refine z_aload C dX3_clear_0 rfl ?_
  refine z_iconst (v := 0) C dX3_clear_1 (by decide) ?_
  refine z_put (T := TX3) (N := 10) (ws' := wM h cI cZ (kd, nb, lg, pl, ma, 0, mk, re, le, la)) C in_X3 tyX3 tyX3_ok nmX3 0 rfl rfl 5 (by decide) q192 rfl rfl rfl rfl (Nat.le_of_ble_eq_true rfl) dX3_clear_2 rfl ?_
  refine z_aload C dX3_clear_5 rfl ?_
  refine z_iconst (v := 0) C dX3_clear_6 (by decide) ?_
  refine z_put (T := TX3) (N := 10) (ws' := wM h cI cZ (kd, nb, lg, pl, ma, 0, 0, re, le, la)) C in_X3 tyX3 tyX3_ok nmX3 0 rfl rfl 6 (by decide) q193 rfl rfl rfl rfl (Nat.le_of_ble_eq_true rfl) dX3_clear_7 rfl ?_
  refine z_aload C dX3_clear_10 rfl ?_
  refine z_iconst (v := 0) C dX3_clear_11 (by decide) ?_
  refine z_put (T := TX3) (N := 10) (ws' := wM h cI cZ (kd, nb, lg, pl, ma, 0, 0, re, le, 0)) C in_X3 tyX3 tyX3_ok nmX3 0 rfl rfl 9 (by decide) q196 rfl rfl rfl rfl (Nat.le_of_ble_eq_true rfl) dX3_clear_12 rfl ?_
  exact z_vret C hr dX3_clear_15 () trivial rfl rfl
set_option maxHeartbeats 1000000 in
set_option maxRecDepth 100000 in
theorem mX3_place (l : Launch) (D : va_G) (h : Nat → Nat) (cI cZ : ClassId) (kd nb lg pl ma : Nat → Int32) (mk re le la : Int32) (n : Nat) (x : Int32) (hn : n ≤ 64) : ZM l yX3_place cX3_place 2 (some .int) rmZ D (tIZ cI cZ) [.ref (h 0), .int x] (wM h cI cZ (kd, nb, lg, pl, ma, nI n, mk, re, le, la)) (zQi D (fun _ => tIZ cI cZ) (fun (r : Int32) (_ : Unit) => ((la = 0 ∨ x < 0 ∨ nI n ≤ x) ∧ r = -1) ∨ (¬ (la = 0 ∨ x < 0 ∨ nI n ≤ x) ∧ ∃ k, k < n ∧ x = nI k ∧ r = pl k)) (fun _ => wM h cI cZ (kd, nb, lg, pl, ma, nI n, mk, re, le, la))) := by
  refine z_met (own := "BranchLengthsModel") rfl (by decide) (Nat.le_of_ble_eq_true rfl) ?_
  intro p e s m below meth c A C hr
  refine z_aload C dX3_place_0 rfl ?_
  refine z_get (T := TX3) (N := 10) C in_X3 0 rfl rfl 9 (by decide) q196 rfl rfl dX3_place_1 ?_
  refine z_if_eq (tgt := 28) C dX3_place_4 (by decide) (fun hc1 => ?_) (fun hc1 => ?_)
  · skip
    refine z_iconst (v := (-1)) C dX3_place_28 (by decide) ?_
    exact z_iret C hr dX3_place_29 () (Or.inl ⟨Or.inl hc1, rfl⟩) rfl rfl
  refine z_iload C dX3_place_7 rfl ?_
  refine z_if_lt (tgt := 28) C dX3_place_8 (by decide) (fun hc2 => ?_) (fun hc2 => ?_)
  · skip
    refine z_iconst (v := (-1)) C dX3_place_28 (by decide) ?_
    exact z_iret C hr dX3_place_29 () (Or.inl ⟨Or.inr (Or.inl hc2), rfl⟩) rfl rfl
  refine z_iload C dX3_place_11 rfl ?_
  refine z_aload C dX3_place_12 rfl ?_
  refine z_get (T := TX3) (N := 10) C in_X3 0 rfl rfl 5 (by decide) q192 rfl rfl dX3_place_13 ?_
  refine z_cmp_ge (tgt := 28) C dX3_place_16 (by decide) (fun hc3 => ?_) (fun hc3 => ?_)
  · skip
    refine z_iconst (v := (-1)) C dX3_place_28 (by decide) ?_
    exact z_iret C hr dX3_place_29 () (Or.inl ⟨Or.inr (Or.inr hc3), rfl⟩) rfl rfl
  have hb : ¬ (la = 0 ∨ x < 0 ∨ nI n ≤ x) := fun q => q.elim hc1 (fun q => q.elim hc2 hc3)
  obtain ⟨k, hk, rfl⟩ : ∃ k, k < n ∧ x = nI k := by
    rcases pk_ix x (n := n) (by omega) with q | q | q
    · exact absurd q hc2
    · exact absurd q hc3
    · exact q
  refine z_aload C dX3_place_19 rfl ?_
  refine z_get (T := TX3) (N := 10) C in_X3 0 rfl rfl 3 (by decide) q190 rfl rfl dX3_place_20 ?_
  refine z_iload C dX3_place_23 rfl ?_
  refine z_iald C 4 0 rfl rfl (by omega) (by decide) dX3_place_24 ?_
  refine z_goto (tgt := 29) C dX3_place_25 (by decide) ?_
  exact z_iret C hr dX3_place_29 () (Or.inr ⟨hb, k, hk, rfl, rfl⟩) rfl rfl
set_option maxHeartbeats 1000000 in
set_option maxRecDepth 100000 in
theorem mX3_isLong (l : Launch) (D : va_G) (h : Nat → Nat) (cI cZ : ClassId) (kd nb lg pl ma : Nat → Int32) (mk re le la : Int32) (n : Nat) (x : Int32) (hn : n ≤ 64) : ZM l yX3_isLong cX3_isLong 2 (some .boolean) rmZ D (tIZ cI cZ) [.ref (h 0), .int x] (wM h cI cZ (kd, nb, lg, pl, ma, nI n, mk, re, le, la)) (zQi D (fun _ => tIZ cI cZ) (fun (r : Int32) (_ : Unit) => ((la = 0 ∨ x < 0 ∨ nI n ≤ x) ∧ r = 0) ∨ (¬ (la = 0 ∨ x < 0 ∨ nI n ≤ x) ∧ ∃ k, k < n ∧ x = nI k ∧ ((¬ (kd k = 2 ∧ ¬ lg k = 0) ∧ r = 0) ∨ ((kd k = 2 ∧ ¬ lg k = 0) ∧ r = 1)))) (fun _ => wM h cI cZ (kd, nb, lg, pl, ma, nI n, mk, re, le, la))) := by
  refine z_met (own := "BranchLengthsModel") rfl (by decide) (Nat.le_of_ble_eq_true rfl) ?_
  intro p e s m below meth c A C hr
  refine z_aload C dX3_isLong_0 rfl ?_
  refine z_get (T := TX3) (N := 10) C in_X3 0 rfl rfl 9 (by decide) q196 rfl rfl dX3_isLong_1 ?_
  refine z_if_eq (tgt := 42) C dX3_isLong_4 (by decide) (fun hc1 => ?_) (fun hc1 => ?_)
  · skip
    refine z_iconst (v := 0) C dX3_isLong_42 (by decide) ?_
    exact z_zret C hr dX3_isLong_43 rfl () (Or.inl ⟨Or.inl hc1, rfl⟩) rfl rfl
  refine z_iload C dX3_isLong_7 rfl ?_
  refine z_if_lt (tgt := 42) C dX3_isLong_8 (by decide) (fun hc2 => ?_) (fun hc2 => ?_)
  · skip
    refine z_iconst (v := 0) C dX3_isLong_42 (by decide) ?_
    exact z_zret C hr dX3_isLong_43 rfl () (Or.inl ⟨Or.inr (Or.inl hc2), rfl⟩) rfl rfl
  refine z_iload C dX3_isLong_11 rfl ?_
  refine z_aload C dX3_isLong_12 rfl ?_
  refine z_get (T := TX3) (N := 10) C in_X3 0 rfl rfl 5 (by decide) q192 rfl rfl dX3_isLong_13 ?_
  refine z_cmp_ge (tgt := 42) C dX3_isLong_16 (by decide) (fun hc3 => ?_) (fun hc3 => ?_)
  · skip
    refine z_iconst (v := 0) C dX3_isLong_42 (by decide) ?_
    exact z_zret C hr dX3_isLong_43 rfl () (Or.inl ⟨Or.inr (Or.inr hc3), rfl⟩) rfl rfl
  have hb : ¬ (la = 0 ∨ x < 0 ∨ nI n ≤ x) := fun q => q.elim hc1 (fun q => q.elim hc2 hc3)
  obtain ⟨k, hk, rfl⟩ : ∃ k, k < n ∧ x = nI k := by
    rcases pk_ix x (n := n) (by omega) with q | q | q
    · exact absurd q hc2
    · exact absurd q hc3
    · exact q
  refine z_aload C dX3_isLong_19 rfl ?_
  refine z_get (T := TX3) (N := 10) C in_X3 0 rfl rfl 0 (by decide) q187 rfl rfl dX3_isLong_20 ?_
  refine z_iload C dX3_isLong_23 rfl ?_
  refine z_iald C 1 0 rfl rfl (by omega) (by decide) dX3_isLong_24 ?_
  refine z_iconst (v := 2) C dX3_isLong_25 (by decide) ?_
  refine z_cmp_ne (tgt := 42) C dX3_isLong_26 (by decide) (fun hc4 => ?_) (fun hc4 => ?_)
  · skip
    refine z_iconst (v := 0) C dX3_isLong_42 (by decide) ?_
    exact z_zret C hr dX3_isLong_43 rfl () (Or.inr ⟨hb, k, hk, rfl, Or.inl ⟨fun q => hc4 q.1, rfl⟩⟩) rfl rfl
  refine z_aload C dX3_isLong_29 rfl ?_
  refine z_get (T := TX3) (N := 10) C in_X3 0 rfl rfl 2 (by decide) q189 rfl rfl dX3_isLong_30 ?_
  refine z_iload C dX3_isLong_33 rfl ?_
  refine z_zald C 3 1 rfl rfl (by omega) (by decide) dX3_isLong_34 ?_
  refine z_if_eq (tgt := 42) C dX3_isLong_35 (by decide) (fun hc5 => ?_) (fun hc5 => ?_)
  · skip
    refine z_iconst (v := 0) C dX3_isLong_42 (by decide) ?_
    exact z_zret C hr dX3_isLong_43 rfl () (Or.inr ⟨hb, k, hk, rfl, Or.inl ⟨fun q => q.2 hc5, rfl⟩⟩) rfl rfl
  refine z_iconst (v := 1) C dX3_isLong_38 (by decide) ?_
  refine z_goto (tgt := 43) C dX3_isLong_39 (by decide) ?_
  exact z_zret C hr dX3_isLong_43 rfl () (Or.inr ⟨hb, k, hk, rfl, Or.inr ⟨⟨hc4, hc5⟩, rfl⟩⟩) rfl rfl
set_option maxHeartbeats 1000000 in
set_option maxRecDepth 100000 in
theorem mX3_longs (l : Launch) (D : va_G) (h : Nat → Nat) (cI cZ : ClassId) (kd nb lg pl ma : Nat → Int32) (mk re le la : Int32) (n : Nat) (L : Nat → Bool) (hn : n ≤ 64) (hlg : ¬ la = 0 → ∀ k, k < n → lg k = bI (L k)) : ZM l yX3_longs cX3_longs 3 (some .int) rmZ D (tIZ cI cZ) [.ref (h 0)] (wM h cI cZ (kd, nb, lg, pl, ma, nI n, mk, re, le, la)) (zQi D (fun _ => tIZ cI cZ) (fun (r : Int32) (_ : Unit) => (la = 0 ∧ r = -1) ∨ (¬ la = 0 ∧ r = nI (cnL kd L n))) (fun _ => wM h cI cZ (kd, nb, lg, pl, ma, nI n, mk, re, le, la))) := by
  refine z_met (own := "BranchLengthsModel") rfl (by decide) (Nat.le_of_ble_eq_true rfl) ?_
  intro p e s m below meth c A C hr
  refine z_aload C dX3_longs_0 rfl ?_
  refine z_get (T := TX3) (N := 10) C in_X3 0 rfl rfl 9 (by decide) q196 rfl rfl dX3_longs_1 ?_
  refine z_if_ne (tgt := 9) C dX3_longs_4 (by decide) (fun hc1 => ?_) (fun hc1 => ?_)
  rotate_left
  · skip
    refine z_iconst (v := (-1)) C dX3_longs_7 (by decide) ?_
    exact z_iret C hr dX3_longs_8 () (Or.inl ⟨hc1, rfl⟩) rfl rfl
  have hlg := hlg hc1
  refine z_iconst (v := (nI 0)) C dX3_longs_9 (by decide) ?_
  refine z_istore (lv' := [(0, .ref (h 0)), (1, .int (nI 0))]) C dX3_longs_10 (by decide) rfl rfl ?_
  refine z_iconst (v := (nI 0)) C dX3_longs_11 (by decide) ?_
  refine z_istore (lv' := [(0, .ref (h 0)), (1, .int (nI 0)), (2, .int (nI 0))]) C dX3_longs_12 (by decide) rfl rfl ?_
  refine z_loop (ι := Nat × Nat) (fun i => n - i.2) (fun i => i.2 ≤ n ∧ i.1 = cnL kd L i.2) (fun _ => wM h cI cZ (kd, nb, lg, pl, ma, nI n, mk, re, le, la)) (fun i => [(0, .ref (h 0)), (1, .int (nI i.1)), (2, .int (nI i.2))]) ?_ (0, 0) ⟨Nat.zero_le _, rfl⟩
  rintro ⟨q, k⟩ ⟨hk, hq⟩ ih
  dsimp only at hk hq ih ⊢
  refine z_iload C dX3_longs_13 rfl ?_
  refine z_aload C dX3_longs_14 rfl ?_
  refine z_get (T := TX3) (N := 10) C in_X3 0 rfl rfl 5 (by decide) q192 rfl rfl dX3_longs_15 ?_
  refine z_cmpN_ge (tgt := 49) C dX3_longs_18 (by decide) (by omega) (by omega) (fun hc2 => ?_) (fun hc2 => ?_)
  · obtain rfl : k = n := by omega
    subst hq
    refine z_iload C dX3_longs_49 rfl ?_
    exact z_iret C hr dX3_longs_50 () (Or.inr ⟨hc1, rfl⟩) rfl rfl
  refine z_aload C dX3_longs_21 rfl ?_
  refine z_get (T := TX3) (N := 10) C in_X3 0 rfl rfl 0 (by decide) q187 rfl rfl dX3_longs_22 ?_
  refine z_iload C dX3_longs_25 rfl ?_
  refine z_iald C 1 0 rfl rfl (by omega) (by decide) dX3_longs_26 ?_
  refine z_iconst (v := 2) C dX3_longs_27 (by decide) ?_
  refine z_cmp_ne (tgt := 43) C dX3_longs_28 (by decide) (fun hc3 => ?_) (fun hc3 => ?_)
  · skip
    refine z_iinc (j := 2) (v := (nI (k + 1))) (lv' := [(0, .ref (h 0)), (1, .int (nI q)), (2, .int (nI (k + 1)))]) C dX3_longs_43 rfl (nI_1 k) (by decide) rfl rfl ?_
    refine z_goto (tgt := 13) C dX3_longs_46 (by decide) ?_
    exact ih (q, k + 1) ⟨hc2, by dsimp only [cnL]; rw [if_neg (fun z => hc3 z.1), hq, Nat.add_zero]⟩ (by dsimp only; omega)
  refine z_aload C dX3_longs_31 rfl ?_
  refine z_get (T := TX3) (N := 10) C in_X3 0 rfl rfl 2 (by decide) q189 rfl rfl dX3_longs_32 ?_
  refine z_iload C dX3_longs_35 rfl ?_
  refine z_zald C 3 1 rfl rfl (by omega) (by decide) dX3_longs_36 ?_
  refine z_top (hlg k hc2) ?_
  refine z_if_eq (tgt := 43) C dX3_longs_37 (by decide) (fun hc4 => ?_) (fun hc4 => ?_)
  · skip
    have hc4 := bI_0 hc4
    refine z_iinc (j := 2) (v := (nI (k + 1))) (lv' := [(0, .ref (h 0)), (1, .int (nI q)), (2, .int (nI (k + 1)))]) C dX3_longs_43 rfl (nI_1 k) (by decide) rfl rfl ?_
    refine z_goto (tgt := 13) C dX3_longs_46 (by decide) ?_
    exact ih (q, k + 1) ⟨hc2, by dsimp only [cnL]; rw [if_neg (fun z => by rw [hc4] at z; exact absurd z.2 (by decide)), hq, Nat.add_zero]⟩ (by dsimp only; omega)
  have hc4 := bI_1 hc4
  refine z_iinc (j := 1) (v := (nI (q + 1))) (lv' := [(0, .ref (h 0)), (1, .int (nI (q + 1))), (2, .int (nI k))]) C dX3_longs_40 rfl (nI_1 q) (by decide) rfl rfl ?_
  refine z_iinc (j := 2) (v := (nI (k + 1))) (lv' := [(0, .ref (h 0)), (1, .int (nI (q + 1))), (2, .int (nI (k + 1)))]) C dX3_longs_43 rfl (nI_1 k) (by decide) rfl rfl ?_
  refine z_goto (tgt := 13) C dX3_longs_46 (by decide) ?_
  exact ih ((q + 1), k + 1) ⟨hc2, by dsimp only [cnL]; rw [if_pos ⟨hc3, hc4⟩, hq]⟩ (by dsimp only; omega)
end
section
theorem wt_at0 {n k x : Nat} {kd nb : Nat → Int32} {L : Nat → Bool} (hk : k < n) (h : kd k = 0) (hx : (nb k).toNatClampNeg = x) : wt n kd nb L k = x := by
  unfold wt
  rw [if_pos hk, if_pos h, hx]
theorem wt_at1 {n k : Nat} {kd nb : Nat → Int32} {L : Nat → Bool} (h : kd k = 1) : wt n kd nb L k = 0 := by
  unfold wt
  rw [if_neg (show ¬ kd k = 0 by rw [h]; decide), if_neg (show ¬ kd k = 2 by rw [h]; decide)]
  split <;> rfl
theorem wt_at2 {n k : Nat} {kd nb : Nat → Int32} {L : Nat → Bool} (hk : k < n) (h : kd k = 2) : wt n kd nb L k = if L k then 2 else 1 := by
  unfold wt
  rw [if_pos hk, if_neg (show ¬ kd k = 0 by rw [h]; decide), if_pos h]
set_option maxHeartbeats 1000000 in
set_option maxRecDepth 100000 in
/-- addUp() -/
theorem mX3_addUp (l : Launch) (D : va_G) (h : Nat → Nat) (cI cZ : ClassId) (kd nb lg pl ma : Nat → Int32) (mk re le la : Int32) (n : Nat) (L : Nat → Bool) (hn : n ≤ 64) (hks : ∀ k, k < n → (kd k = 0 ∧ ∃ x, x ≤ 4000 ∧ nb k = nI x) ∨ kd k = 1 ∨ (kd k = 2 ∧ ∃ x, x < 2 ^ 31 ∧ nb k = nI x)) (hlg : ∀ k, k < n → lg k = bI (L k)) : ZM l yX3_addUp cX3_addUp 2 none rmZ D (tIZ cI cZ) [.ref (h 0)] (wM h cI cZ (kd, nb, lg, pl, ma, nI n, mk, re, le, la)) (zQv D (fun _ => tIZ cI cZ) (fun pl2 : Nat → Int32 => ∀ q, q ≤ n → pl2 q = nI (ps (wt n kd nb L) q)) (fun pl2 => wM h cI cZ (kd, nb, lg, pl2, ma, nI n, mk, re, le, la))) := by
  refine z_met (own := "BranchLengthsModel") rfl (by decide) (Nat.le_of_ble_eq_true rfl) ?_
  intro p e s m below meth c A C hr
  refine z_aload C dX3_addUp_0 rfl ?_
  refine z_get (T := TX3) (N := 10) C in_X3 0 rfl rfl 3 (by decide) q190 rfl rfl dX3_addUp_1 ?_
  refine z_iconst (v := (nI 0)) C dX3_addUp_4 (by decide) ?_
  refine z_iconst (v := 0) C dX3_addUp_5 (by decide) ?_
  refine z_iast (ws' := wM h cI cZ (kd, nb, lg, upd pl 0 0, ma, nI n, mk, re, le, la)) C 4 0 rfl rfl (by decide) (by decide) dX3_addUp_6 rfl ?_
  refine z_iconst (v := (nI 0)) C dX3_addUp_7 (by decide) ?_
  refine z_istore (lv' := [(0, .ref (h 0)), (1, .int (nI 0))]) C dX3_addUp_8 (by decide) rfl rfl ?_
  refine z_loop (ι := Nat × (Nat → Int32)) (fun i => n - i.1) (fun i => i.1 ≤ n ∧ ∀ q, q ≤ i.1 → i.2 q = nI (ps (wt n kd nb L) q)) (fun i => wM h cI cZ (kd, nb, lg, i.2, ma, nI n, mk, re, le, la)) (fun i => [(0, .ref (h 0)), (1, .int (nI i.1))]) ?_ (0, upd pl 0 0) ⟨Nat.zero_le _, fun q hq => ?_⟩
  rotate_left
  · obtain rfl : q = 0 := by dsimp only at hq; omega
    show upd pl 0 0 0 = nI 0
    exact pk_us.trans nI_0.symm
  rintro ⟨k, pl⟩ ⟨hk, hpl⟩ ih
  dsimp only at hk hpl ih ⊢
  refine z_iload C dX3_addUp_9 rfl ?_
  refine z_aload C dX3_addUp_10 rfl ?_
  refine z_get (T := TX3) (N := 10) C in_X3 0 rfl rfl 5 (by decide) q192 rfl rfl dX3_addUp_11 ?_
  refine z_cmpN_ge (tgt := 84) C dX3_addUp_14 (by decide) (by omega) (by omega) (fun hc1 => ?_) (fun hc1 => ?_)
  · obtain rfl : k = n := by omega
    exact z_vret C hr dX3_addUp_84 pl hpl rfl rfl
  have next : ∀ d, wt n kd nb L k = d → ∀ q, q ≤ k + 1 → upd pl (k + 1) (nI (ps (wt n kd nb L) k + d)) q = nI (ps (wt n kd nb L) q) := by
    intro d hd q hq
    by_cases e : q = k + 1
    · subst e; rw [pk_us, ← hd]; rfl
    · rw [pk_un e]; exact hpl q (by omega)
  refine z_aload C dX3_addUp_17 rfl ?_
  refine z_get (T := TX3) (N := 10) C in_X3 0 rfl rfl 3 (by decide) q190 rfl rfl dX3_addUp_18 ?_
  refine z_iload C dX3_addUp_21 rfl ?_
  refine z_iconst (v := 1) C dX3_addUp_22 (by decide) ?_
  refine z_iadd C dX3_addUp_23 (nI_1 _) ?_
  refine z_aload C dX3_addUp_24 rfl ?_
  refine z_get (T := TX3) (N := 10) C in_X3 0 rfl rfl 3 (by decide) q190 rfl rfl dX3_addUp_25 ?_
  refine z_iload C dX3_addUp_28 rfl ?_
  refine z_iald C 4 0 rfl rfl (by omega) (by decide) dX3_addUp_29 ?_
  refine z_top (hpl k (Nat.le_refl k)) ?_
  refine z_aload C dX3_addUp_30 rfl ?_
  refine z_get (T := TX3) (N := 10) C in_X3 0 rfl rfl 0 (by decide) q187 rfl rfl dX3_addUp_31 ?_
  refine z_iload C dX3_addUp_34 rfl ?_
  refine z_iald C 1 0 rfl rfl (by omega) (by decide) dX3_addUp_35 ?_
  rcases hks k hc1 with ⟨e0, x, hx, ex⟩ | e1 | ⟨e2, -⟩
  · skip
    refine z_if_ne (tgt := 48) C dX3_addUp_36 (by decide) (fun hc2 => ?_) (fun hc2 => ?_)
    · exact absurd e0 hc2
    refine z_aload C dX3_addUp_39 rfl ?_
    refine z_get (T := TX3) (N := 10) C in_X3 0 rfl rfl 1 (by decide) q188 rfl rfl dX3_addUp_40 ?_
    refine z_iload C dX3_addUp_43 rfl ?_
    refine z_iald C 2 0 rfl rfl (by omega) (by decide) dX3_addUp_44 ?_
    refine z_top ex ?_
    refine z_goto (tgt := 76) C dX3_addUp_45 (by decide) ?_
    refine z_iadd C dX3_addUp_76 (nI_add _ _) ?_
    refine z_iast (ws' := wM h cI cZ (kd, nb, lg, upd pl (k + 1) (nI (ps (wt n kd nb L) k + x)), ma, nI n, mk, re, le, la)) C 4 0 rfl rfl (by omega) (by decide) dX3_addUp_77 rfl ?_
    refine z_iinc (j := 1) (v := (nI (k + 1))) (lv' := [(0, .ref (h 0)), (1, .int (nI (k + 1)))]) C dX3_addUp_78 rfl (nI_1 k) (by decide) rfl rfl ?_
    refine z_goto (tgt := 9) C dX3_addUp_81 (by decide) ?_
    exact ih (k + 1, upd pl (k + 1) (nI (ps (wt n kd nb L) k + x))) ⟨hc1, next x (wt_at0 hc1 e0 (by rw [ex]; exact nI_clamp (by omega)))⟩ (by dsimp only; omega)
  · skip
    refine z_if_ne (tgt := 48) C dX3_addUp_36 (by decide) (fun hc2 => ?_) (fun hc2 => ?_)
    rotate_left
    · exact absurd (e1.symm.trans hc2) (by decide)
    refine z_aload C dX3_addUp_48 rfl ?_
    refine z_get (T := TX3) (N := 10) C in_X3 0 rfl rfl 0 (by decide) q187 rfl rfl dX3_addUp_49 ?_
    refine z_iload C dX3_addUp_52 rfl ?_
    refine z_iald C 1 0 rfl rfl (by omega) (by decide) dX3_addUp_53 ?_
    refine z_iconst (v := 1) C dX3_addUp_54 (by decide) ?_
    refine z_cmp_ne (tgt := 62) C dX3_addUp_55 (by decide) (fun hc3 => ?_) (fun hc3 => ?_)
    · exact absurd e1 hc3
    refine z_iconst (v := (nI 0)) C dX3_addUp_58 (by decide) ?_
    refine z_goto (tgt := 76) C dX3_addUp_59 (by decide) ?_
    refine z_iadd C dX3_addUp_76 (nI_add _ _) ?_
    refine z_iast (ws' := wM h cI cZ (kd, nb, lg, upd pl (k + 1) (nI (ps (wt n kd nb L) k + 0)), ma, nI n, mk, re, le, la)) C 4 0 rfl rfl (by omega) (by decide) dX3_addUp_77 rfl ?_
    refine z_iinc (j := 1) (v := (nI (k + 1))) (lv' := [(0, .ref (h 0)), (1, .int (nI (k + 1)))]) C dX3_addUp_78 rfl (nI_1 k) (by decide) rfl rfl ?_
    refine z_goto (tgt := 9) C dX3_addUp_81 (by decide) ?_
    exact ih (k + 1, upd pl (k + 1) (nI (ps (wt n kd nb L) k + 0))) ⟨hc1, next 0 (wt_at1 e1)⟩ (by dsimp only; omega)
  · skip
    refine z_if_ne (tgt := 48) C dX3_addUp_36 (by decide) (fun hc2 => ?_) (fun hc2 => ?_)
    rotate_left
    · exact absurd (e2.symm.trans hc2) (by decide)
    refine z_aload C dX3_addUp_48 rfl ?_
    refine z_get (T := TX3) (N := 10) C in_X3 0 rfl rfl 0 (by decide) q187 rfl rfl dX3_addUp_49 ?_
    refine z_iload C dX3_addUp_52 rfl ?_
    refine z_iald C 1 0 rfl rfl (by omega) (by decide) dX3_addUp_53 ?_
    refine z_iconst (v := 1) C dX3_addUp_54 (by decide) ?_
    refine z_cmp_ne (tgt := 62) C dX3_addUp_55 (by decide) (fun hc3 => ?_) (fun hc3 => ?_)
    rotate_left
    · exact absurd (e2.symm.trans hc3) (by decide)
    refine z_aload C dX3_addUp_62 rfl ?_
    refine z_get (T := TX3) (N := 10) C in_X3 0 rfl rfl 2 (by decide) q189 rfl rfl dX3_addUp_63 ?_
    refine z_iload C dX3_addUp_66 rfl ?_
    refine z_zald C 3 1 rfl rfl (by omega) (by decide) dX3_addUp_67 ?_
    refine z_top (hlg k hc1) ?_
    refine z_if_eq (tgt := 75) C dX3_addUp_68 (by decide) (fun hc4 => ?_) (fun hc4 => ?_)
    · skip
      refine z_iconst (v := (nI 1)) C dX3_addUp_75 (by decide) ?_
      refine z_iadd C dX3_addUp_76 (nI_add _ _) ?_
      refine z_iast (ws' := wM h cI cZ (kd, nb, lg, upd pl (k + 1) (nI (ps (wt n kd nb L) k + 1)), ma, nI n, mk, re, le, la)) C 4 0 rfl rfl (by omega) (by decide) dX3_addUp_77 rfl ?_
      refine z_iinc (j := 1) (v := (nI (k + 1))) (lv' := [(0, .ref (h 0)), (1, .int (nI (k + 1)))]) C dX3_addUp_78 rfl (nI_1 k) (by decide) rfl rfl ?_
      refine z_goto (tgt := 9) C dX3_addUp_81 (by decide) ?_
      exact ih (k + 1, upd pl (k + 1) (nI (ps (wt n kd nb L) k + 1))) ⟨hc1, next 1 (by rw [wt_at2 hc1 e2, bI_0 hc4]; rfl)⟩ (by dsimp only; omega)
    refine z_iconst (v := (nI 2)) C dX3_addUp_71 (by decide) ?_
    refine z_goto (tgt := 76) C dX3_addUp_72 (by decide) ?_
    refine z_iadd C dX3_addUp_76 (nI_add _ _) ?_
    refine z_iast (ws' := wM h cI cZ (kd, nb, lg, upd pl (k + 1) (nI (ps (wt n kd nb L) k + 2)), ma, nI n, mk, re, le, la)) C 4 0 rfl rfl (by omega) (by decide) dX3_addUp_77 rfl ?_
    refine z_iinc (j := 1) (v := (nI (k + 1))) (lv' := [(0, .ref (h 0)), (1, .int (nI (k + 1)))]) C dX3_addUp_78 rfl (nI_1 k) (by decide) rfl rfl ?_
    refine z_goto (tgt := 9) C dX3_addUp_81 (by decide) ?_
    exact ih (k + 1, upd pl (k + 1) (nI (ps (wt n kd nb L) k + 2))) ⟨hc1, next 2 (by rw [wt_at2 hc1 e2, bI_1 hc4]; rfl)⟩ (by dsimp only; omega)
set_option maxHeartbeats 1000000 in
set_option maxRecDepth 100000 in
/-- reaches(k) of the reference -/
theorem mX3_reaches (l : Launch) (D : va_G) (h : Nat → Nat) (cI cZ : ClassId) (kd nb lg pl ma : Nat → Int32) (mk le la : Int32) (n r mq : Nat) (L0 L : Nat → Bool) (k : Nat) (hn : n ≤ 64) (hmq : mq ≤ n) (hr0 : r ≤ 100000) (hw : ∀ k, k < n → kd k = 0 → (nb k).toNatClampNeg ≤ 4000) (hf : fitL n mq kd nb ma) (hpl : ∀ q, q ≤ n → pl q = nI (ps (wt n kd nb L0) q)) (hlg : ∀ k, k < n → lg k = bI (L k)) (hk : k < n) (h2 : kd k = 2) : ZM l yX3_reaches cX3_reaches 3 (some .boolean) rmZ D (tIZ cI cZ) [.ref (h 0), .int (nI k)] (wM h cI cZ (kd, nb, lg, pl, ma, nI n, mk, nI r, le, la)) (zQi D (fun _ => tIZ cI cZ) (fun (z : Int32) (_ : Unit) => (z = 1 ∧ (L k = true ∨ okL n r kd nb ma L0 k)) ∨ (z = 0 ∧ L k = false ∧ ¬ okL n r kd nb ma L0 k)) (fun _ => wM h cI cZ (kd, nb, lg, pl, ma, nI n, mk, nI r, le, la))) := by
  refine z_met (own := "BranchLengthsModel") rfl (by decide) (Nat.le_of_ble_eq_true rfl) ?_
  intro p e s m below meth c A C hr
  obtain ⟨f1, f2, f3, f4, f5⟩ := hf k hk h2
  have ba := psw_le (L := L0) hw (q := toN nb ma k) (by omega)
  have bb := psw_le (L := L0) hw (q := k) (by omega)
  refine z_aload C dX3_reaches_0 rfl ?_
  refine z_get (T := TX3) (N := 10) C in_X3 0 rfl rfl 3 (by decide) q190 rfl rfl dX3_reaches_1 ?_
  refine z_aload C dX3_reaches_4 rfl ?_
  refine z_get (T := TX3) (N := 10) C in_X3 0 rfl rfl 4 (by decide) q191 rfl rfl dX3_reaches_5 ?_
  refine z_aload C dX3_reaches_8 rfl ?_
  refine z_get (T := TX3) (N := 10) C in_X3 0 rfl rfl 1 (by decide) q188 rfl rfl dX3_reaches_9 ?_
  refine z_iload C dX3_reaches_12 rfl ?_
  refine z_iald C 2 0 rfl rfl (by omega) (by decide) dX3_reaches_13 ?_
  refine z_top f2 ?_
  refine z_iald C 5 0 rfl rfl (by omega) (by decide) dX3_reaches_14 ?_
  refine z_top f4 ?_
  refine z_iald C 4 0 rfl rfl (by omega) (by decide) dX3_reaches_15 ?_
  refine z_top (hpl _ (by omega)) ?_
  refine z_aload C dX3_reaches_16 rfl ?_
  refine z_get (T := TX3) (N := 10) C in_X3 0 rfl rfl 3 (by decide) q190 rfl rfl dX3_reaches_17 ?_
  refine z_iload C dX3_reaches_20 rfl ?_
  refine z_iald C 4 0 rfl rfl (by omega) (by decide) dX3_reaches_21 ?_
  refine z_top (hpl _ (by omega)) ?_
  refine z_isub C dX3_reaches_22 rfl ?_
  refine z_istore (lv' := [(0, .ref (h 0)), (1, .int (nI k)), (2, .int (nI (ps (wt n kd nb L0) (toN nb ma k)) - nI (ps (wt n kd nb L0) k)))]) C dX3_reaches_23 (by decide) rfl rfl ?_
  refine z_aload C dX3_reaches_24 rfl ?_
  refine z_get (T := TX3) (N := 10) C in_X3 0 rfl rfl 2 (by decide) q189 rfl rfl dX3_reaches_25 ?_
  refine z_iload C dX3_reaches_28 rfl ?_
  refine z_zald C 3 1 rfl rfl (by omega) (by decide) dX3_reaches_29 ?_
  refine z_top (hlg k hk) ?_
  refine z_if_ne (tgt := 50) C dX3_reaches_30 (by decide) (fun hc0 => ?_) (fun hc0 => ?_)
  · skip
    refine z_iconst (v := 1) C dX3_reaches_50 (by decide) ?_
    refine z_goto (tgt := 55) C dX3_reaches_51 (by decide) ?_
    exact z_zret C hr dX3_reaches_55 rfl () (Or.inl ⟨rfl, Or.inl (bI_1 hc0)⟩) rfl rfl
  have hc0 := bI_0 hc0
  refine z_iload C dX3_reaches_33 rfl ?_
  refine z_aload C dX3_reaches_34 rfl ?_
  refine z_get (T := TX3) (N := 10) C in_X3 0 rfl rfl 7 (by decide) q194 rfl rfl dX3_reaches_35 ?_
  refine z_ineg C dX3_reaches_38 rfl ?_
  refine z_cmp_lt (tgt := 54) C dX3_reaches_39 (by decide) (fun hc1 => ?_) (fun hc1 => ?_)
  · skip
    have hc1 := (rc_lo ba bb hr0).mp hc1
    refine z_iconst (v := 0) C dX3_reaches_54 (by decide) ?_
    exact z_zret C hr dX3_reaches_55 rfl () (Or.inr ⟨rfl, hc0, fun q => by have := q.2; omega⟩) rfl rfl
  have hc1 := Nat.not_lt.mp (fun q => hc1 ((rc_lo ba bb hr0).mpr q))
  refine z_iload C dX3_reaches_42 rfl ?_
  refine z_aload C dX3_reaches_43 rfl ?_
  refine z_get (T := TX3) (N := 10) C in_X3 0 rfl rfl 7 (by decide) q194 rfl rfl dX3_reaches_44 ?_
  refine z_cmp_gt (tgt := 54) C dX3_reaches_47 (by decide) (fun hc2 => ?_) (fun hc2 => ?_)
  · skip
    have hc2 := (rc_hi ba bb hr0).mp hc2
    refine z_iconst (v := 0) C dX3_reaches_54 (by decide) ?_
    exact z_zret C hr dX3_reaches_55 rfl () (Or.inr ⟨rfl, hc0, fun q => by have := q.1; omega⟩) rfl rfl
  have hc2 := Nat.not_lt.mp (fun q => hc2 ((rc_hi ba bb hr0).mpr q))
  refine z_iconst (v := 1) C dX3_reaches_50 (by decide) ?_
  refine z_goto (tgt := 55) C dX3_reaches_51 (by decide) ?_
  exact z_zret C hr dX3_reaches_55 rfl () (Or.inl ⟨rfl, Or.inr ⟨by omega, by omega⟩⟩) rfl rfl
/-- what the reference's lay() leaves -/
def layM (n r : Nat) (kd nb ma lg pl : Nat → Int32) : Prop := (∀ k, k < n → lg k = bI (LF n r kd nb ma k)) ∧ ∀ q, q ≤ n → pl q = nI (ps (wt n kd nb (LF n r kd nb ma)) q)
set_option maxHeartbeats 1000000 in
set_option maxRecDepth 100000 in
/-- lay() of the reference -/
theorem mX3_lay (l : Launch) (D : va_G) (h : Nat → Nat) (cI cZ : ClassId) (kd nb lg pl ma : Nat → Int32) (le la : Int32) (n mk r : Nat) (hK : KOK n mk r kd nb ma) : ZM l yX3_lay cX3_lay 3 (some .int) ({ frames := 1, cells := 0, slots := 0, locals := 22 }) D (tIZ cI cZ) [.ref (h 0)] (wM h cI cZ (kd, nb, lg, pl, ma, nI n, nI mk, nI r, le, la)) (zQi D (fun _ => tIZ cI cZ) (fun (z : Int32) (u : MS) => (∃ k0, k0 < n ∧ badL mk kd nb k0 ∧ (∀ j, j < k0 → ¬ badL mk kd nb j) ∧ z = -1 ∧ u = (kd, nb, lg, pl, ma, nI n, nI mk, nI r, nI k0, 0)) ∨ ((∀ j, j < n → ¬ badL mk kd nb j) ∧ z = nI (ps (wt n kd nb (LF n r kd nb ma)) n) ∧ ∃ (lg2 pl2 : Nat → Int32), u = (kd, nb, lg2, pl2, ma, nI n, nI mk, nI r, -1, 1) ∧ layM n r kd nb ma lg2 pl2)) (fun u => wM h cI cZ u)) := by
  refine z_met (own := "BranchLengthsModel") rfl (by decide) (Nat.le_of_ble_eq_true rfl) ?_
  intro p e s m below meth c A C hr
  obtain ⟨hn, hmk, hr1, hr0, hkinds, hmarks⟩ := id hK
  have hw := KOK_words hK
  refine z_aload C dX3_lay_0 rfl ?_
  refine z_iconst (v := 0) C dX3_lay_1 (by decide) ?_
  refine z_put (T := TX3) (N := 10) (ws' := wM h cI cZ (kd, nb, lg, pl, ma, nI n, nI mk, nI r, le, 0)) C in_X3 tyX3 tyX3_ok nmX3 0 rfl rfl 9 (by decide) q196 rfl rfl rfl rfl (Nat.le_of_ble_eq_true rfl) dX3_lay_2 rfl ?_
  refine z_aload C dX3_lay_5 rfl ?_
  refine z_iconst (v := (-1)) C dX3_lay_6 (by decide) ?_
  refine z_put (T := TX3) (N := 10) (ws' := wM h cI cZ (kd, nb, lg, pl, ma, nI n, nI mk, nI r, -1, 0)) C in_X3 tyX3 tyX3_ok nmX3 0 rfl rfl 8 (by decide) q195 rfl rfl rfl rfl (Nat.le_of_ble_eq_true rfl) dX3_lay_7 rfl ?_
  refine z_iconst (v := (nI 0)) C dX3_lay_10 (by decide) ?_
  refine z_istore (lv' := [(0, .ref (h 0)), (1, .int (nI 0))]) C dX3_lay_11 (by decide) rfl rfl ?_
  refine z_join (ι := Int32) 61 (fun le => fbL n mk kd nb le) (fun le => wM h cI cZ (kd, nb, lg, pl, ma, nI n, nI mk, nI r, le, 0)) (fun _ => [(0, .ref (h 0))]) ?_ ?_
  rotate_left
  · intro k61
    refine z_loop (ι := Nat × Int32) (fun i => n - i.1) (fun i => fsL n mk kd nb i.1 i.2) (fun i => wM h cI cZ (kd, nb, lg, pl, ma, nI n, nI mk, nI r, i.2, 0)) (fun i => [(0, .ref (h 0)), (1, .int (nI i.1))]) ?_ (0, -1) ⟨Nat.zero_le _, Or.inl ⟨rfl, fun j hj => absurd hj (Nat.not_lt_zero _)⟩⟩
    rintro ⟨k, le⟩ hi ih
    dsimp only at hi ih ⊢
    have hkn := hi.1
    refine z_iload C dX3_lay_12 rfl ?_
    refine z_aload C dX3_lay_13 rfl ?_
    refine z_get (T := TX3) (N := 10) C in_X3 0 rfl rfl 5 (by decide) q192 rfl rfl dX3_lay_14 ?_
    refine z_cmpN_ge (tgt := 61) C dX3_lay_17 (by decide) (by omega) (by omega) (fun hc1 => ?_) (fun hc1 => ?_)
    · refine z_lv (lv' := [(0, .ref (h 0))]) rfl ?_
      exact k61 le (fsL_end hi hc1)
    refine z_aload C dX3_lay_20 rfl ?_
    refine z_get (T := TX3) (N := 10) C in_X3 0 rfl rfl 8 (by decide) q195 rfl rfl dX3_lay_21 ?_
    refine z_if_ge (tgt := 61) C dX3_lay_24 (by decide) (fun hc2 => ?_) (fun hc2 => ?_)
    · refine z_lv (lv' := [(0, .ref (h 0))]) rfl ?_
      exact k61 le (fsL_end2 hi hc2)
    refine z_aload C dX3_lay_27 rfl ?_
    refine z_get (T := TX3) (N := 10) C in_X3 0 rfl rfl 0 (by decide) q187 rfl rfl dX3_lay_28 ?_
    refine z_iload C dX3_lay_31 rfl ?_
    refine z_iald C 1 0 rfl rfl (by omega) (by decide) dX3_lay_32 ?_
    refine z_iconst (v := 2) C dX3_lay_33 (by decide) ?_
    refine z_cmp_ne (tgt := 55) C dX3_lay_34 (by decide) (fun hc3 => ?_) (fun hc3 => ?_)
    · skip
      refine z_iinc (j := 1) (v := (nI (k + 1))) (lv' := [(0, .ref (h 0)), (1, .int (nI (k + 1)))]) C dX3_lay_55 rfl (nI_1 k) (by decide) rfl rfl ?_
      refine z_goto (tgt := 12) C dX3_lay_58 (by decide) ?_
      exact ih (k + 1, le) (fsL_skip hi hc2 hc1 (fun q => hc3 q.1)) (by dsimp only; omega)
    refine z_aload C dX3_lay_37 rfl ?_
    refine z_get (T := TX3) (N := 10) C in_X3 0 rfl rfl 1 (by decide) q188 rfl rfl dX3_lay_38 ?_
    refine z_iload C dX3_lay_41 rfl ?_
    refine z_iald C 2 0 rfl rfl (by omega) (by decide) dX3_lay_42 ?_
    refine z_aload C dX3_lay_43 rfl ?_
    refine z_get (T := TX3) (N := 10) C in_X3 0 rfl rfl 6 (by decide) q193 rfl rfl dX3_lay_44 ?_
    refine z_cmp_lt (tgt := 55) C dX3_lay_47 (by decide) (fun hc4 => ?_) (fun hc4 => ?_)
    · skip
      refine z_iinc (j := 1) (v := (nI (k + 1))) (lv' := [(0, .ref (h 0)), (1, .int (nI (k + 1)))]) C dX3_lay_55 rfl (nI_1 k) (by decide) rfl rfl ?_
      refine z_goto (tgt := 12) C dX3_lay_58 (by decide) ?_
      exact ih (k + 1, le) (fsL_skip hi hc2 hc1 (fun q => Int32.not_lt.mpr q.2 hc4)) (by dsimp only; omega)
    refine z_aload C dX3_lay_50 rfl ?_
    refine z_iload C dX3_lay_51 rfl ?_
    refine z_put (T := TX3) (N := 10) (ws' := wM h cI cZ (kd, nb, lg, pl, ma, nI n, nI mk, nI r, nI k, 0)) C in_X3 tyX3 tyX3_ok nmX3 0 rfl rfl 8 (by decide) q195 rfl rfl rfl rfl (Nat.le_of_ble_eq_true rfl) dX3_lay_52 rfl ?_
    refine z_iinc (j := 1) (v := (nI (k + 1))) (lv' := [(0, .ref (h 0)), (1, .int (nI (k + 1)))]) C dX3_lay_55 rfl (nI_1 k) (by decide) rfl rfl ?_
    refine z_goto (tgt := 12) C dX3_lay_58 (by decide) ?_
    exact ih (k + 1, nI k) (fsL_hit hi hn hc2 hc1 ⟨hc3, Int32.not_lt.mp hc4⟩) (by dsimp only; omega)
  intro le hfb
  dsimp only
  refine z_aload C dX3_lay_61 rfl ?_
  refine z_get (T := TX3) (N := 10) C in_X3 0 rfl rfl 8 (by decide) q195 rfl rfl dX3_lay_62 ?_
  refine z_if_lt (tgt := 70) C dX3_lay_65 (by decide) (fun hc1 => ?_) (fun hc1 => ?_)
  rotate_left
  · skip
    rcases hfb with ⟨q, -⟩ | ⟨k0, g1, g2, g3, g4⟩
    · rw [q] at hc1; exact absurd (by decide) hc1
    subst g2
    refine z_iconst (v := (-1)) C dX3_lay_68 (by decide) ?_
    exact z_iret C hr dX3_lay_69 (kd, nb, lg, pl, ma, nI n, nI mk, nI r, nI k0, 0) (Or.inl ⟨k0, g1, g3, g4, rfl, rfl⟩) rfl rfl
  have hnb : le = -1 ∧ ∀ j, j < n → ¬ badL mk kd nb j := by
    rcases hfb with q | ⟨k0, g1, g2, -⟩
    · exact q
    · rw [g2] at hc1; exact absurd hc1 (nI_pos (by omega))
  obtain ⟨rfl, hnb⟩ := hnb
  have hf := KOK_fit hK hnb
  refine z_iconst (v := (nI 0)) C dX3_lay_70 (by decide) ?_
  refine z_istore (lv' := [(0, .ref (h 0)), (1, .int (nI 0))]) C dX3_lay_71 (by decide) rfl rfl ?_
  refine z_join (ι := Bool × (Nat → Bool) × (Nat → Int32) × (Nat → Int32)) 95 (fun x => (∀ j, j < n → x.2.2.1 j = bI (x.2.1 j)) ∧ sdL n r kd nb ma x.2.1 ∧ (x.1 = false → clL n r kd nb ma x.2.1 ∧ ∀ q, q ≤ n → x.2.2.2 q = nI (ps (wt n kd nb x.2.1) q))) (fun x => wM h cI cZ (kd, nb, x.2.2.1, x.2.2.2, ma, nI n, nI mk, nI r, -1, 0)) (fun x => [(0, .ref (h 0)), (1, .int (bI x.1))]) ?_ ?_
  rotate_left
  · intro k95
    refine z_loop (ι := Nat × (Nat → Int32)) (fun i => n - i.1) (fun i => i.1 ≤ n ∧ ∀ j, j < i.1 → i.2 j = 0) (fun i => wM h cI cZ (kd, nb, i.2, pl, ma, nI n, nI mk, nI r, -1, 0)) (fun i => [(0, .ref (h 0)), (1, .int (nI i.1))]) ?_ (0, lg) ⟨Nat.zero_le _, fun j hj => absurd hj (Nat.not_lt_zero _)⟩
    rintro ⟨k, lg⟩ ⟨hk, hlg⟩ ih
    dsimp only at hk hlg ih ⊢
    refine z_iload C dX3_lay_72 rfl ?_
    refine z_aload C dX3_lay_73 rfl ?_
    refine z_get (T := TX3) (N := 10) C in_X3 0 rfl rfl 5 (by decide) q192 rfl rfl dX3_lay_74 ?_
    refine z_cmpN_ge (tgt := 93) C dX3_lay_77 (by decide) (by omega) (by omega) (fun hc2 => ?_) (fun hc2 => ?_)
    · skip
      refine z_iconst (v := bI true) C dX3_lay_93 (by decide) ?_
      refine z_istore (lv' := [(0, .ref (h 0)), (1, .int (bI true))]) C dX3_lay_94 (by decide) rfl rfl ?_
      exact k95 (true, fun _ => false, lg, pl) ⟨fun j hj => hlg j (by omega), sdL_0 (fun _ _ => rfl), fun q => absurd (show true = false from q) (by decide)⟩
    refine z_aload C dX3_lay_80 rfl ?_
    refine z_get (T := TX3) (N := 10) C in_X3 0 rfl rfl 2 (by decide) q189 rfl rfl dX3_lay_81 ?_
    refine z_iload C dX3_lay_84 rfl ?_
    refine z_iconst (v := 0) C dX3_lay_85 (by decide) ?_
    refine z_zast (y := 0) (ws' := wM h cI cZ (kd, nb, upd lg k 0, pl, ma, nI n, nI mk, nI r, -1, 0)) C 3 1 rfl rfl (by omega) (by decide) dX3_lay_86 rfl rfl ?_
    refine z_iinc (j := 1) (v := (nI (k + 1))) (lv' := [(0, .ref (h 0)), (1, .int (nI (k + 1)))]) C dX3_lay_87 rfl (nI_1 k) (by decide) rfl rfl ?_
    refine z_goto (tgt := 72) C dX3_lay_90 (by decide) ?_
    refine ih (k + 1, upd lg k 0) ⟨hc2, fun j hj => ?_⟩ (by dsimp only; omega)
    by_cases ej : j = k
    · rw [ej]; exact pk_us
    · exact (pk_un ej).trans (hlg j (by dsimp only at hj; omega))
  intro x0 hx0
  refine z_loop (ι := Bool × (Nat → Bool) × (Nat → Int32) × (Nat → Int32)) (fun x => (n - cnL kd x.2.1 n) + (if x.1 then 1 else 0)) (fun x => (∀ j, j < n → x.2.2.1 j = bI (x.2.1 j)) ∧ sdL n r kd nb ma x.2.1 ∧ (x.1 = false → clL n r kd nb ma x.2.1 ∧ ∀ q, q ≤ n → x.2.2.2 q = nI (ps (wt n kd nb x.2.1) q))) (fun x => wM h cI cZ (kd, nb, x.2.2.1, x.2.2.2, ma, nI n, nI mk, nI r, -1, 0)) (fun x => [(0, .ref (h 0)), (1, .int (bI x.1))]) ?_ x0 hx0
  clear x0 hx0
  rintro ⟨b, L, lg, pl⟩ ⟨hlg, hsd, hcl⟩ ih
  dsimp only at hlg hsd hcl ih ⊢
  refine z_iload C dX3_lay_95 rfl ?_
  refine z_if_eq (tgt := 154) C dX3_lay_96 (by decide) (fun hc2 => ?_) (fun hc2 => ?_)
  · skip
    obtain ⟨hcl, hpl⟩ := hcl (bI_0 hc2)
    have hLF : ∀ k, k < n → L k = LF n r kd nb ma k := fun k hk => LF_eq hsd hcl hk
    rw [wt_congr hLF] at hpl
    refine z_aload C dX3_lay_154 rfl ?_
    refine z_iconst (v := 1) C dX3_lay_155 (by decide) ?_
    refine z_put (T := TX3) (N := 10) (ws' := wM h cI cZ (kd, nb, lg, pl, ma, nI n, nI mk, nI r, -1, 1)) C in_X3 tyX3 tyX3_ok nmX3 0 rfl rfl 9 (by decide) q196 rfl rfl rfl rfl (Nat.le_of_ble_eq_true rfl) dX3_lay_156 rfl ?_
    refine z_aload C dX3_lay_159 rfl ?_
    refine z_get (T := TX3) (N := 10) C in_X3 0 rfl rfl 3 (by decide) q190 rfl rfl dX3_lay_160 ?_
    refine z_aload C dX3_lay_163 rfl ?_
    refine z_get (T := TX3) (N := 10) C in_X3 0 rfl rfl 5 (by decide) q192 rfl rfl dX3_lay_164 ?_
    refine z_iald C 4 0 rfl rfl (by omega) (by decide) dX3_lay_167 ?_
    exact z_iret C hr dX3_lay_168 (kd, nb, lg, pl, ma, nI n, nI mk, nI r, -1, 1) (Or.inr ⟨hnb, hpl n (Nat.le_refl n), lg, pl, rfl, fun k hk => (hlg k hk).trans (by rw [hLF k hk]), hpl⟩) rfl rfl
  obtain rfl : b = true := bI_1 hc2
  refine z_aload C dX3_lay_99 rfl ?_
  refine z_callv (st := []) (q := (RX3, TX3, 10)) (ci := 3) (q0 := 0) C (mX3_addUp l D h cI cZ kd nb lg pl ma (nI mk) (nI r) (-1) 0 n L hn hkinds hlg) 0 rfl (lw_V q243 q245 qs5 q11 q246) (by decide +kernel) (by decide) rfl rfl (Nat.le_of_ble_eq_true rfl) dX3_lay_100 ⟨rfl, rfl⟩ (by decide) [0, 1, 2, 3, 4, 5] [] [0, 1, 2, 3, 4, 5] [0, 1] rfl rfl rfl rfl (by decide) rfl (fun pl => wM h cI cZ (kd, nb, lg, pl, ma, nI n, nI mk, nI r, -1, 0)) (fun _ => rfl) rfl (fun pl hpl => ?_)
  refine z_iconst (v := bI false) C dX3_lay_103 (by decide) ?_
  refine z_istore (lv' := [(0, .ref (h 0)), (1, .int (bI false))]) C dX3_lay_104 (by decide) rfl rfl ?_
  refine z_iconst (v := (nI 0)) C dX3_lay_105 (by decide) ?_
  refine z_istore (lv' := [(0, .ref (h 0)), (1, .int (bI false)), (2, .int (nI 0))]) C dX3_lay_106 (by decide) rfl rfl ?_
  refine z_loop (ι := Nat × Bool × (Nat → Bool) × (Nat → Int32)) (fun x => n - x.1) (fun x => x.1 ≤ n ∧ (∀ j, j < n → x.2.2.2 j = bI (x.2.2.1 j)) ∧ sdL n r kd nb ma x.2.2.1 ∧ ((x.2.1 = false ∧ x.2.2.1 = L ∧ ∀ j, j < x.1 → kd j = 2 → L j = true ∨ okL n r kd nb ma L j) ∨ (x.2.1 = true ∧ cnL kd L n < cnL kd x.2.2.1 n))) (fun x => wM h cI cZ (kd, nb, x.2.2.2, pl, ma, nI n, nI mk, nI r, -1, 0)) (fun x => [(0, .ref (h 0)), (1, .int (bI x.2.1)), (2, .int (nI x.1))]) ?_ (0, false, L, lg) ⟨Nat.zero_le _, hlg, hsd, Or.inl ⟨rfl, rfl, fun j hj => absurd hj (Nat.not_lt_zero _)⟩⟩
  rintro ⟨k, b, L1, lg1⟩ ⟨hk, hlg1, hsd1, hor⟩ ih4
  dsimp only at hk hlg1 hsd1 hor ih4 ⊢
  refine z_iload C dX3_lay_107 rfl ?_
  refine z_aload C dX3_lay_108 rfl ?_
  refine z_get (T := TX3) (N := 10) C in_X3 0 rfl rfl 5 (by decide) q192 rfl rfl dX3_lay_109 ?_
  refine z_cmpN_ge (tgt := 151) C dX3_lay_112 (by decide) (by omega) (by omega) (fun hc3 => ?_) (fun hc3 => ?_)
  · skip
    obtain rfl : k = n := by omega
    refine z_goto (tgt := 95) C dX3_lay_151 (by decide) ?_
    refine z_lv (lv' := [(0, .ref (h 0)), (1, .int (bI b))]) rfl ?_
    rcases hor with ⟨rfl, rfl, hcl1⟩ | ⟨rfl, hlt⟩
    · exact ih (false, L1, lg1, pl) ⟨hlg1, hsd1, fun _ => ⟨hcl1, hpl⟩⟩ (by dsimp only; simp)
    · have hle := cnL_le kd L1 k
      exact ih (true, L1, lg1, pl) ⟨hlg1, hsd1, fun q => absurd (show true = false from q) (by decide)⟩ (by dsimp only; simp; omega)
  have skip : (kd k = 2 → L1 k = true ∨ okL n r kd nb ma L k) → (b = false ∧ L1 = L ∧ ∀ j, j < k + 1 → kd j = 2 → L j = true ∨ okL n r kd nb ma L j) ∨ (b = true ∧ cnL kd L n < cnL kd L1 n) := by
    intro hsk
    rcases hor with ⟨e1, e2, hj⟩ | q
    · refine Or.inl ⟨e1, e2, fun j hjk hj2 => ?_⟩
      by_cases e : j = k
      · subst e; rw [e2] at hsk; exact hsk hj2
      · exact hj j (by omega) hj2
    · exact Or.inr q
  refine z_aload C dX3_lay_115 rfl ?_
  refine z_get (T := TX3) (N := 10) C in_X3 0 rfl rfl 0 (by decide) q187 rfl rfl dX3_lay_116 ?_
  refine z_iload C dX3_lay_119 rfl ?_
  refine z_iald C 1 0 rfl rfl (by omega) (by decide) dX3_lay_120 ?_
  refine z_iconst (v := 2) C dX3_lay_121 (by decide) ?_
  refine z_cmp_ne (tgt := 145) C dX3_lay_122 (by decide) (fun hc4 => ?_) (fun hc4 => ?_)
  · skip
    refine z_iinc (j := 2) (v := (nI (k + 1))) (lv' := [(0, .ref (h 0)), (1, .int (bI b)), (2, .int (nI (k + 1)))]) C dX3_lay_145 rfl (nI_1 k) (by decide) rfl rfl ?_
    refine z_goto (tgt := 107) C dX3_lay_148 (by decide) ?_
    exact ih4 (k + 1, b, L1, lg1) ⟨hc3, hlg1, hsd1, skip (fun q => absurd q hc4)⟩ (by dsimp only; omega)
  refine z_aload C dX3_lay_125 rfl ?_
  refine z_iload C dX3_lay_126 rfl ?_
  refine z_calli (st := []) (q := (RX3, TX3, 10)) (ci := 3) (q0 := 0) C (mX3_reaches l D h cI cZ kd nb lg1 pl ma (nI mk) (-1) 0 n r mk L L1 k hn hmk hr0 hw hf hpl hlg1 hc3 hc4) 1 rfl (lw_V q247 q249 qs6 q11 q250) (by decide +kernel) (by decide) rfl rfl (Nat.le_of_ble_eq_true rfl) dX3_lay_127 ⟨rfl, rfl⟩ (by decide) [0, 1, 2, 3, 4, 5] [] [0, 1, 2, 3, 4, 5] [0, 1] rfl rfl rfl rfl (by decide) rfl (fun _ => wM h cI cZ (kd, nb, lg1, pl, ma, nI n, nI mk, nI r, -1, 0)) (fun _ => rfl) rfl (fun z _ ez => ?_)
  refine z_if_eq (tgt := 136) C dX3_lay_130 (by decide) (fun hc5 => ?_) (fun hc5 => ?_)
  rotate_left
  · skip
    have hs : L1 k = true ∨ okL n r kd nb ma L k := by
      rcases ez with ⟨-, q⟩ | ⟨q, -⟩
      · exact q
      · exact absurd q hc5
    refine z_goto (tgt := 145) C dX3_lay_133 (by decide) ?_
    refine z_iinc (j := 2) (v := (nI (k + 1))) (lv' := [(0, .ref (h 0)), (1, .int (bI b)), (2, .int (nI (k + 1)))]) C dX3_lay_145 rfl (nI_1 k) (by decide) rfl rfl ?_
    refine z_goto (tgt := 107) C dX3_lay_148 (by decide) ?_
    exact ih4 (k + 1, b, L1, lg1) ⟨hc3, hlg1, hsd1, skip (fun _ => hs)⟩ (by dsimp only; omega)
  obtain ⟨hLk, hno⟩ : L1 k = false ∧ ¬ okL n r kd nb ma L k := by
    rcases ez with ⟨q, -⟩ | ⟨-, q⟩
    · rw [q] at hc5; exact absurd hc5 (by decide)
    · exact q
  refine z_aload C dX3_lay_136 rfl ?_
  refine z_get (T := TX3) (N := 10) C in_X3 0 rfl rfl 2 (by decide) q189 rfl rfl dX3_lay_137 ?_
  refine z_iload C dX3_lay_140 rfl ?_
  refine z_iconst (v := 1) C dX3_lay_141 (by decide) ?_
  refine z_zast (y := 1) (ws' := wM h cI cZ (kd, nb, upd lg1 k 1, pl, ma, nI n, nI mk, nI r, -1, 0)) C 3 1 rfl rfl (by omega) (by decide) dX3_lay_142 rfl rfl ?_
  refine z_iconst (v := bI true) C dX3_lay_143 (by decide) ?_
  refine z_istore (lv' := [(0, .ref (h 0)), (1, .int (bI true)), (2, .int (nI k))]) C dX3_lay_144 (by decide) rfl rfl ?_
  have hcn : cnL kd (updB L1 k true) n = cnL kd L1 n + 1 := by rw [cnL_add hc4 hLk, if_pos hc3]
  have hge : cnL kd L n ≤ cnL kd L1 n := by
    rcases hor with ⟨-, q, -⟩ | ⟨-, q⟩
    · rw [q]; exact Nat.le_refl _
    · omega
  refine z_iinc (j := 2) (v := (nI (k + 1))) (lv' := [(0, .ref (h 0)), (1, .int (bI true)), (2, .int (nI (k + 1)))]) C dX3_lay_145 rfl (nI_1 k) (by decide) rfl rfl ?_
  refine z_goto (tgt := 107) C dX3_lay_148 (by decide) ?_
  exact ih4 (k + 1, true, updB L1 k true, upd lg1 k 1) ⟨hc3, bI_upd hlg1, sdL_add hsd hsd1 hc3 hc4 hno, Or.inr ⟨rfl, by dsimp only; omega⟩⟩ (by dsimp only; omega)
end
section
/-! THE CLAIM OUT OF ONE WALK OF THE LAW'S BODY. Your part is whole_start (and what it stands on); all else here is the same for every law, but numbers. -/
def R_law : String := "BranchLengthsLaw"
def lw_P (b : Addr) (xs : List Int32) (args : Array Value) (s : State) : Prop := args = #[.ref b] ∧ s.IntsAt b xs ∧ xs.length ≤ 128 ∧ (Jvm.Cond.and given_1 narrow_1).before args s = true
def lw_Q (_ : Array Value) (s : State) (o : Outcome) (t : State) : Prop := o = .returned (some (.int 1)) ∧ Framed s o t [] 600000 7290000
def lw_Z (below : List Frame) (a : Array Value) (s : State) : State → Prop := fun t => ∃ o, t.status = .running ∧ Ended t below o ∧ lw_Q a s o t
/-- the law's own end, with 1 on the stack, nothing written that was there before, its room as the claim has it -/
theorem lw_ret {p : Program} {l : Launch} {e : Env} {s : State} {m : MethodId} {below : List Frame} {meth : Method} {c : Code} {b : Nat} (hx : p.tables.exec = Jvm.exec) (hb : c.code = code) (hr : meth.sig.returnType = ret) (hlocks : meth.locks = false) {pc : Nat} {H : Heap} {ls : Array Slot} (hdg : decode code pc = .ok (.ireturn, 1)) : W p l e room_1 s m #[Value.ref b] below meth c H [] 600000 7290000 (lw_Z below #[Value.ref b] s) (F0 m pc ls [.int 1]) := by
  intro T hT X
  obtain ⟨fs, hret, hrun, hended, hW, hframe⟩ := X.leave (v := some (.int 1)) (hlocks := hlocks) (fun h => by rw [hr] at h; cases h)
  have hmeth' : T.vm.method? m = some meth := X.method'
  refine ⟨T.setFrames fs, ?_, .returned (some (.int 1)), hrun, hended, rfl, ⟨_, rfl⟩, hW, hframe⟩
  jvm_step X.here [X.here.top, hx, hb, hdg, hmeth', hr, ret, narrow_b1]
  (try refine ⟨rfl, ?_⟩); (try refine ⟨rfl, ?_⟩)
  first | (intro acts; rw [hret _ acts rfl rfl rfl]) | rw [hret _ _ rfl rfl rfl]
  exact Steps.refl _
/-- what holds at the law's entry: the machine, the code, the tables' words (any of lw_tbl by 'hts w (by decide +kernel)'), the script of L ints xs at the cell b, what the Statement gives of the start (any of its parts by flat_of_before) -/
def lw_At (p : Program) (s : State) (m : MethodId) (meth : Method) (c : Code) (b L : Nat) (xs : Nat → Int32) : Prop :=
  p.tables.exec = Jvm.exec ∧ c.code = code ∧ meth.sig.returnType = ret ∧ c.maxLocals = 4 ∧ s.vm.findClass R_law = some m.cls ∧ (∀ w ∈ lw_tbl, w.before #[Value.ref b] s = true) ∧ va_X b L xs s s.heap ∧ b < s.heap.size ∧ meth.locks = false ∧ (Jvm.Cond.and given_1 narrow_1).before #[Value.ref b] s = true
section ZS
variable {p : Program} {l : Launch} {e : Env} {R : Room} {s : State} {m : MethodId} {args : Array Value} {below : List Frame} {meth : Method} {c : Code} {Q : State → Prop} {cc : ByteArray} {nL : Nat} {own : String} {D : va_G} {tys : List (ClassId × FieldType)} {A : Nat → Prop} {cells slots pc : Nat} {ws : va_W} {lv : List (Nat × Value)} {st : List Value}
theorem z_sld (C : ZC p s m args c cc nL own D tys A) {b L k : Nat} {xs : Nat → Int32} (hX : va_X b L xs s s.heap) (hbl : b < s.heap.size) (hbA : ¬ A b) (hk : k < L) (hL : L < 2 ^ 31) (hd : decode cc pc = .ok (.iaload, 1)) (kk : Z p l e R s m args below meth c D A nL Q cells slots ws (pc + 1) lv (.int (xs k) :: st)) : Z p l e R s m args below meth c D A nL Q cells slots ws pc lv (.int (nI k) :: .ref b :: st) :=
  fun H locs ls hP hD hS hl => va_sld C.1.1 C.1.2.1 hX hbl hbA hS (vp_in_nI hk hL) hd (by rw [nI_clamp (Nat.lt_trans hk hL)]; exact kk H locs ls hP hD hS hl)
theorem z_slen (C : ZC p s m args c cc nL own D tys A) {b L : Nat} {xs : Nat → Int32} (hX : va_X b L xs s s.heap) (hbl : b < s.heap.size) (hbA : ¬ A b) (hd : decode cc pc = .ok (.arraylength, 1)) (kk : Z p l e R s m args below meth c D A nL Q cells slots ws (pc + 1) lv (.int (nI L) :: st)) : Z p l e R s m args below meth c D A nL Q cells slots ws pc lv (.ref b :: st) :=
  fun H locs ls hP hD hS hl => va_slen C.1.1 C.1.2.1 hX hbl hbA hS hd (kk H locs ls hP hD hS hl)
theorem z_tblIn (C : ZC p s m args c cc nL own D tys A) {dflt lo hi : Int} {offs : Array Int} {len : Nat} {x : Int32} {off : Int} {tgt : Nat} (hd : decode cc pc = .ok (.tableswitch dflt lo hi offs, len)) (h1 : ¬ x.toInt < lo) (h2 : ¬ hi < x.toInt) (ho : offs[(x.toInt - lo).toNat]? = some off) (ht : (pc : Int) + off = (tgt : Int)) (kk : Z p l e R s m args below meth c D A nL Q cells slots ws tgt lv st) : Z p l e R s m args below meth c D A nL Q cells slots ws pc lv (.int x :: st) :=
  fun H locs ls hP hD hS hl => lv_tableIn C.1.1 C.1.2.1 hd h1 h2 ho ht (kk H locs ls hP hD hS hl)
theorem z_tblOut (C : ZC p s m args c cc nL own D tys A) {dflt lo hi : Int} {offs : Array Int} {len : Nat} {x : Int32} {tgt : Nat} (hd : decode cc pc = .ok (.tableswitch dflt lo hi offs, len)) (h : x.toInt < lo ∨ hi < x.toInt) (ht : (pc : Int) + dflt = (tgt : Int)) (kk : Z p l e R s m args below meth c D A nL Q cells slots ws tgt lv st) : Z p l e R s m args below meth c D A nL Q cells slots ws pc lv (.int x :: st) :=
  fun H locs ls hP hD hS hl => lv_tableOut C.1.1 C.1.2.1 hd h ht (kk H locs ls hP hD hS hl)
end ZS
theorem z_lawret {p : Program} {l : Launch} {e : Env} {s : State} {m : MethodId} {below : List Frame} {meth : Method} {c : Code} {own : String} {D : va_G} {tys : List (ClassId × FieldType)} {cells slots pc b : Nat} {ws : va_W} {lv : List (Nat × Value)} (C : ZC p s m #[Value.ref b] c code 4 own D tys (fun q : Nat => s.heap.size ≤ q)) (hr : meth.sig.returnType = ret) (hlk : meth.locks = false) (hd : decode code pc = .ok (.ireturn, 1)) (h1 : cells ≤ 600000) (h2 : slots ≤ 7290000) : Z p l e room_1 s m #[Value.ref b] below meth c D (fun q : Nat => s.heap.size ≤ q) 4 (lw_Z below #[Value.ref b] s) cells slots ws pc lv [.int 1] :=
  fun H locs ls hP hD hS hl => va_forget (fun q hq => hS.2.2 q hq) (W.widen h1 h2 (lw_ret C.1.1 C.1.2.1 hr hlk hd))
/-- BranchLengths and its reference agree, j calls behind them -/
def InvL (j : Nat) (u : XS) (w : MS) : Prop := ∃ (kd nb ma il tr ro ii lg pl : Nat → Int32) (n mk r : Nat) (lo le la fr co : Int32), u = (kd, nb, il, ma, tr, ro, ii, nI n, nI mk, lo, le, nI r, la, fr, co) ∧ w = (kd, nb, lg, pl, ma, nI n, nI mk, nI r, le, la) ∧ KOK n mk r kd nb ma ∧ n ≤ j ∧ (la = 0 ∨ (la = 1 ∧ layX n mk r kd nb ma il tr lo ∧ layM n r kd nb ma lg pl))
theorem InvL_s {j : Nat} {u : XS} {w : MS} (h : InvL j u w) : InvL (j + 1) u w := by
  obtain ⟨kd, nb, ma, il, tr, ro, ii, lg, pl, n, mk, r, lo, le, la, fr, co, h1, h2, h3, h4, h5⟩ := h
  exact ⟨kd, nb, ma, il, tr, ro, ii, lg, pl, n, mk, r, lo, le, la, fr, co, h1, h2, h3, by omega, h5⟩
theorem KOK_item {n mk r : Nat} {kd nb ma : Nat → Int32} {w x : Int32} (h : KOK n mk r kd nb ma) (hn : n + 1 ≤ 64) (hw : (w = 0 ∧ ∃ y, y ≤ 4000 ∧ x = nI y) ∨ w = 1 ∨ (w = 2 ∧ ∃ y, y < 2 ^ 31 ∧ x = nI y)) : KOK (n + 1) mk r (upd kd n w) (upd nb n x) ma := by
  obtain ⟨h1, h2, h3, h4, h5, h6⟩ := h
  refine ⟨hn, by omega, h3, h4, fun k hk => ?_, fun j hj => ?_⟩
  · by_cases e : k = n
    · subst e
      rw [pk_us, pk_us]
      exact hw
    · rw [pk_un e, pk_un e]
      exact h5 k (by omega)
  · obtain ⟨q, g1, g2, g3⟩ := h6 j hj
    exact ⟨q, by omega, g2, by rw [pk_un (show q ≠ n by omega)]; exact g3⟩
theorem KOK_mark {n mk r : Nat} {kd nb ma : Nat → Int32} (h : KOK n mk r kd nb ma) (hn : n + 1 ≤ 64) : KOK (n + 1) (mk + 1) r (upd kd n 1) (upd nb n 0) (upd ma mk (nI n)) := by
  obtain ⟨h1, h2, h3, h4, h5, h6⟩ := KOK_item (w := 1) (x := 0) h hn (Or.inr (Or.inl rfl))
  have hm := h.2.1
  refine ⟨h1, by omega, h3, h4, h5, fun j hj => ?_⟩
  by_cases e : j = mk
  · subst e
    exact ⟨n, Nat.lt_succ_self n, pk_us, pk_us⟩
  · obtain ⟨q, g1, g2, g3⟩ := h6 j (by omega)
    exact ⟨q, g1, by rw [pk_un e]; exact g2, g3⟩
theorem fb_one {mk : Nat} {kd nb : Nat → Int32} {a b : Nat} (h1 : badL mk kd nb a) (h2 : ∀ j, j < a → ¬ badL mk kd nb j) (h3 : badL mk kd nb b) (h4 : ∀ j, j < b → ¬ badL mk kd nb j) : a = b := by
  rcases Nat.lt_trichotomy a b with q | q | q
  · exact absurd h1 (h4 a q)
  · exact q
  · exact absurd h3 (h2 b q)
set_option maxHeartbeats 1000000 in
set_option maxRecDepth 100000 in
/-- THE LAW's LOOP -/
theorem law_loop {p : Program} {l : Launch} {e : Env} {s : State} {m : MethodId} {below : List Frame} {meth : Method} {c : Code} {b L : Nat} {xs : Nat → Int32} (hL : L ≤ 128) (C0 : lw_At p s m meth c b L xs) {D : va_G} {hx hm : Nat → Nat} {cI cZ cJ cW : ClassId} (C : ZC p s m #[Value.ref b] c cL_law 4 "BranchLengthsLaw" D (tIZ cI cZ ++ tIZ cJ cW) (fun q : Nat => s.heap.size ≤ q)) (u : XS) (w : MS) (hI : InvL 0 u w) : Z p l e room_1 s m #[Value.ref b] below meth c D (fun q : Nat => s.heap.size ≤ q) 4 (lw_Z below #[Value.ref b] s) 16 24029 (wX hx cI cZ u ++ wM hm cJ cW w) 18 [(0, .ref b), (1, .ref (hx 0)), (2, .ref (hm 0)), (3, .int (nI 0))] [] := by
  obtain ⟨-, -, hret, -, -, -, hX, hbl, hlk, -⟩ := C0
  have hbA : ¬ (fun q : Nat => s.heap.size ≤ q) b := Nat.not_le.mpr hbl
  refine z_loop (ι := Nat × XS × MS) (fun x => L - 2 * x.1) (fun x => InvL x.1 x.2.1 x.2.2 ∧ 2 * x.1 ≤ L) (fun x => wX hx cI cZ x.2.1 ++ wM hm cJ cW x.2.2) (fun x => [(0, .ref b), (1, .ref (hx 0)), (2, .ref (hm 0)), (3, .int (nI (2 * x.1)))]) ?_ (0, u, w) ⟨hI, Nat.zero_le _⟩
  clear hI u w
  rintro ⟨j, u, w⟩ ⟨hI, hj⟩ ih
  dsimp only at hI hj ih ⊢
  refine z_iload C dL_law_18 rfl ?_
  refine z_aload C dL_law_19 rfl ?_
  refine z_slen C hX hbl hbA dL_law_20 ?_
  refine z_iconst (v := (nI 2)) C dL_law_21 (by decide) ?_
  refine z_isub C dL_law_22 rfl ?_
  refine z_cmp_gt (tgt := 306) C dL_law_23 (by decide) (fun hc => ?_) (fun hc => ?_)
  · skip
    refine z_iconst (v := 1) C dL_law_306 (by decide) ?_
    exact z_lawret C hret hlk dL_law_307 (by decide) (by decide)
  have hj2 : 2 * j + 2 ≤ L := by
    rw [Int32.lt_iff_toInt_lt, pk_sub_toInt (by omega) (by omega), nI_toInt (by omega)] at hc
    omega
  obtain ⟨kd, nb, ma, il, tr, ro, ii, lg, pl, n, mk, r, lo, le, la, fr, co, rfl, rfl, hK, hnj, hla⟩ := id hI
  obtain ⟨X, eX⟩ : ∃ X, xs (2 * j + 1) = X := ⟨_, rfl⟩
  have hn : n < 2000 := by omega
  have hn64 : n ≤ 64 := hK.1
  have hmk : mk ≤ n := hK.2.1
  have hIs := InvL_s hI
  refine z_join (ι := XS × MS) 300 (fun x => InvL (j + 1) x.1 x.2) (fun x => wX hx cI cZ x.1 ++ wM hm cJ cW x.2) (fun _ => [(0, .ref b), (1, .ref (hx 0)), (2, .ref (hm 0)), (3, .int (nI (2 * j)))]) ?_ ?_
  · rintro ⟨u1, w1⟩ h1
    dsimp only at h1 ⊢
    refine z_iinc (j := 3) (v := (nI (2 * (j + 1)))) (lv' := [(0, .ref b), (1, .ref (hx 0)), (2, .ref (hm 0)), (3, .int (nI (2 * (j + 1))))]) C dL_law_300 rfl (nI_add (2 * j) 2) (by decide) rfl rfl ?_
    refine z_goto (tgt := 18) C dL_law_303 (by decide) ?_
    exact ih (j + 1, u1, w1) ⟨h1, hj2⟩ (by dsimp only; omega)
  intro k300
  refine z_aload C dL_law_26 rfl ?_
  refine z_iload C dL_law_27 rfl ?_
  refine z_sld C hX hbl hbA (by omega) (by omega) dL_law_28 ?_
  refine z_bipush (v := 15) C dL_law_29 (by decide) ?_
  obtain ⟨q, hq, eq⟩ := pk_andE (xs (2 * j)) (m := 15) 4 (by decide)
  refine z_iand C dL_law_31 eq ?_
  have hq : q < 16 := hq
  rcases (show q = 0 ∨ q = 1 ∨ q = 2 ∨ q = 3 ∨ q = 4 ∨ q = 5 ∨ q = 6 ∨ q = 7 ∨ q = 8 ∨ q = 9 ∨ q = 10 ∨ q = 11 ∨ q = 12 ∨ q = 13 ∨ q = 14 ∨ q = 15 by omega) with rfl | rfl | rfl | rfl | rfl | rfl | rfl | rfl | rfl | rfl | rfl | rfl | rfl | rfl | rfl | rfl
  · skip
    refine z_tblIn (off := 64) (tgt := 96) C dL_law_32 (by decide) (by decide) (by decide) (by decide) ?_
    refine z_aload C dL_law_96 rfl ?_
    refine z_aload C dL_law_97 rfl ?_
    refine z_iload C dL_law_98 rfl ?_
    refine z_iconst (v := 1) C dL_law_99 (by decide) ?_
    refine z_iadd C dL_law_100 (nI_1 _) ?_
    refine z_sld C hX hbl hbA (by omega) (by omega) dL_law_101 ?_
    refine z_top eX ?_
    refine z_calli (st := []) (q := (RX0, TX0, 12)) (ci := 0) (q0 := 0) C (mX0_stretch l D hx cI cZ kd nb il ma tr ro ii (nI mk) lo le (nI r) la fr co n X hn) 1 rfl (lw_V q88 q89 q90 q8 q91) (by decide +kernel) (by decide) rfl rfl (Nat.le_of_ble_eq_true rfl) dL_law_102 ⟨rfl, rfl⟩ (by decide) [0, 1, 2, 3, 4, 5, 6, 7, 8, 9] [10, 11, 12, 13, 14, 15] [6, 7, 8, 9, 10, 11, 12, 13, 14, 15, 0, 1, 2, 3, 4, 5] [0, 1] rfl rfl rfl rfl (by decide) rfl (fun u => wX hx cI cZ u ++ wM hm cJ cW (kd, nb, lg, pl, ma, nI n, nI mk, nI r, le, la)) (fun _ => rfl) rfl (fun r1 u1 h1 => ?_)
    refine z_aload C dL_law_105 rfl ?_
    refine z_aload C dL_law_106 rfl ?_
    refine z_iload C dL_law_107 rfl ?_
    refine z_iconst (v := 1) C dL_law_108 (by decide) ?_
    refine z_iadd C dL_law_109 (nI_1 _) ?_
    refine z_sld C hX hbl hbA (by omega) (by omega) dL_law_110 ?_
    refine z_top eX ?_
    refine z_calli (st := [.int r1]) (q := (RX3, TX3, 10)) (ci := 3) (q0 := 0) C (mX3_stretch l D hm cJ cW kd nb lg pl ma (nI mk) (nI r) le la n X hn) 1 rfl (lw_V q218 q219 q220 q11 q221) (by decide +kernel) (by decide) rfl rfl (Nat.le_of_ble_eq_true rfl) dL_law_111 ⟨rfl, rfl⟩ (by decide) [10, 11, 12, 13, 14, 15] [0, 1, 2, 3, 4, 5, 6, 7, 8, 9] [0, 1, 2, 3, 4, 5, 6, 7, 8, 9, 10, 11, 12, 13, 14, 15] [2, 3] rfl rfl rfl rfl (by decide) rfl (fun w => wX hx cI cZ u1 ++ wM hm cJ cW w) (fun _ => rfl) rfl (fun r2 w1 h2 => ?_)
    have hs : r1 = r2 ∧ InvL (j + 1) u1 w1 := by
      rcases h1 with ⟨b1, rfl, rfl⟩ | ⟨g1, rfl, rfl⟩
      · rcases h2 with ⟨b2, rfl, rfl⟩ | ⟨g2, rfl, rfl⟩
        · exact ⟨rfl, hIs⟩
        · exact absurd b1 g2
      · rcases h2 with ⟨b2, rfl, rfl⟩ | ⟨g2, rfl, rfl⟩
        · exact absurd b2 g1
        · obtain ⟨y, hy, ey⟩ := nI_of2 (M := nI 4000) (n := 4000) (nI_toInt (by decide)) (fun q => g1 (Or.inl q)) (Int32.not_lt.mp (fun q => g1 (Or.inr q)))
          exact ⟨rfl, ⟨_, _, ma, il, tr, ro, ii, lg, pl, n + 1, mk, r, lo, le, 0, fr, co, rfl, rfl, KOK_item hK (by omega) (Or.inl ⟨rfl, y, hy, ey⟩), by omega, Or.inl rfl⟩⟩
    refine z_cmp_eq (tgt := 300) C dL_law_114 (by decide) (fun _ => k300 (u1, w1) hs.2) (fun hne => absurd hs.1 hne)
  · skip
    refine z_tblIn (off := 87) (tgt := 119) C dL_law_32 (by decide) (by decide) (by decide) (by decide) ?_
    refine z_aload C dL_law_119 rfl ?_
    refine z_calli (st := []) (q := (RX0, TX0, 12)) (ci := 0) (q0 := 0) C (mX0_mark l D hx cI cZ kd nb il ma tr ro ii lo le (nI r) la fr co n mk hn (by omega)) 0 rfl (lw_V q96 q97 q98 q8 q99) (by decide +kernel) (by decide) rfl rfl (Nat.le_of_ble_eq_true rfl) dL_law_120 ⟨rfl, rfl⟩ (by decide) [0, 1, 2, 3, 4, 5, 6, 7, 8, 9] [10, 11, 12, 13, 14, 15] [6, 7, 8, 9, 10, 11, 12, 13, 14, 15, 0, 1, 2, 3, 4, 5] [0, 1] rfl rfl rfl rfl (by decide) rfl (fun _ => wX hx cI cZ (upd kd n 1, upd nb n 0, il, upd ma mk (nI n), tr, ro, ii, nI (n + 1), nI (mk + 1), lo, le, nI r, 0, fr, co) ++ wM hm cJ cW (kd, nb, lg, pl, ma, nI n, nI mk, nI r, le, la)) (fun _ => rfl) rfl (fun r1 _ h1 => ?_)
    refine z_aload C dL_law_123 rfl ?_
    refine z_calli (st := [.int r1]) (q := (RX3, TX3, 10)) (ci := 3) (q0 := 0) C (mX3_mark l D hm cJ cW kd nb lg pl ma (nI r) le la n mk hn (by omega)) 0 rfl (lw_V q226 q227 q228 q11 q229) (by decide +kernel) (by decide) rfl rfl (Nat.le_of_ble_eq_true rfl) dL_law_124 ⟨rfl, rfl⟩ (by decide) [10, 11, 12, 13, 14, 15] [0, 1, 2, 3, 4, 5, 6, 7, 8, 9] [0, 1, 2, 3, 4, 5, 6, 7, 8, 9, 10, 11, 12, 13, 14, 15] [2, 3] rfl rfl rfl rfl (by decide) rfl (fun _ => wX hx cI cZ (upd kd n 1, upd nb n 0, il, upd ma mk (nI n), tr, ro, ii, nI (n + 1), nI (mk + 1), lo, le, nI r, 0, fr, co) ++ wM hm cJ cW (upd kd n 1, upd nb n 0, lg, pl, upd ma mk (nI n), nI (n + 1), nI (mk + 1), nI r, le, 0)) (fun _ => rfl) rfl (fun r2 _ h2 => ?_)
    have hs : r1 = r2 ∧ InvL (j + 1) (upd kd n 1, upd nb n 0, il, upd ma mk (nI n), tr, ro, ii, nI (n + 1), nI (mk + 1), lo, le, nI r, 0, fr, co) (upd kd n 1, upd nb n 0, lg, pl, upd ma mk (nI n), nI (n + 1), nI (mk + 1), nI r, le, 0) := by
      exact ⟨h1.trans h2.symm, ⟨_, _, _, il, tr, ro, ii, lg, pl, n + 1, mk + 1, r, lo, le, 0, fr, co, rfl, rfl, KOK_mark hK (by omega), by omega, Or.inl rfl⟩⟩
    refine z_cmp_eq (tgt := 300) C dL_law_127 (by decide) (fun _ => k300 ((upd kd n 1, upd nb n 0, il, upd ma mk (nI n), tr, ro, ii, nI (n + 1), nI (mk + 1), lo, le, nI r, 0, fr, co), (upd kd n 1, upd nb n 0, lg, pl, upd ma mk (nI n), nI (n + 1), nI (mk + 1), nI r, le, 0)) hs.2) (fun hne => absurd hs.1 hne)
  · skip
    refine z_tblIn (off := 100) (tgt := 132) C dL_law_32 (by decide) (by decide) (by decide) (by decide) ?_
    refine z_aload C dL_law_132 rfl ?_
    refine z_aload C dL_law_133 rfl ?_
    refine z_iload C dL_law_134 rfl ?_
    refine z_iconst (v := 1) C dL_law_135 (by decide) ?_
    refine z_iadd C dL_law_136 (nI_1 _) ?_
    refine z_sld C hX hbl hbA (by omega) (by omega) dL_law_137 ?_
    refine z_top eX ?_
    refine z_calli (st := []) (q := (RX0, TX0, 12)) (ci := 0) (q0 := 0) C (mX0_branch l D hx cI cZ kd nb il ma tr ro ii (nI mk) lo le (nI r) la fr co n X hn) 1 rfl (lw_V q100 q101 q102 q8 q103) (by decide +kernel) (by decide) rfl rfl (Nat.le_of_ble_eq_true rfl) dL_law_138 ⟨rfl, rfl⟩ (by decide) [0, 1, 2, 3, 4, 5, 6, 7, 8, 9] [10, 11, 12, 13, 14, 15] [6, 7, 8, 9, 10, 11, 12, 13, 14, 15, 0, 1, 2, 3, 4, 5] [0, 1] rfl rfl rfl rfl (by decide) rfl (fun u => wX hx cI cZ u ++ wM hm cJ cW (kd, nb, lg, pl, ma, nI n, nI mk, nI r, le, la)) (fun _ => rfl) rfl (fun r1 u1 h1 => ?_)
    refine z_aload C dL_law_141 rfl ?_
    refine z_aload C dL_law_142 rfl ?_
    refine z_iload C dL_law_143 rfl ?_
    refine z_iconst (v := 1) C dL_law_144 (by decide) ?_
    refine z_iadd C dL_law_145 (nI_1 _) ?_
    refine z_sld C hX hbl hbA (by omega) (by omega) dL_law_146 ?_
    refine z_top eX ?_
    refine z_calli (st := [.int r1]) (q := (RX3, TX3, 10)) (ci := 3) (q0 := 0) C (mX3_branch l D hm cJ cW kd nb lg pl ma (nI mk) (nI r) le la n X hn) 1 rfl (lw_V q230 q231 q232 q11 q233) (by decide +kernel) (by decide) rfl rfl (Nat.le_of_ble_eq_true rfl) dL_law_147 ⟨rfl, rfl⟩ (by decide) [10, 11, 12, 13, 14, 15] [0, 1, 2, 3, 4, 5, 6, 7, 8, 9] [0, 1, 2, 3, 4, 5, 6, 7, 8, 9, 10, 11, 12, 13, 14, 15] [2, 3] rfl rfl rfl rfl (by decide) rfl (fun w => wX hx cI cZ u1 ++ wM hm cJ cW w) (fun _ => rfl) rfl (fun r2 w1 h2 => ?_)
    have hs : r1 = r2 ∧ InvL (j + 1) u1 w1 := by
      rcases h1 with ⟨b1, rfl, rfl⟩ | ⟨g1, rfl, rfl⟩
      · rcases h2 with ⟨b2, rfl, rfl⟩ | ⟨g2, rfl, rfl⟩
        · exact ⟨rfl, hIs⟩
        · exact absurd b1 g2
      · rcases h2 with ⟨b2, rfl, rfl⟩ | ⟨g2, rfl, rfl⟩
        · exact absurd b2 g1
        · obtain ⟨y, hy, ey⟩ := nI_of g1
          exact ⟨rfl, ⟨_, _, ma, il, tr, ro, ii, lg, pl, n + 1, mk, r, lo, le, 0, fr, co, rfl, rfl, KOK_item hK (by omega) (Or.inr (Or.inr ⟨rfl, y, hy, ey⟩)), by omega, Or.inl rfl⟩⟩
    refine z_cmp_eq (tgt := 300) C dL_law_150 (by decide) (fun _ => k300 (u1, w1) hs.2) (fun hne => absurd hs.1 hne)
  · skip
    refine z_tblIn (off := 123) (tgt := 155) C dL_law_32 (by decide) (by decide) (by decide) (by decide) ?_
    refine z_aload C dL_law_155 rfl ?_
    refine z_aload C dL_law_156 rfl ?_
    refine z_iload C dL_law_157 rfl ?_
    refine z_iconst (v := 1) C dL_law_158 (by decide) ?_
    refine z_iadd C dL_law_159 (nI_1 _) ?_
    refine z_sld C hX hbl hbA (by omega) (by omega) dL_law_160 ?_
    refine z_top eX ?_
    refine z_calli (st := []) (q := (RX0, TX0, 12)) (ci := 0) (q0 := 0) C (mX0_reach l D hx cI cZ kd nb il ma tr ro ii (nI n) (nI mk) lo le (nI r) la fr co X) 1 rfl (lw_V q104 q105 q106 q8 q107) (by decide +kernel) (by decide) rfl rfl (Nat.le_of_ble_eq_true rfl) dL_law_161 ⟨rfl, rfl⟩ (by decide) [0, 1, 2, 3, 4, 5, 6, 7, 8, 9] [10, 11, 12, 13, 14, 15] [6, 7, 8, 9, 10, 11, 12, 13, 14, 15, 0, 1, 2, 3, 4, 5] [0, 1] rfl rfl rfl rfl (by decide) rfl (fun u => wX hx cI cZ u ++ wM hm cJ cW (kd, nb, lg, pl, ma, nI n, nI mk, nI r, le, la)) (fun _ => rfl) rfl (fun r1 u1 h1 => ?_)
    refine z_aload C dL_law_164 rfl ?_
    refine z_aload C dL_law_165 rfl ?_
    refine z_iload C dL_law_166 rfl ?_
    refine z_iconst (v := 1) C dL_law_167 (by decide) ?_
    refine z_iadd C dL_law_168 (nI_1 _) ?_
    refine z_sld C hX hbl hbA (by omega) (by omega) dL_law_169 ?_
    refine z_top eX ?_
    refine z_calli (st := [.int r1]) (q := (RX3, TX3, 10)) (ci := 3) (q0 := 0) C (mX3_reach l D hm cJ cW kd nb lg pl ma (nI n) (nI mk) (nI r) le la X) 1 rfl (lw_V q234 q235 q236 q11 q237) (by decide +kernel) (by decide) rfl rfl (Nat.le_of_ble_eq_true rfl) dL_law_170 ⟨rfl, rfl⟩ (by decide) [10, 11, 12, 13, 14, 15] [0, 1, 2, 3, 4, 5, 6, 7, 8, 9] [0, 1, 2, 3, 4, 5, 6, 7, 8, 9, 10, 11, 12, 13, 14, 15] [2, 3] rfl rfl rfl rfl (by decide) rfl (fun w => wX hx cI cZ u1 ++ wM hm cJ cW w) (fun _ => rfl) rfl (fun r2 w1 h2 => ?_)
    have hs : r1 = r2 ∧ InvL (j + 1) u1 w1 := by
      rcases h1 with ⟨b1, rfl, rfl⟩ | ⟨g1, rfl, rfl⟩
      · rcases h2 with ⟨b2, rfl, rfl⟩ | ⟨g2, rfl, rfl⟩
        · exact ⟨rfl, hIs⟩
        · exact absurd b1 g2
      · rcases h2 with ⟨b2, rfl, rfl⟩ | ⟨g2, rfl, rfl⟩
        · exact absurd b2 g1
        · obtain ⟨y, hy, ey⟩ := nI_of2 (M := 100000) (n := 100000) (by decide) (fun q => g1 (Or.inl (Int32.lt_trans q (by decide)))) (Int32.not_lt.mp (fun q => g1 (Or.inr q)))
          have hy1 : 1 ≤ y := by
            rcases Nat.eq_zero_or_pos y with q | q
            · rw [q] at ey; exact absurd (Or.inl (by rw [ey]; decide)) g1
            · exact q
          subst ey
          exact ⟨rfl, ⟨kd, nb, ma, il, tr, ro, ii, lg, pl, n, mk, y, lo, le, 0, fr, co, rfl, rfl, ⟨hK.1, hK.2.1, hy1, hy, hK.2.2.2.2⟩, by omega, Or.inl rfl⟩⟩
    refine z_cmp_eq (tgt := 300) C dL_law_173 (by decide) (fun _ => k300 (u1, w1) hs.2) (fun hne => absurd hs.1 hne)
  · skip
    refine z_tblIn (off := 146) (tgt := 178) C dL_law_32 (by decide) (by decide) (by decide) (by decide) ?_
    refine z_aload C dL_law_178 rfl ?_
    refine z_calli (st := []) (q := (RX0, TX0, 12)) (ci := 0) (q0 := 0) C (mX0_lay l D hx cI cZ kd nb il ma tr ro ii lo le la fr co n mk r hK) 0 rfl (lw_V q109 q110 q111 q8 q112) (by decide +kernel) (by decide) rfl rfl (Nat.le_of_ble_eq_true rfl) dL_law_179 ⟨rfl, rfl⟩ (by decide) [0, 1, 2, 3, 4, 5, 6, 7, 8, 9] [10, 11, 12, 13, 14, 15] [6, 7, 8, 9, 10, 11, 12, 13, 14, 15, 0, 1, 2, 3, 4, 5] [0, 1] rfl rfl rfl rfl (by decide) rfl (fun u => wX hx cI cZ u ++ wM hm cJ cW (kd, nb, lg, pl, ma, nI n, nI mk, nI r, le, la)) (fun _ => rfl) rfl (fun r1 u1 h1 => ?_)
    refine z_aload C dL_law_182 rfl ?_
    refine z_calli (st := [.int r1]) (q := (RX3, TX3, 10)) (ci := 3) (q0 := 0) C (mX3_lay l D hm cJ cW kd nb lg pl ma le la n mk r hK) 0 rfl (lw_V q239 q240 q241 q11 q242) (by decide +kernel) (by decide) rfl rfl (Nat.le_of_ble_eq_true rfl) dL_law_183 ⟨rfl, rfl⟩ (by decide) [10, 11, 12, 13, 14, 15] [0, 1, 2, 3, 4, 5, 6, 7, 8, 9] [0, 1, 2, 3, 4, 5, 6, 7, 8, 9, 10, 11, 12, 13, 14, 15] [2, 3] rfl rfl rfl rfl (by decide) rfl (fun w => wX hx cI cZ u1 ++ wM hm cJ cW w) (fun _ => rfl) rfl (fun r2 w1 h2 => ?_)
    have hs : r1 = r2 ∧ InvL (j + 1) u1 w1 := by
      rcases h1 with ⟨k0, a1, a2, a3, rfl, rfl⟩ | ⟨a1, rfl, il2, tr2, ro2, ii2, lo2, fr2, co2, rfl, hly⟩
      · rcases h2 with ⟨k1, b1, b2, b3, rfl, rfl⟩ | ⟨b1, -⟩
        · obtain rfl := fb_one a2 a3 b2 b3
          exact ⟨rfl, ⟨kd, nb, ma, il, tr, ro, ii, lg, pl, n, mk, r, lo, _, 0, fr, co, rfl, rfl, hK, by omega, Or.inl rfl⟩⟩
        · exact absurd a2 (b1 k0 a1)
      · rcases h2 with ⟨k1, b1, b2, b3, -⟩ | ⟨b1, rfl, lg2, pl2, rfl, hlm⟩
        · exact absurd b2 (a1 k1 b1)
        · exact ⟨rfl, ⟨kd, nb, ma, il2, tr2, ro2, ii2, lg2, pl2, n, mk, r, lo2, _, 1, fr2, co2, rfl, rfl, hK, by omega, Or.inr ⟨rfl, hly, hlm⟩⟩⟩
    refine z_cmp_eq (tgt := 300) C dL_law_186 (by decide) (fun _ => k300 (u1, w1) hs.2) (fun hne => absurd hs.1 hne)
  · skip
    refine z_tblIn (off := 159) (tgt := 191) C dL_law_32 (by decide) (by decide) (by decide) (by decide) ?_
    refine z_aload C dL_law_191 rfl ?_
    refine z_calli (st := []) (q := (RX0, TX0, 12)) (ci := 0) (q0 := 0) C (mX0_least l D hx cI cZ kd nb il ma tr ro ii (nI n) (nI mk) lo le (nI r) la fr co) 0 rfl (lw_V q149 q150 q151 q8 q152) (by decide +kernel) (by decide) rfl rfl (Nat.le_of_ble_eq_true rfl) dL_law_192 ⟨rfl, rfl⟩ (by decide) [0, 1, 2, 3, 4, 5, 6, 7, 8, 9] [10, 11, 12, 13, 14, 15] [6, 7, 8, 9, 10, 11, 12, 13, 14, 15, 0, 1, 2, 3, 4, 5] [0, 1] rfl rfl rfl rfl (by decide) rfl (fun _ => wX hx cI cZ (kd, nb, il, ma, tr, ro, ii, nI n, nI mk, lo, le, nI r, la, fr, co) ++ wM hm cJ cW (kd, nb, lg, pl, ma, nI n, nI mk, nI r, le, la)) (fun _ => rfl) rfl (fun r1 _ h1 => ?_)
    refine z_aload C dL_law_195 rfl ?_
    refine z_calli (st := [.int r1]) (q := (RX3, TX3, 10)) (ci := 3) (q0 := 0) C (mX3_least l D hm cJ cW kd nb lg pl ma (nI n) (nI mk) (nI r) le la) 0 rfl (lw_V q251 q252 q253 q11 q254) (by decide +kernel) (by decide) rfl rfl (Nat.le_of_ble_eq_true rfl) dL_law_196 ⟨rfl, rfl⟩ (by decide) [10, 11, 12, 13, 14, 15] [0, 1, 2, 3, 4, 5, 6, 7, 8, 9] [0, 1, 2, 3, 4, 5, 6, 7, 8, 9, 10, 11, 12, 13, 14, 15] [2, 3] rfl rfl rfl rfl (by decide) rfl (fun _ => wX hx cI cZ (kd, nb, il, ma, tr, ro, ii, nI n, nI mk, lo, le, nI r, la, fr, co) ++ wM hm cJ cW (kd, nb, lg, pl, ma, nI n, nI mk, nI r, le, la)) (fun _ => rfl) rfl (fun r2 _ h2 => ?_)
    have hs : r1 = r2 ∧ InvL (j + 1) (kd, nb, il, ma, tr, ro, ii, nI n, nI mk, lo, le, nI r, la, fr, co) (kd, nb, lg, pl, ma, nI n, nI mk, nI r, le, la) := by
      exact ⟨h1.trans h2.symm, hIs⟩
    refine z_cmp_eq (tgt := 300) C dL_law_199 (by decide) (fun _ => k300 ((kd, nb, il, ma, tr, ro, ii, nI n, nI mk, lo, le, nI r, la, fr, co), (kd, nb, lg, pl, ma, nI n, nI mk, nI r, le, la)) hs.2) (fun hne => absurd hs.1 hne)
  · skip
    refine z_tblIn (off := 172) (tgt := 204) C dL_law_32 (by decide) (by decide) (by decide) (by decide) ?_
    refine z_aload C dL_law_204 rfl ?_
    refine z_aload C dL_law_205 rfl ?_
    refine z_iload C dL_law_206 rfl ?_
    refine z_iconst (v := 1) C dL_law_207 (by decide) ?_
    refine z_iadd C dL_law_208 (nI_1 _) ?_
    refine z_sld C hX hbl hbA (by omega) (by omega) dL_law_209 ?_
    refine z_top eX ?_
    refine z_calli (st := []) (q := (RX0, TX0, 12)) (ci := 0) (q0 := 0) C (mX0_place l D hx cI cZ kd nb il ma tr ro ii (nI mk) lo le (nI r) la fr co n X hn64) 1 rfl (lw_V q153 q154 q155 q8 q156) (by decide +kernel) (by decide) rfl rfl (Nat.le_of_ble_eq_true rfl) dL_law_210 ⟨rfl, rfl⟩ (by decide) [0, 1, 2, 3, 4, 5, 6, 7, 8, 9] [10, 11, 12, 13, 14, 15] [6, 7, 8, 9, 10, 11, 12, 13, 14, 15, 0, 1, 2, 3, 4, 5] [0, 1] rfl rfl rfl rfl (by decide) rfl (fun _ => wX hx cI cZ (kd, nb, il, ma, tr, ro, ii, nI n, nI mk, lo, le, nI r, la, fr, co) ++ wM hm cJ cW (kd, nb, lg, pl, ma, nI n, nI mk, nI r, le, la)) (fun _ => rfl) rfl (fun r1 _ h1 => ?_)
    refine z_aload C dL_law_213 rfl ?_
    refine z_aload C dL_law_214 rfl ?_
    refine z_iload C dL_law_215 rfl ?_
    refine z_iconst (v := 1) C dL_law_216 (by decide) ?_
    refine z_iadd C dL_law_217 (nI_1 _) ?_
    refine z_sld C hX hbl hbA (by omega) (by omega) dL_law_218 ?_
    refine z_top eX ?_
    refine z_calli (st := [.int r1]) (q := (RX3, TX3, 10)) (ci := 3) (q0 := 0) C (mX3_place l D hm cJ cW kd nb lg pl ma (nI mk) (nI r) le la n X hn64) 1 rfl (lw_V q255 q256 q257 q11 q258) (by decide +kernel) (by decide) rfl rfl (Nat.le_of_ble_eq_true rfl) dL_law_219 ⟨rfl, rfl⟩ (by decide) [10, 11, 12, 13, 14, 15] [0, 1, 2, 3, 4, 5, 6, 7, 8, 9] [0, 1, 2, 3, 4, 5, 6, 7, 8, 9, 10, 11, 12, 13, 14, 15] [2, 3] rfl rfl rfl rfl (by decide) rfl (fun _ => wX hx cI cZ (kd, nb, il, ma, tr, ro, ii, nI n, nI mk, lo, le, nI r, la, fr, co) ++ wM hm cJ cW (kd, nb, lg, pl, ma, nI n, nI mk, nI r, le, la)) (fun _ => rfl) rfl (fun r2 _ h2 => ?_)
    have hs : r1 = r2 ∧ InvL (j + 1) (kd, nb, il, ma, tr, ro, ii, nI n, nI mk, lo, le, nI r, la, fr, co) (kd, nb, lg, pl, ma, nI n, nI mk, nI r, le, la) := by
      refine ⟨?_, hIs⟩
      rcases h1 with ⟨b1, e1⟩ | ⟨g1, k, hk, ek, e1⟩
      · rcases h2 with ⟨-, e2⟩ | ⟨g2, -⟩
        · rw [e1, e2]
        · exact absurd b1 g2
      · rcases h2 with ⟨b2, -⟩ | ⟨-, k2, hk2, ek2, e2⟩
        · exact absurd b2 g1
        · obtain rfl : k = k2 := (nI_eq (by omega) (by omega)).mp (ek.symm.trans ek2)
          rcases hla with q | ⟨-, hlx, hlm⟩
          · exact absurd (Or.inl q) g1
          · rw [e1, e2, hlx.2.1 k (by omega), hlm.2 k (by omega)]
    refine z_cmp_eq (tgt := 300) C dL_law_222 (by decide) (fun _ => k300 ((kd, nb, il, ma, tr, ro, ii, nI n, nI mk, lo, le, nI r, la, fr, co), (kd, nb, lg, pl, ma, nI n, nI mk, nI r, le, la)) hs.2) (fun hne => absurd hs.1 hne)
  · skip
    refine z_tblIn (off := 195) (tgt := 227) C dL_law_32 (by decide) (by decide) (by decide) (by decide) ?_
    refine z_aload C dL_law_227 rfl ?_
    refine z_aload C dL_law_228 rfl ?_
    refine z_iload C dL_law_229 rfl ?_
    refine z_iconst (v := 1) C dL_law_230 (by decide) ?_
    refine z_iadd C dL_law_231 (nI_1 _) ?_
    refine z_sld C hX hbl hbA (by omega) (by omega) dL_law_232 ?_
    refine z_top eX ?_
    refine z_calli (st := []) (q := (RX0, TX0, 12)) (ci := 0) (q0 := 0) C (mX0_isLong l D hx cI cZ kd nb il ma tr ro ii (nI mk) lo le (nI r) la fr co n X hn64) 1 rfl (lw_V q161 q162 q163 q8 q164) (by decide +kernel) (by decide) rfl rfl (Nat.le_of_ble_eq_true rfl) dL_law_233 ⟨rfl, rfl⟩ (by decide) [0, 1, 2, 3, 4, 5, 6, 7, 8, 9] [10, 11, 12, 13, 14, 15] [6, 7, 8, 9, 10, 11, 12, 13, 14, 15, 0, 1, 2, 3, 4, 5] [0, 1] rfl rfl rfl rfl (by decide) rfl (fun _ => wX hx cI cZ (kd, nb, il, ma, tr, ro, ii, nI n, nI mk, lo, le, nI r, la, fr, co) ++ wM hm cJ cW (kd, nb, lg, pl, ma, nI n, nI mk, nI r, le, la)) (fun _ => rfl) rfl (fun r1 _ h1 => ?_)
    refine z_aload C dL_law_236 rfl ?_
    refine z_aload C dL_law_237 rfl ?_
    refine z_iload C dL_law_238 rfl ?_
    refine z_iconst (v := 1) C dL_law_239 (by decide) ?_
    refine z_iadd C dL_law_240 (nI_1 _) ?_
    refine z_sld C hX hbl hbA (by omega) (by omega) dL_law_241 ?_
    refine z_top eX ?_
    refine z_calli (st := [.int r1]) (q := (RX3, TX3, 10)) (ci := 3) (q0 := 0) C (mX3_isLong l D hm cJ cW kd nb lg pl ma (nI mk) (nI r) le la n X hn64) 1 rfl (lw_V q259 q260 q261 q11 q262) (by decide +kernel) (by decide) rfl rfl (Nat.le_of_ble_eq_true rfl) dL_law_242 ⟨rfl, rfl⟩ (by decide) [10, 11, 12, 13, 14, 15] [0, 1, 2, 3, 4, 5, 6, 7, 8, 9] [0, 1, 2, 3, 4, 5, 6, 7, 8, 9, 10, 11, 12, 13, 14, 15] [2, 3] rfl rfl rfl rfl (by decide) rfl (fun _ => wX hx cI cZ (kd, nb, il, ma, tr, ro, ii, nI n, nI mk, lo, le, nI r, la, fr, co) ++ wM hm cJ cW (kd, nb, lg, pl, ma, nI n, nI mk, nI r, le, la)) (fun _ => rfl) rfl (fun r2 _ h2 => ?_)
    have hs : r1 = r2 ∧ InvL (j + 1) (kd, nb, il, ma, tr, ro, ii, nI n, nI mk, lo, le, nI r, la, fr, co) (kd, nb, lg, pl, ma, nI n, nI mk, nI r, le, la) := by
      refine ⟨?_, hIs⟩
      rcases h1 with ⟨b1, e1⟩ | ⟨g1, k, hk, ek, e1⟩
      · rcases h2 with ⟨-, e2⟩ | ⟨g2, -⟩
        · rw [e1, e2]
        · exact absurd b1 g2
      · rcases h2 with ⟨b2, -⟩ | ⟨-, k2, hk2, ek2, e2⟩
        · exact absurd b2 g1
        · obtain rfl : k = k2 := (nI_eq (by omega) (by omega)).mp (ek.symm.trans ek2)
          rcases hla with q | ⟨-, hlx, hlm⟩
          · exact absurd (Or.inl q) g1
          · have i1 := hlx.1 k hk
            have i2 := hlm.1 k hk
            cases hb : LF n r kd nb ma k with
            | true =>
              rw [hb] at i1 i2
              rw [i1, if_neg (by decide)] at e1
              rcases e2 with ⟨q, -⟩ | ⟨-, q⟩
              · exact absurd ⟨hlx.2.2.2 k hk hb, by rw [i2]; decide⟩ q
              · rw [e1, q]
            | false =>
              rw [hb] at i1 i2
              rw [i1, if_pos (by decide)] at e1
              rcases e2 with ⟨-, q⟩ | ⟨q, -⟩
              · rw [e1, q]
              · exact absurd (by rw [i2]; rfl) q.2
    refine z_cmp_eq (tgt := 300) C dL_law_245 (by decide) (fun _ => k300 ((kd, nb, il, ma, tr, ro, ii, nI n, nI mk, lo, le, nI r, la, fr, co), (kd, nb, lg, pl, ma, nI n, nI mk, nI r, le, la)) hs.2) (fun hne => absurd hs.1 hne)
  · skip
    refine z_tblIn (off := 218) (tgt := 250) C dL_law_32 (by decide) (by decide) (by decide) (by decide) ?_
    refine z_aload C dL_law_250 rfl ?_
    refine z_calli (st := []) (q := (RX0, TX0, 12)) (ci := 0) (q0 := 0) C (mX0_longs l D hx cI cZ kd nb il ma tr ro ii (nI n) (nI mk) lo le (nI r) la fr co) 0 rfl (lw_V q165 q166 q167 q8 q168) (by decide +kernel) (by decide) rfl rfl (Nat.le_of_ble_eq_true rfl) dL_law_251 ⟨rfl, rfl⟩ (by decide) [0, 1, 2, 3, 4, 5, 6, 7, 8, 9] [10, 11, 12, 13, 14, 15] [6, 7, 8, 9, 10, 11, 12, 13, 14, 15, 0, 1, 2, 3, 4, 5] [0, 1] rfl rfl rfl rfl (by decide) rfl (fun _ => wX hx cI cZ (kd, nb, il, ma, tr, ro, ii, nI n, nI mk, lo, le, nI r, la, fr, co) ++ wM hm cJ cW (kd, nb, lg, pl, ma, nI n, nI mk, nI r, le, la)) (fun _ => rfl) rfl (fun r1 _ h1 => ?_)
    refine z_aload C dL_law_254 rfl ?_
    refine z_calli (st := [.int r1]) (q := (RX3, TX3, 10)) (ci := 3) (q0 := 0) C (mX3_longs l D hm cJ cW kd nb lg pl ma (nI mk) (nI r) le la n (LF n r kd nb ma) hn64 (fun q => hla.elim (fun z => absurd z q) (fun z => z.2.2.1))) 0 rfl (lw_V q263 q264 q265 q11 q266) (by decide +kernel) (by decide) rfl rfl (Nat.le_of_ble_eq_true rfl) dL_law_255 ⟨rfl, rfl⟩ (by decide) [10, 11, 12, 13, 14, 15] [0, 1, 2, 3, 4, 5, 6, 7, 8, 9] [0, 1, 2, 3, 4, 5, 6, 7, 8, 9, 10, 11, 12, 13, 14, 15] [2, 3] rfl rfl rfl rfl (by decide) rfl (fun _ => wX hx cI cZ (kd, nb, il, ma, tr, ro, ii, nI n, nI mk, lo, le, nI r, la, fr, co) ++ wM hm cJ cW (kd, nb, lg, pl, ma, nI n, nI mk, nI r, le, la)) (fun _ => rfl) rfl (fun r2 _ h2 => ?_)
    have hs : r1 = r2 ∧ InvL (j + 1) (kd, nb, il, ma, tr, ro, ii, nI n, nI mk, lo, le, nI r, la, fr, co) (kd, nb, lg, pl, ma, nI n, nI mk, nI r, le, la) := by
      refine ⟨?_, hIs⟩
      rcases h1 with ⟨b1, e1⟩ | ⟨g1, e1⟩
      · rcases h2 with ⟨-, e2⟩ | ⟨g2, -⟩
        · rw [e1, e2]
        · exact absurd b1 g2
      · rcases h2 with ⟨b2, -⟩ | ⟨-, e2⟩
        · exact absurd b2 g1
        · rcases hla with q | ⟨-, hlx, hlm⟩
          · exact absurd q g1
          · rw [e1, e2, hlx.2.2.1]
    refine z_cmp_eq (tgt := 300) C dL_law_258 (by decide) (fun _ => k300 ((kd, nb, il, ma, tr, ro, ii, nI n, nI mk, lo, le, nI r, la, fr, co), (kd, nb, lg, pl, ma, nI n, nI mk, nI r, le, la)) hs.2) (fun hne => absurd hs.1 hne)
  · skip
    refine z_tblIn (off := 231) (tgt := 263) C dL_law_32 (by decide) (by decide) (by decide) (by decide) ?_
    refine z_aload C dL_law_263 rfl ?_
    refine z_callv (st := []) (q := (RX0, TX0, 12)) (ci := 0) (q0 := 0) C (mX0_clear l D hx cI cZ kd nb il ma tr ro ii (nI n) (nI mk) lo le (nI r) la fr co) 0 rfl (lw_V q169 q170 q171 q8 q172) (by decide +kernel) (by decide) rfl rfl (Nat.le_of_ble_eq_true rfl) dL_law_264 ⟨rfl, rfl⟩ (by decide) [0, 1, 2, 3, 4, 5, 6, 7, 8, 9] [10, 11, 12, 13, 14, 15] [6, 7, 8, 9, 10, 11, 12, 13, 14, 15, 0, 1, 2, 3, 4, 5] [0, 1] rfl rfl rfl rfl (by decide) rfl (fun _ => wX hx cI cZ (kd, nb, il, ma, tr, ro, ii, 0, 0, lo, le, nI r, 0, fr, co) ++ wM hm cJ cW (kd, nb, lg, pl, ma, nI n, nI mk, nI r, le, la)) (fun _ => rfl) rfl (fun _ h1 => ?_)
    refine z_aload C dL_law_267 rfl ?_
    refine z_callv (st := []) (q := (RX3, TX3, 10)) (ci := 3) (q0 := 0) C (mX3_clear l D hm cJ cW kd nb lg pl ma (nI n) (nI mk) (nI r) le la) 0 rfl (lw_V q267 q268 q269 q11 q270) (by decide +kernel) (by decide) rfl rfl (Nat.le_of_ble_eq_true rfl) dL_law_268 ⟨rfl, rfl⟩ (by decide) [10, 11, 12, 13, 14, 15] [0, 1, 2, 3, 4, 5, 6, 7, 8, 9] [0, 1, 2, 3, 4, 5, 6, 7, 8, 9, 10, 11, 12, 13, 14, 15] [2, 3] rfl rfl rfl rfl (by decide) rfl (fun _ => wX hx cI cZ (kd, nb, il, ma, tr, ro, ii, 0, 0, lo, le, nI r, 0, fr, co) ++ wM hm cJ cW (kd, nb, lg, pl, ma, 0, 0, nI r, le, 0)) (fun _ => rfl) rfl (fun _ h2 => ?_)
    refine z_goto (tgt := 300) C dL_law_271 (by decide) ?_
    have hs : InvL (j + 1) (kd, nb, il, ma, tr, ro, ii, 0, 0, lo, le, nI r, 0, fr, co) (kd, nb, lg, pl, ma, 0, 0, nI r, le, 0) := ⟨kd, nb, ma, il, tr, ro, ii, lg, pl, 0, 0, r, lo, le, 0, fr, co, rfl, rfl, ⟨by omega, by omega, hK.2.2.1, hK.2.2.2.1, fun k hk => absurd hk (Nat.not_lt_zero _), fun k hk => absurd hk (Nat.not_lt_zero _)⟩, by omega, Or.inl rfl⟩
    exact k300 ((kd, nb, il, ma, tr, ro, ii, 0, 0, lo, le, nI r, 0, fr, co), (kd, nb, lg, pl, ma, 0, 0, nI r, le, 0)) hs
  · skip
    refine z_tblIn (off := 242) (tgt := 274) C dL_law_32 (by decide) (by decide) (by decide) (by decide) ?_
    refine z_aload C dL_law_274 rfl ?_
    refine z_calli (st := []) (q := (RX0, TX0, 12)) (ci := 0) (q0 := 0) C (mX0_items l D hx cI cZ kd nb il ma tr ro ii (nI n) (nI mk) lo le (nI r) la fr co) 0 rfl (lw_V q173 q174 q175 q8 q176) (by decide +kernel) (by decide) rfl rfl (Nat.le_of_ble_eq_true rfl) dL_law_275 ⟨rfl, rfl⟩ (by decide) [0, 1, 2, 3, 4, 5, 6, 7, 8, 9] [10, 11, 12, 13, 14, 15] [6, 7, 8, 9, 10, 11, 12, 13, 14, 15, 0, 1, 2, 3, 4, 5] [0, 1] rfl rfl rfl rfl (by decide) rfl (fun _ => wX hx cI cZ (kd, nb, il, ma, tr, ro, ii, nI n, nI mk, lo, le, nI r, la, fr, co) ++ wM hm cJ cW (kd, nb, lg, pl, ma, nI n, nI mk, nI r, le, la)) (fun _ => rfl) rfl (fun r1 _ h1 => ?_)
    refine z_aload C dL_law_278 rfl ?_
    refine z_calli (st := [.int r1]) (q := (RX3, TX3, 10)) (ci := 3) (q0 := 0) C (mX3_items l D hm cJ cW kd nb lg pl ma (nI n) (nI mk) (nI r) le la) 0 rfl (lw_V q271 q272 q273 q11 q274) (by decide +kernel) (by decide) rfl rfl (Nat.le_of_ble_eq_true rfl) dL_law_279 ⟨rfl, rfl⟩ (by decide) [10, 11, 12, 13, 14, 15] [0, 1, 2, 3, 4, 5, 6, 7, 8, 9] [0, 1, 2, 3, 4, 5, 6, 7, 8, 9, 10, 11, 12, 13, 14, 15] [2, 3] rfl rfl rfl rfl (by decide) rfl (fun _ => wX hx cI cZ (kd, nb, il, ma, tr, ro, ii, nI n, nI mk, lo, le, nI r, la, fr, co) ++ wM hm cJ cW (kd, nb, lg, pl, ma, nI n, nI mk, nI r, le, la)) (fun _ => rfl) rfl (fun r2 _ h2 => ?_)
    have hs : r1 = r2 ∧ InvL (j + 1) (kd, nb, il, ma, tr, ro, ii, nI n, nI mk, lo, le, nI r, la, fr, co) (kd, nb, lg, pl, ma, nI n, nI mk, nI r, le, la) := by
      exact ⟨h1.trans h2.symm, hIs⟩
    refine z_cmp_eq (tgt := 300) C dL_law_282 (by decide) (fun _ => k300 ((kd, nb, il, ma, tr, ro, ii, nI n, nI mk, lo, le, nI r, la, fr, co), (kd, nb, lg, pl, ma, nI n, nI mk, nI r, le, la)) hs.2) (fun hne => absurd hs.1 hne)
  · skip
    refine z_tblIn (off := 255) (tgt := 287) C dL_law_32 (by decide) (by decide) (by decide) (by decide) ?_
    refine z_aload C dL_law_287 rfl ?_
    refine z_calli (st := []) (q := (RX0, TX0, 12)) (ci := 0) (q0 := 0) C (mX0_marks l D hx cI cZ kd nb il ma tr ro ii (nI n) (nI mk) lo le (nI r) la fr co) 0 rfl (lw_V q177 q178 q179 q8 q180) (by decide +kernel) (by decide) rfl rfl (Nat.le_of_ble_eq_true rfl) dL_law_288 ⟨rfl, rfl⟩ (by decide) [0, 1, 2, 3, 4, 5, 6, 7, 8, 9] [10, 11, 12, 13, 14, 15] [6, 7, 8, 9, 10, 11, 12, 13, 14, 15, 0, 1, 2, 3, 4, 5] [0, 1] rfl rfl rfl rfl (by decide) rfl (fun _ => wX hx cI cZ (kd, nb, il, ma, tr, ro, ii, nI n, nI mk, lo, le, nI r, la, fr, co) ++ wM hm cJ cW (kd, nb, lg, pl, ma, nI n, nI mk, nI r, le, la)) (fun _ => rfl) rfl (fun r1 _ h1 => ?_)
    refine z_aload C dL_law_291 rfl ?_
    refine z_calli (st := [.int r1]) (q := (RX3, TX3, 10)) (ci := 3) (q0 := 0) C (mX3_marks l D hm cJ cW kd nb lg pl ma (nI n) (nI mk) (nI r) le la) 0 rfl (lw_V q275 q276 q277 q11 q278) (by decide +kernel) (by decide) rfl rfl (Nat.le_of_ble_eq_true rfl) dL_law_292 ⟨rfl, rfl⟩ (by decide) [10, 11, 12, 13, 14, 15] [0, 1, 2, 3, 4, 5, 6, 7, 8, 9] [0, 1, 2, 3, 4, 5, 6, 7, 8, 9, 10, 11, 12, 13, 14, 15] [2, 3] rfl rfl rfl rfl (by decide) rfl (fun _ => wX hx cI cZ (kd, nb, il, ma, tr, ro, ii, nI n, nI mk, lo, le, nI r, la, fr, co) ++ wM hm cJ cW (kd, nb, lg, pl, ma, nI n, nI mk, nI r, le, la)) (fun _ => rfl) rfl (fun r2 _ h2 => ?_)
    have hs : r1 = r2 ∧ InvL (j + 1) (kd, nb, il, ma, tr, ro, ii, nI n, nI mk, lo, le, nI r, la, fr, co) (kd, nb, lg, pl, ma, nI n, nI mk, nI r, le, la) := by
      exact ⟨h1.trans h2.symm, hIs⟩
    refine z_cmp_eq (tgt := 300) C dL_law_295 (by decide) (fun _ => k300 ((kd, nb, il, ma, tr, ro, ii, nI n, nI mk, lo, le, nI r, la, fr, co), (kd, nb, lg, pl, ma, nI n, nI mk, nI r, le, la)) hs.2) (fun hne => absurd hs.1 hne)
  · refine z_tblOut (tgt := 300) C dL_law_32 (by decide) (by decide) ?_
    exact k300 ((kd, nb, il, ma, tr, ro, ii, nI n, nI mk, lo, le, nI r, la, fr, co), (kd, nb, lg, pl, ma, nI n, nI mk, nI r, le, la)) hIs
  · refine z_tblOut (tgt := 300) C dL_law_32 (by decide) (by decide) ?_
    exact k300 ((kd, nb, il, ma, tr, ro, ii, nI n, nI mk, lo, le, nI r, la, fr, co), (kd, nb, lg, pl, ma, nI n, nI mk, nI r, le, la)) hIs
  · refine z_tblOut (tgt := 300) C dL_law_32 (by decide) (by decide) ?_
    exact k300 ((kd, nb, il, ma, tr, ro, ii, nI n, nI mk, lo, le, nI r, la, fr, co), (kd, nb, lg, pl, ma, nI n, nI mk, nI r, le, la)) hIs
  · refine z_tblOut (tgt := 300) C dL_law_32 (by decide) (by decide) ?_
    exact k300 ((kd, nb, il, ma, tr, ro, ii, nI n, nI mk, lo, le, nI r, la, fr, co), (kd, nb, lg, pl, ma, nI n, nI mk, nI r, le, la)) hIs
end
section
set_option maxHeartbeats 1000000 in
set_option maxRecDepth 100000 in
/-- THE LAW, from its entry -/
theorem whole_start {p : Program} {e : Env} {s : State} {m : MethodId} {below : List Frame} {meth : Method} {c : Code} (l : Launch) {b L : Nat} {xs : Nat → Int32} (hL : L ≤ 128) (C0 : lw_At p s m meth c b L xs) : W p l e room_1 s m #[Value.ref b] below meth c s.heap [] 0 0 (lw_Z below #[Value.ref b] s) (entryFrame m ([Value.ref b] : List Value).toArray 4) := by
  obtain ⟨hx, hb, hr, hml, hown, hts0, hX, hbl, hlocks, hgv⟩ := id C0
  have hts : ∀ w ∈ lw_all, w.before #[Value.ref b] s = true := fun w h => hts0 w (lw_all_tbl h)
  obtain ⟨c0_, iS0, hKn0⟩ := u_known (C := RX0) (T := TX0) (N := 12) (n := 12) hts0 (fun w h => lw_all_tbl (in_X0 w h)) (hts0 _ (lw_all_tbl q13))
  obtain ⟨c1_, iS1, hKn1⟩ := u_known (C := RX1) (T := TX1) (N := 1) (n := 1) hts0 (fun w h => lw_all_tbl (in_X1 w h)) (hts0 _ (lw_all_tbl q21))
  obtain ⟨c2_, iS2, hKn2⟩ := u_known (C := RX2) (T := TX2) (N := 4) (n := 4) hts0 (fun w h => lw_all_tbl (in_X2 w h)) (hts0 _ (lw_all_tbl q33))
  obtain ⟨c3_, iS3, hKn3⟩ := u_known (C := RX3) (T := TX3) (N := 10) (n := 10) hts0 (fun w h => lw_all_tbl (in_X3 w h)) (hts0 _ (lw_all_tbl q182))
  obtain ⟨D, hKc⟩ : ∃ D : va_G, ∀ (k : Nat) (q : vw_C), vwCl[k]? = some q → u_Kn s q.1 q.2.1 q.2.2 (D.1 k) (D.2 k) := by
    refine ⟨(fun k => match k with | 0 => c0_ | 1 => c1_ | 2 => c2_ | _ => c3_, fun k => match k with | 0 => iS0 | 1 => iS1 | 2 => iS2 | _ => iS3), ?_⟩
    intro k q hq
    match k, hq with
    | 0, hq => cases hq; exact hKn0
    | 1, hq => cases hq; exact hKn1
    | 2, hq => cases hq; exact hKn2
    | 3, hq => cases hq; exact hKn3
    | k + 4, hq => simp [vwCl] at hq
  have hn1 : va_Nw nw1 s := va_Nw.of rfl (hts0 _ q22)
  have hn2 : va_Nw nw2 s := va_Nw.of rfl (hts0 _ q34)
  have C : ZC p s m #[Value.ref b] c cL_law 4 "BranchLengthsLaw" D [] (fun q : Nat => s.heap.size ≤ q) := ⟨⟨hx, hb, hml, hown, hts⟩, ⟨hKc, fun k q h => by simp at h⟩, fun _ h => h⟩
  have hl := lv_entry ([.ref b]) (n := 4) (Nat.le_of_ble_eq_true rfl)
  rw [lg_entry_eq]
  have hZ : Z p l e room_1 s m #[Value.ref b] below meth c D (fun q : Nat => s.heap.size ≤ q) 4 (lw_Z below #[Value.ref b] s) 0 0 [] 0 [(0, .ref b)] [] := by
    refine z_new (ci := 0) (T := TX0) (N := 12) (fs := [.null, .null, .null, .null, .null, .null, .int 0, .int 0, .int 0, .int 0, .int 0, .int 0]) C in_X0 tyX0 tyX0_ok q12 q13 q8 rfl (fun j hj => by rcases (show j = 0 ∨ j = 1 ∨ j = 2 ∨ j = 3 ∨ j = 4 ∨ j = 5 ∨ j = 6 ∨ j = 7 ∨ j = 8 ∨ j = 9 ∨ j = 10 ∨ j = 11 by omega) with rfl | rfl | rfl | rfl | rfl | rfl | rfl | rfl | rfl | rfl | rfl | rfl <;> rfl) (by decide) (by decide) dL_law_0 (fun a => ?_)
    refine z_dup C dL_law_3 rfl ?_
    refine z_callIX (st := [.ref a]) (As := []) C (mX0_init l D a) 0 rfl hn1 hn2 q16 q8 q14 q15 rfl (by decide +kernel) (by decide) (Nat.le_of_ble_eq_true rfl) dL_law_4 (by decide) [0] [] [0, 1, 2, 3, 4, 5, 6, 7, 8, 9] [] rfl rfl rfl rfl (by decide) rfl (fun u => wX u.1 u.2.1 u.2.2 (fun _ => 0, fun _ => 0, fun _ => 0, fun _ => 0, fun _ => 0, fun _ => 0, fun _ => 0, 0, 0, 0, -1, nI 1000, 0, 0, 0)) (fun _ => rfl) rfl (fun u hu C => ?_)
    obtain ⟨hx, cI, cZ⟩ := u
    dsimp only at hu C ⊢
    subst hu
    refine z_astore (lv' := [(0, .ref b), (1, .ref (hx 0))]) C dL_law_7 (by decide) rfl rfl ?_
    refine z_new (ci := 3) (T := TX3) (N := 10) (fs := [.null, .null, .null, .null, .null, .int 0, .int 0, .int 0, .int 0, .int 0]) C in_X3 tyX3 tyX3_ok q181 q182 q11 rfl (fun j hj => by rcases (show j = 0 ∨ j = 1 ∨ j = 2 ∨ j = 3 ∨ j = 4 ∨ j = 5 ∨ j = 6 ∨ j = 7 ∨ j = 8 ∨ j = 9 by omega) with rfl | rfl | rfl | rfl | rfl | rfl | rfl | rfl | rfl | rfl <;> rfl) (by decide) (by decide) dL_law_8 (fun a => ?_)
    refine z_dup C dL_law_11 rfl ?_
    refine z_callI (st := [.ref a]) (As := []) C (mX3_init l D a) 0 rfl q185 q11 q183 q184 rfl (by decide +kernel) (by decide) (Nat.le_of_ble_eq_true rfl) dL_law_12 (by decide) [10] [0, 1, 2, 3, 4, 5, 6, 7, 8, 9] [0, 1, 2, 3, 4, 5, 6, 7, 8, 9, 10, 11, 12, 13, 14, 15] [] rfl rfl rfl rfl (by decide) rfl (fun u => wX hx cI cZ (fun _ => 0, fun _ => 0, fun _ => 0, fun _ => 0, fun _ => 0, fun _ => 0, fun _ => 0, 0, 0, 0, -1, nI 1000, 0, 0, 0) ++ wM u.1 u.2.1 u.2.2 (fun _ => 0, fun _ => 0, fun _ => 0, fun _ => 0, fun _ => 0, 0, 0, nI 1000, -1, 0)) (fun _ => rfl) rfl (fun u hu C => ?_)
    obtain ⟨hm, cJ, cW⟩ := u
    dsimp only at hu C ⊢
    subst hu
    refine z_astore (lv' := [(0, .ref b), (1, .ref (hx 0)), (2, .ref (hm 0))]) C dL_law_15 (by decide) rfl rfl ?_
    refine z_iconst (v := (nI 0)) C dL_law_16 (by decide) ?_
    refine z_istore (lv' := [(0, .ref b), (1, .ref (hx 0)), (2, .ref (hm 0)), (3, .int (nI 0))]) C dL_law_17 (by decide) rfl rfl ?_
    refine z_widen (k := 16) (n := 24029) (by decide) (by decide) ?_
    exact law_loop hL C0 C _ _ ⟨_, _, _, _, _, _, _, fun _ => 0, fun _ => 0, 0, 0, 1000, _, _, 0, _, _, rfl, rfl, ⟨by omega, by omega, by omega, by omega, fun k hk => absurd hk (Nat.not_lt_zero _), fun k hk => absurd hk (Nat.not_lt_zero _)⟩, Nat.le_refl _, Or.inl rfl⟩
  exact hZ s.heap [] _ (fun k q h => by simp at h) ⟨fun i j p q h => by simp at h, fun k q h => by simp at h⟩ va_S.rf hl
set_option maxHeartbeats 4000000 in
theorem lw_walk (l : Launch) (b : Addr) (xs : List Int32) : MetFree l x (headSpec (Jvm.Cond.code x code maxLocals ret :: tables_1) room_1) (lw_P b xs) (fun _ _ _ _ _ => True) lw_Q := by
  refine MetFree.of_bodyS (code := code) (maxLocals := maxLocals) (ret := ret) (by decide) ?_ ?_
  · intro args s m h hn
    obtain ⟨meth, c, h1, h2, h3, h4, h5, h6, -, -⟩ := Cond.code_spec hn (atoms_spec (ws := Jvm.Cond.code x code maxLocals ret :: tables_1) h _ List.mem_cons_self)
    exact ⟨meth, c, h1, h2, h3, h4, h5, h6⟩
  · intro p e s m args below meth c s₁ B hml0 hP _
    obtain ⟨rfl, hx, hbd, hgv⟩ := hP
    obtain ⟨scr, harrAt, hlist, hof, hsmall⟩ := hx
    obtain ⟨hcb, hkn, -, -⟩ := State.arrayAt?_spec harrAt
    have hown : s.vm.findClass R_law = some m.cls := findClass_of_methodNamed B.named
    have hts0 : ∀ c ∈ (Jvm.Cond.code x code maxLocals ret :: tables_1), c.before #[Value.ref b] s = true := atoms_spec (ws := Jvm.Cond.code x code maxLocals ret :: tables_1) B.pre
    have hts : ∀ w ∈ lw_tbl, w.before #[Value.ref b] s = true := k2_hts_sels lw_privs (fun w hw => hts0 w (List.mem_cons_of_mem _ hw)) lw_privs_ok
    have hml : c.maxLocals = 4 := B.maxLocals_eq (hts0 _ List.mem_cons_self)
    have X₀ : Stand p l e room_1 s m #[Value.ref b] below meth c s₁ [] 0 0 := Stand.of_body B
    have hh0 : s₁.heap = s.heap := by rw [B.state]; rfl
    have hsz : scr.slots.size = xs.length := by rw [← Array.length_toList, hlist, List.length_map]
    have hval : ∀ j : Nat, j < xs.length → scr.slots[j]? = some (.int (xs.getD j 0)) := fun j hj => by
      rw [← Array.getElem?_toList, hlist]
      simp [hj]
    have hbl : b < s.heap.size := (Array.getElem?_eq_some_iff.mp hcb).1
    have hX : va_X b xs.length (fun j => xs.getD j 0) s s.heap := ⟨scr, hcb, hof, hkn, hsz, hval⟩
    have K : W p l e room_1 s m #[Value.ref b] below meth c s₁.heap [] 0 0 (lw_Z below #[Value.ref b] s) (entryFrame m ([Value.ref b] : List Value).toArray 4) := by
      rw [hh0]
      exact whole_start l hbd ⟨B.exec, B.bytes, B.returns, hml, hown, hts, hX, hbl, B.notSynchronized, hgv⟩
    obtain ⟨t, a1, o, b1, b2, b3⟩ := K s₁ rfl X₀
    exact ⟨t, o, a1, b1, b2, b3⟩
theorem lw_pre_spec {args : Array Value} {s : State} (h : (Jvm.Cond.and given_1 narrow_1).before args s = true) (hr : rest_1_c.before args s = true) : ∃ (b : Addr) (xs : List Int32), lw_P b xs args s := by
  have hs := flat_of_before _ h
  have hq := flat_of_before _ hr
  have hc : (Cond.count 1).before args s = true := hs _ (by decide +kernel)
  have harr : (Cond.arrayOf (.arg 0) .int).before args s = true := hs _ (by decide +kernel)
  have hle : (Cond.le (.length (.arg 0)) (.int 128)).before args s = true := hs _ (by decide +kernel)
  have hlen : (Cond.isInt (.length (.arg 0))).before args s = true := hq _ (by decide +kernel)
  have hall : (Cond.all (.arg 0) (.isInt (.elem (.arg 0) (.index 0)))).before args s = true := hq _ (by decide +kernel)
  obtain ⟨b, xs, hb, hx⟩ := State.ints_of_pre rfl harr hlen hall
  have hsm : xs.length < 2 ^ 31 := hx.choose_spec.2.2.2
  have hev : (Term.length (.arg 0)).eval args s none [] s = some (.int xs.length.toInt32) := hx.length_eval hb
  have hv := Cond.le_ints hev (show (Term.int 128).eval args s none [] s = some (.int 128) from rfl)
  have hd : xs.length.toInt32 ≤ 128 := by
    simpa [Cond.before, Cond.holds, hv] using hle
  have hN : xs.length ≤ 128 := (Int32.ofNat_le_ofNat hsm (by decide)).mp (show Int32.ofNat xs.length ≤ Int32.ofNat 128 from hd)
  exact ⟨b, xs, Cond.one_arg hc (show args[0]? = some (.ref b) from hb), hx, hN, h⟩
theorem lw_comes (l : Launch) : Comes l x (Jvm.Cond.code x code maxLocals ret :: tables_1) room_1 (fun tb e args s => Calls_1 tb e args s ∧ rest_1 tb e args s ∧ Pre_1 tb e args s)
    (fun _ _ args s o t => lw_Q args s o t) := by
  intro p e ha hc hk s m args below hf hfit hheap happ hpre
  obtain ⟨b, xs, hP⟩ := lw_pre_spec hpre.2.2 hpre.2.1
  obtain ⟨k, o, h1, h2, h3, hQ⟩ := lw_walk l b xs p e ha hc hk s m args below hf ((Spec.applies_iff_loose hf).mp happ).1 hP trivial
  exact ⟨k, o, h1, h2, h3, hQ⟩
theorem lw_frame {s t : State} {o : Outcome} {args : Array Value} (h : Framed s o t [] 600000 7290000) :
    Framed s o t (fieldLocs frame_1_writes args s ++ arrayLocs frame_1_arrays args s ++ staticLocs frame_1_statics s) 600000 7290000 := h
theorem lw_limb (L : Cond) (hL : ∀ (args : Array Value) (s t : State), L.after args s (.returned (some (.int 1))) t = true) :
    ArmFor flags0 classFile x code maxLocals ret World_1 tables_1 room_1 Calls_1 rest_1 Pre_1
      (fun tb e a s o t => postC L tb e a s o t ∧ Framed s o t (fieldLocs frame_1_writes a s ++ arrayLocs frame_1_arrays a s ++ staticLocs frame_1_statics s) 600000 7290000) := by
  intro l _ _ _ p e ha hc hk s m args below hf hfit hheap happ hpre
  obtain ⟨k, o, h1, h2, h3, rfl, hF⟩ := lw_comes l p e ha hc hk s m args below hf hfit hheap happ hpre
  exact ⟨k, _, h1, h2, h3, hL args s _, lw_frame hF⟩
theorem i_vc : Claimed_1_1 ∧ Claimed_1_2 := ⟨lw_limb limb_1_1 (fun args s t => by simp [limb_1_1, Cond.after, Cond.holds, Cond.value]), lw_limb limb_1_2 (fun args s t => Cond.after_iff.mpr (by
  first | (rw [show limb_1_2 = Cond.eq .result (.int 1) from rfl, Cond.eq_ints (x := 1) (y := 1) rfl rfl]; simp; done) | (simp [limb_1_2, Cond.value, Term.eval]; done)))⟩
end
